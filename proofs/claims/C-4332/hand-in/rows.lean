section
/-! pure rows to paste: stores, nI and lN arithmetic, masks, shifts, narrowing, branches by naturals (pk_le, pk_lt, pk_eq), loops (lp1 .. lp16: the measure of the state; rp1 ..: recursion), negatives. Take what you need -/
theorem pk_us {f : Nat → Int32} {k : Nat} {x : Int32} : upd f k x k = x := if_pos rfl
theorem pk_un {f : Nat → Int32} {k j : Nat} {x : Int32} (h : j ≠ k) : upd f k x j = f j := if_neg h
theorem pk_uLs {f : Nat → Int64} {k : Nat} {x : Int64} : vp_updL f k x k = x := if_pos rfl
theorem pk_uLn {f : Nat → Int64} {k j : Nat} {x : Int64} (h : j ≠ k) : vp_updL f k x j = f j := if_neg h
theorem pk_sub {a b : Nat} (h : b ≤ a) : nI a - nI b = nI (a - b) := by
  obtain ⟨c, rfl⟩ : ∃ c, a = c + b := ⟨a - b, by omega⟩
  rw [← nI_add, Int32.add_sub_cancel, Nat.add_sub_cancel]
theorem pk_m1 (n : Nat) : nI (n + 1) + (-1) = nI n := by
  rw [← nI_1, Int32.add_assoc, show (1 : Int32) + (-1) = 0 from rfl, Int32.add_zero]
theorem pk_mul (a b : Nat) : nI a * nI b = nI (a * b) := (Int32.ofNat_mul a b).symm
theorem pk_div {a d : Nat} (ha : a < 2 ^ 31) (h0 : 0 < d) (hd : d < 2 ^ 31) : nI a / nI d = nI (a / d) := by
  apply Int32.toInt_inj.mp
  rw [lg_idiv_nonneg (by rw [nI_toInt ha]; omega) (by rw [nI_toInt hd]; omega), nI_toInt ha, nI_toInt hd, nI_toInt (Nat.lt_of_le_of_lt (Nat.div_le_self a d) ha)]
  first | rfl | exact (Int.natCast_ediv _ _).symm
theorem pk_rem {a d : Nat} (ha : a < 2 ^ 31) (h0 : 0 < d) (hd : d < 2 ^ 31) : nI a - nI a / nI d * nI d = nI (a % d) := by
  rw [pk_div ha h0 hd, pk_mul, pk_sub (Nat.div_mul_le_self a d)]
  exact congrArg nI (by have := Nat.div_add_mod' a d; omega)
theorem pk_sub_toInt {a b : Nat} (ha : a < 2 ^ 30) (hb : b < 2 ^ 30) : (nI a - nI b).toInt = (a : Int) - b := by
  rw [Int32.toInt_sub, nI_toInt (by omega), nI_toInt (by omega)]
  exact Int.bmod_eq_of_le (by omega) (by omega)
theorem pk_sneg {a b : Nat} (hb : b < 2 ^ 30) (h : a < b) : nI a - nI b < 0 := by
  rw [Int32.lt_iff_toInt_lt, pk_sub_toInt (by omega) hb, show (0 : Int32).toInt = 0 from by decide]
  omega
theorem pk_ix (x : Int32) {n : Nat} (hn : n < 2 ^ 31) : x < 0 ∨ nI n ≤ x ∨ ∃ j : Nat, j < n ∧ x = nI j := by
  by_cases h : x < 0
  · exact Or.inl h
  · obtain ⟨j, hj, rfl⟩ := nI_of h
    by_cases h2 : j < n
    · exact Or.inr (Or.inr ⟨j, h2, rfl⟩)
    · exact Or.inr (Or.inl (nI_le (by omega) hj))
theorem pk_le {x y : Int32} {A B : Prop} (a b : Nat) (f : a ≤ b → A) (g : b < a → B) (hx : x = nI a := by rfl) (hy : y = nI b := by rfl) (ha : a < 2 ^ 31 := by omega) (hb : b < 2 ^ 31 := by omega) : (x ≤ y → A) ∧ (¬ x ≤ y → B) := by
  subst hx hy
  rw [nI_leI ha hb]
  exact ⟨f, fun z => g (by omega)⟩
theorem pk_lt {x y : Int32} {A B : Prop} (a b : Nat) (f : a < b → A) (g : b ≤ a → B) (hx : x = nI a := by rfl) (hy : y = nI b := by rfl) (ha : a < 2 ^ 31 := by omega) (hb : b < 2 ^ 31 := by omega) : (x < y → A) ∧ (¬ x < y → B) := by
  subst hx hy
  rw [nI_ltI ha hb]
  exact ⟨f, fun z => g (by omega)⟩
theorem pk_eq {x y : Int32} {A B : Prop} (a b : Nat) (f : a = b → A) (g : a ≠ b → B) (hx : x = nI a := by rfl) (hy : y = nI b := by rfl) (ha : a < 2 ^ 31 := by omega) (hb : b < 2 ^ 31 := by omega) : (x = y → A) ∧ (¬ x = y → B) := by
  subst hx hy
  rw [nI_eq ha hb]
  exact ⟨f, g⟩
theorem pk_in {x : Int32} (n N : Nat) (h : n < N) (hx : x = nI n := by rfl) (hN : N < 2 ^ 31 := by omega) : vp_in x N := by
  subst hx
  exact vp_in_nI h hN
theorem pk_cl {x : Int32} (n : Nat) (hx : x = nI n := by rfl) (h : n < 2 ^ 31 := by omega) : x.toNatClampNeg = n := by
  subst hx
  exact nI_clamp h
theorem pk_tn {n : Nat} (h : n < 2 ^ 32) : (nI n).toBitVec.toNat = n := Nat.mod_eq_of_lt h
theorem pk_and (x : Int32) {m : Int32} (k : Nat) (hm : m.toBitVec.toNat = 2 ^ k - 1) : x &&& m = nI (x.toBitVec.toNat % 2 ^ k) := by
  apply Int32.toBitVec_inj.mp
  apply BitVec.eq_of_toNat_eq
  rw [Int32.toBitVec_and, BitVec.toNat_and, hm, Nat.and_two_pow_sub_one_eq_mod]
  show _ = (BitVec.ofNat 32 _).toNat
  rw [BitVec.toNat_ofNat]
  exact (Nat.mod_eq_of_lt (Nat.lt_of_le_of_lt (Nat.mod_le _ _) x.toBitVec.isLt)).symm
theorem pk_andN {n : Nat} (h : n < 2 ^ 32) {m : Int32} (k : Nat) (hm : m.toBitVec.toNat = 2 ^ k - 1) : nI n &&& m = nI (n % 2 ^ k) := by
  rw [pk_and _ k hm, pk_tn h]
theorem pk_andE (x : Int32) {m : Int32} (k : Nat) (hm : m.toBitVec.toNat = 2 ^ k - 1) : ∃ j : Nat, j < 2 ^ k ∧ x &&& m = nI j := ⟨_, Nat.mod_lt _ (Nat.two_pow_pos k), pk_and x k hm⟩
theorem pk_andIn (x : Int32) {m : Int32} (k : Nat) (hm : m.toBitVec.toNat = 2 ^ k - 1) (hk : k ≤ 30) : vp_in (x &&& m) (2 ^ k) := by
  obtain ⟨j, hj, e⟩ := pk_andE x k hm
  rw [e]
  exact vp_in_nI hj (Nat.lt_of_le_of_lt (Nat.pow_le_pow_right (by decide) hk) (by decide))
theorem pk_shl (a s : Int32) (k : Nat) (hs : (s.toBitVec.smod 32).toNat = k) : (a <<< s).toBitVec.toNat = a.toBitVec.toNat * 2 ^ k % 2 ^ 32 := by
  show (a.toBitVec <<< (s.toBitVec.smod 32).toNat).toNat = _
  rw [hs, BitVec.toNat_shiftLeft, Nat.shiftLeft_eq]
theorem pk_shlN {n : Nat} (s : Int32) (k : Nat) (hs : (s.toBitVec.smod 32).toNat = k) (h : n * 2 ^ k < 2 ^ 32) : nI n <<< s = nI (n * 2 ^ k) := by
  apply Int32.toBitVec_inj.mp
  apply BitVec.eq_of_toNat_eq
  have hn : n < 2 ^ 32 := Nat.lt_of_le_of_lt (Nat.le_mul_of_pos_right n (Nat.two_pow_pos k)) h
  rw [pk_shl _ _ k hs, pk_tn hn, pk_tn h, Nat.mod_eq_of_lt h]
theorem pk_shr (a s : Int32) (k : Nat) (hs : (s.toBitVec.smod 32).toNat = k) : (a >>> s).toInt = a.toInt >>> k := by
  show (a.toBitVec.sshiftRight (s.toBitVec.smod 32).toNat).toInt = _
  rw [hs, BitVec.toInt_sshiftRight]
  rfl
theorem pk_shrN {n : Nat} (h : n < 2 ^ 31) (s : Int32) (k : Nat) (hs : (s.toBitVec.smod 32).toNat = k) : nI n >>> s = nI (n / 2 ^ k) := by
  apply Int32.toInt_inj.mp
  have h2 : n / 2 ^ k ≤ n := Nat.div_le_self _ _
  rw [pk_shr _ _ k hs, nI_toInt h, nI_toInt (by omega), Int.shiftRight_eq_div_pow]
  rfl
theorem pk_ushr (x s : Int32) (k : Nat) (hs : ((s.toUInt32 &&& Int32.toUInt32 31).toBitVec % 32).toNat = k) : (x.toUInt32 >>> (s.toUInt32 &&& Int32.toUInt32 31)).toInt32.toBitVec.toNat = x.toBitVec.toNat / 2 ^ k := by
  have e : (x.toUInt32 >>> (s.toUInt32 &&& Int32.toUInt32 31)).toInt32.toBitVec = x.toBitVec >>> k := by
    rw [← hs]
    exact UInt32.toBitVec_shiftRight _ _
  rw [e, BitVec.toNat_ushiftRight, Nat.shiftRight_eq_div_pow]
theorem pk_ushrN {n : Nat} (hn : n < 2 ^ 32) (s : Int32) (k : Nat) (hs : ((s.toUInt32 &&& Int32.toUInt32 31).toBitVec % 32).toNat = k) : ((nI n).toUInt32 >>> (s.toUInt32 &&& Int32.toUInt32 31)).toInt32 = nI (n / 2 ^ k) := by
  apply Int32.toBitVec_inj.mp
  apply BitVec.eq_of_toNat_eq
  rw [pk_ushr _ s k hs, pk_tn hn, pk_tn (Nat.lt_of_le_of_lt (Nat.div_le_self _ _) hn)]
theorem pk_nb (z : Int32) : narrow .byte (.int z.toInt8.toInt32) = .int z.toInt8.toInt32 := congrArg Value.int (by simp)
theorem pk_ns (z : Int32) : narrow .short (.int z.toInt16.toInt32) = .int z.toInt16.toInt32 := congrArg Value.int (by simp)
theorem pk_fb (r : Int32) : fits .byte (.int r.toInt8.toInt32) = true := by
  have ⟨a, b⟩ := lg_i2b_range r
  have h1 : (-128 : Int32).toInt = -128 := by decide
  have h2 : (127 : Int32).toInt = 127 := by decide
  simp only [fits, Bool.and_eq_true, decide_eq_true_eq, Int32.le_iff_toInt_le, h1, h2]
  omega
theorem pk_fs (r : Int32) : fits .short (.int r.toInt16.toInt32) = true := by
  have ⟨a, b⟩ := lg_i2s_range r
  have h1 : (-32768 : Int32).toInt = -32768 := by decide
  have h2 : (32767 : Int32).toInt = 32767 := by decide
  simp only [fits, Bool.and_eq_true, decide_eq_true_eq, Int32.le_iff_toInt_le, h1, h2]
  omega
theorem pk_charN {q : Nat} (hq : q < 65536) : narrow .char (.int (nI q)) = .int (nI q) ∧ fits .char (.int (nI q)) = true := by
  constructor
  · have e : (nI q).toUInt32.toUInt16.toUInt32.toInt32 = nI q := by
      apply Int32.toBitVec_inj.mp
      apply BitVec.eq_of_toNat_eq
      show (nI q).toUInt32.toUInt16.toUInt32.toNat = q % 2 ^ 32
      rw [UInt16.toNat_toUInt32, UInt32.toNat_toUInt16, show (nI q).toUInt32.toNat = q % 2 ^ 32 from rfl]
      omega
    exact congrArg Value.int e
  · have a : (0 : Int32) ≤ nI q := nI_pos' (by omega)
    have b : nI q ≤ 65535 := nI_le (b := 65535) (by omega) (by decide)
    show (decide ((0 : Int32) ≤ nI q) && decide (nI q ≤ 65535)) = true
    rw [decide_eq_true a, decide_eq_true b]
    rfl
theorem pk_char (x : Int32) : (x.toUInt32 % 65536).toInt32 = nI (x.toBitVec.toNat % 65536) := by
  apply Int32.toBitVec_inj.mp
  apply BitVec.eq_of_toNat_eq
  rw [pk_tn (by omega)]
  show (x.toUInt32 % 65536).toNat = _
  rw [UInt32.toNat_mod]
  rfl
theorem pk_nc (x : Int32) : narrow .char (.int (x.toUInt32 % 65536).toInt32) = .int (x.toUInt32 % 65536).toInt32 := by
  rw [pk_char]
  exact (pk_charN (Nat.mod_lt _ (by decide))).1
theorem pk_fc (x : Int32) : fits .char (.int (x.toUInt32 % 65536).toInt32) = true := by
  rw [pk_char]
  exact (pk_charN (Nat.mod_lt _ (by decide))).2
theorem pk_vb (z : Int32) : vp_nar .byte z.toInt8.toInt32 = z.toInt8.toInt32 := by rw [vp_nar_byte]; simp
theorem pk_vs (z : Int32) : vp_nar .short z.toInt16.toInt32 = z.toInt16.toInt32 := by rw [vp_nar_short]; simp
theorem pk_vc (z : Int32) : vp_nar .char (z.toUInt32 % 65536).toInt32 = (z.toUInt32 % 65536).toInt32 := Value.int.inj (pk_nc z)
theorem pk_lT {n : Nat} (h : n < 2 ^ 63) : (lN n).toInt = (n : Int) := lg_ofNat_toInt h
theorem pk_lLT {a b : Nat} (ha : a < 2 ^ 63) (hb : b < 2 ^ 63) : lN a < lN b ↔ a < b := by
  rw [Int64.lt_iff_toInt_lt, pk_lT ha, pk_lT hb]; omega
theorem pk_lLE {a b : Nat} (ha : a < 2 ^ 63) (hb : b < 2 ^ 63) : lN a ≤ lN b ↔ a ≤ b := by
  rw [Int64.le_iff_toInt_le, pk_lT ha, pk_lT hb]; omega
theorem pk_lEQ {a b : Nat} (ha : a < 2 ^ 63) (hb : b < 2 ^ 63) : lN a = lN b ↔ a = b := by
  rw [← Int64.toInt_inj, pk_lT ha, pk_lT hb]; omega
theorem pk_lOf {x : Int64} (h : ¬ x < 0) : ∃ k : Nat, k < 2 ^ 63 ∧ x = lN k := by
  rw [Int64.lt_iff_toInt_lt] at h
  have h0 : (0 : Int64).toInt = 0 := by decide
  have hx := Int64.toInt_lt x
  refine ⟨x.toInt.toNat, by omega, Int64.toInt_inj.mp ?_⟩
  rw [pk_lT (by omega)]
  omega
theorem pk_lDiv {a b : Nat} (ha : a < 2 ^ 63) (h0 : 0 < b) (hb : b < 2 ^ 63) : lN a / lN b = lN (a / b) := by
  apply Int64.toInt_inj.mp
  rw [lg_ldiv_nonneg (by rw [pk_lT ha]; omega) (by rw [pk_lT hb]; omega), pk_lT ha, pk_lT hb, pk_lT (Nat.lt_of_le_of_lt (Nat.div_le_self a b) ha)]
  rfl
theorem pk_lRem {a b : Nat} (ha : a < 2 ^ 63) (h0 : 0 < b) (hb : b < 2 ^ 63) : lN a - lN a / lN b * lN b = lN (a % b) := by
  rw [pk_lDiv ha h0 hb, lN_mul, lN_sub (Nat.div_mul_le_self a b)]
  exact congrArg lN (by have := Nat.div_add_mod' a b; omega)
theorem pk_loop {σ : Type} (W : Nat → Nat → σ → Prop) (I : Nat → σ → Prop) (e i0 : Nat) (s : σ) (hi : i0 ≤ e) (h0 : I i0 s) (hx : ∀ n s, I e s → W (n + 1) e s)
    (hs : ∀ n i s, i < e → I i s → (∀ s', I (i + 1) s' → W n (i + 1) s') → W (n + 1) i s) : ∃ n, W n i0 s :=
  ⟨e + 1, loop_i W I e hx hs (e + 1) i0 s hi (by omega) h0⟩
theorem pk_loopD {σ : Type} (W : Nat → Nat → σ → Prop) (I : Nat → σ → Prop) (hx : ∀ n s, I 0 s → W (n + 1) 0 s)
    (hs : ∀ n i s, I (i + 1) s → (∀ s', I i s' → W n i s') → W (n + 1) (i + 1) s) : ∀ (e : Nat) (s : σ), I e s → W (e + 1) e s := by
  intro e
  induction e with
  | zero => exact fun s h => hx 0 s h
  | succ e ih => exact fun s h => hs (e + 1) e s h (fun s' h' => ih s' h')
theorem lp1 {A1 : Type} (W : Nat → A1 → Prop) (I : A1 → Prop) (μ : A1 → Nat) (hs : ∀ (n : Nat) (a1 : A1), I a1 → (∀ (b1 : A1), I b1 → μ b1 < μ a1 → W n b1) → W (n + 1) a1) (a1 : A1) (h : I a1) : ∃ n, W n a1 :=
  loop_m (σ := A1) (fun n s => W n s) (fun s => I s) (fun s => μ s) (fun n s hI hk => hs n s hI (fun b1 h9 hm => hk b1 h9 hm)) a1 h
theorem lp2 {A1 A2 : Type} (W : Nat → A1 → A2 → Prop) (I : A1 → A2 → Prop) (μ : A1 → A2 → Nat) (hs : ∀ (n : Nat) (a1 : A1) (a2 : A2), I a1 a2 → (∀ (b1 : A1) (b2 : A2), I b1 b2 → μ b1 b2 < μ a1 a2 → W n b1 b2) → W (n + 1) a1 a2) (a1 : A1) (a2 : A2) (h : I a1 a2) : ∃ n, W n a1 a2 :=
  loop_m (σ := A1 × A2) (fun n s => W n s.1 s.2) (fun s => I s.1 s.2) (fun s => μ s.1 s.2) (fun n s hI hk => hs n s.1 s.2 hI (fun b1 b2 h9 hm => hk (b1, b2) h9 hm)) (a1, a2) h
theorem lp3 {A1 A2 A3 : Type} (W : Nat → A1 → A2 → A3 → Prop) (I : A1 → A2 → A3 → Prop) (μ : A1 → A2 → A3 → Nat) (hs : ∀ (n : Nat) (a1 : A1) (a2 : A2) (a3 : A3), I a1 a2 a3 → (∀ (b1 : A1) (b2 : A2) (b3 : A3), I b1 b2 b3 → μ b1 b2 b3 < μ a1 a2 a3 → W n b1 b2 b3) → W (n + 1) a1 a2 a3) (a1 : A1) (a2 : A2) (a3 : A3) (h : I a1 a2 a3) : ∃ n, W n a1 a2 a3 :=
  loop_m (σ := A1 × A2 × A3) (fun n s => W n s.1 s.2.1 s.2.2) (fun s => I s.1 s.2.1 s.2.2) (fun s => μ s.1 s.2.1 s.2.2) (fun n s hI hk => hs n s.1 s.2.1 s.2.2 hI (fun b1 b2 b3 h9 hm => hk (b1, b2, b3) h9 hm)) (a1, a2, a3) h
theorem lp4 {A1 A2 A3 A4 : Type} (W : Nat → A1 → A2 → A3 → A4 → Prop) (I : A1 → A2 → A3 → A4 → Prop) (μ : A1 → A2 → A3 → A4 → Nat) (hs : ∀ (n : Nat) (a1 : A1) (a2 : A2) (a3 : A3) (a4 : A4), I a1 a2 a3 a4 → (∀ (b1 : A1) (b2 : A2) (b3 : A3) (b4 : A4), I b1 b2 b3 b4 → μ b1 b2 b3 b4 < μ a1 a2 a3 a4 → W n b1 b2 b3 b4) → W (n + 1) a1 a2 a3 a4) (a1 : A1) (a2 : A2) (a3 : A3) (a4 : A4) (h : I a1 a2 a3 a4) : ∃ n, W n a1 a2 a3 a4 :=
  loop_m (σ := A1 × A2 × A3 × A4) (fun n s => W n s.1 s.2.1 s.2.2.1 s.2.2.2) (fun s => I s.1 s.2.1 s.2.2.1 s.2.2.2) (fun s => μ s.1 s.2.1 s.2.2.1 s.2.2.2) (fun n s hI hk => hs n s.1 s.2.1 s.2.2.1 s.2.2.2 hI (fun b1 b2 b3 b4 h9 hm => hk (b1, b2, b3, b4) h9 hm)) (a1, a2, a3, a4) h
theorem lp5 {A1 A2 A3 A4 A5 : Type} (W : Nat → A1 → A2 → A3 → A4 → A5 → Prop) (I : A1 → A2 → A3 → A4 → A5 → Prop) (μ : A1 → A2 → A3 → A4 → A5 → Nat) (hs : ∀ (n : Nat) (a1 : A1) (a2 : A2) (a3 : A3) (a4 : A4) (a5 : A5), I a1 a2 a3 a4 a5 → (∀ (b1 : A1) (b2 : A2) (b3 : A3) (b4 : A4) (b5 : A5), I b1 b2 b3 b4 b5 → μ b1 b2 b3 b4 b5 < μ a1 a2 a3 a4 a5 → W n b1 b2 b3 b4 b5) → W (n + 1) a1 a2 a3 a4 a5) (a1 : A1) (a2 : A2) (a3 : A3) (a4 : A4) (a5 : A5) (h : I a1 a2 a3 a4 a5) : ∃ n, W n a1 a2 a3 a4 a5 :=
  loop_m (σ := A1 × A2 × A3 × A4 × A5) (fun n s => W n s.1 s.2.1 s.2.2.1 s.2.2.2.1 s.2.2.2.2) (fun s => I s.1 s.2.1 s.2.2.1 s.2.2.2.1 s.2.2.2.2) (fun s => μ s.1 s.2.1 s.2.2.1 s.2.2.2.1 s.2.2.2.2) (fun n s hI hk => hs n s.1 s.2.1 s.2.2.1 s.2.2.2.1 s.2.2.2.2 hI (fun b1 b2 b3 b4 b5 h9 hm => hk (b1, b2, b3, b4, b5) h9 hm)) (a1, a2, a3, a4, a5) h
theorem lp6 {A1 A2 A3 A4 A5 A6 : Type} (W : Nat → A1 → A2 → A3 → A4 → A5 → A6 → Prop) (I : A1 → A2 → A3 → A4 → A5 → A6 → Prop) (μ : A1 → A2 → A3 → A4 → A5 → A6 → Nat) (hs : ∀ (n : Nat) (a1 : A1) (a2 : A2) (a3 : A3) (a4 : A4) (a5 : A5) (a6 : A6), I a1 a2 a3 a4 a5 a6 → (∀ (b1 : A1) (b2 : A2) (b3 : A3) (b4 : A4) (b5 : A5) (b6 : A6), I b1 b2 b3 b4 b5 b6 → μ b1 b2 b3 b4 b5 b6 < μ a1 a2 a3 a4 a5 a6 → W n b1 b2 b3 b4 b5 b6) → W (n + 1) a1 a2 a3 a4 a5 a6) (a1 : A1) (a2 : A2) (a3 : A3) (a4 : A4) (a5 : A5) (a6 : A6) (h : I a1 a2 a3 a4 a5 a6) : ∃ n, W n a1 a2 a3 a4 a5 a6 :=
  loop_m (σ := A1 × A2 × A3 × A4 × A5 × A6) (fun n s => W n s.1 s.2.1 s.2.2.1 s.2.2.2.1 s.2.2.2.2.1 s.2.2.2.2.2) (fun s => I s.1 s.2.1 s.2.2.1 s.2.2.2.1 s.2.2.2.2.1 s.2.2.2.2.2) (fun s => μ s.1 s.2.1 s.2.2.1 s.2.2.2.1 s.2.2.2.2.1 s.2.2.2.2.2) (fun n s hI hk => hs n s.1 s.2.1 s.2.2.1 s.2.2.2.1 s.2.2.2.2.1 s.2.2.2.2.2 hI (fun b1 b2 b3 b4 b5 b6 h9 hm => hk (b1, b2, b3, b4, b5, b6) h9 hm)) (a1, a2, a3, a4, a5, a6) h
theorem lp7 {A1 A2 A3 A4 A5 A6 A7 : Type} (W : Nat → A1 → A2 → A3 → A4 → A5 → A6 → A7 → Prop) (I : A1 → A2 → A3 → A4 → A5 → A6 → A7 → Prop) (μ : A1 → A2 → A3 → A4 → A5 → A6 → A7 → Nat) (hs : ∀ (n : Nat) (a1 : A1) (a2 : A2) (a3 : A3) (a4 : A4) (a5 : A5) (a6 : A6) (a7 : A7), I a1 a2 a3 a4 a5 a6 a7 → (∀ (b1 : A1) (b2 : A2) (b3 : A3) (b4 : A4) (b5 : A5) (b6 : A6) (b7 : A7), I b1 b2 b3 b4 b5 b6 b7 → μ b1 b2 b3 b4 b5 b6 b7 < μ a1 a2 a3 a4 a5 a6 a7 → W n b1 b2 b3 b4 b5 b6 b7) → W (n + 1) a1 a2 a3 a4 a5 a6 a7) (a1 : A1) (a2 : A2) (a3 : A3) (a4 : A4) (a5 : A5) (a6 : A6) (a7 : A7) (h : I a1 a2 a3 a4 a5 a6 a7) : ∃ n, W n a1 a2 a3 a4 a5 a6 a7 :=
  loop_m (σ := A1 × A2 × A3 × A4 × A5 × A6 × A7) (fun n s => W n s.1 s.2.1 s.2.2.1 s.2.2.2.1 s.2.2.2.2.1 s.2.2.2.2.2.1 s.2.2.2.2.2.2) (fun s => I s.1 s.2.1 s.2.2.1 s.2.2.2.1 s.2.2.2.2.1 s.2.2.2.2.2.1 s.2.2.2.2.2.2) (fun s => μ s.1 s.2.1 s.2.2.1 s.2.2.2.1 s.2.2.2.2.1 s.2.2.2.2.2.1 s.2.2.2.2.2.2) (fun n s hI hk => hs n s.1 s.2.1 s.2.2.1 s.2.2.2.1 s.2.2.2.2.1 s.2.2.2.2.2.1 s.2.2.2.2.2.2 hI (fun b1 b2 b3 b4 b5 b6 b7 h9 hm => hk (b1, b2, b3, b4, b5, b6, b7) h9 hm)) (a1, a2, a3, a4, a5, a6, a7) h
theorem lp8 {A1 A2 A3 A4 A5 A6 A7 A8 : Type} (W : Nat → A1 → A2 → A3 → A4 → A5 → A6 → A7 → A8 → Prop) (I : A1 → A2 → A3 → A4 → A5 → A6 → A7 → A8 → Prop) (μ : A1 → A2 → A3 → A4 → A5 → A6 → A7 → A8 → Nat) (hs : ∀ (n : Nat) (a1 : A1) (a2 : A2) (a3 : A3) (a4 : A4) (a5 : A5) (a6 : A6) (a7 : A7) (a8 : A8), I a1 a2 a3 a4 a5 a6 a7 a8 → (∀ (b1 : A1) (b2 : A2) (b3 : A3) (b4 : A4) (b5 : A5) (b6 : A6) (b7 : A7) (b8 : A8), I b1 b2 b3 b4 b5 b6 b7 b8 → μ b1 b2 b3 b4 b5 b6 b7 b8 < μ a1 a2 a3 a4 a5 a6 a7 a8 → W n b1 b2 b3 b4 b5 b6 b7 b8) → W (n + 1) a1 a2 a3 a4 a5 a6 a7 a8) (a1 : A1) (a2 : A2) (a3 : A3) (a4 : A4) (a5 : A5) (a6 : A6) (a7 : A7) (a8 : A8) (h : I a1 a2 a3 a4 a5 a6 a7 a8) : ∃ n, W n a1 a2 a3 a4 a5 a6 a7 a8 :=
  loop_m (σ := A1 × A2 × A3 × A4 × A5 × A6 × A7 × A8) (fun n s => W n s.1 s.2.1 s.2.2.1 s.2.2.2.1 s.2.2.2.2.1 s.2.2.2.2.2.1 s.2.2.2.2.2.2.1 s.2.2.2.2.2.2.2) (fun s => I s.1 s.2.1 s.2.2.1 s.2.2.2.1 s.2.2.2.2.1 s.2.2.2.2.2.1 s.2.2.2.2.2.2.1 s.2.2.2.2.2.2.2) (fun s => μ s.1 s.2.1 s.2.2.1 s.2.2.2.1 s.2.2.2.2.1 s.2.2.2.2.2.1 s.2.2.2.2.2.2.1 s.2.2.2.2.2.2.2) (fun n s hI hk => hs n s.1 s.2.1 s.2.2.1 s.2.2.2.1 s.2.2.2.2.1 s.2.2.2.2.2.1 s.2.2.2.2.2.2.1 s.2.2.2.2.2.2.2 hI (fun b1 b2 b3 b4 b5 b6 b7 b8 h9 hm => hk (b1, b2, b3, b4, b5, b6, b7, b8) h9 hm)) (a1, a2, a3, a4, a5, a6, a7, a8) h
theorem lp9 {A1 A2 A3 A4 A5 A6 A7 A8 A9 : Type} (W : Nat → A1 → A2 → A3 → A4 → A5 → A6 → A7 → A8 → A9 → Prop) (I : A1 → A2 → A3 → A4 → A5 → A6 → A7 → A8 → A9 → Prop) (μ : A1 → A2 → A3 → A4 → A5 → A6 → A7 → A8 → A9 → Nat) (hs : ∀ (n : Nat) (a1 : A1) (a2 : A2) (a3 : A3) (a4 : A4) (a5 : A5) (a6 : A6) (a7 : A7) (a8 : A8) (a9 : A9), I a1 a2 a3 a4 a5 a6 a7 a8 a9 → (∀ (b1 : A1) (b2 : A2) (b3 : A3) (b4 : A4) (b5 : A5) (b6 : A6) (b7 : A7) (b8 : A8) (b9 : A9), I b1 b2 b3 b4 b5 b6 b7 b8 b9 → μ b1 b2 b3 b4 b5 b6 b7 b8 b9 < μ a1 a2 a3 a4 a5 a6 a7 a8 a9 → W n b1 b2 b3 b4 b5 b6 b7 b8 b9) → W (n + 1) a1 a2 a3 a4 a5 a6 a7 a8 a9) (a1 : A1) (a2 : A2) (a3 : A3) (a4 : A4) (a5 : A5) (a6 : A6) (a7 : A7) (a8 : A8) (a9 : A9) (h : I a1 a2 a3 a4 a5 a6 a7 a8 a9) : ∃ n, W n a1 a2 a3 a4 a5 a6 a7 a8 a9 :=
  loop_m (σ := A1 × A2 × A3 × A4 × A5 × A6 × A7 × A8 × A9) (fun n s => W n s.1 s.2.1 s.2.2.1 s.2.2.2.1 s.2.2.2.2.1 s.2.2.2.2.2.1 s.2.2.2.2.2.2.1 s.2.2.2.2.2.2.2.1 s.2.2.2.2.2.2.2.2) (fun s => I s.1 s.2.1 s.2.2.1 s.2.2.2.1 s.2.2.2.2.1 s.2.2.2.2.2.1 s.2.2.2.2.2.2.1 s.2.2.2.2.2.2.2.1 s.2.2.2.2.2.2.2.2) (fun s => μ s.1 s.2.1 s.2.2.1 s.2.2.2.1 s.2.2.2.2.1 s.2.2.2.2.2.1 s.2.2.2.2.2.2.1 s.2.2.2.2.2.2.2.1 s.2.2.2.2.2.2.2.2) (fun n s hI hk => hs n s.1 s.2.1 s.2.2.1 s.2.2.2.1 s.2.2.2.2.1 s.2.2.2.2.2.1 s.2.2.2.2.2.2.1 s.2.2.2.2.2.2.2.1 s.2.2.2.2.2.2.2.2 hI (fun b1 b2 b3 b4 b5 b6 b7 b8 b9 h9 hm => hk (b1, b2, b3, b4, b5, b6, b7, b8, b9) h9 hm)) (a1, a2, a3, a4, a5, a6, a7, a8, a9) h
theorem lp10 {A1 A2 A3 A4 A5 A6 A7 A8 A9 A10 : Type} (W : Nat → A1 → A2 → A3 → A4 → A5 → A6 → A7 → A8 → A9 → A10 → Prop) (I : A1 → A2 → A3 → A4 → A5 → A6 → A7 → A8 → A9 → A10 → Prop) (μ : A1 → A2 → A3 → A4 → A5 → A6 → A7 → A8 → A9 → A10 → Nat) (hs : ∀ (n : Nat) (a1 : A1) (a2 : A2) (a3 : A3) (a4 : A4) (a5 : A5) (a6 : A6) (a7 : A7) (a8 : A8) (a9 : A9) (a10 : A10), I a1 a2 a3 a4 a5 a6 a7 a8 a9 a10 → (∀ (b1 : A1) (b2 : A2) (b3 : A3) (b4 : A4) (b5 : A5) (b6 : A6) (b7 : A7) (b8 : A8) (b9 : A9) (b10 : A10), I b1 b2 b3 b4 b5 b6 b7 b8 b9 b10 → μ b1 b2 b3 b4 b5 b6 b7 b8 b9 b10 < μ a1 a2 a3 a4 a5 a6 a7 a8 a9 a10 → W n b1 b2 b3 b4 b5 b6 b7 b8 b9 b10) → W (n + 1) a1 a2 a3 a4 a5 a6 a7 a8 a9 a10) (a1 : A1) (a2 : A2) (a3 : A3) (a4 : A4) (a5 : A5) (a6 : A6) (a7 : A7) (a8 : A8) (a9 : A9) (a10 : A10) (h : I a1 a2 a3 a4 a5 a6 a7 a8 a9 a10) : ∃ n, W n a1 a2 a3 a4 a5 a6 a7 a8 a9 a10 :=
  loop_m (σ := A1 × A2 × A3 × A4 × A5 × A6 × A7 × A8 × A9 × A10) (fun n s => W n s.1 s.2.1 s.2.2.1 s.2.2.2.1 s.2.2.2.2.1 s.2.2.2.2.2.1 s.2.2.2.2.2.2.1 s.2.2.2.2.2.2.2.1 s.2.2.2.2.2.2.2.2.1 s.2.2.2.2.2.2.2.2.2) (fun s => I s.1 s.2.1 s.2.2.1 s.2.2.2.1 s.2.2.2.2.1 s.2.2.2.2.2.1 s.2.2.2.2.2.2.1 s.2.2.2.2.2.2.2.1 s.2.2.2.2.2.2.2.2.1 s.2.2.2.2.2.2.2.2.2) (fun s => μ s.1 s.2.1 s.2.2.1 s.2.2.2.1 s.2.2.2.2.1 s.2.2.2.2.2.1 s.2.2.2.2.2.2.1 s.2.2.2.2.2.2.2.1 s.2.2.2.2.2.2.2.2.1 s.2.2.2.2.2.2.2.2.2) (fun n s hI hk => hs n s.1 s.2.1 s.2.2.1 s.2.2.2.1 s.2.2.2.2.1 s.2.2.2.2.2.1 s.2.2.2.2.2.2.1 s.2.2.2.2.2.2.2.1 s.2.2.2.2.2.2.2.2.1 s.2.2.2.2.2.2.2.2.2 hI (fun b1 b2 b3 b4 b5 b6 b7 b8 b9 b10 h9 hm => hk (b1, b2, b3, b4, b5, b6, b7, b8, b9, b10) h9 hm)) (a1, a2, a3, a4, a5, a6, a7, a8, a9, a10) h
theorem lp11 {A1 A2 A3 A4 A5 A6 A7 A8 A9 A10 A11 : Type} (W : Nat → A1 → A2 → A3 → A4 → A5 → A6 → A7 → A8 → A9 → A10 → A11 → Prop) (I : A1 → A2 → A3 → A4 → A5 → A6 → A7 → A8 → A9 → A10 → A11 → Prop) (μ : A1 → A2 → A3 → A4 → A5 → A6 → A7 → A8 → A9 → A10 → A11 → Nat) (hs : ∀ (n : Nat) (a1 : A1) (a2 : A2) (a3 : A3) (a4 : A4) (a5 : A5) (a6 : A6) (a7 : A7) (a8 : A8) (a9 : A9) (a10 : A10) (a11 : A11), I a1 a2 a3 a4 a5 a6 a7 a8 a9 a10 a11 → (∀ (b1 : A1) (b2 : A2) (b3 : A3) (b4 : A4) (b5 : A5) (b6 : A6) (b7 : A7) (b8 : A8) (b9 : A9) (b10 : A10) (b11 : A11), I b1 b2 b3 b4 b5 b6 b7 b8 b9 b10 b11 → μ b1 b2 b3 b4 b5 b6 b7 b8 b9 b10 b11 < μ a1 a2 a3 a4 a5 a6 a7 a8 a9 a10 a11 → W n b1 b2 b3 b4 b5 b6 b7 b8 b9 b10 b11) → W (n + 1) a1 a2 a3 a4 a5 a6 a7 a8 a9 a10 a11) (a1 : A1) (a2 : A2) (a3 : A3) (a4 : A4) (a5 : A5) (a6 : A6) (a7 : A7) (a8 : A8) (a9 : A9) (a10 : A10) (a11 : A11) (h : I a1 a2 a3 a4 a5 a6 a7 a8 a9 a10 a11) : ∃ n, W n a1 a2 a3 a4 a5 a6 a7 a8 a9 a10 a11 :=
  loop_m (σ := A1 × A2 × A3 × A4 × A5 × A6 × A7 × A8 × A9 × A10 × A11) (fun n s => W n s.1 s.2.1 s.2.2.1 s.2.2.2.1 s.2.2.2.2.1 s.2.2.2.2.2.1 s.2.2.2.2.2.2.1 s.2.2.2.2.2.2.2.1 s.2.2.2.2.2.2.2.2.1 s.2.2.2.2.2.2.2.2.2.1 s.2.2.2.2.2.2.2.2.2.2) (fun s => I s.1 s.2.1 s.2.2.1 s.2.2.2.1 s.2.2.2.2.1 s.2.2.2.2.2.1 s.2.2.2.2.2.2.1 s.2.2.2.2.2.2.2.1 s.2.2.2.2.2.2.2.2.1 s.2.2.2.2.2.2.2.2.2.1 s.2.2.2.2.2.2.2.2.2.2) (fun s => μ s.1 s.2.1 s.2.2.1 s.2.2.2.1 s.2.2.2.2.1 s.2.2.2.2.2.1 s.2.2.2.2.2.2.1 s.2.2.2.2.2.2.2.1 s.2.2.2.2.2.2.2.2.1 s.2.2.2.2.2.2.2.2.2.1 s.2.2.2.2.2.2.2.2.2.2) (fun n s hI hk => hs n s.1 s.2.1 s.2.2.1 s.2.2.2.1 s.2.2.2.2.1 s.2.2.2.2.2.1 s.2.2.2.2.2.2.1 s.2.2.2.2.2.2.2.1 s.2.2.2.2.2.2.2.2.1 s.2.2.2.2.2.2.2.2.2.1 s.2.2.2.2.2.2.2.2.2.2 hI (fun b1 b2 b3 b4 b5 b6 b7 b8 b9 b10 b11 h9 hm => hk (b1, b2, b3, b4, b5, b6, b7, b8, b9, b10, b11) h9 hm)) (a1, a2, a3, a4, a5, a6, a7, a8, a9, a10, a11) h
theorem lp12 {A1 A2 A3 A4 A5 A6 A7 A8 A9 A10 A11 A12 : Type} (W : Nat → A1 → A2 → A3 → A4 → A5 → A6 → A7 → A8 → A9 → A10 → A11 → A12 → Prop) (I : A1 → A2 → A3 → A4 → A5 → A6 → A7 → A8 → A9 → A10 → A11 → A12 → Prop) (μ : A1 → A2 → A3 → A4 → A5 → A6 → A7 → A8 → A9 → A10 → A11 → A12 → Nat) (hs : ∀ (n : Nat) (a1 : A1) (a2 : A2) (a3 : A3) (a4 : A4) (a5 : A5) (a6 : A6) (a7 : A7) (a8 : A8) (a9 : A9) (a10 : A10) (a11 : A11) (a12 : A12), I a1 a2 a3 a4 a5 a6 a7 a8 a9 a10 a11 a12 → (∀ (b1 : A1) (b2 : A2) (b3 : A3) (b4 : A4) (b5 : A5) (b6 : A6) (b7 : A7) (b8 : A8) (b9 : A9) (b10 : A10) (b11 : A11) (b12 : A12), I b1 b2 b3 b4 b5 b6 b7 b8 b9 b10 b11 b12 → μ b1 b2 b3 b4 b5 b6 b7 b8 b9 b10 b11 b12 < μ a1 a2 a3 a4 a5 a6 a7 a8 a9 a10 a11 a12 → W n b1 b2 b3 b4 b5 b6 b7 b8 b9 b10 b11 b12) → W (n + 1) a1 a2 a3 a4 a5 a6 a7 a8 a9 a10 a11 a12) (a1 : A1) (a2 : A2) (a3 : A3) (a4 : A4) (a5 : A5) (a6 : A6) (a7 : A7) (a8 : A8) (a9 : A9) (a10 : A10) (a11 : A11) (a12 : A12) (h : I a1 a2 a3 a4 a5 a6 a7 a8 a9 a10 a11 a12) : ∃ n, W n a1 a2 a3 a4 a5 a6 a7 a8 a9 a10 a11 a12 :=
  loop_m (σ := A1 × A2 × A3 × A4 × A5 × A6 × A7 × A8 × A9 × A10 × A11 × A12) (fun n s => W n s.1 s.2.1 s.2.2.1 s.2.2.2.1 s.2.2.2.2.1 s.2.2.2.2.2.1 s.2.2.2.2.2.2.1 s.2.2.2.2.2.2.2.1 s.2.2.2.2.2.2.2.2.1 s.2.2.2.2.2.2.2.2.2.1 s.2.2.2.2.2.2.2.2.2.2.1 s.2.2.2.2.2.2.2.2.2.2.2) (fun s => I s.1 s.2.1 s.2.2.1 s.2.2.2.1 s.2.2.2.2.1 s.2.2.2.2.2.1 s.2.2.2.2.2.2.1 s.2.2.2.2.2.2.2.1 s.2.2.2.2.2.2.2.2.1 s.2.2.2.2.2.2.2.2.2.1 s.2.2.2.2.2.2.2.2.2.2.1 s.2.2.2.2.2.2.2.2.2.2.2) (fun s => μ s.1 s.2.1 s.2.2.1 s.2.2.2.1 s.2.2.2.2.1 s.2.2.2.2.2.1 s.2.2.2.2.2.2.1 s.2.2.2.2.2.2.2.1 s.2.2.2.2.2.2.2.2.1 s.2.2.2.2.2.2.2.2.2.1 s.2.2.2.2.2.2.2.2.2.2.1 s.2.2.2.2.2.2.2.2.2.2.2) (fun n s hI hk => hs n s.1 s.2.1 s.2.2.1 s.2.2.2.1 s.2.2.2.2.1 s.2.2.2.2.2.1 s.2.2.2.2.2.2.1 s.2.2.2.2.2.2.2.1 s.2.2.2.2.2.2.2.2.1 s.2.2.2.2.2.2.2.2.2.1 s.2.2.2.2.2.2.2.2.2.2.1 s.2.2.2.2.2.2.2.2.2.2.2 hI (fun b1 b2 b3 b4 b5 b6 b7 b8 b9 b10 b11 b12 h9 hm => hk (b1, b2, b3, b4, b5, b6, b7, b8, b9, b10, b11, b12) h9 hm)) (a1, a2, a3, a4, a5, a6, a7, a8, a9, a10, a11, a12) h
theorem lp13 {A1 A2 A3 A4 A5 A6 A7 A8 A9 A10 A11 A12 A13 : Type} (W : Nat → A1 → A2 → A3 → A4 → A5 → A6 → A7 → A8 → A9 → A10 → A11 → A12 → A13 → Prop) (I : A1 → A2 → A3 → A4 → A5 → A6 → A7 → A8 → A9 → A10 → A11 → A12 → A13 → Prop) (μ : A1 → A2 → A3 → A4 → A5 → A6 → A7 → A8 → A9 → A10 → A11 → A12 → A13 → Nat) (hs : ∀ (n : Nat) (a1 : A1) (a2 : A2) (a3 : A3) (a4 : A4) (a5 : A5) (a6 : A6) (a7 : A7) (a8 : A8) (a9 : A9) (a10 : A10) (a11 : A11) (a12 : A12) (a13 : A13), I a1 a2 a3 a4 a5 a6 a7 a8 a9 a10 a11 a12 a13 → (∀ (b1 : A1) (b2 : A2) (b3 : A3) (b4 : A4) (b5 : A5) (b6 : A6) (b7 : A7) (b8 : A8) (b9 : A9) (b10 : A10) (b11 : A11) (b12 : A12) (b13 : A13), I b1 b2 b3 b4 b5 b6 b7 b8 b9 b10 b11 b12 b13 → μ b1 b2 b3 b4 b5 b6 b7 b8 b9 b10 b11 b12 b13 < μ a1 a2 a3 a4 a5 a6 a7 a8 a9 a10 a11 a12 a13 → W n b1 b2 b3 b4 b5 b6 b7 b8 b9 b10 b11 b12 b13) → W (n + 1) a1 a2 a3 a4 a5 a6 a7 a8 a9 a10 a11 a12 a13) (a1 : A1) (a2 : A2) (a3 : A3) (a4 : A4) (a5 : A5) (a6 : A6) (a7 : A7) (a8 : A8) (a9 : A9) (a10 : A10) (a11 : A11) (a12 : A12) (a13 : A13) (h : I a1 a2 a3 a4 a5 a6 a7 a8 a9 a10 a11 a12 a13) : ∃ n, W n a1 a2 a3 a4 a5 a6 a7 a8 a9 a10 a11 a12 a13 :=
  loop_m (σ := A1 × A2 × A3 × A4 × A5 × A6 × A7 × A8 × A9 × A10 × A11 × A12 × A13) (fun n s => W n s.1 s.2.1 s.2.2.1 s.2.2.2.1 s.2.2.2.2.1 s.2.2.2.2.2.1 s.2.2.2.2.2.2.1 s.2.2.2.2.2.2.2.1 s.2.2.2.2.2.2.2.2.1 s.2.2.2.2.2.2.2.2.2.1 s.2.2.2.2.2.2.2.2.2.2.1 s.2.2.2.2.2.2.2.2.2.2.2.1 s.2.2.2.2.2.2.2.2.2.2.2.2) (fun s => I s.1 s.2.1 s.2.2.1 s.2.2.2.1 s.2.2.2.2.1 s.2.2.2.2.2.1 s.2.2.2.2.2.2.1 s.2.2.2.2.2.2.2.1 s.2.2.2.2.2.2.2.2.1 s.2.2.2.2.2.2.2.2.2.1 s.2.2.2.2.2.2.2.2.2.2.1 s.2.2.2.2.2.2.2.2.2.2.2.1 s.2.2.2.2.2.2.2.2.2.2.2.2) (fun s => μ s.1 s.2.1 s.2.2.1 s.2.2.2.1 s.2.2.2.2.1 s.2.2.2.2.2.1 s.2.2.2.2.2.2.1 s.2.2.2.2.2.2.2.1 s.2.2.2.2.2.2.2.2.1 s.2.2.2.2.2.2.2.2.2.1 s.2.2.2.2.2.2.2.2.2.2.1 s.2.2.2.2.2.2.2.2.2.2.2.1 s.2.2.2.2.2.2.2.2.2.2.2.2) (fun n s hI hk => hs n s.1 s.2.1 s.2.2.1 s.2.2.2.1 s.2.2.2.2.1 s.2.2.2.2.2.1 s.2.2.2.2.2.2.1 s.2.2.2.2.2.2.2.1 s.2.2.2.2.2.2.2.2.1 s.2.2.2.2.2.2.2.2.2.1 s.2.2.2.2.2.2.2.2.2.2.1 s.2.2.2.2.2.2.2.2.2.2.2.1 s.2.2.2.2.2.2.2.2.2.2.2.2 hI (fun b1 b2 b3 b4 b5 b6 b7 b8 b9 b10 b11 b12 b13 h9 hm => hk (b1, b2, b3, b4, b5, b6, b7, b8, b9, b10, b11, b12, b13) h9 hm)) (a1, a2, a3, a4, a5, a6, a7, a8, a9, a10, a11, a12, a13) h
theorem lp14 {A1 A2 A3 A4 A5 A6 A7 A8 A9 A10 A11 A12 A13 A14 : Type} (W : Nat → A1 → A2 → A3 → A4 → A5 → A6 → A7 → A8 → A9 → A10 → A11 → A12 → A13 → A14 → Prop) (I : A1 → A2 → A3 → A4 → A5 → A6 → A7 → A8 → A9 → A10 → A11 → A12 → A13 → A14 → Prop) (μ : A1 → A2 → A3 → A4 → A5 → A6 → A7 → A8 → A9 → A10 → A11 → A12 → A13 → A14 → Nat) (hs : ∀ (n : Nat) (a1 : A1) (a2 : A2) (a3 : A3) (a4 : A4) (a5 : A5) (a6 : A6) (a7 : A7) (a8 : A8) (a9 : A9) (a10 : A10) (a11 : A11) (a12 : A12) (a13 : A13) (a14 : A14), I a1 a2 a3 a4 a5 a6 a7 a8 a9 a10 a11 a12 a13 a14 → (∀ (b1 : A1) (b2 : A2) (b3 : A3) (b4 : A4) (b5 : A5) (b6 : A6) (b7 : A7) (b8 : A8) (b9 : A9) (b10 : A10) (b11 : A11) (b12 : A12) (b13 : A13) (b14 : A14), I b1 b2 b3 b4 b5 b6 b7 b8 b9 b10 b11 b12 b13 b14 → μ b1 b2 b3 b4 b5 b6 b7 b8 b9 b10 b11 b12 b13 b14 < μ a1 a2 a3 a4 a5 a6 a7 a8 a9 a10 a11 a12 a13 a14 → W n b1 b2 b3 b4 b5 b6 b7 b8 b9 b10 b11 b12 b13 b14) → W (n + 1) a1 a2 a3 a4 a5 a6 a7 a8 a9 a10 a11 a12 a13 a14) (a1 : A1) (a2 : A2) (a3 : A3) (a4 : A4) (a5 : A5) (a6 : A6) (a7 : A7) (a8 : A8) (a9 : A9) (a10 : A10) (a11 : A11) (a12 : A12) (a13 : A13) (a14 : A14) (h : I a1 a2 a3 a4 a5 a6 a7 a8 a9 a10 a11 a12 a13 a14) : ∃ n, W n a1 a2 a3 a4 a5 a6 a7 a8 a9 a10 a11 a12 a13 a14 :=
  loop_m (σ := A1 × A2 × A3 × A4 × A5 × A6 × A7 × A8 × A9 × A10 × A11 × A12 × A13 × A14) (fun n s => W n s.1 s.2.1 s.2.2.1 s.2.2.2.1 s.2.2.2.2.1 s.2.2.2.2.2.1 s.2.2.2.2.2.2.1 s.2.2.2.2.2.2.2.1 s.2.2.2.2.2.2.2.2.1 s.2.2.2.2.2.2.2.2.2.1 s.2.2.2.2.2.2.2.2.2.2.1 s.2.2.2.2.2.2.2.2.2.2.2.1 s.2.2.2.2.2.2.2.2.2.2.2.2.1 s.2.2.2.2.2.2.2.2.2.2.2.2.2) (fun s => I s.1 s.2.1 s.2.2.1 s.2.2.2.1 s.2.2.2.2.1 s.2.2.2.2.2.1 s.2.2.2.2.2.2.1 s.2.2.2.2.2.2.2.1 s.2.2.2.2.2.2.2.2.1 s.2.2.2.2.2.2.2.2.2.1 s.2.2.2.2.2.2.2.2.2.2.1 s.2.2.2.2.2.2.2.2.2.2.2.1 s.2.2.2.2.2.2.2.2.2.2.2.2.1 s.2.2.2.2.2.2.2.2.2.2.2.2.2) (fun s => μ s.1 s.2.1 s.2.2.1 s.2.2.2.1 s.2.2.2.2.1 s.2.2.2.2.2.1 s.2.2.2.2.2.2.1 s.2.2.2.2.2.2.2.1 s.2.2.2.2.2.2.2.2.1 s.2.2.2.2.2.2.2.2.2.1 s.2.2.2.2.2.2.2.2.2.2.1 s.2.2.2.2.2.2.2.2.2.2.2.1 s.2.2.2.2.2.2.2.2.2.2.2.2.1 s.2.2.2.2.2.2.2.2.2.2.2.2.2) (fun n s hI hk => hs n s.1 s.2.1 s.2.2.1 s.2.2.2.1 s.2.2.2.2.1 s.2.2.2.2.2.1 s.2.2.2.2.2.2.1 s.2.2.2.2.2.2.2.1 s.2.2.2.2.2.2.2.2.1 s.2.2.2.2.2.2.2.2.2.1 s.2.2.2.2.2.2.2.2.2.2.1 s.2.2.2.2.2.2.2.2.2.2.2.1 s.2.2.2.2.2.2.2.2.2.2.2.2.1 s.2.2.2.2.2.2.2.2.2.2.2.2.2 hI (fun b1 b2 b3 b4 b5 b6 b7 b8 b9 b10 b11 b12 b13 b14 h9 hm => hk (b1, b2, b3, b4, b5, b6, b7, b8, b9, b10, b11, b12, b13, b14) h9 hm)) (a1, a2, a3, a4, a5, a6, a7, a8, a9, a10, a11, a12, a13, a14) h
theorem lp15 {A1 A2 A3 A4 A5 A6 A7 A8 A9 A10 A11 A12 A13 A14 A15 : Type} (W : Nat → A1 → A2 → A3 → A4 → A5 → A6 → A7 → A8 → A9 → A10 → A11 → A12 → A13 → A14 → A15 → Prop) (I : A1 → A2 → A3 → A4 → A5 → A6 → A7 → A8 → A9 → A10 → A11 → A12 → A13 → A14 → A15 → Prop) (μ : A1 → A2 → A3 → A4 → A5 → A6 → A7 → A8 → A9 → A10 → A11 → A12 → A13 → A14 → A15 → Nat) (hs : ∀ (n : Nat) (a1 : A1) (a2 : A2) (a3 : A3) (a4 : A4) (a5 : A5) (a6 : A6) (a7 : A7) (a8 : A8) (a9 : A9) (a10 : A10) (a11 : A11) (a12 : A12) (a13 : A13) (a14 : A14) (a15 : A15), I a1 a2 a3 a4 a5 a6 a7 a8 a9 a10 a11 a12 a13 a14 a15 → (∀ (b1 : A1) (b2 : A2) (b3 : A3) (b4 : A4) (b5 : A5) (b6 : A6) (b7 : A7) (b8 : A8) (b9 : A9) (b10 : A10) (b11 : A11) (b12 : A12) (b13 : A13) (b14 : A14) (b15 : A15), I b1 b2 b3 b4 b5 b6 b7 b8 b9 b10 b11 b12 b13 b14 b15 → μ b1 b2 b3 b4 b5 b6 b7 b8 b9 b10 b11 b12 b13 b14 b15 < μ a1 a2 a3 a4 a5 a6 a7 a8 a9 a10 a11 a12 a13 a14 a15 → W n b1 b2 b3 b4 b5 b6 b7 b8 b9 b10 b11 b12 b13 b14 b15) → W (n + 1) a1 a2 a3 a4 a5 a6 a7 a8 a9 a10 a11 a12 a13 a14 a15) (a1 : A1) (a2 : A2) (a3 : A3) (a4 : A4) (a5 : A5) (a6 : A6) (a7 : A7) (a8 : A8) (a9 : A9) (a10 : A10) (a11 : A11) (a12 : A12) (a13 : A13) (a14 : A14) (a15 : A15) (h : I a1 a2 a3 a4 a5 a6 a7 a8 a9 a10 a11 a12 a13 a14 a15) : ∃ n, W n a1 a2 a3 a4 a5 a6 a7 a8 a9 a10 a11 a12 a13 a14 a15 :=
  loop_m (σ := A1 × A2 × A3 × A4 × A5 × A6 × A7 × A8 × A9 × A10 × A11 × A12 × A13 × A14 × A15) (fun n s => W n s.1 s.2.1 s.2.2.1 s.2.2.2.1 s.2.2.2.2.1 s.2.2.2.2.2.1 s.2.2.2.2.2.2.1 s.2.2.2.2.2.2.2.1 s.2.2.2.2.2.2.2.2.1 s.2.2.2.2.2.2.2.2.2.1 s.2.2.2.2.2.2.2.2.2.2.1 s.2.2.2.2.2.2.2.2.2.2.2.1 s.2.2.2.2.2.2.2.2.2.2.2.2.1 s.2.2.2.2.2.2.2.2.2.2.2.2.2.1 s.2.2.2.2.2.2.2.2.2.2.2.2.2.2) (fun s => I s.1 s.2.1 s.2.2.1 s.2.2.2.1 s.2.2.2.2.1 s.2.2.2.2.2.1 s.2.2.2.2.2.2.1 s.2.2.2.2.2.2.2.1 s.2.2.2.2.2.2.2.2.1 s.2.2.2.2.2.2.2.2.2.1 s.2.2.2.2.2.2.2.2.2.2.1 s.2.2.2.2.2.2.2.2.2.2.2.1 s.2.2.2.2.2.2.2.2.2.2.2.2.1 s.2.2.2.2.2.2.2.2.2.2.2.2.2.1 s.2.2.2.2.2.2.2.2.2.2.2.2.2.2) (fun s => μ s.1 s.2.1 s.2.2.1 s.2.2.2.1 s.2.2.2.2.1 s.2.2.2.2.2.1 s.2.2.2.2.2.2.1 s.2.2.2.2.2.2.2.1 s.2.2.2.2.2.2.2.2.1 s.2.2.2.2.2.2.2.2.2.1 s.2.2.2.2.2.2.2.2.2.2.1 s.2.2.2.2.2.2.2.2.2.2.2.1 s.2.2.2.2.2.2.2.2.2.2.2.2.1 s.2.2.2.2.2.2.2.2.2.2.2.2.2.1 s.2.2.2.2.2.2.2.2.2.2.2.2.2.2) (fun n s hI hk => hs n s.1 s.2.1 s.2.2.1 s.2.2.2.1 s.2.2.2.2.1 s.2.2.2.2.2.1 s.2.2.2.2.2.2.1 s.2.2.2.2.2.2.2.1 s.2.2.2.2.2.2.2.2.1 s.2.2.2.2.2.2.2.2.2.1 s.2.2.2.2.2.2.2.2.2.2.1 s.2.2.2.2.2.2.2.2.2.2.2.1 s.2.2.2.2.2.2.2.2.2.2.2.2.1 s.2.2.2.2.2.2.2.2.2.2.2.2.2.1 s.2.2.2.2.2.2.2.2.2.2.2.2.2.2 hI (fun b1 b2 b3 b4 b5 b6 b7 b8 b9 b10 b11 b12 b13 b14 b15 h9 hm => hk (b1, b2, b3, b4, b5, b6, b7, b8, b9, b10, b11, b12, b13, b14, b15) h9 hm)) (a1, a2, a3, a4, a5, a6, a7, a8, a9, a10, a11, a12, a13, a14, a15) h
theorem lp16 {A1 A2 A3 A4 A5 A6 A7 A8 A9 A10 A11 A12 A13 A14 A15 A16 : Type} (W : Nat → A1 → A2 → A3 → A4 → A5 → A6 → A7 → A8 → A9 → A10 → A11 → A12 → A13 → A14 → A15 → A16 → Prop) (I : A1 → A2 → A3 → A4 → A5 → A6 → A7 → A8 → A9 → A10 → A11 → A12 → A13 → A14 → A15 → A16 → Prop) (μ : A1 → A2 → A3 → A4 → A5 → A6 → A7 → A8 → A9 → A10 → A11 → A12 → A13 → A14 → A15 → A16 → Nat) (hs : ∀ (n : Nat) (a1 : A1) (a2 : A2) (a3 : A3) (a4 : A4) (a5 : A5) (a6 : A6) (a7 : A7) (a8 : A8) (a9 : A9) (a10 : A10) (a11 : A11) (a12 : A12) (a13 : A13) (a14 : A14) (a15 : A15) (a16 : A16), I a1 a2 a3 a4 a5 a6 a7 a8 a9 a10 a11 a12 a13 a14 a15 a16 → (∀ (b1 : A1) (b2 : A2) (b3 : A3) (b4 : A4) (b5 : A5) (b6 : A6) (b7 : A7) (b8 : A8) (b9 : A9) (b10 : A10) (b11 : A11) (b12 : A12) (b13 : A13) (b14 : A14) (b15 : A15) (b16 : A16), I b1 b2 b3 b4 b5 b6 b7 b8 b9 b10 b11 b12 b13 b14 b15 b16 → μ b1 b2 b3 b4 b5 b6 b7 b8 b9 b10 b11 b12 b13 b14 b15 b16 < μ a1 a2 a3 a4 a5 a6 a7 a8 a9 a10 a11 a12 a13 a14 a15 a16 → W n b1 b2 b3 b4 b5 b6 b7 b8 b9 b10 b11 b12 b13 b14 b15 b16) → W (n + 1) a1 a2 a3 a4 a5 a6 a7 a8 a9 a10 a11 a12 a13 a14 a15 a16) (a1 : A1) (a2 : A2) (a3 : A3) (a4 : A4) (a5 : A5) (a6 : A6) (a7 : A7) (a8 : A8) (a9 : A9) (a10 : A10) (a11 : A11) (a12 : A12) (a13 : A13) (a14 : A14) (a15 : A15) (a16 : A16) (h : I a1 a2 a3 a4 a5 a6 a7 a8 a9 a10 a11 a12 a13 a14 a15 a16) : ∃ n, W n a1 a2 a3 a4 a5 a6 a7 a8 a9 a10 a11 a12 a13 a14 a15 a16 :=
  loop_m (σ := A1 × A2 × A3 × A4 × A5 × A6 × A7 × A8 × A9 × A10 × A11 × A12 × A13 × A14 × A15 × A16) (fun n s => W n s.1 s.2.1 s.2.2.1 s.2.2.2.1 s.2.2.2.2.1 s.2.2.2.2.2.1 s.2.2.2.2.2.2.1 s.2.2.2.2.2.2.2.1 s.2.2.2.2.2.2.2.2.1 s.2.2.2.2.2.2.2.2.2.1 s.2.2.2.2.2.2.2.2.2.2.1 s.2.2.2.2.2.2.2.2.2.2.2.1 s.2.2.2.2.2.2.2.2.2.2.2.2.1 s.2.2.2.2.2.2.2.2.2.2.2.2.2.1 s.2.2.2.2.2.2.2.2.2.2.2.2.2.2.1 s.2.2.2.2.2.2.2.2.2.2.2.2.2.2.2) (fun s => I s.1 s.2.1 s.2.2.1 s.2.2.2.1 s.2.2.2.2.1 s.2.2.2.2.2.1 s.2.2.2.2.2.2.1 s.2.2.2.2.2.2.2.1 s.2.2.2.2.2.2.2.2.1 s.2.2.2.2.2.2.2.2.2.1 s.2.2.2.2.2.2.2.2.2.2.1 s.2.2.2.2.2.2.2.2.2.2.2.1 s.2.2.2.2.2.2.2.2.2.2.2.2.1 s.2.2.2.2.2.2.2.2.2.2.2.2.2.1 s.2.2.2.2.2.2.2.2.2.2.2.2.2.2.1 s.2.2.2.2.2.2.2.2.2.2.2.2.2.2.2) (fun s => μ s.1 s.2.1 s.2.2.1 s.2.2.2.1 s.2.2.2.2.1 s.2.2.2.2.2.1 s.2.2.2.2.2.2.1 s.2.2.2.2.2.2.2.1 s.2.2.2.2.2.2.2.2.1 s.2.2.2.2.2.2.2.2.2.1 s.2.2.2.2.2.2.2.2.2.2.1 s.2.2.2.2.2.2.2.2.2.2.2.1 s.2.2.2.2.2.2.2.2.2.2.2.2.1 s.2.2.2.2.2.2.2.2.2.2.2.2.2.1 s.2.2.2.2.2.2.2.2.2.2.2.2.2.2.1 s.2.2.2.2.2.2.2.2.2.2.2.2.2.2.2) (fun n s hI hk => hs n s.1 s.2.1 s.2.2.1 s.2.2.2.1 s.2.2.2.2.1 s.2.2.2.2.2.1 s.2.2.2.2.2.2.1 s.2.2.2.2.2.2.2.1 s.2.2.2.2.2.2.2.2.1 s.2.2.2.2.2.2.2.2.2.1 s.2.2.2.2.2.2.2.2.2.2.1 s.2.2.2.2.2.2.2.2.2.2.2.1 s.2.2.2.2.2.2.2.2.2.2.2.2.1 s.2.2.2.2.2.2.2.2.2.2.2.2.2.1 s.2.2.2.2.2.2.2.2.2.2.2.2.2.2.1 s.2.2.2.2.2.2.2.2.2.2.2.2.2.2.2 hI (fun b1 b2 b3 b4 b5 b6 b7 b8 b9 b10 b11 b12 b13 b14 b15 b16 h9 hm => hk (b1, b2, b3, b4, b5, b6, b7, b8, b9, b10, b11, b12, b13, b14, b15, b16) h9 hm)) (a1, a2, a3, a4, a5, a6, a7, a8, a9, a10, a11, a12, a13, a14, a15, a16) h
theorem pk_least (P : Nat → Prop) (h : ∃ k, P k) : ∃ k, P k ∧ ∀ j, j < k → ¬ P j := by
  obtain ⟨k, hk⟩ := h
  induction k using Nat.strongRecOn with
  | ind k ih =>
    by_cases e : ∃ j, j < k ∧ P j
    · obtain ⟨j, hj, pj⟩ := e
      exact ih j hj pj
    · exact ⟨k, hk, fun j hj pj => e ⟨j, hj, pj⟩⟩
theorem rp1 {ρ A1 : Type} (W : Nat → (ρ → Prop) → A1 → Prop) (ok : A1 → Prop) (μ : A1 → Nat) (val : A1 → ρ)
    (hs : ∀ (d : Nat) (post : ρ → Prop) (a1 : A1), ok a1 → post (val a1) → (∀ (post' : ρ → Prop) (b1 : A1), ok b1 → μ b1 < μ a1 → post' (val b1) → W d post' b1) → W (d + 1) post a1) :
    ∀ (d : Nat) (post : ρ → Prop) (a1 : A1), ok a1 → μ a1 < d → post (val a1) → W d post a1 := by
  intro d
  induction d with
  | zero => intro post a1 _ h; omega
  | succ d ih =>
    intro post a1 ho hm hp
    exact hs d post a1 ho hp (fun post' b1 ho' hm' hp' => ih post' b1 ho' (by omega) hp')
theorem rp2 {ρ A1 A2 : Type} (W : Nat → (ρ → Prop) → A1 → A2 → Prop) (ok : A1 → A2 → Prop) (μ : A1 → A2 → Nat) (val : A1 → A2 → ρ)
    (hs : ∀ (d : Nat) (post : ρ → Prop) (a1 : A1) (a2 : A2), ok a1 a2 → post (val a1 a2) → (∀ (post' : ρ → Prop) (b1 : A1) (b2 : A2), ok b1 b2 → μ b1 b2 < μ a1 a2 → post' (val b1 b2) → W d post' b1 b2) → W (d + 1) post a1 a2) :
    ∀ (d : Nat) (post : ρ → Prop) (a1 : A1) (a2 : A2), ok a1 a2 → μ a1 a2 < d → post (val a1 a2) → W d post a1 a2 := by
  intro d
  induction d with
  | zero => intro post a1 a2 _ h; omega
  | succ d ih =>
    intro post a1 a2 ho hm hp
    exact hs d post a1 a2 ho hp (fun post' b1 b2 ho' hm' hp' => ih post' b1 b2 ho' (by omega) hp')
theorem rp3 {ρ A1 A2 A3 : Type} (W : Nat → (ρ → Prop) → A1 → A2 → A3 → Prop) (ok : A1 → A2 → A3 → Prop) (μ : A1 → A2 → A3 → Nat) (val : A1 → A2 → A3 → ρ)
    (hs : ∀ (d : Nat) (post : ρ → Prop) (a1 : A1) (a2 : A2) (a3 : A3), ok a1 a2 a3 → post (val a1 a2 a3) → (∀ (post' : ρ → Prop) (b1 : A1) (b2 : A2) (b3 : A3), ok b1 b2 b3 → μ b1 b2 b3 < μ a1 a2 a3 → post' (val b1 b2 b3) → W d post' b1 b2 b3) → W (d + 1) post a1 a2 a3) :
    ∀ (d : Nat) (post : ρ → Prop) (a1 : A1) (a2 : A2) (a3 : A3), ok a1 a2 a3 → μ a1 a2 a3 < d → post (val a1 a2 a3) → W d post a1 a2 a3 := by
  intro d
  induction d with
  | zero => intro post a1 a2 a3 _ h; omega
  | succ d ih =>
    intro post a1 a2 a3 ho hm hp
    exact hs d post a1 a2 a3 ho hp (fun post' b1 b2 b3 ho' hm' hp' => ih post' b1 b2 b3 ho' (by omega) hp')
theorem rp4 {ρ A1 A2 A3 A4 : Type} (W : Nat → (ρ → Prop) → A1 → A2 → A3 → A4 → Prop) (ok : A1 → A2 → A3 → A4 → Prop) (μ : A1 → A2 → A3 → A4 → Nat) (val : A1 → A2 → A3 → A4 → ρ)
    (hs : ∀ (d : Nat) (post : ρ → Prop) (a1 : A1) (a2 : A2) (a3 : A3) (a4 : A4), ok a1 a2 a3 a4 → post (val a1 a2 a3 a4) → (∀ (post' : ρ → Prop) (b1 : A1) (b2 : A2) (b3 : A3) (b4 : A4), ok b1 b2 b3 b4 → μ b1 b2 b3 b4 < μ a1 a2 a3 a4 → post' (val b1 b2 b3 b4) → W d post' b1 b2 b3 b4) → W (d + 1) post a1 a2 a3 a4) :
    ∀ (d : Nat) (post : ρ → Prop) (a1 : A1) (a2 : A2) (a3 : A3) (a4 : A4), ok a1 a2 a3 a4 → μ a1 a2 a3 a4 < d → post (val a1 a2 a3 a4) → W d post a1 a2 a3 a4 := by
  intro d
  induction d with
  | zero => intro post a1 a2 a3 a4 _ h; omega
  | succ d ih =>
    intro post a1 a2 a3 a4 ho hm hp
    exact hs d post a1 a2 a3 a4 ho hp (fun post' b1 b2 b3 b4 ho' hm' hp' => ih post' b1 b2 b3 b4 ho' (by omega) hp')
theorem rp5 {ρ A1 A2 A3 A4 A5 : Type} (W : Nat → (ρ → Prop) → A1 → A2 → A3 → A4 → A5 → Prop) (ok : A1 → A2 → A3 → A4 → A5 → Prop) (μ : A1 → A2 → A3 → A4 → A5 → Nat) (val : A1 → A2 → A3 → A4 → A5 → ρ)
    (hs : ∀ (d : Nat) (post : ρ → Prop) (a1 : A1) (a2 : A2) (a3 : A3) (a4 : A4) (a5 : A5), ok a1 a2 a3 a4 a5 → post (val a1 a2 a3 a4 a5) → (∀ (post' : ρ → Prop) (b1 : A1) (b2 : A2) (b3 : A3) (b4 : A4) (b5 : A5), ok b1 b2 b3 b4 b5 → μ b1 b2 b3 b4 b5 < μ a1 a2 a3 a4 a5 → post' (val b1 b2 b3 b4 b5) → W d post' b1 b2 b3 b4 b5) → W (d + 1) post a1 a2 a3 a4 a5) :
    ∀ (d : Nat) (post : ρ → Prop) (a1 : A1) (a2 : A2) (a3 : A3) (a4 : A4) (a5 : A5), ok a1 a2 a3 a4 a5 → μ a1 a2 a3 a4 a5 < d → post (val a1 a2 a3 a4 a5) → W d post a1 a2 a3 a4 a5 := by
  intro d
  induction d with
  | zero => intro post a1 a2 a3 a4 a5 _ h; omega
  | succ d ih =>
    intro post a1 a2 a3 a4 a5 ho hm hp
    exact hs d post a1 a2 a3 a4 a5 ho hp (fun post' b1 b2 b3 b4 b5 ho' hm' hp' => ih post' b1 b2 b3 b4 b5 ho' (by omega) hp')
theorem rp6 {ρ A1 A2 A3 A4 A5 A6 : Type} (W : Nat → (ρ → Prop) → A1 → A2 → A3 → A4 → A5 → A6 → Prop) (ok : A1 → A2 → A3 → A4 → A5 → A6 → Prop) (μ : A1 → A2 → A3 → A4 → A5 → A6 → Nat) (val : A1 → A2 → A3 → A4 → A5 → A6 → ρ)
    (hs : ∀ (d : Nat) (post : ρ → Prop) (a1 : A1) (a2 : A2) (a3 : A3) (a4 : A4) (a5 : A5) (a6 : A6), ok a1 a2 a3 a4 a5 a6 → post (val a1 a2 a3 a4 a5 a6) → (∀ (post' : ρ → Prop) (b1 : A1) (b2 : A2) (b3 : A3) (b4 : A4) (b5 : A5) (b6 : A6), ok b1 b2 b3 b4 b5 b6 → μ b1 b2 b3 b4 b5 b6 < μ a1 a2 a3 a4 a5 a6 → post' (val b1 b2 b3 b4 b5 b6) → W d post' b1 b2 b3 b4 b5 b6) → W (d + 1) post a1 a2 a3 a4 a5 a6) :
    ∀ (d : Nat) (post : ρ → Prop) (a1 : A1) (a2 : A2) (a3 : A3) (a4 : A4) (a5 : A5) (a6 : A6), ok a1 a2 a3 a4 a5 a6 → μ a1 a2 a3 a4 a5 a6 < d → post (val a1 a2 a3 a4 a5 a6) → W d post a1 a2 a3 a4 a5 a6 := by
  intro d
  induction d with
  | zero => intro post a1 a2 a3 a4 a5 a6 _ h; omega
  | succ d ih =>
    intro post a1 a2 a3 a4 a5 a6 ho hm hp
    exact hs d post a1 a2 a3 a4 a5 a6 ho hp (fun post' b1 b2 b3 b4 b5 b6 ho' hm' hp' => ih post' b1 b2 b3 b4 b5 b6 ho' (by omega) hp')
theorem rec_p {σ ρ : Type} (W : Nat → (ρ → Prop) → σ → Prop) (ok : σ → Prop) (μ : σ → Nat) (val : σ → ρ)
    (hs : ∀ d s post, ok s → post (val s) → (∀ s' post', ok s' → μ s' < μ s → post' (val s') → W d post' s') → W (d + 1) post s) :
    ∀ d s post, ok s → μ s < d → post (val s) → W d post s := by
  intro d
  induction d with
  | zero => intro s post _ h; omega
  | succ d ih =>
    intro s post ho hm hp
    exact hs d s post ho hp (fun s' post' ho' hm' hp' => ih s' post' ho' (by omega) hp')
theorem rec_q {σ ρ : Type} (W : Nat → (ρ → Prop) → σ → Prop) (ok : σ → Prop) (μ : σ → Nat) (Q : σ → ρ → Prop)
    (hs : ∀ d s post, ok s → (∀ r, Q s r → post r) → (∀ s' post', ok s' → μ s' < μ s → (∀ r, Q s' r → post' r) → W d post' s') → W (d + 1) post s) :
    ∀ d s post, ok s → μ s < d → (∀ r, Q s r → post r) → W d post s := by
  intro d
  induction d with
  | zero => intro s post _ h; omega
  | succ d ih =>
    intro s post ho hm hp
    exact hs d s post ho hp (fun s' post' ho' hm' hp' => ih s' post' ho' (by omega) hp')
def bx_sum (f : Nat → Int32) : Nat → Int32
  | 0 => 0
  | n + 1 => bx_sum f n + f n
theorem ek_u {A : Prop} {B : Nat → Prop} {k N : Nat} (hk : k < N) (h : B k) : (some k = none → A) ∧ (∀ y : Nat, some k = some y → (y < N ∧ B y)) :=
  ⟨fun z => absurd z (Option.some_ne_none k), fun _ e => (by cases e; exact ⟨hk, h⟩)⟩
theorem ek_nu {A : Prop} {B : Nat → Prop} (h : A) : ((none : Option Nat) = none → A) ∧ (∀ y : Nat, (none : Option Nat) = some y → B y) :=
  ⟨fun _ => h, fun _ e => (by cases e)⟩
theorem ek_if {c d A B : Prop} (e : c ↔ d) (f : d → A) (g : ¬ d → B) : (c → A) ∧ (¬ c → B) :=
  ⟨fun z => f (e.mp z), fun z => g (fun y => z (e.mpr y))⟩
theorem ek_v {α : Sort _} {P : α → Prop} {a b : α} (e : a = b) (h : P b) : P a := e ▸ h
theorem co_some {x : Option Nat} {A : Prop} {B : Nat → Prop} (i : Nat) (h : B i) (hx : x = some i := by rfl) : (x = none → A) ∧ (∀ y : Nat, x = some y → B y) := by
  subst hx
  exact ⟨fun e => (nomatch e), fun y e => Option.some.inj e ▸ h⟩
theorem co_none {x : Option Nat} {A : Prop} {B : Nat → Prop} (h : A) (hx : x = none := by rfl) : (x = none → A) ∧ (∀ y : Nat, x = some y → B y) := by
  subst hx
  exact ⟨fun _ => h, fun y e => (nomatch e)⟩
theorem co_any {x : Option Nat} {A : Prop} {B : Nat → Prop} (hn : x = none → A) (hs : ∀ i : Nat, x = some i → B i) : (x = none → A) ∧ (∀ y : Nat, x = some y → B y) := ⟨hn, hs⟩
theorem co_2 {P : Nat → Prop} (h0 : P 0) (h1 : P 1) {i : Nat} (hi : i < 2) : P i :=
  match i, hi with
  | 0, _ => h0
  | 1, _ => h1
theorem co_3 {P : Nat → Prop} (h0 : P 0) (h1 : P 1) (h2 : P 2) {i : Nat} (hi : i < 3) : P i :=
  match i, hi with
  | 0, _ => h0
  | 1, _ => h1
  | 2, _ => h2
theorem co_4 {P : Nat → Prop} (h0 : P 0) (h1 : P 1) (h2 : P 2) (h3 : P 3) {i : Nat} (hi : i < 4) : P i :=
  match i, hi with
  | 0, _ => h0
  | 1, _ => h1
  | 2, _ => h2
  | 3, _ => h3
theorem co_dec {N : Nat} {P : Nat → Prop} [DecidablePred P] (h : (List.range N).all (fun i => decide (P i)) = true) {i : Nat} (hi : i < N) : P i := by
  have := List.all_eq_true.mp h i (List.mem_range.mpr hi)
  exact of_decide_eq_true this
theorem co_tab {α : Type} {l : List α} {d : α} {P : α → Prop} (h : ∀ a, a ∈ l → P a) {i : Nat} (hi : i < l.length) : P (l.getD i d) := by
  rw [List.getD_eq_getElem?_getD, List.getElem?_eq_getElem hi]
  exact h _ (List.getElem_mem hi)
theorem pk_mu {x : Int32} {L : Nat} (h0 : ¬ x < 0) (h : ¬ nI L ≤ x) (hL : L < 2 ^ 31) : ∃ j : Nat, j < L ∧ x = nI j ∧ x + 1 = nI (j + 1) ∧ x.toNatClampNeg = j ∧ L - (x + 1).toNatClampNeg < L - x.toNatClampNeg := by
  obtain ⟨j, hj, rfl⟩ := nI_of h0
  have hl : j < L := Nat.not_le.mp fun q => h (nI_le q hj)
  refine ⟨j, hl, rfl, nI_1 j, nI_clamp hj, ?_⟩
  rw [nI_1, nI_clamp (by omega), nI_clamp hj]
  omega
theorem op_s {α : Type} {r : Option α} {A : Prop} {B : α → Prop} {y : α} (h : r = some y) (b : B y) : (r = none → A) ∧ ∀ z, r = some z → B z :=
  ⟨fun e => (by rw [h] at e; cases e), fun z e => (by rw [h] at e; cases e; exact b)⟩
def l_holds {α : Type} (a : Nat → Option Nat) (LP : List Nat) (p : Nat → α) (c : Nat) (b : Nat → α) : Prop :=
  ∀ j, j < c → ∃ y, a j = some y ∧ y ∈ LP ∧ p y = b j
theorem l_holds_0 {α : Type} {a : Nat → Option Nat} {LP : List Nat} {p b : Nat → α} : l_holds a LP p 0 b := fun j h => absurd h (Nat.not_lt_zero j)
theorem l_in_new (LP : List Nat) (q : Nat) : q ∈ LP ++ [q] := List.mem_append.mpr (Or.inr (List.mem_singleton.mpr rfl))
def l_sum (b : Nat → Int32) : Nat → Int32
  | 0 => 0
  | k + 1 => l_sum b k + b k
theorem sb_shr0 (x : Int32) : x >>> ((0 : Int32) &&& 31) = x := by
  rw [show ((0 : Int32) &&& 31) = 0 by decide]
  simp
theorem sb_shl0 (x : Int32) : x <<< ((0 : Int32) &&& 31) = x := by
  rw [show ((0 : Int32) &&& 31) = 0 by decide]
  simp
theorem sb_cl0 : (0 : Int32).toNatClampNeg = 0 := by decide
theorem sb_m1 {p : Nat} (h : 0 < p) : nI p + (-1) = nI (p - 1) := by
  obtain ⟨q, rfl⟩ : ∃ q, p = q + 1 := ⟨p - 1, by omega⟩
  exact pk_m1 q
def sb_b (c : Nat) : Int32 := (nI c).toInt8.toInt32
theorem sb_byte : ∀ c, c < 256 → sb_b c &&& 255 = nI c ∧ ((nI c).toUInt32 % 65536).toInt32 = nI c ∧ nI c ≤ 255 := by decide +kernel
def sb_Fit (a : Nat → Int32) : Prop := ∀ j, fits .byte (.int (a j)) = true
def sb_Lat (t : Nat → Nat) (n : Nat) (a : Nat → Int32) : Prop := ∀ j, j < n → t j < 256 ∧ a j = sb_b (t j)
theorem sb_fitB (c : Nat) : fits .byte (.int (sb_b c)) = true := pk_fb _
theorem sb_fit0 : sb_Fit (fun _ => 0) := fun _ => by
  show fits .byte (.int 0) = true
  decide
theorem sb_fitU {a : Nat → Int32} {k : Nat} {x : Int32} (h : sb_Fit a) (hx : fits .byte (.int x) = true) : sb_Fit (upd a k x) := by
  intro j
  by_cases e : j = k
  · subst e
    rw [pk_us]
    exact hx
  · rw [pk_un e]
    exact h j
def sb_cat (t : Nat → Nat) (n : Nat) (s : Nat → Nat) : Nat → Nat := fun j => if j < n then t j else s (j - n)
theorem sb_cat_lo {t s : Nat → Nat} {n j : Nat} (h : j < n) : sb_cat t n s j = t j := if_pos h
theorem sb_cat_hi {t s : Nat → Nat} {n j : Nat} : sb_cat t n s (n + j) = s j := by
  show (if n + j < n then t (n + j) else s (n + j - n)) = s j
  rw [if_neg (by omega), Nat.add_sub_cancel_left]
theorem sb_latPut {t s : Nat → Nat} {n w : Nat} {a a' : Nat → Int32} (h : sb_Lat t n a) (hk : ∀ j, j < n → a' j = a j) (hs : ∀ i, i < w → s i < 256 ∧ a' (n + i) = sb_b (s i)) : sb_Lat (sb_cat t n s) (n + w) a' := by
  intro j hj
  by_cases e : j < n
  · rw [sb_cat_lo e, hk j e]
    exact h j e
  · obtain ⟨i, rfl⟩ : ∃ i, j = n + i := ⟨j - n, by omega⟩
    rw [sb_cat_hi]
    exact hs i (by omega)
theorem sb_latKeep {t : Nat → Nat} {n : Nat} {a a' : Nat → Int32} (h : sb_Lat t n a) (hk : ∀ j, j < n → a' j = a j) : sb_Lat t n a' := fun j hj => by
  rw [hk j hj]
  exact h j hj
def sb_cap (q m : Nat) : Nat := if q ≤ m then m else if 2 * m + 2 < q then q else 2 * m + 2
def sb_Room (q m mc ms : Nat) : Prop := q ≤ m ∨ (1 ≤ mc ∧ sb_cap q m ≤ ms ∧ sb_cap q m ≤ 65536)
theorem sb_cap_ge (q m : Nat) : q ≤ sb_cap q m := by
  unfold sb_cap
  split
  · omega
  · split <;> omega
theorem sb_cap_gem (q m : Nat) : m ≤ sb_cap q m := by
  unfold sb_cap
  split
  · omega
  · split <;> omega
theorem sb_cap_le {q m mc ms : Nat} (hm : m ≤ 65536) (hr : sb_Room q m mc ms) : sb_cap q m ≤ 65536 := by
  rcases hr with h | h
  · rw [sb_cap, if_pos h]
    exact hm
  · exact h.2.2
theorem sb_at {P : Int32 → Prop} {x y : Int32} (e : x = y) (h : P y) : P x := e ▸ h
def sb_dg (w : Nat) : Nat := if w < 10 then 1 else if w < 100 then 2 else if w < 1000 then 3 else if w < 10000 then 4 else if w < 100000 then 5 else if w < 1000000 then 6 else if w < 10000000 then 7 else if w < 100000000 then 8 else if w < 1000000000 then 9 else 10
def sb_dec (v : Nat) : Nat → Nat := fun i => 48 + v / 10 ^ (sb_dg v - 1 - i) % 10
theorem sb_dg_in (w : Nat) : 1 ≤ sb_dg w ∧ sb_dg w ≤ 10 := by
  unfold sb_dg
  constructor <;> (repeat' split) <;> omega
theorem sb_dg100 {w : Nat} (h : 100 ≤ w) (hw : w < 2 ^ 31) : sb_dg w = sb_dg (w / 100) + 2 := by
  rw [sb_dg, sb_dg, if_neg (show ¬ w < 10 by omega), if_neg (show ¬ w < 100 by omega)]
  by_cases h3 : w < 1000
  · rw [if_pos h3, if_pos (show w / 100 < 10 by omega)]
  rw [if_neg h3, if_neg (show ¬ w / 100 < 10 by omega)]
  by_cases h4 : w < 10000
  · rw [if_pos h4, if_pos (show w / 100 < 100 by omega)]
  rw [if_neg h4, if_neg (show ¬ w / 100 < 100 by omega)]
  by_cases h5 : w < 100000
  · rw [if_pos h5, if_pos (show w / 100 < 1000 by omega)]
  rw [if_neg h5, if_neg (show ¬ w / 100 < 1000 by omega)]
  by_cases h6 : w < 1000000
  · rw [if_pos h6, if_pos (show w / 100 < 10000 by omega)]
  rw [if_neg h6, if_neg (show ¬ w / 100 < 10000 by omega)]
  by_cases h7 : w < 10000000
  · rw [if_pos h7, if_pos (show w / 100 < 100000 by omega)]
  rw [if_neg h7, if_neg (show ¬ w / 100 < 100000 by omega)]
  by_cases h8 : w < 100000000
  · rw [if_pos h8, if_pos (show w / 100 < 1000000 by omega)]
  rw [if_neg h8, if_neg (show ¬ w / 100 < 1000000 by omega)]
  by_cases h9 : w < 1000000000
  · rw [if_pos h9, if_pos (show w / 100 < 10000000 by omega)]
  rw [if_neg h9, if_neg (show ¬ w / 100 < 10000000 by omega)]
  rw [if_pos (show w / 100 < 100000000 by omega)]
theorem sb_negT {w : Nat} (h : w < 2 ^ 31) : (-nI w).toInt = -(w : Int) := by
  rw [Int32.toInt_neg, nI_toInt h]
  exact Int.bmod_eq_of_le (by omega) (by omega)
theorem sb_nle {a b : Nat} (ha : a < 2 ^ 31) (hb : b < 2 ^ 31) : -nI a ≤ -nI b ↔ b ≤ a := by
  rw [Int32.le_iff_toInt_le, sb_negT ha, sb_negT hb]
  omega
theorem sb_nlt {a b : Nat} (ha : a < 2 ^ 31) (hb : b < 2 ^ 31) : -nI a < -nI b ↔ b < a := by
  rw [Int32.lt_iff_toInt_lt, sb_negT ha, sb_negT hb]
  omega
theorem sb_cmp {A B : Prop} {x : Int32} (v c : Nat) (f : c ≤ v → A) (g : v < c → B) (hv : v < 2 ^ 31) (hx : x = -nI c := by rfl) (hc : c < 2 ^ 31 := by omega) : (-nI v ≤ x → A) ∧ (¬ -nI v ≤ x → B) := by
  subst hx
  rw [sb_nle hv hc]
  exact ⟨f, fun z => g (by omega)⟩
theorem sb_ndiv {w : Nat} (hw : w < 2 ^ 31) : (-nI w) / 100 = -nI (w / 100) := by
  apply Int32.toInt_inj.mp
  have h100 : (100 : Int32).toInt = 100 := by decide
  rw [Int32.toInt_div, sb_negT hw, h100, sb_negT (by omega), Int.neg_tdiv, Int.tdiv_eq_ediv_of_nonneg (by omega), Int.bmod_eq_of_le (by omega) (by omega)]
  omega
theorem sb_nrem {w : Nat} (hw : w < 2 ^ 31) : (-nI (w / 100)) * 100 - (-nI w) = nI (w % 100) := by
  have h := pk_rem (a := w) (d := 100) hw (by decide) (by decide)
  rw [pk_div hw (by decide) (by decide)] at h
  rw [← h]
  show (-nI (w / 100)) * nI 100 - (-nI w) = nI w - nI (w / 100) * nI 100
  rw [Int32.neg_mul, Int32.sub_neg, Int32.add_comm, ← Int32.sub_eq_add_neg]
end
section
/-! rows on bits, shifts and unsigned numbers, to paste: each family out of a closed proof of our own, whole with what it rests on; each by itself clean at Lean in its own claim (generation 39, form 5). Take a family whole -/
/-! ===== Int32 by its bits: bt x i ===== -/
def bt (x : Int32) (i : Nat) : Bool := x.toBitVec.getLsbD i
theorem b_ext {x y : Int32} (h : ∀ i, i < 32 → bt x i = bt y i) : x = y := Int32.toBitVec_inj.mp (BitVec.eq_of_getLsbD_eq (fun i hi => h i hi))
theorem b_or (x y : Int32) (i : Nat) : bt (x ||| y) i = (bt x i || bt y i) := by unfold bt; rw [Int32.toBitVec_or, BitVec.getLsbD_or]
theorem b_and (x y : Int32) (i : Nat) : bt (x &&& y) i = (bt x i && bt y i) := by unfold bt; rw [Int32.toBitVec_and, BitVec.getLsbD_and]
theorem b_xor (x y : Int32) (i : Nat) : bt (x ^^^ y) i = (bt x i ^^ bt y i) := by unfold bt; rw [Int32.toBitVec_xor, BitVec.getLsbD_xor]
theorem b_big {x : Int32} {i : Nat} (h : 32 ≤ i) : bt x i = false := BitVec.getLsbD_of_ge _ _ h
theorem b_255 (i : Nat) : bt 255 i = decide (i < 8) := by
  rcases Nat.lt_or_ge i 32 with h | h
  · exact (by decide +kernel : ∀ i, i < 32 → bt 255 i = decide (i < 8)) i h
  · rw [b_big h, decide_eq_false (by omega)]
theorem b_65535 (i : Nat) : bt 65535 i = decide (i < 16) := by
  rcases Nat.lt_or_ge i 32 with h | h
  · exact (by decide +kernel : ∀ i, i < 32 → bt 65535 i = decide (i < 16)) i h
  · rw [b_big h, decide_eq_false (by omega)]
theorem b_m1 : ∀ i, i < 32 → bt (-1) i = true := by decide +kernel
theorem b_0 (i : Nat) : bt 0 i = false := BitVec.getLsbD_zero
theorem s_l : ∀ n, n < 32 → ((nI n &&& 31).toBitVec.smod 32).toNat = n := by decide +kernel
theorem s_u : ∀ n, n < 32 → (((nI n).toUInt32 &&& Int32.toUInt32 31).toBitVec % 32).toNat = n := by decide +kernel
theorem b_shl (n : Nat) (hn : n < 32) (x : Int32) {i : Nat} (hi : i < 32) : bt (x <<< (nI n &&& 31)) i = (decide (n ≤ i) && bt x (i - n)) := by
  unfold bt
  rw [Int32.toBitVec_shiftLeft]
  show (x.toBitVec <<< ((nI n &&& 31).toBitVec.smod 32).toNat).getLsbD i = _
  rw [s_l n hn, BitVec.getLsbD_shiftLeft]
  rcases Nat.lt_or_ge i n with h | h
  · simp [h, Nat.not_le.mpr h]
  · simp [hi, h, Nat.not_lt.mpr h]
theorem b_ushr (n : Nat) (hn : n < 32) (x : Int32) (i : Nat) : bt ((x.toUInt32 >>> ((nI n).toUInt32 &&& Int32.toUInt32 31)).toInt32) i = bt x (n + i) := by
  show (x.toUInt32 >>> ((nI n).toUInt32 &&& Int32.toUInt32 31)).toBitVec.getLsbD i = x.toUInt32.toBitVec.getLsbD (n + i)
  rw [UInt32.toBitVec_shiftRight]
  show (x.toUInt32.toBitVec >>> (((nI n).toUInt32 &&& Int32.toUInt32 31).toBitVec % 32).toNat).getLsbD i = _
  rw [s_u n hn, BitVec.getLsbD_ushiftRight]
theorem b_sshr (n : Nat) (hn : n < 32) (x : Int32) {i : Nat} (hi : i < 32) : bt (x >>> (nI n &&& 31)) i = if n + i < 32 then bt x (n + i) else bt x 31 := by
  unfold bt
  rw [Int32.toBitVec_shiftRight]
  show (x.toBitVec.sshiftRight ((nI n &&& 31).toBitVec.smod 32).toNat).getLsbD i = _
  rw [s_l n hn, BitVec.getLsbD_sshiftRight, BitVec.msb_eq_getLsbD_last]
  simp [hi]
theorem b_shl8 (x : Int32) {i : Nat} (hi : i < 32) : bt (x <<< ((8 : Int32) &&& 31)) i = (decide (8 ≤ i) && bt x (i - 8)) := b_shl 8 (by omega) x hi
theorem b_shl16 (x : Int32) {i : Nat} (hi : i < 32) : bt (x <<< ((16 : Int32) &&& 31)) i = (decide (16 ≤ i) && bt x (i - 16)) := b_shl 16 (by omega) x hi
theorem b_shl24 (x : Int32) {i : Nat} (hi : i < 32) : bt (x <<< ((24 : Int32) &&& 31)) i = (decide (24 ≤ i) && bt x (i - 24)) := b_shl 24 (by omega) x hi
theorem b_sshr8 (x : Int32) {i : Nat} (hi : i < 32) : bt (x >>> ((8 : Int32) &&& 31)) i = if 8 + i < 32 then bt x (8 + i) else bt x 31 := b_sshr 8 (by omega) x hi
/-! ===== nI under and, xor, >>>, one bit, 65535 ===== -/
theorem nx_and (a b : Nat) : nI a &&& nI b = nI (a &&& b) := by
  apply Int32.toBitVec_inj.1
  show BitVec.ofNat 32 a &&& BitVec.ofNat 32 b = BitVec.ofNat 32 (a &&& b)
  apply BitVec.eq_of_getLsbD_eq
  intro i hi
  simp [hi]
theorem nx_xor (a b : Nat) : nI a ^^^ nI b = nI (a ^^^ b) := by
  apply Int32.toBitVec_inj.1
  show BitVec.ofNat 32 a ^^^ BitVec.ofNat 32 b = BitVec.ofNat 32 (a ^^^ b)
  apply BitVec.eq_of_getLsbD_eq
  intro i hi
  simp [hi]
theorem nx_cnt : ∀ j : Fin 32, (UInt32.ofNat j.val &&& Int32.toUInt32 31).toNat % 32 = j.val := by decide +kernel
theorem nx_ush {k j : Nat} (hk : k < 65536) (hj : j < 32) : ((nI k).toUInt32 >>> ((nI j).toUInt32 &&& Int32.toUInt32 31)).toInt32 = nI (k >>> j) := by
  have hs : k >>> j ≤ k := by
    rw [Nat.shiftRight_eq_div_pow]
    exact Nat.div_le_self _ _
  have e2 : UInt32.ofNat k >>> (UInt32.ofNat j &&& Int32.toUInt32 31) = UInt32.ofNat (k >>> j) := by
    apply UInt32.toNat_inj.1
    have h1 : (UInt32.ofNat k).toNat = k := Nat.mod_eq_of_lt (by omega)
    have h2 : (UInt32.ofNat (k >>> j)).toNat = k >>> j := Nat.mod_eq_of_lt (by omega)
    rw [UInt32.toNat_shiftRight, nx_cnt ⟨j, hj⟩, h1, h2]
  show (UInt32.ofNat k >>> (UInt32.ofNat j &&& Int32.toUInt32 31)).toInt32 = _
  rw [e2]
  rfl
theorem nx_bit {k j : Nat} (hk : k < 65536) (hj : j < 16) : (((nI k).toUInt32 >>> ((nI j).toUInt32 &&& Int32.toUInt32 31)).toInt32 &&& 1) = 0 ↔ k.testBit j = false := by
  rw [nx_ush hk (by omega)]
  show nI (k >>> j) &&& nI 1 = 0 ↔ _
  rw [nx_and, Nat.and_one_is_mod, ← nI_0, nI_eq (by omega) (by omega), Nat.testBit_eq_decide_div_mod_eq, Nat.shiftRight_eq_div_pow, decide_eq_false_iff_not]
  generalize k / 2 ^ j = z
  omega
theorem nx_mod (k : Nat) : nI k &&& 65535 = nI (k % 65536) := by
  show nI k &&& nI 65535 = _
  rw [nx_and, show (65535 : Nat) = 2 ^ 16 - 1 from rfl, Nat.and_two_pow_sub_one_eq_mod]
theorem nx_m16 {k : Nat} (h : k < 65536) : nI k &&& 65535 = nI k := by rw [nx_mod, Nat.mod_eq_of_lt h]
theorem nx_mask (x : Int32) : ∃ k, k < 65536 ∧ x &&& 65535 = nI k := by
  have e : x = nI x.toBitVec.toNat := by
    apply Int32.toBitVec_inj.1
    show x.toBitVec = BitVec.ofNat 32 x.toBitVec.toNat
    simp
  refine ⟨x.toBitVec.toNat % 65536, Nat.mod_lt _ (by omega), ?_⟩
  rw [← nx_mod, ← e]
/-! ===== Int32 as a set of bits: test, set ===== -/
def nf_M (m : Int32) : Nat := 4294967296 - m.toBitVec.toNat
theorem nf_sh : ∀ l, l < 32 → ((1 : Int32) <<< (nI l &&& 31)).toBitVec = BitVec.twoPow 32 l := by decide +kernel
theorem nf_sl : ∀ l, l < 32 → (((nI l).toUInt32 &&& Int32.toUInt32 31).toBitVec % 32).toNat = l := by decide +kernel
theorem nf_tp : ∀ l, l < 32 → BitVec.twoPow 32 l ≠ 0#32 := by decide +kernel
theorem nf_bit (m : Int32) (l : Nat) (hl : l < 32) : ((m.toUInt32 >>> ((nI l).toUInt32 &&& Int32.toUInt32 31)).toInt32 &&& 1) = 0 ↔ (m &&& ((1 : Int32) <<< (nI l &&& 31))) = 0 := by
  have e : ((m.toUInt32 >>> ((nI l).toUInt32 &&& Int32.toUInt32 31)).toInt32).toBitVec = m.toBitVec >>> l := by
    show m.toBitVec >>> (((nI l).toUInt32 &&& Int32.toUInt32 31).toBitVec % 32) = m.toBitVec >>> l
    rw [BitVec.ushiftRight_eq', nf_sl l hl]
  rw [← Int32.toBitVec_inj, ← Int32.toBitVec_inj, Int32.toBitVec_and, Int32.toBitVec_and, nf_sh l hl, e, BitVec.and_twoPow]
  show (m.toBitVec >>> l &&& 1#32) = 0#32 ↔ _ = 0#32
  rw [BitVec.and_one_eq_setWidth_ofBool_getLsbD, BitVec.getLsbD_ushiftRight, Nat.add_zero]
  cases hb : m.toBitVec.getLsbD l
  · exact ⟨fun _ => by simp, fun _ => by decide⟩
  · exact ⟨fun z => absurd z (by decide), fun z => absurd ((if_pos rfl).symm.trans z) (nf_tp l hl)⟩
theorem nf_gr (m k : Int32) (h : m &&& k = 0) (hk : k ≠ 0) : nf_M (m ||| k) < nf_M m := by
  have hm := m.toBitVec.isLt
  have hm' := (m ||| k).toBitVec.isLt
  have h1 : m.toBitVec.toNat ≤ (m ||| k).toBitVec.toNat := by
    rw [Int32.toBitVec_or, BitVec.toNat_or]
    exact Nat.left_le_or
  have h2 : m.toBitVec.toNat ≠ (m ||| k).toBitVec.toNat := by
    intro e
    have e2 : m = m ||| k := Int32.toBitVec_inj.mp (BitVec.eq_of_toNat_eq e)
    apply hk
    apply Int32.toBitVec_inj.mp
    show k.toBitVec = 0#32
    apply BitVec.eq_of_getLsbD_eq
    intro i hi
    have a : m.toBitVec.getLsbD i = (m.toBitVec.getLsbD i || k.toBitVec.getLsbD i) := by rw [← BitVec.getLsbD_or, ← Int32.toBitVec_or, ← e2]
    have b : (m.toBitVec.getLsbD i && k.toBitVec.getLsbD i) = false := by
      rw [← BitVec.getLsbD_and, ← Int32.toBitVec_and, h]
      exact BitVec.getLsbD_zero
    rw [BitVec.getLsbD_zero]
    revert a b
    cases m.toBitVec.getLsbD i <;> cases k.toBitVec.getLsbD i <;> simp
  unfold nf_M
  omega
/-! ===== a byte read unsigned ===== -/
theorem bp_b (x : Int32) : x.toInt8.toInt32 &&& 255 = x &&& 255 := by
  apply Int32.toBitVec_inj.mp
  rw [Int32.toBitVec_and, Int32.toBitVec_and, Int8.toBitVec_toInt32, Int32.toBitVec_toInt8]
  apply BitVec.eq_of_getLsbD_eq
  intro i hi
  rw [BitVec.getLsbD_and, BitVec.getLsbD_and]
  have hm : ∀ i < 32, 8 ≤ i → (255 : Int32).toBitVec.getLsbD i = false := by decide
  rcases Nat.lt_or_ge i 8 with z | z
  · rw [BitVec.getLsbD_signExtend, BitVec.getLsbD_signExtend, if_pos z, if_pos hi]
    simp only [z, hi, decide_true, Bool.true_and]
  · rw [hm i hi z]; simp
/-! ===== the char cast and 65535 ===== -/
theorem em_w (v : Int32) : ∃ w : Nat, w < 65536 ∧ (v.toUInt32 % 65536).toInt32 = nI w ∧ v &&& 65535 = nI w := by
  have hr := lw_u16_r v
  have h0 : (0 : Int32).toInt = 0 := by decide
  obtain ⟨w, h1, h2⟩ := nI_of (x := lw_u16 v) (by rw [Int32.lt_iff_toInt_lt]; omega)
  have h3 : (v.toUInt32 % 65536).toInt32 = nI w := h2
  rw [h2, nI_toInt h1] at hr
  exact ⟨w, by omega, h3, by rw [← lg_i2c_mask, ← lg_i2c_nf, h3]⟩
/-! ===== Int64 as a set of bits: test, set, clear ===== -/
theorem ts_nf {x : Bool} (h : ¬ x = false) : x = true := by cases x <;> first | rfl | exact absurd rfl h
theorem ts_nt {x : Bool} (h : ¬ x = true) : x = false := by cases x <;> first | rfl | exact absurd rfl h
theorem ts_bit {w : Int64} {s : UInt64} {j : Nat} (hj : j < 64) (hs : s.toNat = j) : ((w.toUInt64 >>> s).toInt64 &&& 1) = 0 ↔ w.toBitVec.getLsbD j = false := by
  have e : (w.toUInt64 >>> s).toInt64.toBitVec = w.toBitVec >>> j := by
    apply BitVec.eq_of_toNat_eq
    show (w.toUInt64 >>> s).toNat = _
    rw [UInt64.toNat_shiftRight, hs, Nat.mod_eq_of_lt hj, BitVec.toNat_ushiftRight]
    rfl
  rw [← Int64.toBitVec_inj, Int64.toBitVec_and, e]
  show w.toBitVec >>> j &&& 1#64 = 0#64 ↔ _
  constructor
  · intro h
    have t := congrArg (fun x => x.getLsbD 0) h
    simpa using t
  · intro h
    apply BitVec.eq_of_getLsbD_eq
    intro i hi
    cases i with
    | zero => simp [h]
    | succ i => simp
theorem ts_or {w m : Int64} {j : Nat} (hj : j < 64) (hm : m.toBitVec = BitVec.twoPow 64 j) : (w ||| m) = w ↔ w.toBitVec.getLsbD j = true := by
  rw [← Int64.toBitVec_inj, Int64.toBitVec_or, hm]
  constructor
  · intro h
    have t := congrArg (fun x => x.getLsbD j) h
    simp only [BitVec.getLsbD_or, BitVec.getLsbD_twoPow] at t
    simpa [hj] using t.symm
  · intro h
    apply BitVec.eq_of_getLsbD_eq
    intro i hi
    rw [BitVec.getLsbD_or, BitVec.getLsbD_twoPow]
    by_cases e : j = i
    · subst e; rw [h, Bool.true_or]
    · simp [e]
theorem ts_and {w m : Int64} {j : Nat} (hj : j < 64) (hm : m.toBitVec = BitVec.twoPow 64 j) : (w &&& (m ^^^ (-1))) = w ↔ w.toBitVec.getLsbD j = false := by
  have ha : (-1 : Int64).toBitVec = BitVec.allOnes 64 := by decide
  rw [← Int64.toBitVec_inj, Int64.toBitVec_and, Int64.toBitVec_xor, hm, ha]
  constructor
  · intro h
    have t := congrArg (fun x => x.getLsbD j) h
    simp only [BitVec.getLsbD_and, BitVec.getLsbD_xor, BitVec.getLsbD_twoPow, BitVec.getLsbD_allOnes] at t
    simpa [hj] using t.symm
  · intro h
    apply BitVec.eq_of_getLsbD_eq
    intro i hi
    rw [BitVec.getLsbD_and, BitVec.getLsbD_xor, BitVec.getLsbD_twoPow, BitVec.getLsbD_allOnes]
    by_cases e : j = i
    · subst e; rw [h, Bool.false_and]
    · simp [e, hi]
/-! ===== lN n to 2^64: shifts, and, or, masks, one bit ===== -/
theorem wb_tb (n : Nat) : (lN n).toBitVec = BitVec.ofNat 64 n := rfl
theorem wb_inj {a b : Int64} (h : a.toBitVec = b.toBitVec) : a = b := Int64.toBitVec_inj.mp h
theorem wb_tn {n : Nat} (h : n < 2 ^ 64) : (lN n).toBitVec.toNat = n := by rw [wb_tb, BitVec.toNat_ofNat, Nat.mod_eq_of_lt h]
theorem wb_of (x : Int64) : ∃ n, n < 2 ^ 64 ∧ x = lN n := ⟨x.toBitVec.toNat, x.toBitVec.isLt, wb_inj (by rw [wb_tb]; simp)⟩
theorem wb_of32 (x : Int32) : ∃ n, n < 2 ^ 32 ∧ x = nI n := ⟨x.toBitVec.toNat, x.toBitVec.isLt, Int32.toBitVec_inj.mp (by show _ = BitVec.ofNat 32 _; simp)⟩
theorem wb_c : ∀ k, k < 64 → ((nI k).toInt64 &&& 63) = lN k := by decide +kernel
theorem wb_cu : ∀ k, k < 64 → ((nI k).toInt64.toUInt64 &&& Int64.toUInt64 63) = UInt64.ofNat k := by decide +kernel
theorem wb_sm : ∀ k, k < 64 → (BitVec.ofNat 64 k).smod 64 = BitVec.ofNat 64 k := by decide +kernel
theorem wb_pw {a b : Nat} (h : a ≤ b) : 2 ^ b = 2 ^ a * 2 ^ (b - a) := by rw [← Nat.pow_add]; congr 1; omega
theorem wb_lt2 {a b : Nat} (h : a < b) : 2 ^ a < 2 ^ b := Nat.pow_lt_pow_right (by decide) h
theorem wb_mod (n : Nat) : lN n = lN (n % 2 ^ 64) := wb_inj (by rw [wb_tb, wb_tb]; apply BitVec.eq_of_toNat_eq; rw [BitVec.toNat_ofNat, BitVec.toNat_ofNat, Nat.mod_mod])
theorem wb_shr {n k : Nat} (hn : n < 2 ^ 64) (hk : k < 64) : ((lN n).toUInt64 >>> ((nI k).toInt64.toUInt64 &&& Int64.toUInt64 63)).toInt64 = lN (n / 2 ^ k) := by
  rw [wb_cu k hk]
  apply wb_inj
  apply BitVec.eq_of_toNat_eq
  show ((lN n).toUInt64 >>> UInt64.ofNat k).toNat = (BitVec.ofNat 64 _).toNat
  have h1 : (UInt64.ofNat k).toNat = k := by
    show (BitVec.ofNat 64 k).toNat = k
    rw [BitVec.toNat_ofNat, Nat.mod_eq_of_lt (by omega)]
  have h2 : (lN n).toUInt64.toNat = n := wb_tn hn
  rw [UInt64.toNat_shiftRight, h1, h2, Nat.mod_eq_of_lt hk, Nat.shiftRight_eq_div_pow, BitVec.toNat_ofNat, Nat.mod_eq_of_lt (Nat.lt_of_le_of_lt (Nat.div_le_self _ _) hn)]
theorem wb_shl (n : Nat) {k : Nat} (hk : k < 64) : lN n <<< ((nI k).toInt64 &&& 63) = lN (n * 2 ^ k) := by
  rw [wb_c k hk]
  apply wb_inj
  rw [Int64.toBitVec_shiftLeft, wb_tb, wb_tb, wb_tb, wb_sm k hk]
  apply BitVec.eq_of_toNat_eq
  rw [BitVec.shiftLeft_eq', BitVec.toNat_shiftLeft, BitVec.toNat_ofNat, BitVec.toNat_ofNat, BitVec.toNat_ofNat, Nat.mod_eq_of_lt (show k < 2 ^ 64 by omega), Nat.shiftLeft_eq, Nat.mul_mod, Nat.mod_mod, ← Nat.mul_mod]
theorem wb_and {a b : Nat} (ha : a < 2 ^ 64) (hb : b < 2 ^ 64) : lN a &&& lN b = lN (a &&& b) := by
  apply wb_inj
  rw [Int64.toBitVec_and, wb_tb, wb_tb, wb_tb]
  apply BitVec.eq_of_toNat_eq
  rw [BitVec.toNat_and, BitVec.toNat_ofNat, BitVec.toNat_ofNat, BitVec.toNat_ofNat, Nat.mod_eq_of_lt ha, Nat.mod_eq_of_lt hb, Nat.mod_eq_of_lt (Nat.and_lt_two_pow _ hb)]
theorem wb_or {a b : Nat} (ha : a < 2 ^ 64) (hb : b < 2 ^ 64) : lN a ||| lN b = lN (a ||| b) := by
  apply wb_inj
  rw [Int64.toBitVec_or, wb_tb, wb_tb, wb_tb]
  apply BitVec.eq_of_toNat_eq
  rw [BitVec.toNat_or, BitVec.toNat_ofNat, BitVec.toNat_ofNat, BitVec.toNat_ofNat, Nat.mod_eq_of_lt ha, Nat.mod_eq_of_lt hb, Nat.mod_eq_of_lt (Nat.or_lt_two_pow ha hb)]
theorem wb_mask {n k : Nat} (hn : n < 2 ^ 64) (hk : k < 64) : lN n &&& lN (2 ^ k - 1) = lN (n % 2 ^ k) := by
  rw [wb_and hn (by have := wb_lt2 hk; omega), Nat.and_two_pow_sub_one_eq_mod]
theorem wb_a1 {n : Nat} (hn : n < 2 ^ 64) : lN n &&& 1 = lN (n % 2) := wb_mask (k := 1) hn (by decide)
theorem wb_bit {n k : Nat} (hn : n < 2 ^ 64) (hk : k < 64) : ((lN n).toUInt64 >>> ((nI k).toInt64.toUInt64 &&& Int64.toUInt64 63)).toInt64 &&& 1 = lN (n / 2 ^ k % 2) := by
  rw [wb_shr hn hk, wb_a1 (Nat.lt_of_le_of_lt (Nat.div_le_self _ _) hn)]
theorem wb_xor {q k : Nat} (hk : k < 63) (h : 2 ^ k ≤ q) (h2 : q < 2 ^ (k + 1)) : lN q ^^^ lN (2 ^ k) = lN (q - 2 ^ k) := by
  obtain ⟨r, rfl⟩ : ∃ r, q = 2 ^ k + r := ⟨q - 2 ^ k, by omega⟩
  have hr : r < 2 ^ k := by rw [Nat.pow_succ] at h2; omega
  have hx : (2 ^ k + r) ^^^ 2 ^ k = r := by
    apply Nat.eq_of_testBit_eq
    intro i
    rw [Nat.testBit_xor, Nat.testBit_two_pow]
    rcases Nat.lt_trichotomy i k with h | h | h
    · rw [Nat.testBit_two_pow_add_gt h]
      simp [show ¬ k = i by omega]
    · subst h
      rw [Nat.testBit_two_pow_add_eq]
      simp
    · have a1 : 2 ^ (k + 1) ≤ 2 ^ i := Nat.pow_le_pow_right (by decide) h
      rw [Nat.testBit_lt_two_pow (show 2 ^ k + r < 2 ^ i by omega), Nat.testBit_lt_two_pow (show r < 2 ^ i by omega)]
      simp [show ¬ k = i by omega]
  have b1 := wb_lt2 (show k + 1 < 64 by omega)
  have b2 := wb_lt2 (show k < 64 by omega)
  apply wb_inj
  rw [Int64.toBitVec_xor, wb_tb, wb_tb, wb_tb]
  apply BitVec.eq_of_toNat_eq
  rw [BitVec.toNat_xor, BitVec.toNat_ofNat, BitVec.toNat_ofNat, BitVec.toNat_ofNat, Nat.mod_eq_of_lt (by omega : 2 ^ k + r < 2 ^ 64), Nat.mod_eq_of_lt b2, hx, Nat.add_sub_cancel_left, Nat.mod_eq_of_lt (by omega)]
/-! ===== lN: masks, 'or' of parts that don't overlap is a sum ===== -/
theorem u_tn {n : Nat} (h : n < 2 ^ 64) : (UInt64.ofNat n).toNat = n := Nat.mod_eq_of_lt h
theorem g_and {a b c : Nat} (ha : a < 2 ^ 64) (hb : b < 2 ^ 64) (hc : a &&& b = c) : lN a &&& lN b = lN c := by
  subst hc
  have h : UInt64.ofNat a &&& UInt64.ofNat b = UInt64.ofNat (a &&& b) := UInt64.toNat_inj.mp (by rw [UInt64.toNat_and, u_tn ha, u_tn hb, u_tn (Nat.and_lt_two_pow a hb)])
  have h2 := congrArg UInt64.toInt64 h
  exact h2
theorem g_and1 {a : Nat} (ha : a < 2 ^ 64) : lN a &&& 1 = lN (a % 2) := g_and (b := 1) ha (by decide) (Nat.and_two_pow_sub_one_eq_mod a 1)
theorem g_mask {a s p : Nat} (hp : 2 ^ s = p) (hs : s < 64) (ha : a < 2 ^ 64) : lN a &&& lN (p - 1) = lN (a % p) := by
  subst hp
  have := Nat.pow_lt_pow_right (show 1 < 2 by decide) hs
  exact g_and ha (by omega) (Nat.and_two_pow_sub_one_eq_mod a s)
theorem g_or {k p a b : Nat} (hp : 2 ^ k = p) (ha : a < p) (h : b * p + a < 2 ^ 64) : lN (b * p) ||| lN a = lN (b * p + a) := by
  subst hp
  have h1 : b * 2 ^ k ||| a = b * 2 ^ k + a := by rw [← Nat.shiftLeft_eq, Nat.shiftLeft_add_eq_or_of_lt ha]
  have h3 : UInt64.ofNat (b * 2 ^ k) ||| UInt64.ofNat a = UInt64.ofNat (b * 2 ^ k + a) := UInt64.toNat_inj.mp (by rw [UInt64.toNat_or, u_tn (by omega), u_tn (by omega), u_tn h, h1])
  have h2 := congrArg UInt64.toInt64 h3
  exact h2
theorem g_or' {k p a b : Nat} (hp : 2 ^ k = p) (ha : a < p) (h : a + b * p < 2 ^ 64) : lN a ||| lN (b * p) = lN (a + b * p) := by
  rw [Int64.or_comm, g_or hp ha (by omega), Nat.add_comm]
theorem g_ushr {a k p : Nat} {y : UInt64} (hy : y = UInt64.ofNat k) (hk : k < 64) (hp : 2 ^ k = p) (ha : a < 2 ^ 64) : ((lN a).toUInt64 >>> y).toInt64 = lN (a / p) := by
  subst hy hp
  have h : UInt64.ofNat a >>> UInt64.ofNat k = UInt64.ofNat (a / 2 ^ k) := UInt64.toNat_inj.mp (by rw [UInt64.toNat_shiftRight, u_tn ha, u_tn (by omega), u_tn (Nat.lt_of_le_of_lt (Nat.div_le_self _ _) ha), Nat.mod_eq_of_lt hk, Nat.shiftRight_eq_div_pow])
  have h2 := congrArg UInt64.toInt64 h
  exact h2
theorem g_shl {a k p : Nat} {y : Int64} (hy : y.toBitVec.smod 64 = BitVec.ofNat 64 k) (hk : k < 64) (hp : 2 ^ k = p) (ha : a < 2 ^ 64) : lN a <<< y = lN (a * p) := by
  subst hp
  apply Int64.toBitVec_inj.mp
  rw [Int64.toBitVec_shiftLeft, hy]
  apply BitVec.eq_of_toNat_eq
  have hb : (lN a).toBitVec.toNat = a := Nat.mod_eq_of_lt ha
  have hk' : (BitVec.ofNat 64 k).toNat = k := Nat.mod_eq_of_lt (by omega)
  have h : ((lN a).toBitVec <<< BitVec.ofNat 64 k).toNat = (a * 2 ^ k) % 2 ^ 64 := by simp only [BitVec.shiftLeft_eq', BitVec.toNat_shiftLeft, hb, hk', Nat.shiftLeft_eq]
  exact h
/-! ===== lN to 2^62 under >> and >>> ===== -/
theorem pf_lI {a : Nat} (h : a < 2 ^ 63) : (lN a).toInt = (a : Int) := lg_ofNat_toInt h
theorem pf_shr {a d : Nat} {D : Int64} (hD : (D.toBitVec.smod 64).toNat = d) (h : a < 2 ^ 62) : lN a >>> D = lN (a / 2 ^ d) := by
  have hd : a / 2 ^ d ≤ a := Nat.div_le_self _ _
  apply Int64.toInt_inj.mp
  have e : (lN a >>> D).toInt = (lN a).toInt >>> d := by
    rw [← hD]
    exact BitVec.toInt_sshiftRight ..
  rw [e, Int.shiftRight_eq_div_pow, pf_lI (by omega), pf_lI (by omega)]
  rfl
theorem pf_ushr {a d : Nat} {D : UInt64} (hD : D.toNat % 64 = d) (h : a < 2 ^ 62) : ((lN a).toUInt64 >>> D).toInt64 = lN (a / 2 ^ d) := by
  have hd : a / 2 ^ d ≤ a := Nat.div_le_self _ _
  have e : (lN a).toUInt64 >>> D = UInt64.ofNat (a / 2 ^ d) := UInt64.toNat_inj.mp (by
    rw [UInt64.toNat_shiftRight, hD, Nat.shiftRight_eq_div_pow, UInt64.toNat_ofNat']
    show (UInt64.ofNat a).toNat / 2 ^ d = _
    rw [UInt64.toNat_ofNat', Nat.mod_eq_of_lt (by omega), Nat.mod_eq_of_lt (by omega)])
  rw [e]
  rfl
theorem pf_andw (x : Int64) : ∃ m, m < 2 ^ 32 ∧ x &&& 4294967295 = lN m := ⟨x.toBitVec.toNat % 2 ^ 32, Nat.mod_lt _ (by decide), Int64.toBitVec_inj.mp (BitVec.eq_of_toNat_eq (by
  show (x.toBitVec &&& 4294967295#64).toNat = (BitVec.ofNat 64 (x.toBitVec.toNat % 2 ^ 32)).toNat
  rw [BitVec.toNat_and, show (4294967295#64).toNat = 2 ^ 32 - 1 from by decide, Nat.and_two_pow_sub_one_eq_mod, BitVec.toNat_ofNat]
  omega))⟩
/-! ===== Int64 as an unsigned number: uN x ===== -/
def uN (x : Int64) : Nat := x.toUInt64.toNat
theorem uN_lt (x : Int64) : uN x < 18446744073709551616 := x.toUInt64.toNat_lt
theorem uN_inj {x y : Int64} (h : uN x = uN y) : x = y := congrArg UInt64.toInt64 (UInt64.toNat_inj.mp h)
theorem uN_add (x y : Int64) : uN (x + y) = (uN x + uN y) % 18446744073709551616 := by
  show (x.toUInt64 + y.toUInt64).toNat = _
  exact UInt64.toNat_add _ _
theorem uN_mul (x y : Int64) : uN (x * y) = (uN x * uN y) % 18446744073709551616 := by
  show (x.toUInt64 * y.toUInt64).toNat = _
  exact UInt64.toNat_mul _ _
theorem uN_shl (x : Int64) : uN (x <<< ((1 : Int32).toInt64 &&& 63)) = (2 * uN x) % 18446744073709551616 := by
  have h : (((1 : Int32).toInt64 &&& 63).toBitVec.smod 64).toNat = 1 := by decide
  show (x.toBitVec <<< (((1 : Int32).toInt64 &&& 63).toBitVec.smod 64).toNat).toNat = _
  rw [h, BitVec.toNat_shiftLeft, Nat.shiftLeft_eq, Nat.mul_comm]
  rfl
theorem uN_shr (x : Int64) (s : UInt64) : uN (x.toUInt64 >>> s).toInt64 = uN x / 2 ^ (s.toNat % 64) := by
  show (x.toUInt64 >>> s).toNat = _
  rw [UInt64.toNat_shiftRight, Nat.shiftRight_eq_div_pow]
  rfl
theorem uN_s32 (x : Int64) : uN (x.toUInt64 >>> ((32 : Int32).toInt64.toUInt64 &&& Int64.toUInt64 63)).toInt64 = uN x / 4294967296 := by
  have h : ((32 : Int32).toInt64.toUInt64 &&& Int64.toUInt64 63).toNat % 64 = 32 := by decide
  rw [uN_shr, h]
theorem uN_s63 (x : Int64) : uN (x.toUInt64 >>> ((63 : Int32).toInt64.toUInt64 &&& Int64.toUInt64 63)).toInt64 = uN x / 9223372036854775808 := by
  have h : ((63 : Int32).toInt64.toUInt64 &&& Int64.toUInt64 63).toNat % 64 = 63 := by decide
  rw [uN_shr, h]
theorem uN_lo (x : Int64) : uN (x &&& 4294967295) = uN x % 4294967296 := by
  show (x.toUInt64 &&& Int64.toUInt64 4294967295).toNat = _
  rw [UInt64.toNat_and]
  exact Nat.and_two_pow_sub_one_eq_mod _ 32
theorem uN_bit (x : Int64) : (x &&& 1) = 0 ↔ uN x % 2 = 0 := by
  have h : uN (x &&& 1) = uN x % 2 := by
    show (x.toUInt64 &&& Int64.toUInt64 1).toNat = _
    rw [UInt64.toNat_and]
    exact Nat.and_two_pow_sub_one_eq_mod _ 1
  rw [← h]
  exact ⟨fun z => by rw [z]; rfl, fun z => uN_inj (z.trans rfl)⟩
theorem uN_or {x y : Int64} (hy : uN y < 2) : uN ((x <<< ((1 : Int32).toInt64 &&& 63)) ||| y) = (2 * uN x) % 18446744073709551616 + uN y := by
  have h1 : uN ((x <<< ((1 : Int32).toInt64 &&& 63)) ||| y) = uN (x <<< ((1 : Int32).toInt64 &&& 63)) ||| uN y := UInt64.toNat_or _ _
  have h2 : (2 * uN x) % 18446744073709551616 = 2 ^ 1 * (uN x % 9223372036854775808) := by omega
  rw [h1, uN_shl, h2]
  exact (Nat.two_pow_add_eq_or_of_lt (i := 1) hy _).symm
theorem nat_xor {a : Nat} (h : a < 18446744073709551616) : a ^^^ 2 ^ 63 = (a + 9223372036854775808) % 18446744073709551616 := by
  have h1 : (a ^^^ 2 ^ 63) % 2 ^ 63 = a % 2 ^ 63 := by rw [Nat.xor_mod_two_pow, Nat.mod_self, Nat.xor_zero]
  have h2 : (a ^^^ 2 ^ 63) / 2 ^ 63 = (a / 2 ^ 63) ^^^ 1 := by rw [Nat.xor_div_two_pow, Nat.div_self (Nat.two_pow_pos 63)]
  have h3 : a / 2 ^ 63 = 0 ∨ a / 2 ^ 63 = 1 := by omega
  generalize a ^^^ 2 ^ 63 = t at h1 h2
  rcases h3 with h3 | h3
  · rw [h3] at h2
    have h2 : t / 2 ^ 63 = 1 := h2
    omega
  · rw [h3] at h2
    have h2 : t / 2 ^ 63 = 0 := h2
    omega
theorem uN_xor (x : Int64) : uN (x ^^^ (-9223372036854775808)) = (uN x + 9223372036854775808) % 18446744073709551616 := by
  rw [← nat_xor (uN_lt x)]
  exact UInt64.toNat_xor _ _
theorem uN_int (x : Int64) : x.toInt = if 2 * uN x < 18446744073709551616 then (uN x : Int) else (uN x : Int) - 18446744073709551616 := BitVec.toInt_eq_toNat_cond _
theorem uN_le (x y : Int64) : (x ^^^ (-9223372036854775808)) ≤ (y ^^^ (-9223372036854775808)) ↔ uN x ≤ uN y := by
  have hx := uN_lt x
  have hy := uN_lt y
  rw [Int64.le_iff_toInt_le, uN_int, uN_int, uN_xor, uN_xor]
  omega
theorem uN_sk (x : Int64) {k : Nat} (hk : k < 64) : uN (x.toUInt64 >>> ((nI k).toInt64.toUInt64 &&& Int64.toUInt64 63)).toInt64 = uN x / 2 ^ k := by
  have h : ((nI k).toInt64.toUInt64 &&& Int64.toUInt64 63).toNat % 64 = k := by
    rw [nI_l (by omega), UInt64.toNat_and]
    have e : (lN k).toUInt64.toNat = k % 2 ^ 64 := rfl
    have e2 : (Int64.toUInt64 63).toNat = 2 ^ 6 - 1 := by decide
    rw [e, e2, Nat.and_two_pow_sub_one_eq_mod]
    omega
  rw [uN_shr, h]
/-! ===== unsigned comparison by xor with the least ===== -/
theorem lN_bv (n : Nat) : (lN n).toBitVec = BitVec.ofNat 64 n := rfl
theorem lN_nat {n : Nat} (h : n < 2 ^ 64) : (lN n).toBitVec.toNat = n := by rw [lN_bv, BitVec.toNat_ofNat]; exact Nat.mod_eq_of_lt h
theorem lN_xor (a b : Nat) : lN a ^^^ lN b = lN (a ^^^ b) := by
  apply Int64.toBitVec_inj.mp; rw [Int64.toBitVec_xor, lN_bv, lN_bv, lN_bv]; apply BitVec.eq_of_getLsbD_eq; intro i hi; simp [BitVec.getLsbD_ofNat, Nat.testBit_xor, hi]
theorem lN_ti {m : Nat} (h : m < 2 ^ 64) : (lN m).toInt = if m < 2 ^ 63 then (m : Int) else (m : Int) - 2 ^ 64 := by
  have c := BitVec.toInt_eq_toNat_cond (lN m).toBitVec
  rw [lN_nat h] at c
  show (lN m).toBitVec.toInt = _
  rw [c]
  split <;> split <;> omega
theorem xor63 {x : Nat} (h : x < 2 ^ 63) : x ^^^ 2 ^ 63 = 2 ^ 63 + x := by
  apply Nat.eq_of_testBit_eq
  intro i
  rw [Nat.testBit_xor, Nat.testBit_two_pow]
  rcases Nat.lt_trichotomy i 63 with z | z | z
  · rw [Nat.testBit_two_pow_add_gt z, decide_eq_false (by omega)]; simp
  · subst z; rw [Nat.testBit_two_pow_add_eq]; simp
  · have hp : 2 ^ 64 ≤ 2 ^ i := Nat.pow_le_pow_right (by decide) z
    rw [Nat.testBit_lt_two_pow (show x < 2 ^ i by omega), Nat.testBit_lt_two_pow (show 2 ^ 63 + x < 2 ^ i by omega), decide_eq_false (by omega)]; rfl
theorem xorS {a : Nat} (h : a < 2 ^ 64) : (lN a ^^^ (-9223372036854775808)).toInt = (a : Int) - 2 ^ 63 := by
  rw [show (-9223372036854775808 : Int64) = lN (2 ^ 63) from by decide +kernel, lN_xor]
  rcases Nat.lt_or_ge a (2 ^ 63) with z | z
  · rw [xor63 z, lN_ti (by omega), if_neg (by omega)]; omega
  · obtain ⟨x, rfl⟩ : ∃ x, a = 2 ^ 63 + x := ⟨a - 2 ^ 63, by omega⟩
    rw [← xor63 (by omega), Nat.xor_assoc, Nat.xor_self, Nat.xor_zero, lN_ti (by omega), if_pos (by omega), xor63 (by omega)]; omega
theorem ultL {a b : Nat} (ha : a < 2 ^ 64) (hb : b < 2 ^ 64) : ((lN b ^^^ (-9223372036854775808)) ≤ (lN a ^^^ (-9223372036854775808))) ↔ b ≤ a := by
  rw [Int64.le_iff_toInt_le, xorS ha, xorS hb]; omega
/-! ===== Int64 masks of n low bits ===== -/
theorem cr_bits (W U M : BitVec 64) : ((W &&& U) &&& (U &&& (M ^^^ BitVec.allOnes 64))) = 0#64 ↔ (W &&& U) &&& M = W &&& U := by
  constructor
  · intro h
    apply BitVec.eq_of_getLsbD_eq
    intro i hi
    have e := congrArg (fun x => BitVec.getLsbD x i) h
    simp only [BitVec.getLsbD_and, BitVec.getLsbD_xor, BitVec.getLsbD_allOnes, BitVec.getLsbD_zero, hi, decide_true] at e ⊢
    revert e
    cases W.getLsbD i <;> cases U.getLsbD i <;> cases M.getLsbD i <;> decide
  · intro h
    apply BitVec.eq_of_getLsbD_eq
    intro i hi
    have e := congrArg (fun x => BitVec.getLsbD x i) h
    simp only [BitVec.getLsbD_and, BitVec.getLsbD_xor, BitVec.getLsbD_allOnes, BitVec.getLsbD_zero, hi, decide_true] at e ⊢
    revert e
    cases W.getLsbD i <;> cases U.getLsbD i <;> cases M.getLsbD i <;> decide
theorem cr_mask (w U m : Int64) (n : Nat) (hm : m.toBitVec.toNat = 2 ^ n - 1) : ((w &&& U) &&& (U &&& (m ^^^ (-1)))) = 0 ↔ (w &&& U).toBitVec.toNat < 2 ^ n := by
  have e0 : (-1 : Int64).toBitVec = BitVec.allOnes 64 := by decide
  have z0 : (0 : Int64).toBitVec = 0#64 := by decide
  rw [← Int64.toBitVec_inj, z0, Int64.toBitVec_and, Int64.toBitVec_and, Int64.toBitVec_and, Int64.toBitVec_xor, e0, cr_bits]
  generalize w.toBitVec &&& U.toBitVec = T
  rw [← BitVec.toNat_inj, BitVec.toNat_and, hm, Nat.and_two_pow_sub_one_eq_mod]
  constructor
  · intro h
    have t := Nat.mod_lt T.toNat (Nat.two_pow_pos n)
    rw [h] at t
    exact t
  · exact Nat.mod_eq_of_lt
theorem cr_shr (t : Int64) (x : UInt64) (n : Nat) (hx : x.toNat % 64 = n) : (t.toUInt64 >>> x).toInt64 = 0 ↔ t.toBitVec.toNat < 2 ^ n := by
  rw [← Int64.toBitVec_inj, ← BitVec.toNat_inj]
  show (t.toUInt64 >>> x).toNat = 0 ↔ t.toUInt64.toNat < 2 ^ n
  rw [UInt64.toNat_shiftRight, hx, Nat.shiftRight_eq_div_pow]
  constructor
  · intro h
    have d : t.toUInt64.toNat / 2 ^ n < 1 := by
      rw [h]
      decide
    have e := (Nat.div_lt_iff_lt_mul (Nat.two_pow_pos n)).mp d
    rw [Nat.one_mul] at e
    exact e
  · exact Nat.div_eq_of_lt
theorem cr_amt (s : Int64) : ∃ n, n < 64 ∧ s &&& 63 = lN n ∧ (s.toUInt64 &&& Int64.toUInt64 63).toNat % 64 = n := by
  have e : (s.toUInt64 &&& Int64.toUInt64 63).toNat = s.toUInt64.toNat % 2 ^ 6 := by
    rw [UInt64.toNat_and, show (Int64.toUInt64 63).toNat = 2 ^ 6 - 1 from by decide, Nat.and_two_pow_sub_one_eq_mod]
  refine ⟨s.toUInt64.toNat % 2 ^ 6, by omega, ?_, by omega⟩
  rw [← Int64.toBitVec_inj, ← BitVec.toNat_inj]
  show (s.toUInt64 &&& Int64.toUInt64 63).toNat = (BitVec.ofNat 64 (s.toUInt64.toNat % 2 ^ 6)).toNat
  rw [e, BitVec.toNat_ofNat]
  omega
end
section
/-! sums, counts, bit sets -/
def bb_sm (f : Nat → Nat) : Nat → Nat
  | 0 => 0
  | k + 1 => bb_sm f k + f k
theorem bb_sm_s (f : Nat → Nat) (k : Nat) : bb_sm f (k + 1) = bb_sm f k + f k := rfl
theorem bb_sm_0 (f : Nat → Nat) : bb_sm f 0 = 0 := rfl
theorem bb_sm_cg {f g : Nat → Nat} : ∀ k : Nat, (∀ i, i < k → f i = g i) → bb_sm f k = bb_sm g k := by
  intro k
  induction k with
  | zero => intro _; rfl
  | succ k ih => intro h; rw [bb_sm_s, bb_sm_s, ih (fun i hi => h i (by omega)), h k (by omega)]
theorem bb_sm_z {f : Nat → Nat} : ∀ k : Nat, (∀ i, i < k → f i = 0) → bb_sm f k = 0 := by
  intro k
  induction k with
  | zero => intro _; rfl
  | succ k ih => intro h; rw [bb_sm_s, ih (fun i hi => h i (by omega)), h k (by omega)]
theorem bb_sm_add (f g : Nat → Nat) : ∀ k : Nat, bb_sm (fun i => f i + g i) k = bb_sm f k + bb_sm g k := by
  intro k
  induction k with
  | zero => rfl
  | succ k ih => rw [bb_sm_s, bb_sm_s, bb_sm_s, ih]; omega
theorem bb_sm_le {f g : Nat → Nat} : ∀ k : Nat, (∀ i, i < k → f i ≤ g i) → bb_sm f k ≤ bb_sm g k := by
  intro k
  induction k with
  | zero => intro _; exact Nat.le_refl _
  | succ k ih =>
    intro h
    have h1 := ih (fun i hi => h i (by omega))
    have h2 := h k (by omega)
    rw [bb_sm_s, bb_sm_s]; omega
/-- one value more, at i0 -/
theorem bb_sm_up {f g : Nat → Nat} {i0 d : Nat} : ∀ k : Nat, i0 < k → (∀ i, i < k → i ≠ i0 → f i = g i) → f i0 = g i0 + d → bb_sm f k = bb_sm g k + d := by
  intro k
  induction k with
  | zero => intro h; omega
  | succ k ih =>
    intro hi h he
    rw [bb_sm_s, bb_sm_s]
    by_cases hk : i0 = k
    · subst hk
      rw [bb_sm_cg i0 (fun i hi => h i (by omega) (by omega)), he]; omega
    · rw [ih (by omega) (fun i hi' hn => h i (by omega) hn) he, h k (by omega) (fun z => hk z.symm)]; omega
/-- sums past the last nonzero value -/
theorem bb_sm_ext {f : Nat → Nat} {m : Nat} : ∀ k : Nat, m ≤ k → (∀ i, m ≤ i → i < k → f i = 0) → bb_sm f k = bb_sm f m := by
  intro k
  induction k with
  | zero => intro h _; rw [Nat.le_zero.mp h]
  | succ k ih =>
    intro h hz
    by_cases hk : m = k + 1
    · rw [hk]
    · rw [bb_sm_s, ih (by omega) (fun i h1 h2 => hz i h1 (by omega)), hz k (by omega) (by omega)]; omega
/-- two sums, one order or the other -/
theorem bb_sm_swap (f : Nat → Nat → Nat) (m : Nat) : ∀ k : Nat, bb_sm (fun i => bb_sm (fun j => f i j) m) k = bb_sm (fun j => bb_sm (fun i => f i j) k) m := by
  intro k
  induction k with
  | zero => exact (bb_sm_z m (fun i _ => rfl)).symm
  | succ k ih => rw [bb_sm_s, ih, ← bb_sm_add]; rfl
/-- a sum with one value alone -/
theorem bb_sm_one {f : Nat → Nat} {i0 : Nat} : ∀ k : Nat, i0 < k → (∀ i, i < k → i ≠ i0 → f i = 0) → bb_sm f k = f i0 := by
  intro k hk h
  have := bb_sm_up (f := f) (g := fun _ => 0) (i0 := i0) (d := f i0) k hk h (by simp)
  rw [this, bb_sm_z k (fun _ _ => rfl)]; omega
def bb_cn (p : Nat → Bool) (k : Nat) : Nat := bb_sm (fun i => (p i).toNat) k
theorem bb_cn_s (p : Nat → Bool) (k : Nat) : bb_cn p (k + 1) = bb_cn p k + (p k).toNat := rfl
theorem bb_cn_0 (p : Nat → Bool) : bb_cn p 0 = 0 := rfl
theorem bb_cn_cg {p q : Nat → Bool} (k : Nat) (h : ∀ i, i < k → p i = q i) : bb_cn p k = bb_cn q k := bb_sm_cg k (fun i hi => by rw [h i hi])
theorem bb_cn_le (p : Nat → Bool) : ∀ k : Nat, bb_cn p k ≤ k := by
  intro k
  induction k with
  | zero => exact Nat.le_refl _
  | succ k ih => rw [bb_cn_s]; have := Bool.toNat_le (p k); omega
theorem bb_cn_mono {p q : Nat → Bool} (k : Nat) (h : ∀ i, i < k → p i = true → q i = true) : bb_cn p k ≤ bb_cn q k := by
  refine bb_sm_le k (fun i hi => ?_)
  show (p i).toNat ≤ (q i).toNat
  cases hp : p i with
  | false => exact Nat.zero_le _
  | true => rw [h i hi hp]; exact Nat.le_refl _
theorem bb_cn_up {p q : Nat → Bool} {i0 : Nat} (k : Nat) (hi : i0 < k) (h : ∀ i, i < k → i ≠ i0 → p i = q i) (hp : p i0 = true) (hq : q i0 = false) : bb_cn p k = bb_cn q k + 1 :=
  bb_sm_up k hi (fun i hk hn => by rw [h i hk hn]) (by rw [hp, hq]; rfl)
theorem bb_cn_lt {p q : Nat → Bool} {i0 : Nat} (k : Nat) (h : ∀ i, i < k → p i = true → q i = true) (hi : i0 < k) (hp : p i0 = false) (hq : q i0 = true) : bb_cn p k < bb_cn q k := by
  have h1 : bb_cn (fun i => p i || decide (i = i0)) k = bb_cn p k + 1 := by
    refine bb_cn_up (i0 := i0) k hi (fun i _ hn => ?_) ?_ hp
    · show (p i || decide (i = i0)) = p i
      rw [decide_eq_false hn, Bool.or_false]
    · show (p i0 || decide (i0 = i0)) = true
      rw [decide_eq_true rfl, Bool.or_true]
  have h2 : bb_cn (fun i => p i || decide (i = i0)) k ≤ bb_cn q k := by
    refine bb_cn_mono k (fun i hk hc => ?_)
    have hc' : (p i || decide (i = i0)) = true := hc
    rw [Bool.or_eq_true] at hc'
    rcases hc' with z | z
    · exact h i hk z
    · rw [of_decide_eq_true z]; exact hq
  omega
theorem bb_cn_all {p : Nat → Bool} : ∀ k : Nat, bb_cn p k = k → ∀ i, i < k → p i = true := by
  intro k
  induction k with
  | zero => intro _ i hi; omega
  | succ k ih =>
    intro h i hi
    rw [bb_cn_s] at h
    have h1 := bb_cn_le p k
    have h2 := Bool.toNat_le (p k)
    by_cases hk : i = k
    · subst hk
      cases hp : p i with
      | true => rfl
      | false => rw [hp] at h; simp at h; omega
    · exact ih (by omega) i (by omega)
theorem bb_cn_none {p : Nat → Bool} (k : Nat) (h : bb_cn p k = 0) : ∀ i, i < k → p i = false := by
  intro i hi
  cases hp : p i with
  | false => rfl
  | true =>
    have := bb_cn_lt (p := fun _ => false) (q := p) (i0 := i) k (fun _ _ z => by simp at z) hi rfl hp
    omega
theorem bb_cn_z {p : Nat → Bool} (k : Nat) (h : ∀ i, i < k → p i = false) : bb_cn p k = 0 := bb_sm_z k (fun i hi => by rw [h i hi]; rfl)
/-- is there one -/
def bb_ex (p : Nat → Bool) : Nat → Bool
  | 0 => false
  | k + 1 => bb_ex p k || p k
theorem bb_ex_s (p : Nat → Bool) (k : Nat) : bb_ex p (k + 1) = (bb_ex p k || p k) := rfl
theorem bb_ex_iff (p : Nat → Bool) : ∀ k : Nat, bb_ex p k = true ↔ ∃ i, i < k ∧ p i = true := by
  intro k
  induction k with
  | zero => exact ⟨fun h => by simp [bb_ex] at h, fun ⟨i, hi, _⟩ => by omega⟩
  | succ k ih =>
    rw [bb_ex_s, Bool.or_eq_true, ih]
    constructor
    · rintro (⟨i, hi, hp⟩ | h)
      · exact ⟨i, by omega, hp⟩
      · exact ⟨k, by omega, h⟩
    · rintro ⟨i, hi, hp⟩
      by_cases hk : i = k
      · subst hk; exact Or.inr hp
      · exact Or.inl ⟨i, by omega, hp⟩
theorem bb_ex_f (p : Nat → Bool) (k : Nat) : bb_ex p k = false ↔ ∀ i, i < k → p i = false := by
  constructor
  · intro h i hi
    cases hp : p i with
    | false => rfl
    | true => rw [(bb_ex_iff p k).mpr ⟨i, hi, hp⟩] at h; exact absurd h (by decide)
  · intro h
    cases he : bb_ex p k with
    | false => rfl
    | true =>
      obtain ⟨i, hi, hp⟩ := (bb_ex_iff p k).mp he
      rw [h i hi] at hp; exact absurd hp (by decide)
/-- the set of a predicate, as a number -/
def bb_bs (p : Nat → Bool) : Nat → Nat
  | 0 => 0
  | k + 1 => bb_bs p k ||| (bif p k then 2 ^ k else 0)
theorem bb_bs_s (p : Nat → Bool) (k : Nat) : bb_bs p (k + 1) = bb_bs p k ||| (bif p k then 2 ^ k else 0) := rfl
theorem bb_bs_t (p : Nat → Bool) (k : Nat) (h : p k = true) : bb_bs p (k + 1) = bb_bs p k ||| 2 ^ k := by rw [bb_bs_s, h]; rfl
theorem bb_bs_f (p : Nat → Bool) (k : Nat) (h : p k = false) : bb_bs p (k + 1) = bb_bs p k := by rw [bb_bs_s, h]; exact Nat.or_zero _
theorem bb_bs_tb (p : Nat → Bool) : ∀ k i : Nat, (bb_bs p k).testBit i = (decide (i < k) && p i) := by
  intro k
  induction k with
  | zero => intro i; simp [bb_bs]
  | succ k ih =>
    intro i
    rw [bb_bs_s, Nat.testBit_or, ih]
    cases hp : p k with
    | false =>
      simp only [cond_false, Nat.zero_testBit, Bool.or_false]
      by_cases hi : i = k
      · subst hi; simp [hp]
      · have : (i < k) ↔ (i < k + 1) := by omega
        simp only [this]
    | true =>
      simp only [cond_true, Nat.testBit_two_pow]
      by_cases hi : i = k
      · subst hi; simp [hp]
      · have h1 : (i < k) ↔ (i < k + 1) := by omega
        have h2 : ¬ k = i := fun z => hi z.symm
        simp only [h1, h2, decide_false, Bool.or_false]
theorem bb_bs_b (p : Nat → Bool) {k i : Nat} (h : i < k) : (bb_bs p k).testBit i = p i := by rw [bb_bs_tb, decide_eq_true h, Bool.true_and]
theorem bb_bs_lt (p : Nat → Bool) (k : Nat) : bb_bs p k < 2 ^ k := Nat.lt_pow_two_of_testBit _ (fun i hi => by rw [bb_bs_tb, decide_eq_false (by omega), Bool.false_and])
theorem bb_bs_cg {p q : Nat → Bool} (k : Nat) (h : ∀ i, i < k → p i = q i) : bb_bs p k = bb_bs q k := Nat.eq_of_testBit_eq (fun i => by
  rw [bb_bs_tb, bb_bs_tb]
  by_cases hi : i < k
  · rw [h i hi]
  · rw [decide_eq_false hi, Bool.false_and, Bool.false_and])
theorem bb_big {s i : Nat} (hs : s < 128) (hi : 7 ≤ i) : s.testBit i = false := Nat.testBit_lt_two_pow (Nat.lt_of_lt_of_le (show s < 2 ^ 7 from hs) (Nat.pow_le_pow_right (by decide) hi))
theorem bb_lt7 {s i : Nat} (hs : s < 128) (h : s.testBit i = true) : i < 7 := by
  rcases Nat.lt_or_ge i 7 with z | z
  · exact z
  · rw [bb_big hs z] at h; exact absurd h (by decide)
theorem bb_ext {s t : Nat} (hs : s < 128) (ht : t < 128) (h : ∀ i, i < 7 → s.testBit i = t.testBit i) : s = t := Nat.eq_of_testBit_eq (fun i => by
  rcases Nat.lt_or_ge i 7 with z | z
  · exact h i z
  · rw [bb_big hs z, bb_big ht z])
theorem bb_self {s : Nat} (hs : s < 128) : bb_bs s.testBit 7 = s := bb_ext (bb_bs_lt _ 7) hs (fun i hi => bb_bs_b _ hi)
theorem bb_ne0 {s : Nat} (hs : s < 128) (h : s ≠ 0) : ∃ i, i < 7 ∧ s.testBit i = true := by
  rcases Classical.em (∃ i, i < 7 ∧ s.testBit i = true) with z | z
  · exact z
  · exfalso
    refine h (bb_ext hs (by decide) (fun i hi => ?_))
    rw [Nat.zero_testBit]
    cases hb : s.testBit i with
    | false => rfl
    | true => exact absurd ⟨i, hi, hb⟩ z
/-- without one member -/
def bb_cl (s a : Nat) : Nat := bb_bs (fun i => s.testBit i && !decide (i = a)) 7
theorem bb_cl_b {s a i : Nat} (hi : i < 7) : (bb_cl s a).testBit i = (s.testBit i && !decide (i = a)) := bb_bs_b _ hi
theorem bb_cl_lt (s a : Nat) : bb_cl s a < 128 := bb_bs_lt _ 7
/-- without the members of t -/
def bb_df (s t : Nat) : Nat := bb_bs (fun i => s.testBit i && !t.testBit i) 7
theorem bb_df_b {s t i : Nat} (hi : i < 7) : (bb_df s t).testBit i = (s.testBit i && !t.testBit i) := bb_bs_b _ hi
theorem bb_df_lt (s t : Nat) : bb_df s t < 128 := bb_bs_lt _ 7
/-- the least member, by the component's own loop -/
def bb_lw (s : Nat) : Nat → Nat → Nat
  | 0, f => f
  | k + 1, f => bb_lw s k (bif s.testBit k then k else f)
theorem bb_lw_s (s k f : Nat) : bb_lw s (k + 1) f = bb_lw s k (bif s.testBit k then k else f) := rfl
def bb_lo (s : Nat) : Nat := bb_lw s 7 0
theorem bb_lo_d : ∀ s, s < 128 → s ≠ 0 → (s.testBit (bb_lo s) = true ∧ bb_lo s < 7 ∧ ∀ i, i < 7 → i < bb_lo s → s.testBit i = false) := by decide +kernel
theorem bb_lo_b {s : Nat} (hs : s < 128) (h : s ≠ 0) : s.testBit (bb_lo s) = true := (bb_lo_d s hs h).1
theorem bb_lo_7 {s : Nat} (hs : s < 128) (h : s ≠ 0) : bb_lo s < 7 := (bb_lo_d s hs h).2.1
theorem bb_lo_n {s : Nat} (hs : s < 128) (h : s ≠ 0) {i : Nat} (hi : i < bb_lo s) : s.testBit i = false := (bb_lo_d s hs h).2.2 i (Nat.lt_trans hi (bb_lo_7 hs h)) hi
theorem bb_lo_le {s i : Nat} (hs : s < 128) (hi : s.testBit i = true) : bb_lo s ≤ i := by
  rcases Nat.lt_or_ge i (bb_lo s) with z | z
  · have h0 : s ≠ 0 := fun e => by rw [e, Nat.zero_testBit] at hi; exact absurd hi (by decide)
    rw [bb_lo_n hs h0 z] at hi; exact absurd hi (by decide)
  · exact z
theorem bb_lo_u {s i : Nat} (hs : s < 128) (hi : s.testBit i = true) (hm : ∀ j, j < i → s.testBit j = false) : bb_lo s = i := by
  have h0 : s ≠ 0 := fun e => by rw [e, Nat.zero_testBit] at hi; exact absurd hi (by decide)
  have h1 := bb_lo_le hs hi
  rcases Nat.lt_or_ge (bb_lo s) i with z | z
  · have := hm _ z
    rw [bb_lo_b hs h0] at this; exact absurd this (by decide)
  · omega
/-! the same over ints -/
theorem bb_bit : ∀ s, s < 128 → ∀ a, a < 7 → ((nI s >>> (nI a &&& 31)) &&& 1) = nI (s.testBit a).toNat := by decide +kernel
theorem bb_bit1 {s a : Nat} (hs : s < 128) (ha : a < 7) : (((nI s >>> (nI a &&& 31)) &&& 1) = 1) ↔ s.testBit a = true := by
  rw [bb_bit s hs a ha]
  cases s.testBit a <;> decide
theorem bb_bit0 {s a : Nat} (hs : s < 128) (ha : a < 7) : (((nI s >>> (nI a &&& 31)) &&& 1) = 0) ↔ s.testBit a = false := by
  rw [bb_bit s hs a ha]
  cases s.testBit a <;> decide
theorem bb_bit31 : ∀ s, s < 128 → ∀ a, a < 7 → (((nI s >>> (nI a &&& 31)) <<< ((31 : Int32) &&& 31)) = 0 ↔ s.testBit a = false) := by decide +kernel
theorem bb_shl : ∀ a, a < 8 → (1 : Int32) <<< (nI a &&& 31) = nI (2 ^ a) := by decide +kernel
theorem bb_full : ∀ n, n < 8 → ((1 : Int32) <<< (nI n &&& 31)) - 1 = nI (2 ^ n - 1) := by decide +kernel
theorem bb_low : ∀ s, s < 128 → s ≠ 0 → nI s &&& (-nI s) = nI (2 ^ bb_lo s) := by decide +kernel
theorem bb_lo2 : ∀ a, a < 7 → bb_lo (2 ^ a) = a := by decide +kernel
theorem bb_pred : ∀ s, s < 128 → s ≠ 0 → nI s &&& (nI s - 1) = nI (bb_cl s (bb_lo s)) := by decide +kernel
theorem bb_and (a b : Nat) : nI a &&& nI b = nI (a &&& b) := nx_and a b
theorem bb_or (a b : Nat) : nI a ||| nI b = nI (a ||| b) := by
  apply Int32.toBitVec_inj.1
  show BitVec.ofNat 32 a ||| BitVec.ofNat 32 b = BitVec.ofNat 32 (a ||| b)
  apply BitVec.eq_of_getLsbD_eq
  intro i hi
  simp [hi]
theorem bb_bt {s : Nat} (i : Nat) (hi : i < 32) : bt (nI s) i = s.testBit i := by
  show (BitVec.ofNat 32 s).getLsbD i = _
  rw [BitVec.getLsbD_ofNat, decide_eq_true hi, Bool.true_and]
theorem bb_dfI {s t : Nat} (hs : s < 128) : nI s &&& (nI t ^^^ (-1)) = nI (bb_df s t) := b_ext (fun i hi => by
  rw [b_and, b_xor, b_m1 i hi, bb_bt i hi, bb_bt i hi, bb_bt i hi]
  rcases Nat.lt_or_ge i 7 with z | z
  · rw [bb_df_b z, Bool.xor_true]
  · rw [bb_big hs z, bb_big (bb_df_lt s t) z, Bool.false_and])
theorem bb_clI {s a : Nat} (hs : s < 128) (ha : a < 7) : nI s &&& (((1 : Int32) <<< (nI a &&& 31)) ^^^ (-1)) = nI (bb_cl s a) := by
  rw [bb_shl a (by omega), bb_dfI hs]
  congr 1
  refine bb_ext (bb_df_lt _ _) (bb_cl_lt _ _) (fun i hi => ?_)
  rw [bb_df_b hi, bb_cl_b hi, Nat.testBit_two_pow]
  have : (a = i) ↔ (i = a) := ⟨fun z => z.symm, fun z => z.symm⟩
  simp only [this]
theorem bb_and_lt {s t : Nat} (hs : s < 128) : s &&& t < 128 := Nat.lt_of_le_of_lt Nat.and_le_left hs
theorem bb_or_lt {s t : Nat} (hs : s < 128) (ht : t < 128) : s ||| t < 128 := Nat.or_lt_two_pow (n := 7) hs ht
theorem bb_pow_lt {a : Nat} (ha : a < 7) : 2 ^ a < 128 := Nat.pow_lt_pow_right (by decide) ha
theorem bb_nI0 {s : Nat} (hs : s < 2 ^ 31) : nI s = 0 ↔ s = 0 := by rw [← nI_0]; exact nI_eq hs (by decide)
/-! numbers -/
theorem bb_m7 (a : Nat) : 7 * nI a = nI (7 * a) := pk_mul 7 a
theorem bb_m49 (a : Nat) : 49 * nI a = nI (49 * a) := pk_mul 49 a
theorem bb_ix (a b : Nat) : (7 * nI a) + nI b = nI (7 * a + b) := by rw [bb_m7, nI_add]
theorem bb_ix3 (s a b : Nat) : ((49 * nI s) + (7 * nI a)) + nI b = nI (49 * s + 7 * a + b) := by rw [bb_m7, bb_m49, nI_add, nI_add]
theorem bb_us {f : Nat → Int32} {k j : Nat} {x : Int32} (h : j = k) : upd f k x j = x := by subst h; exact pk_us
theorem bb_u (f : Nat → Int32) (k : Nat) (x : Int32) (j : Nat) : upd f k x j = if j = k then x else f j := rfl
theorem bb_ne {a : Nat} (h : a < 2 ^ 31) : ¬ nI a = -1 := fun e => by
  have := congrArg Int32.toInt e
  rw [nI_toInt h] at this
  have h1 : (-1 : Int32).toInt = -1 := by decide
  omega
theorem bb_ne4 {a : Nat} (h : a < 2 ^ 31) : ¬ nI a = -4 := fun e => by
  have := congrArg Int32.toInt e
  rw [nI_toInt h] at this
  have h1 : (-4 : Int32).toInt = -4 := by decide
  omega
theorem bb_tri (d : Nat) (h : d < 8) : (nI d * (nI d + 1)) / 2 = nI (d * (d + 1) / 2) := by
  have : ∀ d, d < 8 → (nI d * (nI d + 1)) / 2 = nI (d * (d + 1) / 2) := by decide +kernel
  exact this d h
end
section
/-! graphs on the atoms 0 .. 6: balls, reach, distances, pieces -/
/-- b is at most k edges from a -/
def gr_bl (G : Nat → Nat → Bool) (a : Nat) : Nat → Nat → Bool
  | 0, b => decide (a = b)
  | k + 1, b => gr_bl G a k b || bb_ex (fun c => gr_bl G a k c && G c b) 7
theorem gr_bl_s (G : Nat → Nat → Bool) (a k b : Nat) : gr_bl G a (k + 1) b = (gr_bl G a k b || bb_ex (fun c => gr_bl G a k c && G c b) 7) := rfl
theorem gr_bl_i (G : Nat → Nat → Bool) (a k b : Nat) : gr_bl G a (k + 1) b = true ↔ gr_bl G a k b = true ∨ ∃ c, c < 7 ∧ gr_bl G a k c = true ∧ G c b = true := by
  rw [gr_bl_s, Bool.or_eq_true, bb_ex_iff]
  constructor
  · rintro (h | ⟨c, hc, h⟩)
    · exact Or.inl h
    · exact Or.inr ⟨c, hc, (Bool.and_eq_true _ _ ▸ h)⟩
  · rintro (h | ⟨c, hc, h1, h2⟩)
    · exact Or.inl h
    · exact Or.inr ⟨c, hc, by show (gr_bl G a k c && G c b) = true; rw [h1, h2]; rfl⟩
theorem gr_bl_0 (G : Nat → Nat → Bool) (a : Nat) : gr_bl G a 0 a = true := decide_eq_true rfl
theorem gr_bl_up {G : Nat → Nat → Bool} {a k b : Nat} (h : gr_bl G a k b = true) : gr_bl G a (k + 1) b = true := (gr_bl_i G a k b).mpr (Or.inl h)
theorem gr_bl_le {G : Nat → Nat → Bool} {a k b : Nat} (h : gr_bl G a k b = true) : ∀ m : Nat, k ≤ m → gr_bl G a m b = true := by
  intro m
  induction m with
  | zero => intro hm; rw [← Nat.le_zero.mp hm]; exact h
  | succ m ih =>
    intro hm
    by_cases e : k = m + 1
    · rw [← e]; exact h
    · exact gr_bl_up (ih (by omega))
/-- the graph's edges are between atoms -/
def gr_in (G : Nat → Nat → Bool) : Prop := ∀ a b, G a b = true → a < 7 ∧ b < 7
def gr_sy (G : Nat → Nat → Bool) : Prop := ∀ a b, G a b = G b a
theorem gr_bl_7 {G : Nat → Nat → Bool} (hG : gr_in G) {a : Nat} (ha : a < 7) : ∀ k b : Nat, gr_bl G a k b = true → b < 7 := by
  intro k
  induction k with
  | zero => intro b h; rw [← of_decide_eq_true (show decide (a = b) = true from h)]; exact ha
  | succ k ih =>
    intro b h
    rcases (gr_bl_i G a k b).mp h with z | ⟨c, _, _, z⟩
    · exact ih b z
    · exact (hG c b z).2
theorem gr_st {G : Nat → Nat → Bool} (hG : gr_in G) {a j : Nat} (hs : ∀ b, b < 7 → gr_bl G a (j + 1) b = true → gr_bl G a j b = true) : ∀ d b : Nat, b < 7 → gr_bl G a (j + d) b = true → gr_bl G a j b = true := by
  intro d
  induction d with
  | zero => intro b _ h; exact h
  | succ d ih =>
    intro b hb h
    rcases (gr_bl_i G a (j + d) b).mp h with z | ⟨c, hc, h1, h2⟩
    · exact ih b hb z
    · exact hs b hb ((gr_bl_i G a j b).mpr (Or.inr ⟨c, hc, ih c hc h1, h2⟩))
theorem gr_grow {G : Nat → Nat → Bool} {a : Nat} (ha : a < 7) : ∀ k : Nat, (∃ j, j ≤ k ∧ ∀ b, b < 7 → gr_bl G a (j + 1) b = true → gr_bl G a j b = true) ∨ k + 1 ≤ bb_cn (gr_bl G a k) 7 := by
  intro k
  induction k with
  | zero =>
    refine Or.inr ?_
    have := bb_cn_lt (p := fun _ => false) (q := gr_bl G a 0) (i0 := a) 7 (fun _ _ z => by simp at z) ha rfl (gr_bl_0 G a)
    omega
  | succ k ih =>
    rcases ih with ⟨j, hj, h⟩ | h
    · exact Or.inl ⟨j, by omega, h⟩
    · rcases Classical.em (∀ b, b < 7 → gr_bl G a (k + 1) b = true → gr_bl G a k b = true) with z | z
      · exact Or.inl ⟨k, by omega, z⟩
      · refine Or.inr ?_
        have ⟨b, hb⟩ := Classical.not_forall.mp z
        have ⟨hb7, hb2⟩ := Classical.not_imp.mp hb
        have ⟨hb3, hb4⟩ := Classical.not_imp.mp hb2
        have hb5 : gr_bl G a k b = false := by
          cases hz : gr_bl G a k b with
          | false => rfl
          | true => exact absurd hz hb4
        have := bb_cn_lt (p := gr_bl G a k) (q := gr_bl G a (k + 1)) (i0 := b) 7 (fun _ _ z => gr_bl_up z) hb7 hb5 hb3
        omega
/-- what is reached at all is reached by six edges -/
theorem gr_six {G : Nat → Nat → Bool} (hG : gr_in G) {a : Nat} (ha : a < 7) {k b : Nat} (h : gr_bl G a k b = true) : gr_bl G a 6 b = true := by
  have hb := gr_bl_7 hG ha k b h
  rcases gr_grow (G := G) ha 6 with ⟨j, hj, hs⟩ | hc
  · refine gr_bl_le (gr_st hG hs k b hb (gr_bl_le h (j + k) (by omega))) 6 hj
  · have h7 : bb_cn (gr_bl G a 6) 7 = 7 := Nat.le_antisymm (bb_cn_le _ 7) hc
    exact bb_cn_all 7 h7 b hb
def gr_R (G : Nat → Nat → Bool) (a b : Nat) : Bool := gr_bl G a 6 b
theorem gr_R_of {G : Nat → Nat → Bool} (hG : gr_in G) {a k b : Nat} (ha : a < 7) (h : gr_bl G a k b = true) : gr_R G a b = true := gr_six hG ha h
theorem gr_R_r (G : Nat → Nat → Bool) (a : Nat) : gr_R G a a = true := gr_bl_le (gr_bl_0 G a) 6 (by omega)
theorem gr_bl_tr {G : Nat → Nat → Bool} (hG : gr_in G) {a b : Nat} (ha : a < 7) {k : Nat} (h : gr_bl G a k b = true) : ∀ m c : Nat, gr_bl G b m c = true → gr_bl G a (k + m) c = true := by
  have hb := gr_bl_7 hG ha k b h
  intro m
  induction m with
  | zero => intro c hc; rw [← of_decide_eq_true (show decide (b = c) = true from hc)]; exact h
  | succ m ih =>
    intro c hc
    rcases (gr_bl_i G b m c).mp hc with z | ⟨e, he, h1, h2⟩
    · exact gr_bl_up (ih c z)
    · exact (gr_bl_i G a (k + m) c).mpr (Or.inr ⟨e, he, ih e h1, h2⟩)
theorem gr_R_t {G : Nat → Nat → Bool} (hG : gr_in G) {a b c : Nat} (ha : a < 7) (h1 : gr_R G a b = true) (h2 : gr_R G b c = true) : gr_R G a c = true := gr_six hG ha (gr_bl_tr hG ha h1 6 c h2)
theorem gr_R_7 {G : Nat → Nat → Bool} (hG : gr_in G) {a b : Nat} (ha : a < 7) (h : gr_R G a b = true) : b < 7 := gr_bl_7 hG ha 6 b h
theorem gr_bl_1 {G : Nat → Nat → Bool} (hG : gr_in G) {a b : Nat} (h : G a b = true) : gr_bl G a 1 b = true := (gr_bl_i G a 0 b).mpr (Or.inr ⟨a, (hG a b h).1, gr_bl_0 G a, h⟩)
theorem gr_bl_sy {G : Nat → Nat → Bool} (hG : gr_in G) (hs : gr_sy G) {a : Nat} (ha : a < 7) : ∀ k b : Nat, gr_bl G a k b = true → gr_bl G b k a = true := by
  intro k
  induction k with
  | zero => intro b h; rw [← of_decide_eq_true (show decide (a = b) = true from h)]; exact gr_bl_0 G a
  | succ k ih =>
    intro b h
    rcases (gr_bl_i G a k b).mp h with z | ⟨c, hc, h1, h2⟩
    · exact gr_bl_up (ih b z)
    · have hb := (hG c b h2).2
      have e := gr_bl_tr hG hb (gr_bl_1 hG (show G b c = true by rw [hs]; exact h2)) k a (ih c h1)
      rw [Nat.add_comm] at e; exact e
theorem gr_R_s {G : Nat → Nat → Bool} (hG : gr_in G) (hs : gr_sy G) {a b : Nat} (ha : a < 7) (h : gr_R G a b = true) : gr_R G b a = true := gr_bl_sy hG hs ha 6 b h
theorem gr_R_e {G : Nat → Nat → Bool} (hG : gr_in G) {a b : Nat} (h : G a b = true) : gr_R G a b = true := gr_six hG (hG a b h).1 (gr_bl_1 hG h)
/-- the least number of edges -/
def gr_D (G : Nat → Nat → Bool) (a b d : Nat) : Prop := gr_bl G a d b = true ∧ ∀ j, j < d → gr_bl G a j b = false
theorem gr_D_u {G : Nat → Nat → Bool} {a b d e : Nat} (h : gr_D G a b d) (h' : gr_D G a b e) : d = e := by
  rcases Nat.lt_trichotomy d e with z | z | z
  · have := h'.2 d z; rw [h.1] at this; exact absurd this (by decide)
  · exact z
  · have := h.2 e z; rw [h'.1] at this; exact absurd this (by decide)
theorem gr_D_s {G : Nat → Nat → Bool} (hG : gr_in G) (hs : gr_sy G) {a b d : Nat} (ha : a < 7) (hb : b < 7) (h : gr_D G a b d) : gr_D G b a d := by
  refine ⟨gr_bl_sy hG hs ha d b h.1, fun j hj => ?_⟩
  cases hz : gr_bl G b j a with
  | false => rfl
  | true => have := h.2 j hj; rw [gr_bl_sy hG hs hb j a hz] at this; exact absurd this (by decide)
/-- distance as a number: 100 if there is no way -/
def gr_dn (G : Nat → Nat → Bool) (a b : Nat) : Nat → Nat → Nat
  | 0, _ => 100
  | d + 1, i => bif gr_bl G a i b then i else gr_dn G a b d (i + 1)
theorem gr_dn_s (G : Nat → Nat → Bool) (a b d i : Nat) : gr_dn G a b (d + 1) i = bif gr_bl G a i b then i else gr_dn G a b d (i + 1) := rfl
def gr_ds (G : Nat → Nat → Bool) (a b : Nat) : Nat := gr_dn G a b 7 0
theorem gr_ds_D {G : Nat → Nat → Bool} {a b : Nat} (h : gr_R G a b = true) : gr_D G a b (gr_ds G a b) ∧ gr_ds G a b ≤ 6 := by
  have key : ∀ d i, i + d = 7 → (∀ j, j < i → gr_bl G a j b = false) → gr_D G a b (gr_dn G a b d i) ∧ gr_dn G a b d i ≤ 6 := by
    intro d
    induction d with
    | zero =>
      intro i hi hj
      have := hj 6 (by omega)
      rw [show gr_bl G a 6 b = true from h] at this
      exact absurd this (by decide)
    | succ d ih =>
      intro i hi hj
      rw [gr_dn_s]
      cases hz : gr_bl G a i b with
      | true => exact ⟨⟨hz, hj⟩, by show i ≤ 6; omega⟩
      | false => exact ih (i + 1) (by omega) (fun j hj' => by
          by_cases e : j = i
          · rw [e]; exact hz
          · exact hj j (by omega))
  exact key 7 0 (by omega) (fun j hj => absurd hj (by omega))
theorem gr_ds_n {G : Nat → Nat → Bool} {a b : Nat} (h : gr_R G a b = false) : gr_ds G a b = 100 := by
  have h6 : gr_bl G a 6 b = false := h
  have hl : ∀ k, k ≤ 6 → gr_bl G a k b = false := fun k hk => by
    cases hz : gr_bl G a k b with
    | false => rfl
    | true => rw [gr_bl_le hz 6 hk] at h6; exact absurd h6 (by decide)
  have key : ∀ d i, i + d = 7 → gr_dn G a b d i = 100 := by
    intro d
    induction d with
    | zero => intro i _; rfl
    | succ d ih => intro i hi; rw [gr_dn_s, hl i (by omega)]; exact ih (i + 1) (by omega)
  exact key 7 0 (by omega)
theorem gr_ds_s {G : Nat → Nat → Bool} (hG : gr_in G) (hs : gr_sy G) {a b : Nat} (ha : a < 7) (hb : b < 7) : gr_ds G a b = gr_ds G b a := by
  cases h : gr_R G a b with
  | true =>
    have h' := gr_R_s hG hs ha h
    exact gr_D_u (gr_D_s hG hs ha hb (gr_ds_D h).1) (gr_ds_D h').1 |> fun e => e
  | false =>
    have h' : gr_R G b a = false := by
      cases hz : gr_R G b a with
      | false => rfl
      | true => rw [gr_R_s hG hs hb hz] at h; exact absurd h (by decide)
    rw [gr_ds_n h, gr_ds_n h']
theorem gr_ds_R {G : Nat → Nat → Bool} {a b : Nat} : gr_ds G a b = 100 ↔ gr_R G a b = false := by
  constructor
  · intro h
    cases hz : gr_R G a b with
    | false => rfl
    | true => have := (gr_ds_D hz).2; omega
  · exact gr_ds_n
theorem gr_ds_le (G : Nat → Nat → Bool) (a b : Nat) : gr_ds G a b ≤ 100 := by
  cases h : gr_R G a b with
  | true => have := (gr_ds_D h).2; omega
  | false => rw [gr_ds_n h]; exact Nat.le_refl _
/-! the reference's relaxation: pairs (c, b) in order, seven times -/
def gr_fs (G : Nat → Nat → Bool) (c b : Nat) (f : Nat → Nat) : Nat → Nat := fun j => if j = b ∧ G c b = true ∧ f c + 1 < f b then f c + 1 else f j
def gr_FI (G : Nat → Nat → Bool) (a r j : Nat) (f : Nat → Nat) : Prop :=
  (∀ k b, k ≤ r → b < 7 → gr_bl G a k b = true → f b ≤ k) ∧ (∀ c b, c < 7 → b < 7 → 7 * c + b < j → G c b = true → gr_bl G a r c = true → f b ≤ r + 1) ∧ ∀ b, b < 7 → f b ≤ 100 ∧ (f b < 100 → gr_bl G a (f b) b = true)
theorem gr_fs_le (G : Nat → Nat → Bool) (c b : Nat) (f : Nat → Nat) (j : Nat) : gr_fs G c b f j ≤ f j := by
  unfold gr_fs
  by_cases h : j = b ∧ G c b = true ∧ f c + 1 < f b
  · rw [if_pos h, h.1]; omega
  · rw [if_neg h]; exact Nat.le_refl _
theorem gr_fs_st {G : Nat → Nat → Bool} {a r c b : Nat} {f : Nat → Nat} (hc : c < 7) (hb : b < 7) (h : gr_FI G a r (7 * c + b) f) : gr_FI G a r (7 * c + b + 1) (gr_fs G c b f) := by
  obtain ⟨h1, h2, h3⟩ := h
  refine ⟨fun k x hk hx hl => Nat.le_trans (gr_fs_le G c b f x) (h1 k x hk hx hl), fun c' b' hc' hb' hl hg hr => ?_, fun x hx => ?_⟩
  · by_cases e : 7 * c' + b' = 7 * c + b
    · have e1 : c' = c := by omega
      have e2 : b' = b := by omega
      subst e1; subst e2
      have hf : f c' ≤ r := h1 r c' (Nat.le_refl _) hc hr
      unfold gr_fs
      by_cases hl2 : f c' + 1 < f b'
      · rw [if_pos ⟨rfl, hg, hl2⟩]; omega
      · rw [if_neg (fun z => hl2 z.2.2)]; omega
    · exact Nat.le_trans (gr_fs_le G c b f b') (h2 c' b' hc' hb' (by omega) hg hr)
  · refine ⟨Nat.le_trans (gr_fs_le G c b f x) (h3 x hx).1, fun hl => ?_⟩
    unfold gr_fs at hl ⊢
    by_cases e : x = b ∧ G c b = true ∧ f c + 1 < f b
    · rw [if_pos e] at hl ⊢
      have hfc : f c < 100 := by omega
      rw [e.1]
      exact (gr_bl_i G a (f c) b).mpr (Or.inr ⟨c, hc, (h3 c hc).2 hfc, e.2.1⟩)
    · rw [if_neg e] at hl ⊢
      exact (h3 x hx).2 hl
theorem gr_FI_0 {G : Nat → Nat → Bool} {a : Nat} {f : Nat → Nat} (h : ∀ b, b < 7 → f b = if b = a then 0 else 100) : gr_FI G a 0 0 f := by
  refine ⟨fun k b hk hb hl => ?_, fun c b _ _ hl => by omega, fun b hb => ?_⟩
  · have e : k = 0 := by omega
    subst e
    have e2 : a = b := of_decide_eq_true (show decide (a = b) = true from hl)
    rw [h b hb, if_pos e2.symm]; exact Nat.le_refl _
  · rw [h b hb]
    by_cases e : b = a
    · rw [if_pos e, e]; exact ⟨by omega, fun _ => gr_bl_0 G a⟩
    · rw [if_neg e]; exact ⟨by omega, fun z => by omega⟩
theorem gr_FI_r {G : Nat → Nat → Bool} {a r : Nat} {f : Nat → Nat} (h : gr_FI G a r 49 f) : gr_FI G a (r + 1) 0 f := by
  obtain ⟨h1, h2, h3⟩ := h
  refine ⟨fun k b hk hb hl => ?_, fun c b _ _ hl => by omega, h3⟩
  by_cases e : k = r + 1
  · subst e
    rcases (gr_bl_i G a r b).mp hl with z | ⟨c, hc, z1, z2⟩
    · have := h1 r b (Nat.le_refl _) hb z; omega
    · exact h2 c b hc hb (by omega) z2 z1
  · exact h1 k b (by omega) hb hl
theorem gr_FI_ds {G : Nat → Nat → Bool} (hG : gr_in G) {a : Nat} (ha : a < 7) {f : Nat → Nat} (h : gr_FI G a 7 0 f) {b : Nat} (hb : b < 7) : f b = gr_ds G a b := by
  obtain ⟨h1, _, h3⟩ := h
  cases hR : gr_R G a b with
  | true =>
    obtain ⟨hD, h6⟩ := gr_ds_D hR
    have hle : f b ≤ gr_ds G a b := h1 _ b (by omega) hb hD.1
    have hbl := (h3 b hb).2 (by omega)
    rcases Nat.lt_or_ge (f b) (gr_ds G a b) with z | z
    · have := hD.2 _ z; rw [hbl] at this; exact absurd this (by decide)
    · omega
  | false =>
    rw [gr_ds_n hR]
    have hle := (h3 b hb).1
    rcases Nat.lt_or_ge (f b) 100 with z | z
    · have := gr_R_of hG ha ((h3 b hb).2 z)
      rw [hR] at this; exact absurd this (by decide)
    · omega
/-! pieces -/
/-- a is the least of its piece -/
def gr_mi (G : Nat → Nat → Bool) (a : Nat) : Bool := !bb_ex (fun b => gr_R G a b) a
theorem gr_mi_t {G : Nat → Nat → Bool} {a : Nat} : gr_mi G a = true ↔ ∀ b, b < a → gr_R G a b = false := by
  unfold gr_mi
  rw [Bool.not_eq_true', bb_ex_f]
theorem gr_mi_f {G : Nat → Nat → Bool} {a b : Nat} (hb : b < a) (h : gr_R G a b = true) : gr_mi G a = false := by
  cases hz : gr_mi G a with
  | false => rfl
  | true => have := gr_mi_t.mp hz b hb; rw [h] at this; exact absurd this (by decide)
def gr_np (G : Nat → Nat → Bool) (n : Nat) : Nat := bb_cn (gr_mi G) n
/-- the component's count: the atoms that are left are closed under reach -/
def gr_PI (G : Nat → Nat → Bool) (n rest cnt i : Nat) : Prop :=
  rest < 128 ∧ (∀ x, rest.testBit x = true → x < n) ∧ (∀ x y, rest.testBit x = true → gr_R G x y = true → rest.testBit y = true) ∧ cnt = bb_cn (fun a => !rest.testBit a && gr_mi G a) n ∧ bb_cn rest.testBit 7 + i ≤ 7
theorem gr_PI_0 {G : Nat → Nat → Bool} {n : Nat} (hn : n ≤ 7) (hr : ∀ x y, x < n → gr_R G x y = true → y < n) : gr_PI G n (2 ^ n - 1) 0 0 := by
  have hb : ∀ x, (2 ^ n - 1).testBit x = decide (x < n) := fun x => Nat.testBit_two_pow_sub_one n x
  refine ⟨?_, fun x hx => ?_, fun x y hx hxy => ?_, ?_, ?_⟩
  · have : 2 ^ n ≤ 2 ^ 7 := Nat.pow_le_pow_right (by decide) hn
    have := Nat.two_pow_pos n
    omega
  · rw [hb] at hx; exact of_decide_eq_true hx
  · rw [hb] at hx ⊢; exact decide_eq_true (hr x y (of_decide_eq_true hx) hxy)
  · rw [bb_cn_z n (fun i hi => by show (!(2 ^ n - 1).testBit i && gr_mi G i) = false; rw [hb, decide_eq_true hi]; rfl)]
  · exact bb_cn_le _ 7
theorem gr_PI_s {G : Nat → Nat → Bool} (hG : gr_in G) (hs : gr_sy G) {n rest cnt i : Nat} (hn : n ≤ 7) (h0 : rest ≠ 0) (h : gr_PI G n rest cnt i) :
    gr_PI G n (bb_df rest (bb_bs (gr_R G (bb_lo rest)) 7)) (cnt + 1) (i + 1) := by
  obtain ⟨h1, h2, h3, h4, h5⟩ := h
  have hlb := bb_lo_b h1 h0
  have hl7 := bb_lo_7 h1 h0
  have hb : ∀ x, x < 7 → (bb_df rest (bb_bs (gr_R G (bb_lo rest)) 7)).testBit x = (rest.testBit x && !gr_R G (bb_lo rest) x) := fun x hx => by rw [bb_df_b hx, bb_bs_b _ hx]
  have hb' : ∀ x, (bb_df rest (bb_bs (gr_R G (bb_lo rest)) 7)).testBit x = true → x < 7 ∧ rest.testBit x = true ∧ gr_R G (bb_lo rest) x = false := fun x hx => by
    have hx7 := bb_lt7 (bb_df_lt _ _) hx
    rw [hb x hx7, Bool.and_eq_true, Bool.not_eq_true'] at hx
    exact ⟨hx7, hx.1, hx.2⟩
  refine ⟨bb_df_lt _ _, fun x hx => h2 x (hb' x hx).2.1, fun x y hx hxy => ?_, ?_, ?_⟩
  · obtain ⟨hx7, hx1, hx2⟩ := hb' x hx
    have hy := h3 x y hx1 hxy
    have hy7 := bb_lt7 h1 hy
    rw [hb y hy7, hy, Bool.true_and, Bool.not_eq_true']
    cases hz : gr_R G (bb_lo rest) y with
    | false => rfl
    | true => rw [gr_R_t hG hl7 hz (gr_R_s hG hs hx7 hxy)] at hx2; exact absurd hx2 (by decide)
  · have hmi : gr_mi G (bb_lo rest) = true := gr_mi_t.mpr (fun b hb => by
      cases hz : gr_R G (bb_lo rest) b with
      | false => rfl
      | true => have := h3 _ b hlb hz; rw [bb_lo_n h1 h0 hb] at this; exact absurd this (by decide))
    rw [h4]
    refine (bb_cn_up (i0 := bb_lo rest) n (h2 _ hlb) (fun a ha hne => ?_) ?_ ?_).symm
    · show (!(bb_df rest _).testBit a && gr_mi G a) = (!rest.testBit a && gr_mi G a)
      rw [hb a (by omega)]
      cases hr : rest.testBit a with
      | false => rfl
      | true =>
        cases hz : gr_R G (bb_lo rest) a with
        | false => rfl
        | true =>
          have hle := bb_lo_le h1 hr
          rw [gr_mi_f (b := bb_lo rest) (by omega) (gr_R_s hG hs hl7 hz)]
          simp
    · show (!(bb_df rest _).testBit (bb_lo rest) && gr_mi G (bb_lo rest)) = true
      rw [hb _ hl7, gr_R_r, hmi]; simp
    · show (!rest.testBit (bb_lo rest) && gr_mi G (bb_lo rest)) = false
      rw [hlb]; rfl
  · have := bb_cn_lt (p := (bb_df rest (bb_bs (gr_R G (bb_lo rest)) 7)).testBit) (q := rest.testBit) (i0 := bb_lo rest) 7 (fun x hx hz => (hb' x hz).2.1) hl7 (by rw [hb _ hl7, gr_R_r]; simp) hlb
    omega
theorem gr_PI_e {G : Nat → Nat → Bool} {n cnt i : Nat} (h : gr_PI G n 0 cnt i) : cnt = gr_np G n := by
  rw [h.2.2.2.1]
  refine bb_cn_cg n (fun a _ => ?_)
  show (!(0 : Nat).testBit a && gr_mi G a) = gr_mi G a
  rw [Nat.zero_testBit]; rfl
theorem gr_PI_7 {G : Nat → Nat → Bool} {n rest cnt : Nat} (h : gr_PI G n rest cnt 7) : rest = 0 := by
  refine bb_ext h.1 (by decide) (fun i hi => ?_)
  rw [Nat.zero_testBit]
  exact bb_cn_none 7 (by have := h.2.2.2.2; omega) i hi
/-! one edge away -/
def gr_cut (G : Nat → Nat → Bool) (x y : Nat) : Nat → Nat → Bool := fun a b => G a b && !(decide (a = x ∧ b = y) || decide (a = y ∧ b = x))
theorem gr_cut_le {G : Nat → Nat → Bool} {x y a b : Nat} (h : gr_cut G x y a b = true) : G a b = true := (Bool.and_eq_true _ _ ▸ (show (G a b && _) = true from h)).1
theorem gr_cut_in {G : Nat → Nat → Bool} (hG : gr_in G) (x y : Nat) : gr_in (gr_cut G x y) := fun a b h => hG a b (gr_cut_le h)
theorem gr_cut_sy {G : Nat → Nat → Bool} (hs : gr_sy G) (x y : Nat) : gr_sy (gr_cut G x y) := fun a b => by
  unfold gr_cut
  rw [hs a b]
  congr 2
  have e1 : (a = x ∧ b = y) ↔ (b = y ∧ a = x) := And.comm
  have e2 : (a = y ∧ b = x) ↔ (b = x ∧ a = y) := And.comm
  simp only [e1, e2]
  exact Bool.or_comm _ _
theorem gr_cut_of {G : Nat → Nat → Bool} {x y a b : Nat} (h : G a b = true) : gr_cut G x y a b = true ∨ (a = x ∧ b = y) ∨ (a = y ∧ b = x) := by
  by_cases h1 : a = x ∧ b = y
  · exact Or.inr (Or.inl h1)
  · by_cases h2 : a = y ∧ b = x
    · exact Or.inr (Or.inr h2)
    · refine Or.inl ?_
      unfold gr_cut
      rw [h, decide_eq_false h1, decide_eq_false h2]; rfl
theorem gr_R_sub {G H : Nat → Nat → Bool} (hH : gr_in H) {a : Nat} (ha : a < 7) (h : ∀ x y, G x y = true → gr_R H x y = true) : ∀ k b : Nat, gr_bl G a k b = true → gr_R H a b = true := by
  intro k
  induction k with
  | zero => intro b hb; rw [← of_decide_eq_true (show decide (a = b) = true from hb)]; exact gr_R_r H a
  | succ k ih =>
    intro b hb
    rcases (gr_bl_i G a k b).mp hb with z | ⟨c, _, h1, h2⟩
    · exact ih b z
    · exact gr_R_t hH ha (ih c h1) (h c b h2)
theorem gr_cut_R {G : Nat → Nat → Bool} (hG : gr_in G) {x y a b : Nat} (ha : a < 7) (h : gr_R (gr_cut G x y) a b = true) : gr_R G a b = true := gr_R_sub hG ha (fun _ _ h => gr_R_e hG (gr_cut_le h)) 6 b h
/-- the least atom of a piece -/
theorem gr_least (G : Nat → Nat → Bool) (x : Nat) : ∃ m, gr_R G x m = true ∧ ∀ j, j < m → gr_R G x j = false := by
  obtain ⟨k, hk, hm⟩ := pk_least (fun k => gr_R G x k = true) ⟨x, gr_R_r G x⟩
  exact ⟨k, hk, fun j hj => by
    cases hz : gr_R G x j with
    | false => rfl
    | true => exact absurd hz (hm j hj)⟩
/-- taking an edge away gives more pieces just if its ends are parted -/
theorem gr_bridge {G : Nat → Nat → Bool} (hG : gr_in G) (hs : gr_sy G) {n x y : Nat} (hn : n ≤ 7) (hr : ∀ a b, G a b = true → a < n ∧ b < n) (he : G x y = true) :
    gr_np G n < gr_np (gr_cut G x y) n ↔ gr_R (gr_cut G x y) x y = false := by
  have hC := gr_cut_in hG x y
  have hCs := gr_cut_sy hs x y
  have hx := hG x y he
  have hxn := hr x y he
  have hbn : ∀ {H : Nat → Nat → Bool}, (∀ a b, H a b = true → G a b = true) → ∀ a, a < n → ∀ k b, gr_bl H a k b = true → b < n := fun hH a ha k => by
    induction k with
    | zero => intro b h; rw [← of_decide_eq_true (show decide (a = b) = true from h)]; exact ha
    | succ k ih =>
      intro b h
      rcases (gr_bl_i _ a k b).mp h with z | ⟨c, _, _, z⟩
      · exact ih b z
      · exact (hr c b (hH c b z)).2
  constructor
  · intro hlt
    cases hz : gr_R (gr_cut G x y) x y with
    | false => rfl
    | true =>
      exfalso
      have hsub : ∀ a b, G a b = true → gr_R (gr_cut G x y) a b = true := fun a b h => by
        rcases gr_cut_of (x := x) (y := y) h with z | ⟨rfl, rfl⟩ | ⟨rfl, rfl⟩
        · exact gr_R_e hC z
        · exact hz
        · exact gr_R_s hC hCs hx.1 hz
      have : gr_np (gr_cut G x y) n ≤ gr_np G n := bb_cn_mono n (fun a ha h => gr_mi_t.mpr (fun b hb => by
        cases hq : gr_R G a b with
        | false => rfl
        | true => have := gr_mi_t.mp h b hb; rw [gr_R_sub hC (by omega) hsub 6 b hq] at this; exact absurd this (by decide)))
      omega
  · intro hno
    obtain ⟨p, hp, hpm⟩ := gr_least (gr_cut G x y) x
    obtain ⟨q, hq, hqm⟩ := gr_least (gr_cut G x y) y
    have hp7 := gr_R_7 hC hx.1 hp
    have hq7 := gr_R_7 hC hx.2 hq
    have hpn : p < n := hbn (fun _ _ h => gr_cut_le h) x hxn.1 6 p hp
    have hqn : q < n := hbn (fun _ _ h => gr_cut_le h) y hxn.2 6 q hq
    have hmp : gr_mi (gr_cut G x y) p = true := gr_mi_t.mpr (fun b hb => by
      cases hz : gr_R (gr_cut G x y) p b with
      | false => rfl
      | true => have := hpm b hb; rw [gr_R_t hC hx.1 hp hz] at this; exact absurd this (by decide))
    have hmq : gr_mi (gr_cut G x y) q = true := gr_mi_t.mpr (fun b hb => by
      cases hz : gr_R (gr_cut G x y) q b with
      | false => rfl
      | true => have := hqm b hb; rw [gr_R_t hC hx.2 hq hz] at this; exact absurd this (by decide))
    have hpq : gr_R G p q = true := gr_R_t hG hp7 (gr_R_s hG hs hx.1 (gr_cut_R hG hx.1 hp)) (gr_R_t hG hx.1 (gr_R_e hG he) (gr_cut_R hG hx.2 hq))
    have hne : p ≠ q := fun e => by
      rw [e] at hp
      have := gr_R_t hC hx.1 hp (gr_R_s hC hCs hx.2 hq)
      rw [hno] at this; exact absurd this (by decide)
    have hmono : ∀ a, a < n → gr_mi G a = true → gr_mi (gr_cut G x y) a = true := fun a ha h => gr_mi_t.mpr (fun b hb => by
      cases hz : gr_R (gr_cut G x y) a b with
      | false => rfl
      | true => have := gr_mi_t.mp h b hb; rw [gr_cut_R hG (by omega) hz] at this; exact absurd this (by decide))
    rcases Nat.lt_trichotomy p q with z | z | z
    · exact bb_cn_lt (i0 := q) n hmono hqn (gr_mi_f z (gr_R_s hG hs hp7 hpq)) hmq
    · exact absurd z hne
    · exact bb_cn_lt (i0 := p) n hmono hpn (gr_mi_f z hpq) hmp
end
section
/-! sums over lists -/
def ls_s {α : Type} (f : α → Nat) : List α → Nat
  | [] => 0
  | a :: l => f a + ls_s f l
theorem ls_c {α : Type} (f : α → Nat) (a : α) (l : List α) : ls_s f (a :: l) = f a + ls_s f l := rfl
theorem ls_n {α : Type} (f : α → Nat) : ls_s f [] = 0 := rfl
theorem ls_ap {α : Type} (f : α → Nat) (m : List α) : ∀ l : List α, ls_s f (l ++ m) = ls_s f l + ls_s f m := by
  intro l
  induction l with
  | nil => rw [List.nil_append, ls_n, Nat.zero_add]
  | cons a l ih => rw [List.cons_append, ls_c, ls_c, ih]; omega
theorem ls_cg {α : Type} {f g : α → Nat} : ∀ l : List α, (∀ a, a ∈ l → f a = g a) → ls_s f l = ls_s g l := by
  intro l
  induction l with
  | nil => intro _; rfl
  | cons a l ih => intro h; rw [ls_c, ls_c, h a (List.mem_cons_self ..), ih (fun b hb => h b (List.mem_cons_of_mem _ hb))]
theorem ls_add {α : Type} (f g : α → Nat) : ∀ l : List α, ls_s (fun a => f a + g a) l = ls_s f l + ls_s g l := by
  intro l
  induction l with
  | nil => rfl
  | cons a l ih => rw [ls_c, ls_c, ls_c, ih]; omega
theorem ls_z {α : Type} {f : α → Nat} (l : List α) (h : ∀ a, a ∈ l → f a = 0) : ls_s f l = 0 := by
  rw [ls_cg (g := fun _ => 0) l h]
  induction l with
  | nil => rfl
  | cons a l ih => rw [ls_c, ih (fun b hb => h b (List.mem_cons_of_mem _ hb))]
theorem ls_fm {α β : Type} (f : β → Nat) (g : α → List β) : ∀ l : List α, ls_s f (l.flatMap g) = ls_s (fun a => ls_s f (g a)) l := by
  intro l
  induction l with
  | nil => rfl
  | cons a l ih => rw [List.flatMap_cons, ls_ap, ih, ls_c]
theorem ls_map {α β : Type} (f : β → Nat) (g : α → β) : ∀ l : List α, ls_s f (l.map g) = ls_s (fun a => f (g a)) l := by
  intro l
  induction l with
  | nil => rfl
  | cons a l ih => rw [List.map_cons, ls_c, ih, ls_c]
theorem ls_sm {α : Type} (f : Nat → α → Nat) (k : Nat) : ∀ l : List α, ls_s (fun a => bb_sm (fun i => f i a) k) l = bb_sm (fun i => ls_s (f i) l) k := by
  intro l
  induction l with
  | nil => exact (bb_sm_z k (fun _ _ => rfl)).symm
  | cons a l ih => rw [ls_c, ih, ← bb_sm_add]; rfl
theorem ls_fil {α : Type} (f : α → Nat) (p : α → Bool) : ∀ l : List α, ls_s f (l.filter p) = ls_s (fun a => bif p a then f a else 0) l := by
  intro l
  induction l with
  | nil => rfl
  | cons a l ih =>
    cases h : p a with
    | true => rw [List.filter_cons_of_pos h, ls_c, ls_c, ih, h]; rfl
    | false => rw [List.filter_cons_of_neg (by rw [h]; decide), ls_c, ih, h]; simp
theorem ls_rg (f : Nat → Nat) : ∀ k : Nat, ls_s f (List.range' 0 k) = bb_sm f k := by
  intro k
  induction k with
  | zero => rfl
  | succ k ih => rw [List.range'_1_concat, ls_ap, ih, ls_c, ls_n, bb_sm_s, Nat.zero_add]; omega
theorem ls_pm {α : Type} (f : α → Nat) {l m : List α} (h : l.Perm m) : ls_s f l = ls_s f m := by
  induction h with
  | nil => rfl
  | cons a _ ih => rw [ls_c, ls_c, ih]
  | swap a b l => rw [ls_c, ls_c, ls_c, ls_c]; omega
  | trans _ _ h1 h2 => rw [h1, h2]
def ls_t {α : Type} (q : α → Bool) (l : List α) : Nat := ls_s (fun a => (q a).toNat) l
theorem ls_tc {α : Type} (q : α → Bool) (a : α) (l : List α) : ls_t q (a :: l) = (q a).toNat + ls_t q l := rfl
theorem ls_tap {α : Type} (q : α → Bool) (l m : List α) : ls_t q (l ++ m) = ls_t q l + ls_t q m := ls_ap _ m l
theorem ls_tcg {α : Type} {p q : α → Bool} (l : List α) (h : ∀ a, a ∈ l → p a = q a) : ls_t p l = ls_t q l := ls_cg l (fun a ha => by rw [h a ha])
theorem ls_tz {α : Type} {p : α → Bool} (l : List α) (h : ∀ a, a ∈ l → p a = false) : ls_t p l = 0 := ls_z l (fun a ha => by rw [h a ha]; rfl)
/-- a count parted by a value -/
theorem ls_part {α : Type} (q : α → Bool) (h : α → Nat) (k : Nat) (l : List α) (hl : ∀ a, a ∈ l → h a < k) : bb_sm (fun i => ls_t (fun a => q a && decide (h a = i)) l) k = ls_t q l := by
  unfold ls_t
  rw [← ls_sm (fun i a => (q a && decide (h a = i)).toNat) k l]
  refine ls_cg l (fun a ha => ?_)
  rw [bb_sm_one (i0 := h a) k (hl a ha) (fun i _ hn => by rw [decide_eq_false (fun z => hn z.symm), Bool.and_false]; rfl), decide_eq_true rfl, Bool.and_true]
/-! simple paths, as lists with the last atom first -/
def pa_ok (G : Nat → Nat → Bool) (P : List Nat) (b : Nat) : Bool := (match P with | [] => true | h :: _ => G h b) && !decide (b ∈ P)
def pa_ex (G : Nat → Nat → Bool) (n : Nat) (P : List Nat) : List Nat := (List.range' 0 n).filter (pa_ok G P)
def pa_V (G : Nat → Nat → Bool) (n : Nat) : Nat → List Nat → List (List Nat)
  | 0, _ => []
  | f + 1, P => (pa_ex G n P).flatMap (fun b => (b :: P) :: pa_V G n f (b :: P))
theorem pa_V_s (G : Nat → Nat → Bool) (n f : Nat) (P : List Nat) : pa_V G n (f + 1) P = (pa_ex G n P).flatMap (fun b => (b :: P) :: pa_V G n f (b :: P)) := rfl
def pa_X (G : Nat → Nat → Bool) (n : Nat) (Ps : List (List Nat)) : List (List Nat) := Ps.flatMap (fun P => (pa_ex G n P).map (fun b => b :: P))
def pa_B (G : Nat → Nat → Bool) (n : Nat) : Nat → List (List Nat) → List (List Nat)
  | 0, _ => []
  | f + 1, Ps => pa_X G n Ps ++ pa_B G n f (pa_X G n Ps)
theorem pa_B_s (G : Nat → Nat → Bool) (n f : Nat) (Ps : List (List Nat)) : pa_B G n (f + 1) Ps = pa_X G n Ps ++ pa_B G n f (pa_X G n Ps) := rfl
theorem pa_VB (G : Nat → Nat → Bool) (n : Nat) (q : List Nat → Nat) : ∀ (f : Nat) (Ps : List (List Nat)), ls_s (fun P => ls_s q (pa_V G n f P)) Ps = ls_s q (pa_B G n f Ps) := by
  intro f
  induction f with
  | zero => intro Ps; exact ls_z Ps (fun _ _ => rfl)
  | succ f ih =>
    intro Ps
    rw [pa_B_s, ls_ap, ← ih]
    unfold pa_X
    rw [ls_fm, ls_fm, ← ls_add]
    refine ls_cg Ps (fun P _ => ?_)
    rw [pa_V_s, ls_fm, ls_map, ls_map, ← ls_add]
    rfl
theorem pa_X_ap (G : Nat → Nat → Bool) (n : Nat) (l m : List (List Nat)) : pa_X G n (l ++ m) = pa_X G n l ++ pa_X G n m := List.flatMap_append
theorem pa_B_x (G : Nat → Nat → Bool) (n : Nat) : ∀ (f : Nat) (Ps : List (List Nat)), pa_B G n (f + 1) Ps = pa_X G n Ps ++ pa_X G n (pa_B G n f Ps) := by
  intro f
  induction f with
  | zero => intro Ps; rfl
  | succ f ih => intro Ps; rw [pa_B_s, ih, pa_B_s, pa_X_ap]
theorem pa_B_ap (G : Nat → Nat → Bool) (n : Nat) (q : List Nat → Nat) : ∀ (f : Nat) (l m : List (List Nat)), ls_s q (pa_B G n f (l ++ m)) = ls_s q (pa_B G n f l) + ls_s q (pa_B G n f m) := by
  intro f l m
  rw [← pa_VB, ← pa_VB, ← pa_VB, ls_ap]
/-- what a path is -/
def pa_P (G : Nat → Nat → Bool) (n : Nat) : List Nat → Prop
  | [] => True
  | b :: P => pa_P G n P ∧ b < n ∧ pa_ok G P b = true
theorem pa_ok_n {G : Nat → Nat → Bool} {P : List Nat} {b : Nat} (h : pa_ok G P b = true) : b ∉ P := by
  unfold pa_ok at h
  rw [Bool.and_eq_true, Bool.not_eq_true'] at h
  exact of_decide_eq_false h.2
theorem pa_ok_g {G : Nat → Nat → Bool} {P : List Nat} {a b : Nat} (h : pa_ok G (a :: P) b = true) : G a b = true := by
  unfold pa_ok at h
  rw [Bool.and_eq_true] at h
  exact h.1
theorem pa_ok_i {G : Nat → Nat → Bool} {P : List Nat} {a b : Nat} (h : G a b = true) (h2 : b ∉ a :: P) : pa_ok G (a :: P) b = true := by
  unfold pa_ok
  rw [decide_eq_false h2]
  show (G a b && _) = true
  rw [h]; rfl
theorem pa_ok_0 {G : Nat → Nat → Bool} {b : Nat} : pa_ok G [] b = true := by simp [pa_ok]
theorem pa_ex_m {G : Nat → Nat → Bool} {n b : Nat} {P : List Nat} : b ∈ pa_ex G n P ↔ b < n ∧ pa_ok G P b = true := by
  unfold pa_ex
  rw [List.mem_filter, List.mem_range'_1]
  constructor
  · rintro ⟨⟨_, h⟩, h2⟩; exact ⟨by omega, h2⟩
  · rintro ⟨h, h2⟩; exact ⟨⟨by omega, by omega⟩, h2⟩
theorem pa_X_m {G : Nat → Nat → Bool} {n : Nat} {Ps : List (List Nat)} {Q : List Nat} : Q ∈ pa_X G n Ps ↔ ∃ b P, Q = b :: P ∧ P ∈ Ps ∧ b < n ∧ pa_ok G P b = true := by
  unfold pa_X
  rw [List.mem_flatMap]
  constructor
  · rintro ⟨P, hP, hQ⟩
    obtain ⟨b, hb, rfl⟩ := List.mem_map.mp hQ
    obtain ⟨h1, h2⟩ := pa_ex_m.mp hb
    exact ⟨b, P, rfl, hP, h1, h2⟩
  · rintro ⟨b, P, rfl, hP, h1, h2⟩
    exact ⟨P, hP, List.mem_map.mpr ⟨b, pa_ex_m.mpr ⟨h1, h2⟩, rfl⟩⟩
theorem pa_P_nd {G : Nat → Nat → Bool} {n : Nat} : ∀ Q : List Nat, pa_P G n Q → Q.Nodup ∧ ∀ x, x ∈ Q → x < n := by
  intro Q
  induction Q with
  | nil => intro _; exact ⟨List.nodup_nil, fun x hx => absurd hx (by simp)⟩
  | cons b P ih =>
    rintro ⟨h1, h2, h3⟩
    obtain ⟨i1, i2⟩ := ih h1
    refine ⟨List.nodup_cons.mpr ⟨pa_ok_n h3, i1⟩, fun x hx => ?_⟩
    rcases List.mem_cons.mp hx with z | z
    · rw [z]; exact h2
    · exact i2 x z
theorem pa_nd_len {n : Nat} {Q : List Nat} (h : Q.Nodup) (hx : ∀ x, x ∈ Q → x < n) : Q.length ≤ n := by
  have := List.Nodup.length_le_of_subset (l₂ := List.range n) h (fun x hq => List.mem_range.mpr (hx x hq))
  rw [List.length_range] at this; exact this
theorem pa_P_len {G : Nat → Nat → Bool} {n : Nat} {Q : List Nat} (h : pa_P G n Q) : Q.length ≤ n := pa_nd_len (pa_P_nd Q h).1 (pa_P_nd Q h).2
theorem pa_B_P {G : Nat → Nat → Bool} {n : Nat} : ∀ (f : Nat) (Q : List Nat), Q ∈ pa_B G n f [[]] → pa_P G n Q ∧ Q ≠ [] := by
  intro f
  induction f with
  | zero => intro Q h; exact absurd h (by simp [pa_B])
  | succ f ih =>
    intro Q h
    rw [pa_B_x, List.mem_append] at h
    rcases h with h | h
    · obtain ⟨b, P, rfl, hP, h1, h2⟩ := pa_X_m.mp h
      rw [List.mem_singleton] at hP
      subst hP
      exact ⟨⟨trivial, h1, h2⟩, by simp⟩
    · obtain ⟨b, P, rfl, hP, h1, h2⟩ := pa_X_m.mp h
      exact ⟨⟨(ih P hP).1, h1, h2⟩, by simp⟩
theorem pa_P_B {G : Nat → Nat → Bool} {n : Nat} : ∀ (f : Nat) (Q : List Nat), pa_P G n Q → Q ≠ [] → Q.length ≤ f → Q ∈ pa_B G n f [[]] := by
  intro f
  induction f with
  | zero => intro Q _ h0 hl; cases Q with
    | nil => exact absurd rfl h0
    | cons b P => simp at hl
  | succ f ih =>
    intro Q h h0 hl
    rw [pa_B_x, List.mem_append]
    cases Q with
    | nil => exact absurd rfl h0
    | cons b P =>
      obtain ⟨h1, h2, h3⟩ := h
      rcases Classical.em (P = []) with z | z
      · subst z; exact Or.inl (pa_X_m.mpr ⟨b, [], rfl, List.mem_singleton.mpr rfl, h2, h3⟩)
      · exact Or.inr (pa_X_m.mpr ⟨b, P, rfl, ih P h1 z (by simp at hl; omega), h2, h3⟩)
/-- the atoms of a path, as a set -/
def pa_set (Q : List Nat) : Nat := bb_bs (fun i => decide (i ∈ Q)) 7
theorem pa_set_lt (Q : List Nat) : pa_set Q < 128 := bb_bs_lt _ 7
theorem pa_set_b {Q : List Nat} {i : Nat} (h : i < 7) : (pa_set Q).testBit i = decide (i ∈ Q) := bb_bs_b _ h
theorem pa_set_c {b : Nat} {P : List Nat} (hb : b < 7) (hn : b ∉ P) : bb_cn (pa_set (b :: P)).testBit 7 = bb_cn (pa_set P).testBit 7 + 1 := by
  refine bb_cn_up (i0 := b) 7 hb (fun i hi hne => ?_) ?_ ?_
  · rw [pa_set_b hi, pa_set_b hi]
    have : (i ∈ b :: P) ↔ i ∈ P := by rw [List.mem_cons]; exact ⟨fun z => z.resolve_left hne, Or.inr⟩
    simp only [this]
  · rw [pa_set_b hb]; exact decide_eq_true (List.mem_cons_self ..)
  · rw [pa_set_b hb]; exact decide_eq_false hn
theorem pa_set_len : ∀ Q : List Nat, Q.Nodup → (∀ x, x ∈ Q → x < 7) → bb_cn (pa_set Q).testBit 7 = Q.length := by
  intro Q
  induction Q with
  | nil => intro _ _; exact bb_cn_z 7 (fun i hi => by rw [pa_set_b hi]; simp)
  | cons b P ih =>
    intro h hx
    rw [List.nodup_cons] at h
    rw [pa_set_c (hx b (List.mem_cons_self ..)) h.1, ih h.2 (fun x hp => hx x (List.mem_cons_of_mem _ hp)), List.length_cons]
theorem pa_set_cl {b : Nat} {P : List Nat} (hn : b ∉ P) : bb_cl (pa_set (b :: P)) b = pa_set P := bb_ext (bb_cl_lt _ _) (pa_set_lt _) (fun i hi => by
  rw [bb_cl_b hi, pa_set_b hi, pa_set_b hi]
  by_cases e : i = b
  · subst e; simp [hn]
  · simp [e])
theorem pa_set_up {b S : Nat} {P : List Nat} (hS : S < 128) (hb : S.testBit b = true) (h : pa_set P = bb_cl S b) : pa_set (b :: P) = S := bb_ext (pa_set_lt _) hS (fun i hi => by
  rw [pa_set_b hi]
  have h2 : (pa_set P).testBit i = (bb_cl S b).testBit i := by rw [h]
  rw [pa_set_b hi, bb_cl_b hi] at h2
  by_cases e : i = b
  · subst e; simp [hb]
  · rw [decide_eq_false e, Bool.not_false, Bool.and_true] at h2
    rw [← h2]; simp [e])
/-- the first atom of a path -/
def pa_la : List Nat → Nat
  | [] => 0
  | [a] => a
  | _ :: b :: t => pa_la (b :: t)
theorem pa_la_1 (a : Nat) : pa_la [a] = a := rfl
theorem pa_la_c (a b : Nat) (t : List Nat) : pa_la (a :: b :: t) = pa_la (b :: t) := rfl
theorem pa_la_n {a : Nat} {P : List Nat} (h : P ≠ []) : pa_la (a :: P) = pa_la P := by
  cases P with
  | nil => exact absurd rfl h
  | cons b t => rfl
theorem pa_la_m : ∀ Q : List Nat, Q ≠ [] → pa_la Q ∈ Q := by
  intro Q
  induction Q with
  | nil => intro h; exact absurd rfl h
  | cons a P ih =>
    intro _
    rcases Classical.em (P = []) with z | z
    · subst z; exact List.mem_cons_self ..
    · rw [pa_la_n z]; exact List.mem_cons_of_mem _ (ih z)
/-- all but the first are above it -/
def pa_gt (l : Nat) : List Nat → Bool
  | [] => true
  | [_] => true
  | x :: y :: t => decide (l < x) && pa_gt l (y :: t)
theorem pa_gt_n {l a : Nat} {P : List Nat} (h : P ≠ []) : pa_gt l (a :: P) = (decide (l < a) && pa_gt l P) := by
  cases P with
  | nil => exact absurd rfl h
  | cons b t => rfl
theorem pa_gt_i : ∀ Q : List Nat, Q ≠ [] → Q.Nodup → (pa_gt (pa_la Q) Q = true ↔ ∀ x, x ∈ Q → pa_la Q ≤ x) := by
  intro Q
  induction Q with
  | nil => intro h; exact absurd rfl h
  | cons a P ih =>
    intro _ hd
    rw [List.nodup_cons] at hd
    rcases Classical.em (P = []) with z | z
    · subst z
      refine ⟨fun _ x hx => ?_, fun _ => rfl⟩
      rw [List.mem_singleton.mp hx]; exact Nat.le_refl _
    · rw [pa_la_n z, pa_gt_n z, Bool.and_eq_true, ih z hd.2]
      constructor
      · rintro ⟨h1, h2⟩ x hx
        rcases List.mem_cons.mp hx with e | e
        · rw [e]; exact Nat.le_of_lt (of_decide_eq_true h1)
        · exact h2 x e
      · intro h
        refine ⟨decide_eq_true ?_, fun x hx => h x (List.mem_cons_of_mem _ hx)⟩
        have h1 := h a (List.mem_cons_self ..)
        have h2 := pa_la_m P z
        have h3 : pa_la P ≠ a := fun e => hd.1 (e ▸ h2)
        omega
def pa_hd : List Nat → Nat
  | [] => 0
  | a :: _ => a
/-- a path of three atoms or more that closes to a ring, its first atom the least -/
def pa_rg (G : Nat → Nat → Bool) (Q : List Nat) : Bool := decide (2 < Q.length) && G (pa_hd Q) (pa_la Q) && pa_gt (pa_la Q) Q
def pa_pr (S a : Nat) (Q : List Nat) : Bool := decide (pa_set Q = S) && decide (pa_la Q = bb_lo S) && decide (pa_hd Q = a)
/-- the component's numbers of lists -/
def pa_N (G : Nat → Nat → Bool) (S a : Nat) : Nat := ls_t (pa_pr S a) (pa_B G 7 7 [[]])
theorem pa_lo {Q : List Nat} (h0 : Q ≠ []) (hx : ∀ x, x ∈ Q → x < 7) : (pa_la Q = bb_lo (pa_set Q)) ↔ ∀ x, x ∈ Q → pa_la Q ≤ x := by
  have hm := pa_la_m Q h0
  have hb : (pa_set Q).testBit (pa_la Q) = true := by rw [pa_set_b (hx _ hm)]; exact decide_eq_true hm
  constructor
  · intro e x hq
    rw [e]
    exact bb_lo_le (pa_set_lt Q) (by rw [pa_set_b (hx x hq)]; exact decide_eq_true hq)
  · intro h
    refine (bb_lo_u (pa_set_lt Q) hb (fun j hj => ?_)).symm
    rw [pa_set_b (by have := hx _ hm; omega)]
    refine decide_eq_false (fun z => ?_)
    have := h j z; omega
/-- level k alone; what is longer than seven isn't there -/
theorem pa_B7 (G : Nat → Nat → Bool) (q : List Nat → Nat) : ls_s q (pa_X G 7 (pa_B G 7 7 [[]])) = ls_s q (pa_X G 7 (pa_B G 7 6 [[]])) := by
  have key : ∀ (f : Nat) (Ps : List (List Nat)), ∃ Z, pa_B G 7 (f + 1) Ps = pa_B G 7 f Ps ++ Z ∧ ∀ (k : Nat), (∀ P, P ∈ Ps → k ≤ P.length) → ∀ Q, Q ∈ Z → k + f + 1 ≤ Q.length := by
    intro f
    induction f with
    | zero => intro Ps; exact ⟨pa_X G 7 Ps, by rw [pa_B_s]; simp [pa_B], fun k hk Q hQ => by
        obtain ⟨b, P, rfl, hP, _, _⟩ := pa_X_m.mp hQ
        have := hk P hP
        rw [List.length_cons]; omega⟩
    | succ f ih =>
      intro Ps
      obtain ⟨Z, e, hZ⟩ := ih (pa_X G 7 Ps)
      refine ⟨Z, by rw [pa_B_s, e, pa_B_s, List.append_assoc], fun k hk Q hQ => ?_⟩
      have := hZ (k + 1) (fun P hP => by
        obtain ⟨b, P', rfl, hP', _, _⟩ := pa_X_m.mp hP
        have := hk P' hP'
        rw [List.length_cons]; omega) Q hQ
      omega
  obtain ⟨Z, e, hZ⟩ := key 6 [[]]
  rw [e, pa_X_ap, ls_ap]
  have : ls_s q (pa_X G 7 Z) = 0 := by
    refine ls_z _ (fun Q hQ => ?_)
    exfalso
    obtain ⟨b, P, rfl, hP, h1, h2⟩ := pa_X_m.mp hQ
    have hl := hZ 0 (fun _ _ => Nat.zero_le _) P hP
    have hPB : P ∈ pa_B G 7 7 [[]] := by rw [e]; exact List.mem_append_right _ hP
    have := pa_P_len (show pa_P G 7 (b :: P) from ⟨(pa_B_P 7 P hPB).1, h1, h2⟩)
    rw [List.length_cons] at this; omega
  omega
theorem pa_N_rec (G : Nat → Nat → Bool) (S a : Nat) : pa_N G S a = ls_t (pa_pr S a) (pa_X G 7 [[]]) + ls_t (pa_pr S a) (pa_X G 7 (pa_B G 7 7 [[]])) := by
  have e : pa_B G 7 7 [[]] = pa_X G 7 [[]] ++ pa_X G 7 (pa_B G 7 6 [[]]) := pa_B_x G 7 6 [[]]
  have e2 : ls_t (pa_pr S a) (pa_B G 7 7 [[]]) = ls_t (pa_pr S a) (pa_X G 7 [[]]) + ls_t (pa_pr S a) (pa_X G 7 (pa_B G 7 6 [[]])) := by rw [e, ls_tap]
  have e3 : ls_t (pa_pr S a) (pa_X G 7 (pa_B G 7 7 [[]])) = ls_t (pa_pr S a) (pa_X G 7 (pa_B G 7 6 [[]])) := pa_B7 G _
  unfold pa_N
  rw [e2, e3]
theorem pa_pr_i {S a : Nat} {Q : List Nat} : pa_pr S a Q = true ↔ pa_set Q = S ∧ pa_la Q = bb_lo S ∧ pa_hd Q = a := by
  unfold pa_pr
  rw [Bool.and_eq_true, Bool.and_eq_true, decide_eq_true_iff, decide_eq_true_iff, decide_eq_true_iff]
  exact and_assoc
theorem pa_pr_f {S a : Nat} {Q : List Nat} (h : ¬ (pa_set Q = S ∧ pa_la Q = bb_lo S ∧ pa_hd Q = a)) : pa_pr S a Q = false := by
  cases hz : pa_pr S a Q with
  | false => rfl
  | true => exact absurd (pa_pr_i.mp hz) h
theorem pa_hd_m {Q : List Nat} (h : Q ≠ []) : pa_hd Q ∈ Q := by
  cases Q with
  | nil => exact absurd rfl h
  | cons a P => exact List.mem_cons_self ..
/-- an atom outside of the set -/
theorem pa_N_out (G : Nat → Nat → Bool) {S a : Nat} (ha : a < 7) (h : S.testBit a = false) : pa_N G S a = 0 := ls_tz _ (fun Q hQ => pa_pr_f (fun z => by
  have hm := pa_hd_m (pa_B_P 7 Q hQ).2
  rw [z.2.2] at hm
  have : (pa_set Q).testBit a = true := by rw [pa_set_b ha]; exact decide_eq_true hm
  rw [z.1, h] at this; exact absurd this (by decide)))
/-- the least atom ends no longer list -/
theorem pa_N_lo (G : Nat → Nat → Bool) {S : Nat} (hS : S < 128) (h0 : S ≠ 0) (h1 : S ≠ 2 ^ bb_lo S) : pa_N G S (bb_lo S) = 0 := ls_tz _ (fun Q hQ => pa_pr_f (fun z => by
  obtain ⟨hP, hne⟩ := pa_B_P 7 Q hQ
  cases Q with
  | nil => exact absurd rfl hne
  | cons a P =>
    rcases Classical.em (P = []) with e | e
    · subst e
      refine h1 ?_
      have ha : a = bb_lo S := z.2.2
      rw [← ha, ← z.1]
      refine bb_ext (pa_set_lt _) (bb_pow_lt hP.2.1) (fun i hi => ?_)
      rw [pa_set_b hi, Nat.testBit_two_pow]
      have : (i ∈ [a]) ↔ (a = i) := by rw [List.mem_singleton]; exact ⟨fun z => z.symm, fun z => z.symm⟩
      simp only [this]
    · have hm := pa_la_m P e
      have h2 := z.2.1
      rw [pa_la_n e] at h2
      have h3 : a = bb_lo S := z.2.2
      rw [h2, ← h3] at hm
      exact pa_ok_n hP.2.2 hm))
theorem pa_X1 (G : Nat → Nat → Bool) (n : Nat) : pa_X G n [[]] = (List.range' 0 n).map (fun b => [b]) := by
  unfold pa_X
  rw [List.flatMap_cons, List.flatMap_nil, List.append_nil]
  congr 1
  unfold pa_ex
  rw [List.filter_eq_self]
  intro b _; exact pa_ok_0
theorem pa_set1 {l : Nat} (hl : l < 7) : pa_set [l] = 2 ^ l := bb_ext (pa_set_lt _) (bb_pow_lt hl) (fun i hi => by
  rw [pa_set_b hi, Nat.testBit_two_pow]
  have : (i ∈ [l]) ↔ (l = i) := by rw [List.mem_singleton]; exact ⟨fun z => z.symm, fun z => z.symm⟩
  simp only [this])
/-- one atom alone -/
theorem pa_N_one (G : Nat → Nat → Bool) {l a : Nat} (hl : l < 7) (ha : a < 7) : pa_N G (2 ^ l) a = if a = l then 1 else 0 := by
  have hlo : bb_lo (2 ^ l) = l := bb_lo2 l hl
  by_cases e : a = l
  · subst e
    rw [if_pos rfl, pa_N_rec, pa_X1]
    have h1 : ls_t (pa_pr (2 ^ a) a) ((List.range' 0 7).map (fun b => [b])) = 1 := by
      unfold ls_t
      rw [ls_map, ls_rg, bb_sm_one (i0 := a) 7 ha (fun i hi hn => ?_)]
      · rw [show pa_pr (2 ^ a) a [a] = true from pa_pr_i.mpr ⟨pa_set1 ha, by rw [pa_la_1, hlo], rfl⟩]; rfl
      · rw [show pa_pr (2 ^ a) a [i] = false from pa_pr_f (fun z => hn z.2.2)]; rfl
    have h2 : ls_t (pa_pr (2 ^ a) a) (pa_X G 7 (pa_B G 7 7 [[]])) = 0 := ls_tz _ (fun Q hQ => pa_pr_f (fun z => by
      obtain ⟨b, P, rfl, hP, hb, hk⟩ := pa_X_m.mp hQ
      obtain ⟨h1, h2⟩ := pa_B_P 7 P hP
      have hm := pa_la_m P h2
      have e1 := z.2.1
      rw [pa_la_n h2, hlo] at e1
      have e2 : b = a := z.2.2
      rw [e1, ← e2] at hm
      exact pa_ok_n hk hm))
    omega
  · rw [if_neg e]
    refine pa_N_out G ha ?_
    rw [Nat.testBit_two_pow]; exact decide_eq_false (fun z => e z.symm)
/-- the component's step: the atom before the last -/
theorem pa_N_step (G : Nat → Nat → Bool) (hs : gr_sy G) {S a : Nat} (hS : S < 128) (ha : a < 7) (h : S.testBit a = true) (hl : a ≠ bb_lo S) :
    pa_N G S a = bb_sm (fun b => bif (bb_cl S a &&& bb_bs (G a) 7).testBit b then pa_N G (bb_cl S a) b else 0) 7 := by
  have h0 : S ≠ 0 := fun e => by rw [e, Nat.zero_testBit] at h; exact absurd h (by decide)
  have hlo : bb_lo (bb_cl S a) = bb_lo S := by
    refine bb_lo_u (bb_cl_lt _ _) ?_ (fun j hj => ?_)
    · rw [bb_cl_b (bb_lo_7 hS h0), bb_lo_b hS h0, decide_eq_false (fun z => hl z.symm)]; rfl
    · rw [bb_cl_b (by have := bb_lo_7 hS h0; omega), bb_lo_n hS h0 hj]; rfl
  have hc0 : bb_cl S a ≠ 0 := fun e => by
    have : (bb_cl S a).testBit (bb_lo S) = true := by rw [bb_cl_b (bb_lo_7 hS h0), bb_lo_b hS h0, decide_eq_false (fun z => hl z.symm)]; rfl
    rw [e, Nat.zero_testBit] at this; exact absurd this (by decide)
  rw [pa_N_rec]
  have h1 : ls_t (pa_pr S a) (pa_X G 7 [[]]) = 0 := ls_tz _ (fun Q hQ => pa_pr_f (fun z => by
    obtain ⟨b, P, rfl, hP, _, _⟩ := pa_X_m.mp hQ
    rw [List.mem_singleton] at hP
    subst hP
    have e1 := z.2.1
    rw [pa_la_1] at e1
    have e2 : b = a := z.2.2
    exact hl (e2 ▸ e1)))
  rw [h1, Nat.zero_add]
  have h2 : ls_t (pa_pr S a) (pa_X G 7 (pa_B G 7 7 [[]])) = ls_t (fun P => decide (pa_set P = bb_cl S a) && decide (pa_la P = bb_lo S) && G a (pa_hd P)) (pa_B G 7 7 [[]]) := by
    unfold ls_t pa_X
    rw [ls_fm]
    refine ls_cg _ (fun P hP => ?_)
    obtain ⟨hPP, hPn⟩ := pa_B_P 7 P hP
    rw [ls_map]
    unfold pa_ex
    rw [ls_fil, ls_rg, bb_sm_one (i0 := a) 7 ha (fun i hi hn => ?_)]
    · cases hk : pa_ok G P a with
      | true =>
        have hn := pa_ok_n hk
        show (pa_pr S a (a :: P)).toNat = _
        congr 1
        have hg : G a (pa_hd P) = true := by
          cases P with
          | nil => exact absurd rfl hPn
          | cons b t => rw [hs]; exact pa_ok_g hk
        show pa_pr S a (a :: P) = (decide (pa_set P = bb_cl S a) && decide (pa_la P = bb_lo S) && G a (pa_hd P))
        rw [hg, Bool.and_true]
        unfold pa_pr
        rw [pa_la_n hPn]
        have e1 : (pa_set (a :: P) = S) ↔ (pa_set P = bb_cl S a) := ⟨fun z => by rw [← z]; exact (pa_set_cl hn).symm, fun z => pa_set_up hS h z⟩
        simp only [e1]
        show (_ && _ && decide (a = a)) = _
        rw [decide_eq_true rfl, Bool.and_true]
      | false =>
        show 0 = (decide (pa_set P = bb_cl S a) && decide (pa_la P = bb_lo S) && G a (pa_hd P)).toNat
        cases hz : (decide (pa_set P = bb_cl S a) && decide (pa_la P = bb_lo S) && G a (pa_hd P)) with
        | false => rfl
        | true =>
          exfalso
          rw [Bool.and_eq_true, Bool.and_eq_true, decide_eq_true_iff] at hz
          cases P with
          | nil => exact absurd rfl hPn
          | cons b t =>
            have hna : a ∉ b :: t := fun hm => by
              have : (pa_set (b :: t)).testBit a = true := by rw [pa_set_b ha]; exact decide_eq_true hm
              rw [hz.1.1, bb_cl_b ha, decide_eq_true rfl, Bool.not_true, Bool.and_false] at this
              exact absurd this (by decide)
            rw [pa_ok_i (by rw [hs]; exact hz.2) hna] at hk
            exact absurd hk (by decide)
    · cases hk : pa_ok G P i with
      | false => rfl
      | true =>
        show (pa_pr S a (i :: P)).toNat = 0
        rw [show pa_pr S a (i :: P) = false from pa_pr_f (fun z => hn z.2.2)]; rfl
  rw [h2, ← ls_part _ pa_hd 7 _ (fun P hP => (pa_P_nd P (pa_B_P 7 P hP).1).2 _ (pa_hd_m (pa_B_P 7 P hP).2))]
  refine bb_sm_cg 7 (fun b hb => ?_)
  rw [Nat.testBit_and, bb_bs_b _ hb]
  cases hc : (bb_cl S a).testBit b && G a b with
  | true =>
    rw [Bool.and_eq_true] at hc
    show _ = pa_N G (bb_cl S a) b
    refine ls_tcg _ (fun P _ => ?_)
    unfold pa_pr
    rw [hlo]
    by_cases e : pa_hd P = b
    · rw [e, hc.2, decide_eq_true rfl, Bool.and_true]
    · rw [decide_eq_false e, Bool.and_false, Bool.and_false]
  | false =>
    refine ls_tz _ (fun P hP => ?_)
    cases hz : (decide (pa_set P = bb_cl S a) && decide (pa_la P = bb_lo S) && G a (pa_hd P) && decide (pa_hd P = b)) with
    | false => rfl
    | true =>
      exfalso
      rw [Bool.and_eq_true, Bool.and_eq_true, Bool.and_eq_true, decide_eq_true_iff, decide_eq_true_iff] at hz
      obtain ⟨⟨⟨z1, _⟩, z2⟩, z3⟩ := hz
      have hm := pa_hd_m (pa_B_P 7 P hP).2
      rw [of_decide_eq_true z3] at hm z2
      have : (pa_set P).testBit b = true := by rw [pa_set_b hb]; exact decide_eq_true hm
      rw [z1] at this
      rw [this, z2] at hc
      exact absurd hc (by decide)
/-- all rings -/
theorem pa_rings (G : Nat → Nat → Bool) (hs : gr_sy G) :
    bb_sm (fun S => if 2 < bb_cn S.testBit 7 then bb_sm (fun b => bif (S &&& bb_bs (G (bb_lo S)) 7).testBit b then pa_N G S b else 0) 7 else 0) 128 = ls_t (pa_rg G) (pa_B G 7 7 [[]]) := by
  rw [← ls_part (pa_rg G) pa_set 128 _ (fun Q _ => pa_set_lt Q)]
  refine bb_sm_cg 128 (fun S hS => ?_)
  have hmem : ∀ Q, Q ∈ pa_B G 7 7 [[]] → Q ≠ [] ∧ Q.Nodup ∧ (∀ x, x ∈ Q → x < 7) := fun Q hQ => ⟨(pa_B_P 7 Q hQ).2, (pa_P_nd Q (pa_B_P 7 Q hQ).1).1, (pa_P_nd Q (pa_B_P 7 Q hQ).1).2⟩
  by_cases h2 : 2 < bb_cn S.testBit 7
  · rw [if_pos h2, ← ls_part (fun a => pa_rg G a && decide (pa_set a = S)) pa_hd 7 _ (fun Q hQ => (hmem Q hQ).2.2 _ (pa_hd_m (hmem Q hQ).1))]
    refine bb_sm_cg 7 (fun b hb => ?_)
    rw [Nat.testBit_and, bb_bs_b _ hb]
    have hrow : ∀ Q, Q ∈ pa_B G 7 7 [[]] → ((pa_rg G Q && decide (pa_set Q = S)) && decide (pa_hd Q = b)) = (pa_pr S b Q && (S.testBit b && G (bb_lo S) b)) := fun Q hQ => by
      obtain ⟨q1, q2, q3⟩ := hmem Q hQ
      by_cases e1 : pa_set Q = S
      · by_cases e2 : pa_hd Q = b
        · have hbS : S.testBit b = true := by rw [← e1, pa_set_b hb]; exact decide_eq_true (e2 ▸ pa_hd_m q1)
          rw [hbS, Bool.true_and, decide_eq_true e1, decide_eq_true e2, Bool.and_true, Bool.and_true]
          unfold pa_rg pa_pr
          rw [decide_eq_true e1, decide_eq_true e2, Bool.true_and, Bool.and_true, e2]
          have hlen : Q.length = bb_cn S.testBit 7 := by rw [← e1]; exact (pa_set_len Q q2 q3).symm
          rw [hlen, decide_eq_true h2, Bool.true_and]
          by_cases e3 : pa_la Q = bb_lo S
          · have : pa_gt (pa_la Q) Q = true := (pa_gt_i Q q1 q2).mpr ((pa_lo q1 q3).mp (by rw [e1]; exact e3))
            rw [this, Bool.and_true, decide_eq_true e3, Bool.true_and, e3, hs]
          · have : pa_gt (pa_la Q) Q = false := by
              cases hz : pa_gt (pa_la Q) Q with
              | false => rfl
              | true => exact absurd (by rw [(pa_lo q1 q3).mpr ((pa_gt_i Q q1 q2).mp hz), e1]) e3
            rw [this, Bool.and_false, decide_eq_false e3, Bool.false_and]
        · rw [decide_eq_false e2, Bool.and_false]
          unfold pa_pr
          rw [decide_eq_false e2, Bool.and_false, Bool.false_and]
      · unfold pa_pr
        rw [decide_eq_false e1, Bool.and_false, Bool.false_and, Bool.false_and, Bool.false_and, Bool.false_and]
    rw [ls_tcg _ hrow]
    cases hc : (S.testBit b && G (bb_lo S) b) with
    | true => refine ls_tcg _ (fun Q _ => by rw [Bool.and_true])
    | false => exact (ls_tz _ (fun Q _ => by rw [Bool.and_false])).symm
  · rw [if_neg h2]
    refine (ls_tz _ (fun Q hQ => ?_)).symm
    obtain ⟨q1, q2, q3⟩ := hmem Q hQ
    by_cases e1 : pa_set Q = S
    · unfold pa_rg
      have hlen : Q.length = bb_cn S.testBit 7 := by rw [← e1]; exact (pa_set_len Q q2 q3).symm
      rw [hlen, decide_eq_false h2]; simp
    · rw [decide_eq_false e1, Bool.and_false]
end
section
/-! paths over n atoms and over seven; the longest -/
theorem p2_X0 (G : Nat → Nat → Bool) (n : Nat) : pa_X G n [] = [] := rfl
theorem p2_B0 (G : Nat → Nat → Bool) (n : Nat) : ∀ f : Nat, pa_B G n f [] = [] := by
  intro f
  induction f with
  | zero => rfl
  | succ f ih => rw [pa_B_s, p2_X0, ih]; rfl
theorem p2_ex {G : Nat → Nat → Bool} {n : Nat} (hn : n ≤ 7) (hr : ∀ a b, G a b = true → a < n ∧ b < n) {P : List Nat} (hP : P ≠ []) : pa_ex G 7 P = pa_ex G n P := by
  unfold pa_ex
  have e : List.range' 0 7 = List.range' 0 n ++ List.range' n (7 - n) := by
    have := List.range'_append_1 (s := 0) (m := n) (n := 7 - n)
    rw [Nat.zero_add] at this
    rw [this]; congr 1; omega
  rw [e, List.filter_append]
  have z : (List.range' n (7 - n)).filter (pa_ok G P) = [] := by
    rw [List.filter_eq_nil_iff]
    intro b hb hk
    rw [List.mem_range'_1] at hb
    cases P with
    | nil => exact absurd rfl hP
    | cons a t => have := (hr a b (pa_ok_g hk)).2; omega
  rw [z, List.append_nil]
theorem p2_X {G : Nat → Nat → Bool} {n : Nat} (hn : n ≤ 7) (hr : ∀ a b, G a b = true → a < n ∧ b < n) : ∀ Ps : List (List Nat), (∀ P, P ∈ Ps → P ≠ []) → pa_X G 7 Ps = pa_X G n Ps := by
  intro Ps
  induction Ps with
  | nil => intro _; rfl
  | cons P t ih =>
    intro h
    have := ih (fun Q hQ => h Q (List.mem_cons_of_mem _ hQ))
    unfold pa_X at this ⊢
    rw [List.flatMap_cons, List.flatMap_cons, this, p2_ex hn hr (h P (List.mem_cons_self ..))]
theorem p2_B {G : Nat → Nat → Bool} {n : Nat} (hn : n ≤ 7) (hr : ∀ a b, G a b = true → a < n ∧ b < n) : ∀ (f : Nat) (Ps : List (List Nat)), (∀ P, P ∈ Ps → P ≠ []) → pa_B G 7 f Ps = pa_B G n f Ps := by
  intro f
  induction f with
  | zero => intro Ps _; rfl
  | succ f ih =>
    intro Ps h
    rw [pa_B_s, pa_B_s, p2_X hn hr Ps h, ih _ (fun P hP => by
      obtain ⟨b, P', rfl, _⟩ := pa_X_m.mp hP
      simp)]
/-- rings don't see the atoms beyond n -/
theorem p2_rings {G : Nat → Nat → Bool} {n : Nat} (hn : n ≤ 7) (hr : ∀ a b, G a b = true → a < n ∧ b < n) : ls_t (pa_rg G) (pa_B G 7 7 [[]]) = ls_t (pa_rg G) (pa_B G n 7 [[]]) := by
  have h1 : ∀ m, ls_t (pa_rg G) (pa_X G m [[]]) = 0 := fun m => ls_tz _ (fun Q hQ => by
    obtain ⟨b, P, rfl, hP, _⟩ := pa_X_m.mp hQ
    rw [List.mem_singleton] at hP
    subst hP
    simp [pa_rg])
  rw [pa_B_s G 7 6, pa_B_s G n 6, ls_tap, ls_tap, h1, h1]
  have e : pa_X G 7 [[]] = pa_X G n [[]] ++ (List.range' n (7 - n)).map (fun b => [b]) := by
    rw [pa_X1, pa_X1, ← List.map_append]
    congr 1
    have := List.range'_append_1 (s := 0) (m := n) (n := 7 - n)
    rw [Nat.zero_add] at this
    rw [this]; congr 1; omega
  have z : pa_X G 7 ((List.range' n (7 - n)).map (fun b => [b])) = [] := List.eq_nil_iff_forall_not_mem.mpr (fun Q hQ => by
    obtain ⟨b, P, rfl, hP, _, hk⟩ := pa_X_m.mp hQ
    obtain ⟨l, hl, rfl⟩ := List.mem_map.mp hP
    rw [List.mem_range'_1] at hl
    have := (hr l b (pa_ok_g hk)).1
    omega)
  have e2 : ls_t (pa_rg G) (pa_B G 7 6 (pa_X G 7 [[]])) = ls_t (pa_rg G) (pa_B G n 6 (pa_X G n [[]])) := by
    rw [e]
    unfold ls_t
    rw [pa_B_ap, pa_B_s G 7 5 ((List.range' n (7 - n)).map (fun b => [b])), z, p2_B0, List.append_nil, ls_n, Nat.add_zero, p2_B hn hr 6 _ (fun P hP => by
      obtain ⟨b, P', rfl, _⟩ := pa_X_m.mp hP
      simp)]
  rw [e2]
/-- what the reference does at one path: the longest so far, and the rings -/
def p2_ef (G : Nat → Nat → Bool) (s : Nat × Nat) (Q : List Nat) : Nat × Nat := (if s.1 < Q.length then Q.length else s.1, s.2 + (pa_rg G Q).toNat)
theorem p2_ef2 (G : Nat → Nat → Bool) : ∀ (l : List (List Nat)) (s : Nat × Nat), (l.foldl (p2_ef G) s).2 = s.2 + ls_t (pa_rg G) l := by
  intro l
  induction l with
  | nil => intro s; rfl
  | cons Q l ih => intro s; rw [List.foldl_cons, ih, ls_tc]; show s.2 + (pa_rg G Q).toNat + _ = _; omega
theorem p2_ef1 (G : Nat → Nat → Bool) : ∀ (l : List (List Nat)) (s : Nat × Nat), s.1 ≤ (l.foldl (p2_ef G) s).1 ∧ (∀ Q, Q ∈ l → Q.length ≤ (l.foldl (p2_ef G) s).1) ∧ ((l.foldl (p2_ef G) s).1 = s.1 ∨ ∃ Q, Q ∈ l ∧ (l.foldl (p2_ef G) s).1 = Q.length) := by
  intro l
  induction l with
  | nil => intro s; exact ⟨Nat.le_refl _, fun Q hQ => absurd hQ (by simp), Or.inl rfl⟩
  | cons Q l ih =>
    intro s
    rw [List.foldl_cons]
    obtain ⟨h1, h2, h3⟩ := ih (p2_ef G s Q)
    have e1 : s.1 ≤ (p2_ef G s Q).1 ∧ Q.length ≤ (p2_ef G s Q).1 ∧ ((p2_ef G s Q).1 = s.1 ∨ (p2_ef G s Q).1 = Q.length) := by
      unfold p2_ef
      dsimp only
      by_cases z : s.1 < Q.length
      · rw [if_pos z]; omega
      · rw [if_neg z]; omega
    refine ⟨by omega, fun R hR => ?_, ?_⟩
    · rcases List.mem_cons.mp hR with z | z
      · rw [z]; omega
      · exact h2 R z
    · rcases h3 with z | ⟨R, hR, z⟩
      · rcases e1.2.2 with y | y
        · exact Or.inl (by omega)
        · exact Or.inr ⟨Q, List.mem_cons_self .., by omega⟩
      · exact Or.inr ⟨R, List.mem_cons_of_mem _ hR, z⟩
theorem p2_pos {α : Type} {q : α → Bool} : ∀ l : List α, 0 < ls_t q l ↔ ∃ a, a ∈ l ∧ q a = true := by
  intro l
  induction l with
  | nil => exact ⟨fun h => absurd h (by simp [ls_t, ls_n]), fun ⟨a, ha, _⟩ => absurd ha (by simp)⟩
  | cons a l ih =>
    rw [ls_tc]
    constructor
    · intro h
      cases hq : q a with
      | true => exact ⟨a, List.mem_cons_self .., hq⟩
      | false =>
        rw [hq] at h
        obtain ⟨b, hb, hb2⟩ := ih.mp (by simpa using h)
        exact ⟨b, List.mem_cons_of_mem _ hb, hb2⟩
    · rintro ⟨b, hb, hb2⟩
      rcases List.mem_cons.mp hb with z | z
      · rw [← z, hb2]; simp; omega
      · have := ih.mpr ⟨b, z, hb2⟩; omega
theorem p2_VB (G : Nat → Nat → Bool) (n : Nat) (q : List Nat → Bool) : ls_t q (pa_V G n 7 []) = ls_t q (pa_B G n 7 [[]]) := by
  unfold ls_t
  rw [← pa_VB, ls_c, ls_n]; rfl
theorem p2_Vm (G : Nat → Nat → Bool) (n : Nat) (Q : List Nat) : Q ∈ pa_V G n 7 [] ↔ Q ∈ pa_B G n 7 [[]] := by
  have h := p2_VB G n (fun R => decide (R = Q))
  have k : ∀ l : List (List Nat), Q ∈ l ↔ 0 < ls_t (fun R => decide (R = Q)) l := fun l => by
    rw [p2_pos]
    exact ⟨fun hq => ⟨Q, hq, decide_eq_true rfl⟩, fun ⟨R, hR, e⟩ => by rw [← of_decide_eq_true e]; exact hR⟩
  rw [k, k, h]
/-- the greatest number of atoms on a path -/
def p2_mx (G : Nat → Nat → Bool) (n m : Nat) : Prop := (∃ Q, pa_P G n Q ∧ Q.length = m) ∧ ∀ Q, pa_P G n Q → Q.length ≤ m
theorem p2_mx_u {G : Nat → Nat → Bool} {n m k : Nat} (h : p2_mx G n m) (h' : p2_mx G n k) : m = k := by
  obtain ⟨⟨Q, hQ, e⟩, h2⟩ := h
  obtain ⟨⟨R, hR, e'⟩, h2'⟩ := h'
  have a := h2 R hR
  have b := h2' Q hQ
  omega
theorem p2_mxY (G : Nat → Nat → Bool) {n : Nat} (hn : n ≤ 7) : p2_mx G n ((pa_V G n 7 []).foldl (p2_ef G) (0, 0)).1 := by
  obtain ⟨_, h2, h3⟩ := p2_ef1 G (pa_V G n 7 []) (0, 0)
  refine ⟨?_, fun Q hQ => ?_⟩
  · rcases h3 with z | ⟨Q, hQ, z⟩
    · exact ⟨[], trivial, z.symm⟩
    · exact ⟨Q, (pa_B_P 7 Q ((p2_Vm G n Q).mp hQ)).1, z.symm⟩
  · rcases Classical.em (Q = []) with z | z
    · rw [z]; exact Nat.zero_le _
    · exact h2 Q ((p2_Vm G n Q).mpr (pa_P_B 7 Q hQ z (Nat.le_trans (pa_P_len hQ) hn)))
theorem p2_rgY (G : Nat → Nat → Bool) {n : Nat} (hn : n ≤ 7) (hr : ∀ a b, G a b = true → a < n ∧ b < n) : ((pa_V G n 7 []).foldl (p2_ef G) (0, 0)).2 = ls_t (pa_rg G) (pa_B G 7 7 [[]]) := by
  rw [p2_ef2, p2_VB, p2_rings hn hr]
  show 0 + _ = _
  omega
/-- a path of just these atoms that ends with one -/
def p2_E (G : Nat → Nat → Bool) (n S a : Nat) : Prop := ∃ Q, pa_P G n Q ∧ Q ≠ [] ∧ pa_set Q = S ∧ pa_hd Q = a
theorem p2_E_i {G : Nat → Nat → Bool} (hs : gr_sy G) {n S a : Nat} (hn : n ≤ 7) (hS : S < 128) : p2_E G n S a ↔ a < n ∧ S.testBit a = true ∧ (bb_cl S a = 0 ∨ ∃ b, b < 7 ∧ p2_E G n (bb_cl S a) b ∧ G a b = true) := by
  constructor
  · rintro ⟨Q, hQ, h0, e1, e2⟩
    cases Q with
    | nil => exact absurd rfl h0
    | cons b P =>
      obtain ⟨h1, h2, h3⟩ := hQ
      have hb : b = a := e2
      subst hb
      have hnb := pa_ok_n h3
      refine ⟨h2, ?_, ?_⟩
      · rw [← e1, pa_set_b (by omega)]; exact decide_eq_true (List.mem_cons_self ..)
      · have hc : bb_cl S b = pa_set P := by rw [← e1]; exact pa_set_cl hnb
        cases P with
        | nil =>
          refine Or.inl ?_
          rw [hc]
          exact bb_ext (pa_set_lt _) (by decide) (fun i hi => by rw [pa_set_b hi, Nat.zero_testBit]; simp)
        | cons c t =>
          refine Or.inr ⟨c, Nat.lt_of_lt_of_le h1.2.1 hn, ⟨c :: t, h1, by simp, hc.symm, rfl⟩, ?_⟩
          rw [hs]; exact pa_ok_g h3
  · rintro ⟨h1, h2, h3⟩
    have ha7 : a < 7 := by omega
    rcases h3 with z | ⟨b, _, ⟨P, hP, hP0, e1, e2⟩, hg⟩
    · refine ⟨[a], ⟨trivial, h1, pa_ok_0⟩, by simp, pa_set_up hS h2 ?_, rfl⟩
      rw [z]
      exact bb_ext (pa_set_lt _) (by decide) (fun i hi => by rw [pa_set_b hi, Nat.zero_testBit]; simp)
    · cases P with
      | nil => exact absurd rfl hP0
      | cons c t =>
        have hc : c = b := e2
        subst hc
        refine ⟨a :: c :: t, ⟨hP, h1, pa_ok_i (by rw [hs]; exact hg) (fun hm => ?_)⟩, by simp, pa_set_up hS h2 e1, rfl⟩
        have : (pa_set (c :: t)).testBit a = true := by rw [pa_set_b ha7]; exact decide_eq_true hm
        rw [e1, bb_cl_b ha7, decide_eq_true rfl, Bool.not_true, Bool.and_false] at this
        exact absurd this (by decide)
theorem p2_set_n {n : Nat} (hn : n ≤ 7) {Q : List Nat} (h : ∀ x, x ∈ Q → x < n) : pa_set Q < 2 ^ n := Nat.lt_pow_two_of_testBit _ (fun i hi => by
  rcases Nat.lt_or_ge i 7 with z | z
  · rw [pa_set_b z]; exact decide_eq_false (fun hm => by have := h i hm; omega)
  · exact bb_big (pa_set_lt Q) z)
/-- the component's search, set by set -/
def p2_BI (G : Nat → Nat → Bool) (n S m : Nat) : Prop := (∃ Q, pa_P G n Q ∧ Q.length = m) ∧ ∀ Q, pa_P G n Q → pa_set Q < S → Q.length ≤ m
theorem p2_BI_1 (G : Nat → Nat → Bool) {n : Nat} (hn : n ≤ 7) : p2_BI G n 1 0 := ⟨⟨[], trivial, rfl⟩, fun Q hQ h => by
  cases Q with
  | nil => exact Nat.le_refl _
  | cons a P =>
    have h0 : pa_set (a :: P) = 0 := by omega
    have : (pa_set (a :: P)).testBit a = true := by rw [pa_set_b (by have := hQ.2.1; omega)]; exact decide_eq_true (List.mem_cons_self ..)
    rw [h0, Nat.zero_testBit] at this; exact absurd this (by decide)⟩
theorem p2_BI_f {G : Nat → Nat → Bool} {n S m : Nat} (h : p2_BI G n S m) (hno : ∀ a, ¬ p2_E G n S a) (hS : S ≠ 0) : p2_BI G n (S + 1) m := ⟨h.1, fun Q hQ hl => by
  by_cases e : pa_set Q = S
  · rcases Classical.em (Q = []) with z | z
    · rw [z]; exact Nat.zero_le _
    · exact absurd ⟨Q, hQ, z, e, rfl⟩ (hno (pa_hd Q))
  · exact h.2 Q hQ (by omega)⟩
theorem p2_len {G : Nat → Nat → Bool} {n : Nat} (hn : n ≤ 7) {Q : List Nat} (h : pa_P G n Q) : bb_cn (pa_set Q).testBit 7 = Q.length := pa_set_len Q (pa_P_nd Q h).1 (fun x hx => Nat.lt_of_lt_of_le ((pa_P_nd Q h).2 x hx) hn)
theorem p2_BI_le {G : Nat → Nat → Bool} {n S m : Nat} (hn : n ≤ 7) (h : p2_BI G n S m) (hl : bb_cn S.testBit 7 ≤ m) : p2_BI G n (S + 1) m := ⟨h.1, fun Q hQ hq => by
  by_cases e : pa_set Q = S
  · rw [← p2_len hn hQ, e]; exact hl
  · exact h.2 Q hQ (by omega)⟩
theorem p2_BI_gt {G : Nat → Nat → Bool} {n S m a : Nat} (hn : n ≤ 7) (h : p2_BI G n S m) (hE : p2_E G n S a) (hl : m < bb_cn S.testBit 7) : p2_BI G n (S + 1) (bb_cn S.testBit 7) := by
  obtain ⟨Q, hQ, _, e, _⟩ := hE
  refine ⟨⟨Q, hQ, by rw [← e]; exact (p2_len hn hQ).symm⟩, fun R hR hq => ?_⟩
  by_cases e' : pa_set R = S
  · rw [← p2_len hn hR, e']; exact Nat.le_refl _
  · have := h.2 R hR (by omega); omega
theorem p2_BI_e {G : Nat → Nat → Bool} {n m : Nat} (hn : n ≤ 7) (h : p2_BI G n (2 ^ n) m) : p2_mx G n m := ⟨h.1, fun Q hQ => h.2 Q hQ (p2_set_n hn (pa_P_nd Q hQ).2)⟩
/-- the first of the atoms from x on that will do, or 7 -/
def p2_nx (ok : Nat → Bool) : Nat → Nat → Nat
  | 0, _ => 7
  | d + 1, x => bif ok x then x else p2_nx ok d (x + 1)
theorem p2_nx_i (ok : Nat → Bool) : ∀ d x : Nat, x + d ≤ 7 → (p2_nx ok d x = 7 ∧ (List.range' x d).filter ok = []) ∨ ∃ e, x ≤ p2_nx ok d x ∧ p2_nx ok d x + 1 + e = x + d ∧ ok (p2_nx ok d x) = true ∧ (List.range' x d).filter ok = p2_nx ok d x :: (List.range' (p2_nx ok d x + 1) e).filter ok := by
  intro d
  induction d with
  | zero => intro x _; exact Or.inl ⟨rfl, rfl⟩
  | succ d ih =>
    intro x hx
    unfold p2_nx
    cases hk : ok x with
    | true =>
      refine Or.inr ⟨d, Nat.le_refl _, ?_, hk, ?_⟩
      · show x + 1 + d = x + (d + 1); omega
      · show (x :: List.range' (x + 1) d).filter ok = _
        rw [List.filter_cons_of_pos hk]; rfl
    | false =>
      show (p2_nx ok d (x + 1) = 7 ∧ _) ∨ _
      have e0 : (List.range' x (d + 1)).filter ok = (List.range' (x + 1) d).filter ok := by
        show (x :: List.range' (x + 1) d).filter ok = _
        rw [List.filter_cons_of_neg (by rw [hk]; decide)]
      rw [e0]
      rcases ih (x + 1) (by omega) with ⟨z1, z2⟩ | ⟨e, z1, z2, z3, z4⟩
      · exact Or.inl ⟨z1, z2⟩
      · refine Or.inr ⟨e, ?_, ?_, z3, z4⟩
        · show x ≤ p2_nx ok d (x + 1); omega
        · show p2_nx ok d (x + 1) + 1 + e = x + (d + 1); omega
end
section
/-! orders of atoms -/
def pe_at : List Nat → Nat → Nat
  | [], _ => 0
  | a :: _, 0 => a
  | _ :: t, j + 1 => pe_at t j
theorem pe_at_l {Q : List Nat} : ∀ (P : List Nat) (i : Nat), i < P.length → pe_at (P ++ Q) i = pe_at P i := by
  intro P
  induction P with
  | nil => intro i hi; simp at hi
  | cons a P ih =>
    intro i hi
    cases i with
    | zero => rfl
    | succ i => exact ih i (by simp at hi; omega)
theorem pe_at_r {a : Nat} {Q : List Nat} : ∀ P : List Nat, pe_at (P ++ a :: Q) P.length = a := by
  intro P
  induction P with
  | nil => rfl
  | cons b P ih => exact ih
theorem pe_at_m : ∀ (Q : List Nat) (i : Nat), i < Q.length → pe_at Q i ∈ Q := by
  intro Q
  induction Q with
  | nil => intro i hi; simp at hi
  | cons a P ih =>
    intro i hi
    cases i with
    | zero => exact List.mem_cons_self ..
    | succ i => exact List.mem_cons_of_mem _ (ih i (by simp at hi; omega))
theorem pe_m_at {x : Nat} : ∀ Q : List Nat, x ∈ Q → ∃ i, i < Q.length ∧ pe_at Q i = x := by
  intro Q
  induction Q with
  | nil => intro h; exact absurd h (by simp)
  | cons a P ih =>
    intro h
    rcases List.mem_cons.mp h with z | z
    · exact ⟨0, by simp, z.symm⟩
    · obtain ⟨i, hi, e⟩ := ih z
      exact ⟨i + 1, by simp; omega, e⟩
theorem pe_at_map (g : Nat → Nat) : ∀ (M : List Nat) (i : Nat), i < M.length → pe_at (M.map g) i = g (pe_at M i) := by
  intro M
  induction M with
  | nil => intro i hi; simp at hi
  | cons a P ih =>
    intro i hi
    cases i with
    | zero => rfl
    | succ i => exact ih i (by simp at hi; omega)
theorem pe_inj : ∀ (Q : List Nat), Q.Nodup → ∀ i j : Nat, i < Q.length → j < Q.length → pe_at Q i = pe_at Q j → i = j := by
  intro Q
  induction Q with
  | nil => intro _ i j hi; simp at hi
  | cons a P ih =>
    intro hd i j hi hj h
    rw [List.nodup_cons] at hd
    rw [List.length_cons] at hi hj
    cases i with
    | zero =>
      cases j with
      | zero => rfl
      | succ j =>
        have h' : a = pe_at P j := h
        exact absurd (h' ▸ pe_at_m P j (by omega)) hd.1
    | succ i =>
      cases j with
      | zero =>
        have h' : pe_at P i = a := h
        exact absurd (h' ▸ pe_at_m P i (by omega)) hd.1
      | succ j => rw [ih hd.2 i j (by omega) (by omega) h]
theorem pe_ext : ∀ (P Q : List Nat), P.length = Q.length → (∀ i, i < P.length → pe_at P i = pe_at Q i) → P = Q := by
  intro P
  induction P with
  | nil => intro Q h _; cases Q with
    | nil => rfl
    | cons => simp at h
  | cons a P ih =>
    intro Q h he
    cases Q with
    | nil => simp at h
    | cons b Q =>
      have h0 : a = b := he 0 (by simp)
      rw [h0, ih Q (by simpa using h) (fun i hi => he (i + 1) (by simp; omega))]
def pe_in (a : Nat) : List Nat → Bool
  | [] => false
  | b :: t => bif Nat.beq a b then true else pe_in a t
theorem pe_in_i {a : Nat} : ∀ l : List Nat, pe_in a l = true ↔ a ∈ l := by
  intro l
  induction l with
  | nil => exact ⟨fun h => Bool.noConfusion h, fun h => absurd h (by simp)⟩
  | cons b t ih =>
    rw [List.mem_cons, ← ih]
    show (bif Nat.beq a b then true else pe_in a t) = true ↔ _
    cases h : Nat.beq a b with
    | true => exact ⟨fun _ => Or.inl (Nat.eq_of_beq_eq_true h), fun _ => rfl⟩
    | false => exact ⟨fun z => Or.inr z, fun z => z.resolve_left (Nat.ne_of_beq_eq_false h)⟩
theorem pe_in_f {a : Nat} {l : List Nat} : pe_in a l = false ↔ a ∉ l := by
  rw [← pe_in_i]
  cases pe_in a l <;> simp
def pe_fr (P : List Nat) (a : Nat) : Bool := !pe_in a P
/-- all ways to go on with f atoms -/
def pe_lv (n : Nat) : Nat → List Nat → List (List Nat)
  | 0, P => [P]
  | f + 1, P => ((List.range' 0 n).filter (pe_fr P)).flatMap (fun a => pe_lv n f (P ++ [a]))
theorem pe_lv_s (n f : Nat) (P : List Nat) : pe_lv n (f + 1) P = ((List.range' 0 n).filter (pe_fr P)).flatMap (fun a => pe_lv n f (P ++ [a])) := rfl
theorem pe_fr_i {P : List Nat} {a : Nat} : pe_fr P a = true ↔ a ∉ P := by
  unfold pe_fr
  rw [Bool.not_eq_true', pe_in_f]
def pe_Q (n : Nat) (Q : List Nat) : Prop := Q.Nodup ∧ ∀ x, x ∈ Q → x < n
theorem pe_Q_a {n a : Nat} {P : List Nat} (h : pe_Q n P) (ha : a < n) (hn : a ∉ P) : pe_Q n (P ++ [a]) := by
  refine ⟨List.nodup_append.mpr ⟨h.1, by simp, fun x hx y hy e => ?_⟩, fun x hx => ?_⟩
  · rw [List.mem_singleton] at hy
    rw [hy] at e
    exact hn (e ▸ hx)
  · rcases List.mem_append.mp hx with z | z
    · exact h.2 x z
    · rw [List.mem_singleton.mp z]; exact ha
theorem pe_Q_l {n : Nat} {P T : List Nat} (h : pe_Q n (P ++ T)) : pe_Q n P := ⟨(List.nodup_append.mp h.1).1, fun x hx => h.2 x (List.mem_append_left _ hx)⟩
theorem pe_lv_m {n : Nat} : ∀ (f : Nat) (P Q : List Nat), pe_Q n P → (Q ∈ pe_lv n f P ↔ ∃ T, Q = P ++ T ∧ T.length = f ∧ pe_Q n Q) := by
  intro f
  induction f with
  | zero =>
    intro P Q hP
    show Q ∈ [P] ↔ _
    rw [List.mem_singleton]
    constructor
    · intro e; exact ⟨[], by rw [e, List.append_nil], rfl, e ▸ hP⟩
    · rintro ⟨T, e, hT, _⟩
      rw [List.eq_nil_of_length_eq_zero hT, List.append_nil] at e
      exact e
  | succ f ih =>
    intro P Q hP
    rw [pe_lv_s, List.mem_flatMap]
    constructor
    · rintro ⟨a, ha, hQ⟩
      rw [List.mem_filter, List.mem_range'_1, pe_fr_i] at ha
      obtain ⟨T, e, hT, h⟩ := (ih (P ++ [a]) Q (pe_Q_a hP (by omega) ha.2)).mp hQ
      exact ⟨a :: T, by rw [e, List.append_assoc]; rfl, by rw [List.length_cons, hT], h⟩
    · rintro ⟨T, e, hT, h⟩
      cases T with
      | nil => simp at hT
      | cons a T =>
        have e2 : Q = (P ++ [a]) ++ T := by rw [e, List.append_assoc]; rfl
        have hPa : pe_Q n (P ++ [a]) := pe_Q_l (e2 ▸ h)
        have han : a < n := hPa.2 a (List.mem_append_right _ (List.mem_singleton.mpr rfl))
        have hn : a ∉ P := fun z => (List.nodup_append.mp hPa.1).2.2 a z a (List.mem_singleton.mpr rfl) rfl
        refine ⟨a, ?_, (ih (P ++ [a]) Q hPa).mpr ⟨T, e2, by simpa using hT, h⟩⟩
        rw [List.mem_filter, List.mem_range'_1, pe_fr_i]
        exact ⟨⟨by omega, by omega⟩, hn⟩
theorem pe_lv_nd {n : Nat} : ∀ (f : Nat) (P : List Nat), pe_Q n P → (pe_lv n f P).Nodup := by
  intro f
  induction f with
  | zero => intro P _; show [P].Nodup; simp
  | succ f ih =>
    intro P hP
    rw [pe_lv_s]
    refine List.pairwise_flatMap.mpr ⟨fun a ha => ?_, ?_⟩
    · rw [List.mem_filter, List.mem_range'_1, pe_fr_i] at ha
      exact ih _ (pe_Q_a hP (by omega) ha.2)
    · have hnd : ((List.range' 0 n).filter (pe_fr P)).Nodup := List.Pairwise.filter _ List.nodup_range'
      refine List.Pairwise.imp_of_mem ?_ hnd
      intro a b ha hb hab x hx y hy e
      rw [List.mem_filter, List.mem_range'_1, pe_fr_i] at ha hb
      obtain ⟨T, e1, _, _⟩ := (pe_lv_m f _ x (pe_Q_a hP (by omega) ha.2)).mp hx
      obtain ⟨U, e2, _, _⟩ := (pe_lv_m f _ y (pe_Q_a hP (by omega) hb.2)).mp hy
      refine hab ?_
      have h1 : pe_at x P.length = a := by rw [e1, List.append_assoc]; exact pe_at_r P
      have h2 : pe_at y P.length = b := by rw [e2, List.append_assoc]; exact pe_at_r P
      rw [← h1, ← h2, e]
def pe_D (n : Nat) : List (List Nat) := pe_lv n n []
theorem pe_Q0 (n : Nat) : pe_Q n [] := ⟨List.nodup_nil, fun x hx => absurd hx (by simp)⟩
theorem pe_D_m {n : Nat} {Q : List Nat} : Q ∈ pe_D n ↔ Q.length = n ∧ pe_Q n Q := by
  unfold pe_D
  rw [pe_lv_m n [] Q (pe_Q0 n)]
  constructor
  · rintro ⟨T, e, h1, h2⟩; exact ⟨by rw [e, List.nil_append]; exact h1, h2⟩
  · rintro ⟨h1, h2⟩; exact ⟨Q, rfl, h1, h2⟩
theorem pe_D_nd (n : Nat) : (pe_D n).Nodup := pe_lv_nd n [] (pe_Q0 n)
/-- an order has all atoms -/
theorem pe_all {n : Nat} {Q : List Nat} (hl : Q.length = n) (h : pe_Q n Q) {a : Nat} (ha : a < n) : a ∈ Q := by
  rcases Classical.em (a ∈ Q) with z | z
  · exact z
  · have := pa_nd_len (n := n) (List.nodup_cons.mpr ⟨z, h.1⟩) (fun x hx => by
      rcases List.mem_cons.mp hx with e | e
      · rw [e]; exact ha
      · exact h.2 x e)
    rw [List.length_cons] at this; omega
theorem pe_perm {α : Type} {l m : List α} (h1 : l.Nodup) (h2 : m.Nodup) (hs : ∀ x, x ∈ l → x ∈ m) (hl : l.length = m.length) : l.Perm m := by
  rw [List.perm_ext_iff_of_nodup h1 h2]
  intro x
  refine ⟨hs x, fun hx => ?_⟩
  rcases Classical.em (x ∈ l) with z | z
  · exact z
  · have := List.Nodup.length_le_of_subset (l₁ := x :: l) (l₂ := m) (List.nodup_cons.mpr ⟨z, h1⟩) (fun y hy => by
      rcases List.mem_cons.mp hy with e | e
      · rw [e]; exact hx
      · exact hs y e)
    rw [List.length_cons] at this; omega
def pe_ap (M s : List Nat) : List Nat := M.map (pe_at s)
theorem pe_ap_at {M s : List Nat} {i : Nat} (hi : i < M.length) : pe_at (pe_ap M s) i = pe_at s (pe_at M i) := pe_at_map _ M i hi
theorem pe_ap_m {n : Nat} {M s : List Nat} (hM : M ∈ pe_D n) (hs : s ∈ pe_D n) : pe_ap M s ∈ pe_D n := by
  obtain ⟨m1, m2⟩ := pe_D_m.mp hM
  obtain ⟨s1, s2⟩ := pe_D_m.mp hs
  refine pe_D_m.mpr ⟨by unfold pe_ap; rw [List.length_map]; exact m1, ?_, fun x hx => ?_⟩
  · refine List.pairwise_map.mpr (List.Pairwise.imp_of_mem ?_ m2.1)
    intro a b ha hb hab e
    exact hab (pe_inj s s2.1 a b (by rw [s1]; exact m2.2 a ha) (by rw [s1]; exact m2.2 b hb) e)
  · obtain ⟨a, ha, rfl⟩ := List.mem_map.mp hx
    exact s2.2 _ (pe_at_m s a (by rw [s1]; exact m2.2 a ha))
theorem pe_bij {n : Nat} {M : List Nat} (hM : M ∈ pe_D n) : ((pe_D n).map (pe_ap M)).Perm (pe_D n) := by
  refine pe_perm ?_ (pe_D_nd n) (fun x hx => ?_) (by rw [List.length_map])
  · refine List.pairwise_map.mpr (List.Pairwise.imp_of_mem ?_ (pe_D_nd n))
    intro s t hs ht hst e
    refine hst ?_
    obtain ⟨m1, m2⟩ := pe_D_m.mp hM
    obtain ⟨s1, s2⟩ := pe_D_m.mp hs
    obtain ⟨t1, t2⟩ := pe_D_m.mp ht
    refine pe_ext s t (by rw [s1, t1]) (fun a ha => ?_)
    obtain ⟨i, hi, ei⟩ := pe_m_at M (pe_all m1 m2 (a := a) (by omega))
    rw [← ei, ← pe_ap_at hi, ← pe_ap_at hi, e]
  · obtain ⟨s, hs, rfl⟩ := List.mem_map.mp hx
    exact pe_ap_m hM hs
/-- each order is got from one by a carrying -/
theorem pe_sur {n : Nat} {M Q : List Nat} (hM : M ∈ pe_D n) (hQ : Q ∈ pe_D n) : ∃ s, s ∈ pe_D n ∧ pe_ap M s = Q := by
  have := (pe_bij hM).mem_iff.mpr hQ
  obtain ⟨s, hs, e⟩ := List.mem_map.mp this
  exact ⟨s, hs, e⟩
/-! the next order, as the reference finds it -/
def pe_pv (f : Nat → Nat) : Nat → Nat
  | 0 => 0
  | i + 1 => bif Nat.ble (f i) (f (i + 1)) then i + 1 else pe_pv f i
def pe_k (f : Nat → Nat) (x : Nat) : Nat → Nat
  | 0 => 0
  | k + 1 => bif Nat.ble x (f (k + 1)) then k + 1 else pe_k f x k
def pe_sw (f : Nat → Nat) (i k : Nat) : Nat → Nat := fun j => bif Nat.beq j k then f i else bif Nat.beq j i then f k else f j
def pe_rv (s : Nat) : Nat → Nat → (Nat → Nat) → Nat → Nat
  | 0, _, f => f
  | m + 1, p, f => bif Nat.ble (s - p) p then f else pe_rv s m (p + 1) (pe_sw f p (s - p))
def pe_ng (n : Nat) (f : Nat → Nat) (i : Nat) : Nat → Nat := pe_rv (n + i) 7 (i + 1) (pe_sw f i (pe_k f (f i) (n - 1)))
def pe_eqv (g : Nat → Nat) (Q : List Nat) : Nat → Bool
  | 0 => true
  | k + 1 => bif Nat.beq (g k) (pe_at Q k) then pe_eqv g Q k else false
theorem pe_eqv_i {g : Nat → Nat} {Q : List Nat} : ∀ k : Nat, pe_eqv g Q k = true → ∀ j, j < k → g j = pe_at Q j := by
  intro k
  induction k with
  | zero => intro _ j hj; omega
  | succ k ih =>
    intro h j hj
    have h' : (bif Nat.beq (g k) (pe_at Q k) then pe_eqv g Q k else false) = true := h
    cases hb : Nat.beq (g k) (pe_at Q k) with
    | false => rw [hb] at h'; exact Bool.noConfusion h'
    | true =>
      rw [hb] at h'
      by_cases e : j = k
      · rw [e]; exact Nat.eq_of_beq_eq_true hb
      · exact ih h' j (by omega)
/-- P is followed by Q -/
def pe_fol (n : Nat) (P Q : List Nat) : Bool :=
  match pe_pv (pe_at P) (n - 1) with
  | 0 => false
  | i + 1 => pe_eqv (pe_ng n (pe_at P) i) Q n
def pe_chk (n : Nat) : List (List Nat) → Bool
  | [] => true
  | P :: t =>
    match t with
    | [] => Nat.beq (pe_pv (pe_at P) (n - 1)) 0
    | Q :: _ => bif pe_fol n P Q then pe_chk n t else false
theorem pe_chk_0 : pe_chk 0 (pe_D 0) = true := by decide +kernel
theorem pe_chk_1 : pe_chk 1 (pe_D 1) = true := by decide +kernel
theorem pe_chk_2 : pe_chk 2 (pe_D 2) = true := by decide +kernel
theorem pe_chk_3 : pe_chk 3 (pe_D 3) = true := by decide +kernel
theorem pe_chk_4 : pe_chk 4 (pe_D 4) = true := by decide +kernel
theorem pe_chk_5 : pe_chk 5 (pe_D 5) = true := by decide +kernel
theorem pe_chk_6 : pe_chk 6 (pe_D 6) = true := by decide +kernel
theorem pe_chk_7 : pe_chk 7 (pe_D 7) = true := by decide +kernel
theorem pe_chk_n {n : Nat} (hn : n ≤ 7) : pe_chk n (pe_D n) = true := by
  rcases (show n = 0 ∨ n = 1 ∨ n = 2 ∨ n = 3 ∨ n = 4 ∨ n = 5 ∨ n = 6 ∨ n = 7 by omega) with rfl | rfl | rfl | rfl | rfl | rfl | rfl | rfl
  · exact pe_chk_0
  · exact pe_chk_1
  · exact pe_chk_2
  · exact pe_chk_3
  · exact pe_chk_4
  · exact pe_chk_5
  · exact pe_chk_6
  · exact pe_chk_7
theorem pe_hd : ∀ n, n < 8 → (pe_D n).head? = some (List.range' 0 n) := by decide +kernel
end
section
/-! forms -/
def fo_t (d : Nat) : Nat := d * (d + 1) / 2
def fo_i (k : Nat) : Nat := if k < 1 then 0 else if k < 3 then 1 else if k < 6 then 2 else if k < 10 then 3 else if k < 15 then 4 else if k < 21 then 5 else 6
theorem fo_ij : ∀ i, i < 7 → ∀ j, j < 7 → j ≤ i → (fo_i (fo_t i + j) = i ∧ fo_t i + j < 28 ∧ fo_t i + j < fo_t (i + 1)) := by decide +kernel
theorem fo_k : ∀ k, k < 28 → (fo_i k < 7 ∧ fo_t (fo_i k) ≤ k ∧ k - fo_t (fo_i k) ≤ fo_i k ∧ k < fo_t (fo_i k + 1)) := by decide +kernel
theorem fo_kd : ∀ d, d < 8 → ∀ k, k < 28 → k < fo_t d → fo_i k < d := by decide +kernel
theorem fo_dk : ∀ d, d < 8 → ∀ i, i < d → fo_t (i + 1) ≤ fo_t d := by decide +kernel
theorem fo_ts (d : Nat) : fo_t (d + 1) = fo_t d + d + 1 := by
  unfold fo_t
  have h : (d + 1) * (d + 1 + 1) = d * (d + 1) + 2 * (d + 1) := by rw [Nat.mul_comm d (d + 1), Nat.mul_comm 2 (d + 1), ← Nat.mul_add]; 
  rw [h, Nat.add_mul_div_left _ _ (by decide)]; omega
theorem fo_t28 : ∀ d, d < 8 → fo_t d ≤ 28 := by decide +kernel
def fo_e (el : Nat → Nat) (bo : Nat → Nat → Nat) (Q : List Nat) (i : Nat) : Nat → Nat
  | 0 => el (pe_at Q i)
  | j + 1 => bo (pe_at Q i) (pe_at Q j)
/-- the form of a beginning of an order; 9 behind it -/
def fo_F (el : Nat → Nat) (bo : Nat → Nat → Nat) (Q : List Nat) (k : Nat) : Nat := if k < fo_t Q.length then fo_e el bo Q (fo_i k) (k - fo_t (fo_i k)) else 9
theorem fo_e_l {el : Nat → Nat} {bo : Nat → Nat → Nat} {P T : List Nat} {i j : Nat} (hi : i < P.length) (hj : j ≤ i) : fo_e el bo (P ++ T) i j = fo_e el bo P i j := by
  cases j with
  | zero => show el _ = el _; rw [pe_at_l P i hi]
  | succ j => show bo _ _ = bo _ _; rw [pe_at_l P i hi, pe_at_l P j (by omega)]
theorem fo_tm (a b : Nat) (h : a ≤ b) : fo_t a ≤ fo_t b := by
  induction b with
  | zero => rw [Nat.le_zero.mp h]; exact Nat.le_refl _
  | succ b ih =>
    by_cases e : a = b + 1
    · rw [e]; exact Nat.le_refl _
    · rw [fo_ts]; have := ih (by omega); omega
theorem fo_F_l {el : Nat → Nat} {bo : Nat → Nat → Nat} {P T : List Nat} {k : Nat} (hP : P.length < 8) (hk : k < fo_t P.length) : fo_F el bo (P ++ T) k = fo_F el bo P k := by
  have h28 := fo_t28 _ hP
  have hi := fo_kd _ hP k (by omega) hk
  have hj := fo_k k (by omega)
  unfold fo_F
  rw [if_pos hk, if_pos (Nat.lt_of_lt_of_le hk (fo_tm _ _ (by rw [List.length_append]; omega))), fo_e_l hi hj.2.2.1]
theorem fo_F_r {el : Nat → Nat} {bo : Nat → Nat → Nat} {P : List Nat} {a j : Nat} (hP : P.length < 7) (hj : j ≤ P.length) : fo_F el bo (P ++ [a]) (fo_t P.length + j) = match j with | 0 => el a | j + 1 => bo a (pe_at P j) := by
  have h := fo_ij _ hP j (by omega) hj
  have hl : (P ++ [a]).length = P.length + 1 := by rw [List.length_append]; rfl
  unfold fo_F
  rw [hl, if_pos h.2.2, h.1]
  have e : fo_t P.length + j - fo_t P.length = j := by omega
  rw [e]
  cases j with
  | zero => show el _ = el a; rw [pe_at_r P]
  | succ j => show bo _ _ = bo a _; rw [pe_at_r P, pe_at_l P j (by omega)]
theorem fo_F_9 {el : Nat → Nat} {bo : Nat → Nat → Nat} {P : List Nat} {k : Nat} (hk : fo_t P.length ≤ k) : fo_F el bo P k = 9 := if_neg (by omega)
def fo_L (f g : Nat → Nat) : Prop := ∃ k, k < 28 ∧ f k < g k ∧ ∀ j, j < k → f j = g j
def fo_E (f g : Nat → Nat) : Prop := ∀ k, k < 28 → f k = g k
def fo_eb (f g : Nat → Nat) : Bool := !bb_ex (fun k => decide (f k ≠ g k)) 28
theorem fo_eb_i {f g : Nat → Nat} : fo_eb f g = true ↔ fo_E f g := by
  unfold fo_eb fo_E
  rw [Bool.not_eq_true', bb_ex_f]
  constructor
  · intro h k hk
    have := of_decide_eq_false (h k hk)
    exact Classical.not_not.mp this
  · intro h k hk
    exact decide_eq_false (fun z => z (h k hk))
theorem fo_eb_f {f g : Nat → Nat} (h : ¬ fo_E f g) : fo_eb f g = false := by
  cases hz : fo_eb f g with
  | false => rfl
  | true => exact absurd (fo_eb_i.mp hz) h
theorem fo_E_s {f g : Nat → Nat} (h : fo_E f g) : fo_E g f := fun k hk => (h k hk).symm
theorem fo_E_t {f g h : Nat → Nat} (a : fo_E f g) (b : fo_E g h) : fo_E f h := fun k hk => (a k hk).trans (b k hk)
theorem fo_tri (f g : Nat → Nat) : fo_L f g ∨ fo_E f g ∨ fo_L g f := by
  rcases Classical.em (∃ k, k < 28 ∧ f k ≠ g k) with z | z
  · obtain ⟨k, ⟨hk, hne⟩, hm⟩ := pk_least (fun k => k < 28 ∧ f k ≠ g k) z
    have he : ∀ j, j < k → f j = g j := fun j hj => by
      rcases Classical.em (f j = g j) with e | e
      · exact e
      · exact absurd ⟨by omega, e⟩ (hm j hj)
    rcases Nat.lt_or_ge (f k) (g k) with y | y
    · exact Or.inl ⟨k, hk, y, he⟩
    · exact Or.inr (Or.inr ⟨k, hk, by omega, fun j hj => (he j hj).symm⟩)
  · refine Or.inr (Or.inl (fun k hk => ?_))
    rcases Classical.em (f k = g k) with e | e
    · exact e
    · exact absurd ⟨k, hk, e⟩ z
theorem fo_L_t {f g h : Nat → Nat} (a : fo_L f g) (b : fo_L g h) : fo_L f h := by
  obtain ⟨k, hk, h1, h2⟩ := a
  obtain ⟨m, hm, h3, h4⟩ := b
  rcases Nat.lt_trichotomy k m with z | z | z
  · exact ⟨k, hk, by rw [← h4 k z]; exact h1, fun j hj => by rw [h2 j hj, h4 j (by omega)]⟩
  · subst z; exact ⟨k, hk, by omega, fun j hj => by rw [h2 j hj, h4 j hj]⟩
  · exact ⟨m, hm, by rw [h2 m z]; exact h3, fun j hj => by rw [h2 j (by omega), h4 j hj]⟩
theorem fo_L_E {f g h : Nat → Nat} (a : fo_L f g) (b : fo_E g h) : fo_L f h := by
  obtain ⟨k, hk, h1, h2⟩ := a
  exact ⟨k, hk, by rw [← b k hk]; exact h1, fun j hj => by rw [h2 j hj, b j (by omega)]⟩
theorem fo_E_L {f g h : Nat → Nat} (b : fo_E f g) (a : fo_L g h) : fo_L f h := by
  obtain ⟨k, hk, h1, h2⟩ := a
  exact ⟨k, hk, by rw [b k hk]; exact h1, fun j hj => by rw [b j (by omega), h2 j hj]⟩
theorem fo_L_n {f g : Nat → Nat} (a : fo_L f g) (b : fo_E f g) : False := by
  obtain ⟨k, hk, h1, _⟩ := a
  have := b k hk; omega
theorem fo_L_a {f g : Nat → Nat} (a : fo_L f g) (b : fo_L g f) : False := fo_L_n (fo_L_t a b) (fun _ _ => rfl)
/-! the component's search: what holds of the orders that are done -/
def fo_J (F : List Nat → Nat → Nat) (D : List (List Nat)) (L : Nat → Nat) (c : Nat) (fo : List Nat) (st : Nat → Nat → Bool) : Prop :=
  (∀ Q, Q ∈ D → ¬ fo_L (F Q) L) ∧ c = ls_t (fun Q => fo_eb (F Q) L) D ∧ (∀ p a, st p a = true ↔ ∃ Q, Q ∈ D ∧ fo_eb (F Q) L = true ∧ p < Q.length ∧ pe_at Q p = a) ∧ (0 < c → fo ∈ D ∧ fo_eb (F fo) L = true)
theorem fo_J_0 (F : List Nat → Nat → Nat) (L : Nat → Nat) (fo : List Nat) : fo_J F [] L 0 fo (fun _ _ => false) :=
  ⟨fun Q hQ => absurd hQ (by simp), rfl, fun p a => ⟨fun z => Bool.noConfusion z, fun ⟨Q, hQ, _⟩ => absurd hQ (by simp)⟩, fun z => absurd z (by decide)⟩
theorem fo_J_leaf {F : List Nat → Nat → Nat} {D : List (List Nat)} {L : Nat → Nat} {c : Nat} {fo : List Nat} {st : Nat → Nat → Bool} (h : fo_J F D L c fo st) {Q : List Nat} (hQ : fo_E (F Q) L) :
    fo_J F (D ++ [Q]) L (c + 1) (if c = 0 then Q else fo) (fun p a => st p a || decide (p < Q.length ∧ pe_at Q p = a)) := by
  obtain ⟨h1, h2, h3, h4⟩ := h
  refine ⟨fun R hR => ?_, ?_, fun p a => ?_, fun _ => ?_⟩
  · rcases List.mem_append.mp hR with z | z
    · exact h1 R z
    · rw [List.mem_singleton.mp z]; exact fun y => fo_L_n y hQ
  · rw [ls_tap, ← h2]
    show c + 1 = c + (fo_eb (F Q) L).toNat
    rw [fo_eb_i.mpr hQ]; rfl
  · rw [Bool.or_eq_true, h3, decide_eq_true_iff]
    constructor
    · rintro (⟨R, hR, z1, z2, z3⟩ | ⟨z1, z2⟩)
      · exact ⟨R, List.mem_append_left _ hR, z1, z2, z3⟩
      · exact ⟨Q, List.mem_append_right _ (List.mem_singleton.mpr rfl), fo_eb_i.mpr hQ, z1, z2⟩
    · rintro ⟨R, hR, z1, z2, z3⟩
      rcases List.mem_append.mp hR with y | y
      · exact Or.inl ⟨R, y, z1, z2, z3⟩
      · rw [List.mem_singleton.mp y] at z2 z3
        exact Or.inr ⟨z2, z3⟩
  · by_cases hc : c = 0
    · rw [if_pos hc]; exact ⟨List.mem_append_right _ (List.mem_singleton.mpr rfl), fo_eb_i.mpr hQ⟩
    · rw [if_neg hc]; exact ⟨List.mem_append_left _ (h4 (by omega)).1, (h4 (by omega)).2⟩
theorem fo_J_low {F : List Nat → Nat → Nat} {D : List (List Nat)} {L L' : Nat → Nat} {c : Nat} {fo fo' : List Nat} {st : Nat → Nat → Bool} (h : fo_J F D L c fo st) (hl : fo_L L' L) : fo_J F D L' 0 fo' (fun _ _ => false) := by
  have hlt : ∀ Q, Q ∈ D → fo_L L' (F Q) := fun Q hQ => by
    rcases fo_tri (F Q) L with z | z | z
    · exact absurd z (h.1 Q hQ)
    · exact fo_L_E hl (fo_E_s z)
    · exact fo_L_t hl z
  refine ⟨fun Q hQ z => fo_L_a z (hlt Q hQ), ?_, fun p a => ⟨fun z => Bool.noConfusion z, fun ⟨Q, hQ, z, _⟩ => ?_⟩, fun z => absurd z (by decide)⟩
  · exact (ls_tz D (fun Q hQ => fo_eb_f (fun z => fo_L_n (hlt Q hQ) (fo_E_s z)))).symm
  · exact absurd (fo_E_s (fo_eb_i.mp z)) (fun y => fo_L_n (hlt Q hQ) y)
theorem fo_J_cut {F : List Nat → Nat → Nat} {D T : List (List Nat)} {L : Nat → Nat} {c : Nat} {fo : List Nat} {st : Nat → Nat → Bool} (h : fo_J F D L c fo st) (hT : ∀ Q, Q ∈ T → fo_L L (F Q)) : fo_J F (D ++ T) L c fo st := by
  obtain ⟨h1, h2, h3, h4⟩ := h
  refine ⟨fun R hR => ?_, ?_, fun p a => ?_, fun z => ⟨List.mem_append_left _ (h4 z).1, (h4 z).2⟩⟩
  · rcases List.mem_append.mp hR with z | z
    · exact h1 R z
    · exact fun y => fo_L_a y (hT R z)
  · rw [ls_tap, ← h2, ls_tz T (fun Q hQ => fo_eb_f (fun z => fo_L_n (hT Q hQ) (fo_E_s z)))]; rfl
  · rw [h3]
    constructor
    · rintro ⟨R, hR, z⟩; exact ⟨R, List.mem_append_left _ hR, z⟩
    · rintro ⟨R, hR, z⟩
      rcases List.mem_append.mp hR with y | y
      · exact ⟨R, y, z⟩
      · exact absurd (fo_E_s (fo_eb_i.mp z.1)) (fun w => fo_L_n (hT R y) w)
/-! carryings -/
def pe_iso (n : Nat) (el0 : Nat → Nat) (bo0 : Nat → Nat → Nat) (el1 : Nat → Nat) (bo1 : Nat → Nat → Nat) (s : List Nat) : Prop := ∀ a b, a < n → b < n → el1 a = el0 (pe_at s a) ∧ bo1 a b = bo0 (pe_at s a) (pe_at s b)
def pe_sd (n : Nat) (bo : Nat → Nat → Nat) : Prop := (∀ a b, a < n → b < n → bo a b = bo b a) ∧ ∀ a, a < n → bo a a = 0
theorem pe_iso_i {n : Nat} (hn : n ≤ 7) {el0 el1 : Nat → Nat} {bo0 bo1 : Nat → Nat → Nat} (h0 : pe_sd n bo0) (h1 : pe_sd n bo1) {M s : List Nat} (hM : M ∈ pe_D n) (hs : s ∈ pe_D n) :
    fo_E (fo_F el0 bo0 (pe_ap M s)) (fo_F el1 bo1 M) ↔ pe_iso n el0 bo0 el1 bo1 s := by
  obtain ⟨m1, m2⟩ := pe_D_m.mp hM
  obtain ⟨s1, s2⟩ := pe_D_m.mp hs
  obtain ⟨q1, _⟩ := pe_D_m.mp (pe_ap_m hM hs)
  have hat : ∀ i, i < n → pe_at M i < n ∧ pe_at s (pe_at M i) < n := fun i hi => by
    have := m2.2 _ (pe_at_m M i (by omega))
    exact ⟨this, s2.2 _ (pe_at_m s _ (by omega))⟩
  constructor
  · intro hE
    have hen : ∀ i j, i < n → j ≤ i → fo_e el0 bo0 (pe_ap M s) i j = fo_e el1 bo1 M i j := fun i j hi hj => by
      have hk := fo_ij i (by omega) j (by omega) hj
      have hd := fo_dk n (by omega) i hi
      have := hE (fo_t i + j) hk.2.1
      unfold fo_F at this
      rw [q1, m1, if_pos (by omega), if_pos (by omega), hk.1] at this
      have e : fo_t i + j - fo_t i = j := by omega
      rw [e] at this; exact this
    intro a b ha hb
    obtain ⟨i, hi, ei⟩ := pe_m_at M (pe_all m1 m2 ha)
    obtain ⟨j, hj, ej⟩ := pe_m_at M (pe_all m1 m2 hb)
    have hel : el0 (pe_at (pe_ap M s) i) = el1 (pe_at M i) := hen i 0 (by omega) (by omega)
    rw [pe_ap_at hi, ei] at hel
    refine ⟨hel.symm, ?_⟩
    rcases Nat.lt_trichotomy i j with z | z | z
    · have : bo0 (pe_at (pe_ap M s) j) (pe_at (pe_ap M s) i) = bo1 (pe_at M j) (pe_at M i) := hen j (i + 1) (by omega) (by omega)
      rw [pe_ap_at hi, pe_ap_at hj, ei, ej] at this
      rw [h1.1 a b ha hb, h0.1 _ _ (s2.2 _ (pe_at_m s a (by omega))) (s2.2 _ (pe_at_m s b (by omega))), this]
    · have : a = b := by rw [← ei, ← ej, z]
      subst this
      rw [h1.2 a ha, h0.2 _ (s2.2 _ (pe_at_m s a (by omega)))]
    · have : bo0 (pe_at (pe_ap M s) i) (pe_at (pe_ap M s) j) = bo1 (pe_at M i) (pe_at M j) := hen i (j + 1) (by omega) (by omega)
      rw [pe_ap_at hi, pe_ap_at hj, ei, ej] at this
      exact this.symm
  · intro h k hk
    unfold fo_F
    rw [q1, m1]
    by_cases hkn : k < fo_t n
    · rw [if_pos hkn, if_pos hkn]
      have hi := fo_kd n (by omega) k hk hkn
      have hj := (fo_k k hk).2.2.1
      generalize fo_i k = i at hi hj
      generalize k - fo_t i = j at hj
      have hi' := hat i hi
      cases j with
      | zero =>
        show el0 (pe_at (pe_ap M s) i) = el1 (pe_at M i)
        rw [pe_ap_at (by omega)]
        exact ((h (pe_at M i) (pe_at M i) hi'.1 hi'.1).1).symm
      | succ j =>
        show bo0 (pe_at (pe_ap M s) i) (pe_at (pe_ap M s) j) = bo1 (pe_at M i) (pe_at M j)
        rw [pe_ap_at (by omega), pe_ap_at (by omega)]
        exact ((h (pe_at M i) (pe_at M j) hi'.1 (hat j (by omega)).1).2).symm
    · rw [if_neg hkn, if_neg hkn]
end
section
/-! one molecule in another -/
theorem fd_cl (p : Nat → Bool) : ∀ k : Nat, bb_cn p k = ((List.range' 0 k).filter p).length := by
  intro k
  induction k with
  | zero => rfl
  | succ k ih =>
    rw [bb_cn_s, ih, List.range'_1_concat, List.filter_append, List.length_append, Nat.zero_add]
    cases hp : p k with
    | true => rw [List.filter_cons_of_pos hp]; rfl
    | false => rw [List.filter_cons_of_neg (by rw [hp]; decide)]; rfl
theorem fd_cinj {p q : Nat → Bool} {k m : Nat} (f : Nat → Nat) (h1 : ∀ x, x < k → p x = true → f x < m ∧ q (f x) = true) (h2 : ∀ x y, x < k → y < k → f x = f y → x = y) : bb_cn p k ≤ bb_cn q m := by
  rw [fd_cl, fd_cl, ← List.length_map (f := f)]
  have hm : ∀ x, x ∈ (List.range' 0 k).filter p → x < k ∧ p x = true := fun x hx => by
    rw [List.mem_filter, List.mem_range'_1] at hx
    exact ⟨by omega, hx.2⟩
  refine List.Nodup.length_le_of_subset ?_ (fun y hy => ?_)
  · have hnd : ((List.range' 0 k).filter p).Nodup := List.Pairwise.filter _ List.nodup_range'
    refine List.pairwise_map.mpr (List.Pairwise.imp_of_mem ?_ hnd)
    intro a b ha hb hab e
    exact hab (h2 a b (hm a ha).1 (hm b hb).1 e)
  · obtain ⟨x, hx, rfl⟩ := List.mem_map.mp hy
    obtain ⟨a, b⟩ := hm x hx
    obtain ⟨c, d⟩ := h1 x a b
    rw [List.mem_filter, List.mem_range'_1]
    exact ⟨⟨by omega, by omega⟩, d⟩
section
variable (n0 : Nat) (el0 : Nat → Nat) (bo0 : Nat → Nat → Nat) (n1 : Nat) (el1 : Nat → Nat) (bo1 : Nat → Nat → Nat)
/-- the next atom can be carried to b -/
def fd_ok (P : List Nat) (b : Nat) : Bool := !bb_ex (fun i => decide (pe_at P i = b ∨ (0 < bo1 i P.length ∧ bo0 (pe_at P i) b ≠ bo1 i P.length))) P.length && decide (el1 P.length = el0 b)
def fd_F : Nat → List Nat → Nat
  | 0, _ => 1
  | r + 1, P => bb_sm (fun b => bif fd_ok el0 bo0 el1 bo1 P b then fd_F r (P ++ [b]) else 0) n0
theorem fd_F_s (r : Nat) (P : List Nat) : fd_F n0 el0 bo0 el1 bo1 (r + 1) P = bb_sm (fun b => bif fd_ok el0 bo0 el1 bo1 P b then fd_F n0 el0 bo0 el1 bo1 r (P ++ [b]) else 0) n0 := rfl
def fd_M (P : List Nat) : Prop := pe_Q n0 P ∧ ∀ c, c < P.length → el1 c = el0 (pe_at P c) ∧ ∀ i, i < c → bo1 i c = 0 ∨ bo0 (pe_at P i) (pe_at P c) = bo1 i c
theorem fd_ok_i {P : List Nat} {b : Nat} : fd_ok el0 bo0 el1 bo1 P b = true ↔ b ∉ P ∧ el1 P.length = el0 b ∧ ∀ i, i < P.length → bo1 i P.length = 0 ∨ bo0 (pe_at P i) b = bo1 i P.length := by
  unfold fd_ok
  rw [Bool.and_eq_true, Bool.not_eq_true', bb_ex_f, decide_eq_true_iff]
  constructor
  · rintro ⟨h1, h2⟩
    refine ⟨fun hm => ?_, h2, fun i hi => ?_⟩
    · obtain ⟨i, hi, e⟩ := pe_m_at P hm
      have := of_decide_eq_false (h1 i hi)
      exact this (Or.inl e)
    · have := of_decide_eq_false (h1 i hi)
      rcases Nat.eq_zero_or_pos (bo1 i P.length) with z | z
      · exact Or.inl z
      · refine Or.inr ?_
        rcases Classical.em (bo0 (pe_at P i) b = bo1 i P.length) with y | y
        · exact y
        · exact absurd (Or.inr ⟨z, y⟩) this
  · rintro ⟨h1, h2, h3⟩
    refine ⟨fun i hi => decide_eq_false ?_, h2⟩
    rintro (e | ⟨e1, e2⟩)
    · exact h1 (e ▸ pe_at_m P i hi)
    · rcases h3 i hi with z | z
      · omega
      · exact e2 z
theorem fd_M_a {P : List Nat} {b : Nat} (h : fd_M n0 el0 bo0 el1 bo1 P) (hb : b < n0) (hk : fd_ok el0 bo0 el1 bo1 P b = true) : fd_M n0 el0 bo0 el1 bo1 (P ++ [b]) := by
  obtain ⟨k1, k2, k3⟩ := (fd_ok_i el0 bo0 el1 bo1).mp hk
  refine ⟨pe_Q_a h.1 hb k1, fun c hc => ?_⟩
  rw [List.length_append] at hc
  have hc' : c < P.length + 1 := hc
  by_cases e : c = P.length
  · subst e
    rw [pe_at_r P]
    exact ⟨k2, fun i hi => by rw [pe_at_l P i hi]; exact k3 i hi⟩
  · have hl : c < P.length := by omega
    rw [pe_at_l P c hl]
    exact ⟨(h.2 c hl).1, fun i hi => by rw [pe_at_l P i (by omega)]; exact (h.2 c hl).2 i hi⟩
theorem fd_pos : ∀ (r : Nat) (P : List Nat), fd_M n0 el0 bo0 el1 bo1 P → 0 < fd_F n0 el0 bo0 el1 bo1 r P → ∃ T, T.length = r ∧ fd_M n0 el0 bo0 el1 bo1 (P ++ T) := by
  intro r
  induction r with
  | zero => intro P h _; exact ⟨[], rfl, by rw [List.append_nil]; exact h⟩
  | succ r ih =>
    intro P h hp
    rw [fd_F_s] at hp
    rcases Classical.em (∃ b, b < n0 ∧ fd_ok el0 bo0 el1 bo1 P b = true ∧ 0 < fd_F n0 el0 bo0 el1 bo1 r (P ++ [b])) with ⟨b, hb, hk, hf⟩ | z
    · obtain ⟨T, hT, hM⟩ := ih (P ++ [b]) (fd_M_a n0 el0 bo0 el1 bo1 h hb hk) hf
      exact ⟨b :: T, by rw [List.length_cons, hT], by rw [List.append_assoc] at hM; exact hM⟩
    · exfalso
      rw [bb_sm_z n0 (fun b hb => ?_)] at hp
      · omega
      · cases hk : fd_ok el0 bo0 el1 bo1 P b with
        | false => rfl
        | true =>
          show fd_F n0 el0 bo0 el1 bo1 r (P ++ [b]) = 0
          rcases Nat.eq_zero_or_pos (fd_F n0 el0 bo0 el1 bo1 r (P ++ [b])) with y | y
          · exact y
          · exact absurd ⟨b, hb, hk, y⟩ z
/-- as many bonds of each order -/
def fd_en (c b : Nat) : Bool := !bb_ex (fun o => decide (bb_cn (fun y => decide (bo0 b y = o + 1)) n0 < bb_cn (fun x => decide (bo1 c x = o + 1)) n1)) 3
theorem fd_nec {Q : List Nat} (hs0 : ∀ a b, a < n0 → b < n0 → bo0 a b = bo0 b a) (hs1 : pe_sd n1 bo1) (h : fd_M n0 el0 bo0 el1 bo1 Q) (hl : Q.length = n1) {c : Nat} (hc : c < n1) : fd_en n0 bo0 n1 bo1 c (pe_at Q c) = true := by
  unfold fd_en
  rw [Bool.not_eq_true', bb_ex_f]
  intro o _
  refine decide_eq_false (Nat.not_lt.mpr ?_)
  refine fd_cinj (pe_at Q) (fun x hx he => ?_) (fun x y hx hy e => pe_inj Q h.1.1 x y (by omega) (by omega) e)
  have he' : bo1 c x = o + 1 := of_decide_eq_true he
  have hxn : pe_at Q x < n0 := h.1.2 _ (pe_at_m Q x (by omega))
  have hcn : pe_at Q c < n0 := h.1.2 _ (pe_at_m Q c (by omega))
  refine ⟨hxn, decide_eq_true ?_⟩
  rcases Nat.lt_trichotomy c x with z | z | z
  · rcases (h.2 x (by omega)).2 c z with y | y
    · omega
    · rw [y, he']
  · subst z; rw [hs1.2 c hc] at he'; omega
  · rcases (h.2 c (by omega)).2 x z with y | y
    · rw [hs1.1 x c hx hc] at y; omega
    · rw [hs0 _ _ hcn hxn, y, hs1.1 x c hx hc, he']
/-- the atoms that c could be carried to behind P -/
def fd_c (P : List Nat) (c b : Nat) : Bool := decide (b < n0) && !pe_in b P && decide (el1 c = el0 b) && fd_en n0 bo0 n1 bo1 c b && !bb_ex (fun i => decide (0 < bo1 i c ∧ bo0 (pe_at P i) b ≠ bo1 i c)) P.length
theorem fd_c_i {P : List Nat} {c b : Nat} : fd_c n0 el0 bo0 n1 el1 bo1 P c b = true ↔ b < n0 ∧ b ∉ P ∧ el1 c = el0 b ∧ fd_en n0 bo0 n1 bo1 c b = true ∧ ∀ i, i < P.length → bo1 i c = 0 ∨ bo0 (pe_at P i) b = bo1 i c := by
  unfold fd_c
  rw [Bool.and_eq_true, Bool.and_eq_true, Bool.and_eq_true, Bool.and_eq_true, Bool.not_eq_true', Bool.not_eq_true', pe_in_f, bb_ex_f, decide_eq_true_iff, decide_eq_true_iff]
  constructor
  · rintro ⟨⟨⟨⟨h1, h2⟩, h3⟩, h4⟩, h5⟩
    refine ⟨h1, h2, h3, h4, fun i hi => ?_⟩
    have := of_decide_eq_false (h5 i hi)
    rcases Nat.eq_zero_or_pos (bo1 i c) with z | z
    · exact Or.inl z
    · rcases Classical.em (bo0 (pe_at P i) b = bo1 i c) with y | y
      · exact Or.inr y
      · exact absurd ⟨z, y⟩ this
  · rintro ⟨h1, h2, h3, h4, h5⟩
    refine ⟨⟨⟨⟨h1, h2⟩, h3⟩, h4⟩, fun i hi => decide_eq_false ?_⟩
    rintro ⟨e1, e2⟩
    rcases h5 i hi with z | z
    · omega
    · exact e2 z
theorem fd_c_ok {P : List Nat} {b : Nat} (h : fd_c n0 el0 bo0 n1 el1 bo1 P P.length b = true) : b < n0 ∧ fd_ok el0 bo0 el1 bo1 P b = true := by
  obtain ⟨h1, h2, h3, _, h5⟩ := (fd_c_i n0 el0 bo0 n1 el1 bo1).mp h
  exact ⟨h1, (fd_ok_i el0 bo0 el1 bo1).mpr ⟨h2, h3, h5⟩⟩
/-- a completed carrying goes through the sets -/
theorem fd_c_full {P T : List Nat} (hs0 : ∀ a b, a < n0 → b < n0 → bo0 a b = bo0 b a) (hs1 : pe_sd n1 bo1) (h : fd_M n0 el0 bo0 el1 bo1 (P ++ T)) (hl : (P ++ T).length = n1) {c : Nat} (h1 : P.length ≤ c) (hc : c < n1) : fd_c n0 el0 bo0 n1 el1 bo1 P c (pe_at (P ++ T) c) = true := by
  refine (fd_c_i n0 el0 bo0 n1 el1 bo1).mpr ⟨h.1.2 _ (pe_at_m _ c (by omega)), fun hm => ?_, (h.2 c (by omega)).1, fd_nec n0 el0 bo0 n1 el1 bo1 hs0 hs1 h hl hc, fun i hi => ?_⟩
  · obtain ⟨i, hi, e⟩ := pe_m_at P hm
    rw [← pe_at_l (Q := T) P i hi] at e
    have := pe_inj (P ++ T) h.1.1 i c (by omega) (by omega) e
    omega
  · have := (h.2 c (by omega)).2 i (by omega)
    rw [pe_at_l P i hi] at this
    exact this
/-- the component's sum over its set is the reference's over all -/
theorem fd_sum {P : List Nat} {r : Nat} (hn0 : n0 ≤ 7) (hs0 : ∀ a b, a < n0 → b < n0 → bo0 a b = bo0 b a) (hs1 : pe_sd n1 bo1) (h : fd_M n0 el0 bo0 el1 bo1 P) (hl : P.length + (r + 1) = n1) :
    fd_F n0 el0 bo0 el1 bo1 (r + 1) P = bb_sm (fun b => bif (bb_bs (fd_c n0 el0 bo0 n1 el1 bo1 P P.length) 7).testBit b then fd_F n0 el0 bo0 el1 bo1 r (P ++ [b]) else 0) 7 := by
  have e1 : bb_sm (fun b => bif fd_ok el0 bo0 el1 bo1 P b then fd_F n0 el0 bo0 el1 bo1 r (P ++ [b]) else 0) n0 = bb_sm (fun b => bif decide (b < n0) && fd_ok el0 bo0 el1 bo1 P b then fd_F n0 el0 bo0 el1 bo1 r (P ++ [b]) else 0) 7 := by
    rw [bb_sm_ext (m := n0) 7 hn0 (fun i hi _ => by rw [decide_eq_false (by omega)]; rfl)]
    exact bb_sm_cg n0 (fun b hb => by rw [decide_eq_true hb, Bool.true_and])
  rw [fd_F_s, e1]
  refine bb_sm_cg 7 (fun b hb => ?_)
  rw [bb_bs_b _ hb]
  cases hc : fd_c n0 el0 bo0 n1 el1 bo1 P P.length b with
  | true =>
    obtain ⟨h1, h2⟩ := fd_c_ok n0 el0 bo0 n1 el1 bo1 hc
    rw [decide_eq_true h1, h2]; rfl
  | false =>
    cases hk : decide (b < n0) && fd_ok el0 bo0 el1 bo1 P b with
    | false => rfl
    | true =>
      show fd_F n0 el0 bo0 el1 bo1 r (P ++ [b]) = 0
      rw [Bool.and_eq_true, decide_eq_true_iff] at hk
      rcases Nat.eq_zero_or_pos (fd_F n0 el0 bo0 el1 bo1 r (P ++ [b])) with y | y
      · exact y
      · exfalso
        obtain ⟨T, hT, hM⟩ := fd_pos n0 el0 bo0 el1 bo1 r _ (fd_M_a n0 el0 bo0 el1 bo1 h hk.1 hk.2) y
        rw [List.append_assoc] at hM
        have := fd_c_full n0 el0 bo0 n1 el1 bo1 (P := P) hs0 hs1 hM (by rw [List.length_append]; show P.length + (T.length + 1) = n1; omega) (Nat.le_refl _) (by omega)
        rw [show pe_at (P ++ ([b] ++ T)) P.length = b from pe_at_r P, hc] at this
        exact absurd this (by decide)
/-- a set that is empty leaves nothing -/
theorem fd_dead {P : List Nat} {r c : Nat} (hn0 : n0 ≤ 7) (hs0 : ∀ a b, a < n0 → b < n0 → bo0 a b = bo0 b a) (hs1 : pe_sd n1 bo1) (h : fd_M n0 el0 bo0 el1 bo1 P) (hl : P.length + r = n1) (h1 : P.length ≤ c) (hc : c < n1) (h0 : bb_bs (fd_c n0 el0 bo0 n1 el1 bo1 P c) 7 = 0) :
    fd_F n0 el0 bo0 el1 bo1 r P = 0 := by
  rcases Nat.eq_zero_or_pos (fd_F n0 el0 bo0 el1 bo1 r P) with y | y
  · exact y
  · exfalso
    obtain ⟨T, hT, hM⟩ := fd_pos n0 el0 bo0 el1 bo1 r P h y
    have hlen : (P ++ T).length = n1 := by rw [List.length_append]; omega
    have hf := fd_c_full n0 el0 bo0 n1 el1 bo1 hs0 hs1 hM hlen h1 hc
    have hb : pe_at (P ++ T) c < 7 := Nat.lt_of_lt_of_le (hM.1.2 _ (pe_at_m _ c (by omega))) hn0
    have : (bb_bs (fd_c n0 el0 bo0 n1 el1 bo1 P c) 7).testBit (pe_at (P ++ T) c) = true := by rw [bb_bs_b _ hb]; exact hf
    rw [h0, Nat.zero_testBit] at this
    exact absurd this (by decide)
/-- one atom more: what stays -/
theorem fd_c_s {P : List Nat} {b c y : Nat} : fd_c n0 el0 bo0 n1 el1 bo1 (P ++ [b]) c y = (fd_c n0 el0 bo0 n1 el1 bo1 P c y && !decide (y = b) && !decide (0 < bo1 P.length c ∧ bo0 b y ≠ bo1 P.length c)) := by
  rw [Bool.eq_iff_iff, Bool.and_eq_true, Bool.and_eq_true, Bool.not_eq_true', Bool.not_eq_true', decide_eq_false_iff_not, decide_eq_false_iff_not, fd_c_i, fd_c_i]
  constructor
  · rintro ⟨h1, h2, h3, h4, h5⟩
    refine ⟨⟨⟨h1, fun z => h2 (List.mem_append_left _ z), h3, h4, fun i hi => ?_⟩, fun e => h2 (List.mem_append_right _ (List.mem_singleton.mpr e))⟩, ?_⟩
    · have := h5 i (by rw [List.length_append]; omega)
      rw [pe_at_l P i hi] at this; exact this
    · rintro ⟨e1, e2⟩
      have := h5 P.length (by rw [List.length_append]; show _ < _ + 1; omega)
      rw [pe_at_r P] at this
      rcases this with z | z
      · omega
      · exact e2 z
  · rintro ⟨⟨⟨h1, h2, h3, h4, h5⟩, h6⟩, h7⟩
    refine ⟨h1, fun z => ?_, h3, h4, fun i hi => ?_⟩
    · rcases List.mem_append.mp z with e | e
      · exact h2 e
      · exact h6 (List.mem_singleton.mp e)
    · rw [List.length_append] at hi
      have hi' : i < P.length + 1 := hi
      by_cases e : i = P.length
      · subst e
        rw [pe_at_r P]
        rcases Nat.eq_zero_or_pos (bo1 P.length c) with z | z
        · exact Or.inl z
        · rcases Classical.em (bo0 b y = bo1 P.length c) with w | w
          · exact Or.inr w
          · exact absurd ⟨z, w⟩ h7
      · rw [pe_at_l P i (by omega)]; exact h5 i (by omega)
end
end
section
/-! reading a text: the pure state is (m, el, bo, last, said, h, pl, mw, mo) -/
abbrev RdS : Type := Nat × (Nat → Nat) × (Nat → Nat → Nat) × Option Nat × Nat × Nat × (Nat → Nat) × (Nat → Option Nat) × (Nat → Nat)
def rd_u {α : Type} (f : Nat → α) (k : Nat) (x : α) : Nat → α := fun j => if j = k then x else f j
theorem rd_us {α : Type} {f : Nat → α} {k : Nat} {x : α} : rd_u f k x k = x := if_pos rfl
theorem rd_un {α : Type} {f : Nat → α} {k j : Nat} {x : α} (h : j ≠ k) : rd_u f k x j = f j := if_neg h
def rd_jn (bo : Nat → Nat → Nat) (a b o : Nat) : Nat → Nat → Nat := fun x y => if (x = a ∧ y = b) ∨ (x = b ∧ y = a) then o else bo x y
def rd_sd (bo : Nat → Nat → Nat) (a : Nat) : Nat := bb_sm (bo a) 7
def rd_o (said : Nat) : Nat := if said = 0 then 1 else said
def rd_atom (t m : Nat) (el : Nat → Nat) (bo : Nat → Nat → Nat) (last : Option Nat) (said h : Nat) (pl : Nat → Nat) (mw : Nat → Option Nat) (mo : Nat → Nat) : Option RdS :=
  if m = 7 then none else
  match last with
  | none => if 0 < said then none else some (m + 1, rd_u el m t, bo, some m, 0, h, pl, mw, mo)
  | some l => if rd_sd bo l + rd_o said ≤ 4 - el l ∧ rd_o said ≤ 4 - t then some (m + 1, rd_u el m t, rd_jn bo l m (rd_o said), some m, 0, h, pl, mw, mo) else none
def rd_mark (k m : Nat) (el : Nat → Nat) (bo : Nat → Nat → Nat) (last : Option Nat) (said h : Nat) (pl : Nat → Nat) (mw : Nat → Option Nat) (mo : Nat → Nat) : Option RdS :=
  match last with
  | none => none
  | some l =>
    match mw k with
    | none => some (m, el, bo, some l, 0, h, pl, rd_u mw k (some l), rd_u mo k said)
    | some a =>
      if a = l ∨ 0 < bo a l ∨ (0 < said ∧ 0 < mo k ∧ said ≠ mo k) then none
      else if rd_sd bo a + (if 0 < said then said else rd_o (mo k)) ≤ 4 - el a ∧ rd_sd bo l + (if 0 < said then said else rd_o (mo k)) ≤ 4 - el l then some (m, el, rd_jn bo a l (if 0 < said then said else rd_o (mo k)), some l, 0, h, pl, rd_u mw k none, mo)
      else none
def rd_sign (t pv m : Nat) (el : Nat → Nat) (bo : Nat → Nat → Nat) (last : Option Nat) (said h : Nat) (pl : Nat → Nat) (mw : Nat → Option Nat) (mo : Nat → Nat) : Option RdS :=
  if t = 11 then
    if h = 0 ∨ 0 < said ∨ pv = 10 then none else some (m, el, bo, some (pl (h - 1)), said, h - 1, pl, mw, mo)
  else
    match last with
    | none => none
    | some l =>
      if 0 < said then none
      else if t = 10 then some (m, el, bo, some l, said, h + 1, rd_u pl h l, mw, mo)
      else if t = 14 then (if h = 0 then some (m, el, bo, none, said, h, pl, mw, mo) else none)
      else some (m, el, bo, some l, t - 10, h, pl, mw, mo)
def rd_st (t pv : Nat) (s : RdS) : Option RdS :=
  match s with
  | (m, el, bo, last, said, h, pl, mw, mo) =>
    if t < 4 then rd_atom t m el bo last said h pl mw mo
    else if 19 < t then rd_mark (t - 20) m el bo last said h pl mw mo
    else rd_sign t pv m el bo last said h pl mw mo
def rd_tk (t : Nat) : Prop := t < 4 ∨ (10 ≤ t ∧ t ≤ 14) ∨ (20 ≤ t ∧ t ≤ 22)
/-- what holds after i tokens -/
def rd_I (i m : Nat) (el : Nat → Nat) (bo : Nat → Nat → Nat) (last : Option Nat) (said h : Nat) (pl : Nat → Nat) (mw : Nat → Option Nat) (mo : Nat → Nat) : Prop :=
  m ≤ 7 ∧ (∀ a, a < m → el a ≤ 3) ∧ (∀ a b, bo a b = bo b a) ∧ (∀ a, bo a a = 0) ∧ (∀ a b, m ≤ a → bo a b = 0) ∧ (∀ a b, bo a b ≤ 3) ∧ (∀ l, last = some l → l < m) ∧ said ≤ 3 ∧ h ≤ i ∧ (∀ j, j < h → pl j < m) ∧ (∀ k a, mw k = some a → a < m) ∧ (∀ k a, mw k = some a → mo k ≤ 3)
theorem rd_jn_sy {bo : Nat → Nat → Nat} (h : ∀ a b, bo a b = bo b a) (a b o : Nat) : ∀ x y, rd_jn bo a b o x y = rd_jn bo a b o y x := by
  intro x y
  unfold rd_jn
  by_cases e : (x = a ∧ y = b) ∨ (x = b ∧ y = a)
  · rw [if_pos e, if_pos (by omega)]
  · rw [if_neg e, if_neg (by omega), h]
theorem rd_I_jn {m : Nat} {bo : Nat → Nat → Nat} {a b o : Nat} (h1 : ∀ a b, bo a b = bo b a) (h2 : ∀ a, bo a a = 0) (h3 : ∀ a b, m ≤ a → bo a b = 0) (h4 : ∀ a b, bo a b ≤ 3) (ha : a < m) (hb : b < m) (hab : a ≠ b) (ho : o ≤ 3) :
    (∀ x y, rd_jn bo a b o x y = rd_jn bo a b o y x) ∧ (∀ x, rd_jn bo a b o x x = 0) ∧ (∀ x y, m ≤ x → rd_jn bo a b o x y = 0) ∧ (∀ x y, rd_jn bo a b o x y ≤ 3) := by
  refine ⟨rd_jn_sy h1 a b o, fun x => ?_, fun x y hx => ?_, fun x y => ?_⟩
  · unfold rd_jn; rw [if_neg (by omega), h2]
  · unfold rd_jn; rw [if_neg (by omega), h3 x y hx]
  · unfold rd_jn
    by_cases e : (x = a ∧ y = b) ∨ (x = b ∧ y = a)
    · rw [if_pos e]; exact ho
    · rw [if_neg e]; exact h4 x y
theorem rd_o_le {s : Nat} (h : s ≤ 3) : 1 ≤ rd_o s ∧ rd_o s ≤ 3 := by
  unfold rd_o
  by_cases e : s = 0
  · rw [if_pos e]; omega
  · rw [if_neg e]; omega
theorem rd_sd_le {bo : Nat → Nat → Nat} (h : ∀ a b, bo a b ≤ 3) (a : Nat) : rd_sd bo a ≤ 21 := by
  have := bb_sm_le (f := bo a) (g := fun _ => 3) 7 (fun i _ => h a i)
  exact Nat.le_trans this (by decide)
/-- the sum of a joined atom's orders -/
theorem rd_sd_jn {bo : Nat → Nat → Nat} {a b o x : Nat} (ha : a < 7) (hb : b < 7) (hab : a ≠ b) (h0 : bo a b = 0) (h1 : bo b a = 0) : rd_sd (rd_jn bo a b o) x = rd_sd bo x + (if x = a ∨ x = b then o else 0) := by
  unfold rd_sd
  by_cases e : x = a
  · subst e
    rw [if_pos (Or.inl rfl)]
    refine bb_sm_up (i0 := b) 7 hb (fun i _ hn => ?_) ?_
    · unfold rd_jn; rw [if_neg (by omega)]
    · unfold rd_jn; rw [if_pos (Or.inl ⟨rfl, rfl⟩), h0]; omega
  · by_cases e' : x = b
    · subst e'
      rw [if_pos (Or.inr rfl)]
      refine bb_sm_up (i0 := a) 7 ha (fun i _ hn => ?_) ?_
      · unfold rd_jn; rw [if_neg (by omega)]
      · unfold rd_jn; rw [if_pos (Or.inr ⟨rfl, rfl⟩), h1]; omega
    · rw [if_neg (by omega), Nat.add_zero]
      refine bb_sm_cg 7 (fun i _ => ?_)
      unfold rd_jn; rw [if_neg (by omega)]
def rd_IS (i : Nat) (s : RdS) : Prop :=
  match s with
  | (m, el, bo, last, said, h, pl, mw, mo) => rd_I i m el bo last said h pl mw mo
theorem rd_I_atom {i t m : Nat} {el : Nat → Nat} {bo : Nat → Nat → Nat} {last : Option Nat} {said h : Nat} {pl : Nat → Nat} {mw : Nat → Option Nat} {mo : Nat → Nat} (ht : t < 4) (H : rd_I i m el bo last said h pl mw mo) {s : RdS} (e : rd_atom t m el bo last said h pl mw mo = some s) : rd_IS (i + 1) s := by
  obtain ⟨h1, h2, h3, h4, h5, h6, h7, h8, h9, h10, h11, h12⟩ := H
  have hel : ∀ a, a < m + 1 → rd_u el m t a ≤ 3 := fun a ha => by
    by_cases e : a = m
    · rw [e, rd_us]; omega
    · rw [rd_un e]; exact h2 a (by omega)
  unfold rd_atom at e
  by_cases hm : m = 7
  · rw [if_pos hm] at e; exact absurd e (by simp)
  · rw [if_neg hm] at e
    cases last with
    | none =>
      dsimp only at e
      by_cases hs : 0 < said
      · rw [if_pos hs] at e; exact absurd e (by simp)
      · rw [if_neg hs] at e
        rw [← Option.some.inj e]
        exact ⟨by omega, hel, h3, h4, fun a b ha => h5 a b (by omega), h6, fun l hl => by rw [← Option.some.inj hl]; omega, by omega, by omega, fun j hj => by have := h10 j hj; omega, fun k a hk => by have := h11 k a hk; omega, h12⟩
    | some l =>
      dsimp only at e
      by_cases hc : rd_sd bo l + rd_o said ≤ 4 - el l ∧ rd_o said ≤ 4 - t
      · rw [if_pos hc] at e
        rw [← Option.some.inj e]
        have hl := h7 l rfl
        obtain ⟨j1, j2, j3, j4⟩ := rd_I_jn (m := m + 1) (a := l) (b := m) (o := rd_o said) h3 h4 (fun a b ha => h5 a b (by omega)) h6 (by omega) (by omega) (by omega) (rd_o_le h8).2
        exact ⟨by omega, hel, j1, j2, j3, j4, fun l hl => by rw [← Option.some.inj hl]; omega, by omega, by omega, fun j hj => by have := h10 j hj; omega, fun k a hk => by have := h11 k a hk; omega, h12⟩
      · rw [if_neg hc] at e; exact absurd e (by simp)
theorem rd_I_mark {i k m : Nat} {el : Nat → Nat} {bo : Nat → Nat → Nat} {last : Option Nat} {said h : Nat} {pl : Nat → Nat} {mw : Nat → Option Nat} {mo : Nat → Nat} (H : rd_I i m el bo last said h pl mw mo) {s : RdS} (e : rd_mark k m el bo last said h pl mw mo = some s) : rd_IS (i + 1) s := by
  obtain ⟨h1, h2, h3, h4, h5, h6, h7, h8, h9, h10, h11, h12⟩ := H
  unfold rd_mark at e
  cases last with
  | none => exact absurd e (by simp)
  | some l =>
    have hl := h7 l rfl
    dsimp only at e
    cases hk : mw k with
    | none =>
      rw [hk] at e
      dsimp only at e
      rw [← Option.some.inj e]
      refine ⟨h1, h2, h3, h4, h5, h6, h7, by omega, by omega, h10, fun q a hq => ?_, fun q a hq => ?_⟩
      · by_cases e : q = k
        · subst e; rw [rd_us] at hq; rw [← Option.some.inj hq]; exact hl
        · rw [rd_un e] at hq; exact h11 q a hq
      · by_cases e : q = k
        · subst e; rw [rd_us]; exact h8
        · rw [rd_un e] at hq ⊢; exact h12 q a hq
    | some a =>
      rw [hk] at e
      dsimp only at e
      have ha := h11 k a hk
      by_cases hc : a = l ∨ 0 < bo a l ∨ (0 < said ∧ 0 < mo k ∧ said ≠ mo k)
      · rw [if_pos hc] at e; exact absurd e (by simp)
      · rw [if_neg hc] at e
        have ho : (if 0 < said then said else rd_o (mo k)) ≤ 3 := by
          by_cases z : 0 < said
          · rw [if_pos z]; exact h8
          · rw [if_neg z]; exact (rd_o_le (h12 k a hk)).2
        generalize (if 0 < said then said else rd_o (mo k)) = o at e ho
        by_cases hd : rd_sd bo a + o ≤ 4 - el a ∧ rd_sd bo l + o ≤ 4 - el l
        · rw [if_pos hd] at e
          rw [← Option.some.inj e]
          obtain ⟨j1, j2, j3, j4⟩ := rd_I_jn (m := m) (a := a) (b := l) (o := o) h3 h4 h5 h6 ha hl (fun z => hc (Or.inl z)) ho
          refine ⟨h1, h2, j1, j2, j3, j4, h7, by omega, by omega, h10, fun q a hq => ?_, fun q a hq => ?_⟩
          · by_cases e : q = k
            · subst e; rw [rd_us] at hq; exact absurd hq (by simp)
            · rw [rd_un e] at hq; exact h11 q a hq
          · by_cases e : q = k
            · subst e; rw [rd_us] at hq; exact absurd hq (by simp)
            · rw [rd_un e] at hq; exact h12 q a hq
        · rw [if_neg hd] at e; exact absurd e (by simp)
theorem rd_I_sign {i t pv m : Nat} {el : Nat → Nat} {bo : Nat → Nat → Nat} {last : Option Nat} {said h : Nat} {pl : Nat → Nat} {mw : Nat → Option Nat} {mo : Nat → Nat} (ht : t ≤ 14) (H : rd_I i m el bo last said h pl mw mo) {s : RdS} (e : rd_sign t pv m el bo last said h pl mw mo = some s) (hx : t = 10 ∨ t = 11 ∨ t = 12 ∨ t = 13 ∨ t = 14) : rd_IS (i + 1) s := by
  obtain ⟨h1, h2, h3, h4, h5, h6, h7, h8, h9, h10, h11, h12⟩ := H
  unfold rd_sign at e
  by_cases t11 : t = 11
  · rw [if_pos t11] at e
    by_cases hc : h = 0 ∨ 0 < said ∨ pv = 10
    · rw [if_pos hc] at e; exact absurd e (by simp)
    · rw [if_neg hc] at e
      rw [← Option.some.inj e]
      exact ⟨h1, h2, h3, h4, h5, h6, fun l hl => by rw [← Option.some.inj hl]; exact h10 _ (by omega), h8, by omega, fun j hj => h10 j (by omega), h11, h12⟩
  · rw [if_neg t11] at e
    cases last with
    | none => exact absurd e (by simp)
    | some l =>
      have hl := h7 l rfl
      dsimp only at e
      by_cases hs : 0 < said
      · rw [if_pos hs] at e; exact absurd e (by simp)
      · rw [if_neg hs] at e
        by_cases t10 : t = 10
        · rw [if_pos t10] at e
          rw [← Option.some.inj e]
          refine ⟨h1, h2, h3, h4, h5, h6, h7, h8, by omega, fun j hj => ?_, h11, h12⟩
          by_cases e : j = h
          · subst e; rw [rd_us]; exact hl
          · rw [rd_un e]; exact h10 j (by omega)
        · rw [if_neg t10] at e
          by_cases t14 : t = 14
          · rw [if_pos t14] at e
            by_cases hh : h = 0
            · rw [if_pos hh] at e
              rw [← Option.some.inj e]
              exact ⟨h1, h2, h3, h4, h5, h6, fun l hl => absurd hl (by simp), h8, by omega, h10, h11, h12⟩
            · rw [if_neg hh] at e; exact absurd e (by simp)
          · rw [if_neg t14] at e
            rw [← Option.some.inj e]
            exact ⟨h1, h2, h3, h4, h5, h6, h7, by omega, by omega, h10, h11, h12⟩
theorem rd_I_st {i t pv : Nat} {s s' : RdS} (ht : rd_tk t) (H : rd_IS i s) (e : rd_st t pv s = some s') : rd_IS (i + 1) s' := by
  obtain ⟨m, el, bo, last, said, h, pl, mw, mo⟩ := s
  unfold rd_st at e
  dsimp only at e
  unfold rd_tk at ht
  by_cases h4 : t < 4
  · rw [if_pos h4] at e; exact rd_I_atom h4 H e
  · rw [if_neg h4] at e
    by_cases h19 : 19 < t
    · rw [if_pos h19] at e; exact rd_I_mark H e
    · rw [if_neg h19] at e; exact rd_I_sign (by omega) H e (by omega)
/-- the end of a text of i tokens -/
def rd_en (tx : Nat → Nat) (i : Nat) (s : RdS) : Bool :=
  match s with
  | (_, _, _, _, said, h, _, mw, _) => decide (mw 0 = none ∧ mw 1 = none ∧ mw 2 = none ∧ h = 0 ∧ said = 0 ∧ (i = 0 ∨ tx (i - 1) ≠ 14))
/-- the rest of a text, d tokens from i on: where it is wrong, or -4 -/
def rd_lp (tx : Nat → Nat) : Nat → Nat → RdS → Int32 × RdS
  | 0, i, s => (bif rd_en tx i s then -4 else nI i, s)
  | d + 1, i, s =>
    match rd_st (tx i) (tx (i - 1)) s with
    | none => (nI i, s)
    | some s' => rd_lp tx d (i + 1) s'
def rd_s0 : RdS := (0, fun _ => 0, fun _ _ => 0, none, 0, 0, fun _ => 0, fun _ => none, fun _ => 0)
def rd_all (tx : Nat → Nat) (c : Nat) : Int32 × RdS := rd_lp tx c 0 rd_s0
theorem rd_I0 : rd_IS 0 rd_s0 := ⟨by omega, fun _ _ => by omega, fun _ _ => rfl, fun _ => rfl, fun _ _ _ => rfl, fun _ _ => Nat.zero_le 3, fun l hl => absurd hl (by simp), by omega, by omega, fun j hj => by omega, fun k a hk => absurd hk (by simp), fun k a hk => absurd hk (by simp)⟩
theorem rd_I_lp {tx : Nat → Nat} : ∀ (d i : Nat) (s : RdS), (∀ j, j < i + d → rd_tk (tx j)) → rd_IS i s → (rd_lp tx d i s).1 = -4 → i + d < 2 ^ 31 → rd_IS (i + d) (rd_lp tx d i s).2 := by
  intro d
  induction d with
  | zero => intro i s _ H _ _; exact H
  | succ d ih =>
    intro i s ht H he hb
    unfold rd_lp at he ⊢
    cases hs : rd_st (tx i) (tx (i - 1)) s with
    | none =>
      rw [hs] at he
      dsimp only at he
      exact absurd he (bb_ne4 (by omega))
    | some s' =>
      rw [hs] at he
      dsimp only at he ⊢
      have := ih (i + 1) s' (fun j hj => ht j (by omega)) (rd_I_st (ht i (by omega)) H hs) he (by omega)
      have e : i + 1 + d = i + (d + 1) := by omega
      rw [e] at this
      exact this
theorem rd_cg {tx ty : Nat → Nat} : ∀ (d i : Nat) (s : RdS), (∀ j, j < i + d → tx j = ty j) → rd_lp tx d i s = rd_lp ty d i s := by
  intro d
  induction d with
  | zero =>
    intro i s h
    obtain ⟨m, el, bo, last, said, h', pl, mw, mo⟩ := s
    unfold rd_lp rd_en
    dsimp only
    by_cases e : i = 0
    · subst e; simp
    · rw [h (i - 1) (by omega)]
  | succ d ih =>
    intro i s h
    unfold rd_lp
    rw [h i (by omega), h (i - 1) (by omega)]
    cases rd_st (ty i) (ty (i - 1)) s with
    | none => rfl
    | some s' => exact ih (i + 1) s' (fun j hj => h j (by omega))
def rd_l : Option Nat → Int32
  | none => -1
  | some a => nI a
end
section
/-! helpers for the walks -/
theorem wk_w {x v : Int32} {N : Nat} {f : Nat → Int32} {P : (Nat → Int32) → Prop} (i : Nat) (k : P (upd f i v)) (h : i < N := by omega) (hx : x = nI i := by rfl) (hN : N < 2 ^ 31 := by decide) : vp_in x N ∧ ∀ y : Nat → Int32, y = upd f x.toNatClampNeg v → P y := by
  subst hx
  refine ⟨vp_in_nI h hN, fun y ey => ?_⟩
  rw [ey, nI_clamp (by omega)]; exact k
theorem wk_i {x : Int32} {N : Nat} {A : Prop} (i : Nat) (k : A) (h : i < N := by omega) (hx : x = nI i := by rfl) (hN : N < 2 ^ 31 := by decide) : vp_in x N ∧ A := by
  subst hx
  exact ⟨vp_in_nI h hN, k⟩
theorem wk_c {f : Nat → Int32} {x : Int32} {v : Int32} (i : Nat) (hv : f i = v) (hx : x = nI i := by rfl) (h : i < 2 ^ 31 := by omega) : f x.toNatClampNeg = v := by
  subst hx
  rw [nI_clamp h]; exact hv
theorem wk_e {α : Sort _} {a b : α} {P : α → Prop} (e : a = b) (h : P b) : P a := e ▸ h
theorem wk_sub (x : Int32) (a b : Nat) : x - nI a - nI b = x - nI (a + b) := by rw [← nI_add]; grind
theorem wk_n0 : ¬ (2 : Int32) = 0 := by decide
theorem wk_n7 : ¬ (7 : Int32) = 0 := by decide
theorem wk_10 : ¬ (1 : Int32) = 0 := by decide
theorem wk_p (a : Nat) : nI a + 1 = nI (a + 1) := nI_1 a
theorem wk_m {a : Nat} (h : 0 < a) : nI a + (-1) = nI (a - 1) := sb_m1 h
theorem wk_s {a : Nat} (h : 0 < a) : nI a - 1 = nI (a - 1) := by
  obtain ⟨b, rfl⟩ : ∃ b, a = b + 1 := ⟨a - 1, by omega⟩
  rw [nI_pred]; rfl
theorem wk_0m : nI 0 + (-1) = -1 := by decide
theorem wk_ngt {a : Nat} (h : a < 2 ^ 31) : ¬ nI a < 0 := nI_pos h
theorem wk_lt1 : (-1 : Int32) < 0 := by decide
/-- slots -/
theorem wk_slot (v : Int32) : (∃ s, s < 2 ∧ v = nI s) ∨ (¬ v = 0 ∧ ¬ v = 1) := by
  by_cases h0 : v = 0
  · exact Or.inl ⟨0, by omega, h0⟩
  · by_cases h1 : v = 1
    · exact Or.inl ⟨1, by omega, h1⟩
    · exact Or.inr ⟨h0, h1⟩
theorem wk_slb {v : Int32} (h : ¬ v = 0 ∧ ¬ v = 1) (h2 : ¬ v < 0) : ¬ v ≤ 1 := fun h3 => by
  obtain ⟨j, hj, rfl⟩ := nI_of2 (M := 1) (n := 1) (by decide) h2 h3
  rcases (show j = 0 ∨ j = 1 by omega) with rfl | rfl
  · exact h.1 rfl
  · exact h.2 rfl
/-- an int is an atom below n, or not -/
theorem wk_atom (v : Int32) (n : Nat) (hn : n ≤ 7) : (∃ a, a < n ∧ v = nI a) ∨ ((¬ v < 0 → nI n ≤ v) ∧ ∀ a, a < n → ¬ v = nI a) := by
  rcases pk_ix v (n := n) (by omega) with h | h | ⟨j, hj, e⟩
  · exact Or.inr ⟨fun z => absurd h z, fun a ha e => by rw [e] at h; exact nI_pos (by omega) h⟩
  · refine Or.inr ⟨fun _ => h, fun a ha e => ?_⟩
    rw [e] at h; exact nI_ge ha (by omega) h
  · exact Or.inl ⟨j, hj, e⟩
/-! molecules -/
def mo_T (sz es bs : Nat → Int32) (s n : Nat) (el : Nat → Nat) (bo : Nat → Nat → Nat) : Prop := sz s = nI n ∧ (∀ a, a < n → es (7 * s + a) = nI (el a)) ∧ ∀ a b, a < n → b < n → bs (49 * s + 7 * a + b) = nI (bo a b)
def mo_K (n : Nat) (el : Nat → Nat) (bo : Nat → Nat → Nat) : Prop := n ≤ 7 ∧ (∀ a, a < n → el a ≤ 3) ∧ (∀ a b, a < n → b < n → bo a b ≤ 3) ∧ pe_sd n bo
def mo_G (n : Nat) (bo : Nat → Nat → Nat) : Nat → Nat → Bool := fun a b => decide (a < n ∧ b < n ∧ 0 < bo a b)
def mo_O (n : Nat) (bo : Nat → Nat → Nat) (o : Nat) : Nat → Nat → Bool := fun a b => decide (a < n ∧ b < n ∧ bo a b = o + 1)
theorem mo_G_n {n : Nat} {bo : Nat → Nat → Nat} : ∀ a b, mo_G n bo a b = true → a < n ∧ b < n := fun a b h => ⟨(of_decide_eq_true h).1, (of_decide_eq_true h).2.1⟩
theorem mo_G_in {n : Nat} {bo : Nat → Nat → Nat} (hn : n ≤ 7) : gr_in (mo_G n bo) := fun a b h => by
  have := mo_G_n a b h; omega
theorem mo_G_sy {n : Nat} {bo : Nat → Nat → Nat} (h : pe_sd n bo) : gr_sy (mo_G n bo) := fun a b => by
  unfold mo_G
  by_cases ha : a < n
  · by_cases hb : b < n
    · rw [h.1 a b ha hb]
      have : (a < n ∧ b < n ∧ 0 < bo b a) ↔ (b < n ∧ a < n ∧ 0 < bo b a) := by omega
      simp only [this]
    · rw [decide_eq_false (by omega), decide_eq_false (by omega)]
  · rw [decide_eq_false (by omega), decide_eq_false (by omega)]
theorem mo_G_t {n a b : Nat} {bo : Nat → Nat → Nat} (ha : a < n) (hb : b < n) (h : 0 < bo a b) : mo_G n bo a b = true := decide_eq_true ⟨ha, hb, h⟩
theorem mo_G_f {n a b : Nat} {bo : Nat → Nat → Nat} (h : bo a b = 0) : mo_G n bo a b = false := decide_eq_false (by omega)
theorem mo_G_a {n a b : Nat} {bo : Nat → Nat → Nat} (h : n ≤ a) : mo_G n bo a b = false := decide_eq_false (by omega)
theorem mo_G_b {n a b : Nat} {bo : Nat → Nat → Nat} (h : n ≤ b) : mo_G n bo a b = false := decide_eq_false (by omega)
/-- the hydrogens of an atom -/
def mo_h (n : Nat) (el : Nat → Nat) (bo : Nat → Nat → Nat) (a : Nat) : Int32 := (4 - nI (el a)) - nI (bb_sm (bo a) n)
def mo_hs (n : Nat) (el : Nat → Nat) (bo : Nat → Nat → Nat) : Nat → Int32
  | 0 => 0
  | k + 1 => mo_hs n el bo k + mo_h n el bo k
end
section
section
variable {f_count f_isRead f_wrongPlace f_readAtoms f_last f_said f_piled f_orders : Int32} {a_text a_readElement a_readBond a_readUsed a_pile a_markAtom a_markOrder a_size a_elements a_bonds a_near a_nearOf a_least a_other a_trial a_placed a_tried a_setWays a_setEnds a_setCounts a_standsAt a_firstOrder a_could a_asked : Nat → Int32}
theorem xx_slot_g {post : Int32 → Prop} {s : Nat} (hs : s < 2) (h : post 0) : wpX_badSlot post (f_count, f_isRead, f_wrongPlace, f_readAtoms, f_last, f_said, f_piled, f_orders, a_text, a_readElement, a_readBond, a_readUsed, a_pile, a_markAtom, a_markOrder, a_size, a_elements, a_bonds, a_near, a_nearOf, a_least, a_other, a_trial, a_placed, a_tried, a_setWays, a_setEnds, a_setCounts, a_standsAt, a_firstOrder, a_could, a_asked) (nI s) := by
  unfold wpX_badSlot
  exact br_f (nI_pos (by omega)) (br_t (nI_le (a := s) (b := 1) (by omega) (by decide)) h)
theorem xx_slot_b {post : Int32 → Prop} {v : Int32} (hv : ¬ v = 0 ∧ ¬ v = 1) (h : post 1) : wpX_badSlot post (f_count, f_isRead, f_wrongPlace, f_readAtoms, f_last, f_said, f_piled, f_orders, a_text, a_readElement, a_readBond, a_readUsed, a_pile, a_markAtom, a_markOrder, a_size, a_elements, a_bonds, a_near, a_nearOf, a_least, a_other, a_trial, a_placed, a_tried, a_setWays, a_setEnds, a_setCounts, a_standsAt, a_firstOrder, a_could, a_asked) v := by
  unfold wpX_badSlot
  exact br_c (fun _ => h) (fun z => br_f (wk_slb hv z) h)
theorem xx_noAtom_g {post : Int32 → Prop} {s n a : Nat} (hs : s < 2) (hn : n ≤ 7) (hz : a_size s = nI n) (ha : a < n) (h : post 0) : wpX_noAtom post (f_count, f_isRead, f_wrongPlace, f_readAtoms, f_last, f_said, f_piled, f_orders, a_text, a_readElement, a_readBond, a_readUsed, a_pile, a_markAtom, a_markOrder, a_size, a_elements, a_bonds, a_near, a_nearOf, a_least, a_other, a_trial, a_placed, a_tried, a_setWays, a_setEnds, a_setCounts, a_standsAt, a_firstOrder, a_could, a_asked) (nI s) (nI a) := by
  unfold wpX_noAtom
  exact br_f (nI_pos (by omega)) (wk_i s (pk_lt a n (fun _ => h) (fun z => absurd ha (by omega)) rfl (wk_c s hz)))
theorem xx_noAtom_b {post : Int32 → Prop} {s n : Nat} {v : Int32} (hs : s < 2) (hn : n ≤ 7) (hz : a_size s = nI n) (hv : ¬ v < 0 → nI n ≤ v) (h : post 1) : wpX_noAtom post (f_count, f_isRead, f_wrongPlace, f_readAtoms, f_last, f_said, f_piled, f_orders, a_text, a_readElement, a_readBond, a_readUsed, a_pile, a_markAtom, a_markOrder, a_size, a_elements, a_bonds, a_near, a_nearOf, a_least, a_other, a_trial, a_placed, a_tried, a_setWays, a_setEnds, a_setCounts, a_standsAt, a_firstOrder, a_could, a_asked) (nI s) v := by
  unfold wpX_noAtom
  refine br_c (fun _ => h) (fun z => wk_i s (br_f ?_ h))
  rw [wk_c s hz]
  exact Int32.not_lt.mpr (hv z)
theorem xx_bondOf {post : Int32 → Prop} {s a b : Nat} (hs : s < 2) (ha : a < 7) (hb : b < 7) (h : post (a_bonds (49 * s + 7 * a + b))) : wpX_bondOf post (f_count, f_isRead, f_wrongPlace, f_readAtoms, f_last, f_said, f_piled, f_orders, a_text, a_readElement, a_readBond, a_readUsed, a_pile, a_markAtom, a_markOrder, a_size, a_elements, a_bonds, a_near, a_nearOf, a_least, a_other, a_trial, a_placed, a_tried, a_setWays, a_setEnds, a_setCounts, a_standsAt, a_firstOrder, a_could, a_asked) (nI s) (nI a) (nI b) := by
  unfold wpX_bondOf
  refine And.intro (pk_in (49 * s + 7 * a + b) 98 (by omega) (bb_ix3 s a b)) ?_
  rw [bb_ix3, nI_clamp (by omega)]; exact h
theorem xx_atoms {post : Int32 → Prop} {s : Nat} (hs : s < 2) (h : post (a_size s)) : wpX_atoms post (f_count, f_isRead, f_wrongPlace, f_readAtoms, f_last, f_said, f_piled, f_orders, a_text, a_readElement, a_readBond, a_readUsed, a_pile, a_markAtom, a_markOrder, a_size, a_elements, a_bonds, a_near, a_nearOf, a_least, a_other, a_trial, a_placed, a_tried, a_setWays, a_setEnds, a_setCounts, a_standsAt, a_firstOrder, a_could, a_asked) (nI s) := by
  unfold wpX_atoms
  refine xx_slot_g hs (br_t rfl (wk_i s ?_))
  rw [nI_clamp (by omega)]; exact h
theorem xx_element_g {post : Int32 → Prop} {s n a : Nat} {el : Nat → Nat} {bo : Nat → Nat → Nat} (hs : s < 2) (hn : n ≤ 7) (hT : mo_T a_size a_elements a_bonds s n el bo) (ha : a < n) (h : post (nI (el a))) : wpX_element post (f_count, f_isRead, f_wrongPlace, f_readAtoms, f_last, f_said, f_piled, f_orders, a_text, a_readElement, a_readBond, a_readUsed, a_pile, a_markAtom, a_markOrder, a_size, a_elements, a_bonds, a_near, a_nearOf, a_least, a_other, a_trial, a_placed, a_tried, a_setWays, a_setEnds, a_setCounts, a_standsAt, a_firstOrder, a_could, a_asked) (nI s) (nI a) := by
  unfold wpX_element
  refine xx_slot_g hs (br_t rfl (xx_noAtom_g hs hn hT.1 ha (br_t rfl (And.intro (pk_in (7 * s + a) 14 (by omega) (bb_ix s a)) ?_))))
  rw [bb_ix, nI_clamp (by omega), hT.2.1 a ha]; exact h
theorem xx_element_b {post : Int32 → Prop} {s n : Nat} {v : Int32} (hs : s < 2) (hn : n ≤ 7) (hz : a_size s = nI n) (hv : ¬ v < 0 → nI n ≤ v) (h : post (-4)) : wpX_element post (f_count, f_isRead, f_wrongPlace, f_readAtoms, f_last, f_said, f_piled, f_orders, a_text, a_readElement, a_readBond, a_readUsed, a_pile, a_markAtom, a_markOrder, a_size, a_elements, a_bonds, a_near, a_nearOf, a_least, a_other, a_trial, a_placed, a_tried, a_setWays, a_setEnds, a_setCounts, a_standsAt, a_firstOrder, a_could, a_asked) (nI s) v := by
  unfold wpX_element
  exact xx_slot_g hs (br_t rfl (xx_noAtom_b hs hn hz hv (br_f wk_10 h)))
theorem xx_bond_g {post : Int32 → Prop} {s n a b : Nat} {el : Nat → Nat} {bo : Nat → Nat → Nat} (hs : s < 2) (hK : mo_K n el bo) (hT : mo_T a_size a_elements a_bonds s n el bo) (ha : a < n) (hb : b < n) (h : post (nI (bo a b))) : wpX_bond post (f_count, f_isRead, f_wrongPlace, f_readAtoms, f_last, f_said, f_piled, f_orders, a_text, a_readElement, a_readBond, a_readUsed, a_pile, a_markAtom, a_markOrder, a_size, a_elements, a_bonds, a_near, a_nearOf, a_least, a_other, a_trial, a_placed, a_tried, a_setWays, a_setEnds, a_setCounts, a_standsAt, a_firstOrder, a_could, a_asked) (nI s) (nI a) (nI b) := by
  unfold wpX_bond
  have hn := hK.1
  refine xx_slot_g hs (br_t rfl (xx_noAtom_g hs hn hT.1 ha (br_t rfl (xx_noAtom_g hs hn hT.1 hb (br_t rfl (pk_eq a b (fun e => ?_) (fun _ => xx_bondOf hs (by omega) (by omega) ?_)))))))
  · subst e; rw [hK.2.2.2.2 a ha] at h; exact h
  · rw [hT.2.2 a b ha hb]; exact h
theorem xx_bond_b {post : Int32 → Prop} {s n : Nat} {v w : Int32} (hs : s < 2) (hn : n ≤ 7) (hz : a_size s = nI n) (hv : (∃ a, a < n ∧ v = nI a) ∨ (¬ v < 0 → nI n ≤ v)) (hw : (∃ a, a < n ∧ w = nI a) ∨ (¬ w < 0 → nI n ≤ w)) (hvw : ¬ ((∃ a, a < n ∧ v = nI a) ∧ (∃ a, a < n ∧ w = nI a))) (h : post 0) : wpX_bond post (f_count, f_isRead, f_wrongPlace, f_readAtoms, f_last, f_said, f_piled, f_orders, a_text, a_readElement, a_readBond, a_readUsed, a_pile, a_markAtom, a_markOrder, a_size, a_elements, a_bonds, a_near, a_nearOf, a_least, a_other, a_trial, a_placed, a_tried, a_setWays, a_setEnds, a_setCounts, a_standsAt, a_firstOrder, a_could, a_asked) (nI s) v w := by
  unfold wpX_bond
  refine xx_slot_g hs (br_t rfl ?_)
  rcases hv with ⟨a, ha, rfl⟩ | hv
  · refine xx_noAtom_g hs hn hz ha (br_t rfl ?_)
    rcases hw with hw | hw
    · exact absurd ⟨⟨a, ha, rfl⟩, hw⟩ hvw
    · exact xx_noAtom_b hs hn hz hw (br_f wk_10 h)
  · exact xx_noAtom_b hs hn hz hv (br_f wk_10 h)
theorem xx_hydrogensOf {post : Int32 → Prop} {s n a : Nat} {el : Nat → Nat} {bo : Nat → Nat → Nat} (hs : s < 2) (hK : mo_K n el bo) (hT : mo_T a_size a_elements a_bonds s n el bo) (ha : a < n) (h : post (mo_h n el bo a)) : wpX_hydrogensOf post (f_count, f_isRead, f_wrongPlace, f_readAtoms, f_last, f_said, f_piled, f_orders, a_text, a_readElement, a_readBond, a_readUsed, a_pile, a_markAtom, a_markOrder, a_size, a_elements, a_bonds, a_near, a_nearOf, a_least, a_other, a_trial, a_placed, a_tried, a_setWays, a_setEnds, a_setCounts, a_standsAt, a_firstOrder, a_could, a_asked) (nI s) (nI a) := by
  have hn := hK.1
  have L : ∀ d i, i + d = n → wX_hydrogensOf_19 post (nI s) (nI a) f_count f_isRead f_wrongPlace f_readAtoms f_last f_said f_piled f_orders a_text a_readElement a_readBond a_readUsed a_pile a_markAtom a_markOrder a_size a_elements a_bonds a_near a_nearOf a_least a_other a_trial a_placed a_tried a_setWays a_setEnds a_setCounts a_standsAt a_firstOrder a_could a_asked (d + 1) ((4 - nI (el a)) - nI (bb_sm (bo a) i)) (nI i) := by
    intro d
    induction d with
    | zero =>
      intro i hi
      have e : i = n := by omega
      subst e
      exact wk_i s (pk_le i i (fun _ => h) (fun z => absurd z (by omega)) (wk_c s hT.1))
    | succ d ih =>
      intro i hi
      have k := ih (i + 1) (by omega)
      refine wk_i s (pk_le n i (fun z => absurd z (by omega)) (fun _ => pk_eq i a (fun e => ?_) (fun _ => xx_bondOf hs (by omega) (by omega) (nm_r (e' := (4 - nI (el a)) - nI (bb_sm (bo a) (i + 1))) ?_ (nm_r (wk_p i) k)))) (wk_c s hT.1))
      · subst e
        refine nm_r (wk_p i) ?_
        rw [bb_sm_s, hK.2.2.2.2 i ha, Nat.add_zero] at k; exact k
      · rw [hT.2.2 a i ha (by omega), wk_sub, bb_sm_s]
  unfold wpX_hydrogensOf
  refine And.intro (pk_in (7 * s + a) 14 (by omega) (bb_ix s a)) ?_
  rw [bb_ix, nI_clamp (by omega), hT.2.1 a ha]
  unfold wpX_valence
  refine Exists.intro (n + 1) ?_
  have k := L n 0 (by omega)
  rw [bb_sm_0, show (4 - nI (el a)) - nI 0 = 4 - nI (el a) from by rw [nI_0]; grind] at k
  exact k
theorem xx_hydrogens_s {post : Int32 → Prop} {s n : Nat} {el : Nat → Nat} {bo : Nat → Nat → Nat} (hs : s < 2) (hK : mo_K n el bo) (hT : mo_T a_size a_elements a_bonds s n el bo) (h : post (mo_hs n el bo n)) : wpX_hydrogens post (f_count, f_isRead, f_wrongPlace, f_readAtoms, f_last, f_said, f_piled, f_orders, a_text, a_readElement, a_readBond, a_readUsed, a_pile, a_markAtom, a_markOrder, a_size, a_elements, a_bonds, a_near, a_nearOf, a_least, a_other, a_trial, a_placed, a_tried, a_setWays, a_setEnds, a_setCounts, a_standsAt, a_firstOrder, a_could, a_asked) (nI s) (-1) := by
  have hn := hK.1
  have L : ∀ d i, i + d = n → wX_hydrogens_20 post (nI s) f_count f_isRead f_wrongPlace f_readAtoms f_last f_said f_piled f_orders a_text a_readElement a_readBond a_readUsed a_pile a_markAtom a_markOrder a_size a_elements a_bonds a_near a_nearOf a_least a_other a_trial a_placed a_tried a_setWays a_setEnds a_setCounts a_standsAt a_firstOrder a_could a_asked (d + 1) (mo_hs n el bo i) (nI i) := by
    intro d
    induction d with
    | zero =>
      intro i hi
      have e : i = n := by omega
      subst e
      exact wk_i s (pk_le i i (fun _ => h) (fun z => absurd z (by omega)) (wk_c s hT.1))
    | succ d ih =>
      intro i hi
      exact wk_i s (pk_le n i (fun z => absurd z (by omega)) (fun _ => xx_hydrogensOf hs hK hT (by omega) (nm_e (nm_r (wk_p i) (ih (i + 1) (by omega))))) (wk_c s hT.1))
  unfold wpX_hydrogens
  exact xx_slot_g hs (br_t rfl (br_t rfl (Exists.intro (n + 1) (L n 0 (by omega)))))
theorem xx_hydrogens_g {post : Int32 → Prop} {s n a : Nat} {el : Nat → Nat} {bo : Nat → Nat → Nat} (hs : s < 2) (hK : mo_K n el bo) (hT : mo_T a_size a_elements a_bonds s n el bo) (ha : a < n) (h : post (mo_h n el bo a)) : wpX_hydrogens post (f_count, f_isRead, f_wrongPlace, f_readAtoms, f_last, f_said, f_piled, f_orders, a_text, a_readElement, a_readBond, a_readUsed, a_pile, a_markAtom, a_markOrder, a_size, a_elements, a_bonds, a_near, a_nearOf, a_least, a_other, a_trial, a_placed, a_tried, a_setWays, a_setEnds, a_setCounts, a_standsAt, a_firstOrder, a_could, a_asked) (nI s) (nI a) := by
  have hn := hK.1
  unfold wpX_hydrogens
  exact xx_slot_g hs (br_t rfl (br_f (bb_ne (by omega)) (xx_noAtom_g hs hn hT.1 ha (br_t rfl (xx_hydrogensOf hs hK hT ha h)))))
theorem xx_hydrogens_b {post : Int32 → Prop} {s n : Nat} {v : Int32} (hs : s < 2) (hn : n ≤ 7) (hz : a_size s = nI n) (h1 : ¬ v = -1) (hv : ¬ v < 0 → nI n ≤ v) (h : post (-4)) : wpX_hydrogens post (f_count, f_isRead, f_wrongPlace, f_readAtoms, f_last, f_said, f_piled, f_orders, a_text, a_readElement, a_readBond, a_readUsed, a_pile, a_markAtom, a_markOrder, a_size, a_elements, a_bonds, a_near, a_nearOf, a_least, a_other, a_trial, a_placed, a_tried, a_setWays, a_setEnds, a_setCounts, a_standsAt, a_firstOrder, a_could, a_asked) (nI s) v := by
  unfold wpX_hydrogens
  exact xx_slot_g hs (br_t rfl (br_f h1 (xx_noAtom_b hs hn hz hv (br_f wk_10 h))))
/-! sizes, least members -/
theorem xx_sizeOf {post : Int32 → Prop} {s : Nat} (hs : s < 128) (h : post (nI (bb_cn s.testBit 7))) : wpX_sizeOf post (f_count, f_isRead, f_wrongPlace, f_readAtoms, f_last, f_said, f_piled, f_orders, a_text, a_readElement, a_readBond, a_readUsed, a_pile, a_markAtom, a_markOrder, a_size, a_elements, a_bonds, a_near, a_nearOf, a_least, a_other, a_trial, a_placed, a_tried, a_setWays, a_setEnds, a_setCounts, a_standsAt, a_firstOrder, a_could, a_asked) (nI s) := by
  have L : ∀ d i, i + d = 7 → wX_sizeOf_4 post (nI s) f_count f_isRead f_wrongPlace f_readAtoms f_last f_said f_piled f_orders a_text a_readElement a_readBond a_readUsed a_pile a_markAtom a_markOrder a_size a_elements a_bonds a_near a_nearOf a_least a_other a_trial a_placed a_tried a_setWays a_setEnds a_setCounts a_standsAt a_firstOrder a_could a_asked (d + 1) (nI (bb_cn s.testBit i)) (nI i) := by
    intro d
    induction d with
    | zero =>
      intro i hi
      have e : i = 7 := by omega
      subst e
      exact pk_le 7 7 (fun _ => h) (fun z => absurd z (by omega))
    | succ d ih =>
      intro i hi
      exact pk_le 7 i (fun z => absurd z (by omega)) (fun _ => nm_r (e' := nI (bb_cn s.testBit (i + 1))) (by rw [bb_bit s hs i (by omega), nI_add, bb_cn_s]) (nm_r (wk_p i) (ih (i + 1) (by omega))))
  unfold wpX_sizeOf
  exact Exists.intro 8 (L 7 0 (by omega))
theorem xx_lowestOf {post : Int32 → Prop} {s : Nat} (hs : s < 128) (h : post (nI (bb_lo s))) : wpX_lowestOf post (f_count, f_isRead, f_wrongPlace, f_readAtoms, f_last, f_said, f_piled, f_orders, a_text, a_readElement, a_readBond, a_readUsed, a_pile, a_markAtom, a_markOrder, a_size, a_elements, a_bonds, a_near, a_nearOf, a_least, a_other, a_trial, a_placed, a_tried, a_setWays, a_setEnds, a_setCounts, a_standsAt, a_firstOrder, a_could, a_asked) (nI s) := by
  have L : ∀ d f, d ≤ 7 → bb_lw s d f = bb_lo s → wX_lowestOf_5 post (nI s) f_count f_isRead f_wrongPlace f_readAtoms f_last f_said f_piled f_orders a_text a_readElement a_readBond a_readUsed a_pile a_markAtom a_markOrder a_size a_elements a_bonds a_near a_nearOf a_least a_other a_trial a_placed a_tried a_setWays a_setEnds a_setCounts a_standsAt a_firstOrder a_could a_asked (d + 1) (nI f) (nI d + (-1)) := by
    intro d
    induction d with
    | zero =>
      intro f _ hf
      have e : f = bb_lo s := hf
      subst e
      exact br_t (by decide) h
    | succ d ih =>
      intro f hd hf
      rw [pk_m1]
      rw [bb_lw_s] at hf
      refine br_f (nI_pos (by omega)) ?_
      cases hb : s.testBit d with
      | true =>
        rw [hb] at hf
        exact br_t ((bb_bit1 hs (by omega)).mpr hb) (nm_e (ih d (by omega) hf))
      | false =>
        rw [hb] at hf
        exact br_f (fun z => by rw [(bb_bit1 hs (by omega)).mp z] at hb; exact absurd hb (by decide)) (nm_e (ih f (by omega) hf))
  unfold wpX_lowestOf
  exact Exists.intro 8 (L 7 0 (by omega) rfl)
end
end
section
section
variable {g_size g_height g_last g_said g_length g_symmetryCount : Int32} {b_text b_elements b_bonds b_counts b_pile b_marks b_saids b_row b_least b_orbits b_path b_far b_sums : Nat → Int32}
theorem yy_slot_g {post : Int32 → Prop} {s : Nat} (hs : s < 2) (h : post 1) : wpY_isSlot post (g_size, g_height, g_last, g_said, g_length, g_symmetryCount, b_text, b_elements, b_bonds, b_counts, b_pile, b_marks, b_saids, b_row, b_least, b_orbits, b_path, b_far, b_sums) (nI s) := by
  unfold wpY_isSlot
  exact pk_eq s 0 (fun _ => h) (fun z => pk_eq s 1 (fun _ => h) (fun y => absurd hs (by omega)))
theorem yy_slot_b {post : Int32 → Prop} {v : Int32} (hv : ¬ v = 0 ∧ ¬ v = 1) (h : post 0) : wpY_isSlot post (g_size, g_height, g_last, g_said, g_length, g_symmetryCount, b_text, b_elements, b_bonds, b_counts, b_pile, b_marks, b_saids, b_row, b_least, b_orbits, b_path, b_far, b_sums) v := by
  unfold wpY_isSlot
  exact br_f hv.1 (br_f hv.2 h)
theorem yy_isAtom_g {post : Int32 → Prop} {s n a : Nat} (hs : s < 2) (hn : n ≤ 7) (hz : b_counts s = nI n) (ha : a < n) (h : post 1) : wpY_isAtom post (g_size, g_height, g_last, g_said, g_length, g_symmetryCount, b_text, b_elements, b_bonds, b_counts, b_pile, b_marks, b_saids, b_row, b_least, b_orbits, b_path, b_far, b_sums) (nI s) (nI a) := by
  unfold wpY_isAtom
  exact br_f (nI_pos (by omega)) (wk_i s (pk_le n a (fun z => absurd ha (by omega)) (fun _ => h) (wk_c s hz)))
theorem yy_isAtom_b {post : Int32 → Prop} {s n : Nat} {v : Int32} (hs : s < 2) (hn : n ≤ 7) (hz : b_counts s = nI n) (hv : ¬ v < 0 → nI n ≤ v) (h : post 0) : wpY_isAtom post (g_size, g_height, g_last, g_said, g_length, g_symmetryCount, b_text, b_elements, b_bonds, b_counts, b_pile, b_marks, b_saids, b_row, b_least, b_orbits, b_path, b_far, b_sums) (nI s) v := by
  unfold wpY_isAtom
  refine br_c (fun _ => h) (fun z => wk_i s (br_t ?_ h))
  rw [wk_c s hz]; exact hv z
theorem yy_orderOf {post : Int32 → Prop} {s a b : Nat} (hs : s < 3) (ha : a < 7) (hb : b < 7) (h : post (b_bonds (49 * s + 7 * a + b))) : wpY_orderOf post (g_size, g_height, g_last, g_said, g_length, g_symmetryCount, b_text, b_elements, b_bonds, b_counts, b_pile, b_marks, b_saids, b_row, b_least, b_orbits, b_path, b_far, b_sums) (nI s) (nI a) (nI b) := by
  unfold wpY_orderOf
  refine And.intro (pk_in (49 * s + 7 * a + b) 147 (by omega) (bb_ix3 s a b)) ?_
  rw [bb_ix3, nI_clamp (by omega)]; exact h
theorem yy_atoms {post : Int32 → Prop} {s : Nat} (hs : s < 2) (h : post (b_counts s)) : wpY_atoms post (g_size, g_height, g_last, g_said, g_length, g_symmetryCount, b_text, b_elements, b_bonds, b_counts, b_pile, b_marks, b_saids, b_row, b_least, b_orbits, b_path, b_far, b_sums) (nI s) := by
  unfold wpY_atoms
  refine yy_slot_g hs (br_f wk_10 (wk_i s ?_))
  rw [nI_clamp (by omega)]; exact h
theorem yy_element_g {post : Int32 → Prop} {s n a : Nat} {el : Nat → Nat} {bo : Nat → Nat → Nat} (hs : s < 2) (hn : n ≤ 7) (hT : mo_T b_counts b_elements b_bonds s n el bo) (ha : a < n) (h : post (nI (el a))) : wpY_element post (g_size, g_height, g_last, g_said, g_length, g_symmetryCount, b_text, b_elements, b_bonds, b_counts, b_pile, b_marks, b_saids, b_row, b_least, b_orbits, b_path, b_far, b_sums) (nI s) (nI a) := by
  unfold wpY_element
  refine yy_slot_g hs (br_f wk_10 (yy_isAtom_g hs hn hT.1 ha (br_f wk_10 (And.intro (pk_in (7 * s + a) 21 (by omega) (bb_ix s a)) ?_))))
  rw [bb_ix, nI_clamp (by omega), hT.2.1 a ha]; exact h
theorem yy_element_b {post : Int32 → Prop} {s n : Nat} {v : Int32} (hs : s < 2) (hn : n ≤ 7) (hz : b_counts s = nI n) (hv : ¬ v < 0 → nI n ≤ v) (h : post (-4)) : wpY_element post (g_size, g_height, g_last, g_said, g_length, g_symmetryCount, b_text, b_elements, b_bonds, b_counts, b_pile, b_marks, b_saids, b_row, b_least, b_orbits, b_path, b_far, b_sums) (nI s) v := by
  unfold wpY_element
  exact yy_slot_g hs (br_f wk_10 (yy_isAtom_b hs hn hz hv (br_t rfl h)))
theorem yy_bond_g {post : Int32 → Prop} {s n a b : Nat} {el : Nat → Nat} {bo : Nat → Nat → Nat} (hs : s < 2) (hK : mo_K n el bo) (hT : mo_T b_counts b_elements b_bonds s n el bo) (ha : a < n) (hb : b < n) (h : post (nI (bo a b))) : wpY_bond post (g_size, g_height, g_last, g_said, g_length, g_symmetryCount, b_text, b_elements, b_bonds, b_counts, b_pile, b_marks, b_saids, b_row, b_least, b_orbits, b_path, b_far, b_sums) (nI s) (nI a) (nI b) := by
  unfold wpY_bond
  have hn := hK.1
  refine yy_slot_g hs (br_f wk_10 (yy_isAtom_g hs hn hT.1 ha (br_f wk_10 (yy_isAtom_g hs hn hT.1 hb (br_f wk_10 (yy_orderOf (by omega) (by omega) (by omega) ?_))))))
  rw [hT.2.2 a b ha hb]; exact h
theorem yy_bond_b {post : Int32 → Prop} {s n : Nat} {v w : Int32} (hs : s < 2) (hn : n ≤ 7) (hz : b_counts s = nI n) (hv : (∃ a, a < n ∧ v = nI a) ∨ (¬ v < 0 → nI n ≤ v)) (hw : (∃ a, a < n ∧ w = nI a) ∨ (¬ w < 0 → nI n ≤ w)) (hvw : ¬ ((∃ a, a < n ∧ v = nI a) ∧ (∃ a, a < n ∧ w = nI a))) (h : post 0) : wpY_bond post (g_size, g_height, g_last, g_said, g_length, g_symmetryCount, b_text, b_elements, b_bonds, b_counts, b_pile, b_marks, b_saids, b_row, b_least, b_orbits, b_path, b_far, b_sums) (nI s) v w := by
  unfold wpY_bond
  refine yy_slot_g hs (br_f wk_10 ?_)
  rcases hv with ⟨a, ha, rfl⟩ | hv
  · refine yy_isAtom_g hs hn hz ha (br_f wk_10 ?_)
    rcases hw with hw | hw
    · exact absurd ⟨⟨a, ha, rfl⟩, hw⟩ hvw
    · exact yy_isAtom_b hs hn hz hw (br_t rfl h)
  · exact yy_isAtom_b hs hn hz hv (br_t rfl h)
/-- the free places of an atom, in a slot or in the text's molecule -/
theorem yy_free {post : Int32 → Prop} {s n a : Nat} {el : Nat → Nat} {bo : Nat → Nat → Nat} (hs : s < 3) (hn : n ≤ 7) (hT : mo_T b_counts b_elements b_bonds s n el bo) (ha : a < n) (h : post (mo_h n el bo a)) : wpY_free post (g_size, g_height, g_last, g_said, g_length, g_symmetryCount, b_text, b_elements, b_bonds, b_counts, b_pile, b_marks, b_saids, b_row, b_least, b_orbits, b_path, b_far, b_sums) (nI s) (nI a) := by
  have L : ∀ d i, i + d = n → wY_free_17 post (nI s) (nI a) g_size g_height g_last g_said g_length g_symmetryCount b_text b_elements b_bonds b_counts b_pile b_marks b_saids b_row b_least b_orbits b_path b_far b_sums (d + 1) ((4 - nI (el a)) - nI (bb_sm (bo a) i)) (nI i) := by
    intro d
    induction d with
    | zero =>
      intro i hi
      have e : i = n := by omega
      subst e
      exact wk_i s (pk_le i i (fun _ => h) (fun z => absurd z (by omega)) (wk_c s hT.1))
    | succ d ih =>
      intro i hi
      refine wk_i s (pk_le n i (fun z => absurd z (by omega)) (fun _ => yy_orderOf hs (by omega) (by omega) (nm_r (e' := (4 - nI (el a)) - nI (bb_sm (bo a) (i + 1))) ?_ (nm_r (wk_p i) (ih (i + 1) (by omega))))) (wk_c s hT.1))
      rw [hT.2.2 a i ha (by omega), wk_sub, bb_sm_s]
  unfold wpY_free
  refine And.intro (pk_in (7 * s + a) 21 (by omega) (bb_ix s a)) ?_
  rw [bb_ix, nI_clamp (by omega), hT.2.1 a ha]
  refine nm_e (Exists.intro (n + 1) ?_)
  have k := L n 0 (by omega)
  rw [bb_sm_0, show (4 - nI (el a)) - nI 0 = 4 - nI (el a) from by rw [nI_0]; grind] at k
  exact k
theorem yy_hydrogens {post : Int32 → Prop} {s n : Nat} {v : Int32} {el : Nat → Nat} {bo : Nat → Nat → Nat} (hs : s < 2) (hn : n ≤ 7) (hT : mo_T b_counts b_elements b_bonds s n el bo) (h1 : v = -1 → post (mo_hs n el bo n)) (h2 : ∀ a, a < n → v = nI a → post (mo_h n el bo a)) (h3 : ¬ v = -1 → (∀ a, a < n → ¬ v = nI a) → post (-4)) : wpY_hydrogens post (g_size, g_height, g_last, g_said, g_length, g_symmetryCount, b_text, b_elements, b_bonds, b_counts, b_pile, b_marks, b_saids, b_row, b_least, b_orbits, b_path, b_far, b_sums) (nI s) v := by
  have L : ∀ d i, i + d = n → wY_hydrogens_15 post (nI s) v g_size g_height g_last g_said g_length g_symmetryCount b_text b_elements b_bonds b_counts b_pile b_marks b_saids b_row b_least b_orbits b_path b_far b_sums (d + 1) (mo_hs n el bo i) (nI i) := by
    intro d
    induction d with
    | zero =>
      intro i hi
      have e : i = n := by omega
      subst e
      refine wk_i s (pk_le i i (fun _ => br_c h1 (fun z => ?_)) (fun z => absurd z (by omega)) (wk_c s hT.1))
      rcases wk_atom v i hn with ⟨a, ha, e⟩ | ⟨z1, z2⟩
      · subst e
        exact yy_isAtom_g hs hn hT.1 ha (br_f wk_10 (yy_free (by omega) hn hT ha (h2 a ha rfl)))
      · exact yy_isAtom_b hs hn hT.1 z1 (br_t rfl (h3 z z2))
    | succ d ih =>
      intro i hi
      exact wk_i s (pk_le n i (fun z => absurd z (by omega)) (fun _ => yy_free (by omega) hn hT (by omega) (nm_e (nm_r (wk_p i) (ih (i + 1) (by omega))))) (wk_c s hT.1))
  unfold wpY_hydrogens
  exact yy_slot_g hs (br_f wk_10 (Exists.intro (n + 1) (L n 0 (by omega))))
end
end
section
theorem wk_v {x v : Int32} {N : Nat} {f : Nat → Int32} {P : (Nat → Int32) → Prop} (i : Nat) (v' : Int32) (hv : v = v') (k : P (upd f i v')) (h : i < N := by omega) (hx : x = nI i := by rfl) (hN : N < 2 ^ 31 := by decide) : vp_in x N ∧ ∀ y : Nat → Int32, y = upd f x.toNatClampNeg v → P y := by
  subst hv
  exact wk_w i k h hx hN
theorem bb_bs_ext {p : Nat → Bool} {m : Nat} (k : Nat) (h : m ≤ k) (hz : ∀ i, m ≤ i → i < k → p i = false) : bb_bs p k = bb_bs p m := Nat.eq_of_testBit_eq (fun i => by
  rw [bb_bs_tb, bb_bs_tb]
  by_cases h1 : i < m
  · rw [decide_eq_true h1, decide_eq_true (by omega)]
  · rw [decide_eq_false h1]
    by_cases h2 : i < k
    · rw [hz i (by omega) h2, Bool.and_false, Bool.and_false]
    · rw [decide_eq_false h2])
/-- the neighbours as the component keeps them -/
def xn_N (n : Nat) (bo : Nat → Nat → Nat) (nr nro : Nat → Int32) : Prop := (∀ a, a < 7 → nr a = nI (bb_bs (mo_G n bo a) 7)) ∧ ∀ o a, o < 3 → a < 7 → nro (7 * o + a) = nI (bb_bs (mo_O n bo o a) 7)
/-- atoms below a done, a itself up to i -/
def xn_I (n : Nat) (bo : Nat → Nat → Nat) (a i : Nat) (nr nro : Nat → Int32) : Prop :=
  (∀ x, x < 7 → x < a → nr x = nI (bb_bs (mo_G n bo x) 7)) ∧ nr a = nI (bb_bs (mo_G n bo a) i) ∧ ∀ o x, o < 3 → x < 7 → nro (7 * o + x) = nI (if x < a then bb_bs (mo_O n bo o x) 7 else if x = a then bb_bs (mo_O n bo o a) i else 0)
def xn_J (n : Nat) (bo : Nat → Nat → Nat) (a : Nat) (nr nro : Nat → Int32) : Prop :=
  (∀ x, x < 7 → x < a → nr x = nI (bb_bs (mo_G n bo x) 7)) ∧ ∀ o x, o < 3 → x < 7 → nro (7 * o + x) = nI (if x < a then bb_bs (mo_O n bo o x) 7 else 0)
theorem xn_IJ {n a i : Nat} {bo : Nat → Nat → Nat} {nr nro : Nat → Int32} (hn : n ≤ 7) (hi : i ≤ n) (h : xn_I n bo a i nr nro) (he : i = n ∨ n ≤ a) : xn_J n bo (a + 1) nr nro := by
  have hG : bb_bs (mo_G n bo a) 7 = bb_bs (mo_G n bo a) i := bb_bs_ext 7 (by omega) (fun j h1 _ => decide_eq_false (by omega))
  have hO : ∀ o, bb_bs (mo_O n bo o a) 7 = bb_bs (mo_O n bo o a) i := fun o => bb_bs_ext 7 (by omega) (fun j h1 _ => decide_eq_false (by omega))
  obtain ⟨h1, h2, h3⟩ := h
  refine ⟨fun x hx hxa => ?_, fun o x ho hx => ?_⟩
  · by_cases e : x = a
    · subst e; rw [h2, hG]
    · exact h1 x hx (by omega)
  · rw [h3 o x ho hx]
    by_cases e : x = a
    · subst e; rw [if_neg (by omega), if_pos rfl, if_pos (by omega), hO]
    · by_cases e2 : x < a
      · rw [if_pos e2, if_pos (by omega)]
      · rw [if_neg e2, if_neg e, if_neg (by omega)]
theorem xn_I0 {n a : Nat} {bo : Nat → Nat → Nat} {nr nro : Nat → Int32} (h : xn_J n bo a nr nro) : xn_I n bo a 0 (upd nr a 0) nro := by
  refine ⟨fun x hx hxa => ?_, ?_, fun o x ho hx => ?_⟩
  · rw [pk_un (by omega)]; exact h.1 x hx hxa
  · rw [pk_us]; rfl
  · rw [h.2 o x ho hx]
    by_cases e : x < a
    · rw [if_pos e, if_pos e]
    · rw [if_neg e, if_neg e]
      by_cases e2 : x = a
      · rw [if_pos e2]; rfl
      · rw [if_neg e2]
theorem xn_I_f {n a i : Nat} {bo : Nat → Nat → Nat} {nr nro : Nat → Int32} (h : xn_I n bo a i nr nro) (h0 : bo a i = 0) : xn_I n bo a (i + 1) nr nro := by
  refine ⟨h.1, ?_, fun o x ho hx => ?_⟩
  · rw [h.2.1, bb_bs_f _ _ (decide_eq_false (by omega))]
  · rw [h.2.2 o x ho hx, bb_bs_f (mo_O n bo o a) i (decide_eq_false (by omega))]
theorem xn_I_t {n a i o : Nat} {bo : Nat → Nat → Nat} {nr nro : Nat → Int32} (ha : a < n) (hi : i < n) (hn : n ≤ 7) (h : xn_I n bo a i nr nro) (h0 : bo a i = o + 1) (ho : o < 3) :
    xn_I n bo a (i + 1) (upd nr a (nI (bb_bs (mo_G n bo a) i ||| 2 ^ i))) (upd nro (7 * o + a) (nI (bb_bs (mo_O n bo o a) i ||| 2 ^ i))) := by
  refine ⟨fun x hx hxa => ?_, ?_, fun o' x ho' hx => ?_⟩
  · rw [pk_un (by omega)]; exact h.1 x hx hxa
  · rw [pk_us, bb_bs_t _ _ (decide_eq_true ⟨ha, hi, by omega⟩)]
  · by_cases e : 7 * o' + x = 7 * o + a
    · have e1 : o' = o := by omega
      have e2 : x = a := by omega
      subst e1; subst e2
      rw [pk_us, if_neg (by omega), if_pos rfl, bb_bs_t _ _ (decide_eq_true ⟨ha, hi, h0⟩)]
    · rw [pk_un e, h.2.2 o' x ho' hx]
      by_cases e2 : x = a
      · subst e2
        rw [if_neg (Nat.lt_irrefl x), if_neg (Nat.lt_irrefl x), if_pos rfl, if_pos rfl, bb_bs_f (mo_O n bo o' x) i (decide_eq_false (by omega))]
      · rw [if_neg e2, if_neg e2]
section
variable {f_count f_isRead f_wrongPlace f_readAtoms f_last f_said f_piled f_orders : Int32} {a_text a_readElement a_readBond a_readUsed a_pile a_markAtom a_markOrder a_size a_elements a_bonds a_near a_nearOf a_least a_other a_trial a_placed a_tried a_setWays a_setEnds a_setCounts a_standsAt a_firstOrder a_could a_asked : Nat → Int32}
theorem xg_38 {post : SX → Prop} {J23 : Int32 → (Nat → Int32) → (Nat → Int32) → (Nat → Int32) → (Nat → Int32) → (Nat → Int32) → (Nat → Int32) → (Nat → Int32) → (Nat → Int32) → (Nat → Int32) → (Nat → Int32) → (Nat → Int32) → (Nat → Int32) → (Nat → Int32) → (Nat → Int32) → (Nat → Int32) → (Nat → Int32) → (Nat → Int32) → (Nat → Int32) → (Nat → Int32) → (Nat → Int32) → (Nat → Int32) → (Nat → Int32) → (Nat → Int32) → (Nat → Int32) → Prop} {s n a : Nat} {el : Nat → Nat} {bo : Nat → Nat → Nat} (hs : s < 2) (hK : mo_K n el bo) (hT : mo_T a_size a_elements a_bonds s n el bo) (ha : a < 7)
    (hJ : ∀ nr nro, xn_J n bo (a + 1) nr nro → J23 (nI (a + 1)) a_text a_readElement a_readBond a_readUsed a_pile a_markAtom a_markOrder a_size a_elements a_bonds nr nro a_least a_other a_trial a_placed a_tried a_setWays a_setEnds a_setCounts a_standsAt a_firstOrder a_could a_asked) : ∀ d i nr nro, i + d = n → xn_I n bo a i nr nro → wX_findNear_38 post J23 (nI s) (nI a) f_count f_isRead f_wrongPlace f_readAtoms f_last f_said f_piled f_orders (d + 1) (nI i) a_text a_readElement a_readBond a_readUsed a_pile a_markAtom a_markOrder a_size a_elements a_bonds nr nro a_least a_other a_trial a_placed a_tried a_setWays a_setEnds a_setCounts a_standsAt a_firstOrder a_could a_asked := by
  have hn := hK.1
  intro d
  induction d with
  | zero =>
    intro i nr nro hi h
    exact wk_i s (pk_le n i (fun _ => nm_r (wk_p a) (hJ nr nro (xn_IJ hn (by omega) h (Or.inl (by omega))))) (fun z => absurd z (by omega)) (wk_c s hT.1))
  | succ d ih =>
    intro i nr nro hi h
    refine wk_i s (pk_le n i (fun z => absurd z (by omega)) (fun _ => wk_i s (pk_le n a (fun z => nm_r (wk_p a) (hJ nr nro (xn_IJ hn (by omega) h (Or.inr z)))) (fun z => pk_eq a i (fun e => ?_) (fun e => xx_bondOf hs (by omega) (by omega) ?_)) (wk_c s hT.1))) (wk_c s hT.1))
    · have h0 : bo a i = 0 := by rw [e]; exact hK.2.2.2.2 i (by omega)
      exact br_t (by decide) (nm_r (wk_p i) (ih (i + 1) nr nro (by omega) (xn_I_f h h0)))
    · rw [hT.2.2 a i (by omega) (by omega)]
      have hb3 := hK.2.2.1 a i (by omega) (by omega)
      refine pk_le (bo a i) 0 (fun z0 => nm_r (wk_p i) (ih (i + 1) nr nro (by omega) (xn_I_f h (by omega)))) (fun z0 => ?_)
      obtain ⟨o, ho⟩ : ∃ o, bo a i = o + 1 := ⟨bo a i - 1, by omega⟩
      have hnr : nr (nI a).toNatClampNeg = nI (bb_bs (mo_G n bo a) i) := wk_c a h.2.1
      have hix : (7 * (nI (bo a i) - 1)) + nI a = nI (7 * o + a) := by rw [ho, nI_pred, bb_ix]
      have hno : nro ((7 * (nI (bo a i) - 1)) + nI a).toNatClampNeg = nI (bb_bs (mo_O n bo o a) i) := wk_c (7 * o + a) (by rw [h.2.2 o a (by omega) ha, if_neg (by omega), if_pos rfl]) hix
      refine wk_i a (wk_v a (nI (bb_bs (mo_G n bo a) i ||| 2 ^ i)) (by rw [hnr, bb_shl i (by omega), bb_or]) (wk_i (7 * o + a) (wk_v (7 * o + a) (nI (bb_bs (mo_O n bo o a) i ||| 2 ^ i)) (by rw [hno, bb_shl i (by omega), bb_or]) (nm_r (wk_p i) (ih (i + 1) _ _ (by omega) (xn_I_t z (by omega) hn h ho (by omega)))) (by omega) hix) (by omega) hix))
theorem xg_23 {post : SX → Prop} {s n : Nat} {el : Nat → Nat} {bo : Nat → Nat → Nat} (hs : s < 2) (hK : mo_K n el bo) (hT : mo_T a_size a_elements a_bonds s n el bo) (h : ∀ nr nro, xn_N n bo nr nro → post (f_count, f_isRead, f_wrongPlace, f_readAtoms, f_last, f_said, f_piled, f_orders, a_text, a_readElement, a_readBond, a_readUsed, a_pile, a_markAtom, a_markOrder, a_size, a_elements, a_bonds, nr, nro, a_least, a_other, a_trial, a_placed, a_tried, a_setWays, a_setEnds, a_setCounts, a_standsAt, a_firstOrder, a_could, a_asked)) : ∀ d a nr nro, a + d = 7 → xn_J n bo a nr nro → wX_findNear_23 post (nI s) f_count f_isRead f_wrongPlace f_readAtoms f_last f_said f_piled f_orders (d + 1) (nI a) a_text a_readElement a_readBond a_readUsed a_pile a_markAtom a_markOrder a_size a_elements a_bonds nr nro a_least a_other a_trial a_placed a_tried a_setWays a_setEnds a_setCounts a_standsAt a_firstOrder a_could a_asked := by
  intro d
  induction d with
  | zero =>
    intro a nr nro ha hJ
    refine pk_le 7 a (fun _ => h nr nro ⟨fun x hx => hJ.1 x hx (by omega), fun o x ho hx => by rw [hJ.2 o x ho hx, if_pos (by omega)]⟩) (fun z => absurd z (by omega))
  | succ d ih =>
    intro a nr nro ha hJ
    exact pk_le 7 a (fun z => absurd z (by omega)) (fun _ => wk_w a (Exists.intro (n + 1) (xg_38 hs hK hT (by omega) (fun nr' nro' hJ' => ih (a + 1) nr' nro' (by omega) hJ') n 0 _ _ (by omega) (xn_I0 hJ))))
theorem xg_2 {post : SX → Prop} {s n : Nat} {el : Nat → Nat} {bo : Nat → Nat → Nat} (hs : s < 2) (hK : mo_K n el bo) (hT : mo_T a_size a_elements a_bonds s n el bo) (h : ∀ nr nro, xn_N n bo nr nro → post (f_count, f_isRead, f_wrongPlace, f_readAtoms, f_last, f_said, f_piled, f_orders, a_text, a_readElement, a_readBond, a_readUsed, a_pile, a_markAtom, a_markOrder, a_size, a_elements, a_bonds, nr, nro, a_least, a_other, a_trial, a_placed, a_tried, a_setWays, a_setEnds, a_setCounts, a_standsAt, a_firstOrder, a_could, a_asked)) : ∀ d i nro, i + d = 21 → (∀ j, j < i → nro j = 0) → wX_findNear_2 post (nI s) f_count f_isRead f_wrongPlace f_readAtoms f_last f_said f_piled f_orders (d + 1) (nI i) a_text a_readElement a_readBond a_readUsed a_pile a_markAtom a_markOrder a_size a_elements a_bonds a_near nro a_least a_other a_trial a_placed a_tried a_setWays a_setEnds a_setCounts a_standsAt a_firstOrder a_could a_asked := by
  intro d
  induction d with
  | zero =>
    intro i nro hi hz
    exact pk_le 21 i (fun _ => Exists.intro 8 (xg_23 hs hK hT h 7 0 a_near nro (by omega) ⟨fun x _ hx => absurd hx (by omega), fun o x ho hx => by rw [hz _ (by omega), if_neg (by omega)]; rfl⟩)) (fun z => absurd z (by omega))
  | succ d ih =>
    intro i nro hi hz
    exact pk_le 21 i (fun z => absurd z (by omega)) (fun _ => wk_w i (nm_r (wk_p i) (ih (i + 1) _ (by omega) (fun j hj => by
      by_cases e : j = i
      · rw [e, pk_us]
      · rw [pk_un e]; exact hz j (by omega)))))
theorem xx_findNear {post : SX → Prop} {s n : Nat} {el : Nat → Nat} {bo : Nat → Nat → Nat} (hs : s < 2) (hK : mo_K n el bo) (hT : mo_T a_size a_elements a_bonds s n el bo) (h : ∀ nr nro, xn_N n bo nr nro → post (f_count, f_isRead, f_wrongPlace, f_readAtoms, f_last, f_said, f_piled, f_orders, a_text, a_readElement, a_readBond, a_readUsed, a_pile, a_markAtom, a_markOrder, a_size, a_elements, a_bonds, nr, nro, a_least, a_other, a_trial, a_placed, a_tried, a_setWays, a_setEnds, a_setCounts, a_standsAt, a_firstOrder, a_could, a_asked)) : wpX_findNear post (f_count, f_isRead, f_wrongPlace, f_readAtoms, f_last, f_said, f_piled, f_orders, a_text, a_readElement, a_readBond, a_readUsed, a_pile, a_markAtom, a_markOrder, a_size, a_elements, a_bonds, a_near, a_nearOf, a_least, a_other, a_trial, a_placed, a_tried, a_setWays, a_setEnds, a_setCounts, a_standsAt, a_firstOrder, a_could, a_asked) (nI s) := by
  unfold wpX_findNear
  exact Exists.intro 22 (xg_2 hs hK hT h 21 0 a_nearOf (by omega) (fun j hj => absurd hj (by omega)))
/-! widening -/
theorem xx_wider {post : Int32 → Prop} {S : Nat} {G : Nat → Nat → Bool} (hS : S < 128) (hnr : ∀ a, a < 7 → a_near a = nI (bb_bs (G a) 7)) (h : post (nI (bb_bs (fun b => S.testBit b || bb_ex (fun c => S.testBit c && G c b) 7) 7))) : wpX_wider post (f_count, f_isRead, f_wrongPlace, f_readAtoms, f_last, f_said, f_piled, f_orders, a_text, a_readElement, a_readBond, a_readUsed, a_pile, a_markAtom, a_markOrder, a_size, a_elements, a_bonds, a_near, a_nearOf, a_least, a_other, a_trial, a_placed, a_tried, a_setWays, a_setEnds, a_setCounts, a_standsAt, a_firstOrder, a_could, a_asked) (nI S) := by
  have L : ∀ d i, i + d = 7 → wX_wider_4 post (nI S) f_count f_isRead f_wrongPlace f_readAtoms f_last f_said f_piled f_orders a_text a_readElement a_readBond a_readUsed a_pile a_markAtom a_markOrder a_size a_elements a_bonds a_near a_nearOf a_least a_other a_trial a_placed a_tried a_setWays a_setEnds a_setCounts a_standsAt a_firstOrder a_could a_asked (d + 1) (nI (bb_bs (fun b => S.testBit b || bb_ex (fun c => S.testBit c && G c b) i) 7)) (nI i) := by
    intro d
    induction d with
    | zero =>
      intro i hi
      have e : i = 7 := by omega
      subst e
      exact pk_le 7 7 (fun _ => h) (fun z => absurd z (by omega))
    | succ d ih =>
      intro i hi
      have k := ih (i + 1) (by omega)
      refine pk_le 7 i (fun z => absurd z (by omega)) (fun _ => ?_)
      cases hb : S.testBit i with
      | true =>
        refine br_t ((bb_bit1 hS (by omega)).mpr hb) (wk_i i (nm_r (e' := nI (bb_bs (fun b => S.testBit b || bb_ex (fun c => S.testBit c && G c b) (i + 1)) 7)) ?_ (nm_r (wk_p i) k)))
        rw [wk_c i (hnr i (by omega)), bb_or]
        congr 1
        refine bb_ext (bb_or_lt (bb_bs_lt _ 7) (bb_bs_lt _ 7)) (bb_bs_lt _ 7) (fun j hj => ?_)
        rw [Nat.testBit_or, bb_bs_b _ hj, bb_bs_b _ hj, bb_bs_b _ hj, bb_ex_s, hb, Bool.true_and, Bool.or_assoc]
      | false =>
        refine br_f (fun z => by rw [(bb_bit1 hS (by omega)).mp z] at hb; exact absurd hb (by decide)) (nm_r (wk_p i) ?_)
        have e : bb_bs (fun b => S.testBit b || bb_ex (fun c => S.testBit c && G c b) (i + 1)) 7 = bb_bs (fun b => S.testBit b || bb_ex (fun c => S.testBit c && G c b) i) 7 := bb_bs_cg 7 (fun j _ => by rw [bb_ex_s, hb, Bool.false_and, Bool.or_false])
        rw [e] at k; exact k
  unfold wpX_wider
  refine Exists.intro 8 ?_
  have k := L 7 0 (by omega)
  have e : bb_bs (fun b => S.testBit b || bb_ex (fun c => S.testBit c && G c b) 0) 7 = S := by
    refine bb_ext (bb_bs_lt _ 7) hS (fun j hj => ?_)
    rw [bb_bs_b _ hj]; exact Bool.or_false _
  rw [e] at k; exact k
theorem xx_wider_bl {post : Int32 → Prop} {k a : Nat} {G : Nat → Nat → Bool} (hnr : ∀ a, a < 7 → a_near a = nI (bb_bs (G a) 7)) (h : post (nI (bb_bs (gr_bl G a (k + 1)) 7))) : wpX_wider post (f_count, f_isRead, f_wrongPlace, f_readAtoms, f_last, f_said, f_piled, f_orders, a_text, a_readElement, a_readBond, a_readUsed, a_pile, a_markAtom, a_markOrder, a_size, a_elements, a_bonds, a_near, a_nearOf, a_least, a_other, a_trial, a_placed, a_tried, a_setWays, a_setEnds, a_setCounts, a_standsAt, a_firstOrder, a_could, a_asked) (nI (bb_bs (gr_bl G a k) 7)) := by
  refine xx_wider (bb_bs_lt _ 7) hnr ?_
  have e : bb_bs (fun b => (bb_bs (gr_bl G a k) 7).testBit b || bb_ex (fun c => (bb_bs (gr_bl G a k) 7).testBit c && G c b) 7) 7 = bb_bs (gr_bl G a (k + 1)) 7 := bb_bs_cg 7 (fun j hj => by
    rw [bb_bs_b _ hj, gr_bl_s]
    congr 1
    rw [Bool.eq_iff_iff, bb_ex_iff, bb_ex_iff]
    constructor
    · rintro ⟨c, hc, z⟩; exact ⟨c, hc, by rw [bb_bs_b _ hc] at z; exact z⟩
    · rintro ⟨c, hc, z⟩; exact ⟨c, hc, by rw [bb_bs_b _ hc]; exact z⟩)
  rw [e]; exact h
theorem xg_start {G : Nat → Nat → Bool} {a : Nat} (ha : a < 7) : 2 ^ a = bb_bs (gr_bl G a 0) 7 := bb_ext (bb_pow_lt ha) (bb_bs_lt _ 7) (fun j hj => by rw [bb_bs_b _ hj, Nat.testBit_two_pow]; rfl)
theorem xx_pieceOf {post : Int32 → Prop} {a : Nat} {G : Nat → Nat → Bool} (hG : gr_in G) (ha : a < 7) (hnr : ∀ a, a < 7 → a_near a = nI (bb_bs (G a) 7)) (h : post (nI (bb_bs (gr_R G a) 7))) : wpX_pieceOf post (f_count, f_isRead, f_wrongPlace, f_readAtoms, f_last, f_said, f_piled, f_orders, a_text, a_readElement, a_readBond, a_readUsed, a_pile, a_markAtom, a_markOrder, a_size, a_elements, a_bonds, a_near, a_nearOf, a_least, a_other, a_trial, a_placed, a_tried, a_setWays, a_setEnds, a_setCounts, a_standsAt, a_firstOrder, a_could, a_asked) (nI (2 ^ a)) := by
  have L : ∀ d i, i + d = 7 → wX_pieceOf_4 post f_count f_isRead f_wrongPlace f_readAtoms f_last f_said f_piled f_orders a_text a_readElement a_readBond a_readUsed a_pile a_markAtom a_markOrder a_size a_elements a_bonds a_near a_nearOf a_least a_other a_trial a_placed a_tried a_setWays a_setEnds a_setCounts a_standsAt a_firstOrder a_could a_asked (d + 1) (nI (bb_bs (gr_bl G a i) 7)) (nI i) := by
    intro d
    induction d with
    | zero =>
      intro i hi
      have e : i = 7 := by omega
      subst e
      refine pk_le 7 7 (fun _ => ?_) (fun z => absurd z (by omega))
      have e : bb_bs (gr_bl G a 7) 7 = bb_bs (gr_R G a) 7 := bb_bs_cg 7 (fun j _ => by
        cases hz : gr_bl G a 7 j with
        | true => exact (gr_six hG ha hz).symm
        | false =>
          cases hy : gr_R G a j with
          | false => rfl
          | true => rw [gr_bl_up (k := 6) hy] at hz; exact absurd hz (by decide))
      rw [e]; exact h
    | succ d ih =>
      intro i hi
      exact pk_le 7 i (fun z => absurd z (by omega)) (fun _ => xx_wider_bl hnr (nm_r (wk_p i) (ih (i + 1) (by omega))))
  unfold wpX_pieceOf
  rw [xg_start (G := G) ha]
  exact Exists.intro 8 (L 7 0 (by omega))
theorem xx_countPieces {post : Int32 → Prop} {s n : Nat} {G : Nat → Nat → Bool} (hs : s < 2) (hn : n ≤ 7) (hz : a_size s = nI n) (hG : gr_in G) (hsy : gr_sy G) (hr : ∀ x y, x < n → gr_R G x y = true → y < n) (hnr : ∀ a, a < 7 → a_near a = nI (bb_bs (G a) 7)) (h : post (nI (gr_np G n))) : wpX_countPieces post (f_count, f_isRead, f_wrongPlace, f_readAtoms, f_last, f_said, f_piled, f_orders, a_text, a_readElement, a_readBond, a_readUsed, a_pile, a_markAtom, a_markOrder, a_size, a_elements, a_bonds, a_near, a_nearOf, a_least, a_other, a_trial, a_placed, a_tried, a_setWays, a_setEnds, a_setCounts, a_standsAt, a_firstOrder, a_could, a_asked) (nI s) := by
  have L : ∀ d i rest cnt, i + d = 7 → gr_PI G n rest cnt i → wX_countPieces_16 post f_count f_isRead f_wrongPlace f_readAtoms f_last f_said f_piled f_orders a_text a_readElement a_readBond a_readUsed a_pile a_markAtom a_markOrder a_size a_elements a_bonds a_near a_nearOf a_least a_other a_trial a_placed a_tried a_setWays a_setEnds a_setCounts a_standsAt a_firstOrder a_could a_asked (d + 1) (nI rest) (nI cnt) (nI i) := by
    intro d
    induction d with
    | zero =>
      intro i rest cnt hi hP
      have e : i = 7 := by omega
      subst e
      refine pk_le 7 7 (fun _ => ?_) (fun z => absurd z (by omega))
      rw [gr_PI_7 hP] at hP
      rw [gr_PI_e hP]; exact h
    | succ d ih =>
      intro i rest cnt hi hP
      refine pk_le 7 i (fun z => absurd z (by omega)) (fun _ => pk_eq rest 0 (fun e => ?_) (fun e => ?_) rfl rfl (by have := hP.1; omega))
      · rw [e] at hP
        rw [gr_PI_e hP]; exact h
      · rw [bb_low rest hP.1 e]
        exact xx_pieceOf hG (bb_lo_7 hP.1 e) hnr (nm_r (bb_dfI hP.1) (nm_r (wk_p cnt) (nm_r (wk_p i) (ih (i + 1) _ _ (by omega) (gr_PI_s hG hsy hn e hP)))))
  unfold wpX_countPieces
  refine wk_i s (nm_r (e' := nI (2 ^ n - 1)) (by rw [wk_c s hz, bb_full n (by omega)]) (Exists.intro 8 (L 7 0 _ _ (by omega) (gr_PI_0 hn hr))))
theorem mo_G_R {n : Nat} {bo : Nat → Nat → Nat} : ∀ x y, x < n → gr_R (mo_G n bo) x y = true → y < n := by
  have key : ∀ k x y, x < n → gr_bl (mo_G n bo) x k y = true → y < n := by
    intro k
    induction k with
    | zero => intro x y hx h; rw [← of_decide_eq_true (show decide (x = y) = true from h)]; exact hx
    | succ k ih =>
      intro x y hx h
      rcases (gr_bl_i _ x k y).mp h with z | ⟨c, _, _, z⟩
      · exact ih x y hx z
      · exact (mo_G_n c y z).2
  exact fun x y hx h => key 6 x y hx h
theorem xx_pieces {post : Int32 → SX → Prop} {s n : Nat} {el : Nat → Nat} {bo : Nat → Nat → Nat} (hs : s < 2) (hK : mo_K n el bo) (hT : mo_T a_size a_elements a_bonds s n el bo) (h : ∀ nr nro, post (nI (gr_np (mo_G n bo) n)) (f_count, f_isRead, f_wrongPlace, f_readAtoms, f_last, f_said, f_piled, f_orders, a_text, a_readElement, a_readBond, a_readUsed, a_pile, a_markAtom, a_markOrder, a_size, a_elements, a_bonds, nr, nro, a_least, a_other, a_trial, a_placed, a_tried, a_setWays, a_setEnds, a_setCounts, a_standsAt, a_firstOrder, a_could, a_asked)) : wpX_pieces post (f_count, f_isRead, f_wrongPlace, f_readAtoms, f_last, f_said, f_piled, f_orders, a_text, a_readElement, a_readBond, a_readUsed, a_pile, a_markAtom, a_markOrder, a_size, a_elements, a_bonds, a_near, a_nearOf, a_least, a_other, a_trial, a_placed, a_tried, a_setWays, a_setEnds, a_setCounts, a_standsAt, a_firstOrder, a_could, a_asked) (nI s) := by
  unfold wpX_pieces
  exact xx_slot_g hs (br_t rfl (xx_findNear hs hK hT (fun nr nro hN => xx_countPieces hs hK.1 hT.1 (mo_G_in hK.1) (mo_G_sy hK.2.2.2) mo_G_R hN.1 (h nr nro))))
/-! distances -/
noncomputable def xg_d (G : Nat → Nat → Bool) (a b : Nat) : Int32 := if gr_ds G a b = 100 then -1 else nI (gr_ds G a b)
theorem xx_distance {post : Int32 → Prop} {a b : Nat} {G : Nat → Nat → Bool} (hG : gr_in G) (ha : a < 7) (hb : b < 7) (hnr : ∀ a, a < 7 → a_near a = nI (bb_bs (G a) 7)) (h : post (xg_d G a b)) : wpX_distance post (f_count, f_isRead, f_wrongPlace, f_readAtoms, f_last, f_said, f_piled, f_orders, a_text, a_readElement, a_readBond, a_readUsed, a_pile, a_markAtom, a_markOrder, a_size, a_elements, a_bonds, a_near, a_nearOf, a_least, a_other, a_trial, a_placed, a_tried, a_setWays, a_setEnds, a_setCounts, a_standsAt, a_firstOrder, a_could, a_asked) (nI a) (nI b) := by
  have L : ∀ d i, i + d = 7 → (∀ j, j < i → gr_bl G a j b = false) → wX_distance_7 post (nI b) f_count f_isRead f_wrongPlace f_readAtoms f_last f_said f_piled f_orders a_text a_readElement a_readBond a_readUsed a_pile a_markAtom a_markOrder a_size a_elements a_bonds a_near a_nearOf a_least a_other a_trial a_placed a_tried a_setWays a_setEnds a_setCounts a_standsAt a_firstOrder a_could a_asked (d + 1) (nI (bb_bs (gr_bl G a i) 7)) (nI i) := by
    intro d
    induction d with
    | zero =>
      intro i hi hj
      refine pk_le 7 i (fun _ => ?_) (fun z => absurd z (by omega))
      have : gr_ds G a b = 100 := gr_ds_n (hj 6 (by omega))
      unfold xg_d at h
      rw [if_pos this] at h; exact h
    | succ d ih =>
      intro i hi hj
      refine pk_le 7 i (fun z => absurd z (by omega)) (fun _ => ?_)
      cases hz : gr_bl G a i b with
      | true =>
        refine br_t ((bb_bit1 (bb_bs_lt _ 7) hb).mpr (by rw [bb_bs_b _ hb]; exact hz)) ?_
        have hR : gr_R G a b = true := gr_R_of hG ha hz
        have e : gr_ds G a b = i := gr_D_u (gr_ds_D hR).1 ⟨hz, hj⟩
        unfold xg_d at h
        rw [e, if_neg (by omega)] at h; exact h
      | false =>
        refine br_f (fun z => ?_) (xx_wider_bl hnr (nm_r (wk_p i) (ih (i + 1) (by omega) (fun j hj' => ?_))))
        · have := (bb_bit1 (bb_bs_lt _ 7) hb).mp z
          rw [bb_bs_b _ hb, hz] at this; exact absurd this (by decide)
        · by_cases e : j = i
          · rw [e]; exact hz
          · exact hj j (by omega)
  unfold wpX_distance
  refine nm_r (e' := nI (bb_bs (gr_bl G a 0) 7)) (by rw [bb_shl a (by omega), xg_start (G := G) ha]) (Exists.intro 8 (L 7 0 (by omega) (fun j hj => absurd hj (by omega))))
/-- the neighbours without one bond -/
theorem xg_cut {G : Nat → Nat → Bool} {x y : Nat} {nr : Nat → Int32} (hx : x < 7) (hy : y < 7) (hxy : x ≠ y) (hnr : ∀ a, a < 7 → nr a = nI (bb_bs (G a) 7)) :
    ∀ a, a < 7 → upd (upd nr x (nI (bb_cl (bb_bs (G x) 7) y))) y (nI (bb_cl (bb_bs (G y) 7) x)) a = nI (bb_bs (gr_cut G x y a) 7) := by
  intro a ha
  by_cases e1 : a = y
  · rw [e1, pk_us]
    congr 1
    refine bb_ext (bb_cl_lt _ _) (bb_bs_lt _ 7) (fun j hj => ?_)
    rw [bb_cl_b hj, bb_bs_b _ hj, bb_bs_b _ hj]
    unfold gr_cut
    congr 2
    have z1 : (y = x ∧ j = y) ↔ False := ⟨fun z => hxy z.1.symm, False.elim⟩
    have z2 : (y = y ∧ j = x) ↔ (j = x) := ⟨fun z => z.2, fun z => ⟨rfl, z⟩⟩
    simp only [z1, true_and, decide_false, Bool.false_or]
  · rw [pk_un e1]
    by_cases e2 : a = x
    · rw [e2, pk_us]
      congr 1
      refine bb_ext (bb_cl_lt _ _) (bb_bs_lt _ 7) (fun j hj => ?_)
      rw [bb_cl_b hj, bb_bs_b _ hj, bb_bs_b _ hj]
      unfold gr_cut
      congr 2
      have z1 : (x = y ∧ j = x) ↔ False := ⟨fun z => hxy z.1, False.elim⟩
      have z2 : (x = x ∧ j = y) ↔ (j = y) := ⟨fun z => z.2, fun z => ⟨rfl, z⟩⟩
      simp only [z1, true_and, decide_false, Bool.or_false]
    · rw [pk_un e2, hnr a ha]
      congr 1
      refine bb_bs_cg 7 (fun j _ => ?_)
      unfold gr_cut
      rw [decide_eq_false (fun z => e2 z.1), decide_eq_false (fun z => e1 z.1)]; simp
noncomputable def xg_sm (G : Nat → Nat → Bool) (a b : Nat) : Int32 := if gr_ds (gr_cut G a b) a b = 100 then -4 else nI (gr_ds (gr_cut G a b) a b + 1)
theorem xx_smallest_g {post : Int32 → SX → Prop} {s n a b : Nat} {el : Nat → Nat} {bo : Nat → Nat → Nat} (hs : s < 2) (hK : mo_K n el bo) (hT : mo_T a_size a_elements a_bonds s n el bo) (ha : a < n) (hb : b < n) (h0 : 0 < bo a b) (h : ∀ nr nro, post (xg_sm (mo_G n bo) a b) (f_count, f_isRead, f_wrongPlace, f_readAtoms, f_last, f_said, f_piled, f_orders, a_text, a_readElement, a_readBond, a_readUsed, a_pile, a_markAtom, a_markOrder, a_size, a_elements, a_bonds, nr, nro, a_least, a_other, a_trial, a_placed, a_tried, a_setWays, a_setEnds, a_setCounts, a_standsAt, a_firstOrder, a_could, a_asked)) : wpX_smallest post (f_count, f_isRead, f_wrongPlace, f_readAtoms, f_last, f_said, f_piled, f_orders, a_text, a_readElement, a_readBond, a_readUsed, a_pile, a_markAtom, a_markOrder, a_size, a_elements, a_bonds, a_near, a_nearOf, a_least, a_other, a_trial, a_placed, a_tried, a_setWays, a_setEnds, a_setCounts, a_standsAt, a_firstOrder, a_could, a_asked) (nI s) (nI a) (nI b) := by
  have hn := hK.1
  have hab : a ≠ b := fun e => by rw [e, hK.2.2.2.2 b hb] at h0; omega
  have hb3 := hK.2.2.1 a b ha hb
  unfold wpX_smallest
  refine xx_slot_g hs (br_t rfl (xx_noAtom_g hs hn hT.1 ha (br_t rfl (xx_noAtom_g hs hn hT.1 hb (br_t rfl (br_f (fun e => hab ((nI_eq (by omega) (by omega)).mp e)) (xx_bondOf hs (by omega) (by omega) ?_)))))))
  rw [hT.2.2 a b ha hb]
  refine br_f (nI_ne0 h0 (by omega)) (xx_findNear hs hK hT (fun nr nro hN => ?_))
  refine wk_i a (wk_v a (nI (bb_cl (bb_bs (mo_G n bo a) 7) b)) (by rw [wk_c a (hN.1 a (by omega)), bb_clI (bb_bs_lt _ 7) (by omega)]) (wk_i b (wk_v b (nI (bb_cl (bb_bs (mo_G n bo b) 7) a)) ?_ (xx_distance (gr_cut_in (mo_G_in hn) a b) (by omega) (by omega) (xg_cut (by omega) (by omega) hab hN.1) ?_))))
  · rw [wk_c b (show upd nr a (nI (bb_cl (bb_bs (mo_G n bo a) 7) b)) b = nI (bb_bs (mo_G n bo b) 7) from by rw [pk_un (fun e => hab e.symm)]; exact hN.1 b (by omega)), bb_clI (bb_bs_lt _ 7) (by omega)]
  · unfold xg_d
    have k := h (upd (upd nr a (nI (bb_cl (bb_bs (mo_G n bo a) 7) b))) b (nI (bb_cl (bb_bs (mo_G n bo b) 7) a))) nro
    unfold xg_sm at k
    by_cases e : gr_ds (gr_cut (mo_G n bo) a b) a b = 100
    · rw [if_pos e] at k ⊢
      exact br_t rfl k
    · have hl := gr_ds_le (gr_cut (mo_G n bo) a b) a b
      rw [if_neg e] at k ⊢
      refine br_f (bb_ne (by omega)) ?_
      rw [wk_p]; exact k
theorem xx_smallest_0 {post : Int32 → SX → Prop} {s n a b : Nat} {el : Nat → Nat} {bo : Nat → Nat → Nat} (hs : s < 2) (hK : mo_K n el bo) (hT : mo_T a_size a_elements a_bonds s n el bo) (ha : a < n) (hb : b < n) (h0 : bo a b = 0) (h : post (-4) (f_count, f_isRead, f_wrongPlace, f_readAtoms, f_last, f_said, f_piled, f_orders, a_text, a_readElement, a_readBond, a_readUsed, a_pile, a_markAtom, a_markOrder, a_size, a_elements, a_bonds, a_near, a_nearOf, a_least, a_other, a_trial, a_placed, a_tried, a_setWays, a_setEnds, a_setCounts, a_standsAt, a_firstOrder, a_could, a_asked)) : wpX_smallest post (f_count, f_isRead, f_wrongPlace, f_readAtoms, f_last, f_said, f_piled, f_orders, a_text, a_readElement, a_readBond, a_readUsed, a_pile, a_markAtom, a_markOrder, a_size, a_elements, a_bonds, a_near, a_nearOf, a_least, a_other, a_trial, a_placed, a_tried, a_setWays, a_setEnds, a_setCounts, a_standsAt, a_firstOrder, a_could, a_asked) (nI s) (nI a) (nI b) := by
  have hn := hK.1
  unfold wpX_smallest
  refine xx_slot_g hs (br_t rfl (xx_noAtom_g hs hn hT.1 ha (br_t rfl (xx_noAtom_g hs hn hT.1 hb (br_t rfl (br_c (fun _ => h) (fun _ => xx_bondOf hs (by omega) (by omega) ?_)))))))
  rw [hT.2.2 a b ha hb, h0]
  exact br_t rfl h
theorem xx_smallest_b {post : Int32 → SX → Prop} {s n : Nat} {v w : Int32} (hs : s < 2) (hn : n ≤ 7) (hz : a_size s = nI n) (hv : (∃ a, a < n ∧ v = nI a) ∨ (¬ v < 0 → nI n ≤ v)) (hw : (∃ a, a < n ∧ w = nI a) ∨ (¬ w < 0 → nI n ≤ w)) (hvw : ¬ ((∃ a, a < n ∧ v = nI a) ∧ (∃ a, a < n ∧ w = nI a))) (h : post (-4) (f_count, f_isRead, f_wrongPlace, f_readAtoms, f_last, f_said, f_piled, f_orders, a_text, a_readElement, a_readBond, a_readUsed, a_pile, a_markAtom, a_markOrder, a_size, a_elements, a_bonds, a_near, a_nearOf, a_least, a_other, a_trial, a_placed, a_tried, a_setWays, a_setEnds, a_setCounts, a_standsAt, a_firstOrder, a_could, a_asked)) : wpX_smallest post (f_count, f_isRead, f_wrongPlace, f_readAtoms, f_last, f_said, f_piled, f_orders, a_text, a_readElement, a_readBond, a_readUsed, a_pile, a_markAtom, a_markOrder, a_size, a_elements, a_bonds, a_near, a_nearOf, a_least, a_other, a_trial, a_placed, a_tried, a_setWays, a_setEnds, a_setCounts, a_standsAt, a_firstOrder, a_could, a_asked) (nI s) v w := by
  unfold wpX_smallest
  refine xx_slot_g hs (br_t rfl ?_)
  rcases hv with ⟨a, ha, rfl⟩ | hv
  · refine xx_noAtom_g hs hn hz ha (br_t rfl ?_)
    rcases hw with hw | hw
    · exact absurd ⟨⟨a, ha, rfl⟩, hw⟩ hvw
    · exact xx_noAtom_b hs hn hz hw (br_f wk_10 h)
  · exact xx_noAtom_b hs hn hz hv (br_f wk_10 h)
/-! sums over pairs -/
/-- a pair's part in the sum -/
noncomputable def xg_v (G : Nat → Nat → Bool) (a b : Nat) : Nat := if gr_ds G a b = 100 then 0 else gr_ds G a b
/-- the pairs (a, b), a < b < k -/
noncomputable def xg_r (G : Nat → Nat → Bool) (a k : Nat) : Nat := bb_sm (fun b => if a < b then xg_v G a b else 0) k
theorem xx_spread {post : Int32 → SX → Prop} {s n : Nat} {el : Nat → Nat} {bo : Nat → Nat → Nat} (hs : s < 2) (hK : mo_K n el bo) (hT : mo_T a_size a_elements a_bonds s n el bo) (h : ∀ nr nro, post (nI (bb_sm (fun a => xg_r (mo_G n bo) a n) n)) (f_count, f_isRead, f_wrongPlace, f_readAtoms, f_last, f_said, f_piled, f_orders, a_text, a_readElement, a_readBond, a_readUsed, a_pile, a_markAtom, a_markOrder, a_size, a_elements, a_bonds, nr, nro, a_least, a_other, a_trial, a_placed, a_tried, a_setWays, a_setEnds, a_setCounts, a_standsAt, a_firstOrder, a_could, a_asked)) : wpX_spread post (f_count, f_isRead, f_wrongPlace, f_readAtoms, f_last, f_said, f_piled, f_orders, a_text, a_readElement, a_readBond, a_readUsed, a_pile, a_markAtom, a_markOrder, a_size, a_elements, a_bonds, a_near, a_nearOf, a_least, a_other, a_trial, a_placed, a_tried, a_setWays, a_setEnds, a_setCounts, a_standsAt, a_firstOrder, a_could, a_asked) (nI s) := by
  have hn := hK.1
  unfold wpX_spread
  refine xx_slot_g hs (br_t rfl (xx_findNear hs hK hT (fun nr nro hN => ?_)))
  have hI : ∀ (J : Int32 → Int32 → Prop) (a S : Nat), a < n → J (nI (S + xg_r (mo_G n bo) a n)) (nI (a + 1)) → ∀ d b, b + d = n → a < b → wX_spread_34 post J (nI s) (nI a) f_count f_isRead f_wrongPlace f_readAtoms f_last f_said f_piled f_orders a_text a_readElement a_readBond a_readUsed a_pile a_markAtom a_markOrder a_size a_elements a_bonds nr nro a_least a_other a_trial a_placed a_tried a_setWays a_setEnds a_setCounts a_standsAt a_firstOrder a_could a_asked (d + 1) (nI (S + xg_r (mo_G n bo) a b)) (nI b) := by
    intro J a S ha hJ d
    induction d with
    | zero =>
      intro b hb _
      have e : b = n := by omega
      subst e
      exact wk_i s (pk_le b b (fun _ => nm_r (wk_p a) hJ) (fun z => absurd z (by omega)) (wk_c s hT.1))
    | succ d ih =>
      intro b hb hab
      have k := ih (b + 1) (by omega) (by omega)
      refine wk_i s (pk_le n b (fun z => absurd z (by omega)) (fun _ => xx_distance (mo_G_in hn) (by omega) (by omega) hN.1 ?_) (wk_c s hT.1))
      unfold xg_d
      by_cases e : gr_ds (mo_G n bo) a b = 100
      · rw [if_pos e]
        refine br_t rfl (nm_r (wk_p b) ?_)
        have e2 : xg_r (mo_G n bo) a (b + 1) = xg_r (mo_G n bo) a b := by
          unfold xg_r xg_v; rw [bb_sm_s, if_pos hab, if_pos e]; rfl
        rw [e2] at k; exact k
      · have hl := gr_ds_le (mo_G n bo) a b
        rw [if_neg e]
        refine br_f (bb_ne (by omega)) (nm_r (e' := nI (S + xg_r (mo_G n bo) a (b + 1))) ?_ (nm_r (wk_p b) k))
        rw [nI_add]
        congr 1
        unfold xg_r xg_v; rw [bb_sm_s, if_pos hab, if_neg e]; omega
  have L : ∀ d a, a + d = n → wX_spread_19 post (nI s) f_count f_isRead f_wrongPlace f_readAtoms f_last f_said f_piled f_orders a_text a_readElement a_readBond a_readUsed a_pile a_markAtom a_markOrder a_size a_elements a_bonds nr nro a_least a_other a_trial a_placed a_tried a_setWays a_setEnds a_setCounts a_standsAt a_firstOrder a_could a_asked (d + 1) (nI (bb_sm (fun a => xg_r (mo_G n bo) a n) a)) (nI a) := by
    intro d
    induction d with
    | zero =>
      intro a ha
      have e : a = n := by omega
      subst e
      exact wk_i s (pk_le a a (fun _ => h nr nro) (fun z => absurd z (by omega)) (wk_c s hT.1))
    | succ d ih =>
      intro a ha
      refine wk_i s (pk_le n a (fun z => absurd z (by omega)) (fun _ => nm_r (wk_p a) (Exists.intro (n - (a + 1) + 1) ?_)) (wk_c s hT.1))
      have k := hI (wX_spread_19 post (nI s) f_count f_isRead f_wrongPlace f_readAtoms f_last f_said f_piled f_orders a_text a_readElement a_readBond a_readUsed a_pile a_markAtom a_markOrder a_size a_elements a_bonds nr nro a_least a_other a_trial a_placed a_tried a_setWays a_setEnds a_setCounts a_standsAt a_firstOrder a_could a_asked (d + 1)) a (bb_sm (fun a => xg_r (mo_G n bo) a n) a) (by omega) (ih (a + 1) (by omega)) (n - (a + 1)) (a + 1) (by omega) (by omega)
      have e : xg_r (mo_G n bo) a (a + 1) = 0 := bb_sm_z _ (fun i hi => by rw [if_neg (by omega)])
      rw [e, Nat.add_zero] at k
      exact k
  exact Exists.intro (n + 1) (L n 0 (by omega))
/-- bridges among the pairs -/
noncomputable def xg_b (n : Nat) (bo : Nat → Nat → Nat) (a b : Nat) : Nat := if a < b ∧ b < n ∧ 0 < bo a b ∧ gr_R (gr_cut (mo_G n bo) a b) a b = false then 1 else 0
theorem xx_bridges {post : Int32 → SX → Prop} {s n : Nat} {el : Nat → Nat} {bo : Nat → Nat → Nat} (hs : s < 2) (hK : mo_K n el bo) (hT : mo_T a_size a_elements a_bonds s n el bo) (h : ∀ nr nro, post (nI (bb_sm (fun a => bb_sm (xg_b n bo a) n) n)) (f_count, f_isRead, f_wrongPlace, f_readAtoms, f_last, f_said, f_piled, f_orders, a_text, a_readElement, a_readBond, a_readUsed, a_pile, a_markAtom, a_markOrder, a_size, a_elements, a_bonds, nr, nro, a_least, a_other, a_trial, a_placed, a_tried, a_setWays, a_setEnds, a_setCounts, a_standsAt, a_firstOrder, a_could, a_asked)) : wpX_bridges post (f_count, f_isRead, f_wrongPlace, f_readAtoms, f_last, f_said, f_piled, f_orders, a_text, a_readElement, a_readBond, a_readUsed, a_pile, a_markAtom, a_markOrder, a_size, a_elements, a_bonds, a_near, a_nearOf, a_least, a_other, a_trial, a_placed, a_tried, a_setWays, a_setEnds, a_setCounts, a_standsAt, a_firstOrder, a_could, a_asked) (nI s) := by
  have hn := hK.1
  unfold wpX_bridges
  refine xx_slot_g hs (br_t rfl ?_)
  have L : ∀ d a nr nro, a + d = n → wX_bridges_14 post (nI s) (d + 1) (nI (bb_sm (fun a => bb_sm (xg_b n bo a) n) a)) (nI a) f_count f_isRead f_wrongPlace f_readAtoms f_last f_said f_piled f_orders a_text a_readElement a_readBond a_readUsed a_pile a_markAtom a_markOrder a_size a_elements a_bonds nr nro a_least a_other a_trial a_placed a_tried a_setWays a_setEnds a_setCounts a_standsAt a_firstOrder a_could a_asked := by
    intro d
    induction d with
    | zero =>
      intro a nr nro ha
      have e : a = n := by omega
      subst e
      exact wk_i s (pk_le a a (fun _ => h nr nro) (fun z => absurd z (by omega)) (wk_c s hT.1))
    | succ d ih =>
      intro a nr nro ha
      have hI : ∀ e b nr nro, b + e = n → a < b → wX_bridges_29 post (wX_bridges_14 post (nI s) (d + 1)) (nI s) (nI a) (e + 1) (nI (bb_sm (fun a => bb_sm (xg_b n bo a) n) a + bb_sm (xg_b n bo a) b)) (nI b) f_count f_isRead f_wrongPlace f_readAtoms f_last f_said f_piled f_orders a_text a_readElement a_readBond a_readUsed a_pile a_markAtom a_markOrder a_size a_elements a_bonds nr nro a_least a_other a_trial a_placed a_tried a_setWays a_setEnds a_setCounts a_standsAt a_firstOrder a_could a_asked := by
        intro e
        induction e with
        | zero =>
          intro b nr nro hb _
          have e : b = n := by omega
          subst e
          exact wk_i s (pk_le b b (fun _ => nm_r (wk_p a) (ih (a + 1) nr nro (by omega))) (fun z => absurd z (by omega)) (wk_c s hT.1))
        | succ e ihe =>
          intro b nr nro hb hab
          refine wk_i s (pk_le n b (fun z => absurd z (by omega)) (fun _ => xx_bondOf hs (by omega) (by omega) ?_) (wk_c s hT.1))
          rw [hT.2.2 a b (by omega) (by omega)]
          have hb3 := hK.2.2.1 a b (by omega) (by omega)
          refine pk_le (bo a b) 0 (fun z => nm_r (wk_p b) ?_) (fun z => xx_smallest_g hs hK hT (by omega) (by omega) z (fun nr' nro' => ?_))
          · have k := ihe (b + 1) nr nro (by omega) (by omega)
            rw [bb_sm_s, show xg_b n bo a b = 0 from if_neg (by omega), Nat.add_zero] at k; exact k
          · have k := ihe (b + 1) nr' nro' (by omega) (by omega)
            rw [bb_sm_s] at k
            unfold xg_sm
            by_cases e : gr_ds (gr_cut (mo_G n bo) a b) a b = 100
            · rw [if_pos e]
              rw [show xg_b n bo a b = 1 from if_pos ⟨hab, by omega, z, gr_ds_R.mp e⟩] at k
              exact br_t rfl (nm_r (by rw [wk_p, Nat.add_assoc]) (nm_r (wk_p b) k))
            · have hl := gr_ds_le (gr_cut (mo_G n bo) a b) a b
              rw [if_neg e]
              rw [show xg_b n bo a b = 0 from if_neg (fun y => e (gr_ds_R.mpr y.2.2.2)), Nat.add_zero] at k
              exact br_f (bb_ne4 (by omega)) (nm_r (wk_p b) k)
      refine wk_i s (pk_le n a (fun z => absurd z (by omega)) (fun _ => nm_r (wk_p a) (Exists.intro (n - (a + 1) + 1) ?_)) (wk_c s hT.1))
      have k := hI (n - (a + 1)) (a + 1) nr nro (by omega) (by omega)
      rw [bb_sm_z (f := xg_b n bo a) (a + 1) (fun i hi => if_neg (by omega)), Nat.add_zero] at k
      exact k
  exact Exists.intro (n + 1) (L n 0 a_near a_nearOf (by omega))
end
end
section
/-! sets of bonds without a common atom -/
theorem ma_cl : ∀ s, s < 128 → ∀ a, a < 7 → (bb_cl s a ≤ s ∧ (s.testBit a = true → bb_cl s a < s)) := by decide +kernel
def ma_A (G : Nat → Nat → Bool) (t : Nat → Int32) (S : Nat) : Nat → Int32
  | 0 => t (bb_cl S (bb_lo S))
  | b + 1 => ma_A G t S b + (bif (bb_cl S (bb_lo S) &&& bb_bs (G (bb_lo S)) 7).testBit b then t (bb_cl (bb_cl S (bb_lo S)) b) else 0)
theorem ma_A_s (G : Nat → Nat → Bool) (t : Nat → Int32) (S b : Nat) : ma_A G t S (b + 1) = ma_A G t S b + (bif (bb_cl S (bb_lo S) &&& bb_bs (G (bb_lo S)) 7).testBit b then t (bb_cl (bb_cl S (bb_lo S)) b) else 0) := rfl
theorem ma_A_cg {G : Nat → Nat → Bool} {t u : Nat → Int32} {S : Nat} (hS : S < 128) (h0 : S ≠ 0) (h : ∀ j, j < S → t j = u j) : ∀ b, b ≤ 7 → ma_A G t S b = ma_A G u S b := by
  have hl := bb_lo_7 hS h0
  have h1 := (ma_cl S hS _ hl).2 (bb_lo_b hS h0)
  intro b
  induction b with
  | zero => intro _; exact h _ h1
  | succ b ih =>
    intro hb
    have h2 := (ma_cl _ (bb_cl_lt S (bb_lo S)) b (by omega)).1
    rw [ma_A_s, ma_A_s, ih (by omega), h _ (by omega)]
def ma_t (G : Nat → Nat → Bool) : Nat → Nat → Int32
  | 0 => fun _ => 1
  | k + 1 => upd (ma_t G k) k (if k = 0 then 1 else ma_A G (ma_t G k) k 7)
theorem ma_t_s (G : Nat → Nat → Bool) (k : Nat) : ma_t G (k + 1) = upd (ma_t G k) k (if k = 0 then 1 else ma_A G (ma_t G k) k 7) := rfl
def ma_w (G : Nat → Nat → Bool) (S : Nat) : Int32 := ma_t G (S + 1) S
theorem ma_t_lt (G : Nat → Nat → Bool) : ∀ k j, j < k → ma_t G k j = ma_w G j := by
  intro k
  induction k with
  | zero => intro j hj; omega
  | succ k ih =>
    intro j hj
    by_cases e : j = k
    · rw [e]; rfl
    · rw [ma_t_s, pk_un e]; exact ih j (by omega)
theorem ma_w_0 (G : Nat → Nat → Bool) : ma_w G 0 = 1 := by
  unfold ma_w; rw [ma_t_s, pk_us, if_pos rfl]
theorem ma_w_s (G : Nat → Nat → Bool) {S : Nat} (hS : S < 128) (h0 : S ≠ 0) : ma_w G S = ma_A G (ma_w G) S 7 := by
  have e : ma_w G S = ma_A G (ma_t G S) S 7 := by unfold ma_w; rw [ma_t_s, pk_us, if_neg h0]
  rw [e]
  exact ma_A_cg hS h0 (fun j hj => ma_t_lt G S j hj) 7 (Nat.le_refl _)
section
variable {f_count f_isRead f_wrongPlace f_readAtoms f_last f_said f_piled f_orders : Int32} {a_text a_readElement a_readBond a_readUsed a_pile a_markAtom a_markOrder a_size a_elements a_bonds a_near a_nearOf a_least a_other a_trial a_placed a_tried a_setWays a_setEnds a_setCounts a_standsAt a_firstOrder a_could a_asked : Nat → Int32}
theorem xx_matchings {post : Int32 → SX → Prop} {s n : Nat} {el : Nat → Nat} {bo : Nat → Nat → Nat} (hs : s < 2) (hK : mo_K n el bo) (hT : mo_T a_size a_elements a_bonds s n el bo) (h : ∀ nr nro sw, post (ma_w (mo_G n bo) (2 ^ n - 1)) (f_count, f_isRead, f_wrongPlace, f_readAtoms, f_last, f_said, f_piled, f_orders, a_text, a_readElement, a_readBond, a_readUsed, a_pile, a_markAtom, a_markOrder, a_size, a_elements, a_bonds, nr, nro, a_least, a_other, a_trial, a_placed, a_tried, sw, a_setEnds, a_setCounts, a_standsAt, a_firstOrder, a_could, a_asked)) : wpX_matchings post (f_count, f_isRead, f_wrongPlace, f_readAtoms, f_last, f_said, f_piled, f_orders, a_text, a_readElement, a_readBond, a_readUsed, a_pile, a_markAtom, a_markOrder, a_size, a_elements, a_bonds, a_near, a_nearOf, a_least, a_other, a_trial, a_placed, a_tried, a_setWays, a_setEnds, a_setCounts, a_standsAt, a_firstOrder, a_could, a_asked) (nI s) := by
  have hn := hK.1
  unfold wpX_matchings
  refine xx_slot_g hs (br_t rfl (xx_findNear hs hK hT (fun nr nro hN => ?_)))
  have L : ∀ d S sw, S + d = 128 → 0 < S → (∀ j, j < S → sw j = ma_w (mo_G n bo) j) → wX_matchings_24 post (nI s) f_count f_isRead f_wrongPlace f_readAtoms f_last f_said f_piled f_orders (d + 1) (nI S) a_text a_readElement a_readBond a_readUsed a_pile a_markAtom a_markOrder a_size a_elements a_bonds nr nro a_least a_other a_trial a_placed a_tried sw a_setEnds a_setCounts a_standsAt a_firstOrder a_could a_asked := by
    intro d
    induction d with
    | zero =>
      intro S sw hS h0 hw
      have h128 : 2 ^ n - 1 < 128 := by
        have : 2 ^ n ≤ 2 ^ 7 := Nat.pow_le_pow_right (by decide) hn
        have := Nat.two_pow_pos n
        omega
      have hix : ((1 : Int32) <<< ((a_size (nI s).toNatClampNeg) &&& 31)) - 1 = nI (2 ^ n - 1) := by rw [wk_c s hT.1, bb_full n (by omega)]
      refine pk_le 128 S (fun _ => wk_i s (wk_i (2 ^ n - 1) ?_ h128 hix)) (fun z => absurd z (by omega))
      rw [wk_c (2 ^ n - 1) (hw (2 ^ n - 1) (by omega)) hix]
      exact h nr nro sw
    | succ d ih =>
      intro S sw hS h0 hw
      have hS1 : S < 128 := by omega
      have hS0 : S ≠ 0 := by omega
      have hl := bb_lo_7 hS1 hS0
      have hc := (ma_cl S hS1 _ hl).2 (bb_lo_b hS1 hS0)
      have hcl := bb_cl_lt S (bb_lo S)
      have hI : ∀ e b, b + e = 7 → wX_matchings_58 post (wX_matchings_24 post (nI s) f_count f_isRead f_wrongPlace f_readAtoms f_last f_said f_piled f_orders (d + 1)) (nI s) (nI S) (nI (bb_lo S)) (nI (bb_cl S (bb_lo S))) f_count f_isRead f_wrongPlace f_readAtoms f_last f_said f_piled f_orders a_text a_readElement a_readBond a_readUsed a_pile a_markAtom a_markOrder a_size a_elements a_bonds nr nro a_least a_other a_trial a_placed a_tried sw a_setEnds a_setCounts a_standsAt a_firstOrder a_could a_asked (e + 1) (ma_A (mo_G n bo) sw S b) (nI b) := by
        intro e
        induction e with
        | zero =>
          intro b hb
          refine pk_le 7 b (fun _ => wk_w S (nm_r (wk_p S) (ih (S + 1) _ (by omega) (by omega) (fun j hj => ?_)))) (fun z => absurd z (by omega))
          by_cases e : j = S
          · have e7 : b = 7 := by omega
            rw [e, pk_us, e7, ma_w_s _ hS1 hS0]
            exact ma_A_cg hS1 hS0 hw 7 (Nat.le_refl _)
          · rw [pk_un e]; exact hw j (by omega)
        | succ e ihe =>
          intro b hb
          have k := ihe (b + 1) (by omega)
          have hb7 : b < 7 := by omega
          have hv : (nI (bb_cl S (bb_lo S)) &&& nr (nI (bb_lo S)).toNatClampNeg) = nI (bb_cl S (bb_lo S) &&& bb_bs (mo_G n bo (bb_lo S)) 7) := by rw [wk_c (bb_lo S) (hN.1 _ hl), bb_and]
          refine pk_le 7 b (fun z => absurd z (by omega)) (fun _ => wk_i (bb_lo S) ?_)
          rw [hv]
          rw [ma_A_s] at k
          cases hz : (bb_cl S (bb_lo S) &&& bb_bs (mo_G n bo (bb_lo S)) 7).testBit b with
          | false =>
            rw [hz] at k
            refine br_t ((bb_bit31 _ (bb_and_lt hcl) b hb7).mpr hz) (nm_r (wk_p b) ?_)
            have e0 : ma_A (mo_G n bo) sw S b + (bif false then sw (bb_cl (bb_cl S (bb_lo S)) b) else 0) = ma_A (mo_G n bo) sw S b := Int32.add_zero _
            rw [e0] at k; exact k
          | true =>
            rw [hz] at k
            refine br_f (fun z => ?_) (wk_i (bb_cl (bb_cl S (bb_lo S)) b) (nm_r (e' := ma_A (mo_G n bo) sw S b + sw (bb_cl (bb_cl S (bb_lo S)) b)) ?_ (nm_r (wk_p b) k)) (bb_cl_lt _ _) (bb_clI hcl hb7))
            · rw [(bb_bit31 _ (bb_and_lt hcl) b hb7).mp z] at hz; exact absurd hz (by decide)
            · rw [bb_clI hcl hb7, nI_clamp (Nat.lt_trans (bb_cl_lt _ _) (by decide))]
      refine pk_le 128 S (fun z => absurd z (by omega)) (fun _ => xx_lowestOf hS1 (nm_r (bb_clI hS1 hl) (wk_i (bb_cl S (bb_lo S)) (nm_r (wk_c (bb_cl S (bb_lo S)) rfl) (Exists.intro 8 (hI 7 0 (by omega)))))))
  refine nm_e (Exists.intro 128 (L 127 1 _ (by omega) (by omega) (fun j hj => ?_)))
  rw [show j = 0 by omega, pk_us, ma_w_0]
/-! lists that close -/
theorem xx_endsBefore {post : Int32 → Prop} {S a : Nat} {G : Nat → Nat → Bool} {N : Nat → Nat} (hS : S < 128) (ha : a < 7) (hnr : a_near a = nI (bb_bs (G a) 7)) (hN : ∀ b, b < 7 → a_setCounts (7 * S + b) = nI (N b)) (h : post (nI (bb_sm (fun b => bif (S &&& bb_bs (G a) 7).testBit b then N b else 0) 7))) : wpX_endsBefore post (f_count, f_isRead, f_wrongPlace, f_readAtoms, f_last, f_said, f_piled, f_orders, a_text, a_readElement, a_readBond, a_readUsed, a_pile, a_markAtom, a_markOrder, a_size, a_elements, a_bonds, a_near, a_nearOf, a_least, a_other, a_trial, a_placed, a_tried, a_setWays, a_setEnds, a_setCounts, a_standsAt, a_firstOrder, a_could, a_asked) (nI S) (nI a) := by
  have hv : (nI S &&& a_near (nI a).toNatClampNeg) = nI (S &&& bb_bs (G a) 7) := by rw [wk_c a hnr, bb_and]
  have L : ∀ d b, b + d = 7 → wX_endsBefore_5 post (nI S) (nI a) f_count f_isRead f_wrongPlace f_readAtoms f_last f_said f_piled f_orders a_text a_readElement a_readBond a_readUsed a_pile a_markAtom a_markOrder a_size a_elements a_bonds a_near a_nearOf a_least a_other a_trial a_placed a_tried a_setWays a_setEnds a_setCounts a_standsAt a_firstOrder a_could a_asked (d + 1) (nI (bb_sm (fun b => bif (S &&& bb_bs (G a) 7).testBit b then N b else 0) b)) (nI b) := by
    intro d
    induction d with
    | zero =>
      intro b hb
      have e : b = 7 := by omega
      subst e
      exact pk_le 7 7 (fun _ => h) (fun z => absurd z (by omega))
    | succ d ih =>
      intro b hb
      have k := ih (b + 1) (by omega)
      rw [bb_sm_s] at k
      refine pk_le 7 b (fun z => absurd z (by omega)) (fun _ => wk_i a ?_)
      rw [hv]
      cases hz : (S &&& bb_bs (G a) 7).testBit b with
      | false =>
        rw [hz] at k
        exact br_t ((bb_bit31 _ (bb_and_lt hS) b (by omega)).mpr hz) (nm_r (wk_p b) k)
      | true =>
        rw [hz] at k
        refine br_f (fun z => ?_) (wk_i (7 * S + b) (nm_r ?_ (nm_r (wk_p b) k)) (by omega) (bb_ix S b))
        · rw [(bb_bit31 _ (bb_and_lt hS) b (by omega)).mp z] at hz; exact absurd hz (by decide)
        · rw [wk_c (7 * S + b) (hN b (by omega)) (bb_ix S b), nI_add]; rfl
  unfold wpX_endsBefore
  exact Exists.intro 8 (L 7 0 (by omega))
theorem xr_init {G : Nat → Nat → Bool} {S a : Nat} (hS : S < 128) (h0 : S ≠ 0) (ha : a < 7) (hz : a ≤ bb_lo S ∨ S.testBit a = false) : pa_N G S a = if S = 2 ^ bb_lo S ∧ a = bb_lo S then 1 else 0 := by
  have hl := bb_lo_7 hS h0
  by_cases e : a = bb_lo S
  · by_cases e2 : S = 2 ^ bb_lo S
    · rw [if_pos ⟨e2, e⟩]
      have := pa_N_one G hl ha
      rw [if_pos e, ← e2] at this; exact this
    · rw [if_neg (fun z => e2 z.1), e]; exact pa_N_lo G hS h0 e2
  · rw [if_neg (fun z => e z.2)]
    refine pa_N_out G ha ?_
    rcases hz with z | z
    · exact bb_lo_n hS h0 (by omega)
    · exact z
theorem xx_countLists {post : SX → Prop} {G : Nat → Nat → Bool} (hsy : gr_sy G) (hnr : ∀ a, a < 7 → a_near a = nI (bb_bs (G a) 7)) (h : ∀ sc, (∀ S a, 0 < S → S < 128 → a < 7 → sc (7 * S + a) = nI (pa_N G S a)) → post (f_count, f_isRead, f_wrongPlace, f_readAtoms, f_last, f_said, f_piled, f_orders, a_text, a_readElement, a_readBond, a_readUsed, a_pile, a_markAtom, a_markOrder, a_size, a_elements, a_bonds, a_near, a_nearOf, a_least, a_other, a_trial, a_placed, a_tried, a_setWays, a_setEnds, sc, a_standsAt, a_firstOrder, a_could, a_asked)) : wpX_countLists post (f_count, f_isRead, f_wrongPlace, f_readAtoms, f_last, f_said, f_piled, f_orders, a_text, a_readElement, a_readBond, a_readUsed, a_pile, a_markAtom, a_markOrder, a_size, a_elements, a_bonds, a_near, a_nearOf, a_least, a_other, a_trial, a_placed, a_tried, a_setWays, a_setEnds, a_setCounts, a_standsAt, a_firstOrder, a_could, a_asked) := by
  have L : ∀ d S sc, S + d = 128 → 0 < S → (∀ T a, 0 < T → T < S → a < 7 → sc (7 * T + a) = nI (pa_N G T a)) → wX_countLists_2 post f_count f_isRead f_wrongPlace f_readAtoms f_last f_said f_piled f_orders (d + 1) (nI S) a_text a_readElement a_readBond a_readUsed a_pile a_markAtom a_markOrder a_size a_elements a_bonds a_near a_nearOf a_least a_other a_trial a_placed a_tried a_setWays a_setEnds sc a_standsAt a_firstOrder a_could a_asked := by
    intro d
    induction d with
    | zero =>
      intro S sc hS _ hc
      exact pk_le 128 S (fun _ => h sc (fun T a h1 h2 h3 => hc T a h1 (by omega) h3)) (fun z => absurd z (by omega))
    | succ d ih =>
      intro S sc hS hS0' hc
      have hS1 : S < 128 := by omega
      have hS0 : S ≠ 0 := by omega
      have hl := bb_lo_7 hS1 hS0
      have hB : ∀ e a sc, a + e = 7 → bb_lo S < a → (∀ T a, 0 < T → T < S → a < 7 → sc (7 * T + a) = nI (pa_N G T a)) → (∀ x, x < 7 → sc (7 * S + x) = nI (if x < a then pa_N G S x else if S = 2 ^ bb_lo S ∧ x = bb_lo S then 1 else 0)) → wX_countLists_61 post (wX_countLists_2 post f_count f_isRead f_wrongPlace f_readAtoms f_last f_said f_piled f_orders (d + 1)) (nI S) f_count f_isRead f_wrongPlace f_readAtoms f_last f_said f_piled f_orders (e + 1) (nI a) a_text a_readElement a_readBond a_readUsed a_pile a_markAtom a_markOrder a_size a_elements a_bonds a_near a_nearOf a_least a_other a_trial a_placed a_tried a_setWays a_setEnds sc a_standsAt a_firstOrder a_could a_asked := by
        intro e
        induction e with
        | zero =>
          intro a sc ha _ hc hx
          refine pk_le 7 a (fun _ => nm_r (wk_p S) (ih (S + 1) sc (by omega) (by omega) (fun T x h1 h2 h3 => ?_))) (fun z => absurd z (by omega))
          by_cases eT : T = S
          · rw [eT, hx x h3, if_pos (by omega)]
          · exact hc T x h1 (by omega) h3
        | succ e ihe =>
          intro a sc ha hla hc hx
          have ha7 : a < 7 := by omega
          refine pk_le 7 a (fun z => absurd z (by omega)) (fun _ => ?_)
          cases hz : S.testBit a with
          | true =>
            have hcl := bb_cl_lt S a
            have hlt := (ma_cl S hS1 a ha7).2 hz
            have hc0 : 0 < bb_cl S a := by
              rcases Nat.eq_zero_or_pos (bb_cl S a) with z | z
              · have : (bb_cl S a).testBit (bb_lo S) = true := by rw [bb_cl_b hl, bb_lo_b hS1 hS0, decide_eq_false (by omega)]; rfl
                rw [z, Nat.zero_testBit] at this; exact absurd this (by decide)
              · exact z
            refine br_t ((bb_bit1 hS1 ha7).mpr hz) ?_
            rw [bb_clI hS1 ha7]
            refine xx_endsBefore hcl ha7 (hnr a ha7) (N := pa_N G (bb_cl S a)) (fun b hb => hc _ b hc0 hlt hb) (wk_w (7 * S + a) (nm_r (wk_p a) (ihe (a + 1) _ (by omega) (by omega) (fun T x h1 h2 h3 => ?_) (fun x h3 => ?_))) (by omega) (bb_ix S a))
            · rw [pk_un (by omega)]; exact hc T x h1 h2 h3
            · by_cases ex : x = a
              · rw [ex, pk_us, if_pos (by omega), pa_N_step G hsy hS1 ha7 hz (by omega)]
              · rw [pk_un (by omega), hx x h3]
                by_cases e2 : x < a
                · rw [if_pos e2, if_pos (by omega)]
                · rw [if_neg e2, if_neg (show ¬ x < a + 1 by omega)]
          | false =>
            refine br_f (fun z => by rw [(bb_bit1 hS1 ha7).mp z] at hz; exact absurd hz (by decide)) (nm_r (wk_p a) (ihe (a + 1) sc (by omega) (by omega) hc (fun x h3 => ?_)))
            rw [hx x h3]
            by_cases ex : x = a
            · rw [ex, if_neg (Nat.lt_irrefl a), if_pos (Nat.lt_succ_self a), xr_init hS1 hS0 ha7 (Or.inr hz)]
            · by_cases e2 : x < a
              · rw [if_pos e2, if_pos (by omega)]
              · rw [if_neg e2, if_neg (show ¬ x < a + 1 by omega)]
      have hA : ∀ e a sc, a + e = 7 → (∀ T a, 0 < T → T < S → a < 7 → sc (7 * T + a) = nI (pa_N G T a)) → (∀ x, x < a → sc (7 * S + x) = nI (if S = 2 ^ bb_lo S ∧ x = bb_lo S then 1 else 0)) → wX_countLists_17 post (wX_countLists_2 post f_count f_isRead f_wrongPlace f_readAtoms f_last f_said f_piled f_orders (d + 1)) (nI S) (nI (bb_lo S)) f_count f_isRead f_wrongPlace f_readAtoms f_last f_said f_piled f_orders (e + 1) (nI a) a_text a_readElement a_readBond a_readUsed a_pile a_markAtom a_markOrder a_size a_elements a_bonds a_near a_nearOf a_least a_other a_trial a_placed a_tried a_setWays a_setEnds sc a_standsAt a_firstOrder a_could a_asked := by
        intro e
        induction e with
        | zero =>
          intro a sc ha hc hx
          refine pk_le 7 a (fun _ => nm_r (wk_p (bb_lo S)) (Exists.intro (7 - (bb_lo S + 1) + 1) (hB (7 - (bb_lo S + 1)) (bb_lo S + 1) sc (by omega) (by omega) hc (fun x h3 => ?_)))) (fun z => absurd z (by omega))
          rw [hx x (by omega)]
          by_cases e2 : x < bb_lo S + 1
          · rw [if_pos e2, xr_init hS1 hS0 h3 (Or.inl (by omega))]
          · rw [if_neg e2]
        | succ e ihe =>
          intro a sc ha hc hx
          have ha7 : a < 7 := by omega
          have kk : ∀ v : Nat, v = (if S = 2 ^ bb_lo S ∧ a = bb_lo S then 1 else 0) → wX_countLists_17 post (wX_countLists_2 post f_count f_isRead f_wrongPlace f_readAtoms f_last f_said f_piled f_orders (d + 1)) (nI S) (nI (bb_lo S)) f_count f_isRead f_wrongPlace f_readAtoms f_last f_said f_piled f_orders (e + 1) (nI (a + 1)) a_text a_readElement a_readBond a_readUsed a_pile a_markAtom a_markOrder a_size a_elements a_bonds a_near a_nearOf a_least a_other a_trial a_placed a_tried a_setWays a_setEnds (upd sc (7 * S + a) (nI v)) a_standsAt a_firstOrder a_could a_asked := fun v hv => ihe (a + 1) _ (by omega) (fun T x h1 h2 h3 => by rw [pk_un (by omega)]; exact hc T x h1 h2 h3) (fun x hxa => by
            by_cases ex : x = a
            · rw [ex, pk_us, hv]
            · rw [pk_un (by omega)]; exact hx x (by omega))
          have h128 : 2 ^ bb_lo S < 128 := bb_pow_lt hl
          refine pk_le 7 a (fun z => absurd z (by omega)) (fun _ => pk_eq S (2 ^ bb_lo S) (fun e1 => pk_eq a (bb_lo S) (fun e2 => wk_w (7 * S + a) (nm_r (wk_p a) (kk 1 (by rw [if_pos ⟨e1, e2⟩]))) (by omega) (bb_ix S a)) (fun e2 => wk_w (7 * S + a) (nm_r (wk_p a) (kk 0 (by rw [if_neg (fun z => e2 z.2)]))) (by omega) (bb_ix S a))) (fun e1 => wk_w (7 * S + a) (nm_r (wk_p a) (kk 0 (by rw [if_neg (fun z => e1 z.1)]))) (by omega) (bb_ix S a)) rfl (bb_shl (bb_lo S) (by omega)))
      exact pk_le 128 S (fun z => absurd z (by omega)) (fun _ => xx_lowestOf hS1 (Exists.intro 8 (hA 7 0 sc (by omega) hc (fun x hx => absurd hx (by omega)))))
  unfold wpX_countLists
  exact Exists.intro 128 (L 127 1 a_setCounts (by omega) (by omega) (fun T a h1 h2 _ => absurd h2 (by omega)))
theorem xx_rings {post : Int32 → SX → Prop} {s n : Nat} {el : Nat → Nat} {bo : Nat → Nat → Nat} (hs : s < 2) (hK : mo_K n el bo) (hT : mo_T a_size a_elements a_bonds s n el bo) (h : ∀ nr nro sc, post (nI (ls_t (pa_rg (mo_G n bo)) (pa_B (mo_G n bo) 7 7 [[]])) / 2) (f_count, f_isRead, f_wrongPlace, f_readAtoms, f_last, f_said, f_piled, f_orders, a_text, a_readElement, a_readBond, a_readUsed, a_pile, a_markAtom, a_markOrder, a_size, a_elements, a_bonds, nr, nro, a_least, a_other, a_trial, a_placed, a_tried, a_setWays, a_setEnds, sc, a_standsAt, a_firstOrder, a_could, a_asked)) : wpX_rings post (f_count, f_isRead, f_wrongPlace, f_readAtoms, f_last, f_said, f_piled, f_orders, a_text, a_readElement, a_readBond, a_readUsed, a_pile, a_markAtom, a_markOrder, a_size, a_elements, a_bonds, a_near, a_nearOf, a_least, a_other, a_trial, a_placed, a_tried, a_setWays, a_setEnds, a_setCounts, a_standsAt, a_firstOrder, a_could, a_asked) (nI s) := by
  have hn := hK.1
  have hsy := mo_G_sy hK.2.2.2
  unfold wpX_rings
  refine xx_slot_g hs (br_t rfl (xx_findNear hs hK hT (fun nr nro hN => xx_countLists hsy hN.1 (fun sc hc => ?_))))
  rw [← pa_rings _ hsy] at h
  generalize hF : (fun S => if 2 < bb_cn S.testBit 7 then bb_sm (fun b => bif (S &&& bb_bs (mo_G n bo (bb_lo S)) 7).testBit b then pa_N (mo_G n bo) S b else 0) 7 else 0) = F at h
  have L : ∀ d S, S + d = 128 → 0 < S → wX_rings_23 post f_count f_isRead f_wrongPlace f_readAtoms f_last f_said f_piled f_orders a_text a_readElement a_readBond a_readUsed a_pile a_markAtom a_markOrder a_size a_elements a_bonds nr nro a_least a_other a_trial a_placed a_tried a_setWays a_setEnds sc a_standsAt a_firstOrder a_could a_asked (d + 1) (nI (bb_sm F S)) (nI S) := by
    intro d
    induction d with
    | zero =>
      intro S hS _
      have e : S = 128 := by omega
      subst e
      exact pk_le 128 128 (fun _ => And.intro wk_n0 (h nr nro sc)) (fun z => absurd z (by omega))
    | succ d ih =>
      intro S hS hS0'
      have hS1 : S < 128 := by omega
      have hS0 : S ≠ 0 := by omega
      have k := ih (S + 1) (by omega) (by omega)
      rw [bb_sm_s] at k
      have hFS : F S = if 2 < bb_cn S.testBit 7 then bb_sm (fun b => bif (S &&& bb_bs (mo_G n bo (bb_lo S)) 7).testBit b then pa_N (mo_G n bo) S b else 0) 7 else 0 := by rw [← hF]
      have h7 := bb_cn_le S.testBit 7
      refine pk_le 128 S (fun z => absurd z (by omega)) (fun _ => xx_lowestOf hS1 (xx_sizeOf hS1 (pk_le (bb_cn S.testBit 7) 2 (fun z => nm_r (wk_p S) ?_) (fun z => xx_endsBefore hS1 (bb_lo_7 hS1 hS0) (hN.1 _ (bb_lo_7 hS1 hS0)) (N := pa_N (mo_G n bo) S) (fun b hb => hc S b hS0' hS1 hb) (nm_r ?_ (nm_r (wk_p S) k))))))
      · rw [hFS, if_neg (by omega), Nat.add_zero] at k; exact k
      · rw [nI_add, hFS, if_pos z]
  have k := L 127 1 (by omega) (by omega)
  have e : bb_sm F 1 = 0 := by
    rw [bb_sm_s, bb_sm_0, ← hF]
    show 0 + (if 2 < bb_cn (Nat.testBit 0) 7 then _ else 0) = 0
    rw [if_neg (by rw [bb_cn_z 7 (fun i _ => Nat.zero_testBit i)]; omega)]
  rw [e] at k
  exact Exists.intro 128 k
/-! the longest list -/
noncomputable def xr_e (G : Nat → Nat → Bool) (n S a : Nat) : Bool := @decide (p2_E G n S a) (Classical.propDecidable _)
theorem xr_e_t {G : Nat → Nat → Bool} {n S a : Nat} (h : p2_E G n S a) : xr_e G n S a = true := @decide_eq_true _ (Classical.propDecidable _) h
theorem xr_e_f {G : Nat → Nat → Bool} {n S a : Nat} (h : ¬ p2_E G n S a) : xr_e G n S a = false := @decide_eq_false _ (Classical.propDecidable _) h
theorem xr_e_i {G : Nat → Nat → Bool} {n S a : Nat} : xr_e G n S a = true ↔ p2_E G n S a := @decide_eq_true_iff _ (Classical.propDecidable _)
theorem xr_e_n {G : Nat → Nat → Bool} (hs : gr_sy G) {n S a : Nat} (hn : n ≤ 7) (hS : S < 128) (h : n ≤ a) : xr_e G n S a = false := xr_e_f (fun z => by have := ((p2_E_i hs hn hS).mp z).1; omega)
theorem xx_longest {post : Int32 → SX → Prop} {s n m : Nat} {el : Nat → Nat} {bo : Nat → Nat → Nat} (hs : s < 2) (hK : mo_K n el bo) (hT : mo_T a_size a_elements a_bonds s n el bo) (hm : p2_mx (mo_G n bo) n m) (h : ∀ nr nro se, post (nI m) (f_count, f_isRead, f_wrongPlace, f_readAtoms, f_last, f_said, f_piled, f_orders, a_text, a_readElement, a_readBond, a_readUsed, a_pile, a_markAtom, a_markOrder, a_size, a_elements, a_bonds, nr, nro, a_least, a_other, a_trial, a_placed, a_tried, a_setWays, se, a_setCounts, a_standsAt, a_firstOrder, a_could, a_asked)) : wpX_longest post (f_count, f_isRead, f_wrongPlace, f_readAtoms, f_last, f_said, f_piled, f_orders, a_text, a_readElement, a_readBond, a_readUsed, a_pile, a_markAtom, a_markOrder, a_size, a_elements, a_bonds, a_near, a_nearOf, a_least, a_other, a_trial, a_placed, a_tried, a_setWays, a_setEnds, a_setCounts, a_standsAt, a_firstOrder, a_could, a_asked) (nI s) := by
  have hn := hK.1
  have hsy := mo_G_sy hK.2.2.2
  unfold wpX_longest
  refine xx_slot_g hs (br_t rfl (xx_findNear hs hK hT (fun nr nro hN => ?_)))
  have hp7 : 2 ^ n ≤ 128 := Nat.pow_le_pow_right (n := 2) (by decide) hn
  have L : ∀ d S b se, S + d = 2 ^ n → 0 < S → b ≤ 7 → p2_BI (mo_G n bo) n S b → (∀ T, 0 < T → T < S → se T = nI (bb_bs (xr_e (mo_G n bo) n T) 7)) → wX_longest_19 post (nI s) f_count f_isRead f_wrongPlace f_readAtoms f_last f_said f_piled f_orders (d + 1) (nI b) (nI S) a_text a_readElement a_readBond a_readUsed a_pile a_markAtom a_markOrder a_size a_elements a_bonds nr nro a_least a_other a_trial a_placed a_tried a_setWays se a_setCounts a_standsAt a_firstOrder a_could a_asked := by
    intro d
    induction d with
    | zero =>
      intro S b se hS _ hb7 hB _
      refine wk_i s (pk_le (2 ^ n) S (fun _ => ?_) (fun z => absurd z (by omega)) (by rw [wk_c s hT.1, bb_shl n (by omega)]))
      have e : S = 2 ^ n := by omega
      rw [e] at hB
      rw [p2_mx_u (p2_BI_e hn hB) hm]; exact h nr nro se
    | succ d ih =>
      intro S b se hS hS0' hb7 hB hE
      have hS1 : S < 128 := by omega
      have hS0 : S ≠ 0 := by omega
      have hI : ∀ e a se, a + e = n → (∀ T, 0 < T → T < S → se T = nI (bb_bs (xr_e (mo_G n bo) n T) 7)) → se S = nI (bb_bs (xr_e (mo_G n bo) n S) a) → wX_longest_41 post (wX_longest_19 post (nI s) f_count f_isRead f_wrongPlace f_readAtoms f_last f_said f_piled f_orders (d + 1)) (nI s) (nI b) (nI S) f_count f_isRead f_wrongPlace f_readAtoms f_last f_said f_piled f_orders (e + 1) (nI a) a_text a_readElement a_readBond a_readUsed a_pile a_markAtom a_markOrder a_size a_elements a_bonds nr nro a_least a_other a_trial a_placed a_tried a_setWays se a_setCounts a_standsAt a_firstOrder a_could a_asked := by
        intro e
        induction e with
        | zero =>
          intro a se ha hE hSa
          have e7 : bb_bs (xr_e (mo_G n bo) n S) 7 = bb_bs (xr_e (mo_G n bo) n S) a := bb_bs_ext 7 (by omega) (fun i h1 _ => xr_e_n hsy hn hS1 (by omega))
          rw [← e7] at hSa
          have hE' : ∀ T, 0 < T → T < S + 1 → se T = nI (bb_bs (xr_e (mo_G n bo) n T) 7) := fun T h1 h2 => by
            by_cases e : T = S
            · rw [e]; exact hSa
            · exact hE T h1 (by omega)
          have hc7 := bb_cn_le S.testBit 7
          have hlt := bb_bs_lt (xr_e (mo_G n bo) n S) 7
          refine wk_i s (pk_le n a (fun _ => xx_sizeOf hS1 (wk_i S (pk_eq (bb_bs (xr_e (mo_G n bo) n S) 7) 0 (fun z => nm_r (wk_p S) (ih (S + 1) b se (by omega) (by omega) hb7 (p2_BI_f hB (fun x hx => ?_) hS0) hE')) (fun z => pk_le (bb_cn S.testBit 7) b (fun y => nm_r (wk_p S) (ih (S + 1) b se (by omega) (by omega) hb7 (p2_BI_le hn hB y) hE')) (fun y => ?_)) (wk_c S hSa) rfl (Nat.lt_trans hlt (by decide))))) (fun z => absurd z (by omega)) (wk_c s hT.1))
          · have hx1 := ((p2_E_i hsy hn hS1).mp hx).1
            have : (bb_bs (xr_e (mo_G n bo) n S) 7).testBit x = true := by rw [bb_bs_b _ (by omega)]; exact xr_e_t hx
            rw [z, Nat.zero_testBit] at this; exact absurd this (by decide)
          · obtain ⟨x, hx7, hx⟩ := bb_ne0 hlt z
            rw [bb_bs_b _ hx7] at hx
            exact nm_r (wk_p S) (ih (S + 1) _ se (by omega) (by omega) hc7 (p2_BI_gt hn hB (xr_e_i.mp hx) y) hE')
        | succ e ihe =>
          intro a se ha hE hSa
          have ha7 : a < 7 := by omega
          have hcl := bb_cl_lt S a
          have hse : se (nI S).toNatClampNeg = nI (bb_bs (xr_e (mo_G n bo) n S) a) := wk_c S hSa
          have hno : xr_e (mo_G n bo) n S a = false → wX_longest_95 post (wX_longest_19 post (nI s) f_count f_isRead f_wrongPlace f_readAtoms f_last f_said f_piled f_orders (d + 1)) (wX_longest_41 post (wX_longest_19 post (nI s) f_count f_isRead f_wrongPlace f_readAtoms f_last f_said f_piled f_orders (d + 1)) (nI s) (nI b) (nI S) f_count f_isRead f_wrongPlace f_readAtoms f_last f_said f_piled f_orders (e + 1)) (nI s) (nI b) (nI S) (nI a) f_count f_isRead f_wrongPlace f_readAtoms f_last f_said f_piled f_orders a_text a_readElement a_readBond a_readUsed a_pile a_markAtom a_markOrder a_size a_elements a_bonds nr nro a_least a_other a_trial a_placed a_tried a_setWays se a_setCounts a_standsAt a_firstOrder a_could a_asked := fun hf => by
            refine br_t rfl (wk_i S (wk_w S (nm_r (wk_p a) (ihe (a + 1) _ (by omega) (fun T h1 h2 => ?_) ?_))))
            · rw [pk_un (by omega)]; exact hE T h1 h2
            · rw [pk_us, hse, bb_bs_f _ _ hf]
          have hyes : xr_e (mo_G n bo) n S a = true → wX_longest_91 post (wX_longest_19 post (nI s) f_count f_isRead f_wrongPlace f_readAtoms f_last f_said f_piled f_orders (d + 1)) (wX_longest_41 post (wX_longest_19 post (nI s) f_count f_isRead f_wrongPlace f_readAtoms f_last f_said f_piled f_orders (d + 1)) (nI s) (nI b) (nI S) f_count f_isRead f_wrongPlace f_readAtoms f_last f_said f_piled f_orders (e + 1)) (nI s) (nI b) (nI S) (nI a) f_count f_isRead f_wrongPlace f_readAtoms f_last f_said f_piled f_orders a_text a_readElement a_readBond a_readUsed a_pile a_markAtom a_markOrder a_size a_elements a_bonds nr nro a_least a_other a_trial a_placed a_tried a_setWays se a_setCounts a_standsAt a_firstOrder a_could a_asked := fun ht => by
            refine br_f wk_10 (wk_i S (wk_w S (nm_r (wk_p a) (ihe (a + 1) _ (by omega) (fun T h1 h2 => ?_) ?_))))
            · rw [pk_un (by omega)]; exact hE T h1 h2
            · rw [pk_us, hse, bb_shl a (by omega), bb_or, bb_bs_t _ _ ht]
          refine wk_i s (pk_le n a (fun z => absurd z (by omega)) (fun z => nm_r (bb_clI hS1 ha7) (pk_eq (bb_cl S a) S (fun e1 => hno (xr_e_f (fun hx => ?_))) (fun e1 => pk_eq (bb_cl S a) 0 (fun e2 => hyes (xr_e_t ((p2_E_i hsy hn hS1).mpr ⟨z, ?_, Or.inl e2⟩))) (fun e2 => wk_i (bb_cl S a) (wk_i a ?_) hcl)))) (wk_c s hT.1))
          · have := (ma_cl S hS1 a ha7).2 ((p2_E_i hsy hn hS1).mp hx).2.1
            omega
          · cases hz : S.testBit a with
            | true => rfl
            | false =>
              refine absurd (bb_ext hcl hS1 (fun i hi => ?_)) e1
              rw [bb_cl_b hi]
              by_cases e : i = a
              · rw [e, hz]; rfl
              · rw [decide_eq_false e]; simp
          · have hSt : S.testBit a = true := by
              cases hz : S.testBit a with
              | true => rfl
              | false =>
                refine absurd (bb_ext hcl hS1 (fun i hi => ?_)) e1
                rw [bb_cl_b hi]
                by_cases e : i = a
                · rw [e, hz]; rfl
                · rw [decide_eq_false e]; simp
            have hlt := (ma_cl S hS1 a ha7).2 hSt
            rw [wk_c (bb_cl S a) (hE _ (by omega) hlt), wk_c a (hN.1 a ha7), bb_and]
            have hl128 : (bb_bs (xr_e (mo_G n bo) n (bb_cl S a)) 7 &&& bb_bs (mo_G n bo a) 7) < 128 := bb_and_lt (bb_bs_lt _ 7)
            refine pk_eq (bb_bs (xr_e (mo_G n bo) n (bb_cl S a)) 7 &&& bb_bs (mo_G n bo a) 7) 0 (fun e3 => hno (xr_e_f (fun hx => ?_))) (fun e3 => hyes (xr_e_t ((p2_E_i hsy hn hS1).mpr ⟨z, hSt, Or.inr ?_⟩))) rfl rfl (Nat.lt_trans hl128 (by decide))
            · rcases ((p2_E_i hsy hn hS1).mp hx).2.2 with y | ⟨c, hc, y1, y2⟩
              · exact e2 y
              · have : (bb_bs (xr_e (mo_G n bo) n (bb_cl S a)) 7 &&& bb_bs (mo_G n bo a) 7).testBit c = true := by rw [Nat.testBit_and, bb_bs_b _ hc, bb_bs_b _ hc, xr_e_t y1, y2]; rfl
                rw [e3, Nat.zero_testBit] at this; exact absurd this (by decide)
            · obtain ⟨c, hc, y⟩ := bb_ne0 hl128 e3
              rw [Nat.testBit_and, bb_bs_b _ hc, bb_bs_b _ hc, Bool.and_eq_true] at y
              exact ⟨c, hc, xr_e_i.mp y.1, y.2⟩
      refine wk_i s (pk_le (2 ^ n) S (fun z => absurd z (by omega)) (fun _ => wk_w S (Exists.intro (n + 1) (hI n 0 _ (by omega) (fun T h1 h2 => ?_) ?_))) (by rw [wk_c s hT.1, bb_shl n (by omega)]))
      · rw [pk_un (by omega)]; exact hE T h1 h2
      · rw [pk_us]; rfl
  have hpos := Nat.two_pow_pos n
  exact Exists.intro (2 ^ n - 1 + 1) (L (2 ^ n - 1) 1 0 a_setEnds (by omega) (by omega) (by omega) (p2_BI_1 _ hn) (fun T h1 h2 => absurd h2 (by omega)))
end
end
section
/-! runs of a counted loop: at most c rounds lead from s to a state in Q -/
def go_R {σ : Type} (lim : Nat) (W : Nat → Int32 → σ → Prop) (c : Nat) (s : σ) (Q : σ → Prop) : Prop := ∀ F ρ : Nat, c ≤ F → ρ + c ≤ lim → (∀ m s', m ≤ c → Q s' → W (F - m) (nI (ρ + m)) s') → W F (nI ρ) s
theorem go_0 {σ : Type} {lim : Nat} {W : Nat → Int32 → σ → Prop} {s : σ} {Q : σ → Prop} (h : Q s) : go_R lim W 0 s Q := fun F ρ _ _ k => k 0 s (Nat.le_refl _) h
theorem go_1 {σ : Type} {lim : Nat} {W : Nat → Int32 → σ → Prop} {s : σ} {Q : σ → Prop} (h : ∀ F ρ : Nat, ρ < lim → (∀ s', Q s' → W F (nI (ρ + 1)) s') → W (F + 1) (nI ρ) s) : go_R lim W 1 s Q := fun F ρ hF hl k => by
  obtain ⟨F', rfl⟩ : ∃ F', F = F' + 1 := ⟨F - 1, by omega⟩
  exact h F' ρ (by omega) (fun s' hs => k 1 s' (Nat.le_refl _) hs)
theorem go_s {σ : Type} {lim : Nat} {W : Nat → Int32 → σ → Prop} {c d : Nat} {s : σ} {Q Q' : σ → Prop} (h : go_R lim W c s Q) (h' : ∀ s', Q s' → go_R lim W d s' Q') : go_R lim W (c + d) s Q' := fun F ρ hF hl k =>
  h F ρ (by omega) (by omega) (fun m s' hm hs => h' s' hs (F - m) (ρ + m) (by omega) (by omega) (fun m' s'' hm' hs' => by
    have := k (m + m') s'' (by omega) hs'
    have e1 : F - (m + m') = F - m - m' := by omega
    have e2 : ρ + (m + m') = ρ + m + m' := by omega
    rw [e1, e2] at this; exact this))
theorem go_m {σ : Type} {lim : Nat} {W : Nat → Int32 → σ → Prop} {c d : Nat} {s : σ} {Q Q' : σ → Prop} (h : go_R lim W c s Q) (hc : c ≤ d) (hq : ∀ s', Q s' → Q' s') : go_R lim W d s Q' := fun F ρ hF hl k =>
  h F ρ (by omega) (by omega) (fun m s' hm hs => k m s' (by omega) (hq s' hs))
/-! the search for the least form, over an abstract loop -/
abbrev XA : Type := Nat → Int32
abbrev XL : Type := Int32 × Int32 × Int32 × XA × XA × XA × XA × XA × XA
def xl_C (F : List Nat → Nat → Nat) (n : Nat) (D : List (List Nat)) (P : List Nat) (τ : Nat → Nat) (pos : Prop) (ord : Int32) (le pl ti sa fi : XA) : Prop :=
  ∃ c L fo st, fo_J F D L c fo st ∧ ord = nI c ∧ (∀ k, k < 28 → le k = nI (L k) ∧ L k ≤ 9) ∧ (∀ k, k < 28 → k < fo_t P.length → L k = F P k) ∧ (∀ k, k < 28 → fo_t n ≤ k → L k = 9) ∧ (0 < c ∨ (pos ∧ ∀ k, k < 28 → fo_t P.length ≤ k → L k = 9)) ∧ (∀ p a, p < 7 → a < 7 → sa (7 * p + a) = nI (st p a).toNat) ∧ (0 < c → ∀ i, i < n → fi i = nI (pe_at fo i)) ∧ (∀ i, i < P.length → pl i = nI (pe_at P i)) ∧ ∀ i, i < P.length → ti i = nI (τ i)
/-- at a node, its atoms below t tried -/
def xl_N (F : List Nat → Nat → Nat) (n : Nat) (D : List (List Nat)) (P : List Nat) (τ : Nat → Nat) (t : Nat) (pos : Prop) (s : XL) : Prop :=
  ∃ ord le tr pl ti sa fi, s = (nI P.length, nI (pa_set P), ord, le, tr, pl, ti, sa, fi) ∧ ti P.length = nI t ∧ xl_C F n D P τ pos ord le pl ti sa fi
def xl_set (P : List Nat) : Int32 := if P.length = 0 then 0 else nI (pa_set P.dropLast)
/-- the node is left -/
def xl_U (F : List Nat → Nat → Nat) (n : Nat) (D : List (List Nat)) (P : List Nat) (τ : Nat → Nat) (s : XL) : Prop :=
  ∃ ord le tr pl ti sa fi, s = (nI P.length + (-1), xl_set P, ord, le, tr, pl, ti, sa, fi) ∧ xl_C F n D P τ False ord le pl ti sa fi
theorem xl_C_w {F : List Nat → Nat → Nat} {n : Nat} {D : List (List Nat)} {P : List Nat} {τ : Nat → Nat} {pos pos' : Prop} {ord : Int32} {le pl ti sa fi : XA} (h : xl_C F n D P τ pos ord le pl ti sa fi) (hp : pos → pos') : xl_C F n D P τ pos' ord le pl ti sa fi := by
  obtain ⟨c, L, fo, st, h1, h2, h3, h4, h5, h6, h7⟩ := h
  exact ⟨c, L, fo, st, h1, h2, h3, h4, h5, h6.imp id (fun z => ⟨hp z.1, z.2⟩), h7⟩
theorem xl_N_w {F : List Nat → Nat → Nat} {n : Nat} {D : List (List Nat)} {P : List Nat} {τ : Nat → Nat} {t : Nat} {pos pos' : Prop} {s : XL} (h : xl_N F n D P τ t pos s) (hp : pos → pos') : xl_N F n D P τ t pos' s := by
  obtain ⟨ord, le, tr, pl, ti, sa, fi, e, h1, h2⟩ := h
  exact ⟨ord, le, tr, pl, ti, sa, fi, e, h1, xl_C_w h2 hp⟩
theorem xl_U_N {F : List Nat → Nat → Nat} {n : Nat} {D : List (List Nat)} {P : List Nat} {a : Nat} {τ : Nat → Nat} {s : XL} (hF : ∀ k, k < fo_t P.length → F (P ++ [a]) k = F P k) (h : xl_U F n D (P ++ [a]) τ s) : xl_N F n D P τ (τ P.length) False s := by
  obtain ⟨ord, le, tr, pl, ti, sa, fi, e, c, L, fo, st, h1, h2, h3, h4, h5, h6, h7, h8, h9, h10⟩ := h
  have hl : (P ++ [a]).length = P.length + 1 := by rw [List.length_append]; rfl
  refine ⟨ord, le, tr, pl, ti, sa, fi, ?_, h10 P.length (by omega), c, L, fo, st, h1, h2, h3, fun k hk hkP => ?_, h5, h6.imp id (fun z => z.1.elim), h7, h8, fun i hi => ?_, fun i hi => h10 i (by omega)⟩
  · rw [e, hl, pk_m1]
    have : xl_set (P ++ [a]) = nI (pa_set P) := by
      unfold xl_set
      rw [if_neg (by omega), List.dropLast_concat]
    rw [this]
  · rw [h4 k hk (by rw [hl, fo_ts]; omega), hF k hkP]
  · rw [h9 i (by omega), pe_at_l P i hi]
def xl_c : Nat → Nat
  | 0 => 1
  | r + 1 => 8 + (r + 1) * xl_c r
theorem xl_c_s (r : Nat) : xl_c (r + 1) = 8 + (r + 1) * xl_c r := rfl
theorem xl_free {n : Nat} {P : List Nat} (h : pe_Q n P) : ((List.range' 0 n).filter (pe_fr P)).length + P.length ≤ n := by
  rw [← List.length_append]
  refine pa_nd_len (List.nodup_append.mpr ⟨List.Pairwise.filter _ List.nodup_range', h.1, fun x hx y hy e => ?_⟩) (fun x hx => ?_)
  · rw [List.mem_filter, pe_fr_i] at hx
    exact hx.2 (e ▸ hy)
  · rcases List.mem_append.mp hx with z | z
    · rw [List.mem_filter, List.mem_range'_1] at z
      omega
    · exact h.2 x z
/-- the whole search, from the loop's four rules -/
theorem xl_dfs {W : Nat → Int32 → XL → Prop} {F : List Nat → Nat → Nat} {n lim : Nat} (hn : n ≤ 7) (hF : ∀ (P T : List Nat) (k : Nat), P.length < 8 → k < fo_t P.length → F (P ++ T) k = F P k)
    (rL : ∀ D P τ s, P.length = n → pe_Q n P → D.length < 2 ^ 30 → xl_N F n D P τ 0 True s → go_R lim W 1 s (xl_U F n (D ++ [P]) P τ))
    (rX : ∀ D P τ s, P.length < n → pe_Q n P → xl_N F n D P τ n False s → go_R lim W 1 s (xl_U F n D P τ))
    (rU : ∀ D P τ t pos s, P.length < n → pe_Q n P → t < n → t ∈ P → xl_N F n D P τ t pos s → go_R lim W 1 s (xl_N F n D P τ (t + 1) pos))
    (rP : ∀ D P τ t r s, P.length + (r + 1) = n → pe_Q n P → t < n → t ∉ P → xl_N F n D P τ t True s → go_R lim W 1 s (fun s' => xl_N F n (D ++ pe_lv n r (P ++ [t])) P τ (t + 1) False s' ∨ xl_N F n D (P ++ [t]) (rd_u τ P.length (t + 1)) 0 True s')) :
    ∀ (r : Nat) (P : List Nat) (τ : Nat → Nat) (D : List (List Nat)) (s : XL), P.length + r = n → pe_Q n P → (D ++ pe_lv n r P).length < 2 ^ 30 → xl_N F n D P τ 0 True s → go_R lim W (xl_c r) s (xl_U F n (D ++ pe_lv n r P) P τ) := by
  intro r
  induction r with
  | zero =>
    intro P τ D s hP hQ hD h
    exact rL D P τ s (by omega) hQ (by rw [List.length_append] at hD; omega) h
  | succ r ih =>
    intro P τ D s hP hQ hD h
    have B : ∀ (e t : Nat) (D : List (List Nat)) (s : XL), t + e = n → (D ++ ((List.range' t e).filter (pe_fr P)).flatMap (fun a => pe_lv n r (P ++ [a]))).length < 2 ^ 30 → xl_N F n D P τ t ((List.range' t e).filter (pe_fr P) ≠ []) s → go_R lim W (e + 1 + ((List.range' t e).filter (pe_fr P)).length * xl_c r) s (xl_U F n (D ++ ((List.range' t e).filter (pe_fr P)).flatMap (fun a => pe_lv n r (P ++ [a]))) P τ) := by
      intro e
      induction e with
      | zero =>
        intro t D s ht _ h
        have e0 : (List.range' t 0).filter (pe_fr P) = [] := rfl
        rw [e0] at h ⊢
        rw [List.flatMap_nil, List.append_nil, List.length_nil, Nat.zero_mul]
        have et : t = n := by omega
        subst et
        exact rX D P τ s (by omega) hQ (xl_N_w h (fun z => z rfl))
      | succ e ihe =>
        intro t D s ht hD h
        have er : List.range' t (e + 1) = t :: List.range' (t + 1) e := rfl
        by_cases hm : t ∈ P
        · have ef : (List.range' t (e + 1)).filter (pe_fr P) = (List.range' (t + 1) e).filter (pe_fr P) := by rw [er, List.filter_cons_of_neg (fun z => pe_fr_i.mp z hm)]
          rw [ef] at hD h ⊢
          refine go_m (go_s (rU D P τ t _ s (by omega) hQ (by omega) hm h) (fun s' hs' => ihe (t + 1) D s' (by omega) hD hs')) ?_ (fun _ z => z)
          omega
        · have ef : (List.range' t (e + 1)).filter (pe_fr P) = t :: (List.range' (t + 1) e).filter (pe_fr P) := by rw [er, List.filter_cons_of_pos (pe_fr_i.mpr hm)]
          rw [ef] at hD h ⊢
          rw [List.flatMap_cons, ← List.append_assoc] at hD ⊢
          have hQt := pe_Q_a hQ (a := t) (by omega) hm
          have hlt : (P ++ [t]).length = P.length + 1 := by rw [List.length_append]; rfl
          have hD1 : (D ++ pe_lv n r (P ++ [t])).length < 2 ^ 30 := by rw [List.length_append] at hD; omega
          have step : ∀ s', (xl_N F n (D ++ pe_lv n r (P ++ [t])) P τ (t + 1) False s' ∨ xl_N F n D (P ++ [t]) (rd_u τ P.length (t + 1)) 0 True s') → go_R lim W (xl_c r) s' (xl_N F n (D ++ pe_lv n r (P ++ [t])) P τ (t + 1) False) := fun s' hs' => by
            rcases hs' with z | z
            · exact go_m (go_0 z) (Nat.zero_le _) (fun _ y => y)
            · refine go_m (ih (P ++ [t]) (rd_u τ P.length (t + 1)) D s' (by omega) hQt hD1 z) (Nat.le_refl _) (fun s'' hs'' => ?_)
              have y := xl_U_N (fun k hk => hF P [t] k (by omega) hk) hs''
              rw [rd_us] at y
              obtain ⟨ord, le, tr, pl, ti, sa, fi, e1, e2, c, L, fo, st, h1, h2, h3, h4, h5, h6, h7, h8, h9, h10⟩ := y
              exact ⟨ord, le, tr, pl, ti, sa, fi, e1, e2, c, L, fo, st, h1, h2, h3, h4, h5, h6, h7, h8, h9, fun i hi => by rw [h10 i hi, rd_un (by omega)]⟩
          refine go_m (go_s (rP D P τ t r s (by omega) hQ (by omega) hm (xl_N_w h (fun _ => trivial))) (fun s' hs' => go_s (step s' hs') (fun s'' hs'' => ihe (t + 1) (D ++ pe_lv n r (P ++ [t])) s'' (by omega) hD (xl_N_w hs'' (fun z => z.elim))))) ?_ (fun _ z => z)
          rw [List.length_cons, Nat.succ_mul]
          omega
    have h0 : (List.range' 0 n).filter (pe_fr P) ≠ [] := fun z => by
      have := pe_lv_m (n := n) (r + 1) P
      rcases Classical.em (∃ a, a < n ∧ a ∉ P) with ⟨a, ha, hna⟩ | y
      · have : a ∈ (List.range' 0 n).filter (pe_fr P) := by rw [List.mem_filter, List.mem_range'_1, pe_fr_i]; exact ⟨⟨by omega, by omega⟩, hna⟩
        rw [z] at this; exact absurd this (by simp)
      · have hsub := List.Nodup.length_le_of_subset (l₁ := List.range n) (l₂ := P) List.nodup_range (fun x hx => by
          rcases Classical.em (x ∈ P) with w | w
          · exact w
          · exact absurd ⟨x, List.mem_range.mp hx, w⟩ y)
        rw [List.length_range] at hsub; omega
    have hfr := xl_free hQ
    refine go_m (B n 0 D s (by omega) hD (xl_N_w h (fun _ => h0))) ?_ (fun _ z => z)
    have hk : ((List.range' 0 n).filter (pe_fr P)).length ≤ r + 1 := by omega
    rw [xl_c_s]
    have := Nat.mul_le_mul_right (xl_c r) hk
    omega
end
section
theorem xl_b0 : vp_nar .boolean 0 = 0 := by decide
theorem xl_b1 : vp_nar .boolean 1 = 1 := by decide
/-- a form's entries are small -/
theorem xl_small {n a j : Nat} {el : Nat → Nat} {bo : Nat → Nat → Nat} {P : List Nat} (hK : mo_K n el bo) (hP : P.length < n) (hQ : pe_Q n P) (ha : a < n) (hj : j ≤ P.length) : fo_F el bo (P ++ [a]) (fo_t P.length + j) ≤ 3 := by
  have hn := hK.1
  rw [fo_F_r (by omega) hj]
  cases j with
  | zero => exact hK.2.1 a ha
  | succ j => exact hK.2.2.1 a _ ha (hQ.2 _ (pe_at_m P j (by omega)))
section
variable {f_count f_isRead f_wrongPlace f_readAtoms f_last f_said f_piled f_orders : Int32} {a_text a_readElement a_readBond a_readUsed a_pile a_markAtom a_markOrder a_size a_elements a_bonds a_near a_nearOf a_least a_other a_trial a_placed a_tried a_setWays a_setEnds a_setCounts a_standsAt a_firstOrder a_could a_asked : Nat → Int32}
theorem xx_compare {post : Int32 → SX → Prop} {s n a : Nat} {el : Nat → Nat} {bo : Nat → Nat → Nat} {P : List Nat} {L : Nat → Nat} (hs : s < 2) (hK : mo_K n el bo) (hT : mo_T a_size a_elements a_bonds s n el bo) (hP : P.length < n) (hQ : pe_Q n P) (ha : a < n) (hpl : ∀ i, i < P.length → a_placed i = nI (pe_at P i)) (hle : ∀ k, k < 28 → a_least k = nI (L k) ∧ L k ≤ 9)
    (h0 : ∀ tr, (∀ j, j ≤ P.length → fo_F el bo (P ++ [a]) (fo_t P.length + j) = L (fo_t P.length + j)) → post 0 (f_count, f_isRead, f_wrongPlace, f_readAtoms, f_last, f_said, f_piled, f_orders, a_text, a_readElement, a_readBond, a_readUsed, a_pile, a_markAtom, a_markOrder, a_size, a_elements, a_bonds, a_near, a_nearOf, a_least, a_other, tr, a_placed, a_tried, a_setWays, a_setEnds, a_setCounts, a_standsAt, a_firstOrder, a_could, a_asked))
    (h1 : ∀ tr κ, κ ≤ P.length → (∀ j, j < κ → fo_F el bo (P ++ [a]) (fo_t P.length + j) = L (fo_t P.length + j)) → L (fo_t P.length + κ) < fo_F el bo (P ++ [a]) (fo_t P.length + κ) → post 1 (f_count, f_isRead, f_wrongPlace, f_readAtoms, f_last, f_said, f_piled, f_orders, a_text, a_readElement, a_readBond, a_readUsed, a_pile, a_markAtom, a_markOrder, a_size, a_elements, a_bonds, a_near, a_nearOf, a_least, a_other, tr, a_placed, a_tried, a_setWays, a_setEnds, a_setCounts, a_standsAt, a_firstOrder, a_could, a_asked))
    (h2 : ∀ tr κ, κ ≤ P.length → (∀ j, j < κ → fo_F el bo (P ++ [a]) (fo_t P.length + j) = L (fo_t P.length + j)) → fo_F el bo (P ++ [a]) (fo_t P.length + κ) < L (fo_t P.length + κ) → (∀ j, j ≤ P.length → tr (fo_t P.length + j) = nI (fo_F el bo (P ++ [a]) (fo_t P.length + j))) → post (-1) (f_count, f_isRead, f_wrongPlace, f_readAtoms, f_last, f_said, f_piled, f_orders, a_text, a_readElement, a_readBond, a_readUsed, a_pile, a_markAtom, a_markOrder, a_size, a_elements, a_bonds, a_near, a_nearOf, a_least, a_other, tr, a_placed, a_tried, a_setWays, a_setEnds, a_setCounts, a_standsAt, a_firstOrder, a_could, a_asked)) :
    wpX_compareEntries post (f_count, f_isRead, f_wrongPlace, f_readAtoms, f_last, f_said, f_piled, f_orders, a_text, a_readElement, a_readBond, a_readUsed, a_pile, a_markAtom, a_markOrder, a_size, a_elements, a_bonds, a_near, a_nearOf, a_least, a_other, a_trial, a_placed, a_tried, a_setWays, a_setEnds, a_setCounts, a_standsAt, a_firstOrder, a_could, a_asked) (nI s) (nI P.length) (nI a) := by
  have hn := hK.1
  have hd7 : P.length < 7 := by omega
  have h28 : ∀ j, j ≤ P.length → fo_t P.length + j < 28 := fun j hj => (fo_ij _ hd7 j (by omega) hj).2.1
  have hsm : ∀ j, j ≤ P.length → fo_F el bo (P ++ [a]) (fo_t P.length + j) ≤ 3 := fun j hj => xl_small hK hP hQ ha hj
  have hC : ∀ tr, (∀ j, j ≤ P.length → tr (fo_t P.length + j) = nI (fo_F el bo (P ++ [a]) (fo_t P.length + j))) → ∀ e κ, κ + e = P.length + 1 → (∀ j, j < κ → fo_F el bo (P ++ [a]) (fo_t P.length + j) = L (fo_t P.length + j)) → wX_compareEntries_70 post (nI P.length) (nI (fo_t P.length)) f_count f_isRead f_wrongPlace f_readAtoms f_last f_said f_piled f_orders a_text a_readElement a_readBond a_readUsed a_pile a_markAtom a_markOrder a_size a_elements a_bonds a_near a_nearOf a_least a_other tr a_placed a_tried a_setWays a_setEnds a_setCounts a_standsAt a_firstOrder a_could a_asked (e + 1) (nI κ) := by
    intro tr htr e
    induction e with
    | zero =>
      intro κ hκ hj
      exact pk_lt P.length κ (fun _ => h0 tr (fun j hj' => hj j (by omega))) (fun z => absurd z (by omega))
    | succ e ih =>
      intro κ hκ hj
      have hk8 := h28 κ (by omega)
      have hl9 := (hle _ hk8).2
      have hs3 := hsm κ (by omega)
      have ht : tr (nI (fo_t P.length) + nI κ).toNatClampNeg = nI (fo_F el bo (P ++ [a]) (fo_t P.length + κ)) := wk_c (fo_t P.length + κ) (htr κ (by omega)) (nI_add _ _)
      have hl : a_least (nI (fo_t P.length) + nI κ).toNatClampNeg = nI (L (fo_t P.length + κ)) := wk_c (fo_t P.length + κ) (hle _ hk8).1 (nI_add _ _)
      refine pk_lt P.length κ (fun z => absurd z (by omega)) (fun _ => wk_i (fo_t P.length + κ) (wk_i (fo_t P.length + κ) (pk_eq _ _ (fun z => nm_r (wk_p κ) (ih (κ + 1) (by omega) (fun j hj' => ?_))) (fun z => wk_i (fo_t P.length + κ) (wk_i (fo_t P.length + κ) (pk_le _ _ (fun y => h1 tr κ (by omega) hj (by omega)) (fun y => h2 tr κ (by omega) hj y htr) hl ht) hk8 (nI_add _ _)) hk8 (nI_add _ _)) ht hl) hk8 (nI_add _ _)) hk8 (nI_add _ _))
      by_cases e1 : j = κ
      · rw [e1]; exact z
      · exact hj j (by omega)
  have hB : ∀ e k tr, k + e = P.length → (∀ j, j ≤ k → tr (fo_t P.length + j) = nI (fo_F el bo (P ++ [a]) (fo_t P.length + j))) → wX_compareEntries_30 post (nI s) (nI P.length) (nI a) (nI (fo_t P.length)) f_count f_isRead f_wrongPlace f_readAtoms f_last f_said f_piled f_orders (e + 1) (nI k) a_text a_readElement a_readBond a_readUsed a_pile a_markAtom a_markOrder a_size a_elements a_bonds a_near a_nearOf a_least a_other tr a_placed a_tried a_setWays a_setEnds a_setCounts a_standsAt a_firstOrder a_could a_asked := by
    intro e
    induction e with
    | zero =>
      intro k tr hk htr
      exact pk_le P.length k (fun _ => Exists.intro (P.length + 1 + 1) (hC tr (fun j hj => htr j (by omega)) (P.length + 1) 0 (by omega) (fun j hj => absurd hj (by omega)))) (fun z => absurd z (by omega))
    | succ e ih =>
      intro k tr hk htr
      have hb : pe_at P k < n := hQ.2 _ (pe_at_m P k (by omega))
      refine pk_le P.length k (fun z => absurd z (by omega)) (fun _ => wk_i k ?_)
      rw [wk_c k (hpl k (by omega))]
      have hix : (nI (fo_t P.length) + 1) + nI k = nI (fo_t P.length + (k + 1)) := by rw [nI_1, nI_add]; exact congrArg nI (by omega)
      refine xx_bondOf hs (by omega) (by omega) (wk_v (fo_t P.length + (k + 1)) (nI (fo_F el bo (P ++ [a]) (fo_t P.length + (k + 1)))) ?_ (nm_r (wk_p k) (ih (k + 1) _ (by omega) (fun j hj => ?_))) (h28 _ (by omega)) hix)
      · rw [hT.2.2 a _ ha hb, fo_F_r hd7 (by omega)]
      · by_cases e1 : j = k + 1
        · rw [e1, pk_us]
        · rw [pk_un (by omega)]; exact htr j (by omega)
  unfold wpX_compareEntries
  refine And.intro wk_n0 (nm_r (bb_tri P.length (by omega)) (wk_i (7 * s + a) (wk_v (fo_t P.length) (nI (fo_F el bo (P ++ [a]) (fo_t P.length))) ?_ (Exists.intro (P.length + 1) (hB P.length 0 _ (by omega) (fun j hj => ?_))) (h28 0 (by omega))) (by omega) (bb_ix s a)))
  · rw [wk_c (7 * s + a) (hT.2.1 a ha) (bb_ix s a)]
    exact congrArg nI (fo_F_r (j := 0) hd7 (by omega)).symm
  · rw [show j = 0 by omega]
    exact pk_us
theorem xx_startOrders {post : SX → Prop} (h : ∀ sa, (∀ j, j < 49 → sa j = 0) → post (f_count, f_isRead, f_wrongPlace, f_readAtoms, f_last, f_said, f_piled, 0, a_text, a_readElement, a_readBond, a_readUsed, a_pile, a_markAtom, a_markOrder, a_size, a_elements, a_bonds, a_near, a_nearOf, a_least, a_other, a_trial, a_placed, a_tried, a_setWays, a_setEnds, a_setCounts, sa, a_firstOrder, a_could, a_asked)) : wpX_startOrders post (f_count, f_isRead, f_wrongPlace, f_readAtoms, f_last, f_said, f_piled, f_orders, a_text, a_readElement, a_readBond, a_readUsed, a_pile, a_markAtom, a_markOrder, a_size, a_elements, a_bonds, a_near, a_nearOf, a_least, a_other, a_trial, a_placed, a_tried, a_setWays, a_setEnds, a_setCounts, a_standsAt, a_firstOrder, a_could, a_asked) := by
  have L : ∀ d i sa, i + d = 49 → (∀ j, j < i → sa j = 0) → wX_startOrders_7 post f_count f_isRead f_wrongPlace f_readAtoms f_last f_said f_piled 0 (d + 1) (nI i) a_text a_readElement a_readBond a_readUsed a_pile a_markAtom a_markOrder a_size a_elements a_bonds a_near a_nearOf a_least a_other a_trial a_placed a_tried a_setWays a_setEnds a_setCounts sa a_firstOrder a_could a_asked := by
    intro d
    induction d with
    | zero => intro i sa hi hz; exact pk_le 49 i (fun _ => h sa (fun j hj => hz j (by omega))) (fun z => absurd z (by omega))
    | succ d ih =>
      intro i sa hi hz
      exact pk_le 49 i (fun z => absurd z (by omega)) (fun _ => wk_v i 0 xl_b0 (nm_r (wk_p i) (ih (i + 1) _ (by omega) (fun j hj => by
        by_cases e : j = i
        · rw [e, pk_us]
        · rw [pk_un e]; exact hz j (by omega)))))
  unfold wpX_startOrders
  exact Exists.intro 50 (L 49 0 a_standsAt (by omega) (fun j hj => absurd hj (by omega)))
theorem xx_noteOrder {post : SX → Prop} {n c : Nat} {P : List Nat} {st : Nat → Nat → Bool} (hn : n ≤ 7) (hP : P.length = n) (hQ : pe_Q n P) (hc : c < 2 ^ 31) (ho : f_orders = nI c) (hpl : ∀ i, i < n → a_placed i = nI (pe_at P i)) (hsa : ∀ p a, p < 7 → a < 7 → a_standsAt (7 * p + a) = nI (st p a).toNat)
    (h : ∀ fi sa, (c = 0 → ∀ i, i < n → fi i = nI (pe_at P i)) → (c ≠ 0 → fi = a_firstOrder) → (∀ p a, p < 7 → a < 7 → sa (7 * p + a) = nI (st p a || decide (p < P.length ∧ pe_at P p = a)).toNat) → post (f_count, f_isRead, f_wrongPlace, f_readAtoms, f_last, f_said, f_piled, nI (c + 1), a_text, a_readElement, a_readBond, a_readUsed, a_pile, a_markAtom, a_markOrder, a_size, a_elements, a_bonds, a_near, a_nearOf, a_least, a_other, a_trial, a_placed, a_tried, a_setWays, a_setEnds, a_setCounts, sa, fi, a_could, a_asked)) : wpX_noteOrder post (f_count, f_isRead, f_wrongPlace, f_readAtoms, f_last, f_said, f_piled, f_orders, a_text, a_readElement, a_readBond, a_readUsed, a_pile, a_markAtom, a_markOrder, a_size, a_elements, a_bonds, a_near, a_nearOf, a_least, a_other, a_trial, a_placed, a_tried, a_setWays, a_setEnds, a_setCounts, a_standsAt, a_firstOrder, a_could, a_asked) (nI n) := by
  have hB : ∀ fi, (c = 0 → ∀ i, i < n → fi i = nI (pe_at P i)) → (c ≠ 0 → fi = a_firstOrder) → ∀ d i sa, i + d = n → (∀ p a, p < 7 → a < 7 → sa (7 * p + a) = nI (st p a || decide (p < i ∧ pe_at P p = a)).toNat) → wX_noteOrder_44 post (nI n) f_count f_isRead f_wrongPlace f_readAtoms f_last f_said f_piled (nI (c + 1)) (d + 1) (nI i) a_text a_readElement a_readBond a_readUsed a_pile a_markAtom a_markOrder a_size a_elements a_bonds a_near a_nearOf a_least a_other a_trial a_placed a_tried a_setWays a_setEnds a_setCounts sa fi a_could a_asked := by
    intro fi hf1 hf2 d
    induction d with
    | zero =>
      intro i sa hi hs
      have e : i = P.length := by omega
      subst e
      exact pk_le n P.length (fun _ => h fi sa hf1 hf2 hs) (fun z => absurd z (by omega))
    | succ d ih =>
      intro i sa hi hs
      have hb : pe_at P i < n := hQ.2 _ (pe_at_m P i (by omega))
      have hix : (7 * nI i) + a_placed (nI i).toNatClampNeg = nI (7 * i + pe_at P i) := by rw [wk_c i (hpl i (by omega)), bb_ix]
      refine pk_le n i (fun z => absurd z (by omega)) (fun _ => wk_i i (wk_v (7 * i + pe_at P i) 1 xl_b1 (nm_r (wk_p i) (ih (i + 1) _ (by omega) (fun p a hp ha => ?_))) (by omega) hix))
      by_cases e : 7 * p + a = 7 * i + pe_at P i
      · have e1 : p = i := by omega
        have e2 : a = pe_at P i := by omega
        rw [e, pk_us, e1, e2, decide_eq_true ⟨by omega, rfl⟩, Bool.or_true]; rfl
      · rw [pk_un e, hs p a hp ha]
        congr 3
        have : (p < i ∧ pe_at P p = a) ↔ (p < i + 1 ∧ pe_at P p = a) := ⟨fun z => ⟨by omega, z.2⟩, fun z => ⟨by
          rcases Nat.lt_or_ge p i with y | y
          · exact y
          · exfalso
            have : p = i := by omega
            subst this
            exact e (by rw [z.2]), z.2⟩⟩
        simp only [this]
  have h32 : ∀ fi, (c = 0 → ∀ i, i < n → fi i = nI (pe_at P i)) → (c ≠ 0 → fi = a_firstOrder) → wX_noteOrder_32 post (nI n) f_count f_isRead f_wrongPlace f_readAtoms f_last f_said f_piled f_orders a_text a_readElement a_readBond a_readUsed a_pile a_markAtom a_markOrder a_size a_elements a_bonds a_near a_nearOf a_least a_other a_trial a_placed a_tried a_setWays a_setEnds a_setCounts a_standsAt fi a_could a_asked := fun fi hf1 hf2 => by
    refine nm_r (by rw [ho, nI_1]) (Exists.intro (n + 1) (hB fi hf1 hf2 n 0 a_standsAt (by omega) (fun p a hp ha => ?_)))
    rw [hsa p a hp ha, decide_eq_false (fun z => absurd z.1 (by omega)), Bool.or_false]
  have hA : ∀ d i fi, i + d = n → c = 0 → (∀ j, j < i → fi j = nI (pe_at P j)) → wX_noteOrder_9 post (nI n) f_count f_isRead f_wrongPlace f_readAtoms f_last f_said f_piled f_orders (d + 1) (nI i) a_text a_readElement a_readBond a_readUsed a_pile a_markAtom a_markOrder a_size a_elements a_bonds a_near a_nearOf a_least a_other a_trial a_placed a_tried a_setWays a_setEnds a_setCounts a_standsAt fi a_could a_asked := by
    intro d
    induction d with
    | zero =>
      intro i fi hi hc hf
      exact pk_le n i (fun _ => h32 fi (fun _ j hj => hf j (by omega)) (fun z => absurd hc z)) (fun z => absurd z (by omega))
    | succ d ih =>
      intro i fi hi hc hf
      refine pk_le n i (fun z => absurd z (by omega)) (fun _ => wk_i i (wk_v i (nI (pe_at P i)) (wk_c i (hpl i (by omega))) (nm_r (wk_p i) (ih (i + 1) _ (by omega) hc (fun j hj => ?_)))))
      by_cases e : j = i
      · rw [e, pk_us]
      · rw [pk_un e]; exact hf j (by omega)
  unfold wpX_noteOrder
  exact pk_eq c 0 (fun z => Exists.intro (n + 1) (hA n 0 a_firstOrder (by omega) z (fun j hj => absurd hj (by omega)))) (fun z => h32 a_firstOrder (fun y => absurd y z) (fun _ => rfl)) ho
theorem xx_place {post : Int32 → SX → Prop} {s n a : Nat} {el : Nat → Nat} {bo : Nat → Nat → Nat} {P : List Nat} {L : Nat → Nat} (hs : s < 2) (hK : mo_K n el bo) (hT : mo_T a_size a_elements a_bonds s n el bo) (hP : P.length < n) (hQ : pe_Q n P) (ha : a < n) (hpl : ∀ i, i < P.length → a_placed i = nI (pe_at P i)) (hle : ∀ k, k < 28 → a_least k = nI (L k) ∧ L k ≤ 9)
    (h0 : ∀ tr κ, κ ≤ P.length → (∀ j, j < κ → fo_F el bo (P ++ [a]) (fo_t P.length + j) = L (fo_t P.length + j)) → L (fo_t P.length + κ) < fo_F el bo (P ++ [a]) (fo_t P.length + κ) → post 0 (f_count, f_isRead, f_wrongPlace, f_readAtoms, f_last, f_said, f_piled, f_orders, a_text, a_readElement, a_readBond, a_readUsed, a_pile, a_markAtom, a_markOrder, a_size, a_elements, a_bonds, a_near, a_nearOf, a_least, a_other, tr, a_placed, a_tried, a_setWays, a_setEnds, a_setCounts, a_standsAt, a_firstOrder, a_could, a_asked))
    (h1 : ∀ tr, (∀ j, j ≤ P.length → fo_F el bo (P ++ [a]) (fo_t P.length + j) = L (fo_t P.length + j)) → post 1 (f_count, f_isRead, f_wrongPlace, f_readAtoms, f_last, f_said, f_piled, f_orders, a_text, a_readElement, a_readBond, a_readUsed, a_pile, a_markAtom, a_markOrder, a_size, a_elements, a_bonds, a_near, a_nearOf, a_least, a_other, tr, upd a_placed P.length (nI a), a_tried, a_setWays, a_setEnds, a_setCounts, a_standsAt, a_firstOrder, a_could, a_asked))
    (h2 : ∀ tr le sa κ, κ ≤ P.length → (∀ j, j < κ → fo_F el bo (P ++ [a]) (fo_t P.length + j) = L (fo_t P.length + j)) → fo_F el bo (P ++ [a]) (fo_t P.length + κ) < L (fo_t P.length + κ) → (∀ k, k < 28 → le k = nI (if k < fo_t P.length then L k else if k < fo_t (P.length + 1) then fo_F el bo (P ++ [a]) k else 9)) → (∀ j, j < 49 → sa j = 0) → post 1 (f_count, f_isRead, f_wrongPlace, f_readAtoms, f_last, f_said, f_piled, 0, a_text, a_readElement, a_readBond, a_readUsed, a_pile, a_markAtom, a_markOrder, a_size, a_elements, a_bonds, a_near, a_nearOf, le, a_other, tr, upd a_placed P.length (nI a), a_tried, a_setWays, a_setEnds, a_setCounts, sa, a_firstOrder, a_could, a_asked)) :
    wpX_place post (f_count, f_isRead, f_wrongPlace, f_readAtoms, f_last, f_said, f_piled, f_orders, a_text, a_readElement, a_readBond, a_readUsed, a_pile, a_markAtom, a_markOrder, a_size, a_elements, a_bonds, a_near, a_nearOf, a_least, a_other, a_trial, a_placed, a_tried, a_setWays, a_setEnds, a_setCounts, a_standsAt, a_firstOrder, a_could, a_asked) (nI s) (nI P.length) (nI a) := by
  have hn := hK.1
  have hd7 : P.length < 7 := by omega
  have ht28 := fo_t28 (P.length + 1) (by omega)
  have hts := fo_ts P.length
  unfold wpX_place
  refine xx_compare hs hK hT hP hQ ha hpl hle (fun tr he => ?_) (fun tr κ hκ he hl => ?_) (fun tr κ hκ he hl htr => ?_)
  · exact br_t (by decide) (br_t (by decide) (wk_w P.length (h1 tr he)))
  · exact br_f (by decide) (h0 tr κ hκ he hl)
  · refine br_t (by decide) (br_f (by decide) (And.intro wk_n0 (nm_r (bb_tri P.length (by omega)) ?_)))
    have B : ∀ d k le, k + d = 28 → fo_t P.length ≤ k → (∀ j, j < 28 → j < k → le j = nI (if j < fo_t P.length then L j else if j < fo_t (P.length + 1) then fo_F el bo (P ++ [a]) j else 9)) → wX_place_34 post (nI P.length) (nI a) (nI (fo_t P.length)) f_count f_isRead f_wrongPlace f_readAtoms f_last f_said f_piled f_orders (d + 1) (nI k) a_text a_readElement a_readBond a_readUsed a_pile a_markAtom a_markOrder a_size a_elements a_bonds a_near a_nearOf le a_other tr a_placed a_tried a_setWays a_setEnds a_setCounts a_standsAt a_firstOrder a_could a_asked := by
      intro d
      induction d with
      | zero =>
        intro k le hk _ hl'
        exact pk_le 28 k (fun _ => xx_startOrders (fun sa hz => wk_w P.length (h2 tr le sa κ hκ he hl (fun j hj => hl' j hj (by omega)) hz))) (fun z => absurd z (by omega))
      | succ d ih =>
        intro k le hk hkt hl'
        refine pk_le 28 k (fun z => absurd z (by omega)) (fun _ => pk_lt (fo_t P.length + P.length) k (fun z => wk_v k (nI 9) rfl (nm_r (wk_p k) (ih (k + 1) _ (by omega) (by omega) (fun j hj hjk => ?_)))) (fun z => wk_i k (wk_v k (nI (fo_F el bo (P ++ [a]) k)) ?_ (nm_r (wk_p k) (ih (k + 1) _ (by omega) (by omega) (fun j hj hjk => ?_))))) (nI_add _ _))
        · by_cases e : j = k
          · rw [e, pk_us, if_neg (by omega), if_neg (by omega)]
          · rw [pk_un e]; exact hl' j hj (by omega)
        · refine wk_c k ?_
          have := htr (k - fo_t P.length) (by omega)
          rw [show fo_t P.length + (k - fo_t P.length) = k by omega] at this
          exact this
        · by_cases e : j = k
          · rw [e, pk_us, if_neg (show ¬ k < fo_t P.length by omega), if_pos (show k < fo_t (P.length + 1) by omega)]
          · rw [pk_un e]; exact hl' j hj (by omega)
    exact Exists.intro (28 - fo_t P.length + 1) (B (28 - fo_t P.length) (fo_t P.length) a_least (by omega) (Nat.le_refl _) (fun j hj hjk => by rw [(hle j hj).1, if_pos hjk]))
end
end
section
/-! the least form: what a lower, an equal, a higher row means -/
section
variable {el : Nat → Nat} {bo : Nat → Nat → Nat}
theorem xs_at {P T : List Nat} {a j : Nat} (hP : P.length < 7) (hj : j ≤ P.length) : fo_F el bo ((P ++ [a]) ++ T) (fo_t P.length + j) = fo_F el bo (P ++ [a]) (fo_t P.length + j) := by
  have hl : (P ++ [a]).length = P.length + 1 := by rw [List.length_append]; rfl
  exact fo_F_l (by omega) (by rw [hl, fo_ts]; omega)
theorem xs_pre {P T : List Nat} {a k : Nat} (hP : P.length < 7) (hk : k < fo_t P.length) : fo_F el bo ((P ++ [a]) ++ T) k = fo_F el bo P k := by
  rw [List.append_assoc]
  exact fo_F_l (by omega) hk
theorem xs_rej {P T : List Nat} {L : Nat → Nat} {a κ : Nat} (hP : P.length < 7) (hL : ∀ k, k < 28 → k < fo_t P.length → L k = fo_F el bo P k) (hκ : κ ≤ P.length) (he : ∀ j, j < κ → fo_F el bo (P ++ [a]) (fo_t P.length + j) = L (fo_t P.length + j)) (hl : L (fo_t P.length + κ) < fo_F el bo (P ++ [a]) (fo_t P.length + κ)) : fo_L L (fo_F el bo ((P ++ [a]) ++ T)) := by
  have h28 := fo_ij _ hP κ (by omega) hκ
  refine ⟨fo_t P.length + κ, h28.2.1, by rw [xs_at hP hκ]; exact hl, fun j hj => ?_⟩
  by_cases z : j < fo_t P.length
  · rw [xs_pre hP z]; exact hL j (by omega) z
  · obtain ⟨i, rfl⟩ : ∃ i, j = fo_t P.length + i := ⟨j - fo_t P.length, by omega⟩
    rw [xs_at hP (by omega)]; exact (he i (by omega)).symm
theorem xs_low {P : List Nat} {L : Nat → Nat} {a κ : Nat} (hP : P.length < 7) (hκ : κ ≤ P.length) (he : ∀ j, j < κ → fo_F el bo (P ++ [a]) (fo_t P.length + j) = L (fo_t P.length + j)) (hl : fo_F el bo (P ++ [a]) (fo_t P.length + κ) < L (fo_t P.length + κ)) :
    fo_L (fun k => if k < fo_t P.length then L k else if k < fo_t (P.length + 1) then fo_F el bo (P ++ [a]) k else 9) L := by
  have h28 := fo_ij _ hP κ (by omega) hκ
  have hts := fo_ts P.length
  refine ⟨fo_t P.length + κ, h28.2.1, ?_, fun j hj => ?_⟩
  · show (if _ then _ else _) < _
    rw [if_neg (by omega), if_pos (by omega)]; exact hl
  · show (if _ then _ else _) = _
    by_cases z : j < fo_t P.length
    · rw [if_pos z]
    · obtain ⟨i, rfl⟩ : ∃ i, j = fo_t P.length + i := ⟨j - fo_t P.length, by omega⟩
      rw [if_neg z, if_pos (by omega)]; exact he i (by omega)
end
theorem xs_cla {P : List Nat} {a : Nat} (hn : a ∉ P) : bb_cl (pa_set (P ++ [a])) a = pa_set P := bb_ext (bb_cl_lt _ _) (pa_set_lt _) (fun i hi => by
  rw [bb_cl_b hi, pa_set_b hi, pa_set_b hi]
  by_cases e : i = a
  · subst e; simp [hn]
  · simp [e])
theorem xs_add {P : List Nat} {a : Nat} : pa_set P ||| 2 ^ a = pa_set (P ++ [a]) ∨ 7 ≤ a := by
  rcases Nat.lt_or_ge a 7 with ha | ha
  · refine Or.inl (bb_ext (bb_or_lt (pa_set_lt _) (bb_pow_lt ha)) (pa_set_lt _) (fun i hi => ?_))
    rw [Nat.testBit_or, pa_set_b hi, pa_set_b hi, Nat.testBit_two_pow]
    by_cases e : i = a
    · subst e; simp
    · have e' : ¬ a = i := fun z => e z.symm
      simp [e, e']
  · exact Or.inr ha
theorem xs_nil {P : List Nat} (h : P.length ≠ 0) : ∃ P' a, P = P' ++ [a] := by
  rcases List.eq_nil_or_concat P with z | ⟨P', a, z⟩
  · rw [z] at h; exact absurd rfl h
  · exact ⟨P', a, by rw [z, List.concat_eq_append]⟩
/-- depth and set when a node is left -/
theorem xs_pop {Wn : Int32 → Int32 → Int32 → Prop} {n ρ : Nat} {P : List Nat} {pl : XA} (hn : n ≤ 7) (hQ : pe_Q n P) (hPn : P.length ≤ n) (hpl : ∀ i, i < P.length → pl i = nI (pe_at P i)) (k : Wn (nI P.length + (-1)) (xl_set P) (nI (ρ + 1))) :
    ∀ x : Int32, x = nI P.length + (-1) → ((0 ≤ x → (vp_in x 8 ∧ ∀ y : Int32, y = nI (pa_set P) &&& (((1 : Int32) <<< ((pl x.toNatClampNeg) &&& 31)) ^^^ (-1)) → ∀ z : Int32, z = nI ρ + 1 → Wn x y z)) ∧ (¬ 0 ≤ x → ∀ z : Int32, z = nI ρ + 1 → Wn x 0 z)) := by
  intro x ex
  by_cases h0 : P.length = 0
  · have e : x = -1 := by rw [ex, h0]; decide
    have es : xl_set P = 0 := if_pos h0
    rw [es, ← ex] at k
    refine br_f (by rw [e]; decide) (nm_r (wk_p ρ) k)
  · obtain ⟨P', a, rfl⟩ := xs_nil h0
    have hl : (P' ++ [a]).length = P'.length + 1 := by rw [List.length_append]; rfl
    have hna : a ∉ P' := fun z => (List.nodup_append.mp hQ.1).2.2 a z a (List.mem_singleton.mpr rfl) rfl
    have han : a < n := hQ.2 a (List.mem_append_right _ (List.mem_singleton.mpr rfl))
    have es : xl_set (P' ++ [a]) = nI (pa_set P') := by
      unfold xl_set
      rw [if_neg (by omega), List.dropLast_concat]
    have e : x = nI P'.length := by rw [ex, hl, pk_m1]
    rw [es, ← ex] at k
    have hpa : pl x.toNatClampNeg = nI a := by
      rw [e, nI_clamp (by omega), hpl P'.length (by omega), pe_at_r P']
    refine br_t (by rw [e]; exact nI_pos' (by omega)) (wk_i P'.length (nm_r ?_ (nm_r (wk_p ρ) k)) (by omega) e)
    rw [hpa, bb_clI (pa_set_lt _) (by omega), xs_cla hna]
/-- the printed loop over the states of the search -/
def xl_W (post : SX → Prop) (x1 x2 : Int32) (v : SX) : Nat → Int32 → XL → Prop := match v with
  | (f_count, f_isRead, f_wrongPlace, f_readAtoms, f_last, f_said, f_piled, f_orders, a_text, a_readElement, a_readBond, a_readUsed, a_pile, a_markAtom, a_markOrder, a_size, a_elements, a_bonds, a_near, a_nearOf, a_least, a_other, a_trial, a_placed, a_tried, a_setWays, a_setEnds, a_setCounts, a_standsAt, a_firstOrder, a_could, a_asked) => fun F rho u => wX_findLeast_48 post x1 x2 F u.1 u.2.1 rho f_count f_isRead f_wrongPlace f_readAtoms f_last f_said f_piled u.2.2.1 a_text a_readElement a_readBond a_readUsed a_pile a_markAtom a_markOrder a_size a_elements a_bonds a_near a_nearOf u.2.2.2.1 a_other u.2.2.2.2.1 u.2.2.2.2.2.1 u.2.2.2.2.2.2.1 a_setWays a_setEnds a_setCounts u.2.2.2.2.2.2.2.1 u.2.2.2.2.2.2.2.2 a_could a_asked
section
variable {f_count f_isRead f_wrongPlace f_readAtoms f_last f_said f_piled f_orders : Int32} {a_text a_readElement a_readBond a_readUsed a_pile a_markAtom a_markOrder a_size a_elements a_bonds a_near a_nearOf a_least a_other a_trial a_placed a_tried a_setWays a_setEnds a_setCounts a_standsAt a_firstOrder a_could a_asked : Nat → Int32}
theorem xs_rL {post : SX → Prop} {s n : Nat} {el : Nat → Nat} {bo : Nat → Nat → Nat} (hs : s < 2) (hK : mo_K n el bo) (hT : mo_T a_size a_elements a_bonds s n el bo) (D : List (List Nat)) (P : List Nat) (τ : Nat → Nat) (u : XL) (hP : P.length = n) (hQ : pe_Q n P) (hD : D.length < 2 ^ 30) (h : xl_N (fo_F el bo) n D P τ 0 True u) :
    go_R 120000 (xl_W post (nI s) (nI n) (f_count, f_isRead, f_wrongPlace, f_readAtoms, f_last, f_said, f_piled, f_orders, a_text, a_readElement, a_readBond, a_readUsed, a_pile, a_markAtom, a_markOrder, a_size, a_elements, a_bonds, a_near, a_nearOf, a_least, a_other, a_trial, a_placed, a_tried, a_setWays, a_setEnds, a_setCounts, a_standsAt, a_firstOrder, a_could, a_asked)) 1 u (xl_U (fo_F el bo) n (D ++ [P]) P τ) := by
  have hn := hK.1
  obtain ⟨ord, le, tr, pl, ti, sa, fi, rfl, ht, c, L, fo, st, h1, h2, h3, h4, h5, h6, h7, h8, h9, h10⟩ := h
  refine go_1 (fun F ρ hρ k => ?_)
  show wX_findLeast_48 post (nI s) (nI n) (F + 1) (nI P.length) (nI (pa_set P)) (nI ρ) f_count f_isRead f_wrongPlace f_readAtoms f_last f_said f_piled ord a_text a_readElement a_readBond a_readUsed a_pile a_markAtom a_markOrder a_size a_elements a_bonds a_near a_nearOf le a_other tr pl ti a_setWays a_setEnds a_setCounts sa fi a_could a_asked
  have hcD : c ≤ D.length := by
    rw [h1.2.1]
    have : ∀ l : List (List Nat), ls_t (fun Q => fo_eb (fo_F el bo Q) L) l ≤ l.length := fun l => by
      induction l with
      | nil => exact Nat.le_refl _
      | cons a l ih => rw [ls_tc, List.length_cons]; have := Bool.toNat_le (fo_eb (fo_F el bo a) L); omega
    exact this D
  have hE : fo_E (fo_F el bo P) L := fun k hk => by
    by_cases z : k < fo_t P.length
    · exact (h4 k hk z).symm
    · rw [fo_F_9 (by omega), h5 k hk (by rw [← hP]; omega)]
  refine pk_le 120000 ρ (fun z => absurd z (by omega)) (fun _ => br_f (nI_pos (by omega)) (pk_eq P.length n (fun _ => ?_) (fun z => absurd hP z)))
  refine xx_noteOrder hn hP hQ (by omega) h2 (fun i hi => h9 i (by omega)) h7 (fun fi' sa' hf1 hf2 hsa => ?_)
  refine xs_pop (Wn := fun d st r => wX_findLeast_48 post (nI s) (nI n) F d st r f_count f_isRead f_wrongPlace f_readAtoms f_last f_said f_piled (nI (c + 1)) a_text a_readElement a_readBond a_readUsed a_pile a_markAtom a_markOrder a_size a_elements a_bonds a_near a_nearOf le a_other tr pl ti a_setWays a_setEnds a_setCounts sa' fi' a_could a_asked) hn hQ (by omega) h9 (k (nI P.length + (-1), xl_set P, nI (c + 1), le, tr, pl, ti, sa', fi') ?_)
  refine ⟨_, _, _, _, _, _, _, rfl, c + 1, L, _, _, fo_J_leaf h1 hE, rfl, h3, h4, h5, Or.inl (by omega), hsa, fun _ i hi => ?_, h9, h10⟩
  by_cases hc : c = 0
  · rw [if_pos hc]; exact hf1 hc i hi
  · rw [if_neg hc, hf2 hc]; exact h8 (by omega) i hi
theorem xs_rX {post : SX → Prop} {s n : Nat} {el : Nat → Nat} {bo : Nat → Nat → Nat} (hK : mo_K n el bo) (D : List (List Nat)) (P : List Nat) (τ : Nat → Nat) (u : XL) (hP : P.length < n) (hQ : pe_Q n P) (h : xl_N (fo_F el bo) n D P τ n False u) :
    go_R 120000 (xl_W post (nI s) (nI n) (f_count, f_isRead, f_wrongPlace, f_readAtoms, f_last, f_said, f_piled, f_orders, a_text, a_readElement, a_readBond, a_readUsed, a_pile, a_markAtom, a_markOrder, a_size, a_elements, a_bonds, a_near, a_nearOf, a_least, a_other, a_trial, a_placed, a_tried, a_setWays, a_setEnds, a_setCounts, a_standsAt, a_firstOrder, a_could, a_asked)) 1 u (xl_U (fo_F el bo) n D P τ) := by
  have hn := hK.1
  obtain ⟨ord, le, tr, pl, ti, sa, fi, rfl, ht, hC⟩ := h
  have hC' := hC
  obtain ⟨c, L, fo, st, h1, h2, h3, h4, h5, h6, h7, h8, h9, h10⟩ := hC
  refine go_1 (fun F ρ hρ k => ?_)
  show wX_findLeast_48 post (nI s) (nI n) (F + 1) (nI P.length) (nI (pa_set P)) (nI ρ) f_count f_isRead f_wrongPlace f_readAtoms f_last f_said f_piled ord a_text a_readElement a_readBond a_readUsed a_pile a_markAtom a_markOrder a_size a_elements a_bonds a_near a_nearOf le a_other tr pl ti a_setWays a_setEnds a_setCounts sa fi a_could a_asked
  refine pk_le 120000 ρ (fun z => absurd z (by omega)) (fun _ => br_f (nI_pos (by omega)) (pk_eq P.length n (fun z => absurd z (by omega)) (fun _ => wk_i P.length (br_t (wk_c P.length ht) ?_))))
  exact xs_pop (Wn := fun d st r => wX_findLeast_48 post (nI s) (nI n) F d st r f_count f_isRead f_wrongPlace f_readAtoms f_last f_said f_piled ord a_text a_readElement a_readBond a_readUsed a_pile a_markAtom a_markOrder a_size a_elements a_bonds a_near a_nearOf le a_other tr pl ti a_setWays a_setEnds a_setCounts sa fi a_could a_asked) hn hQ (by omega) h9 (k (nI P.length + (-1), xl_set P, ord, le, tr, pl, ti, sa, fi) ⟨_, _, _, _, _, _, _, rfl, hC'⟩)
theorem xs_rU {post : SX → Prop} {s n : Nat} {el : Nat → Nat} {bo : Nat → Nat → Nat} (hK : mo_K n el bo) (D : List (List Nat)) (P : List Nat) (τ : Nat → Nat) (t : Nat) (pos : Prop) (u : XL) (hP : P.length < n) (hQ : pe_Q n P) (htn : t < n) (htP : t ∈ P) (h : xl_N (fo_F el bo) n D P τ t pos u) :
    go_R 120000 (xl_W post (nI s) (nI n) (f_count, f_isRead, f_wrongPlace, f_readAtoms, f_last, f_said, f_piled, f_orders, a_text, a_readElement, a_readBond, a_readUsed, a_pile, a_markAtom, a_markOrder, a_size, a_elements, a_bonds, a_near, a_nearOf, a_least, a_other, a_trial, a_placed, a_tried, a_setWays, a_setEnds, a_setCounts, a_standsAt, a_firstOrder, a_could, a_asked)) 1 u (xl_N (fo_F el bo) n D P τ (t + 1) pos) := by
  have hn := hK.1
  obtain ⟨ord, le, tr, pl, ti, sa, fi, rfl, ht, c, L, fo, st, h1, h2, h3, h4, h5, h6, h7, h8, h9, h10⟩ := h
  refine go_1 (fun F ρ hρ k => ?_)
  show wX_findLeast_48 post (nI s) (nI n) (F + 1) (nI P.length) (nI (pa_set P)) (nI ρ) f_count f_isRead f_wrongPlace f_readAtoms f_last f_said f_piled ord a_text a_readElement a_readBond a_readUsed a_pile a_markAtom a_markOrder a_size a_elements a_bonds a_near a_nearOf le a_other tr pl ti a_setWays a_setEnds a_setCounts sa fi a_could a_asked
  have hti : ti (nI P.length).toNatClampNeg = nI t := wk_c P.length ht
  refine pk_le 120000 ρ (fun z => absurd z (by omega)) (fun _ => br_f (nI_pos (by omega)) (pk_eq P.length n (fun z => absurd z (by omega)) (fun _ => wk_i P.length (pk_eq t n (fun z => absurd z (by omega)) (fun _ => wk_i P.length (nm_r hti (wk_v P.length (nI (t + 1)) (wk_p t) (br_f ?_ (br_t rfl (nm_r (wk_p ρ) (k (nI P.length, nI (pa_set P), ord, le, tr, pl, upd ti P.length (nI (t + 1)), sa, fi) ⟨_, _, _, _, _, _, _, rfl, pk_us, c, L, fo, st, h1, h2, h3, h4, h5, h6, h7, h8, h9, fun i hi => ?_⟩))))))) hti))))
  · intro z
    have := (bb_bit0 (pa_set_lt P) (by omega)).mp z
    rw [pa_set_b (by omega), decide_eq_true htP] at this; exact absurd this (by decide)
  · rw [pk_un (by omega)]; exact h10 i hi
theorem xs_rP {post : SX → Prop} {s n : Nat} {el : Nat → Nat} {bo : Nat → Nat → Nat} (hs : s < 2) (hK : mo_K n el bo) (hT : mo_T a_size a_elements a_bonds s n el bo) (D : List (List Nat)) (P : List Nat) (τ : Nat → Nat) (t r : Nat) (u : XL) (hP : P.length + (r + 1) = n) (hQ : pe_Q n P) (htn : t < n) (htP : t ∉ P) (h : xl_N (fo_F el bo) n D P τ t True u) :
    go_R 120000 (xl_W post (nI s) (nI n) (f_count, f_isRead, f_wrongPlace, f_readAtoms, f_last, f_said, f_piled, f_orders, a_text, a_readElement, a_readBond, a_readUsed, a_pile, a_markAtom, a_markOrder, a_size, a_elements, a_bonds, a_near, a_nearOf, a_least, a_other, a_trial, a_placed, a_tried, a_setWays, a_setEnds, a_setCounts, a_standsAt, a_firstOrder, a_could, a_asked)) 1 u (fun s' => xl_N (fo_F el bo) n (D ++ pe_lv n r (P ++ [t])) P τ (t + 1) False s' ∨ xl_N (fo_F el bo) n D (P ++ [t]) (rd_u τ P.length (t + 1)) 0 True s') := by
  have hn := hK.1
  have hP7 : P.length < 7 := by omega
  have hl : (P ++ [t]).length = P.length + 1 := by rw [List.length_append]; rfl
  have hts := fo_ts P.length
  have ht28 := fo_t28 (P.length + 1) (by omega)
  obtain ⟨ord, le, tr, pl, ti, sa, fi, rfl, ht, c, L, fo, st, h1, h2, h3, h4, h5, h6, h7, h8, h9, h10⟩ := h
  refine go_1 (fun F ρ hρ k => ?_)
  show wX_findLeast_48 post (nI s) (nI n) (F + 1) (nI P.length) (nI (pa_set P)) (nI ρ) f_count f_isRead f_wrongPlace f_readAtoms f_last f_said f_piled ord a_text a_readElement a_readBond a_readUsed a_pile a_markAtom a_markOrder a_size a_elements a_bonds a_near a_nearOf le a_other tr pl ti a_setWays a_setEnds a_setCounts sa fi a_could a_asked
  have hti : ti (nI P.length).toNatClampNeg = nI t := wk_c P.length ht
  have hset : nI (pa_set P) ||| ((1 : Int32) <<< (nI t &&& 31)) = nI (pa_set (P ++ [t])) := by
    rw [bb_shl t (by omega), bb_or]
    rcases xs_add (P := P) (a := t) with z | z
    · rw [z]
    · omega
  have hpl' : ∀ pl' : XA, pl' = upd pl P.length (nI t) → ∀ i, i < (P ++ [t]).length → pl' i = nI (pe_at (P ++ [t]) i) := fun pl' e i hi => by
    subst e
    by_cases e : i = P.length
    · rw [e, pk_us, pe_at_r P]
    · rw [pk_un e, pe_at_l P i (by omega)]; exact h9 i (by omega)
  have hti' : ∀ i, i < (P ++ [t]).length → upd (upd ti P.length (nI (t + 1))) (P.length + 1) 0 i = nI (rd_u τ P.length (t + 1) i) := fun i hi => by
    rw [pk_un (by omega)]
    by_cases e : i = P.length
    · rw [e, pk_us, rd_us]
    · rw [pk_un e, rd_un e]; exact h10 i (by omega)
  have hc9 : ¬ 0 < c → ∀ j, j ≤ P.length → L (fo_t P.length + j) = 9 := fun hc j hj => by
    rcases h6 with z | z
    · exact absurd z hc
    · exact z.2 _ (by omega) (by omega)
  have hsm : ∀ j, j ≤ P.length → fo_F el bo (P ++ [t]) (fo_t P.length + j) ≤ 3 := fun j hj => xl_small hK (by omega) hQ htn hj
  refine pk_le 120000 ρ (fun z => absurd z (by omega)) (fun _ => br_f (nI_pos (by omega)) (pk_eq P.length n (fun z => absurd z (by omega)) (fun _ => wk_i P.length (pk_eq t n (fun z => absurd z (by omega)) (fun _ => wk_i P.length (nm_r hti (wk_v P.length (nI (t + 1)) (wk_p t) (br_t ((bb_bit0 (pa_set_lt P) (by omega)).mpr (by rw [pa_set_b (by omega)]; exact decide_eq_false htP)) (xx_place hs hK hT (by omega) hQ htn h9 h3 (fun tr' κ hκ he hlt => ?_) (fun tr' he => ?_) (fun tr' le' sa' κ hκ he hlt hle' hsa' => ?_)))))) hti))))
  · refine br_t rfl (br_t rfl (nm_r (wk_p ρ) (k (nI P.length, nI (pa_set P), ord, le, tr', pl, upd ti P.length (nI (t + 1)), sa, fi) (Or.inl ⟨_, _, _, _, _, _, _, rfl, pk_us, c, L, fo, st, fo_J_cut h1 (fun Q hQ' => ?_), h2, h3, h4, h5, ?_, h7, h8, h9, fun i hi => ?_⟩))))
    · obtain ⟨T, rfl, _, _⟩ := (pe_lv_m r (P ++ [t]) Q (pe_Q_a hQ htn htP)).mp hQ'
      exact xs_rej hP7 h4 hκ he hlt
    · rcases Classical.em (0 < c) with z | z
      · exact Or.inl z
      · have := hc9 z κ hκ
        have := hsm κ hκ
        omega
    · rw [pk_un (by omega)]; exact h10 i hi
  · refine br_f wk_10 (br_f wk_10 (nm_r hset (nm_r (wk_p P.length) (wk_w (P.length + 1) (nm_r (wk_p ρ) (k (nI (P.length + 1), nI (pa_set (P ++ [t])), ord, le, tr', upd pl P.length (nI t), upd (upd ti P.length (nI (t + 1))) (P.length + 1) 0, sa, fi) (Or.inr ⟨ord, le, tr', upd pl P.length (nI t), upd (upd ti P.length (nI (t + 1))) (P.length + 1) 0, sa, fi, by rw [hl], by rw [hl]; exact pk_us, c, L, fo, st, h1, h2, h3, fun q hq hq2 => ?_, h5, ?_, h7, h8, hpl' _ rfl, hti'⟩)))))))
    · by_cases z : q < fo_t P.length
      · rw [h4 q hq z]; exact (fo_F_l (by omega) z).symm
      · obtain ⟨j, rfl⟩ : ∃ j, q = fo_t P.length + j := ⟨q - fo_t P.length, by omega⟩
        rw [hl] at hq2
        exact (he j (by omega)).symm
    · rcases Classical.em (0 < c) with z | z
      · exact Or.inl z
      · have a1 := hc9 z 0 (by omega)
        have a2 := hsm 0 (by omega)
        have a3 := he 0 (by omega)
        omega
  · refine br_f wk_10 (br_f wk_10 (nm_r hset (nm_r (wk_p P.length) (wk_w (P.length + 1) (nm_r (wk_p ρ) (k (nI (P.length + 1), nI (pa_set (P ++ [t])), 0, le', tr', upd pl P.length (nI t), upd (upd ti P.length (nI (t + 1))) (P.length + 1) 0, sa', fi) (Or.inr ⟨0, le', tr', upd pl P.length (nI t), upd (upd ti P.length (nI (t + 1))) (P.length + 1) 0, sa', fi, by rw [hl], by rw [hl]; exact pk_us, 0, _, [], _, fo_J_low h1 (xs_low hP7 hκ he hlt), rfl, fun q hq => ⟨hle' q hq, ?_⟩, fun q hq hq2 => ?_, fun q hq hq2 => ?_, Or.inr ⟨trivial, fun q hq hq2 => ?_⟩, fun p a hp ha => ?_, fun z => absurd z (by decide), hpl' _ rfl, hti'⟩)))))))
    · show (if _ then _ else _) ≤ 9
      by_cases z : q < fo_t P.length
      · rw [if_pos z]; exact (h3 q hq).2
      · rw [if_neg z]
        by_cases y : q < fo_t (P.length + 1)
        · rw [if_pos y]
          obtain ⟨j, rfl⟩ : ∃ j, q = fo_t P.length + j := ⟨q - fo_t P.length, by omega⟩
          exact Nat.le_trans (hsm j (by omega)) (by omega)
        · rw [if_neg y]; exact Nat.le_refl _
    · show (if _ then _ else _) = _
      rw [hl] at hq2
      by_cases z : q < fo_t P.length
      · rw [if_pos z, h4 q hq z]; exact (fo_F_l (by omega) z).symm
      · rw [if_neg z, if_pos hq2]
    · show (if _ then _ else _) = _
      have := fo_tm (P.length + 1) n (by omega)
      rw [if_neg (by omega), if_neg (by omega)]
    · show (if _ then _ else _) = _
      rw [hl] at hq2
      rw [if_neg (by omega), if_neg (by omega)]
    · rw [hsa' _ (by omega)]; rfl
theorem xs_len : ∀ n, n < 8 → (pe_D n).length < 2 ^ 30 := by decide +kernel
theorem xs_cost : ∀ n, n < 8 → xl_c n ≤ 120000 := by decide +kernel
/-- the least form, and how many orders have it -/
def xs_R (n : Nat) (el : Nat → Nat) (bo : Nat → Nat → Nat) (ord : Int32) (le sa fi : XA) : Prop :=
  ∃ (M : List Nat) (st : Nat → Nat → Bool), M ∈ pe_D n ∧ (∀ Q, Q ∈ pe_D n → ¬ fo_L (fo_F el bo Q) (fo_F el bo M)) ∧ ord = nI (ls_t (fun Q => fo_eb (fo_F el bo Q) (fo_F el bo M)) (pe_D n)) ∧ (∀ k, k < 28 → le k = nI (fo_F el bo M k)) ∧ (∀ p a, p < 7 → a < 7 → sa (7 * p + a) = nI (st p a).toNat) ∧ (∀ p a, st p a = true ↔ ∃ Q, Q ∈ pe_D n ∧ fo_eb (fo_F el bo Q) (fo_F el bo M) = true ∧ p < n ∧ pe_at Q p = a) ∧ ∀ i, i < n → fi i = nI (pe_at M i)
theorem xs_fin {n : Nat} {el : Nat → Nat} {bo : Nat → Nat → Nat} {τ : Nat → Nat} {ord : Int32} {le pl ti sa fi : XA} (h : xl_C (fo_F el bo) n (pe_D n) [] τ False ord le pl ti sa fi) : xs_R n el bo ord le sa fi := by
  obtain ⟨c, L, fo, st, h1, h2, h3, h4, h5, h6, h7, h8, h9, h10⟩ := h
  have hc : 0 < c := h6.elim id (fun z => z.1.elim)
  obtain ⟨j1, j2, j3, j4⟩ := h1
  obtain ⟨m1, m2⟩ := j4 hc
  have hE := fo_eb_i.mp m2
  have hsame : ∀ Q, fo_eb (fo_F el bo Q) L = fo_eb (fo_F el bo Q) (fo_F el bo fo) := fun Q => by
    rw [Bool.eq_iff_iff, fo_eb_i, fo_eb_i]
    exact ⟨fun z => fo_E_t z (fo_E_s hE), fun z => fo_E_t z hE⟩
  refine ⟨fo, st, m1, fun Q hQ z => j1 Q hQ (fo_L_E z hE), ?_, fun k hk => ?_, h7, fun p a => ?_, h8 hc⟩
  · rw [h2, j2]
    congr 1
    exact ls_tcg _ (fun Q _ => hsame Q)
  · rw [(h3 k hk).1, hE k hk]
  · rw [j3]
    constructor
    · rintro ⟨Q, hQ, z1, z2, z3⟩
      rw [hsame] at z1
      exact ⟨Q, hQ, z1, by rw [← (pe_D_m.mp hQ).1]; exact z2, z3⟩
    · rintro ⟨Q, hQ, z1, z2, z3⟩
      rw [← hsame] at z1
      exact ⟨Q, hQ, z1, by rw [(pe_D_m.mp hQ).1]; exact z2, z3⟩
theorem xx_findLeast {post : SX → Prop} {s n : Nat} {el : Nat → Nat} {bo : Nat → Nat → Nat} (hs : s < 2) (hK : mo_K n el bo) (hT : mo_T a_size a_elements a_bonds s n el bo) (h : ∀ ord le tr pl ti sa fi, xs_R n el bo ord le sa fi → post (f_count, f_isRead, f_wrongPlace, f_readAtoms, f_last, f_said, f_piled, ord, a_text, a_readElement, a_readBond, a_readUsed, a_pile, a_markAtom, a_markOrder, a_size, a_elements, a_bonds, a_near, a_nearOf, le, a_other, tr, pl, ti, a_setWays, a_setEnds, a_setCounts, sa, fi, a_could, a_asked)) : wpX_findLeast post (f_count, f_isRead, f_wrongPlace, f_readAtoms, f_last, f_said, f_piled, f_orders, a_text, a_readElement, a_readBond, a_readUsed, a_pile, a_markAtom, a_markOrder, a_size, a_elements, a_bonds, a_near, a_nearOf, a_least, a_other, a_trial, a_placed, a_tried, a_setWays, a_setEnds, a_setCounts, a_standsAt, a_firstOrder, a_could, a_asked) (nI s) := by
  have hn := hK.1
  have A : ∀ d i le, i + d = 28 → (∀ j, j < i → le j = nI 9) → wX_findLeast_9 post (nI s) (nI n) f_count f_isRead f_wrongPlace f_readAtoms f_last f_said f_piled f_orders (d + 1) (nI i) a_text a_readElement a_readBond a_readUsed a_pile a_markAtom a_markOrder a_size a_elements a_bonds a_near a_nearOf le a_other a_trial a_placed a_tried a_setWays a_setEnds a_setCounts a_standsAt a_firstOrder a_could a_asked := by
    intro d
    induction d with
    | zero =>
      intro i le hi hz
      refine pk_le 28 i (fun _ => xx_startOrders (fun sa hsa => nm_e (Exists.intro (xl_c n + 1) ?_))) (fun z => absurd z (by omega))
      have hdfs := xl_dfs (W := xl_W post (nI s) (nI n) (f_count, f_isRead, f_wrongPlace, f_readAtoms, f_last, f_said, f_piled, f_orders, a_text, a_readElement, a_readBond, a_readUsed, a_pile, a_markAtom, a_markOrder, a_size, a_elements, a_bonds, a_near, a_nearOf, a_least, a_other, a_trial, a_placed, a_tried, a_setWays, a_setEnds, a_setCounts, a_standsAt, a_firstOrder, a_could, a_asked)) (F := fo_F el bo) (lim := 120000) hn (fun P T k hP hk => fo_F_l hP hk) (fun D P τ u => xs_rL hs hK hT D P τ u) (fun D P τ u => xs_rX hK D P τ u) (fun D P τ t pos u => xs_rU hK D P τ t pos u) (fun D P τ t r u => xs_rP hs hK hT D P τ t r u) n [] (fun _ => 0) [] (nI 0, nI (pa_set []), 0, le, a_trial, a_placed, upd a_tried 0 0, sa, a_firstOrder) (by simp) (pe_Q0 n) (xs_len n (by omega)) ?_
      · refine hdfs (xl_c n + 1) 0 (by omega) (by have := xs_cost n (by omega); omega) (fun m u hm hu => ?_)
        obtain ⟨ord, le', tr, pl, ti, sa', fi, rfl, hC⟩ := hu
        obtain ⟨F', hF'⟩ : ∃ F', xl_c n + 1 - m = F' + 1 := ⟨xl_c n - m, by omega⟩
        rw [hF']
        show wX_findLeast_48 post (nI s) (nI n) (F' + 1) (-1) (xl_set []) (nI (0 + m)) f_count f_isRead f_wrongPlace f_readAtoms f_last f_said f_piled ord a_text a_readElement a_readBond a_readUsed a_pile a_markAtom a_markOrder a_size a_elements a_bonds a_near a_nearOf le' a_other tr pl ti a_setWays a_setEnds a_setCounts sa' fi a_could a_asked
        have hp := h ord le' tr pl ti sa' fi (xs_fin hC)
        exact br_c (fun _ => hp) (fun _ => br_t (by decide) hp)
      · refine ⟨_, _, _, _, _, _, _, rfl, pk_us, 0, fun _ => 9, [], fun _ _ => false, fo_J_0 _ _ _, rfl, fun k hk => ⟨hz k (by omega), Nat.le_refl 9⟩, fun k _ hk => absurd hk (by show ¬ k < 0; omega), fun k _ _ => rfl, Or.inr ⟨trivial, fun _ _ _ => rfl⟩, fun p a hp ha => ?_, fun z => absurd z (by decide), fun i hi => absurd hi (by simp), fun i hi => absurd hi (by simp)⟩
        rw [hsa _ (by omega)]; rfl
    | succ d ih =>
      intro i le hi hz
      exact pk_le 28 i (fun z => absurd z (by omega)) (fun _ => wk_v i (nI 9) rfl (nm_r (wk_p i) (ih (i + 1) _ (by omega) (fun j hj => by
        by_cases e : j = i
        · rw [e, pk_us]
        · rw [pk_un e]; exact hz j (by omega)))))
  unfold wpX_findLeast
  exact wk_i s (nm_r (wk_c s hT.1) (Exists.intro 29 (A 28 0 a_least (by omega) (fun j hj => absurd hj (by omega)))))
end
end
section
/-! symmetries, orbits, least forms: what the component's search answers -/
noncomputable def pe_ib (n : Nat) (el0 : Nat → Nat) (bo0 : Nat → Nat → Nat) (el1 : Nat → Nat) (bo1 : Nat → Nat → Nat) (s : List Nat) : Bool := @decide (pe_iso n el0 bo0 el1 bo1 s) (Classical.propDecidable _)
theorem pe_ib_i {n : Nat} {el0 : Nat → Nat} {bo0 : Nat → Nat → Nat} {el1 : Nat → Nat} {bo1 : Nat → Nat → Nat} {s : List Nat} : pe_ib n el0 bo0 el1 bo1 s = true ↔ pe_iso n el0 bo0 el1 bo1 s := @decide_eq_true_iff _ (Classical.propDecidable _)
noncomputable def pe_ob (n : Nat) (el : Nat → Nat) (bo : Nat → Nat → Nat) (a b : Nat) : Bool := @decide (∃ s, s ∈ pe_D n ∧ pe_iso n el bo el bo s ∧ pe_at s a = b) (Classical.propDecidable _)
theorem pe_ob_i {n : Nat} {el : Nat → Nat} {bo : Nat → Nat → Nat} {a b : Nat} : pe_ob n el bo a b = true ↔ ∃ s, s ∈ pe_D n ∧ pe_iso n el bo el bo s ∧ pe_at s a = b := @decide_eq_true_iff _ (Classical.propDecidable _)
noncomputable def pe_al (n : Nat) (el0 : Nat → Nat) (bo0 : Nat → Nat → Nat) (el1 : Nat → Nat) (bo1 : Nat → Nat → Nat) : Bool := @decide (∃ s, s ∈ pe_D n ∧ pe_iso n el0 bo0 el1 bo1 s) (Classical.propDecidable _)
theorem pe_al_i {n : Nat} {el0 : Nat → Nat} {bo0 : Nat → Nat → Nat} {el1 : Nat → Nat} {bo1 : Nat → Nat → Nat} : pe_al n el0 bo0 el1 bo1 = true ↔ ∃ s, s ∈ pe_D n ∧ pe_iso n el0 bo0 el1 bo1 s := @decide_eq_true_iff _ (Classical.propDecidable _)
def fo_mn (n : Nat) (el : Nat → Nat) (bo : Nat → Nat → Nat) (M : List Nat) : Prop := M ∈ pe_D n ∧ ∀ Q, Q ∈ pe_D n → ¬ fo_L (fo_F el bo Q) (fo_F el bo M)
theorem fo_mn_u {n : Nat} {el : Nat → Nat} {bo : Nat → Nat → Nat} {M N : List Nat} (h : fo_mn n el bo M) (h' : fo_mn n el bo N) : fo_E (fo_F el bo M) (fo_F el bo N) := by
  rcases fo_tri (fo_F el bo M) (fo_F el bo N) with z | z | z
  · exact absurd z (h'.2 M h.1)
  · exact z
  · exact absurd z (h.2 N h'.1)
theorem fo_cnt {n : Nat} (hn : n ≤ 7) {el : Nat → Nat} {bo : Nat → Nat → Nat} (hb : pe_sd n bo) {M : List Nat} (hM : M ∈ pe_D n) : ls_t (fun Q => fo_eb (fo_F el bo Q) (fo_F el bo M)) (pe_D n) = ls_t (pe_ib n el bo el bo) (pe_D n) := by
  unfold ls_t
  rw [← ls_pm _ (pe_bij hM), ls_map]
  refine ls_cg _ (fun s hs => ?_)
  congr 1
  rw [Bool.eq_iff_iff, fo_eb_i, pe_ib_i]
  exact pe_iso_i hn hb hb hM hs
theorem fo_orb {n : Nat} (hn : n ≤ 7) {el : Nat → Nat} {bo : Nat → Nat → Nat} (hb : pe_sd n bo) {M : List Nat} (hM : M ∈ pe_D n) {i a b : Nat} (hi : i < n) (ha : pe_at M i = a) : (∃ Q, Q ∈ pe_D n ∧ fo_eb (fo_F el bo Q) (fo_F el bo M) = true ∧ i < n ∧ pe_at Q i = b) ↔ pe_ob n el bo a b = true := by
  rw [pe_ob_i]
  have hMl := (pe_D_m.mp hM).1
  constructor
  · rintro ⟨Q, hQ, z1, _, z3⟩
    obtain ⟨s, hs, e⟩ := pe_sur hM hQ
    rw [← e, fo_eb_i] at z1
    refine ⟨s, hs, (pe_iso_i hn hb hb hM hs).mp z1, ?_⟩
    rw [← e, pe_ap_at (by omega), ha] at z3; exact z3
  · rintro ⟨s, hs, z1, z2⟩
    refine ⟨pe_ap M s, pe_ap_m hM hs, fo_eb_i.mpr ((pe_iso_i hn hb hb hM hs).mpr z1), hi, ?_⟩
    rw [pe_ap_at (by omega), ha]; exact z2
theorem fo_alk {n : Nat} (hn : n ≤ 7) {el0 el1 : Nat → Nat} {bo0 bo1 : Nat → Nat → Nat} (h0 : pe_sd n bo0) (h1 : pe_sd n bo1) {M N : List Nat} (hM : fo_mn n el0 bo0 M) (hN : fo_mn n el1 bo1 N) : fo_E (fo_F el0 bo0 M) (fo_F el1 bo1 N) ↔ pe_al n el0 bo0 el1 bo1 = true := by
  rw [pe_al_i]
  constructor
  · intro h
    obtain ⟨s, hs, e⟩ := pe_sur hN.1 hM.1
    rw [← e] at h
    exact ⟨s, hs, (pe_iso_i hn h0 h1 hN.1 hs).mp h⟩
  · rintro ⟨s, hs, h⟩
    have a1 := (pe_iso_i hn h0 h1 hN.1 hs).mpr h
    have a2 : ∃ Q, Q ∈ pe_D n ∧ pe_ap Q s = M := by
      have key : ((pe_D n).map (fun Q => pe_ap Q s)).Perm (pe_D n) := by
        refine pe_perm ?_ (pe_D_nd n) (fun x hx => ?_) (by rw [List.length_map])
        · refine List.pairwise_map.mpr (List.Pairwise.imp_of_mem ?_ (pe_D_nd n))
          intro P Q hP hQ hPQ e
          refine hPQ ?_
          obtain ⟨s1, s2⟩ := pe_D_m.mp hs
          obtain ⟨p1, p2⟩ := pe_D_m.mp hP
          obtain ⟨q1, q2⟩ := pe_D_m.mp hQ
          refine pe_ext P Q (by rw [p1, q1]) (fun i hi => ?_)
          have e' : pe_at (pe_ap P s) i = pe_at (pe_ap Q s) i := by rw [e]
          rw [pe_ap_at hi, pe_ap_at (by omega)] at e'
          exact pe_inj s s2.1 _ _ (by rw [s1]; exact p2.2 _ (pe_at_m P i hi)) (by rw [s1]; exact q2.2 _ (pe_at_m Q i (by omega))) e'
        · obtain ⟨Q, hQ, rfl⟩ := List.mem_map.mp hx
          exact pe_ap_m hQ hs
      obtain ⟨Q, hQ, e⟩ := List.mem_map.mp (key.mem_iff.mpr hM.1)
      exact ⟨Q, hQ, e⟩
    obtain ⟨Q, hQ, e⟩ := a2
    have a3 := (pe_iso_i hn h0 h1 hQ hs).mpr h
    rw [e] at a3
    rcases fo_tri (fo_F el0 bo0 M) (fo_F el1 bo1 N) with z | z | z
    · exact absurd (fo_E_L (fo_E_s a3) z) (hN.2 Q hQ)
    · exact z
    · exact absurd (fo_E_L a1 z) (hM.2 _ (pe_ap_m hN.1 hs))
section
variable {f_count f_isRead f_wrongPlace f_readAtoms f_last f_said f_piled f_orders : Int32} {a_text a_readElement a_readBond a_readUsed a_pile a_markAtom a_markOrder a_size a_elements a_bonds a_near a_nearOf a_least a_other a_trial a_placed a_tried a_setWays a_setEnds a_setCounts a_standsAt a_firstOrder a_could a_asked : Nat → Int32}
theorem xx_symmetries {post : Int32 → SX → Prop} {s n : Nat} {el : Nat → Nat} {bo : Nat → Nat → Nat} (hs : s < 2) (hK : mo_K n el bo) (hT : mo_T a_size a_elements a_bonds s n el bo) (h : ∀ ord le tr pl ti sa fi, post (nI (ls_t (pe_ib n el bo el bo) (pe_D n))) (f_count, f_isRead, f_wrongPlace, f_readAtoms, f_last, f_said, f_piled, ord, a_text, a_readElement, a_readBond, a_readUsed, a_pile, a_markAtom, a_markOrder, a_size, a_elements, a_bonds, a_near, a_nearOf, le, a_other, tr, pl, ti, a_setWays, a_setEnds, a_setCounts, sa, fi, a_could, a_asked)) : wpX_symmetries post (f_count, f_isRead, f_wrongPlace, f_readAtoms, f_last, f_said, f_piled, f_orders, a_text, a_readElement, a_readBond, a_readUsed, a_pile, a_markAtom, a_markOrder, a_size, a_elements, a_bonds, a_near, a_nearOf, a_least, a_other, a_trial, a_placed, a_tried, a_setWays, a_setEnds, a_setCounts, a_standsAt, a_firstOrder, a_could, a_asked) (nI s) := by
  unfold wpX_symmetries
  refine xx_slot_g hs (br_t rfl (xx_findLeast hs hK hT (fun ord le tr pl ti sa fi hR => ?_)))
  obtain ⟨M, st, h1, h2, h3, _⟩ := hR
  have k := h ord le tr pl ti sa fi
  rw [← fo_cnt hK.1 hK.2.2.2 h1, ← h3] at k
  exact k
theorem xx_orbit_b {post : Int32 → SX → Prop} {s n : Nat} {v : Int32} (hs : s < 2) (hn : n ≤ 7) (hz : a_size s = nI n) (hv : ¬ v < 0 → nI n ≤ v) (h : post (-4) (f_count, f_isRead, f_wrongPlace, f_readAtoms, f_last, f_said, f_piled, f_orders, a_text, a_readElement, a_readBond, a_readUsed, a_pile, a_markAtom, a_markOrder, a_size, a_elements, a_bonds, a_near, a_nearOf, a_least, a_other, a_trial, a_placed, a_tried, a_setWays, a_setEnds, a_setCounts, a_standsAt, a_firstOrder, a_could, a_asked)) : wpX_orbit post (f_count, f_isRead, f_wrongPlace, f_readAtoms, f_last, f_said, f_piled, f_orders, a_text, a_readElement, a_readBond, a_readUsed, a_pile, a_markAtom, a_markOrder, a_size, a_elements, a_bonds, a_near, a_nearOf, a_least, a_other, a_trial, a_placed, a_tried, a_setWays, a_setEnds, a_setCounts, a_standsAt, a_firstOrder, a_could, a_asked) (nI s) v := by
  unfold wpX_orbit
  exact xx_slot_g hs (br_t rfl (xx_noAtom_b hs hn hz hv (br_f wk_10 h)))
theorem xx_orbit_g {post : Int32 → SX → Prop} {s n a : Nat} {el : Nat → Nat} {bo : Nat → Nat → Nat} (hs : s < 2) (hK : mo_K n el bo) (hT : mo_T a_size a_elements a_bonds s n el bo) (ha : a < n) (h : ∀ ord le tr pl ti sa fi, post (nI (bb_bs (pe_ob n el bo a) 7)) (f_count, f_isRead, f_wrongPlace, f_readAtoms, f_last, f_said, f_piled, ord, a_text, a_readElement, a_readBond, a_readUsed, a_pile, a_markAtom, a_markOrder, a_size, a_elements, a_bonds, a_near, a_nearOf, le, a_other, tr, pl, ti, a_setWays, a_setEnds, a_setCounts, sa, fi, a_could, a_asked)) : wpX_orbit post (f_count, f_isRead, f_wrongPlace, f_readAtoms, f_last, f_said, f_piled, f_orders, a_text, a_readElement, a_readBond, a_readUsed, a_pile, a_markAtom, a_markOrder, a_size, a_elements, a_bonds, a_near, a_nearOf, a_least, a_other, a_trial, a_placed, a_tried, a_setWays, a_setEnds, a_setCounts, a_standsAt, a_firstOrder, a_could, a_asked) (nI s) (nI a) := by
  have hn := hK.1
  unfold wpX_orbit
  refine xx_slot_g hs (br_t rfl (xx_noAtom_g hs hn hT.1 ha (br_t rfl (xx_findLeast hs hK hT (fun ord le tr pl ti sa fi hR => ?_)))))
  obtain ⟨M, st, h1, h2, h3, h4, h5, h6, h7⟩ := hR
  obtain ⟨m1, m2⟩ := pe_D_m.mp h1
  obtain ⟨i0, hi0, ei0⟩ := pe_m_at M (pe_all m1 m2 ha)
  have hst : ∀ b, st i0 b = pe_ob n el bo a b := fun b => by
    rw [Bool.eq_iff_iff, h6]
    exact fo_orb hn hK.2.2.2 h1 (by omega) ei0
  have B : ∀ d b, b + d = 7 → wX_orbit_73 post (nI i0) f_count f_isRead f_wrongPlace f_readAtoms f_last f_said f_piled ord a_text a_readElement a_readBond a_readUsed a_pile a_markAtom a_markOrder a_size a_elements a_bonds a_near a_nearOf le a_other tr pl ti a_setWays a_setEnds a_setCounts sa fi a_could a_asked (d + 1) (nI (bb_bs (pe_ob n el bo a) b)) (nI b) := by
    intro d
    induction d with
    | zero =>
      intro b hb
      have e : b = 7 := by omega
      subst e
      exact pk_le 7 7 (fun _ => h ord le tr pl ti sa fi) (fun z => absurd z (by omega))
    | succ d ih =>
      intro b hb
      have k := ih (b + 1) (by omega)
      have hv : sa ((7 * nI i0) + nI b).toNatClampNeg = nI (pe_ob n el bo a b).toNat := by rw [wk_c (7 * i0 + b) (h5 i0 b (by omega) (by omega)) (bb_ix i0 b), hst]
      refine pk_le 7 b (fun z => absurd z (by omega)) (fun _ => wk_i (7 * i0 + b) ?_ (by omega) (bb_ix i0 b))
      rw [hv]
      cases hz : pe_ob n el bo a b with
      | false =>
        rw [bb_bs_f _ _ hz] at k
        exact br_t rfl (nm_r (wk_p b) k)
      | true =>
        rw [bb_bs_t _ _ hz] at k
        exact br_f (by decide) (nm_r (by rw [bb_shl b (by omega), bb_or]) (nm_r (wk_p b) k))
  have A : ∀ d p, p + d = n → wX_orbit_32 post (nI s) (nI a) f_count f_isRead f_wrongPlace f_readAtoms f_last f_said f_piled ord a_text a_readElement a_readBond a_readUsed a_pile a_markAtom a_markOrder a_size a_elements a_bonds a_near a_nearOf le a_other tr pl ti a_setWays a_setEnds a_setCounts sa fi a_could a_asked (d + 1) (nI (if i0 < p then i0 else 0)) (nI p) := by
    intro d
    induction d with
    | zero =>
      intro p hp
      have e : p = n := by omega
      subst e
      rw [if_pos (by omega)]
      exact wk_i s (pk_le p p (fun _ => Exists.intro 8 (B 7 0 (by omega))) (fun z => absurd z (by omega)) (wk_c s hT.1))
    | succ d ih =>
      intro p hp
      have k := ih (p + 1) (by omega)
      have hpn : pe_at M p < n := m2.2 _ (pe_at_m M p (by omega))
      refine wk_i s (pk_le n p (fun z => absurd z (by omega)) (fun _ => wk_i p (pk_eq (pe_at M p) a (fun e => ?_) (fun e => ?_) (wk_c p (h7 p (by omega))))) (wk_c s hT.1))
      · have : p = i0 := pe_inj M m2.1 p i0 (by omega) hi0 (by rw [e, ei0])
        rw [if_pos (by omega), ← this] at k
        exact nm_r (wk_p p) k
      · have hne : p ≠ i0 := fun z => e (by rw [z]; exact ei0)
        have e2 : (if i0 < p + 1 then i0 else 0) = (if i0 < p then i0 else 0) := by
          by_cases y : i0 < p
          · rw [if_pos y, if_pos (by omega)]
          · rw [if_neg y, if_neg (by omega)]
        rw [e2] at k
        exact nm_r (wk_p p) k
  exact Exists.intro (n + 1) (A n 0 (by omega))
theorem xo_t : ∀ n, n < 8 → (nI n * (nI n + 1)) / 2 = nI (fo_t n) := fun n hn => bb_tri n hn
theorem xx_form_g {post : Int32 → SX → Prop} {s n i : Nat} {el : Nat → Nat} {bo : Nat → Nat → Nat} (hs : s < 2) (hK : mo_K n el bo) (hT : mo_T a_size a_elements a_bonds s n el bo) (hi : i < fo_t n) (h : ∀ M ord le tr pl ti sa fi, fo_mn n el bo M → post (nI (fo_F el bo M i)) (f_count, f_isRead, f_wrongPlace, f_readAtoms, f_last, f_said, f_piled, ord, a_text, a_readElement, a_readBond, a_readUsed, a_pile, a_markAtom, a_markOrder, a_size, a_elements, a_bonds, a_near, a_nearOf, le, a_other, tr, pl, ti, a_setWays, a_setEnds, a_setCounts, sa, fi, a_could, a_asked)) : wpX_form post (f_count, f_isRead, f_wrongPlace, f_readAtoms, f_last, f_said, f_piled, f_orders, a_text, a_readElement, a_readBond, a_readUsed, a_pile, a_markAtom, a_markOrder, a_size, a_elements, a_bonds, a_near, a_nearOf, a_least, a_other, a_trial, a_placed, a_tried, a_setWays, a_setEnds, a_setCounts, a_standsAt, a_firstOrder, a_could, a_asked) (nI s) (nI i) := by
  have hn := hK.1
  have ht := fo_t28 n (by omega)
  unfold wpX_form
  refine xx_slot_g hs (br_t rfl (wk_i s (nm_r (wk_c s hT.1) (br_f (nI_pos (by omega)) (And.intro wk_n0 (pk_lt i (fo_t n) (fun _ => xx_findLeast hs hK hT (fun ord le tr pl ti sa fi hR => ?_)) (fun z => absurd z (by omega)) rfl (bb_tri n (by omega))))))))
  obtain ⟨M, st, h1, h2, h3, h4, _⟩ := hR
  refine wk_i i ?_
  rw [wk_c i (h4 i (by omega))]
  exact h M ord le tr pl ti sa fi ⟨h1, h2⟩
theorem xx_form_b {post : Int32 → SX → Prop} {s n : Nat} {v : Int32} (hs : s < 2) (hn : n ≤ 7) (hz : a_size s = nI n) (hv : ¬ v < 0 → nI (fo_t n) ≤ v) (h : post (-4) (f_count, f_isRead, f_wrongPlace, f_readAtoms, f_last, f_said, f_piled, f_orders, a_text, a_readElement, a_readBond, a_readUsed, a_pile, a_markAtom, a_markOrder, a_size, a_elements, a_bonds, a_near, a_nearOf, a_least, a_other, a_trial, a_placed, a_tried, a_setWays, a_setEnds, a_setCounts, a_standsAt, a_firstOrder, a_could, a_asked)) : wpX_form post (f_count, f_isRead, f_wrongPlace, f_readAtoms, f_last, f_said, f_piled, f_orders, a_text, a_readElement, a_readBond, a_readUsed, a_pile, a_markAtom, a_markOrder, a_size, a_elements, a_bonds, a_near, a_nearOf, a_least, a_other, a_trial, a_placed, a_tried, a_setWays, a_setEnds, a_setCounts, a_standsAt, a_firstOrder, a_could, a_asked) (nI s) v := by
  unfold wpX_form
  refine xx_slot_g hs (br_t rfl (wk_i s (nm_r (wk_c s hz) (br_c (fun _ => h) (fun z => And.intro wk_n0 (br_f ?_ h))))))
  rw [bb_tri n (by omega)]
  exact Int32.not_lt.mpr (hv z)
theorem xx_alike_n {post : Int32 → SX → Prop} {n0 n1 : Nat} (h0 : a_size 0 = nI n0) (h1 : a_size 1 = nI n1) (hn0 : n0 ≤ 7) (hn1 : n1 ≤ 7) (hne : n0 ≠ n1) (h : post 0 (f_count, f_isRead, f_wrongPlace, f_readAtoms, f_last, f_said, f_piled, f_orders, a_text, a_readElement, a_readBond, a_readUsed, a_pile, a_markAtom, a_markOrder, a_size, a_elements, a_bonds, a_near, a_nearOf, a_least, a_other, a_trial, a_placed, a_tried, a_setWays, a_setEnds, a_setCounts, a_standsAt, a_firstOrder, a_could, a_asked)) : wpX_alike post (f_count, f_isRead, f_wrongPlace, f_readAtoms, f_last, f_said, f_piled, f_orders, a_text, a_readElement, a_readBond, a_readUsed, a_pile, a_markAtom, a_markOrder, a_size, a_elements, a_bonds, a_near, a_nearOf, a_least, a_other, a_trial, a_placed, a_tried, a_setWays, a_setEnds, a_setCounts, a_standsAt, a_firstOrder, a_could, a_asked) := by
  unfold wpX_alike
  exact pk_eq n0 n1 (fun z => absurd z hne) (fun _ => h) h0 h1
theorem xx_alike {post : Int32 → SX → Prop} {n : Nat} {el0 el1 : Nat → Nat} {bo0 bo1 : Nat → Nat → Nat} (hK0 : mo_K n el0 bo0) (hK1 : mo_K n el1 bo1) (hT0 : mo_T a_size a_elements a_bonds 0 n el0 bo0) (hT1 : mo_T a_size a_elements a_bonds 1 n el1 bo1)
    (h : ∀ ord le ot tr pl ti sa fi, post (nI (pe_al n el0 bo0 el1 bo1).toNat) (f_count, f_isRead, f_wrongPlace, f_readAtoms, f_last, f_said, f_piled, ord, a_text, a_readElement, a_readBond, a_readUsed, a_pile, a_markAtom, a_markOrder, a_size, a_elements, a_bonds, a_near, a_nearOf, le, ot, tr, pl, ti, a_setWays, a_setEnds, a_setCounts, sa, fi, a_could, a_asked)) : wpX_alike post (f_count, f_isRead, f_wrongPlace, f_readAtoms, f_last, f_said, f_piled, f_orders, a_text, a_readElement, a_readBond, a_readUsed, a_pile, a_markAtom, a_markOrder, a_size, a_elements, a_bonds, a_near, a_nearOf, a_least, a_other, a_trial, a_placed, a_tried, a_setWays, a_setEnds, a_setCounts, a_standsAt, a_firstOrder, a_could, a_asked) := by
  have hn := hK0.1
  unfold wpX_alike
  refine br_t (hT0.1.trans hT1.1.symm) (xx_findLeast (s := 0) (by omega) hK0 hT0 (fun ord le tr pl ti sa fi hR => ?_))
  obtain ⟨M, st, h1, h2, _, h4, _⟩ := hR
  have C : ∀ ord2 le2 ot tr2 pl2 ti2 sa2 fi2 N, fo_mn n el1 bo1 N → (∀ k, k < 28 → le2 k = nI (fo_F el1 bo1 N k)) → (∀ k, k < 28 → ot k = nI (fo_F el0 bo0 M k)) → ∀ d k, k + d = 28 → wX_alike_57 post f_count f_isRead f_wrongPlace f_readAtoms f_last f_said f_piled ord2 a_text a_readElement a_readBond a_readUsed a_pile a_markAtom a_markOrder a_size a_elements a_bonds a_near a_nearOf le2 ot tr2 pl2 ti2 a_setWays a_setEnds a_setCounts sa2 fi2 a_could a_asked (d + 1) (nI (!bb_ex (fun j => decide (fo_F el0 bo0 M j ≠ fo_F el1 bo1 N j)) k).toNat) (nI k) := by
    intro ord2 le2 ot tr2 pl2 ti2 sa2 fi2 N hN hle hot d
    have hsm : ∀ (el : Nat → Nat) (bo : Nat → Nat → Nat) (Q : List Nat), mo_K n el bo → Q ∈ pe_D n → ∀ k, k < 28 → fo_F el bo Q k ≤ 9 := fun el bo Q hK hQ k hk => by
      obtain ⟨q1, q2⟩ := pe_D_m.mp hQ
      unfold fo_F
      by_cases z : k < fo_t Q.length
      · rw [if_pos z]
        have hi := fo_kd n (by omega) k hk (by rw [← q1]; exact z)
        have hj := (fo_k k hk).2.2.1
        generalize fo_i k = i at hi hj
        generalize k - fo_t i = j at hj
        have ha : pe_at Q i < n := q2.2 _ (pe_at_m Q i (by omega))
        cases j with
        | zero => exact Nat.le_trans (hK.2.1 _ ha) (by omega)
        | succ j => exact Nat.le_trans (hK.2.2.1 _ _ ha (q2.2 _ (pe_at_m Q j (by omega)))) (by omega)
      · rw [if_neg z]; exact Nat.le_refl _
    induction d with
    | zero =>
      intro k hk
      have e : k = 28 := by omega
      subst e
      have kk := h ord2 le2 ot tr2 pl2 ti2 sa2 fi2
      have e2 : (!bb_ex (fun j => decide (fo_F el0 bo0 M j ≠ fo_F el1 bo1 N j)) 28) = pe_al n el0 bo0 el1 bo1 := by
        rw [Bool.eq_iff_iff]
        exact fo_eb_i.trans (fo_alk hn hK0.2.2.2 hK1.2.2.2 ⟨h1, h2⟩ hN)
      rw [e2]
      refine pk_le 28 28 (fun _ => And.intro ?_ kk) (fun z => absurd z (by omega))
      cases pe_al n el0 bo0 el1 bo1 <;> rfl
    | succ d ih =>
      intro k hk
      have kk := ih (k + 1) (by omega)
      rw [bb_ex_s, Bool.not_or] at kk
      refine pk_le 28 k (fun z => absurd z (by omega)) (fun _ => ?_)
      cases hz : !bb_ex (fun j => decide (fo_F el0 bo0 M j ≠ fo_F el1 bo1 N j)) k with
      | false =>
        rw [hz] at kk
        exact br_t rfl (nm_r (wk_p k) kk)
      | true =>
        rw [hz] at kk
        have s1 := hsm el0 bo0 M hK0 h1 k (by omega)
        have s2 := hsm el1 bo1 N hK1 hN.1 k (by omega)
        refine br_f (by decide) (wk_i k (wk_i k (pk_eq (fo_F el0 bo0 M k) (fo_F el1 bo1 N k) (fun e => ?_) (fun e => ?_) (wk_c k (hot k (by omega))) (wk_c k (hle k (by omega))))))
        · rw [decide_eq_false (fun y => y e)] at kk
          exact nm_r (wk_p k) kk
        · rw [decide_eq_true e] at kk
          exact nm_r (wk_p k) kk
  have A : ∀ d k ot, k + d = 28 → (∀ j, j < k → ot j = nI (fo_F el0 bo0 M j)) → wX_alike_24 post f_count f_isRead f_wrongPlace f_readAtoms f_last f_said f_piled ord (d + 1) (nI k) a_text a_readElement a_readBond a_readUsed a_pile a_markAtom a_markOrder a_size a_elements a_bonds a_near a_nearOf le ot tr pl ti a_setWays a_setEnds a_setCounts sa fi a_could a_asked := by
    intro d
    induction d with
    | zero =>
      intro k ot hk hot
      refine pk_le 28 k (fun _ => xx_findLeast (s := 1) (by omega) hK1 hT1 (fun ord2 le2 tr2 pl2 ti2 sa2 fi2 hR2 => ?_)) (fun z => absurd z (by omega))
      obtain ⟨N, st2, g1, g2, _, g4, _⟩ := hR2
      exact Exists.intro 29 (C ord2 le2 ot tr2 pl2 ti2 sa2 fi2 N ⟨g1, g2⟩ g4 (fun j hj => hot j (by omega)) 28 0 (by omega))
    | succ d ih =>
      intro k ot hk hot
      exact pk_le 28 k (fun z => absurd z (by omega)) (fun _ => wk_i k (wk_v k (nI (fo_F el0 bo0 M k)) (wk_c k (h4 k (by omega))) (nm_r (wk_p k) (ih (k + 1) _ (by omega) (fun j hj => by
        by_cases e : j = k
        · rw [e, pk_us]
        · rw [pk_un e]; exact hot j (by omega))))))
  exact Exists.intro 29 (A 28 0 a_other (by omega) (fun j hj => absurd hj (by omega)))
end
end
section
/-! one molecule in another: the component's search over an abstract loop -/
abbrev XD : Type := Int32 × Int32 × XA × XA
theorem xd_lo {C : Nat} (hC : C < 128) (h0 : C ≠ 0) (g : Nat → Nat) : bb_sm (fun b => bif C.testBit b then g b else 0) 7 = g (bb_lo C) + bb_sm (fun b => bif (bb_cl C (bb_lo C)).testBit b then g b else 0) 7 := by
  have hl := bb_lo_7 hC h0
  have key := bb_sm_up (f := fun b => bif C.testBit b then g b else 0) (g := fun b => bif (bb_cl C (bb_lo C)).testBit b then g b else 0) (i0 := bb_lo C) (d := g (bb_lo C)) 7 hl (fun i hi hn => by rw [bb_cl_b hi, decide_eq_false hn]; simp) (by rw [bb_cl_b hl, bb_lo_b hC h0, decide_eq_true rfl]; simp)
  rw [key]; omega
theorem xd_cn {C : Nat} (hC : C < 128) (h0 : C ≠ 0) : bb_cn C.testBit 7 = bb_cn (bb_cl C (bb_lo C)).testBit 7 + 1 := by
  have hl := bb_lo_7 hC h0
  refine bb_cn_up (i0 := bb_lo C) 7 hl (fun i hi hn => ?_) (bb_lo_b hC h0) ?_
  · rw [bb_cl_b hi, decide_eq_false hn]; simp
  · rw [bb_cl_b hl, decide_eq_true rfl]; simp
theorem xd_sub {C B : Nat} (h : ∀ b, C.testBit b = true → B.testBit b = true) : ∀ b, (bb_cl C (bb_lo C)).testBit b = true → B.testBit b = true := fun b hb => by
  have h7 := bb_lt7 (bb_cl_lt _ _) hb
  rw [bb_cl_b h7, Bool.and_eq_true] at hb
  exact h b hb.1
def xd_c : Nat → Nat
  | 0 => 1
  | e + 1 => 1 + (e + 1) * (1 + xd_c e)
theorem xd_c_s (e : Nat) : xd_c (e + 1) = 1 + (e + 1) * (1 + xd_c e) := rfl
section
variable (n0 : Nat) (el0 : Nat → Nat) (bo0 : Nat → Nat → Nat) (n1 : Nat) (el1 : Nat → Nat) (bo1 : Nat → Nat → Nat)
def xd_rows (P : List Nat) (k : Nat) (co : XA) : Prop := ∀ i c, i < k → i ≤ c → c < n1 → co (7 * i + c) = nI (bb_bs (fd_c n0 el0 bo0 n1 el1 bo1 (P.take i) c) 7)
def xd_N (P : List Nat) (τ : Nat → Nat) (S C : Nat) (s : XD) : Prop := ∃ ti co, s = (nI S, nI P.length, ti, co) ∧ ti P.length = nI C ∧ (∀ i, i < P.length → ti i = nI (τ i)) ∧ xd_rows n0 el0 bo0 n1 el1 bo1 P (P.length + 1) co
def xd_U (P : List Nat) (τ : Nat → Nat) (S : Nat) (s : XD) : Prop := ∃ ti co, s = (nI S, nI P.length + (-1), ti, co) ∧ (∀ i, i < P.length → ti i = nI (τ i)) ∧ xd_rows n0 el0 bo0 n1 el1 bo1 P P.length co
def xd_set (P : List Nat) (c : Nat) : Nat := bb_bs (fd_c n0 el0 bo0 n1 el1 bo1 P c) 7
theorem xd_set_cn {P : List Nat} {c : Nat} (hn0 : n0 ≤ 7) (hQ : pe_Q n0 P) : bb_cn (xd_set n0 el0 bo0 n1 el1 bo1 P c).testBit 7 + P.length ≤ 7 := by
  rw [fd_cl]
  have hm : ∀ x, x ∈ (List.range' 0 7).filter (xd_set n0 el0 bo0 n1 el1 bo1 P c).testBit → x < 7 ∧ x ∉ P := fun x hx => by
    rw [List.mem_filter, List.mem_range'_1] at hx
    have h7 : x < 7 := by omega
    have h2 := hx.2
    unfold xd_set at h2
    rw [bb_bs_b _ h7] at h2
    exact ⟨h7, ((fd_c_i n0 el0 bo0 n1 el1 bo1).mp h2).2.1⟩
  rw [← List.length_append]
  refine pa_nd_len (List.nodup_append.mpr ⟨List.Pairwise.filter _ List.nodup_range', hQ.1, fun x hx y hy e => (hm x hx).2 (e ▸ hy)⟩) (fun x hx => ?_)
  rcases List.mem_append.mp hx with z | z
  · exact (hm x z).1
  · have := hQ.2 x z; omega
theorem xd_U_N {P : List Nat} {b : Nat} {τ : Nat → Nat} {S : Nat} {s : XD} (h : xd_U n0 el0 bo0 n1 el1 bo1 (P ++ [b]) τ S s) : xd_N n0 el0 bo0 n1 el1 bo1 P τ S (τ P.length) s := by
  obtain ⟨ti, co, e, h1, h2⟩ := h
  have hl : (P ++ [b]).length = P.length + 1 := by rw [List.length_append]; rfl
  refine ⟨ti, co, by rw [e, hl, pk_m1], h1 _ (by omega), fun i hi => h1 i (by omega), fun i c hi hic hc => ?_⟩
  rw [h2 i c (by omega) hic hc, List.take_append_of_le_length (by omega)]
theorem xd_dfs {W : Nat → Int32 → XD → Prop} {lim : Nat} (hn0 : n0 ≤ 7) (hn1 : n1 ≤ 7) (hs0 : ∀ a b, a < n0 → b < n0 → bo0 a b = bo0 b a) (hs1 : pe_sd n1 bo1)
    (rZ : ∀ P τ S s, P.length < n1 → xd_N n0 el0 bo0 n1 el1 bo1 P τ S 0 s → go_R lim W 1 s (xd_U n0 el0 bo0 n1 el1 bo1 P τ S))
    (r1 : ∀ P τ S C s, P.length + 1 = n1 → C < 128 → C ≠ 0 → xd_N n0 el0 bo0 n1 el1 bo1 P τ S C s → go_R lim W 1 s (xd_N n0 el0 bo0 n1 el1 bo1 P τ (S + 1) (bb_cl C (bb_lo C))))
    (r2 : ∀ P τ S C s, P.length + 1 < n1 → C < 128 → C ≠ 0 → bb_lo C < n0 → xd_N n0 el0 bo0 n1 el1 bo1 P τ S C s → go_R lim W 1 s (fun s' => ((∃ c, P.length < c ∧ c < n1 ∧ bb_bs (fd_c n0 el0 bo0 n1 el1 bo1 (P ++ [bb_lo C]) c) 7 = 0) ∧ xd_N n0 el0 bo0 n1 el1 bo1 P τ S (bb_cl C (bb_lo C)) s') ∨ xd_N n0 el0 bo0 n1 el1 bo1 (P ++ [bb_lo C]) (rd_u τ P.length (bb_cl C (bb_lo C))) S (xd_set n0 el0 bo0 n1 el1 bo1 (P ++ [bb_lo C]) (P.length + 1)) s')) :
    ∀ (r : Nat) (P : List Nat) (τ : Nat → Nat) (S e : Nat) (s : XD), P.length + (r + 1) = n1 → e + P.length = 7 → fd_M n0 el0 bo0 el1 bo1 P → xd_N n0 el0 bo0 n1 el1 bo1 P τ S (xd_set n0 el0 bo0 n1 el1 bo1 P P.length) s → go_R lim W (xd_c e) s (xd_U n0 el0 bo0 n1 el1 bo1 P τ (S + fd_F n0 el0 bo0 el1 bo1 (r + 1) P)) := by
  intro r
  induction r with
  | zero =>
    intro P τ S e s hP he hM h
    have B : ∀ k C S s, C < 128 → bb_cn C.testBit 7 = k → xd_N n0 el0 bo0 n1 el1 bo1 P τ S C s → go_R lim W (k + 1) s (xd_U n0 el0 bo0 n1 el1 bo1 P τ (S + bb_sm (fun b => bif C.testBit b then fd_F n0 el0 bo0 el1 bo1 0 (P ++ [b]) else 0) 7)) := by
      intro k
      induction k with
      | zero =>
        intro C S s hC hk h
        have hC0 : C = 0 := bb_ext hC (by decide) (fun i hi => by rw [Nat.zero_testBit]; exact bb_cn_none 7 hk i hi)
        subst hC0
        rw [bb_sm_z 7 (fun i _ => by rw [Nat.zero_testBit]; rfl), Nat.add_zero]
        exact rZ P τ S s (by omega) h
      | succ k ih =>
        intro C S s hC hk h
        have hC0 : C ≠ 0 := fun z => by rw [z, bb_cn_z 7 (fun i _ => Nat.zero_testBit i)] at hk; omega
        rw [xd_lo hC hC0]
        refine go_m (go_s (r1 P τ S C s hP hC hC0 h) (fun s' hs' => ih _ (S + 1) s' (bb_cl_lt _ _) (by have := xd_cn hC hC0; omega) hs')) (by omega) (fun s' hs' => ?_)
        rw [← Nat.add_assoc]; exact hs'
    have hset : xd_set n0 el0 bo0 n1 el1 bo1 P P.length < 128 := bb_bs_lt _ 7
    have hcn := xd_set_cn n0 el0 bo0 n1 el1 bo1 (c := P.length) hn0 hM.1
    rw [fd_sum n0 el0 bo0 n1 el1 bo1 hn0 hs0 hs1 hM hP]
    refine go_m (B _ _ S s hset rfl h) ?_ (fun _ z => z)
    cases e with
    | zero => have : xd_c 0 = 1 := rfl; omega
    | succ e =>
      rw [xd_c_s]
      have : (e + 1) * 1 ≤ (e + 1) * (1 + xd_c e) := Nat.mul_le_mul_left _ (by omega)
      omega
  | succ r ihr =>
    intro P τ S e s hP he hM h
    obtain ⟨e', rfl⟩ : ∃ e', e = e' + 1 := ⟨e - 1, by omega⟩
    have B : ∀ k C S s, C < 128 → bb_cn C.testBit 7 = k → (∀ b, C.testBit b = true → (xd_set n0 el0 bo0 n1 el1 bo1 P P.length).testBit b = true) → xd_N n0 el0 bo0 n1 el1 bo1 P τ S C s → go_R lim W (k * (1 + xd_c e') + 1) s (xd_U n0 el0 bo0 n1 el1 bo1 P τ (S + bb_sm (fun b => bif C.testBit b then fd_F n0 el0 bo0 el1 bo1 (r + 1) (P ++ [b]) else 0) 7)) := by
      intro k
      induction k with
      | zero =>
        intro C S s hC hk _ h
        have hC0 : C = 0 := bb_ext hC (by decide) (fun i hi => by rw [Nat.zero_testBit]; exact bb_cn_none 7 hk i hi)
        subst hC0
        rw [bb_sm_z 7 (fun i _ => by rw [Nat.zero_testBit]; rfl), Nat.add_zero]
        refine go_m (rZ P τ S s (by omega) h) (by omega) (fun _ z => z)
      | succ k ih =>
        intro C S s hC hk hsub h
        have hC0 : C ≠ 0 := fun z => by rw [z, bb_cn_z 7 (fun i _ => Nat.zero_testBit i)] at hk; omega
        have hl7 := bb_lo_7 hC hC0
        have hcb := hsub _ (bb_lo_b hC hC0)
        unfold xd_set at hcb
        rw [bb_bs_b _ hl7] at hcb
        obtain ⟨hb0, hok⟩ := fd_c_ok n0 el0 bo0 n1 el1 bo1 hcb
        have hMb := fd_M_a n0 el0 bo0 el1 bo1 hM hb0 hok
        have hlb : (P ++ [bb_lo C]).length = P.length + 1 := by rw [List.length_append]; rfl
        rw [xd_lo hC hC0, ← Nat.add_assoc]
        have step : ∀ s', (((∃ c, P.length < c ∧ c < n1 ∧ bb_bs (fd_c n0 el0 bo0 n1 el1 bo1 (P ++ [bb_lo C]) c) 7 = 0) ∧ xd_N n0 el0 bo0 n1 el1 bo1 P τ S (bb_cl C (bb_lo C)) s') ∨ xd_N n0 el0 bo0 n1 el1 bo1 (P ++ [bb_lo C]) (rd_u τ P.length (bb_cl C (bb_lo C))) S (xd_set n0 el0 bo0 n1 el1 bo1 (P ++ [bb_lo C]) (P.length + 1)) s') → go_R lim W (xd_c e') s' (xd_N n0 el0 bo0 n1 el1 bo1 P τ (S + fd_F n0 el0 bo0 el1 bo1 (r + 1) (P ++ [bb_lo C])) (bb_cl C (bb_lo C))) := fun s' hs' => by
          rcases hs' with ⟨⟨c, hc1, hc2, hc3⟩, z⟩ | z
          · have hd := fd_dead n0 el0 bo0 n1 el1 bo1 (P := P ++ [bb_lo C]) (r := r + 1) (c := c) hn0 hs0 hs1 hMb (by omega) (by omega) hc2 hc3
            rw [hd, Nat.add_zero]
            exact go_m (go_0 z) (Nat.zero_le _) (fun _ y => y)
          · rw [← hlb] at z
            refine go_m (ihr (P ++ [bb_lo C]) (rd_u τ P.length (bb_cl C (bb_lo C))) S e' s' (by omega) (by omega) hMb z) (Nat.le_refl _) (fun s'' hs'' => ?_)
            have y := xd_U_N n0 el0 bo0 n1 el1 bo1 hs''
            rw [rd_us] at y
            obtain ⟨ti, co, q1, q2, q3, q4⟩ := y
            exact ⟨ti, co, q1, q2, fun i hi => by rw [q3 i hi, rd_un (by omega)], q4⟩
        refine go_m (go_s (r2 P τ S C s (by omega) hC hC0 hb0 h) (fun s' hs' => go_s (step s' hs') (fun s'' hs'' => ih _ _ s'' (bb_cl_lt _ _) (by have := xd_cn hC hC0; omega) (xd_sub hsub) hs''))) ?_ (fun _ z => z)
        rw [Nat.succ_mul]; omega
    have hset : xd_set n0 el0 bo0 n1 el1 bo1 P P.length < 128 := bb_bs_lt _ 7
    have hcn := xd_set_cn n0 el0 bo0 n1 el1 bo1 (c := P.length) hn0 hM.1
    rw [fd_sum n0 el0 bo0 n1 el1 bo1 hn0 hs0 hs1 hM hP]
    refine go_m (B _ _ S s hset rfl (fun _ z => z) h) ?_ (fun _ z => z)
    rw [xd_c_s]
    have : bb_cn (xd_set n0 el0 bo0 n1 el1 bo1 P P.length).testBit 7 * (1 + xd_c e') ≤ (e' + 1) * (1 + xd_c e') := Nat.mul_le_mul_right _ (by omega)
    omega
end
end
section
theorem xe_O {n o a : Nat} {bo : Nat → Nat → Nat} (hn : n ≤ 7) (ha : a < n) : bb_cn (bb_bs (mo_O n bo o a) 7).testBit 7 = bb_cn (fun x => decide (bo a x = o + 1)) n := by
  have e1 : bb_cn (bb_bs (mo_O n bo o a) 7).testBit 7 = bb_cn (mo_O n bo o a) 7 := bb_cn_cg 7 (fun i hi => bb_bs_b _ hi)
  rw [e1]
  unfold bb_cn
  rw [bb_sm_ext (m := n) 7 hn (fun i h1 _ => by rw [show mo_O n bo o a i = false from decide_eq_false (by omega)]; rfl)]
  refine bb_sm_cg n (fun i hi => ?_)
  congr 1
  unfold mo_O
  have : (a < n ∧ i < n ∧ bo a i = o + 1) ↔ (bo a i = o + 1) := ⟨fun z => z.2.2, fun z => ⟨ha, hi, z⟩⟩
  simp only [this]
section
variable {f_count f_isRead f_wrongPlace f_readAtoms f_last f_said f_piled f_orders : Int32} {a_text a_readElement a_readBond a_readUsed a_pile a_markAtom a_markOrder a_size a_elements a_bonds a_near a_nearOf a_least a_other a_trial a_placed a_tried a_setWays a_setEnds a_setCounts a_standsAt a_firstOrder a_could a_asked : Nat → Int32}
theorem xx_enough {post : Int32 → Prop} {n0 n1 a b : Nat} {bo0 bo1 : Nat → Nat → Nat} (hn0 : n0 ≤ 7) (hn1 : n1 ≤ 7) (ha : a < n1) (hb : b < n0) (hA : ∀ o x, o < 3 → x < 7 → a_asked (7 * o + x) = nI (bb_bs (mo_O n1 bo1 o x) 7)) (hN : ∀ o x, o < 3 → x < 7 → a_nearOf (7 * o + x) = nI (bb_bs (mo_O n0 bo0 o x) 7)) (h : post (nI (fd_en n0 bo0 n1 bo1 a b).toNat)) : wpX_enough post (f_count, f_isRead, f_wrongPlace, f_readAtoms, f_last, f_said, f_piled, f_orders, a_text, a_readElement, a_readBond, a_readUsed, a_pile, a_markAtom, a_markOrder, a_size, a_elements, a_bonds, a_near, a_nearOf, a_least, a_other, a_trial, a_placed, a_tried, a_setWays, a_setEnds, a_setCounts, a_standsAt, a_firstOrder, a_could, a_asked) (nI a) (nI b) := by
  have L : ∀ d o, o + d = 3 → wX_enough_5 post (nI a) (nI b) f_count f_isRead f_wrongPlace f_readAtoms f_last f_said f_piled f_orders a_text a_readElement a_readBond a_readUsed a_pile a_markAtom a_markOrder a_size a_elements a_bonds a_near a_nearOf a_least a_other a_trial a_placed a_tried a_setWays a_setEnds a_setCounts a_standsAt a_firstOrder a_could a_asked (d + 1) (nI (!bb_ex (fun o => decide (bb_cn (fun y => decide (bo0 b y = o + 1)) n0 < bb_cn (fun x => decide (bo1 a x = o + 1)) n1)) o).toNat) (nI o) := by
    intro d
    induction d with
    | zero =>
      intro o ho
      have e : o = 3 := by omega
      subst e
      refine pk_le 3 3 (fun _ => And.intro ?_ h) (fun z => absurd z (by omega))
      cases (!bb_ex (fun o => decide (bb_cn (fun y => decide (bo0 b y = o + 1)) n0 < bb_cn (fun x => decide (bo1 a x = o + 1)) n1)) 3) <;> rfl
    | succ d ih =>
      intro o ho
      have k := ih (o + 1) (by omega)
      rw [bb_ex_s, Bool.not_or] at k
      refine pk_le 3 o (fun z => absurd z (by omega)) (fun _ => ?_)
      cases hz : !bb_ex (fun o => decide (bb_cn (fun y => decide (bo0 b y = o + 1)) n0 < bb_cn (fun x => decide (bo1 a x = o + 1)) n1)) o with
      | false =>
        rw [hz] at k
        exact br_t rfl (nm_r (wk_p o) k)
      | true =>
        rw [hz] at k
        have c0 := bb_cn_le (fun y => decide (bo0 b y = o + 1)) n0
        have c1 := bb_cn_le (fun x => decide (bo1 a x = o + 1)) n1
        refine br_f (by decide) (wk_i (7 * o + a) ?_ (by omega) (bb_ix o a))
        rw [wk_c (7 * o + a) (hA o a (by omega) (by omega)) (bb_ix o a)]
        refine xx_sizeOf (bb_bs_lt _ 7) (wk_i (7 * o + b) ?_ (by omega) (bb_ix o b))
        rw [wk_c (7 * o + b) (hN o b (by omega) (by omega)) (bb_ix o b)]
        refine xx_sizeOf (bb_bs_lt _ 7) ?_
        rw [xe_O hn1 ha, xe_O hn0 hb]
        refine pk_lt _ _ (fun e => ?_) (fun e => ?_)
        · rw [decide_eq_true e] at k
          exact nm_r (wk_p o) k
        · rw [decide_eq_false (by omega)] at k
          exact nm_r (wk_p o) k
  unfold wpX_enough
  exact Exists.intro 4 (L 3 0 (by omega))
theorem xx_startCould {post : SX → Prop} {n0 n1 : Nat} {el0 el1 : Nat → Nat} {bo0 bo1 : Nat → Nat → Nat} (hK0 : mo_K n0 el0 bo0) (hK1 : mo_K n1 el1 bo1) (hT0 : mo_T a_size a_elements a_bonds 0 n0 el0 bo0) (hT1 : mo_T a_size a_elements a_bonds 1 n1 el1 bo1)
    (h : ∀ nr nro ak co, (∀ o x, o < 3 → x < 7 → nro (7 * o + x) = nI (bb_bs (mo_O n0 bo0 o x) 7)) → (∀ c, c < n1 → co c = nI (xd_set n0 el0 bo0 n1 el1 bo1 [] c)) → post (f_count, f_isRead, f_wrongPlace, f_readAtoms, f_last, f_said, f_piled, f_orders, a_text, a_readElement, a_readBond, a_readUsed, a_pile, a_markAtom, a_markOrder, a_size, a_elements, a_bonds, nr, nro, a_least, a_other, a_trial, a_placed, a_tried, a_setWays, a_setEnds, a_setCounts, a_standsAt, a_firstOrder, co, ak)) : wpX_startCould post (f_count, f_isRead, f_wrongPlace, f_readAtoms, f_last, f_said, f_piled, f_orders, a_text, a_readElement, a_readBond, a_readUsed, a_pile, a_markAtom, a_markOrder, a_size, a_elements, a_bonds, a_near, a_nearOf, a_least, a_other, a_trial, a_placed, a_tried, a_setWays, a_setEnds, a_setCounts, a_standsAt, a_firstOrder, a_could, a_asked) := by
  have hn0 := hK0.1
  have hn1 := hK1.1
  unfold wpX_startCould
  refine xx_findNear (s := 1) (by omega) hK1 hT1 (fun nr1 nro1 hN1 => ?_)
  have fc : ∀ a b, b < n0 → fd_c n0 el0 bo0 n1 el1 bo1 [] a b = (decide (el1 a = el0 b) && fd_en n0 bo0 n1 bo1 a b) := fun a b hb => by
    unfold fd_c
    rw [decide_eq_true hb]
    show (true && !false && decide (el1 a = el0 b) && fd_en n0 bo0 n1 bo1 a b && !false) = _
    simp
  have C : ∀ nr nro ak, xn_N n0 bo0 nr nro → (∀ o x, o < 3 → x < 7 → ak (7 * o + x) = nI (bb_bs (mo_O n1 bo1 o x) 7)) → ∀ d a co, a + d = n1 → (∀ c, c < a → co c = nI (xd_set n0 el0 bo0 n1 el1 bo1 [] c)) → wX_startCould_38 post f_count f_isRead f_wrongPlace f_readAtoms f_last f_said f_piled f_orders (d + 1) (nI a) a_text a_readElement a_readBond a_readUsed a_pile a_markAtom a_markOrder a_size a_elements a_bonds nr nro a_least a_other a_trial a_placed a_tried a_setWays a_setEnds a_setCounts a_standsAt a_firstOrder co ak := by
    intro nr nro ak hN hA d
    induction d with
    | zero =>
      intro a co ha hco
      exact pk_le n1 a (fun _ => h nr nro ak co hN.2 (fun c hc => hco c (by omega))) (fun z => absurd z (by omega)) hT1.1
    | succ d ih =>
      intro a co ha hco
      have B : ∀ e b co, b + e = n0 → (∀ c, c < a → co c = nI (xd_set n0 el0 bo0 n1 el1 bo1 [] c)) → co a = nI (bb_bs (fd_c n0 el0 bo0 n1 el1 bo1 [] a) b) → wX_startCould_57 post (wX_startCould_38 post f_count f_isRead f_wrongPlace f_readAtoms f_last f_said f_piled f_orders (d + 1)) (nI a) f_count f_isRead f_wrongPlace f_readAtoms f_last f_said f_piled f_orders (e + 1) (nI b) a_text a_readElement a_readBond a_readUsed a_pile a_markAtom a_markOrder a_size a_elements a_bonds nr nro a_least a_other a_trial a_placed a_tried a_setWays a_setEnds a_setCounts a_standsAt a_firstOrder co ak := by
        intro e
        induction e with
        | zero =>
          intro b co hb hco hca
          refine pk_le n0 b (fun _ => nm_r (wk_p a) (ih (a + 1) co (by omega) (fun c hc => ?_))) (fun z => absurd z (by omega)) hT0.1
          by_cases e : c = a
          · rw [e, hca]
            congr 1
            exact (bb_bs_ext 7 (by omega) (fun i h1 _ => by
              cases hz : fd_c n0 el0 bo0 n1 el1 bo1 [] a i with
              | false => rfl
              | true => have := ((fd_c_i n0 el0 bo0 n1 el1 bo1).mp hz).1; omega)).symm
          · exact hco c (by omega)
        | succ e ihe =>
          intro b co hb hco hca
          have hbn : b < n0 := by omega
          have hc1 : co (nI a).toNatClampNeg = nI (bb_bs (fd_c n0 el0 bo0 n1 el1 bo1 [] a) b) := wk_c a hca
          have no : fd_c n0 el0 bo0 n1 el1 bo1 [] a b = false → wX_startCould_98 post (wX_startCould_38 post f_count f_isRead f_wrongPlace f_readAtoms f_last f_said f_piled f_orders (d + 1)) (wX_startCould_57 post (wX_startCould_38 post f_count f_isRead f_wrongPlace f_readAtoms f_last f_said f_piled f_orders (d + 1)) (nI a) f_count f_isRead f_wrongPlace f_readAtoms f_last f_said f_piled f_orders (e + 1)) (nI a) (nI b) f_count f_isRead f_wrongPlace f_readAtoms f_last f_said f_piled f_orders a_text a_readElement a_readBond a_readUsed a_pile a_markAtom a_markOrder a_size a_elements a_bonds nr nro a_least a_other a_trial a_placed a_tried a_setWays a_setEnds a_setCounts a_standsAt a_firstOrder co ak := fun hf => by
            refine br_t rfl (wk_i a (wk_w a (nm_r (wk_p b) (ihe (b + 1) _ (by omega) (fun c hc => ?_) ?_))))
            · rw [pk_un (by omega)]; exact hco c hc
            · rw [pk_us, hc1, bb_bs_f _ _ hf]
          have yes : fd_c n0 el0 bo0 n1 el1 bo1 [] a b = true → wX_startCould_99 post (wX_startCould_38 post f_count f_isRead f_wrongPlace f_readAtoms f_last f_said f_piled f_orders (d + 1)) (wX_startCould_57 post (wX_startCould_38 post f_count f_isRead f_wrongPlace f_readAtoms f_last f_said f_piled f_orders (d + 1)) (nI a) f_count f_isRead f_wrongPlace f_readAtoms f_last f_said f_piled f_orders (e + 1)) (nI a) (nI b) 1 f_count f_isRead f_wrongPlace f_readAtoms f_last f_said f_piled f_orders a_text a_readElement a_readBond a_readUsed a_pile a_markAtom a_markOrder a_size a_elements a_bonds nr nro a_least a_other a_trial a_placed a_tried a_setWays a_setEnds a_setCounts a_standsAt a_firstOrder co ak := fun ht => by
            refine br_f wk_10 (wk_i a (wk_w a (nm_r (wk_p b) (ihe (b + 1) _ (by omega) (fun c hc => ?_) ?_))))
            · rw [pk_un (by omega)]; exact hco c hc
            · rw [pk_us, hc1, bb_shl b (by omega), bb_or, bb_bs_t _ _ ht]
          have e1 : a_elements (7 + nI a).toNatClampNeg = nI (el1 a) := wk_c (7 + a) (by have := hT1.2.1 a (by omega); rw [show 7 * 1 + a = 7 + a by omega] at this; exact this) (nI_add 7 a)
          have e0 : a_elements (nI b).toNatClampNeg = nI (el0 b) := wk_c b (by have := hT0.2.1 b hbn; rw [show 7 * 0 + b = b by omega] at this; exact this)
          have l1 := hK1.2.1 a (by omega)
          have l0 := hK0.2.1 b hbn
          refine pk_le n0 b (fun z => absurd z (by omega)) (fun _ => wk_i (7 + a) (wk_i b (pk_eq (el1 a) (el0 b) (fun z => xx_enough hn0 hn1 (by omega) hbn hA hN.2 ?_) (fun z => no (by rw [fc a b hbn, decide_eq_false z]; rfl)) e1 e0)) (by omega) (nI_add 7 a)) hT0.1
          cases hz : fd_en n0 bo0 n1 bo1 a b with
          | false => exact br_t rfl (no (by rw [fc a b hbn, hz, Bool.and_false]))
          | true => exact br_f (by decide) (yes (by rw [fc a b hbn, hz, decide_eq_true z]; rfl))
      refine pk_le n1 a (fun z => absurd z (by omega)) (fun _ => wk_w a (Exists.intro (n0 + 1) (B n0 0 _ (by omega) (fun c hc => ?_) ?_))) hT1.1
      · rw [pk_un (by omega)]; exact hco c hc
      · rw [pk_us]; rfl
  have A : ∀ d i ak, i + d = 21 → (∀ j, j < i → ak j = nro1 j) → wX_startCould_7 post f_count f_isRead f_wrongPlace f_readAtoms f_last f_said f_piled f_orders (d + 1) (nI i) a_text a_readElement a_readBond a_readUsed a_pile a_markAtom a_markOrder a_size a_elements a_bonds nr1 nro1 a_least a_other a_trial a_placed a_tried a_setWays a_setEnds a_setCounts a_standsAt a_firstOrder a_could ak := by
    intro d
    induction d with
    | zero =>
      intro i ak hi hak
      refine pk_le 21 i (fun _ => xx_findNear (s := 0) (by omega) hK0 hT0 (fun nr nro hN => Exists.intro (n1 + 1) (C nr nro ak hN (fun o x ho hx => ?_) n1 0 a_could (by omega) (fun c hc => absurd hc (by omega))))) (fun z => absurd z (by omega))
      rw [hak _ (by omega)]; exact hN1.2 o x ho hx
    | succ d ih =>
      intro i ak hi hak
      exact pk_le 21 i (fun z => absurd z (by omega)) (fun _ => wk_i i (wk_v i (nro1 i) (wk_c i rfl) (nm_r (wk_p i) (ih (i + 1) _ (by omega) (fun j hj => by
        by_cases e : j = i
        · rw [e, pk_us]
        · rw [pk_un e]; exact hak j (by omega))))))
  exact Exists.intro 22 (A 21 0 a_asked (by omega) (fun j hj => absurd hj (by omega)))
theorem xx_carry {post : Int32 → SX → Prop} {n0 n1 b : Nat} {el0 el1 : Nat → Nat} {bo0 bo1 : Nat → Nat → Nat} {P : List Nat} (hn0 : n0 ≤ 7) (hK1 : mo_K n1 el1 bo1) (hT1 : mo_T a_size a_elements a_bonds 1 n1 el1 bo1) (hP : P.length + 1 < n1) (hb : b < n0) (hN : ∀ o x, o < 3 → x < 7 → a_nearOf (7 * o + x) = nI (bb_bs (mo_O n0 bo0 o x) 7)) (hR : ∀ c, P.length ≤ c → c < n1 → a_could (7 * P.length + c) = nI (bb_bs (fd_c n0 el0 bo0 n1 el1 bo1 P c) 7))
    (h0 : ∀ co, (∃ c, P.length < c ∧ c < n1 ∧ bb_bs (fd_c n0 el0 bo0 n1 el1 bo1 (P ++ [b]) c) 7 = 0) → (∀ j, j < 7 * (P.length + 1) → co j = a_could j) → post 0 (f_count, f_isRead, f_wrongPlace, f_readAtoms, f_last, f_said, f_piled, f_orders, a_text, a_readElement, a_readBond, a_readUsed, a_pile, a_markAtom, a_markOrder, a_size, a_elements, a_bonds, a_near, a_nearOf, a_least, a_other, a_trial, a_placed, a_tried, a_setWays, a_setEnds, a_setCounts, a_standsAt, a_firstOrder, co, a_asked))
    (h1 : ∀ co, (∀ c, P.length < c → c < n1 → co (7 * (P.length + 1) + c) = nI (bb_bs (fd_c n0 el0 bo0 n1 el1 bo1 (P ++ [b]) c) 7)) → (∀ j, j < 7 * (P.length + 1) → co j = a_could j) → post 1 (f_count, f_isRead, f_wrongPlace, f_readAtoms, f_last, f_said, f_piled, f_orders, a_text, a_readElement, a_readBond, a_readUsed, a_pile, a_markAtom, a_markOrder, a_size, a_elements, a_bonds, a_near, a_nearOf, a_least, a_other, a_trial, a_placed, a_tried, a_setWays, a_setEnds, a_setCounts, a_standsAt, a_firstOrder, co, a_asked)) : wpX_carry post (f_count, f_isRead, f_wrongPlace, f_readAtoms, f_last, f_said, f_piled, f_orders, a_text, a_readElement, a_readBond, a_readUsed, a_pile, a_markAtom, a_markOrder, a_size, a_elements, a_bonds, a_near, a_nearOf, a_least, a_other, a_trial, a_placed, a_tried, a_setWays, a_setEnds, a_setCounts, a_standsAt, a_firstOrder, a_could, a_asked) (nI P.length) (nI b) := by
  have hn1 := hK1.1
  have hset : ∀ c, c < n1 → P.length < c → bb_bs (fd_c n0 el0 bo0 n1 el1 bo1 (P ++ [b]) c) 7 = (if bo1 P.length c = 0 then bb_cl (bb_bs (fd_c n0 el0 bo0 n1 el1 bo1 P c) 7) b else bb_cl (bb_bs (fd_c n0 el0 bo0 n1 el1 bo1 P c) 7) b &&& bb_bs (mo_O n0 bo0 (bo1 P.length c - 1) b) 7) := fun c hc hPc => by
    by_cases z : bo1 P.length c = 0
    · rw [if_pos z]
      refine bb_ext (bb_bs_lt _ 7) (bb_cl_lt _ _) (fun y hy => ?_)
      rw [bb_bs_b _ hy, bb_cl_b hy, bb_bs_b _ hy, fd_c_s, decide_eq_false (p := 0 < bo1 P.length c ∧ bo0 b y ≠ bo1 P.length c) (fun w => absurd w.1 (by omega))]
      simp
    · rw [if_neg z]
      refine bb_ext (bb_bs_lt _ 7) (bb_and_lt (bb_cl_lt _ _)) (fun y hy => ?_)
      rw [bb_bs_b _ hy, Nat.testBit_and, bb_cl_b hy, bb_bs_b _ hy, bb_bs_b _ hy, fd_c_s]
      cases hz : fd_c n0 el0 bo0 n1 el1 bo1 P c y with
      | false => simp
      | true =>
        have hy0 := ((fd_c_i n0 el0 bo0 n1 el1 bo1).mp hz).1
        congr 1
        unfold mo_O
        have e1 : (b < n0 ∧ y < n0 ∧ bo0 b y = bo1 P.length c - 1 + 1) ↔ (bo0 b y = bo1 P.length c) := ⟨fun w => by omega, fun w => ⟨hb, hy0, by omega⟩⟩
        have e2 : (0 < bo1 P.length c ∧ bo0 b y ≠ bo1 P.length c) ↔ ¬ (bo0 b y = bo1 P.length c) := ⟨fun w => w.2, fun w => ⟨by omega, w⟩⟩
        simp only [e1, e2]
        by_cases w : bo0 b y = bo1 P.length c
        · simp [w]
        · simp [w]
  have L : ∀ d c co, c + d = n1 → P.length < c → (∀ x, P.length < x → x < c → co (7 * (P.length + 1) + x) = nI (bb_bs (fd_c n0 el0 bo0 n1 el1 bo1 (P ++ [b]) x) 7)) → (∀ j, j < 7 * (P.length + 1) → co j = a_could j) → wX_carry_7 post (nI P.length) (nI b) f_count f_isRead f_wrongPlace f_readAtoms f_last f_said f_piled f_orders (d + 1) (nI (!bb_ex (fun x => decide (P.length < x ∧ bb_bs (fd_c n0 el0 bo0 n1 el1 bo1 (P ++ [b]) x) 7 = 0)) c).toNat) (nI c) a_text a_readElement a_readBond a_readUsed a_pile a_markAtom a_markOrder a_size a_elements a_bonds a_near a_nearOf a_least a_other a_trial a_placed a_tried a_setWays a_setEnds a_setCounts a_standsAt a_firstOrder co a_asked := by
    intro d
    induction d with
    | zero =>
      intro c co hc hPc hco hk
      have e : c = n1 := by omega
      subst e
      refine pk_le c c (fun _ => ?_) (fun z => absurd z (by omega)) hT1.1
      cases hz : bb_ex (fun x => decide (P.length < x ∧ bb_bs (fd_c n0 el0 bo0 c el1 bo1 (P ++ [b]) x) 7 = 0)) c with
      | false => exact And.intro rfl (h1 co hco hk)
      | true =>
        obtain ⟨x, hx, y⟩ := (bb_ex_iff _ _).mp hz
        have y' := of_decide_eq_true y
        exact And.intro rfl (h0 co ⟨x, y'.1, hx, y'.2⟩ hk)
    | succ d ih =>
      intro c co hc hPc hco hk
      have hcn : c < n1 := by omega
      have hb3 := hK1.2.2.1 P.length c (by omega) hcn
      have hcc : co ((7 * nI P.length) + nI c).toNatClampNeg = nI (bb_bs (fd_c n0 el0 bo0 n1 el1 bo1 P c) 7) := wk_c (7 * P.length + c) (by rw [hk _ (by omega)]; exact hR c (by omega) hcn) (bb_ix P.length c)
      have hix : (7 * (nI P.length + 1)) + nI c = nI (7 * (P.length + 1) + c) := by rw [nI_1, bb_ix]
      have fin : ∀ Z, Z = bb_bs (fd_c n0 el0 bo0 n1 el1 bo1 (P ++ [b]) c) 7 → wX_carry_75 post (wX_carry_7 post (nI P.length) (nI b) f_count f_isRead f_wrongPlace f_readAtoms f_last f_said f_piled f_orders (d + 1)) (nI P.length) (nI b) (nI (!bb_ex (fun x => decide (P.length < x ∧ bb_bs (fd_c n0 el0 bo0 n1 el1 bo1 (P ++ [b]) x) 7 = 0)) c).toNat) (nI c) (nI Z) f_count f_isRead f_wrongPlace f_readAtoms f_last f_said f_piled f_orders a_text a_readElement a_readBond a_readUsed a_pile a_markAtom a_markOrder a_size a_elements a_bonds a_near a_nearOf a_least a_other a_trial a_placed a_tried a_setWays a_setEnds a_setCounts a_standsAt a_firstOrder co a_asked := fun Z hZ => by
        have hZl : Z < 128 := by rw [hZ]; exact bb_bs_lt _ 7
        have k := ih (c + 1) (upd co (7 * (P.length + 1) + c) (nI Z)) (by omega) (by omega) (fun x h1 h2 => by
          by_cases e : x = c
          · rw [e, pk_us, hZ]
          · rw [pk_un (by omega)]; exact hco x h1 (by omega)) (fun j hj => by rw [pk_un (by omega)]; exact hk j hj)
        rw [bb_ex_s, Bool.not_or, ← hZ] at k
        refine wk_w (7 * (P.length + 1) + c) ?_ (by omega) hix
        cases hz : !bb_ex (fun x => decide (P.length < x ∧ bb_bs (fd_c n0 el0 bo0 n1 el1 bo1 (P ++ [b]) x) 7 = 0)) c with
        | false =>
          rw [hz] at k
          exact br_t rfl (nm_r (wk_p c) k)
        | true =>
          rw [hz] at k
          refine br_f (by decide) (pk_eq Z 0 (fun e => ?_) (fun e => ?_))
          · rw [decide_eq_true ⟨hPc, e⟩] at k
            exact nm_r (wk_p c) k
          · rw [decide_eq_false (fun w => e w.2)] at k
            exact nm_r (wk_p c) k
      refine pk_le n1 c (fun z => absurd z (by omega)) (fun _ => wk_i (7 * P.length + c) (nm_r (e' := nI (bb_cl (bb_bs (fd_c n0 el0 bo0 n1 el1 bo1 P c) 7) b)) (by rw [hcc, bb_clI (bb_bs_lt _ 7) (by omega)]) (xx_bondOf (s := 1) (by omega) (by omega) (by omega) ?_)) (by omega) (bb_ix P.length c)) hT1.1
      rw [hT1.2.2 P.length c (by omega) hcn]
      refine pk_le (bo1 P.length c) 0 (fun z => fin _ (by rw [hset c hcn hPc, if_pos (by omega)])) (fun z => ?_)
      have hix2 : (7 * (nI (bo1 P.length c) - 1)) + nI b = nI (7 * (bo1 P.length c - 1) + b) := by rw [wk_s z, bb_ix]
      refine wk_i (7 * (bo1 P.length c - 1) + b) ?_ (by omega) hix2
      rw [wk_c (7 * (bo1 P.length c - 1) + b) (hN _ b (by omega) (by omega)) hix2, bb_and]
      exact fin _ (by rw [hset c hcn hPc, if_neg (by omega)])
  unfold wpX_carry
  refine nm_r (wk_p P.length) (Exists.intro (n1 - (P.length + 1) + 1) ?_)
  have k := L (n1 - (P.length + 1)) (P.length + 1) a_could (by omega) (by omega) (fun x h1 h2 => absurd h2 (by omega)) (fun _ _ => rfl)
  rw [(bb_ex_f _ _).mpr (fun i hi => decide_eq_false (fun z => absurd z.1 (by omega)))] at k
  exact k
end
end
section
def xd_W (post : Int32 → SX → Prop) (x1 : Int32) (v : SX) : Nat → Int32 → XD → Prop := match v with
  | (f_count, f_isRead, f_wrongPlace, f_readAtoms, f_last, f_said, f_piled, f_orders, a_text, a_readElement, a_readBond, a_readUsed, a_pile, a_markAtom, a_markOrder, a_size, a_elements, a_bonds, a_near, a_nearOf, a_least, a_other, a_trial, a_placed, a_tried, a_setWays, a_setEnds, a_setCounts, a_standsAt, a_firstOrder, a_could, a_asked) => fun F rho u => wX_found_36 post x1 F u.1 u.2.1 rho f_count f_isRead f_wrongPlace f_readAtoms f_last f_said f_piled f_orders a_text a_readElement a_readBond a_readUsed a_pile a_markAtom a_markOrder a_size a_elements a_bonds a_near a_nearOf a_least a_other a_trial a_placed u.2.2.1 a_setWays a_setEnds a_setCounts a_standsAt a_firstOrder u.2.2.2 a_asked
theorem xf_clr {C : Nat} (hC : C < 128) (h0 : C ≠ 0) : nI C &&& (nI (2 ^ bb_lo C) ^^^ (-1)) = nI (bb_cl C (bb_lo C)) := by
  have hl := bb_lo_7 hC h0
  rw [← bb_shl (bb_lo C) (by omega), bb_clI hC hl]
section
variable {f_count f_isRead f_wrongPlace f_readAtoms f_last f_said f_piled f_orders : Int32} {a_text a_readElement a_readBond a_readUsed a_pile a_markAtom a_markOrder a_size a_elements a_bonds a_near a_nearOf a_least a_other a_trial a_placed a_tried a_setWays a_setEnds a_setCounts a_standsAt a_firstOrder a_could a_asked : Nat → Int32}
theorem xf_rZ {post : Int32 → SX → Prop} {n0 n1 : Nat} {el0 el1 : Nat → Nat} {bo0 bo1 : Nat → Nat → Nat} (hn1 : n1 ≤ 7) (P : List Nat) (τ : Nat → Nat) (S : Nat) (u : XD) (hP : P.length < n1) (h : xd_N n0 el0 bo0 n1 el1 bo1 P τ S 0 u) :
    go_R 120000 (xd_W post (nI n1) (f_count, f_isRead, f_wrongPlace, f_readAtoms, f_last, f_said, f_piled, f_orders, a_text, a_readElement, a_readBond, a_readUsed, a_pile, a_markAtom, a_markOrder, a_size, a_elements, a_bonds, a_near, a_nearOf, a_least, a_other, a_trial, a_placed, a_tried, a_setWays, a_setEnds, a_setCounts, a_standsAt, a_firstOrder, a_could, a_asked)) 1 u (xd_U n0 el0 bo0 n1 el1 bo1 P τ S) := by
  obtain ⟨ti, co, rfl, h1, h2, h3⟩ := h
  refine go_1 (fun F ρ hρ k => ?_)
  show wX_found_36 post (nI n1) (F + 1) (nI S) (nI P.length) (nI ρ) f_count f_isRead f_wrongPlace f_readAtoms f_last f_said f_piled f_orders a_text a_readElement a_readBond a_readUsed a_pile a_markAtom a_markOrder a_size a_elements a_bonds a_near a_nearOf a_least a_other a_trial a_placed ti a_setWays a_setEnds a_setCounts a_standsAt a_firstOrder co a_asked
  exact pk_le 120000 ρ (fun z => absurd z (by omega)) (fun _ => br_f (nI_pos (by omega)) (wk_i P.length (br_t (wk_c P.length h1) (nm_e (nm_r (wk_p ρ) (k (nI S, nI P.length + (-1), ti, co) ⟨_, _, rfl, h2, fun i c hi hic hc => h3 i c (by omega) hic hc⟩))))))
theorem xf_r1 {post : Int32 → SX → Prop} {n0 n1 : Nat} {el0 el1 : Nat → Nat} {bo0 bo1 : Nat → Nat → Nat} (hn1 : n1 ≤ 7) (P : List Nat) (τ : Nat → Nat) (S C : Nat) (u : XD) (hP : P.length + 1 = n1) (hC : C < 128) (hC0 : C ≠ 0) (h : xd_N n0 el0 bo0 n1 el1 bo1 P τ S C u) :
    go_R 120000 (xd_W post (nI n1) (f_count, f_isRead, f_wrongPlace, f_readAtoms, f_last, f_said, f_piled, f_orders, a_text, a_readElement, a_readBond, a_readUsed, a_pile, a_markAtom, a_markOrder, a_size, a_elements, a_bonds, a_near, a_nearOf, a_least, a_other, a_trial, a_placed, a_tried, a_setWays, a_setEnds, a_setCounts, a_standsAt, a_firstOrder, a_could, a_asked)) 1 u (xd_N n0 el0 bo0 n1 el1 bo1 P τ (S + 1) (bb_cl C (bb_lo C))) := by
  obtain ⟨ti, co, rfl, h1, h2, h3⟩ := h
  have hl := bb_lo_7 hC hC0
  refine go_1 (fun F ρ hρ k => ?_)
  show wX_found_36 post (nI n1) (F + 1) (nI S) (nI P.length) (nI ρ) f_count f_isRead f_wrongPlace f_readAtoms f_last f_said f_piled f_orders a_text a_readElement a_readBond a_readUsed a_pile a_markAtom a_markOrder a_size a_elements a_bonds a_near a_nearOf a_least a_other a_trial a_placed ti a_setWays a_setEnds a_setCounts a_standsAt a_firstOrder co a_asked
  have ht : ti (nI P.length).toNatClampNeg = nI C := wk_c P.length h1
  refine pk_le 120000 ρ (fun z => absurd z (by omega)) (fun _ => br_f (nI_pos (by omega)) (wk_i P.length (br_f (by rw [ht]; exact nI_ne0 (by omega) (by omega)) (wk_i P.length (wk_i P.length (nm_r (e' := nI (2 ^ bb_lo C)) (by rw [ht, bb_low C hC hC0]) (wk_i P.length (wk_v P.length (nI (bb_cl C (bb_lo C))) (by rw [ht, xf_clr hC hC0]) (xx_lowestOf (bb_pow_lt hl) (br_t ?_ (nm_r (wk_p S) (nm_r (wk_p ρ) (k (nI (S + 1), nI P.length, upd ti P.length (nI (bb_cl C (bb_lo C))), co) ⟨_, _, rfl, pk_us, fun i hi => ?_, h3⟩)))))))))))))
  · rw [wk_s (by omega)]; exact congrArg nI (by omega)
  · rw [pk_un (by omega)]; exact h2 i hi
theorem xf_r2 {post : Int32 → SX → Prop} {n0 n1 : Nat} {el0 el1 : Nat → Nat} {bo0 bo1 : Nat → Nat → Nat} (hn0 : n0 ≤ 7) (hK1 : mo_K n1 el1 bo1) (hT1 : mo_T a_size a_elements a_bonds 1 n1 el1 bo1) (hN : ∀ o x, o < 3 → x < 7 → a_nearOf (7 * o + x) = nI (bb_bs (mo_O n0 bo0 o x) 7)) (P : List Nat) (τ : Nat → Nat) (S C : Nat) (u : XD) (hP : P.length + 1 < n1) (hC : C < 128) (hC0 : C ≠ 0) (hb : bb_lo C < n0) (h : xd_N n0 el0 bo0 n1 el1 bo1 P τ S C u) :
    go_R 120000 (xd_W post (nI n1) (f_count, f_isRead, f_wrongPlace, f_readAtoms, f_last, f_said, f_piled, f_orders, a_text, a_readElement, a_readBond, a_readUsed, a_pile, a_markAtom, a_markOrder, a_size, a_elements, a_bonds, a_near, a_nearOf, a_least, a_other, a_trial, a_placed, a_tried, a_setWays, a_setEnds, a_setCounts, a_standsAt, a_firstOrder, a_could, a_asked)) 1 u (fun s' => ((∃ c, P.length < c ∧ c < n1 ∧ bb_bs (fd_c n0 el0 bo0 n1 el1 bo1 (P ++ [bb_lo C]) c) 7 = 0) ∧ xd_N n0 el0 bo0 n1 el1 bo1 P τ S (bb_cl C (bb_lo C)) s') ∨ xd_N n0 el0 bo0 n1 el1 bo1 (P ++ [bb_lo C]) (rd_u τ P.length (bb_cl C (bb_lo C))) S (xd_set n0 el0 bo0 n1 el1 bo1 (P ++ [bb_lo C]) (P.length + 1)) s') := by
  have hn1 := hK1.1
  obtain ⟨ti, co, rfl, h1, h2, h3⟩ := h
  have hl := bb_lo_7 hC hC0
  have hlb : (P ++ [bb_lo C]).length = P.length + 1 := by rw [List.length_append]; rfl
  refine go_1 (fun F ρ hρ k => ?_)
  show wX_found_36 post (nI n1) (F + 1) (nI S) (nI P.length) (nI ρ) f_count f_isRead f_wrongPlace f_readAtoms f_last f_said f_piled f_orders a_text a_readElement a_readBond a_readUsed a_pile a_markAtom a_markOrder a_size a_elements a_bonds a_near a_nearOf a_least a_other a_trial a_placed ti a_setWays a_setEnds a_setCounts a_standsAt a_firstOrder co a_asked
  have ht : ti (nI P.length).toNatClampNeg = nI C := wk_c P.length h1
  have hR : ∀ c, P.length ≤ c → c < n1 → co (7 * P.length + c) = nI (bb_bs (fd_c n0 el0 bo0 n1 el1 bo1 P c) 7) := fun c h1 h2 => by
    have := h3 P.length c (by omega) h1 h2
    rw [List.take_length] at this; exact this
  refine pk_le 120000 ρ (fun z => absurd z (by omega)) (fun _ => br_f (nI_pos (by omega)) (wk_i P.length (br_f (by rw [ht]; exact nI_ne0 (by omega) (by omega)) (wk_i P.length (wk_i P.length (nm_r (e' := nI (2 ^ bb_lo C)) (by rw [ht, bb_low C hC hC0]) (wk_i P.length (wk_v P.length (nI (bb_cl C (bb_lo C))) (by rw [ht, xf_clr hC hC0]) (xx_lowestOf (bb_pow_lt hl) (br_f ?_ ?_))))))))))
  · rw [wk_s (by omega)]
    intro z
    have := (nI_eq (by omega) (by omega)).mp z
    omega
  · rw [bb_lo2 _ hl]
    refine xx_carry hn0 hK1 hT1 hP hb hN hR (fun co' hd hk => ?_) (fun co' hr hk => ?_)
    · refine br_t rfl (nm_r (wk_p ρ) (k (nI S, nI P.length, upd ti P.length (nI (bb_cl C (bb_lo C))), co') (Or.inl ⟨hd, _, _, rfl, pk_us, fun i hi => ?_, fun i c hi hic hc => ?_⟩)))
      · rw [pk_un (by omega)]; exact h2 i hi
      · rw [hk _ (by omega)]; exact h3 i c hi hic hc
    · have hix : (7 * nI (P.length + 1)) + nI (P.length + 1) = nI (7 * (P.length + 1) + (P.length + 1)) := bb_ix _ _
      have hv : co' ((7 * nI (P.length + 1)) + nI (P.length + 1)).toNatClampNeg = nI (xd_set n0 el0 bo0 n1 el1 bo1 (P ++ [bb_lo C]) (P.length + 1)) := wk_c _ (hr (P.length + 1) (by omega) hP) hix
      refine br_f wk_10 (nm_r (wk_p P.length) (wk_i (7 * (P.length + 1) + (P.length + 1)) (wk_v (P.length + 1) _ hv (nm_r (wk_p ρ) (k (nI S, nI (P.length + 1), upd (upd ti P.length (nI (bb_cl C (bb_lo C)))) (P.length + 1) (nI (xd_set n0 el0 bo0 n1 el1 bo1 (P ++ [bb_lo C]) (P.length + 1))), co') (Or.inr ⟨upd (upd ti P.length (nI (bb_cl C (bb_lo C)))) (P.length + 1) (nI (xd_set n0 el0 bo0 n1 el1 bo1 (P ++ [bb_lo C]) (P.length + 1))), co', by rw [hlb], by rw [hlb]; exact pk_us, fun i hi => ?_, fun i c hi hic hc => ?_⟩)))) (by omega) hix))
      · rw [pk_un (by omega)]
        by_cases e : i = P.length
        · rw [e, pk_us, rd_us]
        · rw [pk_un e, rd_un e]; exact h2 i (by omega)
      · by_cases e : i = P.length + 1
        · subst e
          rw [hr c (by omega) hc, ← hlb, List.take_length]
        · rw [hk _ (by omega), h3 i c (by omega) hic hc, List.take_append_of_le_length (by omega)]
theorem xf_cost : xd_c 7 ≤ 120000 := by decide +kernel
theorem xx_found_0 {post : Int32 → SX → Prop} (hz : a_size 1 = nI 0) (h : post 1 (f_count, f_isRead, f_wrongPlace, f_readAtoms, f_last, f_said, f_piled, f_orders, a_text, a_readElement, a_readBond, a_readUsed, a_pile, a_markAtom, a_markOrder, a_size, a_elements, a_bonds, a_near, a_nearOf, a_least, a_other, a_trial, a_placed, a_tried, a_setWays, a_setEnds, a_setCounts, a_standsAt, a_firstOrder, a_could, a_asked)) : wpX_found post (f_count, f_isRead, f_wrongPlace, f_readAtoms, f_last, f_said, f_piled, f_orders, a_text, a_readElement, a_readBond, a_readUsed, a_pile, a_markAtom, a_markOrder, a_size, a_elements, a_bonds, a_near, a_nearOf, a_least, a_other, a_trial, a_placed, a_tried, a_setWays, a_setEnds, a_setCounts, a_standsAt, a_firstOrder, a_could, a_asked) := by
  unfold wpX_found
  exact nm_r hz (br_t rfl h)
theorem xx_found {post : Int32 → SX → Prop} {n0 n1 : Nat} {el0 el1 : Nat → Nat} {bo0 bo1 : Nat → Nat → Nat} (hK0 : mo_K n0 el0 bo0) (hK1 : mo_K n1 el1 bo1) (hT0 : mo_T a_size a_elements a_bonds 0 n0 el0 bo0) (hT1 : mo_T a_size a_elements a_bonds 1 n1 el1 bo1) (h0 : 0 < n1)
    (h : ∀ nr nro ti co ak, post (nI (fd_F n0 el0 bo0 el1 bo1 n1 [])) (f_count, f_isRead, f_wrongPlace, f_readAtoms, f_last, f_said, f_piled, f_orders, a_text, a_readElement, a_readBond, a_readUsed, a_pile, a_markAtom, a_markOrder, a_size, a_elements, a_bonds, nr, nro, a_least, a_other, a_trial, a_placed, ti, a_setWays, a_setEnds, a_setCounts, a_standsAt, a_firstOrder, co, ak)) : wpX_found post (f_count, f_isRead, f_wrongPlace, f_readAtoms, f_last, f_said, f_piled, f_orders, a_text, a_readElement, a_readBond, a_readUsed, a_pile, a_markAtom, a_markOrder, a_size, a_elements, a_bonds, a_near, a_nearOf, a_least, a_other, a_trial, a_placed, a_tried, a_setWays, a_setEnds, a_setCounts, a_standsAt, a_firstOrder, a_could, a_asked) := by
  have hn0 := hK0.1
  have hn1 := hK1.1
  unfold wpX_found
  refine nm_r hT1.1 (br_f (nI_ne0 h0 (by omega)) (xx_startCould hK0 hK1 hT0 hT1 (fun nr nro ak co hN hco => nm_e (Exists.intro (xd_c 7 + 1) ?_))))
  obtain ⟨r, rfl⟩ : ∃ r, n1 = r + 1 := ⟨n1 - 1, by omega⟩
  have hdfs := xd_dfs n0 el0 bo0 (r + 1) el1 bo1 (W := xd_W post (nI (r + 1)) (f_count, f_isRead, f_wrongPlace, f_readAtoms, f_last, f_said, f_piled, f_orders, a_text, a_readElement, a_readBond, a_readUsed, a_pile, a_markAtom, a_markOrder, a_size, a_elements, a_bonds, nr, nro, a_least, a_other, a_trial, a_placed, a_tried, a_setWays, a_setEnds, a_setCounts, a_standsAt, a_firstOrder, co, ak)) (lim := 120000) hn0 hn1 hK0.2.2.2.1 hK1.2.2.2 (fun P τ S u => xf_rZ hn1 P τ S u) (fun P τ S C u => xf_r1 hn1 P τ S C u) (fun P τ S C u => xf_r2 hn0 hK1 hT1 hN P τ S C u) r [] (fun _ => 0) 0 7 (nI 0, nI 0, upd a_tried 0 (co 0), co) (by simp) rfl ⟨pe_Q0 n0, fun c hc => absurd hc (by simp)⟩ ⟨_, _, rfl, by rw [show ([] : List Nat).length = 0 from rfl, pk_us]; exact hco 0 h0, fun i hi => absurd hi (by simp), fun i c hi hic hc => ?_⟩
  · refine hdfs (xd_c 7 + 1) 0 (by omega) (by have := xf_cost; omega) (fun m u hm hu => ?_)
    obtain ⟨ti, co', rfl, _, _⟩ := hu
    obtain ⟨F', hF'⟩ : ∃ F', xd_c 7 + 1 - m = F' + 1 := ⟨xd_c 7 - m, by omega⟩
    rw [hF']
    show wX_found_36 post (nI (r + 1)) (F' + 1) (nI (0 + fd_F n0 el0 bo0 el1 bo1 (r + 1) [])) (-1) (nI (0 + m)) f_count f_isRead f_wrongPlace f_readAtoms f_last f_said f_piled f_orders a_text a_readElement a_readBond a_readUsed a_pile a_markAtom a_markOrder a_size a_elements a_bonds nr nro a_least a_other a_trial a_placed ti a_setWays a_setEnds a_setCounts a_standsAt a_firstOrder co' ak
    have hp := h nr nro ti co' ak
    rw [Nat.zero_add]
    exact br_c (fun _ => hp) (fun _ => br_t (by decide) hp)
  · have e : i = 0 := by have : i < 1 := hi; omega
    subst e
    rw [show 7 * 0 + c = c by omega]
    exact hco c hc
end
end
section
/-! the component reads its text -/
def rd_TX (m : Nat) (el : Nat → Nat) (bo : Nat → Nat → Nat) (last : Option Nat) (said h : Nat) (pl : Nat → Nat) (mw : Nat → Option Nat) (mo : Nat → Nat) (ra la sa pi : Int32) (rE rB rU pa mA mO : XA) : Prop :=
  ra = nI m ∧ la = rd_l last ∧ sa = nI said ∧ pi = nI h ∧ (∀ a, a < m → rE a = nI (el a)) ∧ (∀ a b, a < m → b < m → rB (7 * a + b) = nI (bo a b)) ∧ (∀ a, a < m → rU a = nI (rd_sd bo a)) ∧ (∀ j, j < h → pa j = nI (pl j)) ∧ (∀ k, k < 3 → mA k = rd_l (mw k)) ∧ ∀ k a, k < 3 → mw k = some a → mO k = nI (mo k)
def rd_TXs (s : RdS) (ra la sa pi : Int32) (rE rB rU pa mA mO : XA) : Prop :=
  match s with
  | (m, el, bo, last, said, h, pl, mw, mo) => rd_TX m el bo last said h pl mw mo ra la sa pi rE rB rU pa mA mO
theorem xp_l1 {l : Option Nat} (h : ∀ a, l = some a → a < 2 ^ 31) : rd_l l = -1 ↔ l = none := by
  cases l with
  | none => exact ⟨fun _ => rfl, fun _ => rfl⟩
  | some a => exact ⟨fun z => absurd z (bb_ne (h a rfl)), fun z => absurd z (by simp)⟩
section
variable {f_count f_isRead f_wrongPlace f_readAtoms f_last f_said f_piled f_orders : Int32} {a_text a_readElement a_readBond a_readUsed a_pile a_markAtom a_markOrder a_size a_elements a_bonds a_near a_nearOf a_least a_other a_trial a_placed a_tried a_setWays a_setEnds a_setCounts a_standsAt a_firstOrder a_could a_asked : Nat → Int32}
theorem xx_canJoin {post : Int32 → Prop} {a b o ea ua eb ub : Nat} (ha : a < 7) (hb : b < 7) (h1 : a_readElement a = nI ea) (h2 : a_readUsed a = nI ua) (h3 : a_readElement b = nI eb) (h4 : a_readUsed b = nI ub) (l1 : ea ≤ 3) (l2 : ua ≤ 21) (l3 : eb ≤ 3) (l4 : ub ≤ 21) (l5 : o ≤ 3) (ht : ua + o ≤ 4 - ea ∧ ub + o ≤ 4 - eb → post 1) (hf : ¬ (ua + o ≤ 4 - ea ∧ ub + o ≤ 4 - eb) → post 0) : wpX_canJoin post (f_count, f_isRead, f_wrongPlace, f_readAtoms, f_last, f_said, f_piled, f_orders, a_text, a_readElement, a_readBond, a_readUsed, a_pile, a_markAtom, a_markOrder, a_size, a_elements, a_bonds, a_near, a_nearOf, a_least, a_other, a_trial, a_placed, a_tried, a_setWays, a_setEnds, a_setCounts, a_standsAt, a_firstOrder, a_could, a_asked) (nI a) (nI b) (nI o) := by
  have ea1 : (4 : Int32) - a_readElement (nI a).toNatClampNeg = nI (4 - ea) := by rw [wk_c a h1]; exact pk_sub (a := 4) (by omega)
  have ua1 : a_readUsed (nI a).toNatClampNeg + nI o = nI (ua + o) := by rw [wk_c a h2, nI_add]
  have eb1 : (4 : Int32) - a_readElement (nI b).toNatClampNeg = nI (4 - eb) := by rw [wk_c b h3]; exact pk_sub (a := 4) (by omega)
  have ub1 : a_readUsed (nI b).toNatClampNeg + nI o = nI (ub + o) := by rw [wk_c b h4, nI_add]
  unfold wpX_canJoin
  refine wk_i a (wk_i a ?_)
  unfold wpX_valence
  exact pk_lt (4 - ea) (ua + o) (fun z => br_t rfl (hf (by omega))) (fun z => br_f wk_10 (wk_i b (wk_i b (pk_lt (4 - eb) (ub + o) (fun y => hf (by omega)) (fun y => ht ⟨by omega, by omega⟩) eb1 ub1)))) ea1 ua1
theorem xx_joinAtoms {post : SX → Prop} {a b o ua ub : Nat} (ha : a < 7) (hb : b < 7) (hab : a ≠ b) (h2 : a_readUsed a = nI ua) (h4 : a_readUsed b = nI ub) (h : post (f_count, f_isRead, f_wrongPlace, f_readAtoms, f_last, f_said, f_piled, f_orders, a_text, a_readElement, upd (upd a_readBond (7 * a + b) (nI o)) (7 * b + a) (nI o), upd (upd a_readUsed a (nI (ua + o))) b (nI (ub + o)), a_pile, a_markAtom, a_markOrder, a_size, a_elements, a_bonds, a_near, a_nearOf, a_least, a_other, a_trial, a_placed, a_tried, a_setWays, a_setEnds, a_setCounts, a_standsAt, a_firstOrder, a_could, a_asked)) : wpX_joinAtoms post (f_count, f_isRead, f_wrongPlace, f_readAtoms, f_last, f_said, f_piled, f_orders, a_text, a_readElement, a_readBond, a_readUsed, a_pile, a_markAtom, a_markOrder, a_size, a_elements, a_bonds, a_near, a_nearOf, a_least, a_other, a_trial, a_placed, a_tried, a_setWays, a_setEnds, a_setCounts, a_standsAt, a_firstOrder, a_could, a_asked) (nI a) (nI b) (nI o) := by
  unfold wpX_joinAtoms
  refine wk_w (7 * a + b) (wk_w (7 * b + a) (wk_i a (wk_v a (nI (ua + o)) (by rw [wk_c a h2, nI_add]) (wk_i b (wk_v b (nI (ub + o)) ?_ h)))) (by omega) (bb_ix b a)) (by omega) (bb_ix a b)
  rw [wk_c b (show upd a_readUsed a (nI (ua + o)) b = nI ub by rw [pk_un (fun e => hab e.symm)]; exact h4), nI_add]
theorem xx_readAtom {post : Int32 → SX → Prop} {i t m : Nat} {el : Nat → Nat} {bo : Nat → Nat → Nat} {last : Option Nat} {said h : Nat} {pl : Nat → Nat} {mw : Nat → Option Nat} {mo : Nat → Nat} (ht : t < 4) (hI : rd_I i m el bo last said h pl mw mo) (hT : rd_TX m el bo last said h pl mw mo f_readAtoms f_last f_said f_piled a_readElement a_readBond a_readUsed a_pile a_markAtom a_markOrder)
    (h0 : rd_atom t m el bo last said h pl mw mo = none → ∀ ra la sa pi rE rB rU pa mA mO, post 0 (f_count, f_isRead, f_wrongPlace, ra, la, sa, pi, f_orders, a_text, rE, rB, rU, pa, mA, mO, a_size, a_elements, a_bonds, a_near, a_nearOf, a_least, a_other, a_trial, a_placed, a_tried, a_setWays, a_setEnds, a_setCounts, a_standsAt, a_firstOrder, a_could, a_asked))
    (h1 : ∀ s', rd_atom t m el bo last said h pl mw mo = some s' → ∀ ra la sa pi rE rB rU pa mA mO, rd_TXs s' ra la sa pi rE rB rU pa mA mO → post 1 (f_count, f_isRead, f_wrongPlace, ra, la, sa, pi, f_orders, a_text, rE, rB, rU, pa, mA, mO, a_size, a_elements, a_bonds, a_near, a_nearOf, a_least, a_other, a_trial, a_placed, a_tried, a_setWays, a_setEnds, a_setCounts, a_standsAt, a_firstOrder, a_could, a_asked)) :
    wpX_readAtom post (f_count, f_isRead, f_wrongPlace, f_readAtoms, f_last, f_said, f_piled, f_orders, a_text, a_readElement, a_readBond, a_readUsed, a_pile, a_markAtom, a_markOrder, a_size, a_elements, a_bonds, a_near, a_nearOf, a_least, a_other, a_trial, a_placed, a_tried, a_setWays, a_setEnds, a_setCounts, a_standsAt, a_firstOrder, a_could, a_asked) (nI t) := by
  obtain ⟨i1, i2, i3, i4, i5, i6, i7, i8, i9, i10, i11, i12⟩ := hI
  obtain ⟨rfl, rfl, rfl, rfl, t5, t6, t7, t8, t9, t10⟩ := hT
  have hb0 : ∀ x, bo x m = 0 := fun x => by rw [i3]; exact i5 m x (Nat.le_refl _)
  have hsd0 : rd_sd bo m = 0 := bb_sm_z 7 (fun j _ => i5 m j (Nat.le_refl _))
  -- the end, once the new row and column are clear
  have E : m < 7 → (last = none → ¬ 0 < said) → ∀ rB, (∀ x y, x < 7 → y < 7 → (x = m ∨ y = m) → rB (7 * x + y) = 0) → (∀ x y, x < 7 → y < 7 → x ≠ m → y ≠ m → rB (7 * x + y) = a_readBond (7 * x + y)) → wX_readAtom_47 post (nI m) f_count f_isRead f_wrongPlace (nI m) (rd_l last) (nI said) (nI h) f_orders 1 (nI 7) a_text (upd a_readElement m (nI t)) rB (upd a_readUsed m 0) a_pile a_markAtom a_markOrder a_size a_elements a_bonds a_near a_nearOf a_least a_other a_trial a_placed a_tried a_setWays a_setEnds a_setCounts a_standsAt a_firstOrder a_could a_asked := by
    intro hm hls rB hz hk
    have hE : ∀ a, a < m + 1 → upd a_readElement m (nI t) a = nI (rd_u el m t a) := fun a ha => by
      by_cases e : a = m
      · rw [e, pk_us, rd_us]
      · rw [pk_un e, rd_un e]; exact t5 a (by omega)
    have hU0 : ∀ a, a < m + 1 → upd a_readUsed m 0 a = nI (rd_sd bo a) := fun a ha => by
      by_cases e : a = m
      · rw [e, pk_us, hsd0]; rfl
      · rw [pk_un e]; exact t7 a (by omega)
    have hB0 : ∀ a b, a < m + 1 → b < m + 1 → rB (7 * a + b) = nI (bo a b) := fun a b ha hb => by
      by_cases e : a = m ∨ b = m
      · rw [hz a b (by omega) (by omega) e]
        rcases e with e | e
        · rw [e, i5 m b (Nat.le_refl _)]; rfl
        · rw [e, hb0]; rfl
      · rw [hk a b (by omega) (by omega) (by omega) (by omega)]; exact t6 a b (by omega) (by omega)
    refine pk_le 7 7 (fun _ => ?_) (fun z => absurd z (by omega))
    cases last with
    | none =>
      refine br_t rfl (nm_r (wk_p m) (h1 (m + 1, rd_u el m t, bo, some m, 0, h, pl, mw, mo) ?_ _ _ _ _ _ _ _ _ _ _ ⟨rfl, rfl, rfl, rfl, hE, hB0, hU0, t8, t9, t10⟩))
      unfold rd_atom
      rw [if_neg (by omega)]
      dsimp only
      rw [if_neg (hls rfl)]
    | some l =>
      have hl := i7 l rfl
      have ho := rd_o_le i8
      have hcl : rd_sd bo l ≤ 21 := rd_sd_le i6 l
      have K : wX_readAtom_106 post (nI m) (nI (rd_o said)) f_count f_isRead f_wrongPlace (nI m) (rd_l (some l)) (nI said) (nI h) f_orders a_text (upd a_readElement m (nI t)) rB (upd a_readUsed m 0) a_pile a_markAtom a_markOrder a_size a_elements a_bonds a_near a_nearOf a_least a_other a_trial a_placed a_tried a_setWays a_setEnds a_setCounts a_standsAt a_firstOrder a_could a_asked := by
        refine xx_canJoin (a := l) (b := m) (o := rd_o said) (ea := el l) (ua := rd_sd bo l) (eb := t) (ub := 0) (by omega) hm ?_ ?_ pk_us pk_us (i2 l hl) hcl (by omega) (by omega) ho.2 (fun z => br_f wk_10 ?_) (fun z => br_t rfl ?_)
        · rw [pk_un (by omega)]; exact t5 l hl
        · rw [pk_un (by omega)]; exact t7 l hl
        · refine xx_joinAtoms (a := l) (b := m) (o := rd_o said) (ua := rd_sd bo l) (ub := 0) (by omega) hm (by omega) ?_ pk_us (nm_r (wk_p m) (h1 (m + 1, rd_u el m t, rd_jn bo l m (rd_o said), some m, 0, h, pl, mw, mo) ?_ _ _ _ _ _ _ _ _ _ _ ⟨rfl, rfl, rfl, rfl, hE, fun a b ha hb => ?_, fun a ha => ?_, t8, t9, t10⟩))
          · rw [pk_un (by omega)]; exact t7 l hl
          · unfold rd_atom
            rw [if_neg (by omega)]
            dsimp only
            rw [if_pos ⟨z.1, by omega⟩]
          · unfold rd_jn
            by_cases e1 : a = m ∧ b = l
            · rw [e1.1, e1.2, pk_us, if_pos (Or.inr ⟨rfl, rfl⟩)]
            · rw [pk_un (by omega)]
              by_cases e2 : a = l ∧ b = m
              · rw [e2.1, e2.2, pk_us, if_pos (Or.inl ⟨rfl, rfl⟩)]
              · rw [pk_un (by omega), if_neg (by omega)]; exact hB0 a b ha hb
          · rw [rd_sd_jn (by omega) hm (by omega) (hb0 l) (i5 m l (Nat.le_refl _))]
            by_cases e1 : a = m
            · rw [e1, pk_us, if_pos (Or.inr rfl), hsd0]
            · rw [pk_un e1]
              by_cases e2 : a = l
              · rw [e2, pk_us, if_pos (Or.inl rfl)]
              · rw [pk_un e2, if_neg (by omega)]; exact hU0 a ha
        · refine h0 ?_ _ _ _ _ _ _ _ _ _ _
          unfold rd_atom
          rw [if_neg (by omega)]
          dsimp only
          rw [if_neg (fun y => z ⟨y.1, by omega⟩)]
      refine br_f (bb_ne (by omega)) (pk_le said 0 (fun z => ?_) (fun z => ?_))
      · have e : rd_o said = 1 := if_pos (by omega)
        rw [e] at K; exact K
      · have e : rd_o said = said := if_neg (by omega)
        rw [e] at K; exact K
  have L : m < 7 → (last = none → ¬ 0 < said) → ∀ d j rB, j + d = 7 → (∀ x y, x < 7 → y < 7 → (x = m ∧ y < j) ∨ (y = m ∧ x < j) → rB (7 * x + y) = 0) → (∀ x y, x < 7 → y < 7 → x ≠ m → y ≠ m → rB (7 * x + y) = a_readBond (7 * x + y)) → wX_readAtom_47 post (nI m) f_count f_isRead f_wrongPlace (nI m) (rd_l last) (nI said) (nI h) f_orders (d + 1) (nI j) a_text (upd a_readElement m (nI t)) rB (upd a_readUsed m 0) a_pile a_markAtom a_markOrder a_size a_elements a_bonds a_near a_nearOf a_least a_other a_trial a_placed a_tried a_setWays a_setEnds a_setCounts a_standsAt a_firstOrder a_could a_asked := by
    intro hm hls d
    induction d with
    | zero =>
      intro j rB hj hz hk
      have e : j = 7 := by omega
      subst e
      exact E hm hls rB (fun x y hx hy hxy => hz x y hx hy (by omega)) hk
    | succ d ih =>
      intro j rB hj hz hk
      refine pk_le 7 j (fun z => absurd z (by omega)) (fun _ => wk_w (7 * m + j) (wk_w (7 * j + m) (nm_r (wk_p j) (ih (j + 1) _ (by omega) (fun x y hx hy hxy => ?_) (fun x y hx hy h1 h2 => ?_))) (by omega) (bb_ix j m)) (by omega) (bb_ix m j))
      · by_cases e1 : 7 * x + y = 7 * j + m
        · rw [e1, pk_us]
        · rw [pk_un e1]
          by_cases e2 : 7 * x + y = 7 * m + j
          · rw [e2, pk_us]
          · rw [pk_un e2]; exact hz x y hx hy (by omega)
      · rw [pk_un (by omega), pk_un (by omega)]; exact hk x y hx hy h1 h2
  have K26 : m < 7 → (last = none → ¬ 0 < said) → wX_readAtom_26 post (nI t) f_count f_isRead f_wrongPlace (nI m) (rd_l last) (nI said) (nI h) f_orders a_text a_readElement a_readBond a_readUsed a_pile a_markAtom a_markOrder a_size a_elements a_bonds a_near a_nearOf a_least a_other a_trial a_placed a_tried a_setWays a_setEnds a_setCounts a_standsAt a_firstOrder a_could a_asked := fun hm hls =>
    wk_w m (wk_w m (Exists.intro 8 (L hm hls 7 0 a_readBond (by omega) (fun x y _ _ z => absurd z (by omega)) (fun _ _ _ _ _ _ => rfl))))
  unfold wpX_readAtom
  refine pk_eq m 7 (fun z => h0 (by unfold rd_atom; rw [if_pos z]) _ _ _ _ _ _ _ _ _ _) (fun z => ?_)
  cases last with
  | none =>
    refine br_t rfl (pk_le said 0 (fun y => K26 (by omega) (fun _ => by omega)) (fun y => h0 ?_ _ _ _ _ _ _ _ _ _ _))
    unfold rd_atom
    rw [if_neg z]
    dsimp only
    rw [if_pos y]
  | some l =>
    have hl := i7 l rfl
    exact br_f (bb_ne (by omega)) (K26 (by omega) (fun y => absurd y (by simp)))
end
end
section
section
variable {f_count f_isRead f_wrongPlace f_readAtoms f_last f_said f_piled f_orders : Int32} {a_text a_readElement a_readBond a_readUsed a_pile a_markAtom a_markOrder a_size a_elements a_bonds a_near a_nearOf a_least a_other a_trial a_placed a_tried a_setWays a_setEnds a_setCounts a_standsAt a_firstOrder a_could a_asked : Nat → Int32}
theorem xx_readBranch {post : Int32 → SX → Prop} {i t pv m : Nat} {el : Nat → Nat} {bo : Nat → Nat → Nat} {last : Option Nat} {said h : Nat} {pl : Nat → Nat} {mw : Nat → Option Nat} {mo : Nat → Nat} (ht : t = 10 ∨ t = 11) (hi : i < 24) (hpv : 0 < i → a_text (i - 1) = nI pv) (hpl : pv < 100) (hI : rd_I i m el bo last said h pl mw mo) (hT : rd_TX m el bo last said h pl mw mo f_readAtoms f_last f_said f_piled a_readElement a_readBond a_readUsed a_pile a_markAtom a_markOrder)
    (h0 : rd_sign t pv m el bo last said h pl mw mo = none → ∀ ra la sa pi rE rB rU pa mA mO, post 0 (f_count, f_isRead, f_wrongPlace, ra, la, sa, pi, f_orders, a_text, rE, rB, rU, pa, mA, mO, a_size, a_elements, a_bonds, a_near, a_nearOf, a_least, a_other, a_trial, a_placed, a_tried, a_setWays, a_setEnds, a_setCounts, a_standsAt, a_firstOrder, a_could, a_asked))
    (h1 : ∀ s', rd_sign t pv m el bo last said h pl mw mo = some s' → ∀ ra la sa pi rE rB rU pa mA mO, rd_TXs s' ra la sa pi rE rB rU pa mA mO → post 1 (f_count, f_isRead, f_wrongPlace, ra, la, sa, pi, f_orders, a_text, rE, rB, rU, pa, mA, mO, a_size, a_elements, a_bonds, a_near, a_nearOf, a_least, a_other, a_trial, a_placed, a_tried, a_setWays, a_setEnds, a_setCounts, a_standsAt, a_firstOrder, a_could, a_asked)) :
    wpX_readBranch post (f_count, f_isRead, f_wrongPlace, f_readAtoms, f_last, f_said, f_piled, f_orders, a_text, a_readElement, a_readBond, a_readUsed, a_pile, a_markAtom, a_markOrder, a_size, a_elements, a_bonds, a_near, a_nearOf, a_least, a_other, a_trial, a_placed, a_tried, a_setWays, a_setEnds, a_setCounts, a_standsAt, a_firstOrder, a_could, a_asked) (nI t) (nI i) := by
  obtain ⟨i1, i2, i3, i4, i5, i6, i7, i8, i9, i10, i11, i12⟩ := hI
  obtain ⟨rfl, rfl, rfl, rfl, t5, t6, t7, t8, t9, t10⟩ := hT
  unfold wpX_readBranch
  refine pk_eq t 10 (fun z => ?_) (fun z => ?_)
  · cases last with
    | none =>
      refine br_t rfl (h0 ?_ _ _ _ _ _ _ _ _ _ _)
      unfold rd_sign
      rw [if_neg (by omega)]
    | some l =>
      have hl := i7 l rfl
      refine br_f (bb_ne (by omega)) (pk_le said 0 (fun y => wk_w h (nm_r (wk_p h) (h1 (m, el, bo, some l, said, h + 1, rd_u pl h l, mw, mo) ?_ _ _ _ _ _ _ _ _ _ _ ⟨rfl, rfl, rfl, rfl, t5, t6, t7, fun j hj => ?_, t9, t10⟩))) (fun y => h0 ?_ _ _ _ _ _ _ _ _ _ _))
      · unfold rd_sign
        rw [if_neg (by omega)]
        dsimp only
        rw [if_neg (by omega), if_pos z]
      · by_cases e : j = h
        · rw [e, pk_us, rd_us]; rfl
        · rw [pk_un e, rd_un e]; exact t8 j (by omega)
      · unfold rd_sign
        rw [if_neg (by omega)]
        dsimp only
        rw [if_pos y]
  · have e11 : t = 11 := by omega
    refine pk_eq h 0 (fun y => h0 ?_ _ _ _ _ _ _ _ _ _ _) (fun y => pk_lt 0 said (fun x => h0 ?_ _ _ _ _ _ _ _ _ _ _) (fun x => wk_i (i - 1) (pk_eq pv 10 (fun w => h0 ?_ _ _ _ _ _ _ _ _ _ _) (fun w => nm_r (wk_s (by omega)) (wk_i (h - 1) (nm_r (e' := nI (pl (h - 1))) (wk_c (h - 1) (t8 _ (by omega))) (h1 (m, el, bo, some (pl (h - 1)), said, h - 1, pl, mw, mo) ?_ _ _ _ _ _ _ _ _ _ _ ⟨rfl, rfl, rfl, rfl, t5, t6, t7, fun j hj => t8 j (by omega), t9, t10⟩)))) (wk_c (i - 1) (hpv (by omega)) (wk_s (by omega)))) (by omega) (wk_s (by omega))))
    · unfold rd_sign; rw [if_pos e11, if_pos (Or.inl y)]
    · unfold rd_sign; rw [if_pos e11, if_pos (Or.inr (Or.inl x))]
    · unfold rd_sign; rw [if_pos e11, if_pos (Or.inr (Or.inr w))]
    · unfold rd_sign; rw [if_pos e11, if_neg (by omega)]
theorem xx_readMark {post : Int32 → SX → Prop} {i q m : Nat} {el : Nat → Nat} {bo : Nat → Nat → Nat} {last : Option Nat} {said h : Nat} {pl : Nat → Nat} {mw : Nat → Option Nat} {mo : Nat → Nat} (hq : q < 3) (hI : rd_I i m el bo last said h pl mw mo) (hT : rd_TX m el bo last said h pl mw mo f_readAtoms f_last f_said f_piled a_readElement a_readBond a_readUsed a_pile a_markAtom a_markOrder)
    (h0 : rd_mark q m el bo last said h pl mw mo = none → ∀ ra la sa pi rE rB rU pa mA mO, post 0 (f_count, f_isRead, f_wrongPlace, ra, la, sa, pi, f_orders, a_text, rE, rB, rU, pa, mA, mO, a_size, a_elements, a_bonds, a_near, a_nearOf, a_least, a_other, a_trial, a_placed, a_tried, a_setWays, a_setEnds, a_setCounts, a_standsAt, a_firstOrder, a_could, a_asked))
    (h1 : ∀ s', rd_mark q m el bo last said h pl mw mo = some s' → ∀ ra la sa pi rE rB rU pa mA mO, rd_TXs s' ra la sa pi rE rB rU pa mA mO → post 1 (f_count, f_isRead, f_wrongPlace, ra, la, sa, pi, f_orders, a_text, rE, rB, rU, pa, mA, mO, a_size, a_elements, a_bonds, a_near, a_nearOf, a_least, a_other, a_trial, a_placed, a_tried, a_setWays, a_setEnds, a_setCounts, a_standsAt, a_firstOrder, a_could, a_asked)) :
    wpX_readMark post (f_count, f_isRead, f_wrongPlace, f_readAtoms, f_last, f_said, f_piled, f_orders, a_text, a_readElement, a_readBond, a_readUsed, a_pile, a_markAtom, a_markOrder, a_size, a_elements, a_bonds, a_near, a_nearOf, a_least, a_other, a_trial, a_placed, a_tried, a_setWays, a_setEnds, a_setCounts, a_standsAt, a_firstOrder, a_could, a_asked) (nI q) := by
  obtain ⟨i1, i2, i3, i4, i5, i6, i7, i8, i9, i10, i11, i12⟩ := hI
  obtain ⟨rfl, rfl, rfl, rfl, t5, t6, t7, t8, t9, t10⟩ := hT
  unfold wpX_readMark
  cases last with
  | none => exact br_t rfl (h0 rfl _ _ _ _ _ _ _ _ _ _)
  | some l =>
    have hl := i7 l rfl
    have hmq : a_markAtom (nI q).toNatClampNeg = rd_l (mw q) := wk_c q (t9 q hq)
    refine br_f (bb_ne (by omega)) (wk_i q ?_)
    rw [hmq]
    cases hk : mw q with
    | none =>
      refine br_t rfl (wk_w q (wk_w q (h1 (m, el, bo, some l, 0, h, pl, rd_u mw q (some l), rd_u mo q said) ?_ _ _ _ _ _ _ _ _ _ _ ⟨rfl, rfl, rfl, rfl, t5, t6, t7, t8, fun k hk' => ?_, fun k a hk' he => ?_⟩)))
      · unfold rd_mark
        dsimp only
        rw [hk]
      · by_cases e : k = q
        · rw [e, pk_us, rd_us]
        · rw [pk_un e, rd_un e]; exact t9 k hk'
      · by_cases e : k = q
        · rw [e, pk_us, rd_us]
        · rw [rd_un e] at he
          rw [pk_un e, rd_un e]; exact t10 k a hk' he
    | some a =>
      have ha := i11 q a hk
      have hmo := i12 q a hk
      have hmO : a_markOrder (nI q).toNatClampNeg = nI (mo q) := wk_c q (t10 q a hq hk)
      have hbn : a_readBond ((7 * nI a) + nI l).toNatClampNeg = nI (bo a l) := wk_c (7 * a + l) (t6 a l ha hl) (bb_ix a l)
      have hb3 := i6 a l
      have no : (a = l ∨ 0 < bo a l ∨ (0 < said ∧ 0 < mo q ∧ said ≠ mo q)) → rd_mark q m el bo (some l) said h pl mw mo = none := fun z => by
        unfold rd_mark
        dsimp only
        rw [hk]
        dsimp only
        rw [if_pos z]
      -- the join, with an order
      have J : ¬ (a = l ∨ 0 < bo a l ∨ (0 < said ∧ 0 < mo q ∧ said ≠ mo q)) → ∀ o, o = (if 0 < said then said else rd_o (mo q)) → wX_readMark_153 post (nI q) (nI a) (nI o) f_count f_isRead f_wrongPlace (nI m) (rd_l (some l)) (nI said) (nI h) f_orders a_text a_readElement a_readBond a_readUsed a_pile a_markAtom a_markOrder a_size a_elements a_bonds a_near a_nearOf a_least a_other a_trial a_placed a_tried a_setWays a_setEnds a_setCounts a_standsAt a_firstOrder a_could a_asked := fun hno o ho => by
        have ho3 : o ≤ 3 := by
          rw [ho]
          by_cases z : 0 < said
          · rw [if_pos z]; exact i8
          · rw [if_neg z]; exact (rd_o_le hmo).2
        have hba : bo a l = 0 := by omega
        refine xx_canJoin (a := a) (b := l) (o := o) (ea := el a) (ua := rd_sd bo a) (eb := el l) (ub := rd_sd bo l) (by omega) (by omega) (t5 a ha) (t7 a ha) (t5 l hl) (t7 l hl) (i2 a ha) (rd_sd_le i6 a) (i2 l hl) (rd_sd_le i6 l) ho3 (fun z => br_f wk_10 ?_) (fun z => br_t rfl ?_)
        · refine xx_joinAtoms (a := a) (b := l) (o := o) (ua := rd_sd bo a) (ub := rd_sd bo l) (by omega) (by omega) (by omega) (t7 a ha) (t7 l hl) (wk_w q (h1 (m, el, rd_jn bo a l o, some l, 0, h, pl, rd_u mw q none, mo) ?_ _ _ _ _ _ _ _ _ _ _ ⟨rfl, rfl, rfl, rfl, t5, fun x y hx hy => ?_, fun x hx => ?_, t8, fun k hk' => ?_, fun k b hk' he => ?_⟩))
          · unfold rd_mark
            dsimp only
            rw [hk]
            dsimp only
            rw [if_neg hno, ← ho, if_pos z]
          · unfold rd_jn
            by_cases e1 : x = l ∧ y = a
            · rw [e1.1, e1.2, pk_us, if_pos (Or.inr ⟨rfl, rfl⟩)]
            · rw [pk_un (by omega)]
              by_cases e2 : x = a ∧ y = l
              · rw [e2.1, e2.2, pk_us, if_pos (Or.inl ⟨rfl, rfl⟩)]
              · rw [pk_un (by omega), if_neg (by omega)]; exact t6 x y hx hy
          · rw [rd_sd_jn (by omega) (by omega) (by omega) hba (by rw [i3]; exact hba)]
            by_cases e1 : x = l
            · rw [e1, pk_us, if_pos (Or.inr rfl)]
            · rw [pk_un e1]
              by_cases e2 : x = a
              · rw [e2, pk_us, if_pos (Or.inl rfl)]
              · rw [pk_un e2, if_neg (by omega)]; exact t7 x hx
          · by_cases e : k = q
            · rw [e, pk_us, rd_us]; rfl
            · rw [pk_un e, rd_un e]; exact t9 k hk'
          · by_cases e : k = q
            · rw [e, rd_us] at he; exact absurd he (by simp)
            · rw [rd_un e] at he; exact t10 k b hk' he
        · refine h0 ?_ _ _ _ _ _ _ _ _ _ _
          unfold rd_mark
          dsimp only
          rw [hk]
          dsimp only
          rw [if_neg hno, ← ho, if_neg z]
      -- the checks, with 'differ' as a flag
      have C88 : ∀ d : Nat, (d = 0 ↔ ¬ (0 < said ∧ 0 < mo q ∧ said ≠ mo q)) → d ≤ 1 → wX_readMark_88 post (nI q) (nI a) (nI d) f_count f_isRead f_wrongPlace (nI m) (rd_l (some l)) (nI said) (nI h) f_orders a_text a_readElement a_readBond a_readUsed a_pile a_markAtom a_markOrder a_size a_elements a_bonds a_near a_nearOf a_least a_other a_trial a_placed a_tried a_setWays a_setEnds a_setCounts a_standsAt a_firstOrder a_could a_asked := fun d hd hd1 => by
        refine pk_eq a l (fun z => h0 (no (Or.inl z)) _ _ _ _ _ _ _ _ _ _) (fun z => wk_i (7 * a + l) (pk_lt 0 (bo a l) (fun y => h0 (no (Or.inr (Or.inl y))) _ _ _ _ _ _ _ _ _ _) (fun y => pk_eq d 0 (fun w => ?_) (fun w => h0 (no (Or.inr (Or.inr (Classical.not_not.mp (fun x => w (hd.mpr x)))))) _ _ _ _ _ _ _ _ _ _)) rfl hbn) (by omega) (bb_ix a l))
        have hno : ¬ (a = l ∨ 0 < bo a l ∨ (0 < said ∧ 0 < mo q ∧ said ≠ mo q)) := by
          rintro (x | x | x)
          · exact z x
          · omega
          · exact hd.mp w x
        refine pk_le said 0 (fun x => wk_i q (pk_le (mo q) 0 (fun v => J hno 1 ?_) (fun v => wk_i q ?_) hmO)) (fun x => J hno said ?_)
        · rw [if_neg (by omega)]; exact (if_pos (by omega)).symm
        · rw [hmO]
          refine J hno (mo q) ?_
          rw [if_neg (by omega)]; exact (if_neg (by omega)).symm
        · rw [if_pos x]
      have C87 : ¬ (0 < said ∧ 0 < mo q ∧ said ≠ mo q) → wX_readMark_87 post (nI q) (nI a) f_count f_isRead f_wrongPlace (nI m) (rd_l (some l)) (nI said) (nI h) f_orders a_text a_readElement a_readBond a_readUsed a_pile a_markAtom a_markOrder a_size a_elements a_bonds a_near a_nearOf a_least a_other a_trial a_placed a_tried a_setWays a_setEnds a_setCounts a_standsAt a_firstOrder a_could a_asked := fun hz => C88 0 ⟨fun _ => hz, fun _ => rfl⟩ (by omega)
      refine br_f (bb_ne (by omega)) (wk_i q (nm_r (e' := nI a) rfl (pk_le said 0 (fun z => C87 (by omega)) (fun z => wk_i q (pk_le (mo q) 0 (fun y => C87 (by omega)) (fun y => wk_i q (pk_eq said (mo q) (fun x => C87 (by omega)) (fun x => C88 1 ⟨fun w => absurd w (by omega), fun w => absurd ⟨z, y, x⟩ w⟩ (by omega)) rfl hmO)) hmO)))))
theorem xx_readToken {post : Int32 → SX → Prop} {i t pv : Nat} {s : RdS} (ht : rd_tk t) (hi : i < 24) (htx : a_text i = nI t) (hpv : 0 < i → a_text (i - 1) = nI pv) (hpl : pv < 100) (hI : rd_IS i s) (hT : rd_TXs s f_readAtoms f_last f_said f_piled a_readElement a_readBond a_readUsed a_pile a_markAtom a_markOrder)
    (h0 : rd_st t pv s = none → ∀ ra la sa pi rE rB rU pa mA mO, post 0 (f_count, f_isRead, f_wrongPlace, ra, la, sa, pi, f_orders, a_text, rE, rB, rU, pa, mA, mO, a_size, a_elements, a_bonds, a_near, a_nearOf, a_least, a_other, a_trial, a_placed, a_tried, a_setWays, a_setEnds, a_setCounts, a_standsAt, a_firstOrder, a_could, a_asked))
    (h1 : ∀ s', rd_st t pv s = some s' → ∀ ra la sa pi rE rB rU pa mA mO, rd_TXs s' ra la sa pi rE rB rU pa mA mO → post 1 (f_count, f_isRead, f_wrongPlace, ra, la, sa, pi, f_orders, a_text, rE, rB, rU, pa, mA, mO, a_size, a_elements, a_bonds, a_near, a_nearOf, a_least, a_other, a_trial, a_placed, a_tried, a_setWays, a_setEnds, a_setCounts, a_standsAt, a_firstOrder, a_could, a_asked)) :
    wpX_readToken post (f_count, f_isRead, f_wrongPlace, f_readAtoms, f_last, f_said, f_piled, f_orders, a_text, a_readElement, a_readBond, a_readUsed, a_pile, a_markAtom, a_markOrder, a_size, a_elements, a_bonds, a_near, a_nearOf, a_least, a_other, a_trial, a_placed, a_tried, a_setWays, a_setEnds, a_setCounts, a_standsAt, a_firstOrder, a_could, a_asked) (nI i) := by
  obtain ⟨m, el, bo, last, said, h, pl, mw, mo⟩ := s
  have hst : rd_st t pv (m, el, bo, last, said, h, pl, mw, mo) = if t < 4 then rd_atom t m el bo last said h pl mw mo else if 19 < t then rd_mark (t - 20) m el bo last said h pl mw mo else rd_sign t pv m el bo last said h pl mw mo := rfl
  unfold rd_tk at ht
  unfold wpX_readToken
  refine wk_i i (nm_r (e' := nI t) (wk_c i htx) (pk_lt 3 t (fun z => ?_) (fun z => ?_)))
  · rw [if_neg (by omega)] at hst
    have SB : ¬ 19 < t → (t = 10 ∨ t = 11) → wX_readToken_30 post (nI i) (nI t) f_count f_isRead f_wrongPlace f_readAtoms f_last f_said f_piled f_orders a_text a_readElement a_readBond a_readUsed a_pile a_markAtom a_markOrder a_size a_elements a_bonds a_near a_nearOf a_least a_other a_trial a_placed a_tried a_setWays a_setEnds a_setCounts a_standsAt a_firstOrder a_could a_asked := fun h19 h1011 => by
      rw [if_neg h19] at hst
      refine xx_readBranch h1011 hi hpv hpl hI hT (fun hn ra la sa pi rE rB rU pa mA mO => And.intro rfl (h0 (hst.trans hn) ra la sa pi rE rB rU pa mA mO)) (fun s' hs ra la sa pi rE rB rU pa mA mO hTs => And.intro rfl (h1 s' (hst.trans hs) ra la sa pi rE rB rU pa mA mO hTs))
    refine pk_eq t 10 (fun y => SB (by omega) (Or.inl y)) (fun y => pk_eq t 11 (fun x => SB (by omega) (Or.inr x)) (fun x => pk_lt t 20 (fun w => ?_) (fun w => ?_)))
    · rw [if_neg (by omega)] at hst
      obtain ⟨i1, i2, i3, i4, i5, i6, i7, i8, i9, i10, i11, i12⟩ := hI
      obtain ⟨rfl, rfl, rfl, rfl, t5, t6, t7, t8, t9, t10⟩ := hT
      unfold rd_sign at hst
      rw [if_neg x] at hst
      cases last with
      | none => exact br_t rfl (h0 hst _ _ _ _ _ _ _ _ _ _)
      | some l =>
        have hl := i7 l rfl
        dsimp only at hst
        refine br_f (bb_ne (by omega)) (pk_le said 0 (fun v => ?_) (fun v => ?_))
        · rw [if_neg (by omega), if_neg y] at hst
          refine pk_eq t 14 (fun u => ?_) (fun u => ?_)
          · rw [if_pos u] at hst
            refine pk_eq h 0 (fun r => ?_) (fun r => ?_)
            · rw [if_pos r] at hst
              exact h1 _ hst _ _ _ _ _ _ _ _ _ _ ⟨rfl, rfl, rfl, rfl, t5, t6, t7, t8, t9, t10⟩
            · rw [if_neg r] at hst
              exact h0 hst _ _ _ _ _ _ _ _ _ _
          · rw [if_neg u] at hst
            refine pk_eq t 12 (fun r => ?_) (fun r => ?_)
            · rw [r] at hst
              exact h1 _ (by rw [r]; exact hst) _ _ _ _ _ _ _ _ _ _ ⟨rfl, rfl, rfl, rfl, t5, t6, t7, t8, t9, t10⟩
            · have e13 : t = 13 := by omega
              rw [e13] at hst
              exact h1 _ (by rw [e13]; exact hst) _ _ _ _ _ _ _ _ _ _ ⟨rfl, rfl, rfl, rfl, t5, t6, t7, t8, t9, t10⟩
        · rw [if_pos v] at hst
          exact h0 hst _ _ _ _ _ _ _ _ _ _
    · rw [if_pos (by omega)] at hst
      have e : nI t - 20 = nI (t - 20) := pk_sub (b := 20) w
      rw [e]
      exact xx_readMark (by omega) hI hT (fun hn ra la sa pi rE rB rU pa mA mO => And.intro rfl (h0 (hst.trans hn) ra la sa pi rE rB rU pa mA mO)) (fun s' hs ra la sa pi rE rB rU pa mA mO hTs => And.intro rfl (h1 s' (hst.trans hs) ra la sa pi rE rB rU pa mA mO hTs))
  · rw [if_pos (by omega)] at hst
    exact xx_readAtom (by omega) hI hT (fun hn ra la sa pi rE rB rU pa mA mO => And.intro rfl (h0 (hst.trans hn) ra la sa pi rE rB rU pa mA mO)) (fun s' hs ra la sa pi rE rB rU pa mA mO hTs => And.intro rfl (h1 s' (hst.trans hs) ra la sa pi rE rB rU pa mA mO hTs))
theorem xx_endsWell {post : Int32 → Prop} {c : Nat} {tx : Nat → Nat} {s : RdS} (hc : c ≤ 24) (hcc : f_count = nI c) (htx : ∀ i, i < c → a_text i = nI (tx i) ∧ rd_tk (tx i)) (hI : rd_IS c s) (hT : rd_TXs s f_readAtoms f_last f_said f_piled a_readElement a_readBond a_readUsed a_pile a_markAtom a_markOrder) (h : post (nI (rd_en tx c s).toNat)) : wpX_endsWell post (f_count, f_isRead, f_wrongPlace, f_readAtoms, f_last, f_said, f_piled, f_orders, a_text, a_readElement, a_readBond, a_readUsed, a_pile, a_markAtom, a_markOrder, a_size, a_elements, a_bonds, a_near, a_nearOf, a_least, a_other, a_trial, a_placed, a_tried, a_setWays, a_setEnds, a_setCounts, a_standsAt, a_firstOrder, a_could, a_asked) := by
  obtain ⟨m, el, bo, last, said, hh, pl, mw, mo⟩ := s
  obtain ⟨i1, i2, i3, i4, i5, i6, i7, i8, i9, i10, i11, i12⟩ := hI
  obtain ⟨rfl, rfl, rfl, rfl, t5, t6, t7, t8, t9, t10⟩ := hT
  subst hcc
  unfold rd_en at h
  dsimp only at h
  have hmk : ∀ k, k < 3 → (a_markAtom k = -1 ↔ mw k = none) := fun k hk => by
    rw [t9 k hk]
    exact xp_l1 (fun a ha => by have := i11 k a ha; omega)
  have no : ¬ (mw 0 = none ∧ mw 1 = none ∧ mw 2 = none) → wX_endsWell_30 post (nI c) f_isRead f_wrongPlace (nI m) (rd_l last) (nI said) (nI hh) f_orders a_text a_readElement a_readBond a_readUsed a_pile a_markAtom a_markOrder a_size a_elements a_bonds a_near a_nearOf a_least a_other a_trial a_placed a_tried a_setWays a_setEnds a_setCounts a_standsAt a_firstOrder a_could a_asked := fun z => by
    rw [decide_eq_false (fun y => z ⟨y.1, y.2.1, y.2.2.1⟩)] at h
    exact br_f wk_10 h
  unfold wpX_endsWell
  refine br_c (fun a0 => br_c (fun a1 => br_c (fun a2 => ?_) (fun z => no (fun y => z ((hmk 2 (by omega)).mpr y.2.2)))) (fun z => no (fun y => z ((hmk 1 (by omega)).mpr y.2.1)))) (fun z => no (fun y => z ((hmk 0 (by omega)).mpr y.1)))
  have b0 := (hmk 0 (by omega)).mp a0
  have b1 := (hmk 1 (by omega)).mp a1
  have b2 := (hmk 2 (by omega)).mp a2
  refine br_t rfl (pk_eq hh 0 (fun z => pk_eq said 0 (fun y => pk_eq c 0 (fun x => ?_) (fun x => wk_i (c - 1) ?_ (by omega) (wk_s (by omega)))) (fun y => ?_)) (fun z => ?_))
  · rw [decide_eq_true ⟨b0, b1, b2, z, y, Or.inl x⟩] at h; exact h
  · have ht := htx (c - 1) (by omega)
    have htk : tx (c - 1) < 100 := by have := ht.2; unfold rd_tk at this; omega
    refine pk_eq (tx (c - 1)) 14 (fun w => ?_) (fun w => ?_) (wk_c (c - 1) ht.1 (wk_s (by omega)))
    · rw [decide_eq_false (fun v => by rcases v.2.2.2.2.2 with u | u <;> omega)] at h; exact h
    · rw [decide_eq_true ⟨b0, b1, b2, z, y, Or.inr w⟩] at h; exact h
  · rw [decide_eq_false (fun v => y v.2.2.2.2.1)] at h; exact h
  · rw [decide_eq_false (fun v => z v.2.2.2.1)] at h; exact h
/-- what was read is kept -/
def xp_K (tx : Nat → Nat) (c : Nat) (wr ra : Int32) (rE rB : XA) : Prop := wr = (rd_all tx c).1 ∧ ((rd_all tx c).1 = -4 → match (rd_all tx c).2 with | (m, el, bo, _, _, _, _, _, _) => ra = nI m ∧ (∀ a, a < m → rE a = nI (el a)) ∧ ∀ a b, a < m → b < m → rB (7 * a + b) = nI (bo a b))
theorem xp_56 {post : SX → Prop} {c : Nat} {tx : Nat → Nat} (hc : c ≤ 24) (hcc : f_count = nI c) (htx : ∀ i, i < c → a_text i = nI (tx i) ∧ rd_tk (tx i))
    (h : ∀ wr ra la sa pi rE rB rU pa mA mO, xp_K tx c wr ra rE rB → post (f_count, 1, wr, ra, la, sa, pi, f_orders, a_text, rE, rB, rU, pa, mA, mO, a_size, a_elements, a_bonds, a_near, a_nearOf, a_least, a_other, a_trial, a_placed, a_tried, a_setWays, a_setEnds, a_setCounts, a_standsAt, a_firstOrder, a_could, a_asked)) :
    ∀ (d i : Nat) (s : RdS) (ra la sa pi : Int32) (rE rB rU pa mA mO : XA), i + d = c → rd_IS i s → rd_TXs s ra la sa pi rE rB rU pa mA mO → rd_lp tx d i s = rd_all tx c → wX_readAll_56 post (d + 2) (nI i) f_count f_isRead (-4) ra la sa pi f_orders a_text rE rB rU pa mA mO a_size a_elements a_bonds a_near a_nearOf a_least a_other a_trial a_placed a_tried a_setWays a_setEnds a_setCounts a_standsAt a_firstOrder a_could a_asked := by
  intro d
  induction d with
  | zero =>
    intro i s ra la sa pi rE rB rU pa mA mO hi hI hT hl
    have e : i = c := by omega
    subst e
    refine pk_le i i (fun _ => br_t rfl (xx_endsWell hc hcc htx hI hT ?_)) (fun z => absurd z (by omega)) hcc
    have hl' : (bif rd_en tx i s then (-4 : Int32) else nI i, s) = rd_all tx i := hl
    cases hz : rd_en tx i s with
    | false =>
      rw [hz] at hl'
      refine br_t rfl ?_
      have k := h (nI i) ra la sa pi rE rB rU pa mA mO ⟨by rw [← hl']; rfl, fun y => by
        rw [← hl'] at y; exact absurd y (bb_ne4 (by omega))⟩
      rw [hcc] at k ⊢
      exact k
    | true =>
      rw [hz] at hl'
      refine br_f (by decide) (h (-4) ra la sa pi rE rB rU pa mA mO ⟨by rw [← hl']; rfl, fun _ => ?_⟩)
      rw [← hl']
      obtain ⟨m, el, bo, last, said, hh, pl, mw, mo⟩ := s
      exact ⟨hT.1, hT.2.2.2.2.1, hT.2.2.2.2.2.1⟩
  | succ d ih =>
    intro i s ra la sa pi rE rB rU pa mA mO hi hI hT hl
    have ht := htx i (by omega)
    have hpv : 0 < i → a_text (i - 1) = nI (tx (i - 1)) := fun _ => (htx (i - 1) (by omega)).1
    have hpl : tx (i - 1) < 100 := by have := (htx (i - 1) (by omega)).2; unfold rd_tk at this; omega
    unfold rd_lp at hl
    refine pk_le c i (fun z => absurd z (by omega)) (fun _ => br_t rfl (xx_readToken ht.2 (by omega) ht.1 hpv hpl hI hT (fun hn ra la sa pi rE rB rU pa mA mO => ?_) (fun s' hs ra la sa pi rE rB rU pa mA mO hTs => ?_))) hcc
    · rw [hn] at hl
      dsimp only at hl
      have hp := h (nI i) ra la sa pi rE rB rU pa mA mO ⟨by rw [← hl], fun y => by rw [← hl] at y; exact absurd y (bb_ne4 (by omega))⟩
      have h99 : wX_readAll_99 post f_count f_isRead (nI i) ra la sa pi f_orders a_text rE rB rU pa mA mO a_size a_elements a_bonds a_near a_nearOf a_least a_other a_trial a_placed a_tried a_setWays a_setEnds a_setCounts a_standsAt a_firstOrder a_could a_asked := br_f (bb_ne4 (by omega)) hp
      exact br_t rfl (nm_r (wk_p i) (br_c (fun _ => h99) (fun _ => br_f (bb_ne4 (by omega)) h99)))
    · rw [hs] at hl
      dsimp only at hl
      exact br_f wk_10 (nm_r (wk_p i) (ih (i + 1) s' ra la sa pi rE rB rU pa mA mO (by omega) (rd_I_st ht.2 hI hs) hTs hl))
theorem xx_readAll {post : SX → Prop} {c : Nat} {tx : Nat → Nat} (hc : c ≤ 24) (hcc : f_count = nI c) (htx : ∀ i, i < c → a_text i = nI (tx i) ∧ rd_tk (tx i)) (hr : f_isRead = 0 ∨ (f_isRead = 1 ∧ xp_K tx c f_wrongPlace f_readAtoms a_readElement a_readBond))
    (h : ∀ wr ra la sa pi rE rB rU pa mA mO, xp_K tx c wr ra rE rB → post (f_count, 1, wr, ra, la, sa, pi, f_orders, a_text, rE, rB, rU, pa, mA, mO, a_size, a_elements, a_bonds, a_near, a_nearOf, a_least, a_other, a_trial, a_placed, a_tried, a_setWays, a_setEnds, a_setCounts, a_standsAt, a_firstOrder, a_could, a_asked)) : wpX_readAll post (f_count, f_isRead, f_wrongPlace, f_readAtoms, f_last, f_said, f_piled, f_orders, a_text, a_readElement, a_readBond, a_readUsed, a_pile, a_markAtom, a_markOrder, a_size, a_elements, a_bonds, a_near, a_nearOf, a_least, a_other, a_trial, a_placed, a_tried, a_setWays, a_setEnds, a_setCounts, a_standsAt, a_firstOrder, a_could, a_asked) := by
  unfold wpX_readAll
  rcases hr with hr | ⟨hr, hk⟩
  · have L : ∀ d k mA, k + d = 3 → (∀ j, j < k → mA j = -1) → wX_readAll_36 post f_count f_isRead (-4) 0 (-1) 0 0 f_orders (d + 1) (nI k) a_text a_readElement a_readBond a_readUsed a_pile mA a_markOrder a_size a_elements a_bonds a_near a_nearOf a_least a_other a_trial a_placed a_tried a_setWays a_setEnds a_setCounts a_standsAt a_firstOrder a_could a_asked := by
      intro d
      induction d with
      | zero =>
        intro k mA hk hm
        refine pk_le 3 k (fun _ => Exists.intro (c + 2) (xp_56 hc hcc htx h c 0 rd_s0 0 (-1) 0 0 a_readElement a_readBond a_readUsed a_pile mA a_markOrder (by omega) rd_I0 ⟨rfl, rfl, rfl, rfl, fun a ha => absurd ha (by omega), fun a b ha => absurd ha (by omega), fun a ha => absurd ha (by omega), fun j hj => absurd hj (by omega), fun k hk' => hm k (by omega), fun k a _ he => absurd he (by simp)⟩ rfl)) (fun z => absurd z (by omega))
      | succ d ih =>
        intro k mA hk hm
        exact pk_le 3 k (fun z => absurd z (by omega)) (fun _ => wk_w k (nm_r (wk_p k) (ih (k + 1) _ (by omega) (fun j hj => by
          by_cases e : j = k
          · rw [e, pk_us]
          · rw [pk_un e]; exact hm j (by omega)))))
    exact br_t hr (Exists.intro 4 (L 3 0 a_markAtom (by omega) (fun j hj => absurd hj (by omega))))
  · subst hr
    exact br_f wk_10 (h _ _ _ _ _ _ _ _ _ _ _ hk)
theorem xx_wrongAt {post : Int32 → SX → Prop} {c : Nat} {tx : Nat → Nat} (hc : c ≤ 24) (hcc : f_count = nI c) (htx : ∀ i, i < c → a_text i = nI (tx i) ∧ rd_tk (tx i)) (hr : f_isRead = 0 ∨ (f_isRead = 1 ∧ xp_K tx c f_wrongPlace f_readAtoms a_readElement a_readBond))
    (h : ∀ wr ra la sa pi rE rB rU pa mA mO, xp_K tx c wr ra rE rB → post (rd_all tx c).1 (f_count, 1, wr, ra, la, sa, pi, f_orders, a_text, rE, rB, rU, pa, mA, mO, a_size, a_elements, a_bonds, a_near, a_nearOf, a_least, a_other, a_trial, a_placed, a_tried, a_setWays, a_setEnds, a_setCounts, a_standsAt, a_firstOrder, a_could, a_asked)) : wpX_wrongAt post (f_count, f_isRead, f_wrongPlace, f_readAtoms, f_last, f_said, f_piled, f_orders, a_text, a_readElement, a_readBond, a_readUsed, a_pile, a_markAtom, a_markOrder, a_size, a_elements, a_bonds, a_near, a_nearOf, a_least, a_other, a_trial, a_placed, a_tried, a_setWays, a_setEnds, a_setCounts, a_standsAt, a_firstOrder, a_could, a_asked) := by
  unfold wpX_wrongAt
  refine xx_readAll hc hcc htx hr (fun wr ra la sa pi rE rB rU pa mA mO hk => ?_)
  have k := h wr ra la sa pi rE rB rU pa mA mO hk
  rw [← hk.1] at k
  exact k
end
end
section
/-! a molecule is stored in a slot -/
def rs_F (s : Nat) (es bs es' bs' : XA) : Prop := (∀ s' a, s' ≠ s → a < 7 → es' (7 * s' + a) = es (7 * s' + a)) ∧ ∀ s' j, s' ≠ s → j < 49 → bs' (49 * s' + j) = bs (49 * s' + j)
theorem rs_F_r {s : Nat} {es bs : XA} : rs_F s es bs es bs := ⟨fun _ _ _ _ => rfl, fun _ _ _ _ => rfl⟩
theorem rs_F_e {s a : Nat} {es bs es' bs' : XA} {v : Int32} (ha : a < 7) (h : rs_F s es bs es' bs') : rs_F s es bs (upd es' (7 * s + a) v) bs' := ⟨fun s' x hs hx => by rw [pk_un (by omega)]; exact h.1 s' x hs hx, h.2⟩
theorem rs_F_b {s a b : Nat} {es bs es' bs' : XA} {v : Int32} (ha : a < 7) (hb : b < 7) (h : rs_F s es bs es' bs') : rs_F s es bs es' (upd bs' (49 * s + 7 * a + b) v) := ⟨h.1, fun s' j hs hj => by rw [pk_un (by omega)]; exact h.2 s' j hs hj⟩
def rs_S (s m : Nat) (el : Nat → Nat) (bo : Nat → Nat → Nat) (a b : Nat) (es bs : XA) : Prop := (∀ x, x < a → es (7 * s + x) = nI (el x)) ∧ (∀ x y, x < a → y < m → bs (49 * s + 7 * x + y) = nI (bo x y)) ∧ ∀ y, y < b → bs (49 * s + 7 * a + y) = nI (bo a y)
section
variable {f_count f_isRead f_wrongPlace f_readAtoms f_last f_said f_piled f_orders : Int32} {a_text a_readElement a_readBond a_readUsed a_pile a_markAtom a_markOrder a_size a_elements a_bonds a_near a_nearOf a_least a_other a_trial a_placed a_tried a_setWays a_setEnds a_setCounts a_standsAt a_firstOrder a_could a_asked : Nat → Int32}
theorem xr_38 {post : Int32 → SX → Prop} {s m : Nat} {el : Nat → Nat} {bo : Nat → Nat → Nat} (hs : s < 2) (hm : m ≤ 7) (hra : f_readAtoms = nI m) (hE : ∀ a, a < m → a_readElement a = nI (el a)) (hB : ∀ a b, a < m → b < m → a_readBond (7 * a + b) = nI (bo a b))
    (h : ∀ es bs, rs_S s m el bo m 0 es bs → rs_F s a_elements a_bonds es bs → post (nI m) (f_count, f_isRead, f_wrongPlace, f_readAtoms, f_last, f_said, f_piled, f_orders, a_text, a_readElement, a_readBond, a_readUsed, a_pile, a_markAtom, a_markOrder, a_size, es, bs, a_near, a_nearOf, a_least, a_other, a_trial, a_placed, a_tried, a_setWays, a_setEnds, a_setCounts, a_standsAt, a_firstOrder, a_could, a_asked)) : ∀ d a es bs, a + d = m → rs_S s m el bo a 0 es bs → rs_F s a_elements a_bonds es bs → wX_read_38 post (nI s) f_count f_isRead f_wrongPlace f_readAtoms f_last f_said f_piled f_orders (d + 1) (nI a) a_text a_readElement a_readBond a_readUsed a_pile a_markAtom a_markOrder a_size es bs a_near a_nearOf a_least a_other a_trial a_placed a_tried a_setWays a_setEnds a_setCounts a_standsAt a_firstOrder a_could a_asked := by
  intro d
  induction d with
  | zero =>
    intro a es bs ha hS hF
    have e : a = m := by omega
    subst e
    have k := h es bs hS hF
    rw [← hra] at k
    exact pk_le a a (fun _ => k) (fun z => absurd z (by omega)) hra
  | succ d ih =>
    intro a es bs ha hS hF
    have B : ∀ e b es bs, b + e = m → (∀ x, x < a + 1 → es (7 * s + x) = nI (el x)) → rs_S s m el bo a b es bs → rs_F s a_elements a_bonds es bs → wX_read_65 post (wX_read_38 post (nI s) f_count f_isRead f_wrongPlace f_readAtoms f_last f_said f_piled f_orders (d + 1)) (nI s) (nI a) f_count f_isRead f_wrongPlace f_readAtoms f_last f_said f_piled f_orders (e + 1) (nI b) a_text a_readElement a_readBond a_readUsed a_pile a_markAtom a_markOrder a_size es bs a_near a_nearOf a_least a_other a_trial a_placed a_tried a_setWays a_setEnds a_setCounts a_standsAt a_firstOrder a_could a_asked := by
      intro e
      induction e with
      | zero =>
        intro b es bs hb he hS hF
        refine pk_le m b (fun _ => nm_r (wk_p a) (ih (a + 1) es bs (by omega) ⟨he, fun x y hx hy => ?_, fun y hy => absurd hy (by omega)⟩ hF)) (fun z => absurd z (by omega)) hra
        by_cases e : x = a
        · rw [e]; exact hS.2.2 y (by omega)
        · exact hS.2.1 x y (by omega) hy
      | succ e ihe =>
        intro b es bs hb he hS hF
        refine pk_le m b (fun z => absurd z (by omega)) (fun _ => wk_i (7 * a + b) (wk_v (49 * s + 7 * a + b) (nI (bo a b)) (wk_c (7 * a + b) (hB a b (by omega) (by omega)) (bb_ix a b)) (nm_r (wk_p b) (ihe (b + 1) es _ (by omega) he ⟨hS.1, fun x y hx hy => ?_, fun y hy => ?_⟩ (rs_F_b (by omega) (by omega) hF))) (by omega) (bb_ix3 s a b)) (by omega) (bb_ix a b)) hra
        · rw [pk_un (by omega)]; exact hS.2.1 x y hx hy
        · by_cases e : y = b
          · rw [e, pk_us]
          · rw [pk_un (by omega)]; exact hS.2.2 y (by omega)
    refine pk_le m a (fun z => absurd z (by omega)) (fun _ => wk_i a (wk_v (7 * s + a) (nI (el a)) (wk_c a (hE a (by omega))) (Exists.intro (m + 1) (B m 0 _ bs (by omega) (fun x hx => ?_) ⟨fun x hx => ?_, hS.2.1, fun y hy => absurd hy (by omega)⟩ (rs_F_e (by omega) hF))) (by omega) (bb_ix s a))) hra
    · by_cases e : x = a
      · rw [e, pk_us]
      · rw [pk_un (by omega)]; exact hS.1 x (by omega)
    · rw [pk_un (by omega)]; exact hS.1 x hx
theorem xx_read_b {post : Int32 → SX → Prop} {v : Int32} (hv : ¬ v = 0 ∧ ¬ v = 1) (h : post (-1) (f_count, f_isRead, f_wrongPlace, f_readAtoms, f_last, f_said, f_piled, f_orders, a_text, a_readElement, a_readBond, a_readUsed, a_pile, a_markAtom, a_markOrder, a_size, a_elements, a_bonds, a_near, a_nearOf, a_least, a_other, a_trial, a_placed, a_tried, a_setWays, a_setEnds, a_setCounts, a_standsAt, a_firstOrder, a_could, a_asked)) : wpX_read post (f_count, f_isRead, f_wrongPlace, f_readAtoms, f_last, f_said, f_piled, f_orders, a_text, a_readElement, a_readBond, a_readUsed, a_pile, a_markAtom, a_markOrder, a_size, a_elements, a_bonds, a_near, a_nearOf, a_least, a_other, a_trial, a_placed, a_tried, a_setWays, a_setEnds, a_setCounts, a_standsAt, a_firstOrder, a_could, a_asked) v := by
  unfold wpX_read
  exact xx_slot_b hv (br_f wk_10 h)
theorem xx_read {post : Int32 → SX → Prop} {s c : Nat} {tx : Nat → Nat} (hs : s < 2) (hc : c ≤ 24) (hcc : f_count = nI c) (htx : ∀ i, i < c → a_text i = nI (tx i) ∧ rd_tk (tx i)) (hr : f_isRead = 0 ∨ (f_isRead = 1 ∧ xp_K tx c f_wrongPlace f_readAtoms a_readElement a_readBond))
    (h0 : (rd_all tx c).1 ≠ -4 → ∀ wr ra la sa pi rE rB rU pa mA mO, xp_K tx c wr ra rE rB → post (-3) (f_count, 1, wr, ra, la, sa, pi, f_orders, a_text, rE, rB, rU, pa, mA, mO, a_size, a_elements, a_bonds, a_near, a_nearOf, a_least, a_other, a_trial, a_placed, a_tried, a_setWays, a_setEnds, a_setCounts, a_standsAt, a_firstOrder, a_could, a_asked))
    (h1 : ∀ m el bo z, (rd_all tx c).1 = -4 → (rd_all tx c).2 = (m, el, bo, z) → ∀ wr ra la sa pi rE rB rU pa mA mO es bs, xp_K tx c wr ra rE rB → rs_S s m el bo m 0 es bs → rs_F s a_elements a_bonds es bs → post (nI m) (f_count, 1, wr, ra, la, sa, pi, f_orders, a_text, rE, rB, rU, pa, mA, mO, upd a_size s (nI m), es, bs, a_near, a_nearOf, a_least, a_other, a_trial, a_placed, a_tried, a_setWays, a_setEnds, a_setCounts, a_standsAt, a_firstOrder, a_could, a_asked)) : wpX_read post (f_count, f_isRead, f_wrongPlace, f_readAtoms, f_last, f_said, f_piled, f_orders, a_text, a_readElement, a_readBond, a_readUsed, a_pile, a_markAtom, a_markOrder, a_size, a_elements, a_bonds, a_near, a_nearOf, a_least, a_other, a_trial, a_placed, a_tried, a_setWays, a_setEnds, a_setCounts, a_standsAt, a_firstOrder, a_could, a_asked) (nI s) := by
  unfold wpX_read
  refine xx_slot_g hs (br_t rfl (xx_readAll hc hcc htx hr (fun wr ra la sa pi rE rB rU pa mA mO hk => br_c (fun z => ?_) (fun z => h0 (by rw [← hk.1]; exact z) wr ra la sa pi rE rB rU pa mA mO hk))))
  have h4 : (rd_all tx c).1 = -4 := hk.1.symm.trans z
  have hI : rd_IS (0 + c) (rd_all tx c).2 := rd_I_lp c 0 rd_s0 (fun j hj => (htx j (by omega)).2) rd_I0 h4 (by omega)
  have hk2 := hk.2 h4
  cases hS : (rd_all tx c).2 with
  | mk m q =>
    obtain ⟨el, bo, z'⟩ := q
    rw [hS] at hk2 hI
    obtain ⟨q1, q2, q3⟩ := hk2
    have hm : m ≤ 7 := hI.1
    subst q1
    refine wk_w s (Exists.intro (m + 1) (xr_38 hs hm rfl q2 q3 (fun es bs hS' hF => h1 m el bo z' h4 hS wr (nI m) la sa pi rE rB rU pa mA mO es bs hk hS' hF) m 0 a_elements a_bonds (by omega) ⟨fun x hx => absurd hx (by omega), fun x y hx => absurd hx (by omega), fun y hy => absurd hy (by omega)⟩ rs_F_r))
/-! tokens -/
theorem xt_tok (v : Int32) : (∃ t, rd_tk t ∧ v = nI t) ∨ ((v < 0 ∨ 3 < v) ∧ (v < 10 ∨ 14 < v) ∧ (v < 20 ∨ 22 < v)) := by
  by_cases h0 : v < 0
  · refine Or.inr ⟨Or.inl h0, Or.inl ?_, Or.inl ?_⟩
    · exact Int32.lt_trans h0 (by decide)
    · exact Int32.lt_trans h0 (by decide)
  · obtain ⟨j, hj, rfl⟩ := nI_of h0
    by_cases ht : rd_tk j
    · exact Or.inl ⟨j, ht, rfl⟩
    · unfold rd_tk at ht
      refine Or.inr ⟨Or.inr (nI_lt (a := 3) (by omega) hj), ?_, ?_⟩
      · by_cases z : j < 10
        · exact Or.inl (nI_lt (b := 10) z (by omega))
        · exact Or.inr (nI_lt (a := 14) (by omega) hj)
      · by_cases z : j < 20
        · exact Or.inl (nI_lt (b := 20) z (by omega))
        · exact Or.inr (nI_lt (a := 22) (by omega) hj)
theorem xx_badToken_g {post : Int32 → Prop} {t : Nat} (ht : rd_tk t) (h : post 0) : wpX_badToken post (f_count, f_isRead, f_wrongPlace, f_readAtoms, f_last, f_said, f_piled, f_orders, a_text, a_readElement, a_readBond, a_readUsed, a_pile, a_markAtom, a_markOrder, a_size, a_elements, a_bonds, a_near, a_nearOf, a_least, a_other, a_trial, a_placed, a_tried, a_setWays, a_setEnds, a_setCounts, a_standsAt, a_firstOrder, a_could, a_asked) (nI t) := by
  unfold rd_tk at ht
  have E32 : ∀ p q : Nat, (p ≠ 0 ∨ q ≠ 0 ∨ 20 ≤ t) → p < 2 → q < 2 → wX_badToken_32 post (nI t) (nI p) (nI q) f_count f_isRead f_wrongPlace f_readAtoms f_last f_said f_piled f_orders a_text a_readElement a_readBond a_readUsed a_pile a_markAtom a_markOrder a_size a_elements a_bonds a_near a_nearOf a_least a_other a_trial a_placed a_tried a_setWays a_setEnds a_setCounts a_standsAt a_firstOrder a_could a_asked := fun p q hpq hp hq =>
    pk_eq p 0 (fun z => pk_eq q 0 (fun y => pk_lt t 20 (fun x => absurd x (by omega)) (fun x => pk_le t 22 (fun _ => h) (fun w => absurd w (by omega)))) (fun _ => h)) (fun _ => h)
  have E14 : ∀ p : Nat, (p ≠ 0 ∨ 10 ≤ t) → p < 2 → wX_badToken_14 post (nI t) (nI p) f_count f_isRead f_wrongPlace f_readAtoms f_last f_said f_piled f_orders a_text a_readElement a_readBond a_readUsed a_pile a_markAtom a_markOrder a_size a_elements a_bonds a_near a_nearOf a_least a_other a_trial a_placed a_tried a_setWays a_setEnds a_setCounts a_standsAt a_firstOrder a_could a_asked := fun p hp hp2 =>
    pk_lt t 10 (fun z => E32 p 0 (by omega) hp2 (by omega)) (fun z => pk_lt 14 t (fun y => E32 p 0 (by omega) hp2 (by omega)) (fun y => E32 p 1 (by omega) hp2 (by omega)))
  unfold wpX_badToken
  exact br_f (nI_pos (by omega)) (pk_lt 3 t (fun z => E14 0 (by omega) (by omega)) (fun z => E14 1 (by omega) (by omega)))
theorem xx_badToken_b {post : Int32 → Prop} {v : Int32} (hv : (v < 0 ∨ 3 < v) ∧ (v < 10 ∨ 14 < v) ∧ (v < 20 ∨ 22 < v)) (h : post 1) : wpX_badToken post (f_count, f_isRead, f_wrongPlace, f_readAtoms, f_last, f_said, f_piled, f_orders, a_text, a_readElement, a_readBond, a_readUsed, a_pile, a_markAtom, a_markOrder, a_size, a_elements, a_bonds, a_near, a_nearOf, a_least, a_other, a_trial, a_placed, a_tried, a_setWays, a_setEnds, a_setCounts, a_standsAt, a_firstOrder, a_could, a_asked) v := by
  have E32 : wX_badToken_32 post v 0 0 f_count f_isRead f_wrongPlace f_readAtoms f_last f_said f_piled f_orders a_text a_readElement a_readBond a_readUsed a_pile a_markAtom a_markOrder a_size a_elements a_bonds a_near a_nearOf a_least a_other a_trial a_placed a_tried a_setWays a_setEnds a_setCounts a_standsAt a_firstOrder a_could a_asked := br_t rfl (br_t rfl (br_c (fun _ => h) (fun z => br_f (fun y => by
    rcases hv.2.2 with x | x
    · exact z x
    · exact Int32.not_lt.mpr y x) h)))
  have E14 : wX_badToken_14 post v 0 f_count f_isRead f_wrongPlace f_readAtoms f_last f_said f_piled f_orders a_text a_readElement a_readBond a_readUsed a_pile a_markAtom a_markOrder a_size a_elements a_bonds a_near a_nearOf a_least a_other a_trial a_placed a_tried a_setWays a_setEnds a_setCounts a_standsAt a_firstOrder a_could a_asked := br_c (fun _ => E32) (fun z => br_t (hv.2.1.resolve_left z) E32)
  unfold wpX_badToken
  exact br_c (fun _ => E14) (fun z => br_t (hv.1.resolve_left z) E14)
theorem xx_token_b {post : Int32 → SX → Prop} {v : Int32} (hv : (v < 0 ∨ 3 < v) ∧ (v < 10 ∨ 14 < v) ∧ (v < 20 ∨ 22 < v)) (h : post (-1) (f_count, f_isRead, f_wrongPlace, f_readAtoms, f_last, f_said, f_piled, f_orders, a_text, a_readElement, a_readBond, a_readUsed, a_pile, a_markAtom, a_markOrder, a_size, a_elements, a_bonds, a_near, a_nearOf, a_least, a_other, a_trial, a_placed, a_tried, a_setWays, a_setEnds, a_setCounts, a_standsAt, a_firstOrder, a_could, a_asked)) : wpX_token post (f_count, f_isRead, f_wrongPlace, f_readAtoms, f_last, f_said, f_piled, f_orders, a_text, a_readElement, a_readBond, a_readUsed, a_pile, a_markAtom, a_markOrder, a_size, a_elements, a_bonds, a_near, a_nearOf, a_least, a_other, a_trial, a_placed, a_tried, a_setWays, a_setEnds, a_setCounts, a_standsAt, a_firstOrder, a_could, a_asked) v := by
  unfold wpX_token
  exact xx_badToken_b hv (br_f wk_10 h)
theorem xx_token_g {post : Int32 → SX → Prop} {t c : Nat} (ht : rd_tk t) (hc : c ≤ 24) (hcc : f_count = nI c) (h0 : c = 24 → post (-2) (f_count, f_isRead, f_wrongPlace, f_readAtoms, f_last, f_said, f_piled, f_orders, a_text, a_readElement, a_readBond, a_readUsed, a_pile, a_markAtom, a_markOrder, a_size, a_elements, a_bonds, a_near, a_nearOf, a_least, a_other, a_trial, a_placed, a_tried, a_setWays, a_setEnds, a_setCounts, a_standsAt, a_firstOrder, a_could, a_asked)) (h1 : c < 24 → post (nI (c + 1)) (nI (c + 1), 0, f_wrongPlace, f_readAtoms, f_last, f_said, f_piled, f_orders, upd a_text c (nI t), a_readElement, a_readBond, a_readUsed, a_pile, a_markAtom, a_markOrder, a_size, a_elements, a_bonds, a_near, a_nearOf, a_least, a_other, a_trial, a_placed, a_tried, a_setWays, a_setEnds, a_setCounts, a_standsAt, a_firstOrder, a_could, a_asked)) : wpX_token post (f_count, f_isRead, f_wrongPlace, f_readAtoms, f_last, f_said, f_piled, f_orders, a_text, a_readElement, a_readBond, a_readUsed, a_pile, a_markAtom, a_markOrder, a_size, a_elements, a_bonds, a_near, a_nearOf, a_least, a_other, a_trial, a_placed, a_tried, a_setWays, a_setEnds, a_setCounts, a_standsAt, a_firstOrder, a_could, a_asked) (nI t) := by
  unfold wpX_token
  exact xx_badToken_g ht (br_t rfl (pk_eq c 24 (fun z => h0 z) (fun z => wk_w c (nm_r (by rw [hcc, nI_1]) (h1 (by omega))) (by omega) hcc) hcc))
theorem xx_untoken {post : Int32 → SX → Prop} {c : Nat} (hc : c ≤ 24) (hcc : f_count = nI c) (h0 : c = 0 → post (-4) (f_count, f_isRead, f_wrongPlace, f_readAtoms, f_last, f_said, f_piled, f_orders, a_text, a_readElement, a_readBond, a_readUsed, a_pile, a_markAtom, a_markOrder, a_size, a_elements, a_bonds, a_near, a_nearOf, a_least, a_other, a_trial, a_placed, a_tried, a_setWays, a_setEnds, a_setCounts, a_standsAt, a_firstOrder, a_could, a_asked)) (h1 : 0 < c → post (a_text (c - 1)) (nI (c - 1), 0, f_wrongPlace, f_readAtoms, f_last, f_said, f_piled, f_orders, a_text, a_readElement, a_readBond, a_readUsed, a_pile, a_markAtom, a_markOrder, a_size, a_elements, a_bonds, a_near, a_nearOf, a_least, a_other, a_trial, a_placed, a_tried, a_setWays, a_setEnds, a_setCounts, a_standsAt, a_firstOrder, a_could, a_asked)) : wpX_untoken post (f_count, f_isRead, f_wrongPlace, f_readAtoms, f_last, f_said, f_piled, f_orders, a_text, a_readElement, a_readBond, a_readUsed, a_pile, a_markAtom, a_markOrder, a_size, a_elements, a_bonds, a_near, a_nearOf, a_least, a_other, a_trial, a_placed, a_tried, a_setWays, a_setEnds, a_setCounts, a_standsAt, a_firstOrder, a_could, a_asked) := by
  unfold wpX_untoken
  refine pk_eq c 0 (fun z => h0 z) (fun z => nm_r (e' := nI (c - 1)) (by rw [hcc, wk_s (by omega)]) (wk_i (c - 1) ?_)) hcc
  rw [nI_clamp (by omega)]
  exact h1 (by omega)
end
end
section
theorem yg_split (f : Nat → Nat) (m : Nat) : ∀ k, bb_sm f (m + k) = bb_sm f m + bb_sm (fun i => f (m + i)) k := by
  intro k
  induction k with
  | zero => rfl
  | succ k ih => rw [← Nat.add_assoc, bb_sm_s, ih, bb_sm_s]; omega
theorem yg_49 (f : Nat → Nat → Nat) : ∀ m, bb_sm (fun k => f (k / 7) (k % 7)) (7 * m) = bb_sm (fun a => bb_sm (f a) 7) m := by
  intro m
  induction m with
  | zero => rfl
  | succ m ih =>
    rw [Nat.mul_succ, yg_split, ih, bb_sm_s]
    congr 1
    refine bb_sm_cg 7 (fun i hi => ?_)
    have e1 : (7 * m + i) / 7 = m := by omega
    have e2 : (7 * m + i) % 7 = i := by omega
    rw [e1, e2]
theorem yg_br {n : Nat} {bo : Nat → Nat → Nat} (hn : n ≤ 7) : bb_sm (fun k => xg_b n bo (k / 7) (k % 7)) 49 = bb_sm (fun a => bb_sm (xg_b n bo a) n) n := by
  have h := yg_49 (xg_b n bo) 7
  have e : (7 * 7 : Nat) = 49 := rfl
  rw [e] at h
  have hi : ∀ a, bb_sm (xg_b n bo a) 7 = bb_sm (xg_b n bo a) n := fun a => bb_sm_ext 7 hn (fun i h1 _ => if_neg (by omega))
  rw [h, bb_sm_ext (f := fun a => bb_sm (xg_b n bo a) 7) (m := n) 7 hn (fun a h1 _ => bb_sm_z (f := xg_b n bo a) 7 (fun i _ => if_neg (by omega)))]
  exact bb_sm_cg n (fun a _ => hi a)
theorem yg_sp {n : Nat} {G : Nat → Nat → Bool} (hG : gr_in G) (hs : gr_sy G) (hn : n ≤ 7) : bb_sm (fun a => bb_sm (fun b => xg_v G a b) a) n = bb_sm (fun a => xg_r G a n) n := by
  have e1 : ∀ a, a < n → bb_sm (fun b => xg_v G a b) a = bb_sm (fun b => if b < a then xg_v G a b else 0) n := fun a ha => by
    rw [bb_sm_ext (m := a) n (by omega) (fun i h1 _ => if_neg (by omega))]
    exact bb_sm_cg a (fun i hi => (if_pos hi).symm)
  rw [bb_sm_cg n e1, bb_sm_swap]
  refine bb_sm_cg n (fun b hb => ?_)
  unfold xg_r
  refine bb_sm_cg n (fun a ha => ?_)
  by_cases z : b < a
  · rw [if_pos z, if_pos z]
    unfold xg_v
    rw [gr_ds_s hG hs (a := a) (b := b) (by omega) (by omega)]
  · rw [if_neg z, if_neg z]
section
variable {g_size g_height g_last g_said g_length g_symmetryCount : Int32} {b_text b_elements b_bonds b_counts b_pile b_marks b_saids b_row b_least b_orbits b_path b_far b_sums : Nat → Int32}
theorem yy_findFar {post : SY → Prop} {s n f : Nat} {px py : Int32} {el : Nat → Nat} {bo : Nat → Nat → Nat} {G : Nat → Nat → Bool} (hs : s < 2) (hK : mo_K n el bo) (hT : mo_T b_counts b_elements b_bonds s n el bo) (hf : f < 7) (hG : gr_in G) (hg : ∀ a b, a < 7 → b < 7 → (G a b = true ↔ (mo_G n bo a b = true ∧ ¬ ((nI a = px ∧ nI b = py) ∨ (nI a = py ∧ nI b = px)))))
    (h : ∀ fr, (∀ b, b < 7 → fr b = nI (gr_ds G f b)) → post (g_size, g_height, g_last, g_said, g_length, g_symmetryCount, b_text, b_elements, b_bonds, b_counts, b_pile, b_marks, b_saids, b_row, b_least, b_orbits, b_path, fr, b_sums)) : wpY_findFar post (g_size, g_height, g_last, g_said, g_length, g_symmetryCount, b_text, b_elements, b_bonds, b_counts, b_pile, b_marks, b_saids, b_row, b_least, b_orbits, b_path, b_far, b_sums) (nI s) (nI f) px py := by
  have hn := hK.1
  have B : ∀ d k fr fv, k + d = 343 → (∀ b, b < 7 → fr b = nI (fv b)) → gr_FI G f (k / 49) (k % 49) fv → wY_findFar_38 post (nI s) px py g_size g_height g_last g_said g_length g_symmetryCount (d + 1) (nI k) b_text b_elements b_bonds b_counts b_pile b_marks b_saids b_row b_least b_orbits b_path fr b_sums := by
    intro d
    induction d with
    | zero =>
      intro k fr fv hk hfr hF
      have e : k = 343 := by omega
      subst e
      refine pk_le 343 343 (fun _ => h fr (fun b hb => ?_)) (fun z => absurd z (by omega))
      rw [hfr b hb, gr_FI_ds hG hf hF hb]
    | succ d ih =>
      intro k fr fv hk hfr hF
      have hc : k / 7 % 7 < 7 := Nat.mod_lt _ (by decide)
      have hb : k % 7 < 7 := Nat.mod_lt _ (by decide)
      have hj : k % 49 = 7 * (k / 7 % 7) + k % 7 := by omega
      rw [hj] at hF
      have hF2 := gr_fs_st hc hb hF
      have hnext : ∀ fr', (∀ b, b < 7 → fr' b = nI (gr_fs G (k / 7 % 7) (k % 7) fv b)) → wY_findFar_38 post (nI s) px py g_size g_height g_last g_said g_length g_symmetryCount (d + 1) (nI (k + 1)) b_text b_elements b_bonds b_counts b_pile b_marks b_saids b_row b_least b_orbits b_path fr' b_sums := fun fr' hfr' => by
        refine ih (k + 1) fr' _ (by omega) hfr' ?_
        by_cases e : k % 49 = 48
        · have e1 : (k + 1) / 49 = k / 49 + 1 := by omega
          have e2 : (k + 1) % 49 = 0 := by omega
          rw [e1, e2]
          rw [← hj, e] at hF2
          exact gr_FI_r hF2
        · have e1 : (k + 1) / 49 = k / 49 := by omega
          have e2 : (k + 1) % 49 = 7 * (k / 7 % 7) + k % 7 + 1 := by omega
          rw [e1, e2]; exact hF2
      have hd1 : nI k / 7 = nI (k / 7) := pk_div (d := 7) (by omega) (by decide) (by decide)
      have hxa : (nI k / 7) - (nI k / 7) / 7 * 7 = nI (k / 7 % 7) := by rw [hd1]; exact pk_rem (d := 7) (by omega) (by decide) (by decide)
      have hxb : nI k - nI k / 7 * 7 = nI (k % 7) := pk_rem (d := 7) (by omega) (by decide) (by decide)
      generalize k / 7 % 7 = c at hc hF hF2 hnext hxa
      generalize k % 7 = b at hb hF hF2 hnext hxb
      have hgs : G c b = false → ∀ j, gr_fs G c b fv j = fv j := fun hz j => if_neg (fun y => by rw [hz] at y; exact absurd y.2.1 (by decide))
      have hbb : ∀ x, x < 7 → fv x ≤ 100 := fun x hx => (hF.2.2 x hx).1
      have Z : G c b = false → wY_findFar_139 post (wY_findFar_38 post (nI s) px py g_size g_height g_last g_said g_length g_symmetryCount (d + 1)) (nI s) px py (nI k) (nI c) (nI b) g_size g_height g_last g_said g_length g_symmetryCount b_text b_elements b_bonds b_counts b_pile b_marks b_saids b_row b_least b_orbits b_path fr b_sums := fun hz => by
        refine br_t rfl (wk_i b (wk_w b (nm_r (wk_p k) (hnext _ (fun j hj' => ?_)))))
        rw [hgs hz j]
        by_cases e : j = b
        · rw [e, pk_us]; exact wk_c b (hfr b hb)
        · rw [pk_un e]; exact hfr j hj'
      have O : G c b = true → wY_findFar_140 post (wY_findFar_38 post (nI s) px py g_size g_height g_last g_said g_length g_symmetryCount (d + 1)) (nI s) px py (nI k) (nI c) (nI b) 1 g_size g_height g_last g_said g_length g_symmetryCount b_text b_elements b_bonds b_counts b_pile b_marks b_saids b_row b_least b_orbits b_path fr b_sums := fun hz => by
        have l1 := hbb c hc
        have l2 := hbb b hb
        refine br_f wk_10 (wk_i c (wk_i b (pk_le (fv b) (fv c + 1) (fun y => wk_i b (wk_w b (nm_r (wk_p k) (hnext _ (fun j hj' => ?_))))) (fun y => wk_i c (wk_v b (nI (fv c + 1)) (by rw [wk_c c (hfr c hc), nI_1]) (nm_r (wk_p k) (hnext _ (fun j hj' => ?_))))) (wk_c b (hfr b hb)) (by rw [wk_c c (hfr c hc), nI_1]))))
        · have e0 : gr_fs G c b fv j = fv j := if_neg (fun w => by omega)
          rw [e0]
          by_cases e : j = b
          · rw [e, pk_us]; exact wk_c b (hfr b hb)
          · rw [pk_un e]; exact hfr j hj'
        · by_cases e : j = b
          · rw [e, pk_us]
            congr 1
            exact (if_pos ⟨rfl, hz, y⟩).symm
          · rw [pk_un e, hfr j hj']
            congr 1
            exact (if_neg (fun w => e w.1)).symm
      have T94 : ∀ q : Nat, q < 2 → (q = 0 ↔ ¬ ((nI c = px ∧ nI b = py) ∨ (nI c = py ∧ nI b = px))) → wY_findFar_94 post (wY_findFar_38 post (nI s) px py g_size g_height g_last g_said g_length g_symmetryCount (d + 1)) (nI s) px py (nI k) (nI c) (nI b) (nI q) g_size g_height g_last g_said g_length g_symmetryCount b_text b_elements b_bonds b_counts b_pile b_marks b_saids b_row b_least b_orbits b_path fr b_sums := fun q hq hqq => by
        have nog : ¬ (mo_G n bo c b = true ∧ ¬ ((nI c = px ∧ nI b = py) ∨ (nI c = py ∧ nI b = px))) → G c b = false := fun z => by
          cases hz : G c b with
          | false => rfl
          | true => exact absurd ((hg c b hc hb).mp hz) z
        refine wk_i s (pk_le n c (fun z => Z (nog (fun y => by rw [mo_G_a z] at y; exact absurd y.1 (by decide)))) (fun z => wk_i s (pk_le n b (fun y => Z (nog (fun x => by rw [mo_G_b y] at x; exact absurd x.1 (by decide)))) (fun y => yy_orderOf (by omega) hc hb ?_) (wk_c s hT.1))) (wk_c s hT.1))
        rw [hT.2.2 c b z y]
        have hb3 := hK.2.2.1 c b z y
        refine pk_le (bo c b) 0 (fun x => Z (nog (fun w => by rw [mo_G_f (by omega)] at w; exact absurd w.1 (by decide)))) (fun x => pk_eq q 0 (fun w => O ((hg c b hc hb).mpr ⟨mo_G_t z y x, hqq.mp w⟩)) (fun w => Z (nog (fun v => w (hqq.mpr v.2)))))
      have T89 : ((nI c = px ∧ nI b = py) ∨ (nI c = py ∧ nI b = px)) → wY_findFar_89 post (wY_findFar_38 post (nI s) px py g_size g_height g_last g_said g_length g_symmetryCount (d + 1)) (nI s) px py (nI k) (nI c) (nI b) g_size g_height g_last g_said g_length g_symmetryCount b_text b_elements b_bonds b_counts b_pile b_marks b_saids b_row b_least b_orbits b_path fr b_sums := fun z => T94 1 (by omega) ⟨fun y => absurd y (by omega), fun y => absurd z y⟩
      have T93 : ¬ ((nI c = px ∧ nI b = py) ∨ (nI c = py ∧ nI b = px)) → wY_findFar_93 post (wY_findFar_38 post (nI s) px py g_size g_height g_last g_said g_length g_symmetryCount (d + 1)) (nI s) px py (nI k) (nI c) (nI b) g_size g_height g_last g_said g_length g_symmetryCount b_text b_elements b_bonds b_counts b_pile b_marks b_saids b_row b_least b_orbits b_path fr b_sums := fun z => T94 0 (by omega) ⟨fun _ => z, fun _ => rfl⟩
      have T76 : ¬ (nI c = px ∧ nI b = py) → wY_findFar_76 post (wY_findFar_38 post (nI s) px py g_size g_height g_last g_said g_length g_symmetryCount (d + 1)) (nI s) px py (nI k) (nI c) (nI b) g_size g_height g_last g_said g_length g_symmetryCount b_text b_elements b_bonds b_counts b_pile b_marks b_saids b_row b_least b_orbits b_path fr b_sums := fun z => br_c (fun y => br_c (fun x => T89 (Or.inr ⟨y, x⟩)) (fun x => T93 (fun w => w.elim z (fun v => x v.2)))) (fun y => T93 (fun w => w.elim z (fun v => y v.1)))
      exact pk_le 343 k (fun z => absurd z (by omega)) (fun _ => And.intro wk_n7 (And.intro wk_n7 (nm_r hxa (And.intro wk_n7 (nm_r hxb (br_c (fun z => br_c (fun y => T89 (Or.inl ⟨z, y⟩)) (fun y => T76 (fun w => y w.2))) (fun z => T76 (fun w => z w.1))))))))
  have A : ∀ d i fr, i + d = 7 → (∀ j, j < i → fr j = nI (if j = f then 0 else 100)) → wY_findFar_3 post (nI s) (nI f) px py g_size g_height g_last g_said g_length g_symmetryCount (d + 1) (nI i) b_text b_elements b_bonds b_counts b_pile b_marks b_saids b_row b_least b_orbits b_path fr b_sums := by
    intro d
    induction d with
    | zero =>
      intro i fr hi hfr
      refine pk_le 7 i (fun _ => Exists.intro 344 (B 343 0 fr (fun j => if j = f then 0 else 100) (by omega) (fun b hb => hfr b (by omega)) (gr_FI_0 (fun b _ => rfl)))) (fun z => absurd z (by omega))
    | succ d ih =>
      intro i fr hi hfr
      refine pk_le 7 i (fun z => absurd z (by omega)) (fun _ => pk_eq i f (fun e => wk_w i (nm_r (wk_p i) (ih (i + 1) _ (by omega) (fun j hj => ?_)))) (fun e => wk_w i (nm_r (wk_p i) (ih (i + 1) _ (by omega) (fun j hj => ?_)))))
      · by_cases e2 : j = i
        · rw [e2, pk_us, if_pos e]; rfl
        · rw [pk_un e2]; exact hfr j (by omega)
      · by_cases e2 : j = i
        · rw [e2, pk_us, if_neg e]; rfl
        · rw [pk_un e2]; exact hfr j (by omega)
  unfold wpY_findFar
  exact Exists.intro 8 (A 7 0 b_far (by omega) (fun j hj => absurd hj (by omega)))
theorem yy_countPieces {post : Int32 → SY → Prop} {s n : Nat} {px py : Int32} {el : Nat → Nat} {bo : Nat → Nat → Nat} {G : Nat → Nat → Bool} (hs : s < 2) (hK : mo_K n el bo) (hT : mo_T b_counts b_elements b_bonds s n el bo) (hG : gr_in G) (hg : ∀ a b, a < 7 → b < 7 → (G a b = true ↔ (mo_G n bo a b = true ∧ ¬ ((nI a = px ∧ nI b = py) ∨ (nI a = py ∧ nI b = px)))))
    (h : ∀ fr, post (nI (gr_np G n)) (g_size, g_height, g_last, g_said, g_length, g_symmetryCount, b_text, b_elements, b_bonds, b_counts, b_pile, b_marks, b_saids, b_row, b_least, b_orbits, b_path, fr, b_sums)) : wpY_countPieces post (g_size, g_height, g_last, g_said, g_length, g_symmetryCount, b_text, b_elements, b_bonds, b_counts, b_pile, b_marks, b_saids, b_row, b_least, b_orbits, b_path, b_far, b_sums) (nI s) px py := by
  have hn := hK.1
  have L : ∀ d a fr, a + d = n → wY_countPieces_6 post (nI s) px py (d + 1) (nI (gr_np G a)) (nI a) g_size g_height g_last g_said g_length g_symmetryCount b_text b_elements b_bonds b_counts b_pile b_marks b_saids b_row b_least b_orbits b_path fr b_sums := by
    intro d
    induction d with
    | zero =>
      intro a fr ha
      have e : a = n := by omega
      subst e
      exact wk_i s (pk_le a a (fun _ => h fr) (fun z => absurd z (by omega)) (wk_c s hT.1))
    | succ d ih =>
      intro a fr ha
      refine wk_i s (pk_le n a (fun z => absurd z (by omega)) (fun _ => yy_findFar hs hK hT (by omega) hG hg (fun fr' hfr => ?_)) (wk_c s hT.1))
      have B : ∀ e b, b + e = a → wY_countPieces_32 post (wY_countPieces_6 post (nI s) px py (d + 1)) (nI s) px py (nI (gr_np G a)) (nI a) g_size g_height g_last g_said g_length g_symmetryCount b_text b_elements b_bonds b_counts b_pile b_marks b_saids b_row b_least b_orbits b_path fr' b_sums (e + 1) (nI (!bb_ex (fun b => gr_R G a b) b).toNat) (nI b) := by
        intro e
        induction e with
        | zero =>
          intro b hb
          have eb : b = a := by omega
          subst eb
          have k := ih (b + 1) fr' (by omega)
          have e1 : gr_np G (b + 1) = gr_np G b + (!bb_ex (fun c => gr_R G b c) b).toNat := rfl
          rw [e1] at k
          refine pk_le b b (fun _ => ?_) (fun z => absurd z (by omega))
          cases hz : !bb_ex (fun c => gr_R G b c) b with
          | false => rw [hz] at k; exact br_t rfl (nm_r (wk_p b) k)
          | true => rw [hz] at k; exact br_f (by decide) (nm_r (wk_p _) (nm_r (wk_p b) k))
        | succ e ihe =>
          intro b hb
          have k := ihe (b + 1) (by omega)
          rw [bb_ex_s, Bool.not_or] at k
          refine pk_le a b (fun z => absurd z (by omega)) (fun _ => ?_)
          cases hz : !bb_ex (fun c => gr_R G a c) b with
          | false => rw [hz] at k; exact br_t rfl (nm_r (wk_p b) k)
          | true =>
            rw [hz] at k
            have hle := gr_ds_le G a b
            refine br_f (by decide) (wk_i b (pk_eq (gr_ds G a b) 100 (fun e => ?_) (fun e => ?_) (wk_c b (hfr b (by omega)))))
            · rw [gr_ds_R.mp e] at k
              exact nm_r (wk_p b) k
            · have : gr_R G a b = true := by
                cases hy : gr_R G a b with
                | true => rfl
                | false => exact absurd (gr_ds_n hy) e
              rw [this] at k
              exact nm_r (wk_p b) k
      exact Exists.intro (a + 1) (B a 0 (by omega))
  unfold wpY_countPieces
  exact Exists.intro (n + 1) (L n 0 b_far (by omega))
theorem yg_no {n : Nat} {bo : Nat → Nat → Nat} : ∀ a b, a < 7 → b < 7 → (mo_G n bo a b = true ↔ (mo_G n bo a b = true ∧ ¬ ((nI a = -1 ∧ nI b = -1) ∨ (nI a = -1 ∧ nI b = -1)))) := fun a b ha hb => ⟨fun z => ⟨z, fun y => y.elim (fun w => bb_ne (by omega) w.1) (fun w => bb_ne (by omega) w.1)⟩, fun z => z.1⟩
theorem yg_cut {n x y : Nat} {bo : Nat → Nat → Nat} (hx : x < 7) (hy : y < 7) : ∀ a b, a < 7 → b < 7 → (gr_cut (mo_G n bo) x y a b = true ↔ (mo_G n bo a b = true ∧ ¬ ((nI a = nI x ∧ nI b = nI y) ∨ (nI a = nI y ∧ nI b = nI x)))) := fun a b ha hb => by
  have e : ∀ u v, u < 7 → v < 7 → (nI u = nI v ↔ u = v) := fun u v hu hv => nI_eq (by omega) (by omega)
  rw [e a x ha hx, e b y hb hy, e a y ha hy, e b x hb hx]
  unfold gr_cut
  rw [Bool.and_eq_true, Bool.not_eq_true', Bool.or_eq_false_iff, decide_eq_false_iff_not, decide_eq_false_iff_not, not_or]
theorem yy_pieces {post : Int32 → SY → Prop} {s n : Nat} {el : Nat → Nat} {bo : Nat → Nat → Nat} (hs : s < 2) (hK : mo_K n el bo) (hT : mo_T b_counts b_elements b_bonds s n el bo) (h : ∀ fr, post (nI (gr_np (mo_G n bo) n)) (g_size, g_height, g_last, g_said, g_length, g_symmetryCount, b_text, b_elements, b_bonds, b_counts, b_pile, b_marks, b_saids, b_row, b_least, b_orbits, b_path, fr, b_sums)) : wpY_pieces post (g_size, g_height, g_last, g_said, g_length, g_symmetryCount, b_text, b_elements, b_bonds, b_counts, b_pile, b_marks, b_saids, b_row, b_least, b_orbits, b_path, b_far, b_sums) (nI s) := by
  unfold wpY_pieces
  exact yy_slot_g hs (br_f wk_10 (yy_countPieces hs hK hT (mo_G_in hK.1) yg_no h))
theorem yy_smallest_g {post : Int32 → SY → Prop} {s n a b : Nat} {el : Nat → Nat} {bo : Nat → Nat → Nat} (hs : s < 2) (hK : mo_K n el bo) (hT : mo_T b_counts b_elements b_bonds s n el bo) (ha : a < n) (hb : b < n) (h0 : bo a b = 0 → post (-4) (g_size, g_height, g_last, g_said, g_length, g_symmetryCount, b_text, b_elements, b_bonds, b_counts, b_pile, b_marks, b_saids, b_row, b_least, b_orbits, b_path, b_far, b_sums)) (h1 : 0 < bo a b → ∀ fr, post (xg_sm (mo_G n bo) a b) (g_size, g_height, g_last, g_said, g_length, g_symmetryCount, b_text, b_elements, b_bonds, b_counts, b_pile, b_marks, b_saids, b_row, b_least, b_orbits, b_path, fr, b_sums)) : wpY_smallest post (g_size, g_height, g_last, g_said, g_length, g_symmetryCount, b_text, b_elements, b_bonds, b_counts, b_pile, b_marks, b_saids, b_row, b_least, b_orbits, b_path, b_far, b_sums) (nI s) (nI a) (nI b) := by
  have hn := hK.1
  have hb3 := hK.2.2.1 a b ha hb
  unfold wpY_smallest
  refine yy_slot_g hs (br_f wk_10 (yy_isAtom_g hs hn hT.1 ha (br_f wk_10 (yy_isAtom_g hs hn hT.1 hb (br_f wk_10 (yy_orderOf (by omega) (by omega) (by omega) ?_))))))
  rw [hT.2.2 a b ha hb]
  refine pk_eq (bo a b) 0 h0 (fun z => yy_findFar hs hK hT (by omega) (gr_cut_in (mo_G_in hn) a b) (yg_cut (by omega) (by omega)) (fun fr hfr => wk_i b ?_))
  have k := h1 (by omega) fr
  have hle := gr_ds_le (gr_cut (mo_G n bo) a b) a b
  unfold xg_sm at k
  refine pk_eq (gr_ds (gr_cut (mo_G n bo) a b) a b) 100 (fun e => ?_) (fun e => wk_i b ?_) (wk_c b (hfr b (by omega)))
  · rw [if_pos e] at k; exact k
  · rw [wk_c b (hfr b (by omega)), nI_1]
    rw [if_neg e] at k; exact k
theorem yy_smallest_b {post : Int32 → SY → Prop} {s n : Nat} {v w : Int32} (hs : s < 2) (hn : n ≤ 7) (hz : b_counts s = nI n) (hv : (∃ a, a < n ∧ v = nI a) ∨ (¬ v < 0 → nI n ≤ v)) (hw : (∃ a, a < n ∧ w = nI a) ∨ (¬ w < 0 → nI n ≤ w)) (hvw : ¬ ((∃ a, a < n ∧ v = nI a) ∧ (∃ a, a < n ∧ w = nI a))) (h : post (-4) (g_size, g_height, g_last, g_said, g_length, g_symmetryCount, b_text, b_elements, b_bonds, b_counts, b_pile, b_marks, b_saids, b_row, b_least, b_orbits, b_path, b_far, b_sums)) : wpY_smallest post (g_size, g_height, g_last, g_said, g_length, g_symmetryCount, b_text, b_elements, b_bonds, b_counts, b_pile, b_marks, b_saids, b_row, b_least, b_orbits, b_path, b_far, b_sums) (nI s) v w := by
  unfold wpY_smallest
  refine yy_slot_g hs (br_f wk_10 ?_)
  rcases hv with ⟨a, ha, rfl⟩ | hv
  · refine yy_isAtom_g hs hn hz ha (br_f wk_10 ?_)
    rcases hw with hw | hw
    · exact absurd ⟨⟨a, ha, rfl⟩, hw⟩ hvw
    · exact yy_isAtom_b hs hn hz hw (br_t rfl h)
  · exact yy_isAtom_b hs hn hz hv (br_t rfl h)
theorem yy_spread {post : Int32 → SY → Prop} {s n : Nat} {el : Nat → Nat} {bo : Nat → Nat → Nat} (hs : s < 2) (hK : mo_K n el bo) (hT : mo_T b_counts b_elements b_bonds s n el bo) (h : ∀ fr, post (nI (bb_sm (fun a => bb_sm (fun b => xg_v (mo_G n bo) a b) a) n)) (g_size, g_height, g_last, g_said, g_length, g_symmetryCount, b_text, b_elements, b_bonds, b_counts, b_pile, b_marks, b_saids, b_row, b_least, b_orbits, b_path, fr, b_sums)) : wpY_spread post (g_size, g_height, g_last, g_said, g_length, g_symmetryCount, b_text, b_elements, b_bonds, b_counts, b_pile, b_marks, b_saids, b_row, b_least, b_orbits, b_path, b_far, b_sums) (nI s) := by
  have hn := hK.1
  unfold wpY_spread
  refine yy_slot_g hs (br_f wk_10 ?_)
  have L : ∀ d a fr, a + d = n → wY_spread_14 post (nI s) (d + 1) (nI (bb_sm (fun a => bb_sm (fun b => xg_v (mo_G n bo) a b) a) a)) (nI a) g_size g_height g_last g_said g_length g_symmetryCount b_text b_elements b_bonds b_counts b_pile b_marks b_saids b_row b_least b_orbits b_path fr b_sums := by
    intro d
    induction d with
    | zero =>
      intro a fr ha
      have e : a = n := by omega
      subst e
      exact wk_i s (pk_le a a (fun _ => h fr) (fun z => absurd z (by omega)) (wk_c s hT.1))
    | succ d ih =>
      intro a fr ha
      refine wk_i s (pk_le n a (fun z => absurd z (by omega)) (fun _ => yy_findFar hs hK hT (by omega) (mo_G_in hn) yg_no (fun fr' hfr => ?_)) (wk_c s hT.1))
      have B : ∀ e b, b + e = a → wY_spread_35 post (wY_spread_14 post (nI s) (d + 1)) (nI s) (nI a) g_size g_height g_last g_said g_length g_symmetryCount b_text b_elements b_bonds b_counts b_pile b_marks b_saids b_row b_least b_orbits b_path fr' b_sums (e + 1) (nI (bb_sm (fun a => bb_sm (fun b => xg_v (mo_G n bo) a b) a) a + bb_sm (fun b => xg_v (mo_G n bo) a b) b)) (nI b) := by
        intro e
        induction e with
        | zero =>
          intro b hb
          have eb : b = a := by omega
          subst eb
          have k := ih (b + 1) fr' (by omega)
          rw [bb_sm_s] at k
          exact pk_le b b (fun _ => nm_r (wk_p b) k) (fun z => absurd z (by omega))
        | succ e ihe =>
          intro b hb
          have k := ihe (b + 1) (by omega)
          rw [bb_sm_s, ← Nat.add_assoc] at k
          have hle := gr_ds_le (mo_G n bo) a b
          refine pk_le a b (fun z => absurd z (by omega)) (fun _ => wk_i b (pk_le 100 (gr_ds (mo_G n bo) a b) (fun z => ?_) (fun z => wk_i b (nm_r ?_ (nm_r (wk_p b) k))) rfl (wk_c b (hfr b (by omega)))))
          · rw [show xg_v (mo_G n bo) a b = 0 from if_pos (by omega), Nat.add_zero] at k
            exact nm_r (wk_p b) k
          · rw [wk_c b (hfr b (by omega)), nI_add, show xg_v (mo_G n bo) a b = gr_ds (mo_G n bo) a b from if_neg (by omega)]
      exact Exists.intro (a + 1) (B a 0 (by omega))
  exact Exists.intro (n + 1) (L n 0 b_far (by omega))
theorem yy_bridges {post : Int32 → SY → Prop} {s n : Nat} {el : Nat → Nat} {bo : Nat → Nat → Nat} (hs : s < 2) (hK : mo_K n el bo) (hT : mo_T b_counts b_elements b_bonds s n el bo) (h : ∀ fr, post (nI (bb_sm (fun k => xg_b n bo (k / 7) (k % 7)) 49)) (g_size, g_height, g_last, g_said, g_length, g_symmetryCount, b_text, b_elements, b_bonds, b_counts, b_pile, b_marks, b_saids, b_row, b_least, b_orbits, b_path, fr, b_sums)) : wpY_bridges post (g_size, g_height, g_last, g_said, g_length, g_symmetryCount, b_text, b_elements, b_bonds, b_counts, b_pile, b_marks, b_saids, b_row, b_least, b_orbits, b_path, b_far, b_sums) (nI s) := by
  have hn := hK.1
  have hGi : gr_in (mo_G n bo) := mo_G_in hn
  have hsy := mo_G_sy hK.2.2.2
  unfold wpY_bridges
  refine yy_slot_g hs (br_f wk_10 (yy_countPieces hs hK hT hGi yg_no (fun fr0 => ?_)))
  have npl : ∀ G, gr_np G n ≤ 7 := fun G => Nat.le_trans (bb_cn_le _ n) hn
  have L : ∀ d k fr, k + d = 49 → wY_bridges_23 post (nI s) (nI (gr_np (mo_G n bo) n)) (d + 1) (nI (bb_sm (fun k => xg_b n bo (k / 7) (k % 7)) k)) (nI k) g_size g_height g_last g_said g_length g_symmetryCount b_text b_elements b_bonds b_counts b_pile b_marks b_saids b_row b_least b_orbits b_path fr b_sums := by
    intro d
    induction d with
    | zero =>
      intro k fr hk
      have e : k = 49 := by omega
      subst e
      exact pk_le 49 49 (fun _ => h fr) (fun z => absurd z (by omega))
    | succ d ih =>
      intro k fr hk
      have kk := fun fr' => ih (k + 1) fr' (by omega)
      rw [bb_sm_s] at kk
      have hd1 : nI k / 7 = nI (k / 7) := pk_div (d := 7) (by omega) (by decide) (by decide)
      have hxb : nI k - nI k / 7 * 7 = nI (k % 7) := pk_rem (d := 7) (by omega) (by decide) (by decide)
      have ha : k / 7 < 7 := by omega
      have hb : k % 7 < 7 := Nat.mod_lt _ (by decide)
      generalize hS : bb_sm (fun k => xg_b n bo (k / 7) (k % 7)) k = S at kk
      generalize k / 7 = a at ha hd1 kk
      generalize k % 7 = b at hb hxb kk
      have Z : xg_b n bo a b = 0 → wY_bridges_78 post (wY_bridges_23 post (nI s) (nI (gr_np (mo_G n bo) n)) (d + 1)) (nI s) (nI (gr_np (mo_G n bo) n)) (nI S) (nI k) (nI a) (nI b) g_size g_height g_last g_said g_length g_symmetryCount b_text b_elements b_bonds b_counts b_pile b_marks b_saids b_row b_least b_orbits b_path fr b_sums := fun z => by
        have k2 := kk fr
        rw [z, Nat.add_zero] at k2
        exact br_t rfl (nm_r (wk_p k) k2)
      refine pk_le 49 k (fun z => absurd z (by omega)) (fun _ => And.intro wk_n7 (nm_r hd1 (And.intro wk_n7 (nm_r hxb (pk_le b a (fun z => Z (if_neg (by omega))) (fun z => wk_i s (pk_le n b (fun y => Z (if_neg (by omega))) (fun y => yy_orderOf (by omega) ha hb ?_) (wk_c s hT.1))))))))
      rw [hT.2.2 a b (by omega) y]
      have hb3 := hK.2.2.1 a b (by omega) y
      refine pk_le (bo a b) 0 (fun x => Z (if_neg (by omega))) (fun x => br_f wk_10 (yy_countPieces hs hK hT (gr_cut_in hGi a b) (yg_cut ha hb) (fun fr' => ?_)))
      have hbr := gr_bridge hGi hsy hn (fun u v hu => mo_G_n u v hu) (mo_G_t (bo := bo) (show a < n by omega) y x)
      have l1 := npl (mo_G n bo)
      have l2 := npl (gr_cut (mo_G n bo) a b)
      have k2 := kk fr'
      refine pk_le (gr_np (gr_cut (mo_G n bo) a b) n) (gr_np (mo_G n bo) n) (fun w => ?_) (fun w => ?_)
      · rw [show xg_b n bo a b = 0 from if_neg (fun v => by have := hbr.mpr v.2.2.2; omega), Nat.add_zero] at k2
        exact nm_r (wk_p k) k2
      · rw [show xg_b n bo a b = 1 from if_pos ⟨z, y, x, hbr.mp w⟩] at k2
        exact nm_r (wk_p S) (nm_r (wk_p k) k2)
  exact Exists.intro 50 (L 49 0 fr0 (by omega))
end
end
section
/-! the reference goes over all lists of atoms -/
def yo_T (path : XA) : List Nat → Prop
  | [] => True
  | b :: P => path P.length = nI b ∧ yo_T path P
theorem yo_T_u {path : XA} {i : Nat} {v : Int32} : ∀ P : List Nat, P.length ≤ i → yo_T path P → yo_T (upd path i v) P := by
  intro P
  induction P with
  | nil => intro _ _; trivial
  | cons b P ih =>
    intro hi h
    rw [List.length_cons] at hi
    exact ⟨by rw [pk_un (by omega)]; exact h.1, ih (by omega) h.2⟩
theorem yo_T_m {path : XA} {b : Nat} (hb : b < 2 ^ 31) : ∀ P : List Nat, (∀ x, x ∈ P → x < 2 ^ 31) → yo_T path P → ((∃ j, j < P.length ∧ path j = nI b) ↔ b ∈ P) := by
  intro P
  induction P with
  | nil => intro _ _; exact ⟨fun ⟨j, hj, _⟩ => absurd hj (by simp), fun z => absurd z (by simp)⟩
  | cons a P ih =>
    intro hx h
    have ih' := ih (fun x hp => hx x (List.mem_cons_of_mem _ hp)) h.2
    rw [List.mem_cons, ← ih', List.length_cons]
    constructor
    · rintro ⟨j, hj, e⟩
      by_cases z : j = P.length
      · rw [z, h.1] at e
        exact Or.inl ((nI_eq (hx a (List.mem_cons_self ..)) hb).mp e).symm
      · exact Or.inr ⟨j, by omega, e⟩
    · rintro (e | ⟨j, hj, e⟩)
      · exact ⟨P.length, by omega, by rw [h.1, e]⟩
      · exact ⟨j, by omega, e⟩
theorem yo_T_0 {path : XA} : ∀ Q : List Nat, Q ≠ [] → yo_T path Q → path 0 = nI (pa_la Q) := by
  intro Q
  induction Q with
  | nil => intro h; exact absurd rfl h
  | cons a P ih =>
    intro _ h
    rcases Classical.em (P = []) with z | z
    · subst z; exact h.1
    · rw [pa_la_n z]; exact ih z h.2
theorem yo_gt {path : XA} {l : Nat} (hl : l < 2 ^ 31) : ∀ Q : List Nat, (∀ x, x ∈ Q → x < 2 ^ 31) → yo_T path Q → ((∀ j, 1 ≤ j → j < Q.length → ¬ path j ≤ nI l) ↔ pa_gt l Q = true) := by
  intro Q
  induction Q with
  | nil => intro _ _; exact ⟨fun _ => rfl, fun _ j _ hj => absurd hj (by simp)⟩
  | cons a P ih =>
    intro hx h
    have ih' := ih (fun x hp => hx x (List.mem_cons_of_mem _ hp)) h.2
    rcases Classical.em (P = []) with z | z
    · subst z; exact ⟨fun _ => rfl, fun _ j h1 h2 => absurd h2 (by simp; omega)⟩
    · rw [pa_gt_n z, Bool.and_eq_true, ← ih', decide_eq_true_iff, List.length_cons]
      have hlen : 0 < P.length := Nat.pos_of_ne_zero (fun e => z (List.eq_nil_of_length_eq_zero e))
      have ha := hx a (List.mem_cons_self ..)
      constructor
      · intro hj
        refine ⟨?_, fun j h1 h2 => hj j h1 (by omega)⟩
        have := hj P.length (by omega) (by omega)
        rw [h.1, nI_leI ha hl] at this
        omega
      · rintro ⟨h1, h2⟩ j hj1 hj2
        by_cases e : j = P.length
        · rw [e, h.1, nI_leI ha hl]; omega
        · exact h2 j hj1 (by omega)
abbrev YO : Type := Int32 × Int32 × Int32 × XA
def yo_N (P : List Nat) (x : Nat) (st : Nat × Nat) (s : YO) : Prop := ∃ path, s = (nI P.length, nI st.1, nI st.2, path) ∧ yo_T path P ∧ path P.length + 1 = nI x
def yo_U (P : List Nat) (st : Nat × Nat) (s : YO) : Prop := ∃ path, s = (nI P.length + (-1), nI st.1, nI st.2, path) ∧ yo_T path P
def yo_c : Nat → Nat
  | 0 => 1
  | f + 1 => 1 + 7 * (1 + yo_c f)
theorem yo_dfs {W : Nat → Int32 → YO → Prop} {G : Nat → Nat → Bool} {n lim : Nat} (hn : n ≤ 7)
    (r : ∀ P x e st s, pa_P G n P → x + e = n → yo_N P x st s → st.1 ≤ 7 → go_R lim W 1 s (fun s' => (p2_nx (pa_ok G P) e x = 7 ∧ yo_U P st s') ∨ (p2_nx (pa_ok G P) e x ≠ 7 ∧ yo_N (p2_nx (pa_ok G P) e x :: P) 0 (p2_ef G st (p2_nx (pa_ok G P) e x :: P)) s'))) :
    ∀ (f : Nat) (P : List Nat) (st : Nat × Nat) (s : YO), P.length + f = 7 → pa_P G n P → st.1 ≤ 7 → yo_N P 0 st s → go_R lim W (yo_c f) s (yo_U P ((pa_V G n f P).foldl (p2_ef G) st)) := by
  have ef7 : ∀ (st : Nat × Nat) (Q : List Nat), st.1 ≤ 7 → Q.length ≤ 7 → (p2_ef G st Q).1 ≤ 7 := fun st Q h1 h2 => by
    unfold p2_ef
    dsimp only
    by_cases z : st.1 < Q.length
    · rw [if_pos z]; exact h2
    · rw [if_neg z]; exact h1
  have fo7 : ∀ (l : List (List Nat)) (st : Nat × Nat), st.1 ≤ 7 → (∀ Q, Q ∈ l → Q.length ≤ 7) → (l.foldl (p2_ef G) st).1 ≤ 7 := by
    intro l
    induction l with
    | nil => intro st h _; exact h
    | cons Q l ih => intro st h hl; rw [List.foldl_cons]; exact ih _ (ef7 st Q h (hl Q (List.mem_cons_self ..))) (fun R hR => hl R (List.mem_cons_of_mem _ hR))
  have V7 : ∀ f P, pa_P G n P → ∀ Q, Q ∈ pa_V G n f P → Q.length ≤ 7 := by
    intro f
    induction f with
    | zero => intro P _ Q hQ; exact absurd hQ (by simp [pa_V])
    | succ f ih =>
      intro P hP Q hQ
      rw [pa_V_s, List.mem_flatMap] at hQ
      obtain ⟨b, hb, hQ⟩ := hQ
      obtain ⟨h1, h2⟩ := pa_ex_m.mp hb
      have hPb : pa_P G n (b :: P) := ⟨hP, h1, h2⟩
      rcases List.mem_cons.mp hQ with z | z
      · rw [z]; exact Nat.le_trans (pa_P_len hPb) hn
      · exact ih _ hPb Q z
  intro f
  induction f with
  | zero =>
    intro P st s hP hPP hst h
    refine go_m (r P 0 n st s hPP (by omega) h hst) (Nat.le_refl _) (fun s' hs' => ?_)
    rcases hs' with ⟨_, z⟩ | ⟨z, _⟩
    · exact z
    · exfalso
      rcases p2_nx_i (pa_ok G P) n 0 (by omega) with ⟨y, _⟩ | ⟨e, _, y2, y3, _⟩
      · exact z y
      · have := pa_P_len (show pa_P G n (p2_nx (pa_ok G P) n 0 :: P) from ⟨hPP, by omega, y3⟩)
        rw [List.length_cons] at this
        omega
  | succ f ih =>
    intro P st s hP hPP hst h
    have B : ∀ k e x st s, e ≤ k → x + e = n → st.1 ≤ 7 → yo_N P x st s → go_R lim W (1 + ((List.range' x e).filter (pa_ok G P)).length * (1 + yo_c f)) s (yo_U P ((((List.range' x e).filter (pa_ok G P)).flatMap (fun b => (b :: P) :: pa_V G n f (b :: P))).foldl (p2_ef G) st)) := by
      intro k
      induction k with
      | zero =>
        intro e x st s hk hx hst h
        have e0 : e = 0 := by omega
        subst e0
        refine go_m (r P x 0 st s hPP hx h hst) (by omega) (fun s' hs' => ?_)
        rcases hs' with ⟨_, z⟩ | ⟨z, _⟩
        · exact z
        · exact absurd rfl z
      | succ k ihk =>
        intro e x st s hk hx hst h
        rcases p2_nx_i (pa_ok G P) e x (by omega) with ⟨y, y2⟩ | ⟨e', y1, y2, y3, y4⟩
        · rw [y2]
          refine go_m (r P x e st s hPP hx h hst) (by omega) (fun s' hs' => ?_)
          rcases hs' with ⟨_, z⟩ | ⟨z, _⟩
          · exact z
          · exact absurd y z
        · have hr := r P x e st s hPP hx h hst
          rw [y4]
          generalize p2_nx (pa_ok G P) e x = b at y1 y2 y3 hr
          have hPb : pa_P G n (b :: P) := ⟨hPP, by omega, y3⟩
          have hlb := pa_P_len hPb
          rw [List.length_cons] at hlb
          have hst' := ef7 st (b :: P) hst (by rw [List.length_cons]; omega)
          rw [List.flatMap_cons, List.foldl_append, List.foldl_cons, List.length_cons, Nat.succ_mul]
          refine go_m (go_s hr (fun s' hs' => (?_ : go_R lim W (yo_c f + (1 + ((List.range' (b + 1) e').filter (pa_ok G P)).length * (1 + yo_c f))) s' _))) (by omega) (fun _ z => z)
          rcases hs' with ⟨z, _⟩ | ⟨_, z⟩
          · exact absurd z (by omega)
          · refine go_s (ih (b :: P) _ s' (by rw [List.length_cons]; omega) hPb hst' z) (fun s'' hs'' => ihk e' (b + 1) _ s'' (by omega) (by omega) (fo7 _ _ hst' (V7 f _ hPb)) ?_)
            obtain ⟨path, q1, q2⟩ := hs''
            refine ⟨path, ?_, q2.2, ?_⟩
            · rw [q1, List.length_cons, pk_m1]
            · rw [q2.1, nI_1]
    refine go_m (B n n 0 st s (Nat.le_refl _) (by omega) hst h) ?_ (fun _ z => z)
    have hl : ((List.range' 0 n).filter (pa_ok G P)).length ≤ 7 := by
      have := List.length_filter_le (pa_ok G P) (List.range' 0 n)
      rw [List.length_range'] at this; omega
    have := Nat.mul_le_mul_right (1 + yo_c f) hl
    show _ ≤ 1 + 7 * (1 + yo_c f)
    omega
section
variable {g_size g_height g_last g_said g_length g_symmetryCount : Int32} {b_text b_elements b_bonds b_counts b_pile b_marks b_saids b_row b_least b_orbits b_path b_far b_sums : Nat → Int32}
theorem yy_nextOn {post : Int32 → Prop} {s n x e : Nat} {av : Int32} {el : Nat → Nat} {bo : Nat → Nat → Nat} {P : List Nat} (hs : s < 2) (hK : mo_K n el bo) (hT : mo_T b_counts b_elements b_bonds s n el bo) (hP : pa_P (mo_G n bo) n P) (hp : yo_T b_path P) (hx : x + e = n) (hav : av + 1 = nI x) (h : post (nI (p2_nx (pa_ok (mo_G n bo) P) e x))) : wpY_nextOn post (g_size, g_height, g_last, g_said, g_length, g_symmetryCount, b_text, b_elements, b_bonds, b_counts, b_pile, b_marks, b_saids, b_row, b_least, b_orbits, b_path, b_far, b_sums) (nI s) (nI P.length) av := by
  have hn := hK.1
  have hlen := pa_P_len hP
  have hxP : ∀ z, z ∈ P → z < n := (pa_P_nd P hP).2
  have L : ∀ e x, x + e = n → post (nI (p2_nx (pa_ok (mo_G n bo) P) e x)) → wY_nextOn_5 post (nI s) (nI P.length) g_size g_height g_last g_said g_length g_symmetryCount b_text b_elements b_bonds b_counts b_pile b_marks b_saids b_row b_least b_orbits b_path b_far b_sums (e + 1) (nI x) := by
    intro e
    induction e with
    | zero =>
      intro x hx h
      exact wk_i s (pk_le n x (fun _ => h) (fun z => absurd z (by omega)) (wk_c s hT.1))
    | succ e ih =>
      intro x hx h
      have h' : post (nI (bif pa_ok (mo_G n bo) P x then x else p2_nx (pa_ok (mo_G n bo) P) e (x + 1))) := h
      have hmem := yo_T_m (path := b_path) (b := x) (by omega) P (fun z hz => by have := hxP z hz; omega) hp
      have F : ∀ f0 : Bool, (pa_ok (mo_G n bo) P x = (f0 && !decide (x ∈ P))) → ∀ d i, i + d = P.length → wY_nextOn_48 post (wY_nextOn_5 post (nI s) (nI P.length) g_size g_height g_last g_said g_length g_symmetryCount b_text b_elements b_bonds b_counts b_pile b_marks b_saids b_row b_least b_orbits b_path b_far b_sums (e + 1)) (nI s) (nI P.length) (nI x) g_size g_height g_last g_said g_length g_symmetryCount b_text b_elements b_bonds b_counts b_pile b_marks b_saids b_row b_least b_orbits b_path b_far b_sums (d + 1) (nI (f0 && !bb_ex (fun j => decide (b_path j = nI x)) i).toNat) (nI i) := by
        intro f0 hf d
        induction d with
        | zero =>
          intro i hi
          have ei : i = P.length := by omega
          have e1 : (f0 && !bb_ex (fun j => decide (b_path j = nI x)) i) = pa_ok (mo_G n bo) P x := by
            rw [hf, ei]
            congr 2
            rw [Bool.eq_iff_iff, bb_ex_iff, decide_eq_true_iff, ← hmem]
            exact ⟨fun ⟨j, h1, h2⟩ => ⟨j, h1, of_decide_eq_true h2⟩, fun ⟨j, h1, h2⟩ => ⟨j, h1, decide_eq_true h2⟩⟩
          rw [e1]
          refine pk_le P.length i (fun _ => ?_) (fun z => absurd z (by omega))
          cases hz : pa_ok (mo_G n bo) P x with
          | false => rw [hz] at h'; exact br_t rfl (nm_r (wk_p x) (ih (x + 1) (by omega) h'))
          | true => rw [hz] at h'; exact br_f (by decide) h'
        | succ d ihd =>
          intro i hi
          have k := ihd (i + 1) (by omega)
          rw [bb_ex_s, Bool.not_or, ← Bool.and_assoc] at k
          refine pk_le P.length i (fun z => absurd z (by omega)) (fun _ => ?_)
          cases hz : (f0 && !bb_ex (fun j => decide (b_path j = nI x)) i) with
          | false => rw [hz] at k; exact br_t rfl (nm_r (wk_p i) k)
          | true =>
            rw [hz] at k
            have hc : b_path (nI i).toNatClampNeg = b_path i := wk_c i rfl
            refine br_f (by decide) (wk_i i (br_c (fun y => ?_) (fun y => ?_)))
            · rw [decide_eq_true (hc.symm.trans y)] at k
              exact nm_r (wk_p i) k
            · rw [decide_eq_false (fun w => y (hc.trans w))] at k
              exact nm_r (wk_p i) k
      refine wk_i s (pk_le n x (fun z => absurd z (by omega)) (fun _ => pk_eq P.length 0 (fun z => ?_) (fun z => ?_)) (wk_c s hT.1))
      · have eP : P = [] := List.eq_nil_of_length_eq_zero z
        refine Exists.intro (P.length + 1) (F true ?_ P.length 0 (by omega))
        rw [eP]; rfl
      · cases P with
        | nil => exact absurd rfl z
        | cons a t =>
          have hat : a < n := hxP a (List.mem_cons_self ..)
          have hlt : t.length < 7 := by rw [List.length_cons] at hlen; omega
          have hp0 : b_path (nI (a :: t).length - 1).toNatClampNeg = nI a := wk_c t.length hp.1 (by rw [List.length_cons, nI_pred])
          refine wk_i t.length ?_ (by rw [List.length_cons] at hlen; omega) (by rw [List.length_cons, nI_pred])
          rw [hp0]
          refine yy_orderOf (by omega) (by omega) (by omega) ?_
          rw [hT.2.2 a x hat (by omega)]
          have hb3 := hK.2.2.1 a x hat (by omega)
          refine pk_le (bo a x) 0 (fun w => Exists.intro ((a :: t).length + 1) (F false ?_ (a :: t).length 0 (by omega))) (fun w => Exists.intro ((a :: t).length + 1) (F true ?_ (a :: t).length 0 (by omega)))
          · show (mo_G n bo a x && _) = _
            rw [mo_G_f (by omega)]
          · show (mo_G n bo a x && _) = _
            rw [mo_G_t hat (by omega) w]
  unfold wpY_nextOn
  exact nm_r hav (Exists.intro (e + 1) (L e x hx h))
end
def yo_W (post : Int32 → SY → Prop) (x1 x2 : Int32) (v : SY) : Nat → Int32 → YO → Prop := match v with
  | (g_size, g_height, g_last, g_said, g_length, g_symmetryCount, b_text, b_elements, b_bonds, b_counts, b_pile, b_marks, b_saids, b_row, b_least, b_orbits, b_path, b_far, b_sums) => fun F _ u => wY_goOver_15 post x1 x2 g_size g_height g_last g_said g_length g_symmetryCount F u.1 u.2.1 u.2.2.1 b_text b_elements b_bonds b_counts b_pile b_marks b_saids b_row b_least b_orbits u.2.2.2 b_far b_sums
section
variable {g_size g_height g_last g_said g_length g_symmetryCount : Int32} {b_text b_elements b_bonds b_counts b_pile b_marks b_saids b_row b_least b_orbits b_path b_far b_sums : Nat → Int32}
theorem yo_r {post : Int32 → SY → Prop} {s n lim : Nat} {x2 : Int32} {el : Nat → Nat} {bo : Nat → Nat → Nat} (hs : s < 2) (hK : mo_K n el bo) (hT : mo_T b_counts b_elements b_bonds s n el bo) (P : List Nat) (x e : Nat) (st : Nat × Nat) (u : YO) (hP : pa_P (mo_G n bo) n P) (hx : x + e = n) (hN : yo_N P x st u) (hst : st.1 ≤ 7) :
    go_R lim (yo_W post (nI s) x2 (g_size, g_height, g_last, g_said, g_length, g_symmetryCount, b_text, b_elements, b_bonds, b_counts, b_pile, b_marks, b_saids, b_row, b_least, b_orbits, b_path, b_far, b_sums)) 1 u (fun s' => (p2_nx (pa_ok (mo_G n bo) P) e x = 7 ∧ yo_U P st s') ∨ (p2_nx (pa_ok (mo_G n bo) P) e x ≠ 7 ∧ yo_N (p2_nx (pa_ok (mo_G n bo) P) e x :: P) 0 (p2_ef (mo_G n bo) st (p2_nx (pa_ok (mo_G n bo) P) e x :: P)) s')) := by
  have hn := hK.1
  have hlen := pa_P_len hP
  have hxP : ∀ z, z ∈ P → z < n := (pa_P_nd P hP).2
  obtain ⟨path, rfl, hp, hav⟩ := hN
  refine go_1 (fun F ρ _ k => ?_)
  show wY_goOver_15 post (nI s) x2 g_size g_height g_last g_said g_length g_symmetryCount (F + 1) (nI P.length) (nI st.1) (nI st.2) b_text b_elements b_bonds b_counts b_pile b_marks b_saids b_row b_least b_orbits path b_far b_sums
  have hc : path (nI P.length).toNatClampNeg + 1 = nI x := by rw [nI_clamp (by omega)]; exact hav
  have hnx := p2_nx_i (pa_ok (mo_G n bo) P) e x (by omega)
  refine br_f (nI_pos (by omega)) (wk_i P.length (yy_nextOn hs hK hT hP hp hx hc (wk_w P.length ?_)))
  generalize p2_nx (pa_ok (mo_G n bo) P) e x = b at k hnx
  have hb8 : b < 8 := by
    rcases hnx with ⟨z, _⟩ | ⟨e', _, z, _⟩ <;> omega
  refine pk_eq b 7 (fun z => nm_e (k (nI P.length + (-1), nI st.1, nI st.2, upd path P.length (nI b)) (Or.inl ⟨z, _, rfl, yo_T_u P (Nat.le_refl _) hp⟩))) (fun z => ?_)
  obtain ⟨hbn, hok⟩ : b < n ∧ pa_ok (mo_G n bo) P b = true := by
    rcases hnx with ⟨y, _⟩ | ⟨e', _, y, y2, _⟩
    · exact absurd y z
    · exact ⟨by omega, y2⟩
  have hPb : pa_P (mo_G n bo) n (b :: P) := ⟨hP, hbn, hok⟩
  have hlb := pa_P_len hPb
  rw [List.length_cons] at hlb
  have hQ : yo_T (upd path P.length (nI b)) (b :: P) := ⟨pk_us, yo_T_u P (Nat.le_refl _) hp⟩
  have hxQ : ∀ y, y ∈ b :: P → y < n := (pa_P_nd _ hPb).2
  have h0 := yo_T_0 (b :: P) (by simp) hQ
  have hla : pa_la (b :: P) < n := hxQ _ (pa_la_m _ (by simp))
  have hgt := yo_gt (l := pa_la (b :: P)) (by omega) (b :: P) (fun y hy => by have := hxQ y hy; omega) hQ
  rw [List.length_cons] at hgt
  -- the node is counted, then one deeper
  have E157 : ∀ mo cl : Nat, (mo, cl) = p2_ef (mo_G n bo) st (b :: P) → wY_goOver_157 post (wY_goOver_15 post (nI s) x2 g_size g_height g_last g_said g_length g_symmetryCount F) (nI s) x2 (nI P.length) (nI mo) (nI cl) g_size g_height g_last g_said g_length g_symmetryCount b_text b_elements b_bonds b_counts b_pile b_marks b_saids b_row b_least b_orbits (upd path P.length (nI b)) b_far b_sums := fun mo cl hmc => by
    refine nm_r (wk_p P.length) (wk_w (P.length + 1) (k (nI (P.length + 1), nI mo, nI cl, upd (upd path P.length (nI b)) (P.length + 1) (-1)) (Or.inr ⟨z, upd (upd path P.length (nI b)) (P.length + 1) (-1), ?_, yo_T_u (b :: P) (by rw [List.length_cons]; exact Nat.le_refl _) hQ, ?_⟩)))
    · rw [← hmc, List.length_cons]
    · rw [List.length_cons, pk_us]; rfl
  have R103 : ∀ mo : Nat, mo = (if st.1 < (b :: P).length then (b :: P).length else st.1) → ∀ r0 : Bool, pa_rg (mo_G n bo) (b :: P) = (r0 && pa_gt (pa_la (b :: P)) (b :: P)) → ∀ d i, i + d = P.length + 1 → 1 ≤ i → wY_goOver_103 post (wY_goOver_15 post (nI s) x2 g_size g_height g_last g_said g_length g_symmetryCount F) (nI s) x2 (nI P.length) (nI mo) (nI st.2) g_size g_height g_last g_said g_length g_symmetryCount b_text b_elements b_bonds b_counts b_pile b_marks b_saids b_row b_least b_orbits (upd path P.length (nI b)) b_far b_sums (d + 1) (nI (r0 && !bb_ex (fun j => decide (1 ≤ j ∧ upd path P.length (nI b) j ≤ upd path P.length (nI b) 0)) i).toNat) (nI i) := by
    intro mo hmo r0 hr d
    induction d with
    | zero =>
      intro i hi _
      have e1 : (r0 && !bb_ex (fun j => decide (1 ≤ j ∧ upd path P.length (nI b) j ≤ upd path P.length (nI b) 0)) i) = pa_rg (mo_G n bo) (b :: P) := by
        rw [hr, show i = P.length + 1 by omega]
        congr 1
        rw [Bool.eq_iff_iff, ← hgt, Bool.not_eq_true', bb_ex_f, h0]
        constructor
        · intro q j h1 h2 h3
          exact of_decide_eq_false (q j h2) ⟨h1, h3⟩
        · intro q j h2
          exact decide_eq_false (fun w => q j w.1 h2 w.2)
      rw [e1]
      refine pk_lt P.length i (fun _ => ?_) (fun y => absurd y (by omega))
      cases hz : pa_rg (mo_G n bo) (b :: P) with
      | false => exact br_t rfl (E157 mo st.2 (by unfold p2_ef; rw [hz, hmo]; rfl))
      | true =>
        have q := E157 mo (st.2 + 1) (by unfold p2_ef; rw [hz, hmo]; rfl)
        rw [← wk_p] at q
        exact br_f (by decide) q
    | succ d ihd =>
      intro i hi h1
      have kk := ihd (i + 1) (by omega) (by omega)
      rw [bb_ex_s, Bool.not_or, ← Bool.and_assoc] at kk
      refine pk_lt P.length i (fun y => absurd y (by omega)) (fun _ => ?_)
      cases hz : (r0 && !bb_ex (fun j => decide (1 ≤ j ∧ upd path P.length (nI b) j ≤ upd path P.length (nI b) 0)) i) with
      | false => rw [hz] at kk; exact br_t rfl (nm_r (wk_p i) kk)
      | true =>
        rw [hz] at kk
        have hci : upd path P.length (nI b) (nI i).toNatClampNeg = upd path P.length (nI b) i := wk_c i rfl
        refine br_f (by decide) (wk_i i (br_c (fun y => ?_) (fun y => ?_)))
        · rw [hci] at y
          rw [decide_eq_true ⟨h1, y⟩] at kk
          exact nm_r (wk_p i) kk
        · rw [hci] at y
          rw [decide_eq_false (fun w => y w.2)] at kk
          exact nm_r (wk_p i) kk
  have ex1 : bb_ex (fun j => decide (1 ≤ j ∧ upd path P.length (nI b) j ≤ upd path P.length (nI b) 0)) 1 = false := (bb_ex_f _ _).mpr (fun j hj => decide_eq_false (fun w => absurd w.1 (by omega)))
  have R70 : ∀ mo : Nat, mo = (if st.1 < (b :: P).length then (b :: P).length else st.1) → wY_goOver_70 post (wY_goOver_15 post (nI s) x2 g_size g_height g_last g_said g_length g_symmetryCount F) (nI s) x2 (nI P.length) (nI st.2) (nI b) (nI mo) g_size g_height g_last g_said g_length g_symmetryCount b_text b_elements b_bonds b_counts b_pile b_marks b_saids b_row b_least b_orbits (upd path P.length (nI b)) b_far b_sums := fun mo hmo => by
    have S : ∀ r0 : Bool, pa_rg (mo_G n bo) (b :: P) = (r0 && pa_gt (pa_la (b :: P)) (b :: P)) → ∃ q, wY_goOver_103 post (wY_goOver_15 post (nI s) x2 g_size g_height g_last g_said g_length g_symmetryCount F) (nI s) x2 (nI P.length) (nI mo) (nI st.2) g_size g_height g_last g_said g_length g_symmetryCount b_text b_elements b_bonds b_counts b_pile b_marks b_saids b_row b_least b_orbits (upd path P.length (nI b)) b_far b_sums q (nI r0.toNat) 1 := fun r0 hr => by
      have q := R103 mo hmo r0 hr P.length 1 (by omega) (by omega)
      rw [ex1, Bool.not_false, Bool.and_true] at q
      exact Exists.intro (P.length + 1) q
    have hrg : pa_rg (mo_G n bo) (b :: P) = (decide (2 < (b :: P).length) && mo_G n bo b (pa_la (b :: P)) && pa_gt (pa_la (b :: P)) (b :: P)) := rfl
    refine pk_le P.length 1 (fun y => S false ?_) (fun y => ?_)
    · rw [hrg, decide_eq_false (by rw [List.length_cons]; omega)]; simp
    · rw [h0]
      refine yy_orderOf (by omega) (by omega) (by omega) ?_
      rw [hT.2.2 b _ hbn hla]
      have hb3 := hK.2.2.1 b _ hbn hla
      refine pk_le (bo b (pa_la (b :: P))) 0 (fun w => S false ?_) (fun w => S true ?_)
      · rw [hrg, mo_G_f (by omega)]; simp
      · rw [hrg, mo_G_t hbn hla w, decide_eq_true (by rw [List.length_cons]; omega)]; simp
  refine pk_le (P.length + 1) st.1 (fun y => R70 st.1 ?_) (fun y => ?_) (wk_p P.length)
  · rw [if_neg (by rw [List.length_cons]; omega)]
  · have q := R70 (P.length + 1) (by rw [if_pos (by rw [List.length_cons]; omega), List.length_cons])
    rw [← wk_p] at q
    exact q
theorem yy_goOver {post : Int32 → SY → Prop} {s n : Nat} {x2 : Int32} {el : Nat → Nat} {bo : Nat → Nat → Nat} (hs : s < 2) (hK : mo_K n el bo) (hT : mo_T b_counts b_elements b_bonds s n el bo)
    (h0 : x2 = 0 → ∀ path, post (nI ((pa_V (mo_G n bo) n 7 []).foldl (p2_ef (mo_G n bo)) (0, 0)).1) (g_size, g_height, g_last, g_said, g_length, g_symmetryCount, b_text, b_elements, b_bonds, b_counts, b_pile, b_marks, b_saids, b_row, b_least, b_orbits, path, b_far, b_sums)) (h1 : ¬ x2 = 0 → ∀ path, post (nI ((pa_V (mo_G n bo) n 7 []).foldl (p2_ef (mo_G n bo)) (0, 0)).2 / 2) (g_size, g_height, g_last, g_said, g_length, g_symmetryCount, b_text, b_elements, b_bonds, b_counts, b_pile, b_marks, b_saids, b_row, b_least, b_orbits, path, b_far, b_sums)) : wpY_goOver post (g_size, g_height, g_last, g_said, g_length, g_symmetryCount, b_text, b_elements, b_bonds, b_counts, b_pile, b_marks, b_saids, b_row, b_least, b_orbits, b_path, b_far, b_sums) (nI s) x2 := by
  unfold wpY_goOver
  refine nm_e (Exists.intro (yo_c 7 + 1) ?_)
  have hdfs := yo_dfs (W := yo_W post (nI s) x2 (g_size, g_height, g_last, g_said, g_length, g_symmetryCount, b_text, b_elements, b_bonds, b_counts, b_pile, b_marks, b_saids, b_row, b_least, b_orbits, b_path, b_far, b_sums)) (G := mo_G n bo) (n := n) (lim := yo_c 7) hK.1 (fun P x e st u hP hx hN hst => yo_r hs hK hT P x e st u hP hx hN hst) 7 [] (0, 0) (nI 0, nI 0, nI 0, upd b_path 0 (-1)) rfl trivial (by decide) ⟨_, rfl, trivial, by show upd b_path 0 (-1) 0 + 1 = nI 0; rw [pk_us]; decide⟩
  refine hdfs (yo_c 7 + 1) 0 (by omega) (by omega) (fun m u hm hu => ?_)
  obtain ⟨path, rfl, _⟩ := hu
  obtain ⟨F', hF'⟩ : ∃ F', yo_c 7 + 1 - m = F' + 1 := ⟨yo_c 7 - m, by omega⟩
  rw [hF']
  show wY_goOver_15 post (nI s) x2 g_size g_height g_last g_said g_length g_symmetryCount (F' + 1) (-1) (nI ((pa_V (mo_G n bo) n 7 []).foldl (p2_ef (mo_G n bo)) (0, 0)).1) (nI ((pa_V (mo_G n bo) n 7 []).foldl (p2_ef (mo_G n bo)) (0, 0)).2) b_text b_elements b_bonds b_counts b_pile b_marks b_saids b_row b_least b_orbits path b_far b_sums
  exact br_t (by decide) (br_c (fun z => h0 z path) (fun z => And.intro wk_n0 (h1 z path)))
theorem yy_rings {post : Int32 → SY → Prop} {s n : Nat} {el : Nat → Nat} {bo : Nat → Nat → Nat} (hs : s < 2) (hK : mo_K n el bo) (hT : mo_T b_counts b_elements b_bonds s n el bo) (h : ∀ path, post (nI (ls_t (pa_rg (mo_G n bo)) (pa_B (mo_G n bo) 7 7 [[]])) / 2) (g_size, g_height, g_last, g_said, g_length, g_symmetryCount, b_text, b_elements, b_bonds, b_counts, b_pile, b_marks, b_saids, b_row, b_least, b_orbits, path, b_far, b_sums)) : wpY_rings post (g_size, g_height, g_last, g_said, g_length, g_symmetryCount, b_text, b_elements, b_bonds, b_counts, b_pile, b_marks, b_saids, b_row, b_least, b_orbits, b_path, b_far, b_sums) (nI s) := by
  unfold wpY_rings
  refine yy_slot_g hs (br_f wk_10 (yy_goOver hs hK hT (fun z => absurd z (by decide)) (fun _ path => ?_)))
  rw [p2_rgY _ hK.1 mo_G_n]
  exact h path
theorem yy_longest {post : Int32 → SY → Prop} {s n : Nat} {el : Nat → Nat} {bo : Nat → Nat → Nat} (hs : s < 2) (hK : mo_K n el bo) (hT : mo_T b_counts b_elements b_bonds s n el bo) (h : ∀ m path, p2_mx (mo_G n bo) n m → post (nI m) (g_size, g_height, g_last, g_said, g_length, g_symmetryCount, b_text, b_elements, b_bonds, b_counts, b_pile, b_marks, b_saids, b_row, b_least, b_orbits, path, b_far, b_sums)) : wpY_longest post (g_size, g_height, g_last, g_said, g_length, g_symmetryCount, b_text, b_elements, b_bonds, b_counts, b_pile, b_marks, b_saids, b_row, b_least, b_orbits, b_path, b_far, b_sums) (nI s) := by
  unfold wpY_longest
  exact yy_slot_g hs (br_f wk_10 (yy_goOver hs hK hT (fun _ path => h _ path (p2_mxY _ hK.1)) (fun z => absurd rfl z)))
end
end
section
theorem ym_lo {G : Nat → Nat → Bool} {t : Nat → Int32} {S : Nat} (hS : S < 128) (h0 : S ≠ 0) : ∀ b, b ≤ bb_lo S + 1 → ma_A G t S b = t (bb_cl S (bb_lo S)) := by
  have hl := bb_lo_7 hS h0
  intro b
  induction b with
  | zero => intro _; rfl
  | succ b ih =>
    intro hb
    rw [ma_A_s, ih (by omega)]
    have : (bb_cl S (bb_lo S) &&& bb_bs (G (bb_lo S)) 7).testBit b = false := by
      rw [Nat.testBit_and, bb_cl_b (by omega)]
      by_cases e : b = bb_lo S
      · rw [decide_eq_true e]; simp
      · rw [bb_lo_n hS h0 (by omega)]; simp
    rw [this]
    exact Int32.add_zero _
theorem ym_hi {G : Nat → Nat → Bool} {t : Nat → Int32} {S n : Nat} (hr : ∀ a b, G a b = true → a < n ∧ b < n) : ∀ d, n + d ≤ 7 → ma_A G t S (n + d) = ma_A G t S n := by
  intro d
  induction d with
  | zero => intro _; rfl
  | succ d ih =>
    intro hd
    have : (bb_cl S (bb_lo S) &&& bb_bs (G (bb_lo S)) 7).testBit (n + d) = false := by
      rw [Nat.testBit_and, bb_bs_b _ (show n + d < 7 by omega)]
      cases hz : G (bb_lo S) (n + d) with
      | false => simp
      | true => have := (hr _ _ hz).2; omega
    rw [← Nat.add_assoc, ma_A_s, this, ih (by omega)]
    exact Int32.add_zero _
section
variable {g_size g_height g_last g_said g_length g_symmetryCount : Int32} {b_text b_elements b_bonds b_counts b_pile b_marks b_saids b_row b_least b_orbits b_path b_far b_sums : Nat → Int32}
theorem yy_matchings {post : Int32 → SY → Prop} {s n : Nat} {el : Nat → Nat} {bo : Nat → Nat → Nat} (hs : s < 2) (hK : mo_K n el bo) (hT : mo_T b_counts b_elements b_bonds s n el bo) (h : ∀ su, post (ma_w (mo_G n bo) (2 ^ n - 1)) (g_size, g_height, g_last, g_said, g_length, g_symmetryCount, b_text, b_elements, b_bonds, b_counts, b_pile, b_marks, b_saids, b_row, b_least, b_orbits, b_path, b_far, su)) : wpY_matchings post (g_size, g_height, g_last, g_said, g_length, g_symmetryCount, b_text, b_elements, b_bonds, b_counts, b_pile, b_marks, b_saids, b_row, b_least, b_orbits, b_path, b_far, b_sums) (nI s) := by
  have hn := hK.1
  have hp7 : 2 ^ n ≤ 128 := Nat.pow_le_pow_right (n := 2) (by decide) hn
  have hpos := Nat.two_pow_pos n
  unfold wpY_matchings
  refine yy_slot_g hs (br_f wk_10 ?_)
  have hsh : (1 : Int32) <<< (b_counts (nI s).toNatClampNeg &&& 31) = nI (2 ^ n) := by rw [wk_c s hT.1, bb_shl n (by omega)]
  have L : ∀ d S su, S + d = 2 ^ n → 0 < S → (∀ j, j < S → su j = ma_w (mo_G n bo) j) → wY_matchings_19 post (nI s) g_size g_height g_last g_said g_length g_symmetryCount (d + 1) (nI S) b_text b_elements b_bonds b_counts b_pile b_marks b_saids b_row b_least b_orbits b_path b_far su := by
    intro d
    induction d with
    | zero =>
      intro S su hS h0 hw
      have hix : ((1 : Int32) <<< (b_counts (nI s).toNatClampNeg &&& 31)) - 1 = nI (2 ^ n - 1) := by rw [wk_c s hT.1, bb_full n (by omega)]
      refine wk_i s (pk_le (2 ^ n) S (fun _ => wk_i s (wk_i (2 ^ n - 1) ?_ (by omega) hix)) (fun z => absurd z (by omega)) hsh)
      rw [wk_c (2 ^ n - 1) (hw (2 ^ n - 1) (by omega)) hix]
      exact h su
    | succ d ih =>
      intro S su hS h0' hw
      have hS1 : S < 128 := by omega
      have h0 : S ≠ 0 := by omega
      have hl := bb_lo_7 hS1 h0
      have hlb := bb_lo_b hS1 h0
      have hln : bb_lo S < n := by
        rcases Nat.lt_or_ge (bb_lo S) n with z | z
        · exact z
        · have := Nat.testBit_lt_two_pow (x := S) (i := bb_lo S) (Nat.lt_of_lt_of_le (show S < 2 ^ n by omega) (Nat.pow_le_pow_right (by decide) z))
          rw [hlb] at this; exact absurd this (by decide)
      have hcl := bb_cl_lt S (bb_lo S)
      have hcS := (ma_cl S hS1 _ hl).2 hlb
      have B : ∀ e b su, b + e = n → bb_lo S < b → (∀ j, j < S → su j = ma_w (mo_G n bo) j) → su S = ma_A (mo_G n bo) (ma_w (mo_G n bo)) S b → wY_matchings_68 post (wY_matchings_19 post (nI s) g_size g_height g_last g_said g_length g_symmetryCount (d + 1)) (nI s) (nI S) (nI (bb_lo S)) g_size g_height g_last g_said g_length g_symmetryCount (e + 1) (nI b) b_text b_elements b_bonds b_counts b_pile b_marks b_saids b_row b_least b_orbits b_path b_far su := by
        intro e
        induction e with
        | zero =>
          intro b su hb hlb' hw hSb
          refine wk_i s (pk_le n b (fun _ => nm_r (wk_p S) (ih (S + 1) su (by omega) (by omega) (fun j hj => ?_))) (fun z => absurd z (by omega)) (wk_c s hT.1))
          by_cases e : j = S
          · have hh := ym_hi (G := mo_G n bo) (t := ma_w (mo_G n bo)) (S := S) mo_G_n (7 - n) (by omega)
            rw [show n + (7 - n) = 7 by omega] at hh
            rw [e, hSb, ma_w_s _ hS1 h0, hh, show b = n by omega]
          · exact hw j (by omega)
        | succ e ihe =>
          intro b su hb hlb' hw hSb
          have hb7 : b < 7 := by omega
          have hsS : su (nI S).toNatClampNeg = ma_A (mo_G n bo) (ma_w (mo_G n bo)) S b := wk_c S hSb
          have hbit : (bb_cl S (bb_lo S) &&& bb_bs (mo_G n bo (bb_lo S)) 7).testBit b = (S.testBit b && mo_G n bo (bb_lo S) b) := by
            rw [Nat.testBit_and, bb_cl_b hb7, bb_bs_b _ hb7, decide_eq_false (by omega)]; simp
          have no : (S.testBit b && mo_G n bo (bb_lo S) b) = false → wY_matchings_104 post (wY_matchings_19 post (nI s) g_size g_height g_last g_said g_length g_symmetryCount (d + 1)) (wY_matchings_68 post (wY_matchings_19 post (nI s) g_size g_height g_last g_said g_length g_symmetryCount (d + 1)) (nI s) (nI S) (nI (bb_lo S)) g_size g_height g_last g_said g_length g_symmetryCount (e + 1)) (nI s) (nI S) (nI (bb_lo S)) (nI b) g_size g_height g_last g_said g_length g_symmetryCount b_text b_elements b_bonds b_counts b_pile b_marks b_saids b_row b_least b_orbits b_path b_far su := fun hz => by
            refine br_t rfl (wk_i S (wk_w S (nm_r (wk_p b) (ihe (b + 1) _ (by omega) (by omega) (fun j hj => ?_) ?_))))
            · rw [pk_un (by omega)]; exact hw j hj
            · rw [pk_us, hsS, ma_A_s, hbit, hz]; exact (Int32.add_zero _).symm
          have hc2 := (ma_cl _ hcl b hb7).1
          have hix : (nI S &&& (((1 : Int32) <<< (nI (bb_lo S) &&& 31)) ^^^ (-1))) &&& (((1 : Int32) <<< (nI b &&& 31)) ^^^ (-1)) = nI (bb_cl (bb_cl S (bb_lo S)) b) := by rw [bb_clI hS1 hl, bb_clI hcl hb7]
          have yes : (S.testBit b && mo_G n bo (bb_lo S) b) = true → wY_matchings_105 post (wY_matchings_19 post (nI s) g_size g_height g_last g_said g_length g_symmetryCount (d + 1)) (wY_matchings_68 post (wY_matchings_19 post (nI s) g_size g_height g_last g_said g_length g_symmetryCount (d + 1)) (nI s) (nI S) (nI (bb_lo S)) g_size g_height g_last g_said g_length g_symmetryCount (e + 1)) (nI s) (nI S) (nI (bb_lo S)) (nI b) 1 g_size g_height g_last g_said g_length g_symmetryCount b_text b_elements b_bonds b_counts b_pile b_marks b_saids b_row b_least b_orbits b_path b_far su := fun hz => by
            refine br_f wk_10 (wk_i S (wk_i (bb_cl (bb_cl S (bb_lo S)) b) (wk_w S (nm_r (wk_p b) (ihe (b + 1) _ (by omega) (by omega) (fun j hj => ?_) ?_))) (bb_cl_lt _ _) hix))
            · rw [pk_un (by omega)]; exact hw j hj
            · rw [pk_us, hsS, ma_A_s, hbit, hz, wk_c (bb_cl (bb_cl S (bb_lo S)) b) (hw _ (by omega)) hix]; rfl
          refine wk_i s (pk_le n b (fun z => absurd z (by omega)) (fun _ => ?_) (wk_c s hT.1))
          cases hz : S.testBit b with
          | false => exact br_f (fun z => by rw [(bb_bit1 hS1 hb7).mp z] at hz; exact absurd hz (by decide)) (no (by rw [hz]; rfl))
          | true =>
            refine br_t ((bb_bit1 hS1 hb7).mpr hz) (yy_orderOf (by omega) (by omega) hb7 ?_)
            rw [hT.2.2 (bb_lo S) b hln (by omega)]
            have hb3 := hK.2.2.1 (bb_lo S) b hln (by omega)
            exact pk_le (bo (bb_lo S) b) 0 (fun w => no (by rw [mo_G_f (by omega)]; simp)) (fun w => yes (by rw [hz, mo_G_t hln (by omega) w]; rfl))
      have A : ∀ e i, i + e = bb_lo S → wY_matchings_33 post (wY_matchings_19 post (nI s) g_size g_height g_last g_said g_length g_symmetryCount (d + 1)) (nI s) (nI S) g_size g_height g_last g_said g_length g_symmetryCount b_text b_elements b_bonds b_counts b_pile b_marks b_saids b_row b_least b_orbits b_path b_far su (e + 1) (nI i) := by
        intro e
        induction e with
        | zero =>
          intro i hi
          have ei : i = bb_lo S := by omega
          subst ei
          have hix := bb_pred S hS1 h0
          refine br_f (fun z => ?_) (wk_i (bb_cl S (bb_lo S)) (wk_v S (ma_w (mo_G n bo) (bb_cl S (bb_lo S))) (wk_c _ (hw _ hcS) hix) (nm_r (wk_p _) (Exists.intro (n - (bb_lo S + 1) + 1) (B (n - (bb_lo S + 1)) (bb_lo S + 1) _ (by omega) (by omega) (fun j hj => ?_) ?_)))) hcl hix)
          · rw [(bb_bit0 hS1 hl).mp z] at hlb; exact absurd hlb (by decide)
          · rw [pk_un (by omega)]; exact hw j hj
          · rw [pk_us, ym_lo hS1 h0 _ (Nat.le_refl _)]
        | succ e ihe =>
          intro i hi
          exact br_t ((bb_bit0 hS1 (by omega)).mpr (bb_lo_n hS1 h0 (by omega))) (nm_r (wk_p i) (ihe (i + 1) (by omega)))
      exact wk_i s (pk_le (2 ^ n) S (fun z => absurd z (by omega)) (fun _ => Exists.intro (bb_lo S + 1) (A (bb_lo S) 0 (by omega))) hsh)
  refine nm_e (Exists.intro (2 ^ n - 1 + 1) (L (2 ^ n - 1) 1 _ (by omega) (by omega) (fun j hj => ?_)))
  rw [show j = 0 by omega, pk_us, ma_w_0]
end
end
section
/-! the next order -/
theorem yn_fol {n : Nat} {P : List Nat} {t : List (List Nat)} (h : pe_chk n (P :: t) = true) : (t = [] ∧ pe_pv (pe_at P) (n - 1) = 0) ∨ ∃ Q t' i, t = Q :: t' ∧ pe_pv (pe_at P) (n - 1) = i + 1 ∧ (∀ j, j < n → pe_ng n (pe_at P) i j = pe_at Q j) ∧ pe_chk n (Q :: t') = true := by
  cases t with
  | nil => exact Or.inl ⟨rfl, Nat.eq_of_beq_eq_true h⟩
  | cons Q t' =>
    refine Or.inr ⟨Q, t', ?_⟩
    have h' : (bif pe_fol n P Q then pe_chk n (Q :: t') else false) = true := h
    cases hf : pe_fol n P Q with
    | false => rw [hf] at h'; exact Bool.noConfusion h'
    | true =>
      rw [hf] at h'
      unfold pe_fol at hf
      cases hp : pe_pv (pe_at P) (n - 1) with
      | zero => rw [hp] at hf; exact Bool.noConfusion hf
      | succ i =>
        rw [hp] at hf
        exact ⟨i, rfl, rfl, pe_eqv_i n hf, h'⟩
theorem yn_id : ∀ n, n < 8 → ∀ j, j < n → pe_at (List.range' 0 n) j = j := by decide +kernel
theorem yn_sw {f : Nat → Nat} {i k j : Nat} : pe_sw f i k j = if j = k then f i else if j = i then f k else f j := by
  unfold pe_sw
  by_cases h1 : j = k
  · subst h1; rw [if_pos rfl, Nat.beq_refl]; rfl
  · have e1 : Nat.beq j k = false := by
      cases hz : Nat.beq j k with
      | false => rfl
      | true => exact absurd (Nat.eq_of_beq_eq_true hz) h1
    rw [if_neg h1, e1]
    by_cases h2 : j = i
    · subst h2; rw [if_pos rfl, Nat.beq_refl]; rfl
    · have e2 : Nat.beq j i = false := by
        cases hz : Nat.beq j i with
        | false => rfl
        | true => exact absurd (Nat.eq_of_beq_eq_true hz) h2
      rw [if_neg h2, e2]; rfl
def yn_R (n : Nat) (f : Nat → Nat) (ro : XA) : Prop := ∀ j, j < n → ro j = nI (f j) ∧ f j < 8
theorem yn_R_sw {n i k : Nat} {f : Nat → Nat} {ro : XA} (hi : i < n) (hk : k < n) (h : yn_R n f ro) : yn_R n (pe_sw f i k) (upd (upd ro i (ro k)) k (ro i)) := fun j hj => by
  rw [yn_sw]
  by_cases h1 : j = k
  · rw [h1, pk_us, if_pos rfl]; exact h i hi
  · rw [pk_un h1, if_neg h1]
    by_cases h2 : j = i
    · rw [h2, pk_us, if_pos rfl]; exact h k hk
    · rw [pk_un h2, if_neg h2]; exact h j hj
theorem yn_ble_t {a b : Nat} (h : a ≤ b) : Nat.ble a b = true := Nat.ble_eq.mpr h
theorem yn_ble_f {a b : Nat} (h : b < a) : Nat.ble a b = false := by
  cases hz : Nat.ble a b with
  | false => rfl
  | true => have := Nat.ble_eq.mp hz; omega
section
variable {g_size g_height g_last g_said g_length g_symmetryCount : Int32} {b_text b_elements b_bonds b_counts b_pile b_marks b_saids b_row b_least b_orbits b_path b_far b_sums : Nat → Int32}
theorem yy_exchange {post : SY → Prop} {i k : Nat} (hi : i < 7) (hk : k < 7) (h : post (g_size, g_height, g_last, g_said, g_length, g_symmetryCount, b_text, b_elements, b_bonds, b_counts, b_pile, b_marks, b_saids, upd (upd b_row i (b_row k)) k (b_row i), b_least, b_orbits, b_path, b_far, b_sums)) : wpY_exchange post (g_size, g_height, g_last, g_said, g_length, g_symmetryCount, b_text, b_elements, b_bonds, b_counts, b_pile, b_marks, b_saids, b_row, b_least, b_orbits, b_path, b_far, b_sums) (nI i) (nI k) := by
  unfold wpY_exchange
  exact wk_i i (nm_r (wk_c i rfl) (wk_i k (wk_v i (b_row k) (wk_c k rfl) (wk_w k h))))
theorem yn_73 {post : Int32 → SY → Prop} {n i : Nat} {g : Nat → Nat} (hn : n ≤ 7) (hin : i < n) (h1 : ∀ ro, yn_R n g ro → post 1 (g_size, g_height, g_last, g_said, g_length, g_symmetryCount, b_text, b_elements, b_bonds, b_counts, b_pile, b_marks, b_saids, ro, b_least, b_orbits, b_path, b_far, b_sums)) : ∀ m p f ro, i < p → p ≤ n + i → n + i < 2 * p + 2 * m → yn_R n f ro → pe_rv (n + i) m p f = g → wY_nextOrder_73 post (nI n) (nI i) (m + 1) (nI p) g_size g_height g_last g_said g_length g_symmetryCount b_text b_elements b_bonds b_counts b_pile b_marks b_saids ro b_least b_orbits b_path b_far b_sums := by
  intro m
  induction m with
  | zero =>
    intro p f ro hp hps hm hR hg
    have hx : (nI n + nI i) - nI p = nI (n + i - p) := by rw [nI_add, pk_sub hps]
    have hg' : f = g := hg
    rw [← hg'] at h1
    exact pk_le (n + i - p) p (fun _ => h1 ro hR) (fun z => absurd z (by omega)) hx
  | succ m ih =>
    intro p f ro hp hps hm hR hg
    have hx : (nI n + nI i) - nI p = nI (n + i - p) := by rw [nI_add, pk_sub hps]
    have hg' : (bif Nat.ble (n + i - p) p then f else pe_rv (n + i) m (p + 1) (pe_sw f p (n + i - p))) = g := hg
    refine pk_le (n + i - p) p (fun z => ?_) (fun z => ?_) hx
    · rw [yn_ble_t z] at hg'
      have hg2 : f = g := hg'
      rw [← hg2] at h1
      exact h1 ro hR
    · rw [yn_ble_f z] at hg'
      rw [hx]
      exact yy_exchange (by omega) (by omega) (nm_r (wk_p p) (ih (p + 1) _ _ (by omega) (by omega) (by omega) (yn_R_sw (by omega) (by omega) hR) hg'))
theorem yy_nextOrder {post : Int32 → SY → Prop} {n : Nat} {f : Nat → Nat} (hn : n ≤ 7) (hR : yn_R n f b_row) (h0 : pe_pv f (n - 1) = 0 → post 0 (g_size, g_height, g_last, g_said, g_length, g_symmetryCount, b_text, b_elements, b_bonds, b_counts, b_pile, b_marks, b_saids, b_row, b_least, b_orbits, b_path, b_far, b_sums)) (h1 : ∀ i ro, pe_pv f (n - 1) = i + 1 → yn_R n (pe_ng n f i) ro → post 1 (g_size, g_height, g_last, g_said, g_length, g_symmetryCount, b_text, b_elements, b_bonds, b_counts, b_pile, b_marks, b_saids, ro, b_least, b_orbits, b_path, b_far, b_sums)) : wpY_nextOrder post (g_size, g_height, g_last, g_said, g_length, g_symmetryCount, b_text, b_elements, b_bonds, b_counts, b_pile, b_marks, b_saids, b_row, b_least, b_orbits, b_path, b_far, b_sums) (nI n) := by
  unfold wpY_nextOrder
  have E31 : ∀ i, i + 1 < n → pe_pv f (n - 1) = i + 1 → f i ≤ f (i + 1) → wY_nextOrder_31 post (nI n) (nI i) g_size g_height g_last g_said g_length g_symmetryCount b_text b_elements b_bonds b_counts b_pile b_marks b_saids b_row b_least b_orbits b_path b_far b_sums := fun i hi hpv hle => by
    have K : ∀ d k, i + 1 + d = k → k < n → pe_k f (f i) k = pe_k f (f i) (n - 1) → wY_nextOrder_41 post (nI n) (nI i) g_size g_height g_last g_said g_length g_symmetryCount b_text b_elements b_bonds b_counts b_pile b_marks b_saids b_row b_least b_orbits b_path b_far b_sums (d + 1) (nI k) := by
      intro d
      induction d with
      | zero =>
        intro k hk hkn he
        have ek : k = i + 1 := by omega
        subst ek
        have a1 := hR i (by omega)
        have a2 := hR (i + 1) hi
        have hkk : pe_k f (f i) (n - 1) = i + 1 := by
          rw [← he]
          show (bif Nat.ble (f i) (f (i + 1)) then i + 1 else _) = _
          rw [yn_ble_t hle]; rfl
        refine wk_i (i + 1) (wk_i i (pk_le (f i) (f (i + 1)) (fun _ => yy_exchange (by omega) (by omega) (nm_r (wk_p i) (Exists.intro 8 (yn_73 hn (by omega) (fun ro hro => h1 i ro hpv hro) 7 (i + 1) _ _ (by omega) (by omega) (by omega) (yn_R_sw (by omega) hi hR) ?_)))) (fun z => absurd z (by omega)) (wk_c i a1.1) (wk_c (i + 1) a2.1)))
        unfold pe_ng
        rw [hkk]
      | succ d ih =>
        intro k hk hkn he
        obtain ⟨k', rfl⟩ : ∃ k', k = k' + 1 := ⟨k - 1, by omega⟩
        have a1 := hR i (by omega)
        have a2 := hR (k' + 1) hkn
        have he' : (bif Nat.ble (f i) (f (k' + 1)) then k' + 1 else pe_k f (f i) k') = pe_k f (f i) (n - 1) := he
        refine wk_i (k' + 1) (wk_i i (pk_le (f i) (f (k' + 1)) (fun z => yy_exchange (by omega) (by omega) (nm_r (wk_p i) (Exists.intro 8 (yn_73 hn (by omega) (fun ro hro => h1 i ro hpv hro) 7 (i + 1) _ _ (by omega) (by omega) (by omega) (yn_R_sw (by omega) hkn hR) ?_)))) (fun z => nm_r (pk_m1 k') (ih k' (by omega) (by omega) ?_)) (wk_c i a1.1) (wk_c (k' + 1) a2.1)))
        · unfold pe_ng
          rw [← he', yn_ble_t z]; rfl
        · rw [← he', yn_ble_f z]; rfl
    refine br_t (nI_pos' (by omega)) (nm_r (wk_s (by omega)) (Exists.intro (n - 1 - (i + 1) + 1) (K (n - 1 - (i + 1)) (n - 1) (by omega) (by omega) rfl)))
  have N31 : ∀ v : Int32, ¬ 0 ≤ v → pe_pv f (n - 1) = 0 → wY_nextOrder_31 post (nI n) v g_size g_height g_last g_said g_length g_symmetryCount b_text b_elements b_bonds b_counts b_pile b_marks b_saids b_row b_least b_orbits b_path b_far b_sums := fun v hv hz => br_f hv (h0 hz)
  rcases Nat.eq_zero_or_pos n with z | z
  · subst z
    exact nm_r (e' := -2) (by decide) (Exists.intro 1 (br_t (by decide) (N31 (-2) (by decide) rfl)))
  · have L : ∀ p, p ≤ n - 1 → pe_pv f p = pe_pv f (n - 1) → wY_nextOrder_4 post (nI n) g_size g_height g_last g_said g_length g_symmetryCount b_text b_elements b_bonds b_counts b_pile b_marks b_saids b_row b_least b_orbits b_path b_far b_sums (p + 1) (nI p + (-1)) := by
      intro p
      induction p with
      | zero =>
        intro _ he
        exact br_t (by decide) (N31 _ (by decide) he.symm)
      | succ p ih =>
        intro hp he
        rw [pk_m1]
        have a1 := hR p (by omega)
        have a2 := hR (p + 1) (by omega)
        have he' : (bif Nat.ble (f p) (f (p + 1)) then p + 1 else pe_pv f p) = pe_pv f (n - 1) := he
        refine br_f (nI_pos (by omega)) (wk_i p (wk_i (p + 1) (pk_le (f p) (f (p + 1)) (fun y => E31 p (by omega) ?_ y) (fun y => nm_e (ih (by omega) ?_)) (wk_c p a1.1) (wk_c (p + 1) a2.1 (wk_p p))) (by omega) (wk_p p)))
        · rw [← he', yn_ble_t y]; rfl
        · rw [← he', yn_ble_f y]; rfl
    refine nm_r (e' := nI (n - 1) + (-1)) ?_ (Exists.intro (n - 1 + 1) (L (n - 1) (Nat.le_refl _) rfl))
    obtain ⟨k, rfl⟩ : ∃ k, n = k + 1 := ⟨n - 1, by omega⟩
    rw [← nI_1, show k + 1 - 1 = k by omega]
    grind
theorem yy_startRow {post : SY → Prop} (h : ∀ ro, (∀ j, j < 7 → ro j = nI j) → post (g_size, g_height, g_last, g_said, g_length, g_symmetryCount, b_text, b_elements, b_bonds, b_counts, b_pile, b_marks, b_saids, ro, b_least, b_orbits, b_path, b_far, b_sums)) : wpY_startRow post (g_size, g_height, g_last, g_said, g_length, g_symmetryCount, b_text, b_elements, b_bonds, b_counts, b_pile, b_marks, b_saids, b_row, b_least, b_orbits, b_path, b_far, b_sums) := by
  have L : ∀ d i ro, i + d = 7 → (∀ j, j < i → ro j = nI j) → wY_startRow_2 post g_size g_height g_last g_said g_length g_symmetryCount (d + 1) (nI i) b_text b_elements b_bonds b_counts b_pile b_marks b_saids ro b_least b_orbits b_path b_far b_sums := by
    intro d
    induction d with
    | zero => intro i ro hi hr; exact pk_le 7 i (fun _ => h ro (fun j hj => hr j (by omega))) (fun z => absurd z (by omega))
    | succ d ih =>
      intro i ro hi hr
      exact pk_le 7 i (fun z => absurd z (by omega)) (fun _ => wk_w i (nm_r (wk_p i) (ih (i + 1) _ (by omega) (fun j hj => by
        by_cases e : j = i
        · rw [e, pk_us]
        · rw [pk_un e]; exact hr j (by omega)))))
  unfold wpY_startRow
  exact Exists.intro 8 (L 7 0 b_row (by omega) (fun j hj => absurd hj (by omega)))
end
/-- a row of an order -/
theorem yn_of {n : Nat} {Q : List Nat} {ro : XA} (hn : n ≤ 7) (hQ : Q ∈ pe_D n) (h : ∀ j, j < n → ro j = nI (pe_at Q j)) : yn_R n (pe_at Q) ro := fun j hj => ⟨h j hj, by
  obtain ⟨q1, q2⟩ := pe_D_m.mp hQ
  have := q2.2 _ (pe_at_m Q j (by omega))
  omega⟩
theorem yn_D {n : Nat} (hn : n ≤ 7) : ∃ t, pe_D n = List.range' 0 n :: t := by
  have h := pe_hd n (by omega)
  cases hD : pe_D n with
  | nil => rw [hD] at h; exact absurd h (by simp)
  | cons P t =>
    rw [hD] at h
    have : P = List.range' 0 n := Option.some.inj h
    exact ⟨t, by rw [this]⟩
end
section
theorem ys_e {n i k : Nat} {el : Nat → Nat} {bo : Nat → Nat → Nat} {Q : List Nat} (hn : n ≤ 7) (hQ : Q ∈ pe_D n) (hi : i < n) (hk : k ≤ i) : fo_F el bo Q (fo_t i + k) = fo_e el bo Q i k := by
  obtain ⟨q1, _⟩ := pe_D_m.mp hQ
  have h := fo_ij i (by omega) k (by omega) hk
  have hd := fo_dk n (by omega) i hi
  unfold fo_F
  rw [q1, if_pos (by omega), h.1]
  congr 1
  omega
theorem ys_s {n i k : Nat} {el : Nat → Nat} {bo : Nat → Nat → Nat} {Q : List Nat} (hK : mo_K n el bo) (hQ : Q ∈ pe_D n) (hi : i < n) (hk : k ≤ i) : fo_e el bo Q i k ≤ 3 := by
  obtain ⟨q1, q2⟩ := pe_D_m.mp hQ
  have ha : pe_at Q i < n := q2.2 _ (pe_at_m Q i (by omega))
  cases k with
  | zero => exact hK.2.1 _ ha
  | succ k => exact hK.2.2.1 _ _ ha (q2.2 _ (pe_at_m Q k (by omega)))
theorem ys_sub {a b : Nat} (ha : a < 2 ^ 30) (hb : b < 2 ^ 30) : (nI a - nI b = 0 ↔ a = b) ∧ (nI a - nI b < 0 ↔ a < b) := by
  have h := pk_sub_toInt ha hb
  have h0 : (0 : Int32).toInt = 0 := by decide
  constructor
  · rw [← Int32.toInt_inj, h, h0]; omega
  · rw [Int32.lt_iff_toInt_lt, h, h0]; omega
/-- the sign while an order's form is compared with the least one: FQ against L, up to κ -/
def ys_G (FQ L : Nat → Nat) (len : Nat) (κ : Nat) (sg : Int32) : Prop := (sg = 0 ∧ (len = 0 ∨ ∀ j, j < κ → FQ j = L j)) ∨ (¬ sg = 0 ∧ len ≠ 0 ∧ ∃ q, q < κ ∧ (∀ j, j < q → FQ j = L j) ∧ (sg < 0 ↔ FQ q < L q) ∧ FQ q ≠ L q)
section
variable {g_size g_height g_last g_said g_length g_symmetryCount : Int32} {b_text b_elements b_bonds b_counts b_pile b_marks b_saids b_row b_least b_orbits b_path b_far b_sums : Nat → Int32}
theorem yy_entry {post : Int32 → Prop} {s n i k : Nat} {el : Nat → Nat} {bo : Nat → Nat → Nat} {Q : List Nat} (hs : s < 2) (hn : n ≤ 7) (hT : mo_T b_counts b_elements b_bonds s n el bo) (hQ : Q ∈ pe_D n) (hR : ∀ j, j < n → b_row j = nI (pe_at Q j)) (hi : i < n) (hk : k ≤ i) (h : post (nI (fo_e el bo Q i k))) : wpY_entry post (g_size, g_height, g_last, g_said, g_length, g_symmetryCount, b_text, b_elements, b_bonds, b_counts, b_pile, b_marks, b_saids, b_row, b_least, b_orbits, b_path, b_far, b_sums) (nI s) (nI i) (nI k) := by
  obtain ⟨q1, q2⟩ := pe_D_m.mp hQ
  have ha : pe_at Q i < n := q2.2 _ (pe_at_m Q i (by omega))
  have hri : b_row (nI i).toNatClampNeg = nI (pe_at Q i) := wk_c i (hR i hi)
  unfold wpY_entry
  refine pk_eq k 0 (fun z => wk_i i ?_) (fun z => wk_i i (wk_i (k - 1) ?_ (by omega) (wk_s (by omega))))
  · rw [hri]
    refine And.intro (pk_in (7 * s + pe_at Q i) 21 (by omega) (bb_ix s _)) ?_
    rw [bb_ix, nI_clamp (by omega), hT.2.1 _ ha]
    subst z; exact h
  · obtain ⟨k', rfl⟩ : ∃ k', k = k' + 1 := ⟨k - 1, by omega⟩
    have hb : pe_at Q k' < n := q2.2 _ (pe_at_m Q k' (by omega))
    rw [hri, wk_c k' (hR k' (by omega)) (wk_s (by omega))]
    refine yy_orderOf (by omega) (by omega) (by omega) ?_
    rw [hT.2.2 _ _ ha hb]; exact h
theorem yy_noteForm {post : SY → Prop} {s n len : Nat} {el : Nat → Nat} {bo : Nat → Nat → Nat} {Q : List Nat} {L : Nat → Nat} (hs : s < 2) (hK : mo_K n el bo) (hT : mo_T b_counts b_elements b_bonds s n el bo) (hQ : Q ∈ pe_D n) (hR : ∀ j, j < n → b_row j = nI (pe_at Q j)) (hlen : g_length = nI len) (hl : len = 0 ∨ (len = fo_t n ∧ ∀ k, k < 28 → (k < fo_t n → b_least k = nI (L k) ∧ L k ≤ 9) ∧ (fo_t n ≤ k → L k = 9)))
    (hA : (len = 0 ∨ fo_L (fo_F el bo Q) L) → ∀ le, (∀ k, k < fo_t n → le k = nI (fo_F el bo Q k)) → post (g_size, g_height, g_last, g_said, nI (fo_t n), g_symmetryCount, b_text, b_elements, b_bonds, b_counts, b_pile, b_marks, b_saids, b_row, le, b_orbits, b_path, b_far, b_sums)) (hB : len ≠ 0 → ¬ fo_L (fo_F el bo Q) L → post (g_size, g_height, g_last, g_said, g_length, g_symmetryCount, b_text, b_elements, b_bonds, b_counts, b_pile, b_marks, b_saids, b_row, b_least, b_orbits, b_path, b_far, b_sums)) : wpY_noteForm post (g_size, g_height, g_last, g_said, g_length, g_symmetryCount, b_text, b_elements, b_bonds, b_counts, b_pile, b_marks, b_saids, b_row, b_least, b_orbits, b_path, b_far, b_sums) (nI s) := by
  have hn := hK.1
  have ht28 := fo_t28 n (by omega)
  obtain ⟨q1, q2⟩ := pe_D_m.mp hQ
  -- storing
  have S : (len = 0 ∨ fo_L (fo_F el bo Q) L) → ∃ N, wY_noteForm_99 post (nI s) g_size g_height g_last g_said g_symmetryCount N 0 0 b_text b_elements b_bonds b_counts b_pile b_marks b_saids b_row b_least b_orbits b_path b_far b_sums := fun hyp => by
    have A : ∀ d i le, i + d = n → (∀ k, k < fo_t i → le k = nI (fo_F el bo Q k)) → wY_noteForm_99 post (nI s) g_size g_height g_last g_said g_symmetryCount (d + 1) (nI i) (nI (fo_t i)) b_text b_elements b_bonds b_counts b_pile b_marks b_saids b_row le b_orbits b_path b_far b_sums := by
      intro d
      induction d with
      | zero =>
        intro i le hi hle
        have e : i = n := by omega
        subst e
        exact wk_i s (pk_le i i (fun _ => hA hyp le hle) (fun z => absurd z (by omega)) (wk_c s hT.1))
      | succ d ih =>
        intro i le hi hle
        have B : ∀ e k le, k + e = i + 1 → (∀ j, j < fo_t i + k → le j = nI (fo_F el bo Q j)) → wY_noteForm_113 post (wY_noteForm_99 post (nI s) g_size g_height g_last g_said g_symmetryCount (d + 1)) (nI s) (nI i) g_size g_height g_last g_said g_symmetryCount (e + 1) (nI k) (nI (fo_t i + k)) b_text b_elements b_bonds b_counts b_pile b_marks b_saids b_row le b_orbits b_path b_far b_sums := by
          intro e
          induction e with
          | zero =>
            intro k le hk hle
            have ek : k = i + 1 := by omega
            subst ek
            have q := ih (i + 1) le (by omega) (fun j hj => hle j (by rw [fo_ts] at hj; omega))
            rw [fo_ts, Nat.add_assoc] at q
            exact pk_lt i (i + 1) (fun _ => nm_r (wk_p i) q) (fun z => absurd z (by omega))
          | succ e ihe =>
            intro k le hk hle
            have h28 := (fo_ij i (by omega) k (by omega) (by omega)).2.1
            refine pk_lt i k (fun z => absurd z (by omega)) (fun z => yy_entry hs hn hT hQ hR (by omega) (by omega) (wk_w (fo_t i + k) (nm_r (wk_p _) (nm_r (wk_p k) (ihe (k + 1) _ (by omega) (fun j hj => ?_))))))
            by_cases ej : j = fo_t i + k
            · rw [ej, pk_us, ys_e hn hQ (by omega) z]
            · rw [pk_un ej]; exact hle j (by omega)
        exact wk_i s (pk_le n i (fun z => absurd z (by omega)) (fun _ => Exists.intro (i + 1 + 1) (B (i + 1) 0 le (by omega) (fun j hj => hle j (by omega)))) (wk_c s hT.1))
    exact Exists.intro (n + 1) (A n 0 b_least (by omega) (fun k hk => absurd hk (by show ¬ k < 0; omega)))
  have A : ∀ d i sg, i + d = n → ys_G (fo_F el bo Q) L len (fo_t i) sg → wY_noteForm_7 post (nI s) g_size g_height g_last g_said g_length g_symmetryCount b_text b_elements b_bonds b_counts b_pile b_marks b_saids b_row b_least b_orbits b_path b_far b_sums (d + 1) sg (nI (fo_t i)) (nI i) := by
    intro d
    induction d with
    | zero =>
      intro i sg hi hG
      have e : i = n := by omega
      subst e
      have hlb : len < 2 ^ 31 := by rcases hl with z | z <;> omega
      refine wk_i s (pk_le i i (fun _ => br_c (fun z => S ?_) (fun z => pk_eq len 0 (fun y => S (Or.inl y)) (fun y => hB y (fun hlt => ?_)) hlen)) (fun z => absurd z (by omega)) (wk_c s hT.1))
      · rcases hG with ⟨e, _⟩ | ⟨_, _, q, hq, h1, h2, _⟩
        · rw [e] at z; exact absurd z (by decide)
        · exact Or.inr ⟨q, by omega, h2.mp z, h1⟩
      · obtain ⟨hlen', hL⟩ := hl.resolve_left y
        rcases hG with ⟨_, h1⟩ | ⟨_, _, q, hq, h1, h2, h3⟩
        · have h1' := h1.resolve_left y
          refine fo_L_n hlt (fun k hk => ?_)
          by_cases w : k < fo_t i
          · exact h1' k w
          · rw [fo_F_9 (by rw [q1]; omega), (hL k hk).2 (by omega)]
        · have h4 : ¬ fo_F el bo Q q < L q := fun w => z (h2.mpr w)
          exact fo_L_a hlt ⟨q, by omega, by omega, fun j hj => (h1 j hj).symm⟩
    | succ d ih =>
      intro i sg hi hG
      have B : ∀ e k sg, k + e = i + 1 → ys_G (fo_F el bo Q) L len (fo_t i + k) sg → wY_noteForm_21 post (wY_noteForm_7 post (nI s) g_size g_height g_last g_said g_length g_symmetryCount b_text b_elements b_bonds b_counts b_pile b_marks b_saids b_row b_least b_orbits b_path b_far b_sums (d + 1)) (nI s) (nI i) g_size g_height g_last g_said g_length g_symmetryCount b_text b_elements b_bonds b_counts b_pile b_marks b_saids b_row b_least b_orbits b_path b_far b_sums (e + 1) sg (nI (fo_t i + k)) (nI k) := by
        intro e
        induction e with
        | zero =>
          intro k sg hk hG
          have ek : k = i + 1 := by omega
          subst ek
          have q := ih (i + 1) sg (by omega) (by rw [fo_ts, Nat.add_assoc]; exact hG)
          rw [fo_ts, Nat.add_assoc] at q
          exact pk_lt i (i + 1) (fun _ => nm_r (wk_p i) q) (fun z => absurd z (by omega))
        | succ e ihe =>
          intro k sg hk hG
          have h28 := (fo_ij i (by omega) k (by omega) (by omega)).2.1
          have hdk := fo_dk n (by omega) i (by omega)
          have hts := fo_ts i
          have hFe := ys_e (el := el) (bo := bo) hn hQ (i := i) (k := k) (by omega) (by omega)
          have hF3 := ys_s hK hQ (i := i) (k := k) (by omega) (by omega)
          refine pk_lt i k (fun z => absurd z (by omega)) (fun z => yy_entry hs hn hT hQ hR (by omega) (by omega) ?_)
          rcases hG with ⟨e0, h1⟩ | ⟨e0, hne, q, hq, h1, h2, h3⟩
          · subst e0
            refine br_t rfl (pk_le len (fo_t i + k) (fun y => nm_r (wk_p _) (nm_r (wk_p k) (ihe (k + 1) 0 (by omega) (Or.inl ⟨rfl, Or.inl ?_⟩)))) (fun y => ?_) hlen rfl (by rcases hl with w | w <;> omega))
            · rcases hl with w | w
              · exact w
              · omega
            · have hy0 : len ≠ 0 := by omega
              obtain ⟨hlen', hL⟩ := hl.resolve_left hy0
              have hLk := (hL (fo_t i + k) (by omega)).1 (by omega)
              have hs2 := ys_sub (a := fo_e el bo Q i k) (b := L (fo_t i + k)) (by omega) (by omega)
              refine wk_i (fo_t i + k) (nm_r (e' := nI (fo_e el bo Q i k) - nI (L (fo_t i + k))) (by rw [wk_c (fo_t i + k) hLk.1]) (nm_r (wk_p _) (nm_r (wk_p k) (ihe (k + 1) _ (by omega) ?_))))
              have h1' := h1.resolve_left hy0
              by_cases w : fo_e el bo Q i k = L (fo_t i + k)
              · refine Or.inl ⟨hs2.1.mpr w, Or.inr (fun j hj => ?_)⟩
                by_cases ej : j = fo_t i + k
                · rw [ej, hFe]; exact w
                · exact h1' j (by omega)
              · exact Or.inr ⟨fun v => w (hs2.1.mp v), hy0, fo_t i + k, by omega, h1', by rw [hFe]; exact hs2.2, by rw [hFe]; exact w⟩
          · refine br_f e0 (nm_r (wk_p _) (nm_r (wk_p k) (ihe (k + 1) sg (by omega) (Or.inr ⟨e0, hne, q, by omega, h1, h2, h3⟩))))
      exact wk_i s (pk_le n i (fun z => absurd z (by omega)) (fun _ => Exists.intro (i + 1 + 1) (B (i + 1) 0 sg (by omega) hG)) (wk_c s hT.1))
  unfold wpY_noteForm
  exact Exists.intro (n + 1) (A n 0 0 (by omega) (Or.inl ⟨rfl, Or.inr (fun j hj => absurd hj (by show ¬ j < 0; omega))⟩))
theorem yy_findForm {post : SY → Prop} {s n : Nat} {el : Nat → Nat} {bo : Nat → Nat → Nat} (hs : s < 2) (hK : mo_K n el bo) (hT : mo_T b_counts b_elements b_bonds s n el bo) (h0 : n = 0 → ∀ ro, post (g_size, g_height, g_last, g_said, 0, g_symmetryCount, b_text, b_elements, b_bonds, b_counts, b_pile, b_marks, b_saids, ro, b_least, b_orbits, b_path, b_far, b_sums)) (h1 : ∀ M le ro, fo_mn n el bo M → (∀ k, k < fo_t n → le k = nI (fo_F el bo M k)) → post (g_size, g_height, g_last, g_said, nI (fo_t n), g_symmetryCount, b_text, b_elements, b_bonds, b_counts, b_pile, b_marks, b_saids, ro, le, b_orbits, b_path, b_far, b_sums)) : wpY_findForm post (g_size, g_height, g_last, g_said, g_length, g_symmetryCount, b_text, b_elements, b_bonds, b_counts, b_pile, b_marks, b_saids, b_row, b_least, b_orbits, b_path, b_far, b_sums) (nI s) := by
  have hn := hK.1
  have ht28 := fo_t28 n (by omega)
  unfold wpY_findForm
  refine yy_startRow (fun ro hro => wk_i s (pk_le n 0 (fun z => Exists.intro 1 (br_t rfl (h0 (by omega) ro))) (fun hn0 => ?_) (wk_c s hT.1)))
  have hsmall : ∀ Q, Q ∈ pe_D n → ∀ k, k < 28 → fo_F el bo Q k ≤ 9 := fun Q hQ k hk => by
    obtain ⟨q1, q2⟩ := pe_D_m.mp hQ
    by_cases z : k < fo_t n
    · have hi := fo_kd n (by omega) k hk z
      have hj := (fo_k k hk)
      have e := ys_e (el := el) (bo := bo) hn hQ hi hj.2.2.1
      rw [show fo_t (fo_i k) + (k - fo_t (fo_i k)) = k by omega] at e
      rw [e]
      exact Nat.le_trans (ys_s hK hQ hi hj.2.2.1) (by omega)
    · rw [fo_F_9 (by rw [q1]; omega)]; exact Nat.le_refl _
  have L : ∀ (t : List (List Nat)) (P : List Nat) (D : List (List Nat)) (len : Nat) (le ro : XA), pe_chk n (P :: t) = true → D ++ P :: t = pe_D n → (∀ j, j < n → ro j = nI (pe_at P j)) → ((D = [] ∧ len = 0) ∨ (len = fo_t n ∧ ∃ M, M ∈ D ∧ (∀ R, R ∈ D → ¬ fo_L (fo_F el bo R) (fo_F el bo M)) ∧ ∀ k, k < fo_t n → le k = nI (fo_F el bo M k))) → wY_findForm_24 post (nI s) (t.length + 2) 1 g_size g_height g_last g_said (nI len) g_symmetryCount b_text b_elements b_bonds b_counts b_pile b_marks b_saids ro le b_orbits b_path b_far b_sums := by
    intro t
    induction t with
    | nil =>
      intro P D len le ro hc hD hR hS
      have hP : P ∈ pe_D n := by rw [← hD]; exact List.mem_append_right _ (List.mem_cons_self ..)
      have hpv : pe_pv (pe_at P) (n - 1) = 0 := by
        rcases yn_fol hc with ⟨_, z⟩ | ⟨Q, t', i, z, _⟩
        · exact z
        · exact absurd z (by simp)
      have fin : ∀ M le, (∀ R, R ∈ D ++ [P] → ¬ fo_L (fo_F el bo R) (fo_F el bo M)) → M ∈ D ++ [P] → (∀ k, k < fo_t n → le k = nI (fo_F el bo M k)) → vp_in (nI s) 3 ∧ wpY_nextOrder (fun r u => match u with | (g_size', g_height', g_last', g_said', g_length', g_symmetryCount', b_text', b_elements', b_bonds', b_counts', b_pile', b_marks', b_saids', b_row', b_least', b_orbits', b_path', b_far', b_sums') => wY_findForm_24 post (nI s) 1 r g_size' g_height' g_last' g_said' g_length' g_symmetryCount' b_text' b_elements' b_bonds' b_counts' b_pile' b_marks' b_saids' b_row' b_least' b_orbits' b_path' b_far' b_sums') (g_size, g_height, g_last, g_said, nI (fo_t n), g_symmetryCount, b_text, b_elements, b_bonds, b_counts, b_pile, b_marks, b_saids, ro, le, b_orbits, b_path, b_far, b_sums) (b_counts (nI s).toNatClampNeg) := fun M le hM hm hle => by
        refine wk_i s ?_
        rw [wk_c s hT.1]
        refine yy_nextOrder hn (yn_of hn hP hR) (fun _ => br_t rfl (h1 M le ro ⟨by rw [← hD]; exact hm, fun R hR' => hM R (by rw [hD]; exact hR')⟩ hle)) (fun i ro' hi _ => ?_)
        rw [hpv] at hi; exact absurd hi (by omega)
      refine br_f wk_10 ?_
      rcases hS with ⟨e1, e2⟩ | ⟨e1, M, m1, m2, m3⟩
      · subst e1
        refine yy_noteForm (L := fun _ => 0) hs hK hT hP hR rfl (Or.inl e2) (fun _ le' hle' => fin P le' (fun R hR' => ?_) (List.mem_append_right _ (List.mem_singleton.mpr rfl)) hle') (fun z => absurd e2 z)
        rw [List.nil_append, List.mem_singleton] at hR'
        rw [hR']; exact fun z => fo_L_n z (fun _ _ => rfl)
      · have hMD : M ∈ pe_D n := by rw [← hD]; exact List.mem_append_left _ m1
        refine yy_noteForm (L := fo_F el bo M) hs hK hT hP hR rfl (Or.inr ⟨e1, fun k hk => ⟨fun w => ⟨m3 k w, hsmall M hMD k hk⟩, fun w => fo_F_9 (by rw [(pe_D_m.mp hMD).1]; exact w)⟩⟩) (fun hlt le' hle' => fin P le' (fun R hR' => ?_) (List.mem_append_right _ (List.mem_singleton.mpr rfl)) hle') (fun _ hnl => ?_)
        · rcases List.mem_append.mp hR' with y | y
          · intro w
            rcases hlt with v | v
            · have hp : 0 < fo_t n := by have a1 := fo_dk n (by omega) 0 hn0; have a2 : fo_t (0 + 1) = 1 := rfl; omega
              omega
            · exact m2 R y (fo_L_t w v)
          · rw [List.mem_singleton.mp y]; exact fun z => fo_L_n z (fun _ _ => rfl)
        · rw [e1]
          refine fin M le (fun R hR' => ?_) (List.mem_append_left _ m1) m3
          rcases List.mem_append.mp hR' with y | y
          · exact m2 R y
          · rw [List.mem_singleton.mp y]; exact hnl
    | cons P2 t ih =>
      intro P D len le ro hc hD hR hS
      have hP : P ∈ pe_D n := by rw [← hD]; exact List.mem_append_right _ (List.mem_cons_self ..)
      have hP2 : P2 ∈ pe_D n := by rw [← hD]; exact List.mem_append_right _ (List.mem_cons_of_mem _ (List.mem_cons_self ..))
      obtain ⟨i, hpv, hng, hc2⟩ : ∃ i, pe_pv (pe_at P) (n - 1) = i + 1 ∧ (∀ j, j < n → pe_ng n (pe_at P) i j = pe_at P2 j) ∧ pe_chk n (P2 :: t) = true := by
        rcases yn_fol hc with ⟨z, _⟩ | ⟨Q, t', i, z, z1, z2, z3⟩
        · exact absurd z (by simp)
        · obtain ⟨rfl, rfl⟩ := List.cons.inj z
          exact ⟨i, z1, z2, z3⟩
      have hD' : (D ++ [P]) ++ P2 :: t = pe_D n := by rw [← hD, List.append_assoc]; rfl
      have nxt : ∀ M le, (∀ R, R ∈ D ++ [P] → ¬ fo_L (fo_F el bo R) (fo_F el bo M)) → M ∈ D ++ [P] → (∀ k, k < fo_t n → le k = nI (fo_F el bo M k)) → vp_in (nI s) 3 ∧ wpY_nextOrder (fun r u => match u with | (g_size', g_height', g_last', g_said', g_length', g_symmetryCount', b_text', b_elements', b_bonds', b_counts', b_pile', b_marks', b_saids', b_row', b_least', b_orbits', b_path', b_far', b_sums') => wY_findForm_24 post (nI s) (t.length + 2) r g_size' g_height' g_last' g_said' g_length' g_symmetryCount' b_text' b_elements' b_bonds' b_counts' b_pile' b_marks' b_saids' b_row' b_least' b_orbits' b_path' b_far' b_sums') (g_size, g_height, g_last, g_said, nI (fo_t n), g_symmetryCount, b_text, b_elements, b_bonds, b_counts, b_pile, b_marks, b_saids, ro, le, b_orbits, b_path, b_far, b_sums) (b_counts (nI s).toNatClampNeg) := fun M le hM hm hle => by
        refine wk_i s ?_
        rw [wk_c s hT.1]
        refine yy_nextOrder hn (yn_of hn hP hR) (fun z => ?_) (fun i' ro' hi hro' => ?_)
        · rw [hpv] at z; exact absurd z (by omega)
        · have ei : i' = i := by rw [hpv] at hi; omega
          subst ei
          exact ih P2 (D ++ [P]) (fo_t n) le ro' hc2 hD' (fun j hj => by rw [(hro' j hj).1, hng j hj]) (Or.inr ⟨rfl, M, hm, hM, hle⟩)
      refine br_f wk_10 ?_
      rcases hS with ⟨e1, e2⟩ | ⟨e1, M, m1, m2, m3⟩
      · subst e1
        refine yy_noteForm (L := fun _ => 0) hs hK hT hP hR rfl (Or.inl e2) (fun _ le' hle' => nxt P le' (fun R hR' => ?_) (List.mem_append_right _ (List.mem_singleton.mpr rfl)) hle') (fun z => absurd e2 z)
        rw [List.nil_append, List.mem_singleton] at hR'
        rw [hR']; exact fun z => fo_L_n z (fun _ _ => rfl)
      · have hMD : M ∈ pe_D n := by rw [← hD]; exact List.mem_append_left _ m1
        refine yy_noteForm (L := fo_F el bo M) hs hK hT hP hR rfl (Or.inr ⟨e1, fun k hk => ⟨fun w => ⟨m3 k w, hsmall M hMD k hk⟩, fun w => fo_F_9 (by rw [(pe_D_m.mp hMD).1]; exact w)⟩⟩) (fun hlt le' hle' => nxt P le' (fun R hR' => ?_) (List.mem_append_right _ (List.mem_singleton.mpr rfl)) hle') (fun _ hnl => ?_)
        · rcases List.mem_append.mp hR' with y | y
          · intro w
            rcases hlt with v | v
            · have hp : 0 < fo_t n := by have a1 := fo_dk n (by omega) 0 hn0; have a2 : fo_t (0 + 1) = 1 := rfl; omega
              omega
            · exact m2 R y (fo_L_t w v)
          · rw [List.mem_singleton.mp y]; exact fun z => fo_L_n z (fun _ _ => rfl)
        · rw [e1]
          refine nxt M le (fun R hR' => ?_) (List.mem_append_left _ m1) m3
          rcases List.mem_append.mp hR' with y | y
          · exact m2 R y
          · rw [List.mem_singleton.mp y]; exact hnl
  obtain ⟨t, ht⟩ := yn_D hn
  have hc := pe_chk_n hn
  rw [ht] at hc
  exact Exists.intro (t.length + 2) (L t _ [] 0 b_least ro hc (by rw [List.nil_append, ht]) (fun j hj => by rw [hro j (by omega), yn_id n (by omega) j hj]) (Or.inl ⟨rfl, rfl⟩))
theorem yy_form_g {post : Int32 → SY → Prop} {s n i : Nat} {el : Nat → Nat} {bo : Nat → Nat → Nat} (hs : s < 2) (hK : mo_K n el bo) (hT : mo_T b_counts b_elements b_bonds s n el bo) (hi : i < fo_t n) (h : ∀ M ln le ro, fo_mn n el bo M → post (nI (fo_F el bo M i)) (g_size, g_height, g_last, g_said, ln, g_symmetryCount, b_text, b_elements, b_bonds, b_counts, b_pile, b_marks, b_saids, ro, le, b_orbits, b_path, b_far, b_sums)) : wpY_form post (g_size, g_height, g_last, g_said, g_length, g_symmetryCount, b_text, b_elements, b_bonds, b_counts, b_pile, b_marks, b_saids, b_row, b_least, b_orbits, b_path, b_far, b_sums) (nI s) (nI i) := by
  have hn := hK.1
  have ht28 := fo_t28 n (by omega)
  unfold wpY_form
  refine yy_slot_g hs (br_f wk_10 (yy_findForm hs hK hT (fun z => ?_) (fun M le ro hM hle => br_f (nI_pos (by omega)) (pk_le (fo_t n) i (fun z => absurd z (by omega)) (fun _ => wk_i i ?_)))))
  · subst z; exact absurd hi (by show ¬ i < 0; omega)
  · rw [wk_c i (hle i hi)]
    exact h M _ le ro hM
theorem yy_form_b {post : Int32 → SY → Prop} {s n : Nat} {v : Int32} {el : Nat → Nat} {bo : Nat → Nat → Nat} (hs : s < 2) (hK : mo_K n el bo) (hT : mo_T b_counts b_elements b_bonds s n el bo) (hv : ¬ v < 0 → nI (fo_t n) ≤ v) (h : ∀ ln le ro, post (-4) (g_size, g_height, g_last, g_said, ln, g_symmetryCount, b_text, b_elements, b_bonds, b_counts, b_pile, b_marks, b_saids, ro, le, b_orbits, b_path, b_far, b_sums)) : wpY_form post (g_size, g_height, g_last, g_said, g_length, g_symmetryCount, b_text, b_elements, b_bonds, b_counts, b_pile, b_marks, b_saids, b_row, b_least, b_orbits, b_path, b_far, b_sums) (nI s) v := by
  unfold wpY_form
  refine yy_slot_g hs (br_f wk_10 (yy_findForm hs hK hT (fun z ro => br_c (fun _ => h _ _ _) (fun y => br_t ?_ (h _ _ _))) (fun M le ro hM hle => br_c (fun _ => h _ _ _) (fun y => br_t (hv y) (h _ _ _)))))
  have := hv y
  subst z; exact this
end
end
section
noncomputable def yu_ob (D : List (List Nat)) (n : Nat) (el : Nat → Nat) (bo : Nat → Nat → Nat) (a b : Nat) : Bool := @decide (∃ s, s ∈ D ∧ pe_iso n el bo el bo s ∧ pe_at s a = b) (Classical.propDecidable _)
theorem yu_ob_i {D : List (List Nat)} {n : Nat} {el : Nat → Nat} {bo : Nat → Nat → Nat} {a b : Nat} : yu_ob D n el bo a b = true ↔ ∃ s, s ∈ D ∧ pe_iso n el bo el bo s ∧ pe_at s a = b := @decide_eq_true_iff _ (Classical.propDecidable _)
theorem yu_ob_t {D : List (List Nat)} {n : Nat} {el : Nat → Nat} {bo : Nat → Nat → Nat} {Q : List Nat} {a b : Nat} (hQ : pe_ib n el bo el bo Q = true) : yu_ob (D ++ [Q]) n el bo a b = (yu_ob D n el bo a b || decide (pe_at Q a = b)) := by
  rw [Bool.eq_iff_iff, Bool.or_eq_true, yu_ob_i, yu_ob_i, decide_eq_true_iff]
  constructor
  · rintro ⟨s, hs, h1, h2⟩
    rcases List.mem_append.mp hs with z | z
    · exact Or.inl ⟨s, z, h1, h2⟩
    · rw [List.mem_singleton.mp z] at h2; exact Or.inr h2
  · rintro (⟨s, hs, h1, h2⟩ | h)
    · exact ⟨s, List.mem_append_left _ hs, h1, h2⟩
    · exact ⟨Q, List.mem_append_right _ (List.mem_singleton.mpr rfl), pe_ib_i.mp hQ, h⟩
theorem yu_ob_f {D : List (List Nat)} {n : Nat} {el : Nat → Nat} {bo : Nat → Nat → Nat} {Q : List Nat} {a b : Nat} (hQ : pe_ib n el bo el bo Q = false) : yu_ob (D ++ [Q]) n el bo a b = yu_ob D n el bo a b := by
  rw [Bool.eq_iff_iff, yu_ob_i, yu_ob_i]
  constructor
  · rintro ⟨s, hs, h1, h2⟩
    rcases List.mem_append.mp hs with z | z
    · exact ⟨s, z, h1, h2⟩
    · rw [List.mem_singleton.mp z] at h1
      rw [pe_ib_i.mpr h1] at hQ; exact absurd hQ (by decide)
  · rintro ⟨s, hs, h1, h2⟩
    exact ⟨s, List.mem_append_left _ hs, h1, h2⟩
section
variable {g_size g_height g_last g_said g_length g_symmetryCount : Int32} {b_text b_elements b_bonds b_counts b_pile b_marks b_saids b_row b_least b_orbits b_path b_far b_sums : Nat → Int32}
theorem yy_isSymmetry {post : Int32 → Prop} {s n : Nat} {el : Nat → Nat} {bo : Nat → Nat → Nat} {Q : List Nat} (hs : s < 2) (hK : mo_K n el bo) (hT : mo_T b_counts b_elements b_bonds s n el bo) (hQ : Q ∈ pe_D n) (hR : ∀ j, j < n → b_row j = nI (pe_at Q j)) (h1 : pe_ib n el bo el bo Q = true → post 1) (h0 : pe_ib n el bo el bo Q = false → post 0) : wpY_isSymmetry post (g_size, g_height, g_last, g_said, g_length, g_symmetryCount, b_text, b_elements, b_bonds, b_counts, b_pile, b_marks, b_saids, b_row, b_least, b_orbits, b_path, b_far, b_sums) (nI s) := by
  have hn := hK.1
  obtain ⟨q1, q2⟩ := pe_D_m.mp hQ
  have hq : ∀ a, a < n → pe_at Q a < n := fun a ha => q2.2 _ (pe_at_m Q a (by omega))
  have no : ∀ a b, a < n → b < n → ¬ (el a = el (pe_at Q a) ∧ bo a b = bo (pe_at Q a) (pe_at Q b)) → post 0 := fun a b ha hb hne => by
    refine h0 ?_
    cases hz : pe_ib n el bo el bo Q with
    | false => rfl
    | true => exact absurd (pe_ib_i.mp hz a b ha hb) hne
  have A : ∀ d a, a + d = n → (∀ x y, x < a → y < n → el x = el (pe_at Q x) ∧ bo x y = bo (pe_at Q x) (pe_at Q y)) → wY_isSymmetry_2 post (nI s) g_size g_height g_last g_said g_length g_symmetryCount b_text b_elements b_bonds b_counts b_pile b_marks b_saids b_row b_least b_orbits b_path b_far b_sums (d + 1) (nI a) := by
    intro d
    induction d with
    | zero =>
      intro a ha hI
      have e : a = n := by omega
      subst e
      exact wk_i s (pk_le a a (fun _ => h1 (pe_ib_i.mpr (fun x y hx hy => hI x y hx hy))) (fun z => absurd z (by omega)) (wk_c s hT.1))
    | succ d ih =>
      intro a ha hI
      have han : a < n := by omega
      have ra := hq a han
      have B : ∀ e b, b + e = n → (∀ y, y < b → el a = el (pe_at Q a) ∧ bo a y = bo (pe_at Q a) (pe_at Q y)) → wY_isSymmetry_14 post (wY_isSymmetry_2 post (nI s) g_size g_height g_last g_said g_length g_symmetryCount b_text b_elements b_bonds b_counts b_pile b_marks b_saids b_row b_least b_orbits b_path b_far b_sums (d + 1)) (nI s) (nI a) g_size g_height g_last g_said g_length g_symmetryCount b_text b_elements b_bonds b_counts b_pile b_marks b_saids b_row b_least b_orbits b_path b_far b_sums (e + 1) (nI b) := by
        intro e
        induction e with
        | zero =>
          intro b hb hJ
          refine wk_i s (pk_le n b (fun _ => nm_r (wk_p a) (ih (a + 1) (by omega) (fun x y hx hy => ?_))) (fun z => absurd z (by omega)) (wk_c s hT.1))
          by_cases e : x = a
          · rw [e]; exact hJ y (by omega)
          · exact hI x y (by omega) hy
        | succ e ihe =>
          intro b hb hJ
          have hbn : b < n := by omega
          have rb := hq b hbn
          have hra : b_row (nI a).toNatClampNeg = nI (pe_at Q a) := wk_c a (hR a han)
          have hrb : b_row (nI b).toNatClampNeg = nI (pe_at Q b) := wk_c b (hR b hbn)
          have l1 := hK.2.1 a han
          have l2 := hK.2.1 _ ra
          have l3 := hK.2.2.1 a b han hbn
          have l4 := hK.2.2.1 _ _ ra rb
          refine wk_i s (pk_le n b (fun z => absurd z (by omega)) (fun _ => wk_i (7 * s + a) (wk_i a ?_) (by omega) (bb_ix s a)) (wk_c s hT.1))
          rw [hra]
          refine wk_i (7 * s + pe_at Q a) (pk_eq (el a) (el (pe_at Q a)) (fun z => yy_orderOf (by omega) (by omega) (by omega) (wk_i a (wk_i b ?_))) (fun z => no a b han hbn (fun w => z w.1)) (wk_c (7 * s + a) (hT.2.1 a han) (bb_ix s a)) (wk_c (7 * s + pe_at Q a) (hT.2.1 _ ra) (bb_ix s _))) (by omega) (bb_ix s _)
          rw [hrb]
          refine yy_orderOf (by omega) (by omega) (by omega) ?_
          rw [hT.2.2 a b han hbn, hT.2.2 _ _ ra rb]
          refine pk_eq (bo a b) (bo (pe_at Q a) (pe_at Q b)) (fun y => nm_r (wk_p b) (ihe (b + 1) (by omega) (fun c hc => ?_))) (fun y => no a b han hbn (fun w => y w.2))
          by_cases e : c = b
          · rw [e]; exact ⟨z, y⟩
          · exact hJ c (by omega)
      exact wk_i s (pk_le n a (fun z => absurd z (by omega)) (fun _ => Exists.intro (n + 1) (B n 0 (by omega) (fun y hy => absurd hy (by omega)))) (wk_c s hT.1))
  unfold wpY_isSymmetry
  exact Exists.intro (n + 1) (A n 0 (by omega) (fun x y hx => absurd hx (by omega)))
theorem yy_findSymmetries {post : SY → Prop} {s n : Nat} {el : Nat → Nat} {bo : Nat → Nat → Nat} (hs : s < 2) (hK : mo_K n el bo) (hT : mo_T b_counts b_elements b_bonds s n el bo) (h : ∀ ro ob, (∀ a, a < n → ob a = nI (bb_bs (pe_ob n el bo a) 7)) → post (g_size, g_height, g_last, g_said, g_length, nI (ls_t (pe_ib n el bo el bo) (pe_D n)), b_text, b_elements, b_bonds, b_counts, b_pile, b_marks, b_saids, ro, b_least, ob, b_path, b_far, b_sums)) : wpY_findSymmetries post (g_size, g_height, g_last, g_said, g_length, g_symmetryCount, b_text, b_elements, b_bonds, b_counts, b_pile, b_marks, b_saids, b_row, b_least, b_orbits, b_path, b_far, b_sums) (nI s) := by
  have hn := hK.1
  have L : ∀ (t : List (List Nat)) (P : List Nat) (D : List (List Nat)) (ro ob : XA), pe_chk n (P :: t) = true → D ++ P :: t = pe_D n → (∀ j, j < n → ro j = nI (pe_at P j)) → (∀ a, a < n → ob a = nI (bb_bs (yu_ob D n el bo a) 7)) → wY_findSymmetries_32 post (nI s) (t.length + 2) 1 g_size g_height g_last g_said g_length (nI (ls_t (pe_ib n el bo el bo) D)) b_text b_elements b_bonds b_counts b_pile b_marks b_saids ro b_least ob b_path b_far b_sums := by
    intro t
    induction t with
    | nil =>
      intro P D ro ob hc hD hR hO
      have hP : P ∈ pe_D n := by rw [← hD]; exact List.mem_append_right _ (List.mem_cons_self ..)
      obtain ⟨p1, p2⟩ := pe_D_m.mp hP
      have hpv : pe_pv (pe_at P) (n - 1) = 0 := by
        rcases yn_fol hc with ⟨_, z⟩ | ⟨Q, t', i, z, _⟩
        · exact z
        · exact absurd z (by simp)
      have N : ∀ ob', (∀ a, a < n → ob' a = nI (bb_bs (yu_ob (D ++ [P]) n el bo a) 7)) → wY_findSymmetries_111 post (wY_findSymmetries_32 post (nI s) 1) (nI s) g_size g_height g_last g_said g_length (nI (ls_t (pe_ib n el bo el bo) (D ++ [P]))) b_text b_elements b_bonds b_counts b_pile b_marks b_saids ro b_least ob' b_path b_far b_sums := fun ob' hO' => by
        refine wk_i s ?_
        rw [wk_c s hT.1]
        refine yy_nextOrder hn (yn_of hn hP hR) (fun _ => br_t rfl ?_) (fun i ro' hi _ => ?_)
        · have k := h ro ob' (fun a ha => by rw [hO' a ha, hD]; rfl)
          rw [hD]; exact k
        · rw [hpv] at hi; exact absurd hi (by omega)
      refine br_f wk_10 (yy_isSymmetry hs hK hT hP hR (fun hz => br_f wk_10 (nm_r (e' := nI (ls_t (pe_ib n el bo el bo) (D ++ [P]))) ?_ (Exists.intro (n + 1) ?_))) (fun hz => br_t rfl (Exists.intro 1 ?_)))
      · rw [ls_tap, wk_p]
        show _ = nI (_ + ((pe_ib n el bo el bo P).toNat + 0))
        rw [hz]; rfl
      · have B : ∀ d a ob', a + d = n → (∀ x, x < n → ob' x = nI (bb_bs (if x < a then yu_ob (D ++ [P]) n el bo x else yu_ob D n el bo x) 7)) → wY_findSymmetries_66 post (wY_findSymmetries_32 post (nI s) 1) (nI s) 1 g_size g_height g_last g_said g_length (nI (ls_t (pe_ib n el bo el bo) (D ++ [P]))) (d + 1) (nI a) b_text b_elements b_bonds b_counts b_pile b_marks b_saids ro b_least ob' b_path b_far b_sums := by
          intro d
          induction d with
          | zero =>
            intro a ob' ha hO'
            exact wk_i s (pk_le n a (fun _ => N ob' (fun x hx => by rw [hO' x hx, if_pos (by omega)])) (fun z => absurd z (by omega)) (wk_c s hT.1))
          | succ d ih =>
            intro a ob' ha hO'
            have han : a < n := by omega
            have hpa : pe_at P a < n := p2.2 _ (pe_at_m P a (by omega))
            have hoa : ob' (nI a).toNatClampNeg = nI (bb_bs (yu_ob D n el bo a) 7) := wk_c a (by rw [hO' a han, if_neg (by omega)])
            have hra : ro (nI a).toNatClampNeg = nI (pe_at P a) := wk_c a (hR a han)
            refine wk_i s (pk_le n a (fun z => absurd z (by omega)) (fun _ => br_f wk_10 (wk_i a (wk_i a (wk_v a (nI (bb_bs (yu_ob (D ++ [P]) n el bo a) 7)) ?_ (nm_r (wk_p a) (ih (a + 1) _ (by omega) (fun x hx => ?_))))))) (wk_c s hT.1))
            · rw [hoa, hra, bb_shl _ (by omega), bb_or]
              congr 1
              refine bb_ext (bb_or_lt (bb_bs_lt _ 7) (bb_pow_lt (by omega))) (bb_bs_lt _ 7) (fun b hb => ?_)
              rw [Nat.testBit_or, bb_bs_b _ hb, bb_bs_b _ hb, Nat.testBit_two_pow, yu_ob_t hz]
            · by_cases e : x = a
              · rw [e, pk_us, if_pos (by omega)]
              · rw [pk_un e, hO' x hx]
                by_cases e2 : x < a
                · rw [if_pos e2, if_pos (by omega)]
                · rw [if_neg e2, if_neg (by omega)]
        exact B n 0 ob (by omega) (fun x hx => by rw [if_neg (by omega)]; exact hO x hx)
      · have e1 : ls_t (pe_ib n el bo el bo) (D ++ [P]) = ls_t (pe_ib n el bo el bo) D := by
          rw [ls_tap]
          show _ + ((pe_ib n el bo el bo P).toNat + 0) = _
          rw [hz]; rfl
        have q := N ob (fun a ha => by rw [hO a ha]; congr 1; exact bb_bs_cg 7 (fun b _ => (yu_ob_f hz).symm))
        rw [e1] at q
        exact wk_i s (br_c (fun _ => q) (fun _ => br_t rfl q))
    | cons P2 t ih =>
      intro P D ro ob hc hD hR hO
      have hP : P ∈ pe_D n := by rw [← hD]; exact List.mem_append_right _ (List.mem_cons_self ..)
      obtain ⟨p1, p2⟩ := pe_D_m.mp hP
      obtain ⟨i, hpv, hng, hc2⟩ : ∃ i, pe_pv (pe_at P) (n - 1) = i + 1 ∧ (∀ j, j < n → pe_ng n (pe_at P) i j = pe_at P2 j) ∧ pe_chk n (P2 :: t) = true := by
        rcases yn_fol hc with ⟨z, _⟩ | ⟨Q, t', i, z, z1, z2, z3⟩
        · exact absurd z (by simp)
        · obtain ⟨rfl, rfl⟩ := List.cons.inj z
          exact ⟨i, z1, z2, z3⟩
      have hD' : (D ++ [P]) ++ P2 :: t = pe_D n := by rw [← hD, List.append_assoc]; rfl
      have N : ∀ ob', (∀ a, a < n → ob' a = nI (bb_bs (yu_ob (D ++ [P]) n el bo a) 7)) → wY_findSymmetries_111 post (wY_findSymmetries_32 post (nI s) (t.length + 2)) (nI s) g_size g_height g_last g_said g_length (nI (ls_t (pe_ib n el bo el bo) (D ++ [P]))) b_text b_elements b_bonds b_counts b_pile b_marks b_saids ro b_least ob' b_path b_far b_sums := fun ob' hO' => by
        refine wk_i s ?_
        rw [wk_c s hT.1]
        refine yy_nextOrder hn (yn_of hn hP hR) (fun z => ?_) (fun i' ro' hi hro' => ?_)
        · rw [hpv] at z; exact absurd z (by omega)
        · have ei : i' = i := by rw [hpv] at hi; omega
          subst ei
          exact ih P2 (D ++ [P]) ro' ob' hc2 hD' (fun j hj => by rw [(hro' j hj).1, hng j hj]) hO'
      refine br_f wk_10 (yy_isSymmetry hs hK hT hP hR (fun hz => br_f wk_10 (nm_r (e' := nI (ls_t (pe_ib n el bo el bo) (D ++ [P]))) ?_ (Exists.intro (n + 1) ?_))) (fun hz => br_t rfl (Exists.intro 1 ?_)))
      · rw [ls_tap, wk_p]
        show _ = nI (_ + ((pe_ib n el bo el bo P).toNat + 0))
        rw [hz]; rfl
      · have B : ∀ d a ob', a + d = n → (∀ x, x < n → ob' x = nI (bb_bs (if x < a then yu_ob (D ++ [P]) n el bo x else yu_ob D n el bo x) 7)) → wY_findSymmetries_66 post (wY_findSymmetries_32 post (nI s) (t.length + 2)) (nI s) 1 g_size g_height g_last g_said g_length (nI (ls_t (pe_ib n el bo el bo) (D ++ [P]))) (d + 1) (nI a) b_text b_elements b_bonds b_counts b_pile b_marks b_saids ro b_least ob' b_path b_far b_sums := by
          intro d
          induction d with
          | zero =>
            intro a ob' ha hO'
            exact wk_i s (pk_le n a (fun _ => N ob' (fun x hx => by rw [hO' x hx, if_pos (by omega)])) (fun z => absurd z (by omega)) (wk_c s hT.1))
          | succ d ih =>
            intro a ob' ha hO'
            have han : a < n := by omega
            have hpa : pe_at P a < n := p2.2 _ (pe_at_m P a (by omega))
            have hoa : ob' (nI a).toNatClampNeg = nI (bb_bs (yu_ob D n el bo a) 7) := wk_c a (by rw [hO' a han, if_neg (by omega)])
            have hra : ro (nI a).toNatClampNeg = nI (pe_at P a) := wk_c a (hR a han)
            refine wk_i s (pk_le n a (fun z => absurd z (by omega)) (fun _ => br_f wk_10 (wk_i a (wk_i a (wk_v a (nI (bb_bs (yu_ob (D ++ [P]) n el bo a) 7)) ?_ (nm_r (wk_p a) (ih (a + 1) _ (by omega) (fun x hx => ?_))))))) (wk_c s hT.1))
            · rw [hoa, hra, bb_shl _ (by omega), bb_or]
              congr 1
              refine bb_ext (bb_or_lt (bb_bs_lt _ 7) (bb_pow_lt (by omega))) (bb_bs_lt _ 7) (fun b hb => ?_)
              rw [Nat.testBit_or, bb_bs_b _ hb, bb_bs_b _ hb, Nat.testBit_two_pow, yu_ob_t hz]
            · by_cases e : x = a
              · rw [e, pk_us, if_pos (by omega)]
              · rw [pk_un e, hO' x hx]
                by_cases e2 : x < a
                · rw [if_pos e2, if_pos (by omega)]
                · rw [if_neg e2, if_neg (by omega)]
        exact B n 0 ob (by omega) (fun x hx => by rw [if_neg (by omega)]; exact hO x hx)
      · have e1 : ls_t (pe_ib n el bo el bo) (D ++ [P]) = ls_t (pe_ib n el bo el bo) D := by
          rw [ls_tap]
          show _ + ((pe_ib n el bo el bo P).toNat + 0) = _
          rw [hz]; rfl
        have q := N ob (fun a ha => by rw [hO a ha]; congr 1; exact bb_bs_cg 7 (fun b _ => (yu_ob_f hz).symm))
        rw [e1] at q
        exact wk_i s (br_c (fun _ => q) (fun _ => br_t rfl q))
  have A : ∀ d i ob, i + d = 7 → (∀ j, j < i → ob j = 0) → wY_findSymmetries_7 post (nI s) g_size g_height g_last g_said g_length 0 (d + 1) (nI i) b_text b_elements b_bonds b_counts b_pile b_marks b_saids b_row b_least ob b_path b_far b_sums := by
    intro d
    induction d with
    | zero =>
      intro i ob hi hob
      refine pk_le 7 i (fun _ => yy_startRow (fun ro hro => ?_)) (fun z => absurd z (by omega))
      obtain ⟨t, ht⟩ := yn_D hn
      have hc := pe_chk_n hn
      rw [ht] at hc
      refine Exists.intro (t.length + 2) (L t _ [] ro ob hc (by rw [List.nil_append, ht]) (fun j hj => by rw [hro j (by omega), yn_id n (by omega) j hj]) (fun a ha => ?_))
      rw [hob a (by omega), ← nI_0]
      congr 1
      refine bb_ext (by decide) (bb_bs_lt _ 7) (fun b hb => ?_)
      rw [bb_bs_b _ hb, Nat.zero_testBit]
      cases hz : yu_ob [] n el bo a b with
      | false => rfl
      | true =>
        obtain ⟨q, hq, _⟩ := yu_ob_i.mp hz
        exact absurd hq (by simp)
    | succ d ih =>
      intro i ob hi hob
      exact pk_le 7 i (fun z => absurd z (by omega)) (fun _ => wk_w i (nm_r (wk_p i) (ih (i + 1) _ (by omega) (fun j hj => by
        by_cases e : j = i
        · rw [e, pk_us]
        · rw [pk_un e]; exact hob j (by omega)))))
  unfold wpY_findSymmetries
  exact Exists.intro 8 (A 7 0 b_orbits (by omega) (fun j hj => absurd hj (by omega)))
theorem yy_symmetries {post : Int32 → SY → Prop} {s n : Nat} {el : Nat → Nat} {bo : Nat → Nat → Nat} (hs : s < 2) (hK : mo_K n el bo) (hT : mo_T b_counts b_elements b_bonds s n el bo) (h : ∀ sc ro ob, post (nI (ls_t (pe_ib n el bo el bo) (pe_D n))) (g_size, g_height, g_last, g_said, g_length, sc, b_text, b_elements, b_bonds, b_counts, b_pile, b_marks, b_saids, ro, b_least, ob, b_path, b_far, b_sums)) : wpY_symmetries post (g_size, g_height, g_last, g_said, g_length, g_symmetryCount, b_text, b_elements, b_bonds, b_counts, b_pile, b_marks, b_saids, b_row, b_least, b_orbits, b_path, b_far, b_sums) (nI s) := by
  unfold wpY_symmetries
  exact yy_slot_g hs (br_f wk_10 (yy_findSymmetries hs hK hT (fun ro ob _ => h _ ro ob)))
theorem yy_orbit_g {post : Int32 → SY → Prop} {s n a : Nat} {el : Nat → Nat} {bo : Nat → Nat → Nat} (hs : s < 2) (hK : mo_K n el bo) (hT : mo_T b_counts b_elements b_bonds s n el bo) (ha : a < n) (h : ∀ sc ro ob, post (nI (bb_bs (pe_ob n el bo a) 7)) (g_size, g_height, g_last, g_said, g_length, sc, b_text, b_elements, b_bonds, b_counts, b_pile, b_marks, b_saids, ro, b_least, ob, b_path, b_far, b_sums)) : wpY_orbit post (g_size, g_height, g_last, g_said, g_length, g_symmetryCount, b_text, b_elements, b_bonds, b_counts, b_pile, b_marks, b_saids, b_row, b_least, b_orbits, b_path, b_far, b_sums) (nI s) (nI a) := by
  have hn := hK.1
  unfold wpY_orbit
  refine yy_slot_g hs (br_f wk_10 (yy_findSymmetries hs hK hT (fun ro ob hob => yy_isAtom_g hs hn hT.1 ha (br_f wk_10 (wk_i a ?_)))))
  rw [wk_c a (hob a ha)]
  exact h _ ro ob
theorem yy_orbit_b {post : Int32 → SY → Prop} {s n : Nat} {v : Int32} {el : Nat → Nat} {bo : Nat → Nat → Nat} (hs : s < 2) (hK : mo_K n el bo) (hT : mo_T b_counts b_elements b_bonds s n el bo) (hv : ¬ v < 0 → nI n ≤ v) (h : ∀ sc ro ob, post (-4) (g_size, g_height, g_last, g_said, g_length, sc, b_text, b_elements, b_bonds, b_counts, b_pile, b_marks, b_saids, ro, b_least, ob, b_path, b_far, b_sums)) : wpY_orbit post (g_size, g_height, g_last, g_said, g_length, g_symmetryCount, b_text, b_elements, b_bonds, b_counts, b_pile, b_marks, b_saids, b_row, b_least, b_orbits, b_path, b_far, b_sums) (nI s) v := by
  have hn := hK.1
  unfold wpY_orbit
  exact yy_slot_g hs (br_f wk_10 (yy_findSymmetries hs hK hT (fun ro ob _ => yy_isAtom_b hs hn hT.1 hv (br_t rfl (h _ ro ob)))))
end
end
section
section
variable {g_size g_height g_last g_said g_length g_symmetryCount : Int32} {b_text b_elements b_bonds b_counts b_pile b_marks b_saids b_row b_least b_orbits b_path b_far b_sums : Nat → Int32}
theorem yy_alike_n {post : Int32 → SY → Prop} {n0 n1 : Nat} (h0 : b_counts 0 = nI n0) (h1 : b_counts 1 = nI n1) (hn0 : n0 ≤ 7) (hn1 : n1 ≤ 7) (hne : n0 ≠ n1) (h : ∀ ro, post 0 (g_size, g_height, g_last, g_said, g_length, g_symmetryCount, b_text, b_elements, b_bonds, b_counts, b_pile, b_marks, b_saids, ro, b_least, b_orbits, b_path, b_far, b_sums)) : wpY_alike post (g_size, g_height, g_last, g_said, g_length, g_symmetryCount, b_text, b_elements, b_bonds, b_counts, b_pile, b_marks, b_saids, b_row, b_least, b_orbits, b_path, b_far, b_sums) := by
  unfold wpY_alike
  exact yy_startRow (fun ro _ => pk_eq n0 n1 (fun z => absurd z hne) (fun _ => Exists.intro 1 (br_t rfl (h ro))) h0 h1)
theorem yy_alike {post : Int32 → SY → Prop} {n : Nat} {el0 el1 : Nat → Nat} {bo0 bo1 : Nat → Nat → Nat} (hK0 : mo_K n el0 bo0) (hK1 : mo_K n el1 bo1) (hT0 : mo_T b_counts b_elements b_bonds 0 n el0 bo0) (hT1 : mo_T b_counts b_elements b_bonds 1 n el1 bo1)
    (h : ∀ ro, post (nI (pe_al n el0 bo0 el1 bo1).toNat) (g_size, g_height, g_last, g_said, g_length, g_symmetryCount, b_text, b_elements, b_bonds, b_counts, b_pile, b_marks, b_saids, ro, b_least, b_orbits, b_path, b_far, b_sums)) : wpY_alike post (g_size, g_height, g_last, g_said, g_length, g_symmetryCount, b_text, b_elements, b_bonds, b_counts, b_pile, b_marks, b_saids, b_row, b_least, b_orbits, b_path, b_far, b_sums) := by
  have hn := hK0.1
  -- one order: all pairs
  have C : ∀ (J : Int32 → Int32 → Int32 → Int32 → Int32 → Int32 → Int32 → XA → XA → XA → XA → XA → XA → XA → XA → XA → XA → XA → XA → XA → Prop) (P : List Nat) (ro : XA), P ∈ pe_D n → (∀ j, j < n → ro j = nI (pe_at P j)) → (pe_ib n el0 bo0 el1 bo1 P = false → wpY_nextOrder (fun r u => match u with | (g_size', g_height', g_last', g_said', g_length', g_symmetryCount', b_text', b_elements', b_bonds', b_counts', b_pile', b_marks', b_saids', b_row', b_least', b_orbits', b_path', b_far', b_sums') => J r g_size' g_height' g_last' g_said' g_length' g_symmetryCount' b_text' b_elements' b_bonds' b_counts' b_pile' b_marks' b_saids' b_row' b_least' b_orbits' b_path' b_far' b_sums') (g_size, g_height, g_last, g_said, g_length, g_symmetryCount, b_text, b_elements, b_bonds, b_counts, b_pile, b_marks, b_saids, ro, b_least, b_orbits, b_path, b_far, b_sums) (nI n)) → (pe_ib n el0 bo0 el1 bo1 P = true → post 1 (g_size, g_height, g_last, g_said, g_length, g_symmetryCount, b_text, b_elements, b_bonds, b_counts, b_pile, b_marks, b_saids, ro, b_least, b_orbits, b_path, b_far, b_sums)) → ∀ d k, k + d = 49 → wY_alike_33 post J g_size g_height g_last g_said g_length g_symmetryCount b_text b_elements b_bonds b_counts b_pile b_marks b_saids ro b_least b_orbits b_path b_far b_sums (d + 1) (nI (!bb_ex (fun j => decide (j / 7 < n ∧ j % 7 < n ∧ ¬ (el1 (j / 7) = el0 (pe_at P (j / 7)) ∧ bo1 (j / 7) (j % 7) = bo0 (pe_at P (j / 7)) (pe_at P (j % 7))))) k).toNat) (nI k) := by
    intro J P ro hP hR hno hyes d
    obtain ⟨p1, p2⟩ := pe_D_m.mp hP
    have hq : ∀ a, a < n → pe_at P a < n := fun a ha => p2.2 _ (pe_at_m P a (by omega))
    induction d with
    | zero =>
      intro k hk
      have e : k = 49 := by omega
      subst e
      have e1 : (!bb_ex (fun j => decide (j / 7 < n ∧ j % 7 < n ∧ ¬ (el1 (j / 7) = el0 (pe_at P (j / 7)) ∧ bo1 (j / 7) (j % 7) = bo0 (pe_at P (j / 7)) (pe_at P (j % 7))))) 49) = pe_ib n el0 bo0 el1 bo1 P := by
        rw [Bool.eq_iff_iff, Bool.not_eq_true', bb_ex_f, pe_ib_i]
        constructor
        · intro q a b ha hb
          have := of_decide_eq_false (q (7 * a + b) (by omega))
          rw [show (7 * a + b) / 7 = a by omega, show (7 * a + b) % 7 = b by omega] at this
          rcases Classical.em (el1 a = el0 (pe_at P a) ∧ bo1 a b = bo0 (pe_at P a) (pe_at P b)) with z | z
          · exact z
          · exact absurd ⟨ha, hb, z⟩ this
        · intro q j _
          exact decide_eq_false (fun w => w.2.2 (q _ _ w.1 w.2.1))
      rw [e1]
      refine pk_le 49 49 (fun _ => ?_) (fun z => absurd z (by omega))
      cases hz : pe_ib n el0 bo0 el1 bo1 P with
      | false =>
        refine br_t rfl ?_
        rw [hT0.1]; exact hno hz
      | true => exact br_f (by decide) (hyes hz)
    | succ d ih =>
      intro k hk
      have kk := ih (k + 1) (by omega)
      rw [bb_ex_s, Bool.not_or] at kk
      have hd1 : nI k / 7 = nI (k / 7) := pk_div (d := 7) (by omega) (by decide) (by decide)
      have hxb : nI k - nI k / 7 * 7 = nI (k % 7) := pk_rem (d := 7) (by omega) (by decide) (by decide)
      have ha : k / 7 < 7 := by omega
      have hb : k % 7 < 7 := Nat.mod_lt _ (by decide)
      generalize hS : (!bb_ex (fun j => decide (j / 7 < n ∧ j % 7 < n ∧ ¬ (el1 (j / 7) = el0 (pe_at P (j / 7)) ∧ bo1 (j / 7) (j % 7) = bo0 (pe_at P (j / 7)) (pe_at P (j % 7))))) k) = S at kk
      generalize k / 7 = a at ha hd1 kk
      generalize k % 7 = b at hb hxb kk
      have Z : ¬ (a < n ∧ b < n) → wY_alike_77 post J (wY_alike_33 post J g_size g_height g_last g_said g_length g_symmetryCount b_text b_elements b_bonds b_counts b_pile b_marks b_saids ro b_least b_orbits b_path b_far b_sums (d + 1)) (nI S.toNat) (nI k) (nI a) (nI b) g_size g_height g_last g_said g_length g_symmetryCount b_text b_elements b_bonds b_counts b_pile b_marks b_saids ro b_least b_orbits b_path b_far b_sums := fun hz => by
        rw [decide_eq_false (fun w => hz ⟨w.1, w.2.1⟩), Bool.not_false, Bool.and_true] at kk
        cases S with
        | false => exact br_t rfl (nm_r (wk_p k) kk)
        | true => exact br_f (by decide) (br_t rfl (nm_r (wk_p k) kk))
      refine pk_le 49 k (fun z => absurd z (by omega)) (fun _ => And.intro wk_n7 (nm_r hd1 (And.intro wk_n7 (nm_r hxb (pk_le n a (fun z => Z (by omega)) (fun z => pk_le n b (fun y => Z (by omega)) (fun y => ?_) hT0.1) hT0.1)))))
      have ra := hq a z
      have rb := hq b y
      have hra : ro (nI a).toNatClampNeg = nI (pe_at P a) := wk_c a (hR a z)
      have hrb : ro (nI b).toNatClampNeg = nI (pe_at P b) := wk_c b (hR b y)
      have l1 := hK1.2.1 a z
      have l2 := hK0.2.1 _ ra
      have l3 := hK1.2.2.1 a b z y
      have l4 := hK0.2.2.1 _ _ ra rb
      have e1 : b_elements (7 + nI a).toNatClampNeg = nI (el1 a) := wk_c (7 + a) (by have := hT1.2.1 a z; rw [show 7 * 1 + a = 7 + a by omega] at this; exact this) (nI_add 7 a)
      have e0 : b_elements (nI (pe_at P a)).toNatClampNeg = nI (el0 (pe_at P a)) := wk_c (pe_at P a) (by have := hT0.2.1 _ ra; rw [show 7 * 0 + pe_at P a = pe_at P a by omega] at this; exact this)
      cases S with
      | false => exact br_t rfl (nm_r (wk_p k) kk)
      | true =>
        refine br_f (by decide) (br_f wk_10 (wk_i (7 + a) (wk_i a ?_) (by omega) (nI_add 7 a)))
        rw [hra]
        refine wk_i (pe_at P a) (pk_eq (el1 a) (el0 (pe_at P a)) (fun w => yy_orderOf (s := 1) (by omega) (by omega) (by omega) (wk_i a (wk_i b ?_))) (fun w => ?_) e1 e0)
        · rw [hrb]
          refine yy_orderOf (s := 0) (by omega) (by omega) (by omega) ?_
          rw [hT1.2.2 a b z y, hT0.2.2 _ _ ra rb]
          refine pk_eq (bo1 a b) (bo0 (pe_at P a) (pe_at P b)) (fun v => ?_) (fun v => ?_)
          · rw [decide_eq_false (fun q => q.2.2 ⟨w, v⟩)] at kk
            exact nm_r (wk_p k) kk
          · rw [decide_eq_true ⟨z, y, fun q => v q.2⟩] at kk
            exact nm_r (wk_p k) kk
        · rw [decide_eq_true ⟨z, y, fun q => w q.1⟩] at kk
          exact nm_r (wk_p k) kk
  have hal : ∀ P, P ∈ pe_D n → pe_ib n el0 bo0 el1 bo1 P = true → pe_al n el0 bo0 el1 bo1 = true := fun P hP hz => pe_al_i.mpr ⟨P, hP, pe_ib_i.mp hz⟩
  have L : ∀ (t : List (List Nat)) (P : List Nat) (D : List (List Nat)) (ro : XA), pe_chk n (P :: t) = true → D ++ P :: t = pe_D n → (∀ j, j < n → ro j = nI (pe_at P j)) → (∀ Q, Q ∈ D → pe_ib n el0 bo0 el1 bo1 Q = false) → wY_alike_25 post (t.length + 2) 1 g_size g_height g_last g_said g_length g_symmetryCount b_text b_elements b_bonds b_counts b_pile b_marks b_saids ro b_least b_orbits b_path b_far b_sums := by
    intro t
    induction t with
    | nil =>
      intro P D ro hc hD hR hO
      have hP : P ∈ pe_D n := by rw [← hD]; exact List.mem_append_right _ (List.mem_cons_self ..)
      have hpv : pe_pv (pe_at P) (n - 1) = 0 := by
        rcases yn_fol hc with ⟨_, z⟩ | ⟨Q, t', i, z, _⟩
        · exact z
        · exact absurd z (by simp)
      refine br_f wk_10 (Exists.intro 50 (C _ P ro hP hR (fun hz => yy_nextOrder hn (yn_of hn hP hR) (fun _ => br_t rfl ?_) (fun i ro' hi _ => ?_)) (fun hz => ?_) 49 0 (by omega)))
      · have k := h ro
        have e : pe_al n el0 bo0 el1 bo1 = false := by
          cases hy : pe_al n el0 bo0 el1 bo1 with
          | false => rfl
          | true =>
            obtain ⟨Q, hQ, hi⟩ := pe_al_i.mp hy
            rw [← hD] at hQ
            rcases List.mem_append.mp hQ with w | w
            · have := hO Q w; rw [pe_ib_i.mpr hi] at this; exact absurd this (by decide)
            · rw [List.mem_singleton] at w
              rw [← w, pe_ib_i.mpr hi] at hz; exact absurd hz (by decide)
        rw [e] at k; exact k
      · rw [hpv] at hi; exact absurd hi (by omega)
      · have k := h ro
        rw [hal P hP hz] at k; exact k
    | cons P2 t ih =>
      intro P D ro hc hD hR hO
      have hP : P ∈ pe_D n := by rw [← hD]; exact List.mem_append_right _ (List.mem_cons_self ..)
      obtain ⟨i, hpv, hng, hc2⟩ : ∃ i, pe_pv (pe_at P) (n - 1) = i + 1 ∧ (∀ j, j < n → pe_ng n (pe_at P) i j = pe_at P2 j) ∧ pe_chk n (P2 :: t) = true := by
        rcases yn_fol hc with ⟨z, _⟩ | ⟨Q, t', i, z, z1, z2, z3⟩
        · exact absurd z (by simp)
        · obtain ⟨rfl, rfl⟩ := List.cons.inj z
          exact ⟨i, z1, z2, z3⟩
      have hD' : (D ++ [P]) ++ P2 :: t = pe_D n := by rw [← hD, List.append_assoc]; rfl
      refine br_f wk_10 (Exists.intro 50 (C _ P ro hP hR (fun hz => yy_nextOrder hn (yn_of hn hP hR) (fun z => ?_) (fun i' ro' hi hro' => ?_)) (fun hz => ?_) 49 0 (by omega)))
      · rw [hpv] at z; exact absurd z (by omega)
      · have ei : i' = i := by rw [hpv] at hi; omega
        subst ei
        refine ih P2 (D ++ [P]) ro' hc2 hD' (fun j hj => by rw [(hro' j hj).1, hng j hj]) (fun Q hQ => ?_)
        rcases List.mem_append.mp hQ with w | w
        · exact hO Q w
        · rw [List.mem_singleton.mp w]; exact hz
      · have k := h ro
        rw [hal P hP hz] at k; exact k
  unfold wpY_alike
  refine yy_startRow (fun ro hro => br_t (hT0.1.trans hT1.1.symm) ?_)
  obtain ⟨t, ht⟩ := yn_D hn
  have hc := pe_chk_n hn
  rw [ht] at hc
  exact Exists.intro (t.length + 2) (L t _ [] ro hc (by rw [List.nil_append, ht]) (fun j hj => by rw [hro j (by omega), yn_id n (by omega) j hj]) (fun Q hQ => absurd hQ (by simp)))
end
/-! one molecule in another, the reference's search -/
abbrev YF : Type := Int32 × Int32 × XA
def yf_N (P : List Nat) (x S : Nat) (s : YF) : Prop := ∃ path, s = (nI P.length, nI S, path) ∧ (∀ i, i < P.length → path i = nI (pe_at P i)) ∧ path P.length + 1 = nI x
def yf_U (P : List Nat) (S : Nat) (s : YF) : Prop := ∃ path, s = (nI P.length + (-1), nI S, path) ∧ ∀ i, i < P.length → path i = nI (pe_at P i)
def yf_c : Nat → Nat
  | 0 => 15
  | r + 1 => 1 + 7 * (1 + yf_c r)
theorem yf_U_N {P : List Nat} {x S : Nat} {s : YF} (h : yf_U (P ++ [x]) S s) : yf_N P (x + 1) S s := by
  obtain ⟨path, e, h1⟩ := h
  have hl : (P ++ [x]).length = P.length + 1 := by rw [List.length_append]; rfl
  refine ⟨path, by rw [e, hl, pk_m1], fun i hi => ?_, ?_⟩
  · rw [h1 i (by omega), pe_at_l P i hi]
  · rw [h1 P.length (by omega), pe_at_r P, nI_1]
theorem yf_dfs {W : Nat → Int32 → YF → Prop} {n0 n1 lim : Nat} {el0 el1 : Nat → Nat} {bo0 bo1 : Nat → Nat → Nat} (hn0 : n0 ≤ 7)
    (rZ : ∀ P S s, P.length < n1 → pe_Q n0 P → yf_N P n0 S s → go_R lim W 1 s (yf_U P S))
    (rN : ∀ P x S s, P.length < n1 → pe_Q n0 P → x < n0 → fd_ok el0 bo0 el1 bo1 P x = false → yf_N P x S s → go_R lim W 1 s (yf_N P (x + 1) S))
    (r1 : ∀ P x S s, P.length + 1 = n1 → pe_Q n0 P → x < n0 → fd_ok el0 bo0 el1 bo1 P x = true → yf_N P x S s → go_R lim W 1 s (yf_N P (x + 1) (S + 1)))
    (r2 : ∀ P x S s, P.length + 1 < n1 → pe_Q n0 P → x < n0 → fd_ok el0 bo0 el1 bo1 P x = true → yf_N P x S s → go_R lim W 1 s (yf_N (P ++ [x]) 0 S)) :
    ∀ (r : Nat) (P : List Nat) (S : Nat) (s : YF), P.length + (r + 1) = n1 → pe_Q n0 P → yf_N P 0 S s → go_R lim W (yf_c r) s (yf_U P (S + fd_F n0 el0 bo0 el1 bo1 (r + 1) P)) := by
  intro r
  induction r with
  | zero =>
    intro P S s hP hQ h
    have B : ∀ e x s, x + e = n0 → yf_N P x (S + bb_sm (fun b => bif fd_ok el0 bo0 el1 bo1 P b then fd_F n0 el0 bo0 el1 bo1 0 (P ++ [b]) else 0) x) s → go_R lim W (e + 1) s (yf_U P (S + fd_F n0 el0 bo0 el1 bo1 (0 + 1) P)) := by
      intro e
      induction e with
      | zero =>
        intro x s hx h
        have ex : x = n0 := by omega
        subst ex
        exact rZ P _ s (by omega) hQ h
      | succ e ih =>
        intro x s hx h
        cases hk : fd_ok el0 bo0 el1 bo1 P x with
        | false =>
          refine go_m (go_s (rN P x _ s (by omega) hQ (by omega) hk h) (fun s' hs' => ih (x + 1) s' (by omega) ?_)) (by omega) (fun _ z => z)
          rw [bb_sm_s, hk]; exact hs'
        | true =>
          refine go_m (go_s (r1 P x _ s (by omega) hQ (by omega) hk h) (fun s' hs' => ih (x + 1) s' (by omega) ?_)) (by omega) (fun _ z => z)
          rw [bb_sm_s, hk]; exact hs'
    exact go_m (B n0 0 s (by omega) h) (by show _ ≤ 15; omega) (fun _ z => z)
  | succ r ihr =>
    intro P S s hP hQ h
    have B : ∀ e x s, x + e = n0 → yf_N P x (S + bb_sm (fun b => bif fd_ok el0 bo0 el1 bo1 P b then fd_F n0 el0 bo0 el1 bo1 (r + 1) (P ++ [b]) else 0) x) s → go_R lim W (e * (1 + yf_c r) + 1) s (yf_U P (S + fd_F n0 el0 bo0 el1 bo1 (r + 1 + 1) P)) := by
      intro e
      induction e with
      | zero =>
        intro x s hx h
        have ex : x = n0 := by omega
        subst ex
        exact go_m (rZ P _ s (by omega) hQ h) (by omega) (fun _ z => z)
      | succ e ih =>
        intro x s hx h
        cases hk : fd_ok el0 bo0 el1 bo1 P x with
        | false =>
          refine go_m (go_s (rN P x _ s (by omega) hQ (by omega) hk h) (fun s' hs' => ih (x + 1) s' (by omega) ?_)) (by rw [Nat.succ_mul]; omega) (fun _ z => z)
          rw [bb_sm_s, hk]; exact hs'
        | true =>
          have hna := ((fd_ok_i el0 bo0 el1 bo1).mp hk).1
          refine go_m (go_s (r2 P x _ s (by omega) hQ (by omega) hk h) (fun s' hs' => go_s (ihr (P ++ [x]) _ s' (by rw [List.length_append]; show P.length + 1 + (r + 1) = n1; omega) (pe_Q_a hQ (by omega) hna) hs') (fun s'' hs'' => ih (x + 1) s'' (by omega) ?_))) (by rw [Nat.succ_mul]; omega) (fun _ z => z)
          rw [bb_sm_s, hk, ← Nat.add_assoc]
          exact yf_U_N hs''
    refine go_m (B n0 0 s (by omega) h) ?_ (fun _ z => z)
    have := Nat.mul_le_mul_right (1 + yf_c r) hn0
    show _ ≤ 1 + 7 * (1 + yf_c r)
    omega
def yf_W (post : Int32 → SY → Prop) (v : SY) : Nat → Int32 → YF → Prop := match v with
  | (g_size, g_height, g_last, g_said, g_length, g_symmetryCount, b_text, b_elements, b_bonds, b_counts, b_pile, b_marks, b_saids, b_row, b_least, b_orbits, b_path, b_far, b_sums) => fun F _ u => wY_found_24 post g_size g_height g_last g_said g_length g_symmetryCount F u.1 u.2.1 b_text b_elements b_bonds b_counts b_pile b_marks b_saids b_row b_least b_orbits u.2.2 b_far b_sums
section
variable {g_size g_height g_last g_said g_length g_symmetryCount : Int32} {b_text b_elements b_bonds b_counts b_pile b_marks b_saids b_row b_least b_orbits b_path b_far b_sums : Nat → Int32}
theorem yy_carries {post : Int32 → Prop} {n0 n1 b : Nat} {el0 el1 : Nat → Nat} {bo0 bo1 : Nat → Nat → Nat} {P : List Nat} (hK0 : mo_K n0 el0 bo0) (hK1 : mo_K n1 el1 bo1) (hT0 : mo_T b_counts b_elements b_bonds 0 n0 el0 bo0) (hT1 : mo_T b_counts b_elements b_bonds 1 n1 el1 bo1) (hP : P.length < n1) (hQ : pe_Q n0 P) (hb : b < n0) (hp : ∀ i, i < P.length → b_path i = nI (pe_at P i)) (hpb : b_path P.length = nI b) (h1 : fd_ok el0 bo0 el1 bo1 P b = true → post 1) (h0 : fd_ok el0 bo0 el1 bo1 P b = false → post 0) : wpY_carries post (g_size, g_height, g_last, g_said, g_length, g_symmetryCount, b_text, b_elements, b_bonds, b_counts, b_pile, b_marks, b_saids, b_row, b_least, b_orbits, b_path, b_far, b_sums) (nI P.length) := by
  have hn0 := hK0.1
  have hn1 := hK1.1
  have hpd : b_path (nI P.length).toNatClampNeg = nI b := wk_c P.length hpb
  have no : ∀ i, i < P.length → (pe_at P i = b ∨ (0 < bo1 i P.length ∧ bo0 (pe_at P i) b ≠ bo1 i P.length)) → post 0 := fun i hi hz => by
    refine h0 ?_
    cases hk : fd_ok el0 bo0 el1 bo1 P b with
    | false => rfl
    | true =>
      obtain ⟨k1, k2, k3⟩ := (fd_ok_i el0 bo0 el1 bo1).mp hk
      rcases hz with z | ⟨z1, z2⟩
      · exact absurd (z ▸ pe_at_m P i hi) k1
      · rcases k3 i hi with y | y
        · omega
        · exact absurd y z2
  have L : ∀ d i, i + d = P.length → (∀ j, j < i → ¬ (pe_at P j = b ∨ (0 < bo1 j P.length ∧ bo0 (pe_at P j) b ≠ bo1 j P.length))) → wY_carries_2 post (nI P.length) g_size g_height g_last g_said g_length g_symmetryCount b_text b_elements b_bonds b_counts b_pile b_marks b_saids b_row b_least b_orbits b_path b_far b_sums (d + 1) (nI i) := by
    intro d
    induction d with
    | zero =>
      intro i hi hJ
      have e1 : b_elements (7 + nI P.length).toNatClampNeg = nI (el1 P.length) := wk_c (7 + P.length) (by have := hT1.2.1 P.length hP; rw [show 7 * 1 + P.length = 7 + P.length by omega] at this; exact this) (nI_add 7 _)
      have e0 : b_elements (nI b).toNatClampNeg = nI (el0 b) := wk_c b (by have := hT0.2.1 b hb; rw [show 7 * 0 + b = b by omega] at this; exact this)
      have l1 := hK1.2.1 P.length hP
      have l0 := hK0.2.1 b hb
      refine pk_le P.length i (fun _ => wk_i (7 + P.length) (wk_i P.length ?_) (by omega) (nI_add 7 _)) (fun z => absurd z (by omega))
      rw [hpd]
      refine wk_i b (pk_eq (el1 P.length) (el0 b) (fun z => h1 ?_) (fun z => h0 ?_) e1 e0)
      · unfold fd_ok
        rw [decide_eq_true z, Bool.and_true, Bool.not_eq_true', bb_ex_f]
        exact fun j hj => decide_eq_false (hJ j (by omega))
      · unfold fd_ok
        rw [decide_eq_false z, Bool.and_false]
    | succ d ih =>
      intro i hi hJ
      have hiP : i < P.length := by omega
      have hpi : pe_at P i < n0 := hQ.2 _ (pe_at_m P i hiP)
      have hpp : b_path (nI i).toNatClampNeg = nI (pe_at P i) := wk_c i (hp i hiP)
      have l1 := hK1.2.2.1 i P.length (by omega) hP
      have l0 := hK0.2.2.1 _ _ hpi hb
      refine pk_le P.length i (fun z => absurd z (by omega)) (fun _ => yy_orderOf (s := 1) (by omega) (by omega) (by omega) (wk_i i (wk_i P.length ?_)))
      rw [hpp, hpd, hT1.2.2 i P.length (by omega) hP]
      refine pk_eq (pe_at P i) b (fun z => no i hiP (Or.inl z)) (fun z => pk_le (bo1 i P.length) 0 (fun y => nm_r (wk_p i) (ih (i + 1) (by omega) (fun j hj => ?_))) (fun y => wk_i i (wk_i P.length (yy_orderOf (s := 0) (by omega) (by omega) (by omega) ?_))))
      · by_cases e : j = i
        · rw [e]; rintro (w | w)
          · exact z w
          · omega
        · exact hJ j (by omega)
      · rw [hT0.2.2 _ _ hpi hb]
        refine pk_eq (bo0 (pe_at P i) b) (bo1 i P.length) (fun w => nm_r (wk_p i) (ih (i + 1) (by omega) (fun j hj => ?_))) (fun w => no i hiP (Or.inr ⟨y, w⟩))
        by_cases e : j = i
        · rw [e]; rintro (v | v)
          · exact z v
          · exact v.2 w
        · exact hJ j (by omega)
  unfold wpY_carries
  exact Exists.intro (P.length + 1) (L P.length 0 (by omega) (fun j hj => absurd hj (by omega)))
/-- one round of the search -/
theorem yf_step {post : Int32 → SY → Prop} {n0 n1 x S F : Nat} {el0 el1 : Nat → Nat} {bo0 bo1 : Nat → Nat → Nat} {P : List Nat} {path : XA} (hK0 : mo_K n0 el0 bo0) (hK1 : mo_K n1 el1 bo1) (hT0 : mo_T b_counts b_elements b_bonds 0 n0 el0 bo0) (hT1 : mo_T b_counts b_elements b_bonds 1 n1 el1 bo1) (hP : P.length < n1) (hQ : pe_Q n0 P) (hx : x ≤ n0) (hp : ∀ i, i < P.length → path i = nI (pe_at P i)) (hpx : path P.length + 1 = nI x)
    (hZ : x = n0 → wY_found_24 post g_size g_height g_last g_said g_length g_symmetryCount F (nI P.length + (-1)) (nI S) b_text b_elements b_bonds b_counts b_pile b_marks b_saids b_row b_least b_orbits (upd path P.length (nI x)) b_far b_sums)
    (hN : x < n0 → fd_ok el0 bo0 el1 bo1 P x = false → wY_found_24 post g_size g_height g_last g_said g_length g_symmetryCount F (nI P.length) (nI S) b_text b_elements b_bonds b_counts b_pile b_marks b_saids b_row b_least b_orbits (upd path P.length (nI x)) b_far b_sums)
    (h1 : x < n0 → fd_ok el0 bo0 el1 bo1 P x = true → P.length + 1 = n1 → wY_found_24 post g_size g_height g_last g_said g_length g_symmetryCount F (nI P.length) (nI (S + 1)) b_text b_elements b_bonds b_counts b_pile b_marks b_saids b_row b_least b_orbits (upd (upd path P.length (nI x)) P.length (nI x)) b_far b_sums)
    (h2 : x < n0 → fd_ok el0 bo0 el1 bo1 P x = true → P.length + 1 < n1 → wY_found_24 post g_size g_height g_last g_said g_length g_symmetryCount F (nI (P.length + 1)) (nI S) b_text b_elements b_bonds b_counts b_pile b_marks b_saids b_row b_least b_orbits (upd (upd path P.length (nI x)) (P.length + 1) (-1)) b_far b_sums) :
    wY_found_24 post g_size g_height g_last g_said g_length g_symmetryCount (F + 1) (nI P.length) (nI S) b_text b_elements b_bonds b_counts b_pile b_marks b_saids b_row b_least b_orbits path b_far b_sums := by
  have hn0 := hK0.1
  have hn1 := hK1.1
  have hc : path (nI P.length).toNatClampNeg + 1 = nI x := by rw [nI_clamp (by omega)]; exact hpx
  have hu : upd path P.length (nI x) (nI P.length).toNatClampNeg = nI x := wk_c P.length pk_us
  refine br_f (nI_pos (by omega)) (pk_le n1 0 (fun z => absurd z (by omega)) (fun _ => wk_i P.length (wk_v P.length (nI x) hc (wk_i P.length (pk_lt x n0 (fun z => ?_) (fun z => nm_e (hZ (by omega))) hu hT0.1)))) hT1.1)
  refine yy_carries hK0 hK1 hT0 hT1 hP hQ z (fun i hi => by rw [pk_un (by omega)]; exact hp i hi) pk_us (fun hk => br_f wk_10 (pk_eq (P.length + 1) n1 (fun y => ?_) (fun y => ?_) (wk_p _) hT1.1)) (fun hk => br_t rfl (hN z hk))
  · have q := h1 z hk y
    rw [← wk_p] at q
    exact br_f wk_10 (br_f wk_10 (br_f wk_10 (wk_i P.length (wk_v P.length (nI x) hu q))))
  · have q := h2 z hk (by omega)
    refine br_t rfl (br_t rfl (br_t rfl ?_))
    rw [wk_p]
    exact wk_w (P.length + 1) q
theorem yy_found {post : Int32 → SY → Prop} {n0 n1 : Nat} {el0 el1 : Nat → Nat} {bo0 bo1 : Nat → Nat → Nat} (hK0 : mo_K n0 el0 bo0) (hK1 : mo_K n1 el1 bo1) (hT0 : mo_T b_counts b_elements b_bonds 0 n0 el0 bo0) (hT1 : mo_T b_counts b_elements b_bonds 1 n1 el1 bo1) (h0 : n1 = 0 → ∀ path, post 1 (g_size, g_height, g_last, g_said, g_length, g_symmetryCount, b_text, b_elements, b_bonds, b_counts, b_pile, b_marks, b_saids, b_row, b_least, b_orbits, path, b_far, b_sums)) (h1 : 0 < n1 → ∀ path, post (nI (fd_F n0 el0 bo0 el1 bo1 n1 [])) (g_size, g_height, g_last, g_said, g_length, g_symmetryCount, b_text, b_elements, b_bonds, b_counts, b_pile, b_marks, b_saids, b_row, b_least, b_orbits, path, b_far, b_sums)) : wpY_found post (g_size, g_height, g_last, g_said, g_length, g_symmetryCount, b_text, b_elements, b_bonds, b_counts, b_pile, b_marks, b_saids, b_row, b_least, b_orbits, b_path, b_far, b_sums) := by
  have hn0 := hK0.1
  have hn1 := hK1.1
  unfold wpY_found
  refine pk_eq n1 0 (fun z => nm_e (Exists.intro 1 (br_f (by decide) (pk_le n1 0 (fun _ => h0 z _) (fun y => absurd y (by omega)) hT1.1)))) (fun z => nm_e ?_) hT1.1
  obtain ⟨r, rfl⟩ : ∃ r, n1 = r + 1 := ⟨n1 - 1, by omega⟩
  refine Exists.intro (yf_c r + 1) ?_
  have hdfs := yf_dfs (W := yf_W post (g_size, g_height, g_last, g_said, g_length, g_symmetryCount, b_text, b_elements, b_bonds, b_counts, b_pile, b_marks, b_saids, b_row, b_least, b_orbits, b_path, b_far, b_sums)) (n0 := n0) (n1 := r + 1) (lim := yf_c r) (el0 := el0) (el1 := el1) (bo0 := bo0) (bo1 := bo1) hn0
    (fun P S u hP hQ hN => by
      obtain ⟨path, rfl, hp, hpx⟩ := hN
      refine go_1 (fun F ρ _ k => ?_)
      exact yf_step (x := n0) hK0 hK1 hT0 hT1 hP hQ (Nat.le_refl _) hp hpx (fun _ => k (nI P.length + (-1), nI S, upd path P.length (nI n0)) ⟨upd path P.length (nI n0), rfl, fun i hi => by rw [pk_un (by omega)]; exact hp i hi⟩) (fun w => absurd w (by omega)) (fun w => absurd w (by omega)) (fun w => absurd w (by omega)))
    (fun P x S u hP hQ hx hk hN => by
      obtain ⟨path, rfl, hp, hpx⟩ := hN
      refine go_1 (fun F ρ _ k => ?_)
      exact yf_step (x := x) hK0 hK1 hT0 hT1 hP hQ (by omega) hp hpx (fun w => absurd w (by omega)) (fun _ _ => k (nI P.length, nI S, upd path P.length (nI x)) ⟨upd path P.length (nI x), rfl, fun i hi => by rw [pk_un (by omega)]; exact hp i hi, by rw [pk_us, nI_1]⟩) (fun _ w => by rw [hk] at w; exact absurd w (by decide)) (fun _ w => by rw [hk] at w; exact absurd w (by decide)))
    (fun P x S u hP hQ hx hk hN => by
      obtain ⟨path, rfl, hp, hpx⟩ := hN
      refine go_1 (fun F ρ _ k => ?_)
      exact yf_step (x := x) hK0 hK1 hT0 hT1 (by omega) hQ (by omega) hp hpx (fun w => absurd w (by omega)) (fun _ w => by rw [hk] at w; exact absurd w (by decide)) (fun _ _ _ => k (nI P.length, nI (S + 1), upd (upd path P.length (nI x)) P.length (nI x)) ⟨upd (upd path P.length (nI x)) P.length (nI x), rfl, fun i hi => by rw [pk_un (by omega), pk_un (by omega)]; exact hp i hi, by rw [pk_us, nI_1]⟩) (fun _ _ w => absurd w (by omega)))
    (fun P x S u hP hQ hx hk hN => by
      obtain ⟨path, rfl, hp, hpx⟩ := hN
      refine go_1 (fun F ρ _ k => ?_)
      have hl : (P ++ [x]).length = P.length + 1 := by rw [List.length_append]; rfl
      refine yf_step (x := x) hK0 hK1 hT0 hT1 (by omega) hQ (by omega) hp hpx (fun w => absurd w (by omega)) (fun _ w => by rw [hk] at w; exact absurd w (by decide)) (fun _ _ w => absurd w (by omega)) (fun _ _ _ => k (nI (P.length + 1), nI S, upd (upd path P.length (nI x)) (P.length + 1) (-1)) ⟨upd (upd path P.length (nI x)) (P.length + 1) (-1), by rw [hl], fun i hi => ?_, by rw [hl, pk_us]; rfl⟩)
      rw [pk_un (by omega)]
      by_cases e : i = P.length
      · rw [e, pk_us, pe_at_r P]
      · rw [pk_un e, pe_at_l P i (by omega)]; exact hp i (by omega))
    r [] 0 (nI 0, nI 0, upd b_path 0 (-1)) (by simp) (pe_Q0 n0) ⟨_, rfl, fun i hi => absurd hi (by simp), by show upd b_path 0 (-1) 0 + 1 = nI 0; rw [pk_us]; decide⟩
  refine hdfs (yf_c r + 1) 0 (by omega) (by omega) (fun m u hm hu => ?_)
  obtain ⟨path, rfl, _⟩ := hu
  obtain ⟨F', hF'⟩ : ∃ F', yf_c r + 1 - m = F' + 1 := ⟨yf_c r - m, by omega⟩
  rw [hF']
  show wY_found_24 post g_size g_height g_last g_said g_length g_symmetryCount (F' + 1) (-1) (nI (0 + fd_F n0 el0 bo0 el1 bo1 (r + 1) [])) b_text b_elements b_bonds b_counts b_pile b_marks b_saids b_row b_least b_orbits path b_far b_sums
  rw [Nat.zero_add]
  exact br_t (by decide) (h1 (by omega) path)
end
end
section
/-! the reference reads the text -/
def rd_TY (m : Nat) (el : Nat → Nat) (bo : Nat → Nat → Nat) (last : Option Nat) (said h : Nat) (pl : Nat → Nat) (mw : Nat → Option Nat) (mo : Nat → Nat) (he la sa : Int32) (es bs co pi ma sd : XA) : Prop :=
  mo_T co es bs 2 m el bo ∧ la = rd_l last ∧ sa = nI said ∧ he = nI h ∧ (∀ j, j < h → pi j = nI (pl j)) ∧ (∀ k, k < 3 → ma k = rd_l (mw k)) ∧ ∀ k a, k < 3 → mw k = some a → sd k = nI (mo k)
def rd_TYs (s : RdS) (he la sa : Int32) (es bs co pi ma sd : XA) : Prop :=
  match s with
  | (m, el, bo, last, said, h, pl, mw, mo) => rd_TY m el bo last said h pl mw mo he la sa es bs co pi ma sd
/-- the slots stay -/
def yp_F (es bs co es' bs' co' : XA) : Prop := (∀ j, j < 14 → es' j = es j) ∧ (∀ j, j < 98 → bs' j = bs j) ∧ ∀ j, j < 2 → co' j = co j
theorem yp_F_r {es bs co : XA} : yp_F es bs co es bs co := ⟨fun _ _ => rfl, fun _ _ => rfl, fun _ _ => rfl⟩
theorem yp_F_t {es bs co es' bs' co' es'' bs'' co'' : XA} (h : yp_F es bs co es' bs' co') (h' : yp_F es' bs' co' es'' bs'' co'') : yp_F es bs co es'' bs'' co'' := ⟨fun j hj => (h'.1 j hj).trans (h.1 j hj), fun j hj => (h'.2.1 j hj).trans (h.2.1 j hj), fun j hj => (h'.2.2 j hj).trans (h.2.2 j hj)⟩
theorem yp_fr {a b o : Nat} (ha : a < 2 ^ 20) (hb : b < 2 ^ 20) (ho : o < 2 ^ 20) : (nI a - nI b < nI o ↔ ¬ b + o ≤ a) ∧ (nI o ≤ nI a - nI b ↔ b + o ≤ a) := by
  have h := pk_sub_toInt (a := a) (b := b) (by omega) (by omega)
  have h2 := nI_toInt (n := o) (by omega)
  constructor
  · rw [Int32.lt_iff_toInt_lt, h, h2]; omega
  · rw [Int32.le_iff_toInt_le, h, h2]; omega
theorem yp_ix (a b : Nat) : (98 + (7 * nI a)) + nI b = nI (98 + 7 * a + b) := by
  rw [bb_m7, show (98 : Int32) = nI 98 from rfl, nI_add, nI_add]
theorem yp_h {m l : Nat} {el : Nat → Nat} {bo : Nat → Nat → Nat} (hm : m ≤ 7) (hz : ∀ a b, m ≤ a → bo a b = 0) (hs : ∀ a b, bo a b = bo b a) (he : el l ≤ 3) : mo_h m el bo l = nI (4 - el l) - nI (rd_sd bo l) := by
  unfold mo_h rd_sd
  rw [bb_sm_ext (m := m) 7 hm (fun i h1 _ => by rw [hs]; exact hz i l h1), show (4 : Int32) = nI 4 from rfl, pk_sub (a := 4) (by omega)]
section
variable {g_size g_height g_last g_said g_length g_symmetryCount : Int32} {b_text b_elements b_bonds b_counts b_pile b_marks b_saids b_row b_least b_orbits b_path b_far b_sums : Nat → Int32}
theorem yy_tie {post : SY → Prop} {a b o : Nat} (ha : a < 7) (hb : b < 7) (h : post (g_size, g_height, g_last, g_said, g_length, g_symmetryCount, b_text, b_elements, upd (upd b_bonds (98 + 7 * a + b) (nI o)) (98 + 7 * b + a) (nI o), b_counts, b_pile, b_marks, b_saids, b_row, b_least, b_orbits, b_path, b_far, b_sums)) : wpY_tie post (g_size, g_height, g_last, g_said, g_length, g_symmetryCount, b_text, b_elements, b_bonds, b_counts, b_pile, b_marks, b_saids, b_row, b_least, b_orbits, b_path, b_far, b_sums) (nI a) (nI b) (nI o) := by
  unfold wpY_tie
  exact wk_w (98 + 7 * a + b) (wk_w (98 + 7 * b + a) h (by omega) (yp_ix b a)) (by omega) (yp_ix a b)
theorem yy_takeAtom {post : Int32 → SY → Prop} {i t m : Nat} {el : Nat → Nat} {bo : Nat → Nat → Nat} {last : Option Nat} {said h : Nat} {pl : Nat → Nat} {mw : Nat → Option Nat} {mo : Nat → Nat} (ht : t < 4) (hI : rd_I i m el bo last said h pl mw mo) (hT : rd_TY m el bo last said h pl mw mo g_height g_last g_said b_elements b_bonds b_counts b_pile b_marks b_saids)
    (h0 : rd_atom t m el bo last said h pl mw mo = none → ∀ he la sa es bs co pi ma sd, yp_F b_elements b_bonds b_counts es bs co → post 0 (g_size, he, la, sa, g_length, g_symmetryCount, b_text, es, bs, co, pi, ma, sd, b_row, b_least, b_orbits, b_path, b_far, b_sums))
    (h1 : ∀ s', rd_atom t m el bo last said h pl mw mo = some s' → ∀ he la sa es bs co pi ma sd, yp_F b_elements b_bonds b_counts es bs co → rd_TYs s' he la sa es bs co pi ma sd → post 1 (g_size, he, la, sa, g_length, g_symmetryCount, b_text, es, bs, co, pi, ma, sd, b_row, b_least, b_orbits, b_path, b_far, b_sums)) :
    wpY_takeAtom post (g_size, g_height, g_last, g_said, g_length, g_symmetryCount, b_text, b_elements, b_bonds, b_counts, b_pile, b_marks, b_saids, b_row, b_least, b_orbits, b_path, b_far, b_sums) (nI t) := by
  obtain ⟨i1, i2, i3, i4, i5, i6, i7, i8, i9, i10, i11, i12⟩ := hI
  obtain ⟨tT, rfl, rfl, rfl, t8, t9, t10⟩ := hT
  have tc : b_counts 2 = nI m := tT.1
  have hb0 : ∀ x, bo x m = 0 := fun x => by rw [i3]; exact i5 m x (Nat.le_refl _)
  have ho := rd_o_le i8
  -- the new atom is written
  have W : m < 7 → ∀ q : Nat, (q = 0 → last = none ∧ ¬ 0 < said) → (q ≠ 0 → q = 1 ∧ ∃ l, last = some l ∧ rd_sd bo l + rd_o said ≤ 4 - el l ∧ rd_o said ≤ 4 - t) → wY_takeAtom_77 post (nI t) (nI (rd_o said)) (nI q) g_size (nI h) (rd_l last) (nI said) g_length g_symmetryCount b_text b_elements b_bonds b_counts b_pile b_marks b_saids b_row b_least b_orbits b_path b_far b_sums := by
    intro hm q hq0 hq1
    have E : ∀ bs, (∀ x y, x < 7 → y < 7 → (x = m ∨ y = m) → bs (98 + 7 * x + y) = 0) → (∀ x y, x < 7 → y < 7 → x ≠ m → y ≠ m → bs (98 + 7 * x + y) = b_bonds (98 + 7 * x + y)) → (∀ j, j < 98 → bs j = b_bonds j) → wY_takeAtom_99 post (nI (rd_o said)) (nI q) (nI m) 1 (nI 7) g_size (nI h) (rd_l last) (nI said) g_length g_symmetryCount b_text (upd b_elements (14 + m) (nI t)) bs b_counts b_pile b_marks b_saids b_row b_least b_orbits b_path b_far b_sums := by
      intro bs hz hk hfr
      have hE : ∀ a, a < m + 1 → upd b_elements (14 + m) (nI t) (7 * 2 + a) = nI (rd_u el m t a) := fun a ha => by
        by_cases e : a = m
        · rw [e, rd_us]; exact pk_us
        · rw [pk_un (by omega), rd_un e]; exact tT.2.1 a (by omega)
      have hB0 : ∀ a b, a < m + 1 → b < m + 1 → bs (98 + 7 * a + b) = nI (bo a b) := fun a b ha hb => by
        by_cases e : a = m ∨ b = m
        · rw [hz a b (by omega) (by omega) e]
          rcases e with e | e
          · rw [e, i5 m b (Nat.le_refl _)]; rfl
          · rw [e, hb0]; rfl
        · rw [hk a b (by omega) (by omega) (by omega) (by omega)]; exact tT.2.2 a b (by omega) (by omega)
      have hF : ∀ bs', (∀ j, j < 98 → bs' j = b_bonds j) → yp_F b_elements b_bonds b_counts (upd b_elements (14 + m) (nI t)) bs' (upd b_counts 2 (nI (m + 1))) := fun bs' hb' => ⟨fun j hj => by rw [pk_un (by omega)], hb', fun j hj => by rw [pk_un (by omega)]⟩
      refine pk_le 7 7 (fun _ => nm_r (e' := upd b_counts 2 (nI (m + 1))) (by rw [tc, nI_1]) (pk_eq q 0 (fun z => ?_) (fun z => ?_) rfl rfl (by rcases Nat.eq_zero_or_pos q with y | y; omega; have := (hq1 (by omega)).1; omega))) (fun z => absurd z (by omega))
      · obtain ⟨hl, hsd⟩ := hq0 z
        subst hl
        refine h1 (m + 1, rd_u el m t, bo, some m, 0, h, pl, mw, mo) ?_ _ _ _ _ _ _ _ _ _ (hF bs hfr) ⟨⟨pk_us, hE, hB0⟩, rfl, rfl, rfl, t8, t9, t10⟩
        unfold rd_atom
        rw [if_neg (by omega)]
        dsimp only
        rw [if_neg hsd]
      · obtain ⟨_, l, rfl, c1, c2⟩ := hq1 z
        have hl := i7 l rfl
        refine yy_tie (a := m) (b := l) (o := rd_o said) hm (by omega) (h1 (m + 1, rd_u el m t, rd_jn bo l m (rd_o said), some m, 0, h, pl, mw, mo) ?_ _ _ _ _ _ _ _ _ _ (hF _ (fun j hj => by rw [pk_un (by omega), pk_un (by omega)]; exact hfr j hj)) ⟨⟨pk_us, hE, fun a b ha hb => ?_⟩, rfl, rfl, rfl, t8, t9, t10⟩)
        · unfold rd_atom
          rw [if_neg (by omega)]
          dsimp only
          rw [if_pos ⟨c1, c2⟩]
        · show upd (upd bs (98 + 7 * m + l) _) (98 + 7 * l + m) _ (98 + 7 * a + b) = _
          unfold rd_jn
          by_cases e1 : a = l ∧ b = m
          · rw [e1.1, e1.2, pk_us, if_pos (Or.inl ⟨rfl, rfl⟩)]
          · rw [pk_un (by omega)]
            by_cases e2 : a = m ∧ b = l
            · rw [e2.1, e2.2, pk_us, if_pos (Or.inr ⟨rfl, rfl⟩)]
            · rw [pk_un (by omega), if_neg (by omega)]; exact hB0 a b ha hb
    have L : ∀ d j bs, j + d = 7 → (∀ x y, x < 7 → y < 7 → (x = m ∧ y < j) ∨ (y = m ∧ x < j) → bs (98 + 7 * x + y) = 0) → (∀ x y, x < 7 → y < 7 → x ≠ m → y ≠ m → bs (98 + 7 * x + y) = b_bonds (98 + 7 * x + y)) → (∀ j, j < 98 → bs j = b_bonds j) → wY_takeAtom_99 post (nI (rd_o said)) (nI q) (nI m) (d + 1) (nI j) g_size (nI h) (rd_l last) (nI said) g_length g_symmetryCount b_text (upd b_elements (14 + m) (nI t)) bs b_counts b_pile b_marks b_saids b_row b_least b_orbits b_path b_far b_sums := by
      intro d
      induction d with
      | zero =>
        intro j bs hj hz hk hfr
        have e : j = 7 := by omega
        subst e
        exact E bs (fun x y hx hy hxy => hz x y hx hy (by omega)) hk hfr
      | succ d ih =>
        intro j bs hj hz hk hfr
        refine pk_le 7 j (fun z => absurd z (by omega)) (fun _ => yy_tie (a := m) (b := j) (o := 0) hm (by omega) (nm_r (wk_p j) (ih (j + 1) _ (by omega) (fun x y hx hy hxy => ?_) (fun x y hx hy h1 h2 => ?_) (fun q hq => ?_))))
        · by_cases e1 : 98 + 7 * x + y = 98 + 7 * j + m
          · rw [e1, pk_us]; rfl
          · rw [pk_un e1]
            by_cases e2 : 98 + 7 * x + y = 98 + 7 * m + j
            · rw [e2, pk_us]; rfl
            · rw [pk_un e2]; exact hz x y hx hy (by omega)
        · rw [pk_un (by omega), pk_un (by omega)]; exact hk x y hx hy h1 h2
        · rw [pk_un (by omega), pk_un (by omega)]; exact hfr q hq
    refine nm_r tc (wk_w (14 + m) (Exists.intro 8 (L 7 0 b_bonds (by omega) (fun x y _ _ z => absurd z (by omega)) (fun _ _ _ _ _ _ => rfl) (fun _ _ => rfl))) (by omega) (nI_add 14 m))
  have N0 : rd_atom t m el bo last said h pl mw mo = none → post 0 (g_size, nI h, rd_l last, nI said, g_length, g_symmetryCount, b_text, b_elements, b_bonds, b_counts, b_pile, b_marks, b_saids, b_row, b_least, b_orbits, b_path, b_far, b_sums) := fun hz => h0 hz _ _ _ _ _ _ _ _ _ yp_F_r
  have K15 : wY_takeAtom_15 post (nI t) (nI (rd_o said)) g_size (nI h) (rd_l last) (nI said) g_length g_symmetryCount b_text b_elements b_bonds b_counts b_pile b_marks b_saids b_row b_least b_orbits b_path b_far b_sums := by
    cases last with
    | none =>
      refine br_t (by decide) (pk_eq m 7 (fun z => N0 (by unfold rd_atom; rw [if_pos z])) (fun z => br_t rfl (pk_lt 0 said (fun y => N0 ?_) (fun y => br_t rfl (W (by omega) 0 (fun _ => ⟨rfl, by omega⟩) (fun w => absurd rfl w))))) tc)
      unfold rd_atom
      rw [if_neg z]
      dsimp only
      rw [if_pos y]
    | some l =>
      have hl := i7 l rfl
      have hle := i2 l hl
      have hsl := rd_sd_le i6 l
      have hfr := yp_fr (a := 4 - el l) (b := rd_sd bo l) (o := rd_o said) (by omega) (by omega) (by omega)
      refine br_f (nI_pos (by omega)) (pk_eq m 7 (fun z => N0 (by unfold rd_atom; rw [if_pos z])) (fun z => br_f wk_10 (br_f wk_10 (yy_free (s := 2) (by omega) i1 tT hl ?_))) tc)
      rw [yp_h i1 i5 i3 hle]
      refine br_c (fun y => N0 ?_) (fun y => pk_le (rd_o said) (4 - t) (fun w => W (by omega) 1 (fun v => absurd v (by omega)) (fun _ => ⟨rfl, l, rfl, ?_, w⟩)) (fun w => N0 ?_) rfl (pk_sub (a := 4) (by omega)))
      · have := hfr.1.mp y
        unfold rd_atom
        rw [if_neg z]
        dsimp only
        rw [if_neg (fun v => this v.1)]
      · exact Classical.not_not.mp (fun v => y (hfr.1.mpr v))
      · unfold rd_atom
        rw [if_neg z]
        dsimp only
        rw [if_neg (by omega)]
  unfold wpY_takeAtom
  refine pk_eq said 0 (fun z => ?_) (fun z => ?_)
  · rw [show rd_o said = 1 from if_pos z] at K15; exact K15
  · rw [show rd_o said = said from if_neg z] at K15; exact K15
theorem yy_takeMark {post : Int32 → SY → Prop} {i q m : Nat} {el : Nat → Nat} {bo : Nat → Nat → Nat} {last : Option Nat} {said h : Nat} {pl : Nat → Nat} {mw : Nat → Option Nat} {mo : Nat → Nat} (hq : q < 3) (hI : rd_I i m el bo last said h pl mw mo) (hT : rd_TY m el bo last said h pl mw mo g_height g_last g_said b_elements b_bonds b_counts b_pile b_marks b_saids)
    (h0 : rd_mark q m el bo last said h pl mw mo = none → ∀ he la sa es bs co pi ma sd, yp_F b_elements b_bonds b_counts es bs co → post 0 (g_size, he, la, sa, g_length, g_symmetryCount, b_text, es, bs, co, pi, ma, sd, b_row, b_least, b_orbits, b_path, b_far, b_sums))
    (h1 : ∀ s', rd_mark q m el bo last said h pl mw mo = some s' → ∀ he la sa es bs co pi ma sd, yp_F b_elements b_bonds b_counts es bs co → rd_TYs s' he la sa es bs co pi ma sd → post 1 (g_size, he, la, sa, g_length, g_symmetryCount, b_text, es, bs, co, pi, ma, sd, b_row, b_least, b_orbits, b_path, b_far, b_sums)) :
    wpY_takeMark post (g_size, g_height, g_last, g_said, g_length, g_symmetryCount, b_text, b_elements, b_bonds, b_counts, b_pile, b_marks, b_saids, b_row, b_least, b_orbits, b_path, b_far, b_sums) (nI q) := by
  obtain ⟨i1, i2, i3, i4, i5, i6, i7, i8, i9, i10, i11, i12⟩ := hI
  obtain ⟨tT, rfl, rfl, rfl, t8, t9, t10⟩ := hT
  unfold wpY_takeMark
  cases last with
  | none => exact br_f (by decide) (h0 rfl _ _ _ _ _ _ _ _ _ yp_F_r)
  | some l =>
    have hl := i7 l rfl
    have hmq : b_marks (nI q).toNatClampNeg = rd_l (mw q) := wk_c q (t9 q hq)
    refine br_t (nI_pos' (by omega)) (wk_i q ?_)
    rw [hmq]
    cases hk : mw q with
    | none =>
      refine br_f (by decide) (wk_w q (wk_w q (h1 (m, el, bo, some l, 0, h, pl, rd_u mw q (some l), rd_u mo q said) ?_ _ _ _ _ _ _ _ _ _ yp_F_r ⟨tT, rfl, rfl, rfl, t8, fun k hk' => ?_, fun k a hk' he => ?_⟩)))
      · unfold rd_mark
        dsimp only
        rw [hk]
      · by_cases e : k = q
        · rw [e, pk_us, rd_us]
        · rw [pk_un e, rd_un e]; exact t9 k hk'
      · by_cases e : k = q
        · rw [e, pk_us, rd_us]
        · rw [rd_un e] at he
          rw [pk_un e, rd_un e]; exact t10 k a hk' he
    | some a =>
      have ha := i11 q a hk
      have hmo := i12 q a hk
      have hmO : b_saids (nI q).toNatClampNeg = nI (mo q) := wk_c q (t10 q a hq hk)
      have hb3 := i6 a l
      have no : (a = l ∨ 0 < bo a l ∨ (0 < said ∧ 0 < mo q ∧ said ≠ mo q)) → rd_mark q m el bo (some l) said h pl mw mo = none := fun z => by
        unfold rd_mark
        dsimp only
        rw [hk]
        dsimp only
        rw [if_pos z]
      have N0 : rd_mark q m el bo (some l) said h pl mw mo = none → post 0 (g_size, nI h, rd_l (some l), nI said, g_length, g_symmetryCount, b_text, b_elements, b_bonds, b_counts, b_pile, b_marks, b_saids, b_row, b_least, b_orbits, b_path, b_far, b_sums) := fun hz => h0 hz _ _ _ _ _ _ _ _ _ yp_F_r
      have C124 : ∀ (o d : Nat), (d = 0 ↔ ¬ (0 < said ∧ 0 < mo q ∧ said ≠ mo q)) → d ≤ 1 → o ≤ 3 → (¬ (0 < said ∧ 0 < mo q ∧ said ≠ mo q) → o = (if 0 < said then said else rd_o (mo q))) → wY_takeMark_124 post (nI q) (nI a) (nI o) (nI d) g_size (nI h) (rd_l (some l)) (nI said) g_length g_symmetryCount b_text b_elements b_bonds b_counts b_pile b_marks b_saids b_row b_least b_orbits b_path b_far b_sums := fun o d hd hd1 ho3 ho => by
        refine pk_eq a l (fun z => N0 (no (Or.inl z))) (fun z => yy_orderOf (s := 2) (by omega) (by omega) (by omega) ?_)
        rw [tT.2.2 a l ha hl]
        refine pk_lt 0 (bo a l) (fun y => N0 (no (Or.inr (Or.inl y)))) (fun y => pk_eq d 0 (fun w => ?_) (fun w => N0 (no (Or.inr (Or.inr (Classical.not_not.mp (fun x => w (hd.mpr x))))))))
        have hnd := hd.mp w
        have ho' := ho hnd
        have hno : ¬ (a = l ∨ 0 < bo a l ∨ (0 < said ∧ 0 < mo q ∧ said ≠ mo q)) := by
          rintro (x | x | x)
          · exact z x
          · omega
          · exact hnd x
        have hba : bo a l = 0 := by omega
        have hea := i2 a ha
        have hel := i2 l hl
        have hsa := rd_sd_le i6 a
        have hsl := rd_sd_le i6 l
        have hfa := yp_fr (a := 4 - el a) (b := rd_sd bo a) (o := o) (by omega) (by omega) (by omega)
        have hfl := yp_fr (a := 4 - el l) (b := rd_sd bo l) (o := o) (by omega) (by omega) (by omega)
        have nj : ¬ (rd_sd bo a + o ≤ 4 - el a ∧ rd_sd bo l + o ≤ 4 - el l) → rd_mark q m el bo (some l) said h pl mw mo = none := fun v => by
          unfold rd_mark
          dsimp only
          rw [hk]
          dsimp only
          rw [if_neg hno, ← ho', if_neg v]
        refine yy_free (s := 2) (by omega) i1 tT ha ?_
        rw [yp_h i1 i5 i3 hea]
        refine br_c (fun x => N0 (nj (fun v => hfa.1.mp x v.1))) (fun x => yy_free (s := 2) (by omega) i1 tT hl ?_)
        rw [yp_h i1 i5 i3 hel]
        refine br_c (fun v => ?_) (fun v => N0 (nj (fun u => v (hfl.2.mpr u.2))))
        refine yy_tie (a := a) (b := l) (o := o) (by omega) (by omega) (wk_w q (h1 (m, el, rd_jn bo a l o, some l, 0, h, pl, rd_u mw q none, mo) ?_ _ _ _ _ _ _ _ _ _ ⟨fun _ _ => rfl, fun j hj => by rw [pk_un (by omega), pk_un (by omega)], fun _ _ => rfl⟩ ⟨⟨tT.1, tT.2.1, fun x y hx hy => ?_⟩, rfl, rfl, rfl, t8, fun k hk' => ?_, fun k b hk' he => ?_⟩))
        · unfold rd_mark
          dsimp only
          rw [hk]
          dsimp only
          rw [if_neg hno, ← ho', if_pos ⟨Classical.not_not.mp (fun u => x (hfa.1.mpr u)), hfl.2.mp v⟩]
        · show upd (upd b_bonds (98 + 7 * a + l) _) (98 + 7 * l + a) _ (98 + 7 * x + y) = _
          unfold rd_jn
          by_cases e1 : x = l ∧ y = a
          · rw [e1.1, e1.2, pk_us, if_pos (Or.inr ⟨rfl, rfl⟩)]
          · rw [pk_un (by omega)]
            by_cases e2 : x = a ∧ y = l
            · rw [e2.1, e2.2, pk_us, if_pos (Or.inl ⟨rfl, rfl⟩)]
            · rw [pk_un (by omega), if_neg (by omega)]; exact tT.2.2 x y hx hy
        · by_cases e : k = q
          · rw [e, pk_us, rd_us]; rfl
          · rw [pk_un e, rd_un e]; exact t9 k hk'
        · by_cases e : k = q
          · rw [e, rd_us] at he; exact absurd he (by simp)
          · rw [rd_un e] at he; exact t10 k b hk' he
      -- the order that both say
      have C88 : ∀ o, o ≤ 3 → (¬ (0 < said ∧ 0 < mo q ∧ said ≠ mo q) → o = (if 0 < said then said else rd_o (mo q))) → wY_takeMark_88 post (nI q) (nI a) (nI o) g_size (nI h) (rd_l (some l)) (nI said) g_length g_symmetryCount b_text b_elements b_bonds b_counts b_pile b_marks b_saids b_row b_least b_orbits b_path b_far b_sums := fun o ho3 ho => by
        have Z : ¬ (0 < said ∧ 0 < mo q ∧ said ≠ mo q) → wY_takeMark_123 post (nI q) (nI a) (nI o) g_size (nI h) (rd_l (some l)) (nI said) g_length g_symmetryCount b_text b_elements b_bonds b_counts b_pile b_marks b_saids b_row b_least b_orbits b_path b_far b_sums := fun z => C124 o 0 ⟨fun _ => z, fun _ => rfl⟩ (by omega) ho3 ho
        exact pk_le said 0 (fun z => Z (by omega)) (fun z => wk_i q (pk_le (mo q) 0 (fun y => Z (by omega)) (fun y => wk_i q (pk_eq said (mo q) (fun x => Z (by omega)) (fun x => C124 o 1 ⟨fun w => absurd w (by omega), fun w => absurd ⟨z, y, x⟩ w⟩ (by omega) ho3 ho) rfl hmO)) hmO))
      have C78 : ∀ b, b ≤ 3 → (¬ (0 < said ∧ 0 < mo q ∧ said ≠ mo q) → (if b = 0 then 1 else b) = (if 0 < said then said else rd_o (mo q))) → wY_takeMark_78 post (nI q) (nI a) (nI b) g_size (nI h) (rd_l (some l)) (nI said) g_length g_symmetryCount b_text b_elements b_bonds b_counts b_pile b_marks b_saids b_row b_least b_orbits b_path b_far b_sums := fun b hb hbo =>
        pk_eq b 0 (fun z => C88 1 (by omega) (fun y => by have := hbo y; rw [if_pos z] at this; exact this)) (fun z => C88 b hb (fun y => by have := hbo y; rw [if_neg z] at this; exact this))
      refine br_t (nI_pos' (by omega)) (wk_i q (nm_r (e' := nI a) rfl (wk_i q (pk_le said (mo q) (fun z => wk_i q ?_) (fun z => C78 said i8 (fun y => ?_)) rfl hmO))))
      · rw [hmO]
        refine C78 (mo q) hmo (fun y => ?_)
        by_cases w : 0 < said
        · rw [if_pos w]
          have : said = mo q := by
            rcases Nat.eq_zero_or_pos (mo q) with v | v
            · omega
            · exact Classical.not_not.mp (fun u => y ⟨w, v, u⟩)
          rw [if_neg (by omega), this]
        · rw [if_neg w]; rfl
      · rw [if_pos (show 0 < said by omega), if_neg (show ¬ said = 0 by omega)]
theorem yy_takeSign {post : Int32 → SY → Prop} {i t pv m : Nat} {el : Nat → Nat} {bo : Nat → Nat → Nat} {last : Option Nat} {said h : Nat} {pl : Nat → Nat} {mw : Nat → Option Nat} {mo : Nat → Nat} (ht : 10 ≤ t ∧ t ≤ 14) (hi : i < 24) (htx : b_text i = nI t) (hpv : 0 < i → b_text (i - 1) = nI pv) (hpl : pv < 100) (hI : rd_I i m el bo last said h pl mw mo) (hT : rd_TY m el bo last said h pl mw mo g_height g_last g_said b_elements b_bonds b_counts b_pile b_marks b_saids)
    (h0 : rd_sign t pv m el bo last said h pl mw mo = none → ∀ he la sa es bs co pi ma sd, yp_F b_elements b_bonds b_counts es bs co → post 0 (g_size, he, la, sa, g_length, g_symmetryCount, b_text, es, bs, co, pi, ma, sd, b_row, b_least, b_orbits, b_path, b_far, b_sums))
    (h1 : ∀ s', rd_sign t pv m el bo last said h pl mw mo = some s' → ∀ he la sa es bs co pi ma sd, yp_F b_elements b_bonds b_counts es bs co → rd_TYs s' he la sa es bs co pi ma sd → post 1 (g_size, he, la, sa, g_length, g_symmetryCount, b_text, es, bs, co, pi, ma, sd, b_row, b_least, b_orbits, b_path, b_far, b_sums)) :
    wpY_takeSign post (g_size, g_height, g_last, g_said, g_length, g_symmetryCount, b_text, b_elements, b_bonds, b_counts, b_pile, b_marks, b_saids, b_row, b_least, b_orbits, b_path, b_far, b_sums) (nI i) := by
  obtain ⟨i1, i2, i3, i4, i5, i6, i7, i8, i9, i10, i11, i12⟩ := hI
  obtain ⟨tT, rfl, rfl, rfl, t8, t9, t10⟩ := hT
  have N0 : rd_sign t pv m el bo last said h pl mw mo = none → post 0 (g_size, nI h, rd_l last, nI said, g_length, g_symmetryCount, b_text, b_elements, b_bonds, b_counts, b_pile, b_marks, b_saids, b_row, b_least, b_orbits, b_path, b_far, b_sums) := fun hz => h0 hz _ _ _ _ _ _ _ _ _ yp_F_r
  -- open or not, as a flag
  have S26 : ∀ d : Nat, d ≤ 1 → (d = 1 ↔ (∃ l, last = some l) ∧ said = 0) → wY_takeSign_26 post (nI i) (nI t) (nI d) g_size (nI h) (rd_l last) (nI said) g_length g_symmetryCount b_text b_elements b_bonds b_counts b_pile b_marks b_saids b_row b_least b_orbits b_path b_far b_sums := fun d hd1 hd => by
    have op : d = 0 → t ≠ 11 → rd_sign t pv m el bo last said h pl mw mo = none := fun hz h11 => by
      unfold rd_sign
      rw [if_neg h11]
      cases last with
      | none => rfl
      | some l =>
        dsimp only
        rw [if_pos]
        rcases Nat.eq_zero_or_pos said with y | y
        · have := hd.mpr ⟨⟨l, rfl⟩, y⟩; omega
        · exact y
    have S146 : t ≠ 10 → t ≠ 11 → t ≠ 12 → t ≠ 13 → wY_takeSign_146 post (nI t) (nI d) g_size (nI h) (rd_l last) (nI said) g_length g_symmetryCount b_text b_elements b_bonds b_counts b_pile b_marks b_saids b_row b_least b_orbits b_path b_far b_sums := fun e10 e11 e12 e13 => by
      have e14 : t = 14 := by omega
      refine pk_eq t 14 (fun _ => pk_eq d 0 (fun z => N0 (op z e11)) (fun z => ?_)) (fun z => absurd e14 z)
      obtain ⟨⟨l, rfl⟩, hsd⟩ := hd.mp (by omega)
      refine pk_eq h 0 (fun y => h1 (m, el, bo, none, said, h, pl, mw, mo) ?_ _ _ _ _ _ _ _ _ _ yp_F_r ⟨tT, rfl, rfl, rfl, t8, t9, t10⟩) (fun y => N0 ?_)
      · unfold rd_sign
        rw [if_neg e11]
        dsimp only
        rw [if_neg (by omega), if_neg e10, if_pos e14, if_pos y]
      · unfold rd_sign
        rw [if_neg e11]
        dsimp only
        rw [if_neg (by omega), if_neg e10, if_pos e14, if_neg y]
    have S132 : (t = 12 ∨ t = 13) → wY_takeSign_132 post (nI t) (nI d) g_size (nI h) (rd_l last) (nI said) g_length g_symmetryCount b_text b_elements b_bonds b_counts b_pile b_marks b_saids b_row b_least b_orbits b_path b_far b_sums := fun et => by
      refine pk_eq d 0 (fun z => pk_eq t 14 (fun y => absurd y (by omega)) (fun y => N0 (op z (by omega)))) (fun z => nm_r (e' := nI (t - 10)) (pk_sub (b := 10) (by omega)) ?_)
      obtain ⟨⟨l, rfl⟩, hsd⟩ := hd.mp (by omega)
      refine h1 (m, el, bo, some l, t - 10, h, pl, mw, mo) ?_ _ _ _ _ _ _ _ _ _ yp_F_r ⟨tT, rfl, rfl, rfl, t8, t9, t10⟩
      unfold rd_sign
      rw [if_neg (by omega)]
      dsimp only
      rw [if_neg (by omega), if_neg (by omega), if_neg (by omega)]
    have S120 : t ≠ 10 → t ≠ 11 → wY_takeSign_120 post (nI t) (nI d) g_size (nI h) (rd_l last) (nI said) g_length g_symmetryCount b_text b_elements b_bonds b_counts b_pile b_marks b_saids b_row b_least b_orbits b_path b_far b_sums := fun e10 e11 =>
      pk_eq t 12 (fun z => S132 (Or.inl z)) (fun z => pk_eq t 13 (fun y => S132 (Or.inr y)) (fun y => S146 e10 e11 z y))
    have N120 : (t = 10 ∨ t = 11) → rd_sign t pv m el bo last said h pl mw mo = none → wY_takeSign_120 post (nI t) (nI d) g_size (nI h) (rd_l last) (nI said) g_length g_symmetryCount b_text b_elements b_bonds b_counts b_pile b_marks b_saids b_row b_least b_orbits b_path b_far b_sums := fun et hz =>
      pk_eq t 12 (fun z => absurd z (by omega)) (fun z => pk_eq t 13 (fun y => absurd y (by omega)) (fun y => pk_eq t 14 (fun w => absurd w (by omega)) (fun _ => N0 hz)))
    have S62 : (t = 10 → d = 0) → wY_takeSign_62 post (nI i) (nI t) (nI d) g_size (nI h) (rd_l last) (nI said) g_length g_symmetryCount b_text b_elements b_bonds b_counts b_pile b_marks b_saids b_row b_least b_orbits b_path b_far b_sums := fun e10 => by
      refine pk_eq t 11 (fun z => ?_) (fun z => ?_)
      · refine pk_le h 0 (fun y => N120 (Or.inr z) ?_) (fun y => pk_eq said 0 (fun x => wk_i (i - 1) (pk_eq pv 10 (fun w => N120 (Or.inr z) ?_) (fun w => nm_r (wk_s y) (wk_i (h - 1) (nm_r (e' := nI (pl (h - 1))) (wk_c (h - 1) (t8 _ (by omega))) (h1 (m, el, bo, some (pl (h - 1)), said, h - 1, pl, mw, mo) ?_ _ _ _ _ _ _ _ _ _ yp_F_r ⟨tT, rfl, rfl, rfl, fun j hj => t8 j (by omega), t9, t10⟩)))) (wk_c (i - 1) (hpv (by omega)) (wk_s (by omega)))) (by omega) (wk_s (by omega))) (fun x => N120 (Or.inr z) ?_))
        · unfold rd_sign; rw [if_pos z, if_pos (Or.inl (by omega))]
        · unfold rd_sign; rw [if_pos z, if_pos (Or.inr (Or.inr w))]
        · unfold rd_sign; rw [if_pos z, if_neg (by omega)]
        · unfold rd_sign; rw [if_pos z, if_pos (Or.inr (Or.inl (by omega)))]
      · rcases Classical.em (t = 10) with y | y
        · exact N120 (Or.inl y) (op (e10 y) z)
        · exact S120 y z
    refine pk_eq t 10 (fun z => pk_eq d 0 (fun y => S62 (fun _ => y)) (fun y => ?_)) (fun z => S62 (fun w => absurd w z))
    obtain ⟨⟨l, rfl⟩, hsd⟩ := hd.mp (by omega)
    refine wk_w h (nm_r (wk_p h) (h1 (m, el, bo, some l, said, h + 1, rd_u pl h l, mw, mo) ?_ _ _ _ _ _ _ _ _ _ yp_F_r ⟨tT, rfl, rfl, rfl, fun j hj => ?_, t9, t10⟩))
    · unfold rd_sign
      rw [if_neg (by omega)]
      dsimp only
      rw [if_neg (by omega), if_pos z]
    · by_cases e : j = h
      · rw [e, pk_us, rd_us]; rfl
      · rw [pk_un e, rd_un e]; exact t8 j (by omega)
  unfold wpY_takeSign
  refine wk_i i (nm_r (e' := nI t) (wk_c i htx) ?_)
  cases last with
  | none => exact br_t (by decide) (S26 0 (by omega) ⟨fun z => absurd z (by omega), fun z => by obtain ⟨⟨l, hl⟩, _⟩ := z; exact absurd hl (by simp)⟩)
  | some l =>
    have hl := i7 l rfl
    exact br_f (nI_pos (by omega)) (pk_eq said 0 (fun z => S26 1 (by omega) ⟨fun _ => ⟨⟨l, rfl⟩, z⟩, fun _ => rfl⟩) (fun z => S26 0 (by omega) ⟨fun y => absurd y (by omega), fun y => absurd y.2 z⟩))
end
end
section
/-- the text's molecule, if the text is right -/
def yt_M (tx : Nat → Nat) (c : Nat) (es bs co : XA) : Prop := (rd_all tx c).1 = -4 → match (rd_all tx c).2 with | (m, el, bo, _, _, _, _, _, _) => mo_T co es bs 2 m el bo
section
variable {g_size g_height g_last g_said g_length g_symmetryCount : Int32} {b_text b_elements b_bonds b_counts b_pile b_marks b_saids b_row b_least b_orbits b_path b_far b_sums : Nat → Int32}
theorem yt_44 {post : Int32 → SY → Prop} {c : Nat} {tx : Nat → Nat} (hc : c ≤ 24) (hcc : g_size = nI c) (htx : ∀ i, i < c → b_text i = nI (tx i) ∧ rd_tk (tx i))
    (h : ∀ he la sa es bs co pi ma sd, yp_F b_elements b_bonds b_counts es bs co → yt_M tx c es bs co → post (rd_all tx c).1 (g_size, he, la, sa, g_length, g_symmetryCount, b_text, es, bs, co, pi, ma, sd, b_row, b_least, b_orbits, b_path, b_far, b_sums)) :
    ∀ (d i : Nat) (s : RdS) (he la sa : Int32) (es bs co pi ma sd : XA), i + d = c → rd_IS i s → rd_TYs s he la sa es bs co pi ma sd → yp_F b_elements b_bonds b_counts es bs co → rd_lp tx d i s = rd_all tx c → wY_readText_44 post (d + 1) (nI i) g_size he la sa g_length g_symmetryCount b_text es bs co pi ma sd b_row b_least b_orbits b_path b_far b_sums := by
  intro d
  induction d with
  | zero =>
    intro i s he la sa es bs co pi ma sd hi hI hT hF hl
    have e : i = c := by omega
    subst e
    have hl' : (bif rd_en tx i s then (-4 : Int32) else nI i, s) = rd_all tx i := hl
    have hM : rd_en tx i s = true → yt_M tx i es bs co := fun _ _ => by
      rw [← hl']
      obtain ⟨m, el, bo, last, said, hh, pl, mw, mo⟩ := s
      exact hT.1
    have hno : rd_en tx i s = false → post (nI i) (g_size, he, la, sa, g_length, g_symmetryCount, b_text, es, bs, co, pi, ma, sd, b_row, b_least, b_orbits, b_path, b_far, b_sums) := fun hz => by
      have k := h he la sa es bs co pi ma sd hF (fun y => by
        rw [← hl', hz] at y; exact absurd y (bb_ne4 (by omega)))
      rw [← hl', hz] at k; exact k
    have hyes : rd_en tx i s = true → post (-4) (g_size, he, la, sa, g_length, g_symmetryCount, b_text, es, bs, co, pi, ma, sd, b_row, b_least, b_orbits, b_path, b_far, b_sums) := fun hz => by
      have k := h he la sa es bs co pi ma sd hF (hM hz)
      rw [← hl', hz] at k; exact k
    obtain ⟨m, el, bo, last, said, hh, pl, mw, mo⟩ := s
    obtain ⟨i1, i2, i3, i4, i5, i6, i7, i8, i9, i10, i11, i12⟩ := hI
    obtain ⟨tT, rfl, rfl, rfl, t8, t9, t10⟩ := hT
    have hen : rd_en tx i (m, el, bo, last, said, hh, pl, mw, mo) = decide (mw 0 = none ∧ mw 1 = none ∧ mw 2 = none ∧ hh = 0 ∧ said = 0 ∧ (i = 0 ∨ tx (i - 1) ≠ 14)) := rfl
    rw [hen] at hno hyes
    have hmk : ∀ k, k < 3 → (0 ≤ ma k ↔ ¬ mw k = none) := fun k hk => by
      rw [t9 k hk]
      cases hz : mw k with
      | none => exact ⟨fun w => absurd w (by decide), fun w => absurd rfl w⟩
      | some a => exact ⟨fun _ => by simp, fun _ => nI_pos' (by have := i11 k a hz; omega)⟩
    have bad : ¬ (mw 0 = none ∧ mw 1 = none ∧ mw 2 = none ∧ hh = 0 ∧ said = 0) → wY_readText_148 post g_size (nI hh) (rd_l last) (nI said) g_length g_symmetryCount b_text es bs co pi ma sd b_row b_least b_orbits b_path b_far b_sums := fun z => by
      have k := hno (decide_eq_false (fun y => z ⟨y.1, y.2.1, y.2.2.1, y.2.2.2.1, y.2.2.2.2.1⟩))
      rw [← hcc] at k
      exact br_f wk_10 k
    refine pk_le i i (fun _ => br_c (fun z => bad (fun y => (hmk 0 (by omega)).mp z y.1)) (fun a0 => br_c (fun z => bad (fun y => (hmk 1 (by omega)).mp z y.2.1)) (fun a1 => br_c (fun z => bad (fun y => (hmk 2 (by omega)).mp z y.2.2.1)) (fun a2 => pk_lt 0 hh (fun z => bad (fun y => absurd y.2.2.2.1 (by omega))) (fun z => pk_le said 0 (fun y => ?_) (fun y => bad (fun w => absurd w.2.2.2.2 (by omega)))))))) (fun z => absurd z (by omega)) hcc
    have b0 : mw 0 = none := Classical.not_not.mp (fun w => a0 ((hmk 0 (by omega)).mpr w))
    have b1 : mw 1 = none := Classical.not_not.mp (fun w => a1 ((hmk 1 (by omega)).mpr w))
    have b2 : mw 2 = none := Classical.not_not.mp (fun w => a2 ((hmk 2 (by omega)).mpr w))
    have hix : g_size - 1 = nI i - 1 := by rw [hcc]
    refine br_t rfl (pk_le i 0 (fun x => ?_) (fun x => wk_i (i - 1) ?_ (by omega) (by rw [hix, wk_s x])) hcc)
    · exact hyes (decide_eq_true ⟨b0, b1, b2, by omega, by omega, Or.inl (by omega)⟩)
    · have ht := htx (i - 1) (by omega)
      have htk : tx (i - 1) < 100 := by have := ht.2; unfold rd_tk at this; omega
      refine pk_eq (tx (i - 1)) 14 (fun w => ?_) (fun w => ?_) (wk_c (i - 1) ht.1 (by rw [hix, wk_s x]))
      · have k := hno (decide_eq_false (fun v => by rcases v.2.2.2.2.2 with u | u <;> omega))
        rw [← hcc] at k; exact k
      · exact hyes (decide_eq_true ⟨b0, b1, b2, by omega, by omega, Or.inr w⟩)
  | succ d ih =>
    intro i s he la sa es bs co pi ma sd hi hI hT hF hl
    have ht := htx i (by omega)
    have hpv : 0 < i → b_text (i - 1) = nI (tx (i - 1)) := fun _ => (htx (i - 1) (by omega)).1
    have hpl : tx (i - 1) < 100 := by have := (htx (i - 1) (by omega)).2; unfold rd_tk at this; omega
    have htk := ht.2
    unfold rd_tk at htk
    unfold rd_lp at hl
    have P0 : rd_st (tx i) (tx (i - 1)) s = none → ∀ he la sa es' bs' co' pi ma sd, yp_F es bs co es' bs' co' → wY_readText_94 post (wY_readText_44 post (d + 1)) (nI i) 0 g_size he la sa g_length g_symmetryCount b_text es' bs' co' pi ma sd b_row b_least b_orbits b_path b_far b_sums := fun hn he la sa es' bs' co' pi ma sd hF' => by
      rw [hn] at hl
      dsimp only at hl
      have k := h he la sa es' bs' co' pi ma sd (yp_F_t hF hF') (fun y => by rw [← hl] at y; exact absurd y (bb_ne4 (by omega)))
      rw [← hl] at k
      exact br_t rfl k
    have P1 : ∀ s', rd_st (tx i) (tx (i - 1)) s = some s' → ∀ he la sa es' bs' co' pi ma sd, yp_F es bs co es' bs' co' → rd_TYs s' he la sa es' bs' co' pi ma sd → wY_readText_94 post (wY_readText_44 post (d + 1)) (nI i) 1 g_size he la sa g_length g_symmetryCount b_text es' bs' co' pi ma sd b_row b_least b_orbits b_path b_far b_sums := fun s' hs he la sa es' bs' co' pi ma sd hF' hTs => by
      rw [hs] at hl
      dsimp only at hl
      exact br_f wk_10 (nm_r (wk_p i) (ih (i + 1) s' he la sa es' bs' co' pi ma sd (by omega) (rd_I_st ht.2 hI hs) hTs (yp_F_t hF hF') hl))
    obtain ⟨m, el, bo, last, said, hh, pl, mw, mo⟩ := s
    have hst : rd_st (tx i) (tx (i - 1)) (m, el, bo, last, said, hh, pl, mw, mo) = if tx i < 4 then rd_atom (tx i) m el bo last said hh pl mw mo else if 19 < tx i then rd_mark (tx i - 20) m el bo last said hh pl mw mo else rd_sign (tx i) (tx (i - 1)) m el bo last said hh pl mw mo := rfl
    refine pk_le c i (fun z => absurd z (by omega)) (fun _ => wk_i i (nm_r (e' := nI (tx i)) (wk_c i ht.1) (pk_le 4 (tx i) (fun z => pk_le (tx i) 19 (fun y => ?_) (fun y => ?_)) (fun z => ?_)))) hcc
    · rw [if_neg (by omega), if_neg (by omega)] at hst
      exact yy_takeSign (by omega) (by omega) ht.1 hpv hpl hI hT (fun hn => P0 (hst.trans hn)) (fun s' hs => P1 s' (hst.trans hs))
    · rw [if_neg (by omega), if_pos (by omega)] at hst
      rw [show nI (tx i) - 20 = nI (tx i - 20) from pk_sub (b := 20) (by omega)]
      exact yy_takeMark (by omega) hI hT (fun hn => P0 (hst.trans hn)) (fun s' hs => P1 s' (hst.trans hs))
    · rw [if_pos (by omega)] at hst
      exact yy_takeAtom (by omega) hI hT (fun hn => P0 (hst.trans hn)) (fun s' hs => P1 s' (hst.trans hs))
theorem yy_readText {post : Int32 → SY → Prop} {c : Nat} {tx : Nat → Nat} (hc : c ≤ 24) (hcc : g_size = nI c) (htx : ∀ i, i < c → b_text i = nI (tx i) ∧ rd_tk (tx i))
    (h : ∀ he la sa es bs co pi ma sd, yp_F b_elements b_bonds b_counts es bs co → yt_M tx c es bs co → post (rd_all tx c).1 (g_size, he, la, sa, g_length, g_symmetryCount, b_text, es, bs, co, pi, ma, sd, b_row, b_least, b_orbits, b_path, b_far, b_sums)) : wpY_readText post (g_size, g_height, g_last, g_said, g_length, g_symmetryCount, b_text, b_elements, b_bonds, b_counts, b_pile, b_marks, b_saids, b_row, b_least, b_orbits, b_path, b_far, b_sums) := by
  unfold wpY_readText
  have L : ∀ d k ma, k + d = 3 → (∀ j, j < k → ma j = -1) → wY_readText_24 post g_size 0 (-1) 0 g_length g_symmetryCount (d + 1) (nI k) b_text b_elements b_bonds (upd b_counts 2 0) b_pile ma b_saids b_row b_least b_orbits b_path b_far b_sums := by
    intro d
    induction d with
    | zero =>
      intro k ma hk hm
      exact pk_le 3 k (fun _ => Exists.intro (c + 1) (yt_44 hc hcc htx h c 0 rd_s0 0 (-1) 0 b_elements b_bonds (upd b_counts 2 0) b_pile ma b_saids (by omega) rd_I0 ⟨⟨pk_us, fun a ha => absurd ha (by omega), fun a b ha => absurd ha (by omega)⟩, rfl, rfl, rfl, fun j hj => absurd hj (by omega), fun q hq => hm q (by omega), fun q a _ he => absurd he (by simp)⟩ ⟨fun _ _ => rfl, fun _ _ => rfl, fun j hj => by rw [pk_un (by omega)]⟩ rfl)) (fun z => absurd z (by omega))
    | succ d ih =>
      intro k ma hk hm
      exact pk_le 3 k (fun z => absurd z (by omega)) (fun _ => wk_w k (nm_r (wk_p k) (ih (k + 1) _ (by omega) (fun j hj => by
        by_cases e : j = k
        · rw [e, pk_us]
        · rw [pk_un e]; exact hm j (by omega)))))
  exact nm_e (Exists.intro 4 (L 3 0 b_marks (by omega) (fun j hj => absurd hj (by omega))))
theorem yy_wrongAt {post : Int32 → SY → Prop} {c : Nat} {tx : Nat → Nat} (hc : c ≤ 24) (hcc : g_size = nI c) (htx : ∀ i, i < c → b_text i = nI (tx i) ∧ rd_tk (tx i))
    (h : ∀ he la sa es bs co pi ma sd, yp_F b_elements b_bonds b_counts es bs co → post (rd_all tx c).1 (g_size, he, la, sa, g_length, g_symmetryCount, b_text, es, bs, co, pi, ma, sd, b_row, b_least, b_orbits, b_path, b_far, b_sums)) : wpY_wrongAt post (g_size, g_height, g_last, g_said, g_length, g_symmetryCount, b_text, b_elements, b_bonds, b_counts, b_pile, b_marks, b_saids, b_row, b_least, b_orbits, b_path, b_far, b_sums) := by
  unfold wpY_wrongAt
  exact yy_readText hc hcc htx (fun he la sa es bs co pi ma sd hF _ => h he la sa es bs co pi ma sd hF)
/-- copying from the text's molecule to a slot -/
theorem yt_36 {post : Int32 → SY → Prop} {s m : Nat} {el : Nat → Nat} {bo : Nat → Nat → Nat} (hs : s < 2) (hm : m ≤ 7) (hc2 : b_counts 2 = nI m) (hcs : b_counts s = nI m)
    (h : ∀ es bs, rs_S s m el bo m 0 es bs → (∀ s' a, s' < 2 → s' ≠ s → a < 7 → es (7 * s' + a) = b_elements (7 * s' + a)) → (∀ s' j, s' < 2 → s' ≠ s → j < 49 → bs (49 * s' + j) = b_bonds (49 * s' + j)) → post (nI m) (g_size, g_height, g_last, g_said, g_length, g_symmetryCount, b_text, es, bs, b_counts, b_pile, b_marks, b_saids, b_row, b_least, b_orbits, b_path, b_far, b_sums)) :
    ∀ d a es bs, a + d = m → rs_S s m el bo a 0 es bs → (∀ s' a, s' < 2 → s' ≠ s → a < 7 → es (7 * s' + a) = b_elements (7 * s' + a)) → (∀ s' j, s' < 2 → s' ≠ s → j < 49 → bs (49 * s' + j) = b_bonds (49 * s' + j)) → (∀ x, x < m → es (14 + x) = nI (el x)) → (∀ x y, x < m → y < m → bs (98 + 7 * x + y) = nI (bo x y)) → wY_read_36 post (nI s) g_size g_height g_last g_said g_length g_symmetryCount (d + 1) (nI a) b_text es bs b_counts b_pile b_marks b_saids b_row b_least b_orbits b_path b_far b_sums := by
  intro d
  induction d with
  | zero =>
    intro a es bs ha hS hFe hFb _ _
    have e : a = m := by omega
    subst e
    have k := h es bs hS hFe hFb
    refine pk_le a a (fun _ => wk_i s ?_) (fun z => absurd z (by omega)) hc2
    rw [wk_c s hcs]; exact k
  | succ d ih =>
    intro a es bs ha hS hFe hFb hE hB
    have ham : a < m := by omega
    have B : ∀ e b es bs, b + e = m → (∀ x, x < a + 1 → es (7 * s + x) = nI (el x)) → rs_S s m el bo a b es bs → (∀ s' a, s' < 2 → s' ≠ s → a < 7 → es (7 * s' + a) = b_elements (7 * s' + a)) → (∀ s' j, s' < 2 → s' ≠ s → j < 49 → bs (49 * s' + j) = b_bonds (49 * s' + j)) → (∀ x, x < m → es (14 + x) = nI (el x)) → (∀ x y, x < m → y < m → bs (98 + 7 * x + y) = nI (bo x y)) → wY_read_68 post (wY_read_36 post (nI s) g_size g_height g_last g_said g_length g_symmetryCount (d + 1)) (nI s) (nI a) g_size g_height g_last g_said g_length g_symmetryCount (e + 1) (nI b) b_text es bs b_counts b_pile b_marks b_saids b_row b_least b_orbits b_path b_far b_sums := by
      intro e
      induction e with
      | zero =>
        intro b es bs hb he hS hFe hFb hE hB
        refine pk_le m b (fun _ => nm_r (wk_p a) (ih (a + 1) es bs (by omega) ⟨he, fun x y hx hy => ?_, fun y hy => absurd hy (by omega)⟩ hFe hFb hE hB)) (fun z => absurd z (by omega)) hc2
        by_cases e : x = a
        · rw [e]; exact hS.2.2 y (by omega)
        · exact hS.2.1 x y (by omega) hy
      | succ e ihe =>
        intro b es bs hb he hS hFe hFb hE hB
        refine pk_le m b (fun z => absurd z (by omega)) (fun _ => yy_orderOf (s := 2) (by omega) (by omega) (by omega) (wk_v (49 * s + 7 * a + b) (nI (bo a b)) (hB a b ham (by omega)) (nm_r (wk_p b) (ihe (b + 1) es _ (by omega) he ⟨hS.1, fun x y hx hy => ?_, fun y hy => ?_⟩ hFe (fun s' j h1 h2 h3 => ?_) hE (fun x y hx hy => ?_))) (by omega) (bb_ix3 s a b))) hc2
        · rw [pk_un (by omega)]; exact hS.2.1 x y hx hy
        · by_cases e : y = b
          · rw [e, pk_us]
          · rw [pk_un (by omega)]; exact hS.2.2 y (by omega)
        · rw [pk_un (by omega)]; exact hFb s' j h1 h2 h3
        · rw [pk_un (by omega)]; exact hB x y hx hy
    refine pk_le m a (fun z => absurd z (by omega)) (fun _ => wk_i (14 + a) (wk_v (7 * s + a) (nI (el a)) (wk_c (14 + a) (hE a ham) (nI_add 14 a)) (Exists.intro (m + 1) (B m 0 _ bs (by omega) (fun x hx => ?_) ⟨fun x hx => ?_, hS.2.1, fun y hy => absurd hy (by omega)⟩ (fun s' x h1 h2 h3 => ?_) hFb (fun x hx => ?_) hB)) (by omega) (bb_ix s a)) (by omega) (nI_add 14 a)) hc2
    · by_cases e : x = a
      · rw [e, pk_us]
      · rw [pk_un (by omega)]; exact hS.1 x (by omega)
    · rw [pk_un (by omega)]; exact hS.1 x hx
    · rw [pk_un (by omega)]; exact hFe s' x h1 h2 h3
    · rw [pk_un (by omega)]; exact hE x hx
theorem yy_read_b {post : Int32 → SY → Prop} {v : Int32} (hv : ¬ v = 0 ∧ ¬ v = 1) (h : post (-1) (g_size, g_height, g_last, g_said, g_length, g_symmetryCount, b_text, b_elements, b_bonds, b_counts, b_pile, b_marks, b_saids, b_row, b_least, b_orbits, b_path, b_far, b_sums)) : wpY_read post (g_size, g_height, g_last, g_said, g_length, g_symmetryCount, b_text, b_elements, b_bonds, b_counts, b_pile, b_marks, b_saids, b_row, b_least, b_orbits, b_path, b_far, b_sums) v := by
  unfold wpY_read
  exact yy_slot_b hv (br_t rfl h)
theorem yy_read {post : Int32 → SY → Prop} {s c : Nat} {tx : Nat → Nat} (hs : s < 2) (hc : c ≤ 24) (hcc : g_size = nI c) (htx : ∀ i, i < c → b_text i = nI (tx i) ∧ rd_tk (tx i))
    (h0 : (rd_all tx c).1 ≠ -4 → ∀ he la sa es bs co pi ma sd, yp_F b_elements b_bonds b_counts es bs co → post (-3) (g_size, he, la, sa, g_length, g_symmetryCount, b_text, es, bs, co, pi, ma, sd, b_row, b_least, b_orbits, b_path, b_far, b_sums))
    (h1 : ∀ m el bo z, (rd_all tx c).1 = -4 → (rd_all tx c).2 = (m, el, bo, z) → ∀ he la sa es bs co pi ma sd, rs_S s m el bo m 0 es bs → (∀ s' a, s' < 2 → s' ≠ s → a < 7 → es (7 * s' + a) = b_elements (7 * s' + a)) → (∀ s' j, s' < 2 → s' ≠ s → j < 49 → bs (49 * s' + j) = b_bonds (49 * s' + j)) → co s = nI m → (∀ s', s' < 2 → s' ≠ s → co s' = b_counts s') → post (nI m) (g_size, he, la, sa, g_length, g_symmetryCount, b_text, es, bs, co, pi, ma, sd, b_row, b_least, b_orbits, b_path, b_far, b_sums)) : wpY_read post (g_size, g_height, g_last, g_said, g_length, g_symmetryCount, b_text, b_elements, b_bonds, b_counts, b_pile, b_marks, b_saids, b_row, b_least, b_orbits, b_path, b_far, b_sums) (nI s) := by
  unfold wpY_read
  refine yy_slot_g hs (br_f wk_10 (yy_readText hc hcc htx (fun he la sa es bs co pi ma sd hF hM => br_c (fun z => ?_) (fun z => h0 z he la sa es bs co pi ma sd hF))))
  have hI : rd_IS (0 + c) (rd_all tx c).2 := rd_I_lp c 0 rd_s0 (fun j hj => (htx j (by omega)).2) rd_I0 z (by omega)
  have hM2 := hM z
  cases hS : (rd_all tx c).2 with
  | mk m q =>
    obtain ⟨el, bo, z'⟩ := q
    rw [hS] at hM2 hI
    have hm : m ≤ 7 := hI.1
    have hT : mo_T co es bs 2 m el bo := hM2
    refine wk_v s (nI m) hT.1 (Exists.intro (m + 1) (yt_36 hs hm (by rw [pk_un (by omega)]; exact hT.1) pk_us (fun es' bs' hS' hFe hFb => h1 m el bo z' z hS he la sa es' bs' (upd co s (nI m)) pi ma sd hS' (fun s' a x1 x2 x3 => ?_) (fun s' j x1 x2 x3 => ?_) pk_us (fun s' x1 x2 => ?_)) m 0 es bs (by omega) ⟨fun x hx => absurd hx (by omega), fun x y hx => absurd hx (by omega), fun y hy => absurd hy (by omega)⟩ (fun _ _ _ _ _ => rfl) (fun _ _ _ _ _ => rfl) (fun x hx => hT.2.1 x hx) (fun x y hx hy => hT.2.2 x y hx hy)))
    · rw [hFe s' a x1 x2 x3]; exact hF.1 _ (by omega)
    · rw [hFb s' j x1 x2 x3]; exact hF.2.1 _ (by omega)
    · rw [pk_un x2]; exact hF.2.2 s' x1
/-! tokens -/
theorem yy_isToken_g {post : Int32 → Prop} {t : Nat} (ht : rd_tk t) (h : post 1) : wpY_isToken post (g_size, g_height, g_last, g_said, g_length, g_symmetryCount, b_text, b_elements, b_bonds, b_counts, b_pile, b_marks, b_saids, b_row, b_least, b_orbits, b_path, b_far, b_sums) (nI t) := by
  unfold rd_tk at ht
  have E21 : 20 ≤ t → wY_isToken_21 post (nI t) g_size g_height g_last g_said g_length g_symmetryCount b_text b_elements b_bonds b_counts b_pile b_marks b_saids b_row b_least b_orbits b_path b_far b_sums := fun z => pk_lt t 20 (fun y => absurd y (by omega)) (fun _ => pk_lt 22 t (fun y => absurd y (by omega)) (fun _ => h))
  have E9 : 4 ≤ t → wY_isToken_9 post (nI t) g_size g_height g_last g_said g_length g_symmetryCount b_text b_elements b_bonds b_counts b_pile b_marks b_saids b_row b_least b_orbits b_path b_far b_sums := fun z => pk_lt t 10 (fun y => absurd y (by omega)) (fun _ => pk_le t 14 (fun _ => h) (fun y => E21 (by omega)))
  unfold wpY_isToken
  exact br_f (nI_pos (by omega)) (pk_le t 3 (fun _ => h) (fun z => E9 (by omega)))
theorem yy_isToken_b {post : Int32 → Prop} {v : Int32} (hv : (v < 0 ∨ 3 < v) ∧ (v < 10 ∨ 14 < v) ∧ (v < 20 ∨ 22 < v)) (h : post 0) : wpY_isToken post (g_size, g_height, g_last, g_said, g_length, g_symmetryCount, b_text, b_elements, b_bonds, b_counts, b_pile, b_marks, b_saids, b_row, b_least, b_orbits, b_path, b_far, b_sums) v := by
  have E21 : wY_isToken_21 post v g_size g_height g_last g_said g_length g_symmetryCount b_text b_elements b_bonds b_counts b_pile b_marks b_saids b_row b_least b_orbits b_path b_far b_sums := br_c (fun _ => h) (fun z => br_t (hv.2.2.resolve_left z) h)
  have E9 : wY_isToken_9 post v g_size g_height g_last g_said g_length g_symmetryCount b_text b_elements b_bonds b_counts b_pile b_marks b_saids b_row b_least b_orbits b_path b_far b_sums := br_c (fun _ => E21) (fun z => br_f (fun y => Int32.not_lt.mpr y (hv.2.1.resolve_left z)) E21)
  unfold wpY_isToken
  exact br_c (fun _ => E9) (fun z => br_f (fun y => Int32.not_lt.mpr y (hv.1.resolve_left z)) E9)
theorem yy_token_b {post : Int32 → SY → Prop} {v : Int32} (hv : (v < 0 ∨ 3 < v) ∧ (v < 10 ∨ 14 < v) ∧ (v < 20 ∨ 22 < v)) (h : post (-1) (g_size, g_height, g_last, g_said, g_length, g_symmetryCount, b_text, b_elements, b_bonds, b_counts, b_pile, b_marks, b_saids, b_row, b_least, b_orbits, b_path, b_far, b_sums)) : wpY_token post (g_size, g_height, g_last, g_said, g_length, g_symmetryCount, b_text, b_elements, b_bonds, b_counts, b_pile, b_marks, b_saids, b_row, b_least, b_orbits, b_path, b_far, b_sums) v := by
  unfold wpY_token
  exact yy_isToken_b hv (br_t rfl h)
theorem yy_token_g {post : Int32 → SY → Prop} {t c : Nat} (ht : rd_tk t) (hc : c ≤ 24) (hcc : g_size = nI c) (h0 : c = 24 → post (-2) (g_size, g_height, g_last, g_said, g_length, g_symmetryCount, b_text, b_elements, b_bonds, b_counts, b_pile, b_marks, b_saids, b_row, b_least, b_orbits, b_path, b_far, b_sums)) (h1 : c < 24 → post (nI (c + 1)) (nI (c + 1), g_height, g_last, g_said, g_length, g_symmetryCount, upd b_text c (nI t), b_elements, b_bonds, b_counts, b_pile, b_marks, b_saids, b_row, b_least, b_orbits, b_path, b_far, b_sums)) : wpY_token post (g_size, g_height, g_last, g_said, g_length, g_symmetryCount, b_text, b_elements, b_bonds, b_counts, b_pile, b_marks, b_saids, b_row, b_least, b_orbits, b_path, b_far, b_sums) (nI t) := by
  unfold wpY_token
  exact yy_isToken_g ht (br_f wk_10 (pk_eq c 24 (fun z => h0 z) (fun z => wk_w c (nm_r (by rw [hcc, nI_1]) (h1 (by omega))) (by omega) hcc) hcc))
theorem yy_untoken {post : Int32 → SY → Prop} {c : Nat} (hc : c ≤ 24) (hcc : g_size = nI c) (h0 : c = 0 → post (-4) (g_size, g_height, g_last, g_said, g_length, g_symmetryCount, b_text, b_elements, b_bonds, b_counts, b_pile, b_marks, b_saids, b_row, b_least, b_orbits, b_path, b_far, b_sums)) (h1 : 0 < c → post (b_text (c - 1)) (nI (c - 1), g_height, g_last, g_said, g_length, g_symmetryCount, b_text, b_elements, b_bonds, b_counts, b_pile, b_marks, b_saids, b_row, b_least, b_orbits, b_path, b_far, b_sums)) : wpY_untoken post (g_size, g_height, g_last, g_said, g_length, g_symmetryCount, b_text, b_elements, b_bonds, b_counts, b_pile, b_marks, b_saids, b_row, b_least, b_orbits, b_path, b_far, b_sums) := by
  unfold wpY_untoken
  refine pk_eq c 0 (fun z => h0 z) (fun z => nm_r (e' := nI (c - 1)) (by rw [hcc, wk_s (by omega)]) (wk_i (c - 1) ?_)) hcc
  rw [nI_clamp (by omega)]
  exact h1 (by omega)
end
end
section
/-! the relation: one text, two molecules; what the component keeps of its reading is the reading of the text -/
def rl_R (f_count f_isRead f_wrongPlace f_readAtoms : Int32) (a_text a_readElement a_readBond a_size a_elements a_bonds : XA) (g_size : Int32) (b_text b_elements b_bonds b_counts : XA) : Prop :=
  ∃ (c : Nat) (tx N : Nat → Nat) (E : Nat → Nat → Nat) (B : Nat → Nat → Nat → Nat), c ≤ 24 ∧ f_count = nI c ∧ g_size = nI c ∧ (∀ i, i < c → a_text i = nI (tx i) ∧ b_text i = nI (tx i) ∧ rd_tk (tx i)) ∧ (f_isRead = 0 ∨ (f_isRead = 1 ∧ xp_K tx c f_wrongPlace f_readAtoms a_readElement a_readBond)) ∧ ∀ s, s < 2 → mo_K (N s) (E s) (B s) ∧ mo_T a_size a_elements a_bonds s (N s) (E s) (B s) ∧ mo_T b_counts b_elements b_bonds s (N s) (E s) (B s)
def i_Rel (k : Nat) (u : SX) (v : SY) : Prop := match u with
  | (f_count, f_isRead, f_wrongPlace, f_readAtoms, f_last, f_said, f_piled, f_orders, a_text, a_readElement, a_readBond, a_readUsed, a_pile, a_markAtom, a_markOrder, a_size, a_elements, a_bonds, a_near, a_nearOf, a_least, a_other, a_trial, a_placed, a_tried, a_setWays, a_setEnds, a_setCounts, a_standsAt, a_firstOrder, a_could, a_asked) => match v with
    | (g_size, g_height, g_last, g_said, g_length, g_symmetryCount, b_text, b_elements, b_bonds, b_counts, b_pile, b_marks, b_saids, b_row, b_least, b_orbits, b_path, b_far, b_sums) => rl_R f_count f_isRead f_wrongPlace f_readAtoms a_text a_readElement a_readBond a_size a_elements a_bonds g_size b_text b_elements b_bonds b_counts
theorem i_up {k : Nat} {u : SX} {v : SY} (h : i_Rel k u v) : i_Rel (k + 4) u v := h
theorem rl_in {k : Nat} {f_count f_isRead f_wrongPlace f_readAtoms f_last f_said f_piled f_orders : Int32} {a_text a_readElement a_readBond a_readUsed a_pile a_markAtom a_markOrder a_size a_elements a_bonds a_near a_nearOf a_least a_other a_trial a_placed a_tried a_setWays a_setEnds a_setCounts a_standsAt a_firstOrder a_could a_asked : Nat → Int32} {g_size g_height g_last g_said g_length g_symmetryCount : Int32} {b_text b_elements b_bonds b_counts b_pile b_marks b_saids b_row b_least b_orbits b_path b_far b_sums : Nat → Int32} (h : rl_R f_count f_isRead f_wrongPlace f_readAtoms a_text a_readElement a_readBond a_size a_elements a_bonds g_size b_text b_elements b_bonds b_counts) : i_Rel k (f_count, f_isRead, f_wrongPlace, f_readAtoms, f_last, f_said, f_piled, f_orders, a_text, a_readElement, a_readBond, a_readUsed, a_pile, a_markAtom, a_markOrder, a_size, a_elements, a_bonds, a_near, a_nearOf, a_least, a_other, a_trial, a_placed, a_tried, a_setWays, a_setEnds, a_setCounts, a_standsAt, a_firstOrder, a_could, a_asked) (g_size, g_height, g_last, g_said, g_length, g_symmetryCount, b_text, b_elements, b_bonds, b_counts, b_pile, b_marks, b_saids, b_row, b_least, b_orbits, b_path, b_far, b_sums) := h
theorem rl_el {k : Nat} {P : SX → SY → Prop} (h : ∀ (f_count f_isRead f_wrongPlace f_readAtoms f_last f_said f_piled f_orders : Int32) (a_text a_readElement a_readBond a_readUsed a_pile a_markAtom a_markOrder a_size a_elements a_bonds a_near a_nearOf a_least a_other a_trial a_placed a_tried a_setWays a_setEnds a_setCounts a_standsAt a_firstOrder a_could a_asked : Nat → Int32) (g_size g_height g_last g_said g_length g_symmetryCount : Int32) (b_text b_elements b_bonds b_counts b_pile b_marks b_saids b_row b_least b_orbits b_path b_far b_sums : Nat → Int32), rl_R f_count f_isRead f_wrongPlace f_readAtoms a_text a_readElement a_readBond a_size a_elements a_bonds g_size b_text b_elements b_bonds b_counts → P (f_count, f_isRead, f_wrongPlace, f_readAtoms, f_last, f_said, f_piled, f_orders, a_text, a_readElement, a_readBond, a_readUsed, a_pile, a_markAtom, a_markOrder, a_size, a_elements, a_bonds, a_near, a_nearOf, a_least, a_other, a_trial, a_placed, a_tried, a_setWays, a_setEnds, a_setCounts, a_standsAt, a_firstOrder, a_could, a_asked) (g_size, g_height, g_last, g_said, g_length, g_symmetryCount, b_text, b_elements, b_bonds, b_counts, b_pile, b_marks, b_saids, b_row, b_least, b_orbits, b_path, b_far, b_sums)) : ∀ {u : SX} {v : SY}, i_Rel k u v → P u v := by
  rintro ⟨f_count, f_isRead, f_wrongPlace, f_readAtoms, f_last, f_said, f_piled, f_orders, a_text, a_readElement, a_readBond, a_readUsed, a_pile, a_markAtom, a_markOrder, a_size, a_elements, a_bonds, a_near, a_nearOf, a_least, a_other, a_trial, a_placed, a_tried, a_setWays, a_setEnds, a_setCounts, a_standsAt, a_firstOrder, a_could, a_asked⟩ ⟨g_size, g_height, g_last, g_said, g_length, g_symmetryCount, b_text, b_elements, b_bonds, b_counts, b_pile, b_marks, b_saids, b_row, b_least, b_orbits, b_path, b_far, b_sums⟩ I
  exact h _ _ _ _ _ _ _ _ _ _ _ _ _ _ _ _ _ _ _ _ _ _ _ _ _ _ _ _ _ _ _ _ _ _ _ _ _ _ _ _ _ _ _ _ _ _ _ _ _ _ _ I
theorem rl_F {es bs co es' bs' co' : XA} {s n : Nat} {el : Nat → Nat} {bo : Nat → Nat → Nat} (hF : yp_F es bs co es' bs' co') (hs : s < 2) (hn : n ≤ 7) (h : mo_T co es bs s n el bo) : mo_T co' es' bs' s n el bo := ⟨(hF.2.2 s hs).trans h.1, fun a ha => (hF.1 _ (by omega)).trans (h.2.1 a ha), fun a b ha hb => (hF.2.1 _ (by omega)).trans (h.2.2 a b ha hb)⟩
/-- a slot that isn't written -/
theorem rl_O {es bs co es' bs' co' : XA} {s n : Nat} {el : Nat → Nat} {bo : Nat → Nat → Nat} (hn : n ≤ 7) (he : ∀ a, a < 7 → es' (7 * s + a) = es (7 * s + a)) (hb : ∀ j, j < 49 → bs' (49 * s + j) = bs (49 * s + j)) (hc : co' s = co s) (h : mo_T co es bs s n el bo) : mo_T co' es' bs' s n el bo := ⟨hc.trans h.1, fun a ha => (he a (by omega)).trans (h.2.1 a ha), fun a b ha hb' => by
  have := hb (7 * a + b) (by omega)
  rw [← Nat.add_assoc] at this
  exact this.trans (h.2.2 a b ha hb')⟩
theorem rl_K {i m : Nat} {el : Nat → Nat} {bo : Nat → Nat → Nat} {last : Option Nat} {said h : Nat} {pl : Nat → Nat} {mw : Nat → Option Nat} {mo : Nat → Nat} (H : rd_I i m el bo last said h pl mw mo) : mo_K m el bo := ⟨H.1, H.2.1, fun a b _ _ => H.2.2.2.2.2.1 a b, fun a b _ _ => H.2.2.1 a b, fun a _ => H.2.2.2.1 a⟩
theorem i_vc0 : wpX_init (fun u => wpY_init (fun v => i_Rel 0 u v)) := by
  unfold wpX_init wpY_init
  refine rl_in ⟨0, fun _ => 0, fun _ => 0, fun _ _ => 0, fun _ _ _ => 0, by omega, rfl, rfl, fun i hi => absurd hi (by omega), Or.inl rfl, fun s _ => ⟨⟨by show (0 : Nat) ≤ 7; omega, fun a ha => absurd ha (by show ¬ a < 0; omega), fun a b ha => absurd ha (by show ¬ a < 0; omega), fun a b ha => absurd ha (by show ¬ a < 0; omega), fun a ha => absurd ha (by show ¬ a < 0; omega)⟩, ⟨rfl, fun a ha => absurd ha (by show ¬ a < 0; omega), fun a b ha => absurd ha (by show ¬ a < 0; omega)⟩, ⟨rfl, fun a ha => absurd ha (by show ¬ a < 0; omega), fun a b ha => absurd ha (by show ¬ a < 0; omega)⟩⟩⟩
theorem i_vc_token {k : Nat} {u : SX} {v : SY} (I : i_Rel k u v) (hk : k + 4 ≤ 2048) (v1 : Int32) : wpX_token (fun r u' => wpY_token (fun r' v' => r' = r ∧ i_Rel (k + 4) u' v') v v1) u v1 := by
  refine rl_el (P := fun u v => wpX_token (fun r u' => wpY_token (fun r' v' => r' = r ∧ i_Rel (k + 4) u' v') v v1) u v1) ?_ I
  intro f_count f_isRead f_wrongPlace f_readAtoms f_last f_said f_piled f_orders a_text a_readElement a_readBond a_readUsed a_pile a_markAtom a_markOrder a_size a_elements a_bonds a_near a_nearOf a_least a_other a_trial a_placed a_tried a_setWays a_setEnds a_setCounts a_standsAt a_firstOrder a_could a_asked g_size g_height g_last g_said g_length g_symmetryCount b_text b_elements b_bonds b_counts b_pile b_marks b_saids b_row b_least b_orbits b_path b_far b_sums R
  obtain ⟨c, tx, N, E, B, hc, hX, hY, htx, hrd, hS⟩ := id R
  rcases xt_tok v1 with ⟨t, ht, rfl⟩ | hb
  · refine xx_token_g ht hc hX (fun z => yy_token_g ht hc hY (fun _ => ⟨rfl, rl_in R⟩) (fun y => absurd z (by omega))) (fun z => yy_token_g ht hc hY (fun y => absurd z (by omega)) (fun _ => ⟨rfl, rl_in ⟨c + 1, rd_u tx c t, N, E, B, by omega, rfl, rfl, fun i hi => ?_, Or.inl rfl, hS⟩⟩))
    by_cases e : i = c
    · rw [e, pk_us, pk_us, rd_us]; exact ⟨rfl, rfl, ht⟩
    · rw [pk_un e, pk_un e, rd_un e]; exact htx i (by omega)
  · exact xx_token_b hb (yy_token_b hb ⟨rfl, rl_in R⟩)
theorem i_vc_untoken {k : Nat} {u : SX} {v : SY} (I : i_Rel k u v) (hk : k + 4 ≤ 2048) : wpX_untoken (fun r u' => wpY_untoken (fun r' v' => r' = r ∧ i_Rel (k + 4) u' v') v) u := by
  refine rl_el (P := fun u v => wpX_untoken (fun r u' => wpY_untoken (fun r' v' => r' = r ∧ i_Rel (k + 4) u' v') v) u) ?_ I
  intro f_count f_isRead f_wrongPlace f_readAtoms f_last f_said f_piled f_orders a_text a_readElement a_readBond a_readUsed a_pile a_markAtom a_markOrder a_size a_elements a_bonds a_near a_nearOf a_least a_other a_trial a_placed a_tried a_setWays a_setEnds a_setCounts a_standsAt a_firstOrder a_could a_asked g_size g_height g_last g_said g_length g_symmetryCount b_text b_elements b_bonds b_counts b_pile b_marks b_saids b_row b_least b_orbits b_path b_far b_sums R
  obtain ⟨c, tx, N, E, B, hc, hX, hY, htx, hrd, hS⟩ := id R
  exact xx_untoken hc hX (fun z => yy_untoken hc hY (fun _ => ⟨rfl, rl_in R⟩) (fun y => absurd z (by omega))) (fun z => yy_untoken hc hY (fun y => absurd z (by omega)) (fun _ => ⟨by rw [(htx (c - 1) (by omega)).1, (htx (c - 1) (by omega)).2.1], rl_in ⟨c - 1, tx, N, E, B, by omega, rfl, rfl, fun i hi => htx i (by omega), Or.inl rfl, hS⟩⟩))
theorem i_vc_clear {k : Nat} {u : SX} {v : SY} (I : i_Rel k u v) (hk : k + 4 ≤ 2048) : wpX_clear (fun u' => wpY_clear (fun v' => i_Rel (k + 4) u' v') v) u := by
  refine rl_el (P := fun u v => wpX_clear (fun u' => wpY_clear (fun v' => i_Rel (k + 4) u' v') v) u) ?_ I
  intro f_count f_isRead f_wrongPlace f_readAtoms f_last f_said f_piled f_orders a_text a_readElement a_readBond a_readUsed a_pile a_markAtom a_markOrder a_size a_elements a_bonds a_near a_nearOf a_least a_other a_trial a_placed a_tried a_setWays a_setEnds a_setCounts a_standsAt a_firstOrder a_could a_asked g_size g_height g_last g_said g_length g_symmetryCount b_text b_elements b_bonds b_counts b_pile b_marks b_saids b_row b_least b_orbits b_path b_far b_sums R
  obtain ⟨c, tx, N, E, B, hc, hX, hY, htx, hrd, hS⟩ := id R
  unfold wpX_clear wpY_clear
  exact rl_in ⟨0, tx, N, E, B, by omega, rfl, rfl, fun i hi => absurd hi (by omega), Or.inl rfl, hS⟩
theorem i_vc_wrongAt {k : Nat} {u : SX} {v : SY} (I : i_Rel k u v) (hk : k + 4 ≤ 2048) : wpX_wrongAt (fun r u' => wpY_wrongAt (fun r' v' => r' = r ∧ i_Rel (k + 4) u' v') v) u := by
  refine rl_el (P := fun u v => wpX_wrongAt (fun r u' => wpY_wrongAt (fun r' v' => r' = r ∧ i_Rel (k + 4) u' v') v) u) ?_ I
  intro f_count f_isRead f_wrongPlace f_readAtoms f_last f_said f_piled f_orders a_text a_readElement a_readBond a_readUsed a_pile a_markAtom a_markOrder a_size a_elements a_bonds a_near a_nearOf a_least a_other a_trial a_placed a_tried a_setWays a_setEnds a_setCounts a_standsAt a_firstOrder a_could a_asked g_size g_height g_last g_said g_length g_symmetryCount b_text b_elements b_bonds b_counts b_pile b_marks b_saids b_row b_least b_orbits b_path b_far b_sums R
  obtain ⟨c, tx, N, E, B, hc, hX, hY, htx, hrd, hS⟩ := id R
  exact xx_wrongAt hc hX (fun i hi => ⟨(htx i hi).1, (htx i hi).2.2⟩) hrd (fun wr ra la sa pi rE rB rU pa mA mO hK => yy_wrongAt hc hY (fun i hi => ⟨(htx i hi).2.1, (htx i hi).2.2⟩) (fun he la sa es bs co pi ma sd hF => ⟨rfl, rl_in ⟨c, tx, N, E, B, hc, hX, hY, htx, Or.inr ⟨rfl, hK⟩, fun s hs => ⟨(hS s hs).1, (hS s hs).2.1, rl_F hF hs (hS s hs).1.1 (hS s hs).2.2⟩⟩⟩))
theorem i_vc_read {k : Nat} {u : SX} {v : SY} (I : i_Rel k u v) (hk : k + 4 ≤ 2048) (v1 : Int32) : wpX_read (fun r u' => wpY_read (fun r' v' => r' = r ∧ i_Rel (k + 4) u' v') v v1) u v1 := by
  refine rl_el (P := fun u v => wpX_read (fun r u' => wpY_read (fun r' v' => r' = r ∧ i_Rel (k + 4) u' v') v v1) u v1) ?_ I
  intro f_count f_isRead f_wrongPlace f_readAtoms f_last f_said f_piled f_orders a_text a_readElement a_readBond a_readUsed a_pile a_markAtom a_markOrder a_size a_elements a_bonds a_near a_nearOf a_least a_other a_trial a_placed a_tried a_setWays a_setEnds a_setCounts a_standsAt a_firstOrder a_could a_asked g_size g_height g_last g_said g_length g_symmetryCount b_text b_elements b_bonds b_counts b_pile b_marks b_saids b_row b_least b_orbits b_path b_far b_sums R
  obtain ⟨c, tx, N, E, B, hc, hX, hY, htx, hrd, hS⟩ := id R
  rcases wk_slot v1 with ⟨s, hs, rfl⟩ | hb
  · refine xx_read hs hc hX (fun i hi => ⟨(htx i hi).1, (htx i hi).2.2⟩) hrd (fun hne wr ra la sa pi rE rB rU pa mA mO hK => yy_read hs hc hY (fun i hi => ⟨(htx i hi).2.1, (htx i hi).2.2⟩) (fun _ he la sa es bs co pi ma sd hF => ⟨rfl, rl_in ⟨c, tx, N, E, B, hc, hX, hY, htx, Or.inr ⟨rfl, hK⟩, fun s hs => ⟨(hS s hs).1, (hS s hs).2.1, rl_F hF hs (hS s hs).1.1 (hS s hs).2.2⟩⟩⟩) (fun m el bo z h4 => absurd h4 hne)) (fun m el bo z h4 hz wr ra la sa pi rE rB rU pa mA mO es bs hK hSs hFs => yy_read hs hc hY (fun i hi => ⟨(htx i hi).2.1, (htx i hi).2.2⟩) (fun hne => absurd h4 hne) (fun m' el' bo' z' _ hz' he la' sa' es' bs' co pi' ma sd hSs' hFe hFb hcs hco => ?_))
    rw [hz] at hz'
    obtain ⟨rfl, hz2⟩ := Prod.mk.inj hz'
    obtain ⟨rfl, hz3⟩ := Prod.mk.inj hz2
    obtain ⟨rfl, _⟩ := Prod.mk.inj hz3
    have hI : rd_IS (0 + c) (rd_all tx c).2 := rd_I_lp c 0 rd_s0 (fun j hj => (htx j (by omega)).2.2) rd_I0 h4 (by omega)
    rw [hz] at hI
    obtain ⟨last, said, h, pl, mw, mo⟩ := z
    have hKm := rl_K hI
    refine ⟨rfl, rl_in ⟨c, tx, rd_u N s m, rd_u E s el, rd_u B s bo, hc, hX, hY, htx, Or.inr ⟨rfl, hK⟩, fun s' hs' => ?_⟩⟩
    by_cases e : s' = s
    · rw [e, rd_us, rd_us, rd_us]
      exact ⟨hKm, ⟨pk_us, fun a ha => hSs.1 a ha, fun a b ha hb => hSs.2.1 a b ha hb⟩, ⟨hcs, fun a ha => hSs'.1 a ha, fun a b ha hb => hSs'.2.1 a b ha hb⟩⟩
    · rw [rd_un e, rd_un e, rd_un e]
      exact ⟨(hS s' hs').1, rl_O (hS s' hs').1.1 (fun a ha => hFs.1 s' a e ha) (fun j hj => hFs.2 s' j e hj) (pk_un e) (hS s' hs').2.1, rl_O (hS s' hs').1.1 (fun a ha => hFe s' a hs' e ha) (fun j hj => hFb s' j hs' e hj) (hco s' hs' e) (hS s' hs').2.2⟩
  · exact xx_read_b hb (yy_read_b hb ⟨rfl, rl_in R⟩)
theorem i_vc_atoms {k : Nat} {u : SX} {v : SY} (I : i_Rel k u v) (hk : k + 4 ≤ 2048) (v1 : Int32) : wpX_atoms (fun r => wpY_atoms (fun r' => r' = r ∧ i_Rel (k + 4) u v) v v1) u v1 := by
  refine rl_el (P := fun u v => wpX_atoms (fun r => wpY_atoms (fun r' => r' = r ∧ i_Rel (k + 4) u v) v v1) u v1) ?_ I
  intro f_count f_isRead f_wrongPlace f_readAtoms f_last f_said f_piled f_orders a_text a_readElement a_readBond a_readUsed a_pile a_markAtom a_markOrder a_size a_elements a_bonds a_near a_nearOf a_least a_other a_trial a_placed a_tried a_setWays a_setEnds a_setCounts a_standsAt a_firstOrder a_could a_asked g_size g_height g_last g_said g_length g_symmetryCount b_text b_elements b_bonds b_counts b_pile b_marks b_saids b_row b_least b_orbits b_path b_far b_sums R
  obtain ⟨c, tx, N, E, B, hc, hX, hY, htx, hrd, hS⟩ := id R
  rcases wk_slot v1 with ⟨s, hs, rfl⟩ | hb
  · exact xx_atoms hs (yy_atoms hs ⟨by rw [(hS s hs).2.1.1, (hS s hs).2.2.1], rl_in R⟩)
  · unfold wpX_atoms
    refine xx_slot_b hb (br_f wk_10 ?_)
    unfold wpY_atoms
    exact yy_slot_b hb (br_t rfl ⟨rfl, rl_in R⟩)
theorem i_vc_element {k : Nat} {u : SX} {v : SY} (I : i_Rel k u v) (hk : k + 4 ≤ 2048) (v1 : Int32) (v2 : Int32) : wpX_element (fun r => wpY_element (fun r' => r' = r ∧ i_Rel (k + 4) u v) v v1 v2) u v1 v2 := by
  refine rl_el (P := fun u v => wpX_element (fun r => wpY_element (fun r' => r' = r ∧ i_Rel (k + 4) u v) v v1 v2) u v1 v2) ?_ I
  intro f_count f_isRead f_wrongPlace f_readAtoms f_last f_said f_piled f_orders a_text a_readElement a_readBond a_readUsed a_pile a_markAtom a_markOrder a_size a_elements a_bonds a_near a_nearOf a_least a_other a_trial a_placed a_tried a_setWays a_setEnds a_setCounts a_standsAt a_firstOrder a_could a_asked g_size g_height g_last g_said g_length g_symmetryCount b_text b_elements b_bonds b_counts b_pile b_marks b_saids b_row b_least b_orbits b_path b_far b_sums R
  obtain ⟨c, tx, N, E, B, hc, hX, hY, htx, hrd, hS⟩ := id R
  rcases wk_slot v1 with ⟨s, hs, rfl⟩ | hb
  · obtain ⟨hK, hTX, hTY⟩ := hS s hs
    rcases wk_atom v2 (N s) hK.1 with ⟨a, ha, rfl⟩ | ⟨hv, _⟩
    · exact xx_element_g hs hK.1 hTX ha (yy_element_g hs hK.1 hTY ha ⟨rfl, rl_in R⟩)
    · exact xx_element_b hs hK.1 hTX.1 hv (yy_element_b hs hK.1 hTY.1 hv ⟨rfl, rl_in R⟩)
  · unfold wpX_element
    refine xx_slot_b hb (br_f wk_10 ?_)
    unfold wpY_element
    exact yy_slot_b hb (br_t rfl ⟨rfl, rl_in R⟩)
theorem i_vc_bond {k : Nat} {u : SX} {v : SY} (I : i_Rel k u v) (hk : k + 4 ≤ 2048) (v1 : Int32) (v2 : Int32) (v3 : Int32) : wpX_bond (fun r => wpY_bond (fun r' => r' = r ∧ i_Rel (k + 4) u v) v v1 v2 v3) u v1 v2 v3 := by
  refine rl_el (P := fun u v => wpX_bond (fun r => wpY_bond (fun r' => r' = r ∧ i_Rel (k + 4) u v) v v1 v2 v3) u v1 v2 v3) ?_ I
  intro f_count f_isRead f_wrongPlace f_readAtoms f_last f_said f_piled f_orders a_text a_readElement a_readBond a_readUsed a_pile a_markAtom a_markOrder a_size a_elements a_bonds a_near a_nearOf a_least a_other a_trial a_placed a_tried a_setWays a_setEnds a_setCounts a_standsAt a_firstOrder a_could a_asked g_size g_height g_last g_said g_length g_symmetryCount b_text b_elements b_bonds b_counts b_pile b_marks b_saids b_row b_least b_orbits b_path b_far b_sums R
  obtain ⟨c, tx, N, E, B, hc, hX, hY, htx, hrd, hS⟩ := id R
  rcases wk_slot v1 with ⟨s, hs, rfl⟩ | hb
  · obtain ⟨hK, hTX, hTY⟩ := hS s hs
    rcases Classical.em ((∃ a, a < N s ∧ v2 = nI a) ∧ (∃ a, a < N s ∧ v3 = nI a)) with ⟨⟨a, ha, rfl⟩, ⟨b, hb, rfl⟩⟩ | hno
    · exact xx_bond_g hs hK hTX ha hb (yy_bond_g hs hK hTY ha hb ⟨rfl, rl_in R⟩)
    · have w2 : (∃ a, a < N s ∧ v2 = nI a) ∨ (¬ v2 < 0 → nI (N s) ≤ v2) := (wk_atom v2 (N s) hK.1).imp id (fun z => z.1)
      have w3 : (∃ a, a < N s ∧ v3 = nI a) ∨ (¬ v3 < 0 → nI (N s) ≤ v3) := (wk_atom v3 (N s) hK.1).imp id (fun z => z.1)
      exact xx_bond_b hs hK.1 hTX.1 w2 w3 hno (yy_bond_b hs hK.1 hTY.1 w2 w3 hno ⟨rfl, rl_in R⟩)
  · unfold wpX_bond
    refine xx_slot_b hb (br_f wk_10 ?_)
    unfold wpY_bond
    exact yy_slot_b hb (br_t rfl ⟨rfl, rl_in R⟩)
theorem i_vc_hydrogens {k : Nat} {u : SX} {v : SY} (I : i_Rel k u v) (hk : k + 4 ≤ 2048) (v1 : Int32) (v2 : Int32) : wpX_hydrogens (fun r => wpY_hydrogens (fun r' => r' = r ∧ i_Rel (k + 4) u v) v v1 v2) u v1 v2 := by
  refine rl_el (P := fun u v => wpX_hydrogens (fun r => wpY_hydrogens (fun r' => r' = r ∧ i_Rel (k + 4) u v) v v1 v2) u v1 v2) ?_ I
  intro f_count f_isRead f_wrongPlace f_readAtoms f_last f_said f_piled f_orders a_text a_readElement a_readBond a_readUsed a_pile a_markAtom a_markOrder a_size a_elements a_bonds a_near a_nearOf a_least a_other a_trial a_placed a_tried a_setWays a_setEnds a_setCounts a_standsAt a_firstOrder a_could a_asked g_size g_height g_last g_said g_length g_symmetryCount b_text b_elements b_bonds b_counts b_pile b_marks b_saids b_row b_least b_orbits b_path b_far b_sums R
  obtain ⟨c, tx, N, E, B, hc, hX, hY, htx, hrd, hS⟩ := id R
  rcases wk_slot v1 with ⟨s, hs, rfl⟩ | hb
  · obtain ⟨hK, hTX, hTY⟩ := hS s hs
    have hn := hK.1
    rcases Classical.em (v2 = -1) with rfl | h1
    · exact xx_hydrogens_s hs hK hTX (yy_hydrogens hs hn hTY (fun _ => ⟨rfl, rl_in R⟩) (fun a ha e => absurd e.symm (bb_ne (by omega))) (fun z => absurd rfl z))
    · rcases wk_atom v2 (N s) hn with ⟨a, ha, rfl⟩ | ⟨hv, hv2⟩
      · refine xx_hydrogens_g hs hK hTX ha (yy_hydrogens hs hn hTY (fun z => absurd z h1) (fun b hb e => ?_) (fun _ z => absurd rfl (z a ha)))
        have : a = b := (nI_eq (by omega) (by omega)).mp e
        subst this
        exact ⟨rfl, rl_in R⟩
      · exact xx_hydrogens_b hs hn hTX.1 h1 hv (yy_hydrogens hs hn hTY (fun z => absurd z h1) (fun a ha e => absurd e (hv2 a ha)) (fun _ _ => ⟨rfl, rl_in R⟩))
  · unfold wpX_hydrogens
    refine xx_slot_b hb (br_f wk_10 ?_)
    unfold wpY_hydrogens
    exact yy_slot_b hb (br_t rfl ⟨rfl, rl_in R⟩)
theorem i_vc_pieces {k : Nat} {u : SX} {v : SY} (I : i_Rel k u v) (hk : k + 4 ≤ 2048) (v1 : Int32) : wpX_pieces (fun r u' => wpY_pieces (fun r' v' => r' = r ∧ i_Rel (k + 4) u' v') v v1) u v1 := by
  refine rl_el (P := fun u v => wpX_pieces (fun r u' => wpY_pieces (fun r' v' => r' = r ∧ i_Rel (k + 4) u' v') v v1) u v1) ?_ I
  intro f_count f_isRead f_wrongPlace f_readAtoms f_last f_said f_piled f_orders a_text a_readElement a_readBond a_readUsed a_pile a_markAtom a_markOrder a_size a_elements a_bonds a_near a_nearOf a_least a_other a_trial a_placed a_tried a_setWays a_setEnds a_setCounts a_standsAt a_firstOrder a_could a_asked g_size g_height g_last g_said g_length g_symmetryCount b_text b_elements b_bonds b_counts b_pile b_marks b_saids b_row b_least b_orbits b_path b_far b_sums R
  obtain ⟨c, tx, N, E, B, hc, hX, hY, htx, hrd, hS⟩ := id R
  rcases wk_slot v1 with ⟨s, hs, rfl⟩ | hb
  · obtain ⟨hK, hTX, hTY⟩ := hS s hs
    exact xx_pieces hs hK hTX (fun nr nro => yy_pieces hs hK hTY (fun fr => ⟨rfl, rl_in R⟩))
  · unfold wpX_pieces
    refine xx_slot_b hb (br_f wk_10 ?_)
    unfold wpY_pieces
    exact yy_slot_b hb (br_t rfl ⟨rfl, rl_in R⟩)
theorem i_vc_rings {k : Nat} {u : SX} {v : SY} (I : i_Rel k u v) (hk : k + 4 ≤ 2048) (v1 : Int32) : wpX_rings (fun r u' => wpY_rings (fun r' v' => r' = r ∧ i_Rel (k + 4) u' v') v v1) u v1 := by
  refine rl_el (P := fun u v => wpX_rings (fun r u' => wpY_rings (fun r' v' => r' = r ∧ i_Rel (k + 4) u' v') v v1) u v1) ?_ I
  intro f_count f_isRead f_wrongPlace f_readAtoms f_last f_said f_piled f_orders a_text a_readElement a_readBond a_readUsed a_pile a_markAtom a_markOrder a_size a_elements a_bonds a_near a_nearOf a_least a_other a_trial a_placed a_tried a_setWays a_setEnds a_setCounts a_standsAt a_firstOrder a_could a_asked g_size g_height g_last g_said g_length g_symmetryCount b_text b_elements b_bonds b_counts b_pile b_marks b_saids b_row b_least b_orbits b_path b_far b_sums R
  obtain ⟨c, tx, N, E, B, hc, hX, hY, htx, hrd, hS⟩ := id R
  rcases wk_slot v1 with ⟨s, hs, rfl⟩ | hb
  · obtain ⟨hK, hTX, hTY⟩ := hS s hs
    exact xx_rings hs hK hTX (fun nr nro sc => yy_rings hs hK hTY (fun path => ⟨rfl, rl_in R⟩))
  · unfold wpX_rings
    refine xx_slot_b hb (br_f wk_10 ?_)
    unfold wpY_rings
    exact yy_slot_b hb (br_t rfl ⟨rfl, rl_in R⟩)
theorem i_vc_smallest {k : Nat} {u : SX} {v : SY} (I : i_Rel k u v) (hk : k + 4 ≤ 2048) (v1 : Int32) (v2 : Int32) (v3 : Int32) : wpX_smallest (fun r u' => wpY_smallest (fun r' v' => r' = r ∧ i_Rel (k + 4) u' v') v v1 v2 v3) u v1 v2 v3 := by
  refine rl_el (P := fun u v => wpX_smallest (fun r u' => wpY_smallest (fun r' v' => r' = r ∧ i_Rel (k + 4) u' v') v v1 v2 v3) u v1 v2 v3) ?_ I
  intro f_count f_isRead f_wrongPlace f_readAtoms f_last f_said f_piled f_orders a_text a_readElement a_readBond a_readUsed a_pile a_markAtom a_markOrder a_size a_elements a_bonds a_near a_nearOf a_least a_other a_trial a_placed a_tried a_setWays a_setEnds a_setCounts a_standsAt a_firstOrder a_could a_asked g_size g_height g_last g_said g_length g_symmetryCount b_text b_elements b_bonds b_counts b_pile b_marks b_saids b_row b_least b_orbits b_path b_far b_sums R
  obtain ⟨c, tx, N, E, B, hc, hX, hY, htx, hrd, hS⟩ := id R
  rcases wk_slot v1 with ⟨s, hs, rfl⟩ | hb
  · obtain ⟨hK, hTX, hTY⟩ := hS s hs
    rcases Classical.em ((∃ a, a < N s ∧ v2 = nI a) ∧ (∃ a, a < N s ∧ v3 = nI a)) with ⟨⟨a, ha, rfl⟩, ⟨b, hb, rfl⟩⟩ | hno
    · rcases Nat.eq_zero_or_pos (B s a b) with z | z
      · exact xx_smallest_0 hs hK hTX ha hb z (yy_smallest_g hs hK hTY ha hb (fun _ => ⟨rfl, rl_in R⟩) (fun y => absurd z (by omega)))
      · exact xx_smallest_g hs hK hTX ha hb z (fun nr nro => yy_smallest_g hs hK hTY ha hb (fun y => absurd z (by omega)) (fun _ fr => ⟨rfl, rl_in R⟩))
    · have w2 : (∃ a, a < N s ∧ v2 = nI a) ∨ (¬ v2 < 0 → nI (N s) ≤ v2) := (wk_atom v2 (N s) hK.1).imp id (fun z => z.1)
      have w3 : (∃ a, a < N s ∧ v3 = nI a) ∨ (¬ v3 < 0 → nI (N s) ≤ v3) := (wk_atom v3 (N s) hK.1).imp id (fun z => z.1)
      exact xx_smallest_b hs hK.1 hTX.1 w2 w3 hno (yy_smallest_b hs hK.1 hTY.1 w2 w3 hno ⟨rfl, rl_in R⟩)
  · unfold wpX_smallest
    refine xx_slot_b hb (br_f wk_10 ?_)
    unfold wpY_smallest
    exact yy_slot_b hb (br_t rfl ⟨rfl, rl_in R⟩)
theorem i_vc_symmetries {k : Nat} {u : SX} {v : SY} (I : i_Rel k u v) (hk : k + 4 ≤ 2048) (v1 : Int32) : wpX_symmetries (fun r u' => wpY_symmetries (fun r' v' => r' = r ∧ i_Rel (k + 4) u' v') v v1) u v1 := by
  refine rl_el (P := fun u v => wpX_symmetries (fun r u' => wpY_symmetries (fun r' v' => r' = r ∧ i_Rel (k + 4) u' v') v v1) u v1) ?_ I
  intro f_count f_isRead f_wrongPlace f_readAtoms f_last f_said f_piled f_orders a_text a_readElement a_readBond a_readUsed a_pile a_markAtom a_markOrder a_size a_elements a_bonds a_near a_nearOf a_least a_other a_trial a_placed a_tried a_setWays a_setEnds a_setCounts a_standsAt a_firstOrder a_could a_asked g_size g_height g_last g_said g_length g_symmetryCount b_text b_elements b_bonds b_counts b_pile b_marks b_saids b_row b_least b_orbits b_path b_far b_sums R
  obtain ⟨c, tx, N, E, B, hc, hX, hY, htx, hrd, hS⟩ := id R
  rcases wk_slot v1 with ⟨s, hs, rfl⟩ | hb
  · obtain ⟨hK, hTX, hTY⟩ := hS s hs
    exact xx_symmetries hs hK hTX (fun ord le tr pl ti sa fi => yy_symmetries hs hK hTY (fun sc ro ob => ⟨rfl, rl_in R⟩))
  · unfold wpX_symmetries
    refine xx_slot_b hb (br_f wk_10 ?_)
    unfold wpY_symmetries
    exact yy_slot_b hb (br_t rfl ⟨rfl, rl_in R⟩)
theorem i_vc_orbit {k : Nat} {u : SX} {v : SY} (I : i_Rel k u v) (hk : k + 4 ≤ 2048) (v1 : Int32) (v2 : Int32) : wpX_orbit (fun r u' => wpY_orbit (fun r' v' => r' = r ∧ i_Rel (k + 4) u' v') v v1 v2) u v1 v2 := by
  refine rl_el (P := fun u v => wpX_orbit (fun r u' => wpY_orbit (fun r' v' => r' = r ∧ i_Rel (k + 4) u' v') v v1 v2) u v1 v2) ?_ I
  intro f_count f_isRead f_wrongPlace f_readAtoms f_last f_said f_piled f_orders a_text a_readElement a_readBond a_readUsed a_pile a_markAtom a_markOrder a_size a_elements a_bonds a_near a_nearOf a_least a_other a_trial a_placed a_tried a_setWays a_setEnds a_setCounts a_standsAt a_firstOrder a_could a_asked g_size g_height g_last g_said g_length g_symmetryCount b_text b_elements b_bonds b_counts b_pile b_marks b_saids b_row b_least b_orbits b_path b_far b_sums R
  obtain ⟨c, tx, N, E, B, hc, hX, hY, htx, hrd, hS⟩ := id R
  rcases wk_slot v1 with ⟨s, hs, rfl⟩ | hb
  · obtain ⟨hK, hTX, hTY⟩ := hS s hs
    rcases wk_atom v2 (N s) hK.1 with ⟨a, ha, rfl⟩ | ⟨hv, _⟩
    · exact xx_orbit_g hs hK hTX ha (fun ord le tr pl ti sa fi => yy_orbit_g hs hK hTY ha (fun sc ro ob => ⟨rfl, rl_in R⟩))
    · exact xx_orbit_b hs hK.1 hTX.1 hv (yy_orbit_b hs hK hTY hv (fun sc ro ob => ⟨rfl, rl_in R⟩))
  · unfold wpX_orbit
    refine xx_slot_b hb (br_f wk_10 ?_)
    unfold wpY_orbit
    exact yy_slot_b hb (br_t rfl ⟨rfl, rl_in R⟩)
theorem i_vc_form {k : Nat} {u : SX} {v : SY} (I : i_Rel k u v) (hk : k + 4 ≤ 2048) (v1 : Int32) (v2 : Int32) : wpX_form (fun r u' => wpY_form (fun r' v' => r' = r ∧ i_Rel (k + 4) u' v') v v1 v2) u v1 v2 := by
  refine rl_el (P := fun u v => wpX_form (fun r u' => wpY_form (fun r' v' => r' = r ∧ i_Rel (k + 4) u' v') v v1 v2) u v1 v2) ?_ I
  intro f_count f_isRead f_wrongPlace f_readAtoms f_last f_said f_piled f_orders a_text a_readElement a_readBond a_readUsed a_pile a_markAtom a_markOrder a_size a_elements a_bonds a_near a_nearOf a_least a_other a_trial a_placed a_tried a_setWays a_setEnds a_setCounts a_standsAt a_firstOrder a_could a_asked g_size g_height g_last g_said g_length g_symmetryCount b_text b_elements b_bonds b_counts b_pile b_marks b_saids b_row b_least b_orbits b_path b_far b_sums R
  obtain ⟨c, tx, N, E, B, hc, hX, hY, htx, hrd, hS⟩ := id R
  rcases wk_slot v1 with ⟨s, hs, rfl⟩ | hb
  · obtain ⟨hK, hTX, hTY⟩ := hS s hs
    have hn := hK.1
    have h28 := fo_t28 (N s) (by omega)
    have hcase : (∃ i, i < fo_t (N s) ∧ v2 = nI i) ∨ (¬ v2 < 0 → nI (fo_t (N s)) ≤ v2) := by
      rcases pk_ix v2 (n := fo_t (N s)) (by omega) with h | h | ⟨j, hj, e⟩
      · exact Or.inr (fun z => absurd h z)
      · exact Or.inr (fun _ => h)
      · exact Or.inl ⟨j, hj, e⟩
    rcases hcase with ⟨i, hi, rfl⟩ | hv
    · exact xx_form_g hs hK hTX hi (fun M ord le tr pl ti sa fi hM => yy_form_g hs hK hTY hi (fun M' ln le' ro hM' => ⟨congrArg nI (fo_mn_u hM' hM i (by omega)), rl_in R⟩))
    · exact xx_form_b hs hn hTX.1 hv (yy_form_b hs hK hTY hv (fun ln le ro => ⟨rfl, rl_in R⟩))
  · unfold wpX_form
    refine xx_slot_b hb (br_f wk_10 ?_)
    unfold wpY_form
    exact yy_slot_b hb (br_t rfl ⟨rfl, rl_in R⟩)
theorem i_vc_alike {k : Nat} {u : SX} {v : SY} (I : i_Rel k u v) (hk : k + 4 ≤ 2048) : wpX_alike (fun r u' => wpY_alike (fun r' v' => r' = r ∧ i_Rel (k + 4) u' v') v) u := by
  refine rl_el (P := fun u v => wpX_alike (fun r u' => wpY_alike (fun r' v' => r' = r ∧ i_Rel (k + 4) u' v') v) u) ?_ I
  intro f_count f_isRead f_wrongPlace f_readAtoms f_last f_said f_piled f_orders a_text a_readElement a_readBond a_readUsed a_pile a_markAtom a_markOrder a_size a_elements a_bonds a_near a_nearOf a_least a_other a_trial a_placed a_tried a_setWays a_setEnds a_setCounts a_standsAt a_firstOrder a_could a_asked g_size g_height g_last g_said g_length g_symmetryCount b_text b_elements b_bonds b_counts b_pile b_marks b_saids b_row b_least b_orbits b_path b_far b_sums R
  obtain ⟨c, tx, N, E, B, hc, hX, hY, htx, hrd, hS⟩ := id R
  obtain ⟨hK0, hTX0, hTY0⟩ := hS 0 (by omega)
  obtain ⟨hK1, hTX1, hTY1⟩ := hS 1 (by omega)
  rcases Classical.em (N 0 = N 1) with e | e
  · rw [← e] at hK1 hTX1 hTY1
    exact xx_alike hK0 hK1 hTX0 hTX1 (fun ord le ot tr pl ti sa fi => yy_alike hK0 hK1 hTY0 hTY1 (fun ro => ⟨rfl, rl_in R⟩))
  · exact xx_alike_n hTX0.1 hTX1.1 hK0.1 hK1.1 e (yy_alike_n hTY0.1 hTY1.1 hK0.1 hK1.1 e (fun ro => ⟨rfl, rl_in R⟩))
theorem i_vc_found {k : Nat} {u : SX} {v : SY} (I : i_Rel k u v) (hk : k + 4 ≤ 2048) : wpX_found (fun r u' => wpY_found (fun r' v' => r' = r ∧ i_Rel (k + 4) u' v') v) u := by
  refine rl_el (P := fun u v => wpX_found (fun r u' => wpY_found (fun r' v' => r' = r ∧ i_Rel (k + 4) u' v') v) u) ?_ I
  intro f_count f_isRead f_wrongPlace f_readAtoms f_last f_said f_piled f_orders a_text a_readElement a_readBond a_readUsed a_pile a_markAtom a_markOrder a_size a_elements a_bonds a_near a_nearOf a_least a_other a_trial a_placed a_tried a_setWays a_setEnds a_setCounts a_standsAt a_firstOrder a_could a_asked g_size g_height g_last g_said g_length g_symmetryCount b_text b_elements b_bonds b_counts b_pile b_marks b_saids b_row b_least b_orbits b_path b_far b_sums R
  obtain ⟨c, tx, N, E, B, hc, hX, hY, htx, hrd, hS⟩ := id R
  obtain ⟨hK0, hTX0, hTY0⟩ := hS 0 (by omega)
  obtain ⟨hK1, hTX1, hTY1⟩ := hS 1 (by omega)
  rcases Nat.eq_zero_or_pos (N 1) with e | e
  · exact xx_found_0 (by rw [hTX1.1, e]) (yy_found hK0 hK1 hTY0 hTY1 (fun _ path => ⟨rfl, rl_in R⟩) (fun z => absurd e (by omega)))
  · exact xx_found hK0 hK1 hTX0 hTX1 e (fun nr nro ti co ak => yy_found hK0 hK1 hTY0 hTY1 (fun z => absurd e (by omega)) (fun _ path => ⟨rfl, rl_in R⟩))
theorem i_vc_matchings {k : Nat} {u : SX} {v : SY} (I : i_Rel k u v) (hk : k + 4 ≤ 2048) (v1 : Int32) : wpX_matchings (fun r u' => wpY_matchings (fun r' v' => r' = r ∧ i_Rel (k + 4) u' v') v v1) u v1 := by
  refine rl_el (P := fun u v => wpX_matchings (fun r u' => wpY_matchings (fun r' v' => r' = r ∧ i_Rel (k + 4) u' v') v v1) u v1) ?_ I
  intro f_count f_isRead f_wrongPlace f_readAtoms f_last f_said f_piled f_orders a_text a_readElement a_readBond a_readUsed a_pile a_markAtom a_markOrder a_size a_elements a_bonds a_near a_nearOf a_least a_other a_trial a_placed a_tried a_setWays a_setEnds a_setCounts a_standsAt a_firstOrder a_could a_asked g_size g_height g_last g_said g_length g_symmetryCount b_text b_elements b_bonds b_counts b_pile b_marks b_saids b_row b_least b_orbits b_path b_far b_sums R
  obtain ⟨c, tx, N, E, B, hc, hX, hY, htx, hrd, hS⟩ := id R
  rcases wk_slot v1 with ⟨s, hs, rfl⟩ | hb
  · obtain ⟨hK, hTX, hTY⟩ := hS s hs
    exact xx_matchings hs hK hTX (fun nr nro sw => yy_matchings hs hK hTY (fun su => ⟨rfl, rl_in R⟩))
  · unfold wpX_matchings
    refine xx_slot_b hb (br_f wk_10 ?_)
    unfold wpY_matchings
    exact yy_slot_b hb (br_t rfl ⟨rfl, rl_in R⟩)
theorem i_vc_spread {k : Nat} {u : SX} {v : SY} (I : i_Rel k u v) (hk : k + 4 ≤ 2048) (v1 : Int32) : wpX_spread (fun r u' => wpY_spread (fun r' v' => r' = r ∧ i_Rel (k + 4) u' v') v v1) u v1 := by
  refine rl_el (P := fun u v => wpX_spread (fun r u' => wpY_spread (fun r' v' => r' = r ∧ i_Rel (k + 4) u' v') v v1) u v1) ?_ I
  intro f_count f_isRead f_wrongPlace f_readAtoms f_last f_said f_piled f_orders a_text a_readElement a_readBond a_readUsed a_pile a_markAtom a_markOrder a_size a_elements a_bonds a_near a_nearOf a_least a_other a_trial a_placed a_tried a_setWays a_setEnds a_setCounts a_standsAt a_firstOrder a_could a_asked g_size g_height g_last g_said g_length g_symmetryCount b_text b_elements b_bonds b_counts b_pile b_marks b_saids b_row b_least b_orbits b_path b_far b_sums R
  obtain ⟨c, tx, N, E, B, hc, hX, hY, htx, hrd, hS⟩ := id R
  rcases wk_slot v1 with ⟨s, hs, rfl⟩ | hb
  · obtain ⟨hK, hTX, hTY⟩ := hS s hs
    exact xx_spread hs hK hTX (fun nr nro => yy_spread hs hK hTY (fun fr => ⟨congrArg nI (yg_sp (mo_G_in hK.1) (mo_G_sy hK.2.2.2) hK.1), rl_in R⟩))
  · unfold wpX_spread
    refine xx_slot_b hb (br_f wk_10 ?_)
    unfold wpY_spread
    exact yy_slot_b hb (br_t rfl ⟨rfl, rl_in R⟩)
theorem i_vc_bridges {k : Nat} {u : SX} {v : SY} (I : i_Rel k u v) (hk : k + 4 ≤ 2048) (v1 : Int32) : wpX_bridges (fun r u' => wpY_bridges (fun r' v' => r' = r ∧ i_Rel (k + 4) u' v') v v1) u v1 := by
  refine rl_el (P := fun u v => wpX_bridges (fun r u' => wpY_bridges (fun r' v' => r' = r ∧ i_Rel (k + 4) u' v') v v1) u v1) ?_ I
  intro f_count f_isRead f_wrongPlace f_readAtoms f_last f_said f_piled f_orders a_text a_readElement a_readBond a_readUsed a_pile a_markAtom a_markOrder a_size a_elements a_bonds a_near a_nearOf a_least a_other a_trial a_placed a_tried a_setWays a_setEnds a_setCounts a_standsAt a_firstOrder a_could a_asked g_size g_height g_last g_said g_length g_symmetryCount b_text b_elements b_bonds b_counts b_pile b_marks b_saids b_row b_least b_orbits b_path b_far b_sums R
  obtain ⟨c, tx, N, E, B, hc, hX, hY, htx, hrd, hS⟩ := id R
  rcases wk_slot v1 with ⟨s, hs, rfl⟩ | hb
  · obtain ⟨hK, hTX, hTY⟩ := hS s hs
    exact xx_bridges hs hK hTX (fun nr nro => yy_bridges hs hK hTY (fun fr => ⟨congrArg nI (yg_br hK.1), rl_in R⟩))
  · unfold wpX_bridges
    refine xx_slot_b hb (br_f wk_10 ?_)
    unfold wpY_bridges
    exact yy_slot_b hb (br_t rfl ⟨rfl, rl_in R⟩)
theorem i_vc_longest {k : Nat} {u : SX} {v : SY} (I : i_Rel k u v) (hk : k + 4 ≤ 2048) (v1 : Int32) : wpX_longest (fun r u' => wpY_longest (fun r' v' => r' = r ∧ i_Rel (k + 4) u' v') v v1) u v1 := by
  refine rl_el (P := fun u v => wpX_longest (fun r u' => wpY_longest (fun r' v' => r' = r ∧ i_Rel (k + 4) u' v') v v1) u v1) ?_ I
  intro f_count f_isRead f_wrongPlace f_readAtoms f_last f_said f_piled f_orders a_text a_readElement a_readBond a_readUsed a_pile a_markAtom a_markOrder a_size a_elements a_bonds a_near a_nearOf a_least a_other a_trial a_placed a_tried a_setWays a_setEnds a_setCounts a_standsAt a_firstOrder a_could a_asked g_size g_height g_last g_said g_length g_symmetryCount b_text b_elements b_bonds b_counts b_pile b_marks b_saids b_row b_least b_orbits b_path b_far b_sums R
  obtain ⟨c, tx, N, E, B, hc, hX, hY, htx, hrd, hS⟩ := id R
  rcases wk_slot v1 with ⟨s, hs, rfl⟩ | hb
  · obtain ⟨hK, hTX, hTY⟩ := hS s hs
    have hm := p2_mxY (mo_G (N s) (B s)) hK.1
    exact xx_longest hs hK hTX hm (fun nr nro se => yy_longest hs hK hTY (fun m' path hm' => ⟨congrArg nI (p2_mx_u hm' hm), rl_in R⟩))
  · unfold wpX_longest
    refine xx_slot_b hb (br_f wk_10 ?_)
    unfold wpY_longest
    exact yy_slot_b hb (br_t rfl ⟨rfl, rl_in R⟩)
end
