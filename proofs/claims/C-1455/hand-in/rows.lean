section
/-! pure rows to paste: stores, nI and lN arithmetic, masks, shifts, narrowing, branches by naturals (pk_le, pk_lt, pk_eq), loops (lp1 .. lp16: the measure of the state; rp1 ..: recursion), negatives. Take what you need -/
theorem pk_us {f : Nat → Int32} {k : Nat} {x : Int32} : upd f k x k = x := if_pos rfl
theorem pk_un {f : Nat → Int32} {k j : Nat} {x : Int32} (h : j ≠ k) : upd f k x j = f j := if_neg h
theorem pk_uLs {f : Nat → Int64} {k : Nat} {x : Int64} : vp_updL f k x k = x := if_pos rfl
theorem pk_uLn {f : Nat → Int64} {k j : Nat} {x : Int64} (h : j ≠ k) : vp_updL f k x j = f j := if_neg h
theorem pk_sub {a b : Nat} (h : b ≤ a) : nI a - nI b = nI (a - b) := by
  obtain ⟨c, rfl⟩ : ∃ c, a = c + b := ⟨a - b, by omega⟩
  rw [← nI_add, Int32.add_sub_cancel, Nat.add_sub_cancel]
theorem pk_m1 (n : Nat) : nI (n + 1) + (-1) = nI n := by
  rw [← nI_1, Int32.add_assoc, show (1 : Int32) + (-1) = 0 from rfl, Int32.add_zero]
theorem pk_mul (a b : Nat) : nI a * nI b = nI (a * b) := (Int32.ofNat_mul a b).symm
theorem pk_div {a d : Nat} (ha : a < 2 ^ 31) (h0 : 0 < d) (hd : d < 2 ^ 31) : nI a / nI d = nI (a / d) := by
  apply Int32.toInt_inj.mp
  rw [lg_idiv_nonneg (by rw [nI_toInt ha]; omega) (by rw [nI_toInt hd]; omega), nI_toInt ha, nI_toInt hd, nI_toInt (Nat.lt_of_le_of_lt (Nat.div_le_self a d) ha)]
  first | rfl | exact (Int.natCast_ediv _ _).symm
theorem pk_rem {a d : Nat} (ha : a < 2 ^ 31) (h0 : 0 < d) (hd : d < 2 ^ 31) : nI a - nI a / nI d * nI d = nI (a % d) := by
  rw [pk_div ha h0 hd, pk_mul, pk_sub (Nat.div_mul_le_self a d)]
  exact congrArg nI (by have := Nat.div_add_mod' a d; omega)
theorem pk_sub_toInt {a b : Nat} (ha : a < 2 ^ 30) (hb : b < 2 ^ 30) : (nI a - nI b).toInt = (a : Int) - b := by
  rw [Int32.toInt_sub, nI_toInt (by omega), nI_toInt (by omega)]
  exact Int.bmod_eq_of_le (by omega) (by omega)
theorem pk_sneg {a b : Nat} (hb : b < 2 ^ 30) (h : a < b) : nI a - nI b < 0 := by
  rw [Int32.lt_iff_toInt_lt, pk_sub_toInt (by omega) hb, show (0 : Int32).toInt = 0 from by decide]
  omega
theorem pk_ix (x : Int32) {n : Nat} (hn : n < 2 ^ 31) : x < 0 ∨ nI n ≤ x ∨ ∃ j : Nat, j < n ∧ x = nI j := by
  by_cases h : x < 0
  · exact Or.inl h
  · obtain ⟨j, hj, rfl⟩ := nI_of h
    by_cases h2 : j < n
    · exact Or.inr (Or.inr ⟨j, h2, rfl⟩)
    · exact Or.inr (Or.inl (nI_le (by omega) hj))
theorem pk_le {x y : Int32} {A B : Prop} (a b : Nat) (f : a ≤ b → A) (g : b < a → B) (hx : x = nI a := by rfl) (hy : y = nI b := by rfl) (ha : a < 2 ^ 31 := by omega) (hb : b < 2 ^ 31 := by omega) : (x ≤ y → A) ∧ (¬ x ≤ y → B) := by
  subst hx hy
  rw [nI_leI ha hb]
  exact ⟨f, fun z => g (by omega)⟩
theorem pk_lt {x y : Int32} {A B : Prop} (a b : Nat) (f : a < b → A) (g : b ≤ a → B) (hx : x = nI a := by rfl) (hy : y = nI b := by rfl) (ha : a < 2 ^ 31 := by omega) (hb : b < 2 ^ 31 := by omega) : (x < y → A) ∧ (¬ x < y → B) := by
  subst hx hy
  rw [nI_ltI ha hb]
  exact ⟨f, fun z => g (by omega)⟩
theorem pk_eq {x y : Int32} {A B : Prop} (a b : Nat) (f : a = b → A) (g : a ≠ b → B) (hx : x = nI a := by rfl) (hy : y = nI b := by rfl) (ha : a < 2 ^ 31 := by omega) (hb : b < 2 ^ 31 := by omega) : (x = y → A) ∧ (¬ x = y → B) := by
  subst hx hy
  rw [nI_eq ha hb]
  exact ⟨f, g⟩
theorem pk_in {x : Int32} (n N : Nat) (h : n < N) (hx : x = nI n := by rfl) (hN : N < 2 ^ 31 := by omega) : vp_in x N := by
  subst hx
  exact vp_in_nI h hN
theorem pk_cl {x : Int32} (n : Nat) (hx : x = nI n := by rfl) (h : n < 2 ^ 31 := by omega) : x.toNatClampNeg = n := by
  subst hx
  exact nI_clamp h
theorem pk_tn {n : Nat} (h : n < 2 ^ 32) : (nI n).toBitVec.toNat = n := Nat.mod_eq_of_lt h
theorem pk_and (x : Int32) {m : Int32} (k : Nat) (hm : m.toBitVec.toNat = 2 ^ k - 1) : x &&& m = nI (x.toBitVec.toNat % 2 ^ k) := by
  apply Int32.toBitVec_inj.mp
  apply BitVec.eq_of_toNat_eq
  rw [Int32.toBitVec_and, BitVec.toNat_and, hm, Nat.and_two_pow_sub_one_eq_mod]
  show _ = (BitVec.ofNat 32 _).toNat
  rw [BitVec.toNat_ofNat]
  exact (Nat.mod_eq_of_lt (Nat.lt_of_le_of_lt (Nat.mod_le _ _) x.toBitVec.isLt)).symm
theorem pk_andN {n : Nat} (h : n < 2 ^ 32) {m : Int32} (k : Nat) (hm : m.toBitVec.toNat = 2 ^ k - 1) : nI n &&& m = nI (n % 2 ^ k) := by
  rw [pk_and _ k hm, pk_tn h]
theorem pk_andE (x : Int32) {m : Int32} (k : Nat) (hm : m.toBitVec.toNat = 2 ^ k - 1) : ∃ j : Nat, j < 2 ^ k ∧ x &&& m = nI j := ⟨_, Nat.mod_lt _ (Nat.two_pow_pos k), pk_and x k hm⟩
theorem pk_andIn (x : Int32) {m : Int32} (k : Nat) (hm : m.toBitVec.toNat = 2 ^ k - 1) (hk : k ≤ 30) : vp_in (x &&& m) (2 ^ k) := by
  obtain ⟨j, hj, e⟩ := pk_andE x k hm
  rw [e]
  exact vp_in_nI hj (Nat.lt_of_le_of_lt (Nat.pow_le_pow_right (by decide) hk) (by decide))
theorem pk_shl (a s : Int32) (k : Nat) (hs : (s.toBitVec.smod 32).toNat = k) : (a <<< s).toBitVec.toNat = a.toBitVec.toNat * 2 ^ k % 2 ^ 32 := by
  show (a.toBitVec <<< (s.toBitVec.smod 32).toNat).toNat = _
  rw [hs, BitVec.toNat_shiftLeft, Nat.shiftLeft_eq]
theorem pk_shlN {n : Nat} (s : Int32) (k : Nat) (hs : (s.toBitVec.smod 32).toNat = k) (h : n * 2 ^ k < 2 ^ 32) : nI n <<< s = nI (n * 2 ^ k) := by
  apply Int32.toBitVec_inj.mp
  apply BitVec.eq_of_toNat_eq
  have hn : n < 2 ^ 32 := Nat.lt_of_le_of_lt (Nat.le_mul_of_pos_right n (Nat.two_pow_pos k)) h
  rw [pk_shl _ _ k hs, pk_tn hn, pk_tn h, Nat.mod_eq_of_lt h]
theorem pk_shr (a s : Int32) (k : Nat) (hs : (s.toBitVec.smod 32).toNat = k) : (a >>> s).toInt = a.toInt >>> k := by
  show (a.toBitVec.sshiftRight (s.toBitVec.smod 32).toNat).toInt = _
  rw [hs, BitVec.toInt_sshiftRight]
  rfl
theorem pk_shrN {n : Nat} (h : n < 2 ^ 31) (s : Int32) (k : Nat) (hs : (s.toBitVec.smod 32).toNat = k) : nI n >>> s = nI (n / 2 ^ k) := by
  apply Int32.toInt_inj.mp
  have h2 : n / 2 ^ k ≤ n := Nat.div_le_self _ _
  rw [pk_shr _ _ k hs, nI_toInt h, nI_toInt (by omega), Int.shiftRight_eq_div_pow]
  rfl
theorem pk_ushr (x s : Int32) (k : Nat) (hs : ((s.toUInt32 &&& Int32.toUInt32 31).toBitVec % 32).toNat = k) : (x.toUInt32 >>> (s.toUInt32 &&& Int32.toUInt32 31)).toInt32.toBitVec.toNat = x.toBitVec.toNat / 2 ^ k := by
  have e : (x.toUInt32 >>> (s.toUInt32 &&& Int32.toUInt32 31)).toInt32.toBitVec = x.toBitVec >>> k := by
    rw [← hs]
    exact UInt32.toBitVec_shiftRight _ _
  rw [e, BitVec.toNat_ushiftRight, Nat.shiftRight_eq_div_pow]
theorem pk_ushrN {n : Nat} (hn : n < 2 ^ 32) (s : Int32) (k : Nat) (hs : ((s.toUInt32 &&& Int32.toUInt32 31).toBitVec % 32).toNat = k) : ((nI n).toUInt32 >>> (s.toUInt32 &&& Int32.toUInt32 31)).toInt32 = nI (n / 2 ^ k) := by
  apply Int32.toBitVec_inj.mp
  apply BitVec.eq_of_toNat_eq
  rw [pk_ushr _ s k hs, pk_tn hn, pk_tn (Nat.lt_of_le_of_lt (Nat.div_le_self _ _) hn)]
theorem pk_nb (z : Int32) : narrow .byte (.int z.toInt8.toInt32) = .int z.toInt8.toInt32 := congrArg Value.int (by simp)
theorem pk_ns (z : Int32) : narrow .short (.int z.toInt16.toInt32) = .int z.toInt16.toInt32 := congrArg Value.int (by simp)
theorem pk_fb (r : Int32) : fits .byte (.int r.toInt8.toInt32) = true := by
  have ⟨a, b⟩ := lg_i2b_range r
  have h1 : (-128 : Int32).toInt = -128 := by decide
  have h2 : (127 : Int32).toInt = 127 := by decide
  simp only [fits, Bool.and_eq_true, decide_eq_true_eq, Int32.le_iff_toInt_le, h1, h2]
  omega
theorem pk_fs (r : Int32) : fits .short (.int r.toInt16.toInt32) = true := by
  have ⟨a, b⟩ := lg_i2s_range r
  have h1 : (-32768 : Int32).toInt = -32768 := by decide
  have h2 : (32767 : Int32).toInt = 32767 := by decide
  simp only [fits, Bool.and_eq_true, decide_eq_true_eq, Int32.le_iff_toInt_le, h1, h2]
  omega
theorem pk_charN {q : Nat} (hq : q < 65536) : narrow .char (.int (nI q)) = .int (nI q) ∧ fits .char (.int (nI q)) = true := by
  constructor
  · have e : (nI q).toUInt32.toUInt16.toUInt32.toInt32 = nI q := by
      apply Int32.toBitVec_inj.mp
      apply BitVec.eq_of_toNat_eq
      show (nI q).toUInt32.toUInt16.toUInt32.toNat = q % 2 ^ 32
      rw [UInt16.toNat_toUInt32, UInt32.toNat_toUInt16, show (nI q).toUInt32.toNat = q % 2 ^ 32 from rfl]
      omega
    exact congrArg Value.int e
  · have a : (0 : Int32) ≤ nI q := nI_pos' (by omega)
    have b : nI q ≤ 65535 := nI_le (b := 65535) (by omega) (by decide)
    show (decide ((0 : Int32) ≤ nI q) && decide (nI q ≤ 65535)) = true
    rw [decide_eq_true a, decide_eq_true b]
    rfl
theorem pk_char (x : Int32) : (x.toUInt32 % 65536).toInt32 = nI (x.toBitVec.toNat % 65536) := by
  apply Int32.toBitVec_inj.mp
  apply BitVec.eq_of_toNat_eq
  rw [pk_tn (by omega)]
  show (x.toUInt32 % 65536).toNat = _
  rw [UInt32.toNat_mod]
  rfl
theorem pk_nc (x : Int32) : narrow .char (.int (x.toUInt32 % 65536).toInt32) = .int (x.toUInt32 % 65536).toInt32 := by
  rw [pk_char]
  exact (pk_charN (Nat.mod_lt _ (by decide))).1
theorem pk_fc (x : Int32) : fits .char (.int (x.toUInt32 % 65536).toInt32) = true := by
  rw [pk_char]
  exact (pk_charN (Nat.mod_lt _ (by decide))).2
theorem pk_vb (z : Int32) : vp_nar .byte z.toInt8.toInt32 = z.toInt8.toInt32 := by rw [vp_nar_byte]; simp
theorem pk_vs (z : Int32) : vp_nar .short z.toInt16.toInt32 = z.toInt16.toInt32 := by rw [vp_nar_short]; simp
theorem pk_vc (z : Int32) : vp_nar .char (z.toUInt32 % 65536).toInt32 = (z.toUInt32 % 65536).toInt32 := Value.int.inj (pk_nc z)
theorem pk_lT {n : Nat} (h : n < 2 ^ 63) : (lN n).toInt = (n : Int) := lg_ofNat_toInt h
theorem pk_lLT {a b : Nat} (ha : a < 2 ^ 63) (hb : b < 2 ^ 63) : lN a < lN b ↔ a < b := by
  rw [Int64.lt_iff_toInt_lt, pk_lT ha, pk_lT hb]; omega
theorem pk_lLE {a b : Nat} (ha : a < 2 ^ 63) (hb : b < 2 ^ 63) : lN a ≤ lN b ↔ a ≤ b := by
  rw [Int64.le_iff_toInt_le, pk_lT ha, pk_lT hb]; omega
theorem pk_lEQ {a b : Nat} (ha : a < 2 ^ 63) (hb : b < 2 ^ 63) : lN a = lN b ↔ a = b := by
  rw [← Int64.toInt_inj, pk_lT ha, pk_lT hb]; omega
theorem pk_lOf {x : Int64} (h : ¬ x < 0) : ∃ k : Nat, k < 2 ^ 63 ∧ x = lN k := by
  rw [Int64.lt_iff_toInt_lt] at h
  have h0 : (0 : Int64).toInt = 0 := by decide
  have hx := Int64.toInt_lt x
  refine ⟨x.toInt.toNat, by omega, Int64.toInt_inj.mp ?_⟩
  rw [pk_lT (by omega)]
  omega
theorem pk_lDiv {a b : Nat} (ha : a < 2 ^ 63) (h0 : 0 < b) (hb : b < 2 ^ 63) : lN a / lN b = lN (a / b) := by
  apply Int64.toInt_inj.mp
  rw [lg_ldiv_nonneg (by rw [pk_lT ha]; omega) (by rw [pk_lT hb]; omega), pk_lT ha, pk_lT hb, pk_lT (Nat.lt_of_le_of_lt (Nat.div_le_self a b) ha)]
  rfl
theorem pk_lRem {a b : Nat} (ha : a < 2 ^ 63) (h0 : 0 < b) (hb : b < 2 ^ 63) : lN a - lN a / lN b * lN b = lN (a % b) := by
  rw [pk_lDiv ha h0 hb, lN_mul, lN_sub (Nat.div_mul_le_self a b)]
  exact congrArg lN (by have := Nat.div_add_mod' a b; omega)
theorem pk_loop {σ : Type} (W : Nat → Nat → σ → Prop) (I : Nat → σ → Prop) (e i0 : Nat) (s : σ) (hi : i0 ≤ e) (h0 : I i0 s) (hx : ∀ n s, I e s → W (n + 1) e s)
    (hs : ∀ n i s, i < e → I i s → (∀ s', I (i + 1) s' → W n (i + 1) s') → W (n + 1) i s) : ∃ n, W n i0 s :=
  ⟨e + 1, loop_i W I e hx hs (e + 1) i0 s hi (by omega) h0⟩
theorem pk_loopD {σ : Type} (W : Nat → Nat → σ → Prop) (I : Nat → σ → Prop) (hx : ∀ n s, I 0 s → W (n + 1) 0 s)
    (hs : ∀ n i s, I (i + 1) s → (∀ s', I i s' → W n i s') → W (n + 1) (i + 1) s) : ∀ (e : Nat) (s : σ), I e s → W (e + 1) e s := by
  intro e
  induction e with
  | zero => exact fun s h => hx 0 s h
  | succ e ih => exact fun s h => hs (e + 1) e s h (fun s' h' => ih s' h')
theorem lp1 {A1 : Type} (W : Nat → A1 → Prop) (I : A1 → Prop) (μ : A1 → Nat) (hs : ∀ (n : Nat) (a1 : A1), I a1 → (∀ (b1 : A1), I b1 → μ b1 < μ a1 → W n b1) → W (n + 1) a1) (a1 : A1) (h : I a1) : ∃ n, W n a1 :=
  loop_m (σ := A1) (fun n s => W n s) (fun s => I s) (fun s => μ s) (fun n s hI hk => hs n s hI (fun b1 h9 hm => hk b1 h9 hm)) a1 h
theorem lp2 {A1 A2 : Type} (W : Nat → A1 → A2 → Prop) (I : A1 → A2 → Prop) (μ : A1 → A2 → Nat) (hs : ∀ (n : Nat) (a1 : A1) (a2 : A2), I a1 a2 → (∀ (b1 : A1) (b2 : A2), I b1 b2 → μ b1 b2 < μ a1 a2 → W n b1 b2) → W (n + 1) a1 a2) (a1 : A1) (a2 : A2) (h : I a1 a2) : ∃ n, W n a1 a2 :=
  loop_m (σ := A1 × A2) (fun n s => W n s.1 s.2) (fun s => I s.1 s.2) (fun s => μ s.1 s.2) (fun n s hI hk => hs n s.1 s.2 hI (fun b1 b2 h9 hm => hk (b1, b2) h9 hm)) (a1, a2) h
theorem lp3 {A1 A2 A3 : Type} (W : Nat → A1 → A2 → A3 → Prop) (I : A1 → A2 → A3 → Prop) (μ : A1 → A2 → A3 → Nat) (hs : ∀ (n : Nat) (a1 : A1) (a2 : A2) (a3 : A3), I a1 a2 a3 → (∀ (b1 : A1) (b2 : A2) (b3 : A3), I b1 b2 b3 → μ b1 b2 b3 < μ a1 a2 a3 → W n b1 b2 b3) → W (n + 1) a1 a2 a3) (a1 : A1) (a2 : A2) (a3 : A3) (h : I a1 a2 a3) : ∃ n, W n a1 a2 a3 :=
  loop_m (σ := A1 × A2 × A3) (fun n s => W n s.1 s.2.1 s.2.2) (fun s => I s.1 s.2.1 s.2.2) (fun s => μ s.1 s.2.1 s.2.2) (fun n s hI hk => hs n s.1 s.2.1 s.2.2 hI (fun b1 b2 b3 h9 hm => hk (b1, b2, b3) h9 hm)) (a1, a2, a3) h
theorem lp4 {A1 A2 A3 A4 : Type} (W : Nat → A1 → A2 → A3 → A4 → Prop) (I : A1 → A2 → A3 → A4 → Prop) (μ : A1 → A2 → A3 → A4 → Nat) (hs : ∀ (n : Nat) (a1 : A1) (a2 : A2) (a3 : A3) (a4 : A4), I a1 a2 a3 a4 → (∀ (b1 : A1) (b2 : A2) (b3 : A3) (b4 : A4), I b1 b2 b3 b4 → μ b1 b2 b3 b4 < μ a1 a2 a3 a4 → W n b1 b2 b3 b4) → W (n + 1) a1 a2 a3 a4) (a1 : A1) (a2 : A2) (a3 : A3) (a4 : A4) (h : I a1 a2 a3 a4) : ∃ n, W n a1 a2 a3 a4 :=
  loop_m (σ := A1 × A2 × A3 × A4) (fun n s => W n s.1 s.2.1 s.2.2.1 s.2.2.2) (fun s => I s.1 s.2.1 s.2.2.1 s.2.2.2) (fun s => μ s.1 s.2.1 s.2.2.1 s.2.2.2) (fun n s hI hk => hs n s.1 s.2.1 s.2.2.1 s.2.2.2 hI (fun b1 b2 b3 b4 h9 hm => hk (b1, b2, b3, b4) h9 hm)) (a1, a2, a3, a4) h
theorem lp5 {A1 A2 A3 A4 A5 : Type} (W : Nat → A1 → A2 → A3 → A4 → A5 → Prop) (I : A1 → A2 → A3 → A4 → A5 → Prop) (μ : A1 → A2 → A3 → A4 → A5 → Nat) (hs : ∀ (n : Nat) (a1 : A1) (a2 : A2) (a3 : A3) (a4 : A4) (a5 : A5), I a1 a2 a3 a4 a5 → (∀ (b1 : A1) (b2 : A2) (b3 : A3) (b4 : A4) (b5 : A5), I b1 b2 b3 b4 b5 → μ b1 b2 b3 b4 b5 < μ a1 a2 a3 a4 a5 → W n b1 b2 b3 b4 b5) → W (n + 1) a1 a2 a3 a4 a5) (a1 : A1) (a2 : A2) (a3 : A3) (a4 : A4) (a5 : A5) (h : I a1 a2 a3 a4 a5) : ∃ n, W n a1 a2 a3 a4 a5 :=
  loop_m (σ := A1 × A2 × A3 × A4 × A5) (fun n s => W n s.1 s.2.1 s.2.2.1 s.2.2.2.1 s.2.2.2.2) (fun s => I s.1 s.2.1 s.2.2.1 s.2.2.2.1 s.2.2.2.2) (fun s => μ s.1 s.2.1 s.2.2.1 s.2.2.2.1 s.2.2.2.2) (fun n s hI hk => hs n s.1 s.2.1 s.2.2.1 s.2.2.2.1 s.2.2.2.2 hI (fun b1 b2 b3 b4 b5 h9 hm => hk (b1, b2, b3, b4, b5) h9 hm)) (a1, a2, a3, a4, a5) h
theorem lp6 {A1 A2 A3 A4 A5 A6 : Type} (W : Nat → A1 → A2 → A3 → A4 → A5 → A6 → Prop) (I : A1 → A2 → A3 → A4 → A5 → A6 → Prop) (μ : A1 → A2 → A3 → A4 → A5 → A6 → Nat) (hs : ∀ (n : Nat) (a1 : A1) (a2 : A2) (a3 : A3) (a4 : A4) (a5 : A5) (a6 : A6), I a1 a2 a3 a4 a5 a6 → (∀ (b1 : A1) (b2 : A2) (b3 : A3) (b4 : A4) (b5 : A5) (b6 : A6), I b1 b2 b3 b4 b5 b6 → μ b1 b2 b3 b4 b5 b6 < μ a1 a2 a3 a4 a5 a6 → W n b1 b2 b3 b4 b5 b6) → W (n + 1) a1 a2 a3 a4 a5 a6) (a1 : A1) (a2 : A2) (a3 : A3) (a4 : A4) (a5 : A5) (a6 : A6) (h : I a1 a2 a3 a4 a5 a6) : ∃ n, W n a1 a2 a3 a4 a5 a6 :=
  loop_m (σ := A1 × A2 × A3 × A4 × A5 × A6) (fun n s => W n s.1 s.2.1 s.2.2.1 s.2.2.2.1 s.2.2.2.2.1 s.2.2.2.2.2) (fun s => I s.1 s.2.1 s.2.2.1 s.2.2.2.1 s.2.2.2.2.1 s.2.2.2.2.2) (fun s => μ s.1 s.2.1 s.2.2.1 s.2.2.2.1 s.2.2.2.2.1 s.2.2.2.2.2) (fun n s hI hk => hs n s.1 s.2.1 s.2.2.1 s.2.2.2.1 s.2.2.2.2.1 s.2.2.2.2.2 hI (fun b1 b2 b3 b4 b5 b6 h9 hm => hk (b1, b2, b3, b4, b5, b6) h9 hm)) (a1, a2, a3, a4, a5, a6) h
theorem lp7 {A1 A2 A3 A4 A5 A6 A7 : Type} (W : Nat → A1 → A2 → A3 → A4 → A5 → A6 → A7 → Prop) (I : A1 → A2 → A3 → A4 → A5 → A6 → A7 → Prop) (μ : A1 → A2 → A3 → A4 → A5 → A6 → A7 → Nat) (hs : ∀ (n : Nat) (a1 : A1) (a2 : A2) (a3 : A3) (a4 : A4) (a5 : A5) (a6 : A6) (a7 : A7), I a1 a2 a3 a4 a5 a6 a7 → (∀ (b1 : A1) (b2 : A2) (b3 : A3) (b4 : A4) (b5 : A5) (b6 : A6) (b7 : A7), I b1 b2 b3 b4 b5 b6 b7 → μ b1 b2 b3 b4 b5 b6 b7 < μ a1 a2 a3 a4 a5 a6 a7 → W n b1 b2 b3 b4 b5 b6 b7) → W (n + 1) a1 a2 a3 a4 a5 a6 a7) (a1 : A1) (a2 : A2) (a3 : A3) (a4 : A4) (a5 : A5) (a6 : A6) (a7 : A7) (h : I a1 a2 a3 a4 a5 a6 a7) : ∃ n, W n a1 a2 a3 a4 a5 a6 a7 :=
  loop_m (σ := A1 × A2 × A3 × A4 × A5 × A6 × A7) (fun n s => W n s.1 s.2.1 s.2.2.1 s.2.2.2.1 s.2.2.2.2.1 s.2.2.2.2.2.1 s.2.2.2.2.2.2) (fun s => I s.1 s.2.1 s.2.2.1 s.2.2.2.1 s.2.2.2.2.1 s.2.2.2.2.2.1 s.2.2.2.2.2.2) (fun s => μ s.1 s.2.1 s.2.2.1 s.2.2.2.1 s.2.2.2.2.1 s.2.2.2.2.2.1 s.2.2.2.2.2.2) (fun n s hI hk => hs n s.1 s.2.1 s.2.2.1 s.2.2.2.1 s.2.2.2.2.1 s.2.2.2.2.2.1 s.2.2.2.2.2.2 hI (fun b1 b2 b3 b4 b5 b6 b7 h9 hm => hk (b1, b2, b3, b4, b5, b6, b7) h9 hm)) (a1, a2, a3, a4, a5, a6, a7) h
theorem lp8 {A1 A2 A3 A4 A5 A6 A7 A8 : Type} (W : Nat → A1 → A2 → A3 → A4 → A5 → A6 → A7 → A8 → Prop) (I : A1 → A2 → A3 → A4 → A5 → A6 → A7 → A8 → Prop) (μ : A1 → A2 → A3 → A4 → A5 → A6 → A7 → A8 → Nat) (hs : ∀ (n : Nat) (a1 : A1) (a2 : A2) (a3 : A3) (a4 : A4) (a5 : A5) (a6 : A6) (a7 : A7) (a8 : A8), I a1 a2 a3 a4 a5 a6 a7 a8 → (∀ (b1 : A1) (b2 : A2) (b3 : A3) (b4 : A4) (b5 : A5) (b6 : A6) (b7 : A7) (b8 : A8), I b1 b2 b3 b4 b5 b6 b7 b8 → μ b1 b2 b3 b4 b5 b6 b7 b8 < μ a1 a2 a3 a4 a5 a6 a7 a8 → W n b1 b2 b3 b4 b5 b6 b7 b8) → W (n + 1) a1 a2 a3 a4 a5 a6 a7 a8) (a1 : A1) (a2 : A2) (a3 : A3) (a4 : A4) (a5 : A5) (a6 : A6) (a7 : A7) (a8 : A8) (h : I a1 a2 a3 a4 a5 a6 a7 a8) : ∃ n, W n a1 a2 a3 a4 a5 a6 a7 a8 :=
  loop_m (σ := A1 × A2 × A3 × A4 × A5 × A6 × A7 × A8) (fun n s => W n s.1 s.2.1 s.2.2.1 s.2.2.2.1 s.2.2.2.2.1 s.2.2.2.2.2.1 s.2.2.2.2.2.2.1 s.2.2.2.2.2.2.2) (fun s => I s.1 s.2.1 s.2.2.1 s.2.2.2.1 s.2.2.2.2.1 s.2.2.2.2.2.1 s.2.2.2.2.2.2.1 s.2.2.2.2.2.2.2) (fun s => μ s.1 s.2.1 s.2.2.1 s.2.2.2.1 s.2.2.2.2.1 s.2.2.2.2.2.1 s.2.2.2.2.2.2.1 s.2.2.2.2.2.2.2) (fun n s hI hk => hs n s.1 s.2.1 s.2.2.1 s.2.2.2.1 s.2.2.2.2.1 s.2.2.2.2.2.1 s.2.2.2.2.2.2.1 s.2.2.2.2.2.2.2 hI (fun b1 b2 b3 b4 b5 b6 b7 b8 h9 hm => hk (b1, b2, b3, b4, b5, b6, b7, b8) h9 hm)) (a1, a2, a3, a4, a5, a6, a7, a8) h
theorem lp9 {A1 A2 A3 A4 A5 A6 A7 A8 A9 : Type} (W : Nat → A1 → A2 → A3 → A4 → A5 → A6 → A7 → A8 → A9 → Prop) (I : A1 → A2 → A3 → A4 → A5 → A6 → A7 → A8 → A9 → Prop) (μ : A1 → A2 → A3 → A4 → A5 → A6 → A7 → A8 → A9 → Nat) (hs : ∀ (n : Nat) (a1 : A1) (a2 : A2) (a3 : A3) (a4 : A4) (a5 : A5) (a6 : A6) (a7 : A7) (a8 : A8) (a9 : A9), I a1 a2 a3 a4 a5 a6 a7 a8 a9 → (∀ (b1 : A1) (b2 : A2) (b3 : A3) (b4 : A4) (b5 : A5) (b6 : A6) (b7 : A7) (b8 : A8) (b9 : A9), I b1 b2 b3 b4 b5 b6 b7 b8 b9 → μ b1 b2 b3 b4 b5 b6 b7 b8 b9 < μ a1 a2 a3 a4 a5 a6 a7 a8 a9 → W n b1 b2 b3 b4 b5 b6 b7 b8 b9) → W (n + 1) a1 a2 a3 a4 a5 a6 a7 a8 a9) (a1 : A1) (a2 : A2) (a3 : A3) (a4 : A4) (a5 : A5) (a6 : A6) (a7 : A7) (a8 : A8) (a9 : A9) (h : I a1 a2 a3 a4 a5 a6 a7 a8 a9) : ∃ n, W n a1 a2 a3 a4 a5 a6 a7 a8 a9 :=
  loop_m (σ := A1 × A2 × A3 × A4 × A5 × A6 × A7 × A8 × A9) (fun n s => W n s.1 s.2.1 s.2.2.1 s.2.2.2.1 s.2.2.2.2.1 s.2.2.2.2.2.1 s.2.2.2.2.2.2.1 s.2.2.2.2.2.2.2.1 s.2.2.2.2.2.2.2.2) (fun s => I s.1 s.2.1 s.2.2.1 s.2.2.2.1 s.2.2.2.2.1 s.2.2.2.2.2.1 s.2.2.2.2.2.2.1 s.2.2.2.2.2.2.2.1 s.2.2.2.2.2.2.2.2) (fun s => μ s.1 s.2.1 s.2.2.1 s.2.2.2.1 s.2.2.2.2.1 s.2.2.2.2.2.1 s.2.2.2.2.2.2.1 s.2.2.2.2.2.2.2.1 s.2.2.2.2.2.2.2.2) (fun n s hI hk => hs n s.1 s.2.1 s.2.2.1 s.2.2.2.1 s.2.2.2.2.1 s.2.2.2.2.2.1 s.2.2.2.2.2.2.1 s.2.2.2.2.2.2.2.1 s.2.2.2.2.2.2.2.2 hI (fun b1 b2 b3 b4 b5 b6 b7 b8 b9 h9 hm => hk (b1, b2, b3, b4, b5, b6, b7, b8, b9) h9 hm)) (a1, a2, a3, a4, a5, a6, a7, a8, a9) h
theorem lp10 {A1 A2 A3 A4 A5 A6 A7 A8 A9 A10 : Type} (W : Nat → A1 → A2 → A3 → A4 → A5 → A6 → A7 → A8 → A9 → A10 → Prop) (I : A1 → A2 → A3 → A4 → A5 → A6 → A7 → A8 → A9 → A10 → Prop) (μ : A1 → A2 → A3 → A4 → A5 → A6 → A7 → A8 → A9 → A10 → Nat) (hs : ∀ (n : Nat) (a1 : A1) (a2 : A2) (a3 : A3) (a4 : A4) (a5 : A5) (a6 : A6) (a7 : A7) (a8 : A8) (a9 : A9) (a10 : A10), I a1 a2 a3 a4 a5 a6 a7 a8 a9 a10 → (∀ (b1 : A1) (b2 : A2) (b3 : A3) (b4 : A4) (b5 : A5) (b6 : A6) (b7 : A7) (b8 : A8) (b9 : A9) (b10 : A10), I b1 b2 b3 b4 b5 b6 b7 b8 b9 b10 → μ b1 b2 b3 b4 b5 b6 b7 b8 b9 b10 < μ a1 a2 a3 a4 a5 a6 a7 a8 a9 a10 → W n b1 b2 b3 b4 b5 b6 b7 b8 b9 b10) → W (n + 1) a1 a2 a3 a4 a5 a6 a7 a8 a9 a10) (a1 : A1) (a2 : A2) (a3 : A3) (a4 : A4) (a5 : A5) (a6 : A6) (a7 : A7) (a8 : A8) (a9 : A9) (a10 : A10) (h : I a1 a2 a3 a4 a5 a6 a7 a8 a9 a10) : ∃ n, W n a1 a2 a3 a4 a5 a6 a7 a8 a9 a10 :=
  loop_m (σ := A1 × A2 × A3 × A4 × A5 × A6 × A7 × A8 × A9 × A10) (fun n s => W n s.1 s.2.1 s.2.2.1 s.2.2.2.1 s.2.2.2.2.1 s.2.2.2.2.2.1 s.2.2.2.2.2.2.1 s.2.2.2.2.2.2.2.1 s.2.2.2.2.2.2.2.2.1 s.2.2.2.2.2.2.2.2.2) (fun s => I s.1 s.2.1 s.2.2.1 s.2.2.2.1 s.2.2.2.2.1 s.2.2.2.2.2.1 s.2.2.2.2.2.2.1 s.2.2.2.2.2.2.2.1 s.2.2.2.2.2.2.2.2.1 s.2.2.2.2.2.2.2.2.2) (fun s => μ s.1 s.2.1 s.2.2.1 s.2.2.2.1 s.2.2.2.2.1 s.2.2.2.2.2.1 s.2.2.2.2.2.2.1 s.2.2.2.2.2.2.2.1 s.2.2.2.2.2.2.2.2.1 s.2.2.2.2.2.2.2.2.2) (fun n s hI hk => hs n s.1 s.2.1 s.2.2.1 s.2.2.2.1 s.2.2.2.2.1 s.2.2.2.2.2.1 s.2.2.2.2.2.2.1 s.2.2.2.2.2.2.2.1 s.2.2.2.2.2.2.2.2.1 s.2.2.2.2.2.2.2.2.2 hI (fun b1 b2 b3 b4 b5 b6 b7 b8 b9 b10 h9 hm => hk (b1, b2, b3, b4, b5, b6, b7, b8, b9, b10) h9 hm)) (a1, a2, a3, a4, a5, a6, a7, a8, a9, a10) h
theorem lp11 {A1 A2 A3 A4 A5 A6 A7 A8 A9 A10 A11 : Type} (W : Nat → A1 → A2 → A3 → A4 → A5 → A6 → A7 → A8 → A9 → A10 → A11 → Prop) (I : A1 → A2 → A3 → A4 → A5 → A6 → A7 → A8 → A9 → A10 → A11 → Prop) (μ : A1 → A2 → A3 → A4 → A5 → A6 → A7 → A8 → A9 → A10 → A11 → Nat) (hs : ∀ (n : Nat) (a1 : A1) (a2 : A2) (a3 : A3) (a4 : A4) (a5 : A5) (a6 : A6) (a7 : A7) (a8 : A8) (a9 : A9) (a10 : A10) (a11 : A11), I a1 a2 a3 a4 a5 a6 a7 a8 a9 a10 a11 → (∀ (b1 : A1) (b2 : A2) (b3 : A3) (b4 : A4) (b5 : A5) (b6 : A6) (b7 : A7) (b8 : A8) (b9 : A9) (b10 : A10) (b11 : A11), I b1 b2 b3 b4 b5 b6 b7 b8 b9 b10 b11 → μ b1 b2 b3 b4 b5 b6 b7 b8 b9 b10 b11 < μ a1 a2 a3 a4 a5 a6 a7 a8 a9 a10 a11 → W n b1 b2 b3 b4 b5 b6 b7 b8 b9 b10 b11) → W (n + 1) a1 a2 a3 a4 a5 a6 a7 a8 a9 a10 a11) (a1 : A1) (a2 : A2) (a3 : A3) (a4 : A4) (a5 : A5) (a6 : A6) (a7 : A7) (a8 : A8) (a9 : A9) (a10 : A10) (a11 : A11) (h : I a1 a2 a3 a4 a5 a6 a7 a8 a9 a10 a11) : ∃ n, W n a1 a2 a3 a4 a5 a6 a7 a8 a9 a10 a11 :=
  loop_m (σ := A1 × A2 × A3 × A4 × A5 × A6 × A7 × A8 × A9 × A10 × A11) (fun n s => W n s.1 s.2.1 s.2.2.1 s.2.2.2.1 s.2.2.2.2.1 s.2.2.2.2.2.1 s.2.2.2.2.2.2.1 s.2.2.2.2.2.2.2.1 s.2.2.2.2.2.2.2.2.1 s.2.2.2.2.2.2.2.2.2.1 s.2.2.2.2.2.2.2.2.2.2) (fun s => I s.1 s.2.1 s.2.2.1 s.2.2.2.1 s.2.2.2.2.1 s.2.2.2.2.2.1 s.2.2.2.2.2.2.1 s.2.2.2.2.2.2.2.1 s.2.2.2.2.2.2.2.2.1 s.2.2.2.2.2.2.2.2.2.1 s.2.2.2.2.2.2.2.2.2.2) (fun s => μ s.1 s.2.1 s.2.2.1 s.2.2.2.1 s.2.2.2.2.1 s.2.2.2.2.2.1 s.2.2.2.2.2.2.1 s.2.2.2.2.2.2.2.1 s.2.2.2.2.2.2.2.2.1 s.2.2.2.2.2.2.2.2.2.1 s.2.2.2.2.2.2.2.2.2.2) (fun n s hI hk => hs n s.1 s.2.1 s.2.2.1 s.2.2.2.1 s.2.2.2.2.1 s.2.2.2.2.2.1 s.2.2.2.2.2.2.1 s.2.2.2.2.2.2.2.1 s.2.2.2.2.2.2.2.2.1 s.2.2.2.2.2.2.2.2.2.1 s.2.2.2.2.2.2.2.2.2.2 hI (fun b1 b2 b3 b4 b5 b6 b7 b8 b9 b10 b11 h9 hm => hk (b1, b2, b3, b4, b5, b6, b7, b8, b9, b10, b11) h9 hm)) (a1, a2, a3, a4, a5, a6, a7, a8, a9, a10, a11) h
theorem lp12 {A1 A2 A3 A4 A5 A6 A7 A8 A9 A10 A11 A12 : Type} (W : Nat → A1 → A2 → A3 → A4 → A5 → A6 → A7 → A8 → A9 → A10 → A11 → A12 → Prop) (I : A1 → A2 → A3 → A4 → A5 → A6 → A7 → A8 → A9 → A10 → A11 → A12 → Prop) (μ : A1 → A2 → A3 → A4 → A5 → A6 → A7 → A8 → A9 → A10 → A11 → A12 → Nat) (hs : ∀ (n : Nat) (a1 : A1) (a2 : A2) (a3 : A3) (a4 : A4) (a5 : A5) (a6 : A6) (a7 : A7) (a8 : A8) (a9 : A9) (a10 : A10) (a11 : A11) (a12 : A12), I a1 a2 a3 a4 a5 a6 a7 a8 a9 a10 a11 a12 → (∀ (b1 : A1) (b2 : A2) (b3 : A3) (b4 : A4) (b5 : A5) (b6 : A6) (b7 : A7) (b8 : A8) (b9 : A9) (b10 : A10) (b11 : A11) (b12 : A12), I b1 b2 b3 b4 b5 b6 b7 b8 b9 b10 b11 b12 → μ b1 b2 b3 b4 b5 b6 b7 b8 b9 b10 b11 b12 < μ a1 a2 a3 a4 a5 a6 a7 a8 a9 a10 a11 a12 → W n b1 b2 b3 b4 b5 b6 b7 b8 b9 b10 b11 b12) → W (n + 1) a1 a2 a3 a4 a5 a6 a7 a8 a9 a10 a11 a12) (a1 : A1) (a2 : A2) (a3 : A3) (a4 : A4) (a5 : A5) (a6 : A6) (a7 : A7) (a8 : A8) (a9 : A9) (a10 : A10) (a11 : A11) (a12 : A12) (h : I a1 a2 a3 a4 a5 a6 a7 a8 a9 a10 a11 a12) : ∃ n, W n a1 a2 a3 a4 a5 a6 a7 a8 a9 a10 a11 a12 :=
  loop_m (σ := A1 × A2 × A3 × A4 × A5 × A6 × A7 × A8 × A9 × A10 × A11 × A12) (fun n s => W n s.1 s.2.1 s.2.2.1 s.2.2.2.1 s.2.2.2.2.1 s.2.2.2.2.2.1 s.2.2.2.2.2.2.1 s.2.2.2.2.2.2.2.1 s.2.2.2.2.2.2.2.2.1 s.2.2.2.2.2.2.2.2.2.1 s.2.2.2.2.2.2.2.2.2.2.1 s.2.2.2.2.2.2.2.2.2.2.2) (fun s => I s.1 s.2.1 s.2.2.1 s.2.2.2.1 s.2.2.2.2.1 s.2.2.2.2.2.1 s.2.2.2.2.2.2.1 s.2.2.2.2.2.2.2.1 s.2.2.2.2.2.2.2.2.1 s.2.2.2.2.2.2.2.2.2.1 s.2.2.2.2.2.2.2.2.2.2.1 s.2.2.2.2.2.2.2.2.2.2.2) (fun s => μ s.1 s.2.1 s.2.2.1 s.2.2.2.1 s.2.2.2.2.1 s.2.2.2.2.2.1 s.2.2.2.2.2.2.1 s.2.2.2.2.2.2.2.1 s.2.2.2.2.2.2.2.2.1 s.2.2.2.2.2.2.2.2.2.1 s.2.2.2.2.2.2.2.2.2.2.1 s.2.2.2.2.2.2.2.2.2.2.2) (fun n s hI hk => hs n s.1 s.2.1 s.2.2.1 s.2.2.2.1 s.2.2.2.2.1 s.2.2.2.2.2.1 s.2.2.2.2.2.2.1 s.2.2.2.2.2.2.2.1 s.2.2.2.2.2.2.2.2.1 s.2.2.2.2.2.2.2.2.2.1 s.2.2.2.2.2.2.2.2.2.2.1 s.2.2.2.2.2.2.2.2.2.2.2 hI (fun b1 b2 b3 b4 b5 b6 b7 b8 b9 b10 b11 b12 h9 hm => hk (b1, b2, b3, b4, b5, b6, b7, b8, b9, b10, b11, b12) h9 hm)) (a1, a2, a3, a4, a5, a6, a7, a8, a9, a10, a11, a12) h
theorem lp13 {A1 A2 A3 A4 A5 A6 A7 A8 A9 A10 A11 A12 A13 : Type} (W : Nat → A1 → A2 → A3 → A4 → A5 → A6 → A7 → A8 → A9 → A10 → A11 → A12 → A13 → Prop) (I : A1 → A2 → A3 → A4 → A5 → A6 → A7 → A8 → A9 → A10 → A11 → A12 → A13 → Prop) (μ : A1 → A2 → A3 → A4 → A5 → A6 → A7 → A8 → A9 → A10 → A11 → A12 → A13 → Nat) (hs : ∀ (n : Nat) (a1 : A1) (a2 : A2) (a3 : A3) (a4 : A4) (a5 : A5) (a6 : A6) (a7 : A7) (a8 : A8) (a9 : A9) (a10 : A10) (a11 : A11) (a12 : A12) (a13 : A13), I a1 a2 a3 a4 a5 a6 a7 a8 a9 a10 a11 a12 a13 → (∀ (b1 : A1) (b2 : A2) (b3 : A3) (b4 : A4) (b5 : A5) (b6 : A6) (b7 : A7) (b8 : A8) (b9 : A9) (b10 : A10) (b11 : A11) (b12 : A12) (b13 : A13), I b1 b2 b3 b4 b5 b6 b7 b8 b9 b10 b11 b12 b13 → μ b1 b2 b3 b4 b5 b6 b7 b8 b9 b10 b11 b12 b13 < μ a1 a2 a3 a4 a5 a6 a7 a8 a9 a10 a11 a12 a13 → W n b1 b2 b3 b4 b5 b6 b7 b8 b9 b10 b11 b12 b13) → W (n + 1) a1 a2 a3 a4 a5 a6 a7 a8 a9 a10 a11 a12 a13) (a1 : A1) (a2 : A2) (a3 : A3) (a4 : A4) (a5 : A5) (a6 : A6) (a7 : A7) (a8 : A8) (a9 : A9) (a10 : A10) (a11 : A11) (a12 : A12) (a13 : A13) (h : I a1 a2 a3 a4 a5 a6 a7 a8 a9 a10 a11 a12 a13) : ∃ n, W n a1 a2 a3 a4 a5 a6 a7 a8 a9 a10 a11 a12 a13 :=
  loop_m (σ := A1 × A2 × A3 × A4 × A5 × A6 × A7 × A8 × A9 × A10 × A11 × A12 × A13) (fun n s => W n s.1 s.2.1 s.2.2.1 s.2.2.2.1 s.2.2.2.2.1 s.2.2.2.2.2.1 s.2.2.2.2.2.2.1 s.2.2.2.2.2.2.2.1 s.2.2.2.2.2.2.2.2.1 s.2.2.2.2.2.2.2.2.2.1 s.2.2.2.2.2.2.2.2.2.2.1 s.2.2.2.2.2.2.2.2.2.2.2.1 s.2.2.2.2.2.2.2.2.2.2.2.2) (fun s => I s.1 s.2.1 s.2.2.1 s.2.2.2.1 s.2.2.2.2.1 s.2.2.2.2.2.1 s.2.2.2.2.2.2.1 s.2.2.2.2.2.2.2.1 s.2.2.2.2.2.2.2.2.1 s.2.2.2.2.2.2.2.2.2.1 s.2.2.2.2.2.2.2.2.2.2.1 s.2.2.2.2.2.2.2.2.2.2.2.1 s.2.2.2.2.2.2.2.2.2.2.2.2) (fun s => μ s.1 s.2.1 s.2.2.1 s.2.2.2.1 s.2.2.2.2.1 s.2.2.2.2.2.1 s.2.2.2.2.2.2.1 s.2.2.2.2.2.2.2.1 s.2.2.2.2.2.2.2.2.1 s.2.2.2.2.2.2.2.2.2.1 s.2.2.2.2.2.2.2.2.2.2.1 s.2.2.2.2.2.2.2.2.2.2.2.1 s.2.2.2.2.2.2.2.2.2.2.2.2) (fun n s hI hk => hs n s.1 s.2.1 s.2.2.1 s.2.2.2.1 s.2.2.2.2.1 s.2.2.2.2.2.1 s.2.2.2.2.2.2.1 s.2.2.2.2.2.2.2.1 s.2.2.2.2.2.2.2.2.1 s.2.2.2.2.2.2.2.2.2.1 s.2.2.2.2.2.2.2.2.2.2.1 s.2.2.2.2.2.2.2.2.2.2.2.1 s.2.2.2.2.2.2.2.2.2.2.2.2 hI (fun b1 b2 b3 b4 b5 b6 b7 b8 b9 b10 b11 b12 b13 h9 hm => hk (b1, b2, b3, b4, b5, b6, b7, b8, b9, b10, b11, b12, b13) h9 hm)) (a1, a2, a3, a4, a5, a6, a7, a8, a9, a10, a11, a12, a13) h
theorem lp14 {A1 A2 A3 A4 A5 A6 A7 A8 A9 A10 A11 A12 A13 A14 : Type} (W : Nat → A1 → A2 → A3 → A4 → A5 → A6 → A7 → A8 → A9 → A10 → A11 → A12 → A13 → A14 → Prop) (I : A1 → A2 → A3 → A4 → A5 → A6 → A7 → A8 → A9 → A10 → A11 → A12 → A13 → A14 → Prop) (μ : A1 → A2 → A3 → A4 → A5 → A6 → A7 → A8 → A9 → A10 → A11 → A12 → A13 → A14 → Nat) (hs : ∀ (n : Nat) (a1 : A1) (a2 : A2) (a3 : A3) (a4 : A4) (a5 : A5) (a6 : A6) (a7 : A7) (a8 : A8) (a9 : A9) (a10 : A10) (a11 : A11) (a12 : A12) (a13 : A13) (a14 : A14), I a1 a2 a3 a4 a5 a6 a7 a8 a9 a10 a11 a12 a13 a14 → (∀ (b1 : A1) (b2 : A2) (b3 : A3) (b4 : A4) (b5 : A5) (b6 : A6) (b7 : A7) (b8 : A8) (b9 : A9) (b10 : A10) (b11 : A11) (b12 : A12) (b13 : A13) (b14 : A14), I b1 b2 b3 b4 b5 b6 b7 b8 b9 b10 b11 b12 b13 b14 → μ b1 b2 b3 b4 b5 b6 b7 b8 b9 b10 b11 b12 b13 b14 < μ a1 a2 a3 a4 a5 a6 a7 a8 a9 a10 a11 a12 a13 a14 → W n b1 b2 b3 b4 b5 b6 b7 b8 b9 b10 b11 b12 b13 b14) → W (n + 1) a1 a2 a3 a4 a5 a6 a7 a8 a9 a10 a11 a12 a13 a14) (a1 : A1) (a2 : A2) (a3 : A3) (a4 : A4) (a5 : A5) (a6 : A6) (a7 : A7) (a8 : A8) (a9 : A9) (a10 : A10) (a11 : A11) (a12 : A12) (a13 : A13) (a14 : A14) (h : I a1 a2 a3 a4 a5 a6 a7 a8 a9 a10 a11 a12 a13 a14) : ∃ n, W n a1 a2 a3 a4 a5 a6 a7 a8 a9 a10 a11 a12 a13 a14 :=
  loop_m (σ := A1 × A2 × A3 × A4 × A5 × A6 × A7 × A8 × A9 × A10 × A11 × A12 × A13 × A14) (fun n s => W n s.1 s.2.1 s.2.2.1 s.2.2.2.1 s.2.2.2.2.1 s.2.2.2.2.2.1 s.2.2.2.2.2.2.1 s.2.2.2.2.2.2.2.1 s.2.2.2.2.2.2.2.2.1 s.2.2.2.2.2.2.2.2.2.1 s.2.2.2.2.2.2.2.2.2.2.1 s.2.2.2.2.2.2.2.2.2.2.2.1 s.2.2.2.2.2.2.2.2.2.2.2.2.1 s.2.2.2.2.2.2.2.2.2.2.2.2.2) (fun s => I s.1 s.2.1 s.2.2.1 s.2.2.2.1 s.2.2.2.2.1 s.2.2.2.2.2.1 s.2.2.2.2.2.2.1 s.2.2.2.2.2.2.2.1 s.2.2.2.2.2.2.2.2.1 s.2.2.2.2.2.2.2.2.2.1 s.2.2.2.2.2.2.2.2.2.2.1 s.2.2.2.2.2.2.2.2.2.2.2.1 s.2.2.2.2.2.2.2.2.2.2.2.2.1 s.2.2.2.2.2.2.2.2.2.2.2.2.2) (fun s => μ s.1 s.2.1 s.2.2.1 s.2.2.2.1 s.2.2.2.2.1 s.2.2.2.2.2.1 s.2.2.2.2.2.2.1 s.2.2.2.2.2.2.2.1 s.2.2.2.2.2.2.2.2.1 s.2.2.2.2.2.2.2.2.2.1 s.2.2.2.2.2.2.2.2.2.2.1 s.2.2.2.2.2.2.2.2.2.2.2.1 s.2.2.2.2.2.2.2.2.2.2.2.2.1 s.2.2.2.2.2.2.2.2.2.2.2.2.2) (fun n s hI hk => hs n s.1 s.2.1 s.2.2.1 s.2.2.2.1 s.2.2.2.2.1 s.2.2.2.2.2.1 s.2.2.2.2.2.2.1 s.2.2.2.2.2.2.2.1 s.2.2.2.2.2.2.2.2.1 s.2.2.2.2.2.2.2.2.2.1 s.2.2.2.2.2.2.2.2.2.2.1 s.2.2.2.2.2.2.2.2.2.2.2.1 s.2.2.2.2.2.2.2.2.2.2.2.2.1 s.2.2.2.2.2.2.2.2.2.2.2.2.2 hI (fun b1 b2 b3 b4 b5 b6 b7 b8 b9 b10 b11 b12 b13 b14 h9 hm => hk (b1, b2, b3, b4, b5, b6, b7, b8, b9, b10, b11, b12, b13, b14) h9 hm)) (a1, a2, a3, a4, a5, a6, a7, a8, a9, a10, a11, a12, a13, a14) h
theorem lp15 {A1 A2 A3 A4 A5 A6 A7 A8 A9 A10 A11 A12 A13 A14 A15 : Type} (W : Nat → A1 → A2 → A3 → A4 → A5 → A6 → A7 → A8 → A9 → A10 → A11 → A12 → A13 → A14 → A15 → Prop) (I : A1 → A2 → A3 → A4 → A5 → A6 → A7 → A8 → A9 → A10 → A11 → A12 → A13 → A14 → A15 → Prop) (μ : A1 → A2 → A3 → A4 → A5 → A6 → A7 → A8 → A9 → A10 → A11 → A12 → A13 → A14 → A15 → Nat) (hs : ∀ (n : Nat) (a1 : A1) (a2 : A2) (a3 : A3) (a4 : A4) (a5 : A5) (a6 : A6) (a7 : A7) (a8 : A8) (a9 : A9) (a10 : A10) (a11 : A11) (a12 : A12) (a13 : A13) (a14 : A14) (a15 : A15), I a1 a2 a3 a4 a5 a6 a7 a8 a9 a10 a11 a12 a13 a14 a15 → (∀ (b1 : A1) (b2 : A2) (b3 : A3) (b4 : A4) (b5 : A5) (b6 : A6) (b7 : A7) (b8 : A8) (b9 : A9) (b10 : A10) (b11 : A11) (b12 : A12) (b13 : A13) (b14 : A14) (b15 : A15), I b1 b2 b3 b4 b5 b6 b7 b8 b9 b10 b11 b12 b13 b14 b15 → μ b1 b2 b3 b4 b5 b6 b7 b8 b9 b10 b11 b12 b13 b14 b15 < μ a1 a2 a3 a4 a5 a6 a7 a8 a9 a10 a11 a12 a13 a14 a15 → W n b1 b2 b3 b4 b5 b6 b7 b8 b9 b10 b11 b12 b13 b14 b15) → W (n + 1) a1 a2 a3 a4 a5 a6 a7 a8 a9 a10 a11 a12 a13 a14 a15) (a1 : A1) (a2 : A2) (a3 : A3) (a4 : A4) (a5 : A5) (a6 : A6) (a7 : A7) (a8 : A8) (a9 : A9) (a10 : A10) (a11 : A11) (a12 : A12) (a13 : A13) (a14 : A14) (a15 : A15) (h : I a1 a2 a3 a4 a5 a6 a7 a8 a9 a10 a11 a12 a13 a14 a15) : ∃ n, W n a1 a2 a3 a4 a5 a6 a7 a8 a9 a10 a11 a12 a13 a14 a15 :=
  loop_m (σ := A1 × A2 × A3 × A4 × A5 × A6 × A7 × A8 × A9 × A10 × A11 × A12 × A13 × A14 × A15) (fun n s => W n s.1 s.2.1 s.2.2.1 s.2.2.2.1 s.2.2.2.2.1 s.2.2.2.2.2.1 s.2.2.2.2.2.2.1 s.2.2.2.2.2.2.2.1 s.2.2.2.2.2.2.2.2.1 s.2.2.2.2.2.2.2.2.2.1 s.2.2.2.2.2.2.2.2.2.2.1 s.2.2.2.2.2.2.2.2.2.2.2.1 s.2.2.2.2.2.2.2.2.2.2.2.2.1 s.2.2.2.2.2.2.2.2.2.2.2.2.2.1 s.2.2.2.2.2.2.2.2.2.2.2.2.2.2) (fun s => I s.1 s.2.1 s.2.2.1 s.2.2.2.1 s.2.2.2.2.1 s.2.2.2.2.2.1 s.2.2.2.2.2.2.1 s.2.2.2.2.2.2.2.1 s.2.2.2.2.2.2.2.2.1 s.2.2.2.2.2.2.2.2.2.1 s.2.2.2.2.2.2.2.2.2.2.1 s.2.2.2.2.2.2.2.2.2.2.2.1 s.2.2.2.2.2.2.2.2.2.2.2.2.1 s.2.2.2.2.2.2.2.2.2.2.2.2.2.1 s.2.2.2.2.2.2.2.2.2.2.2.2.2.2) (fun s => μ s.1 s.2.1 s.2.2.1 s.2.2.2.1 s.2.2.2.2.1 s.2.2.2.2.2.1 s.2.2.2.2.2.2.1 s.2.2.2.2.2.2.2.1 s.2.2.2.2.2.2.2.2.1 s.2.2.2.2.2.2.2.2.2.1 s.2.2.2.2.2.2.2.2.2.2.1 s.2.2.2.2.2.2.2.2.2.2.2.1 s.2.2.2.2.2.2.2.2.2.2.2.2.1 s.2.2.2.2.2.2.2.2.2.2.2.2.2.1 s.2.2.2.2.2.2.2.2.2.2.2.2.2.2) (fun n s hI hk => hs n s.1 s.2.1 s.2.2.1 s.2.2.2.1 s.2.2.2.2.1 s.2.2.2.2.2.1 s.2.2.2.2.2.2.1 s.2.2.2.2.2.2.2.1 s.2.2.2.2.2.2.2.2.1 s.2.2.2.2.2.2.2.2.2.1 s.2.2.2.2.2.2.2.2.2.2.1 s.2.2.2.2.2.2.2.2.2.2.2.1 s.2.2.2.2.2.2.2.2.2.2.2.2.1 s.2.2.2.2.2.2.2.2.2.2.2.2.2.1 s.2.2.2.2.2.2.2.2.2.2.2.2.2.2 hI (fun b1 b2 b3 b4 b5 b6 b7 b8 b9 b10 b11 b12 b13 b14 b15 h9 hm => hk (b1, b2, b3, b4, b5, b6, b7, b8, b9, b10, b11, b12, b13, b14, b15) h9 hm)) (a1, a2, a3, a4, a5, a6, a7, a8, a9, a10, a11, a12, a13, a14, a15) h
theorem lp16 {A1 A2 A3 A4 A5 A6 A7 A8 A9 A10 A11 A12 A13 A14 A15 A16 : Type} (W : Nat → A1 → A2 → A3 → A4 → A5 → A6 → A7 → A8 → A9 → A10 → A11 → A12 → A13 → A14 → A15 → A16 → Prop) (I : A1 → A2 → A3 → A4 → A5 → A6 → A7 → A8 → A9 → A10 → A11 → A12 → A13 → A14 → A15 → A16 → Prop) (μ : A1 → A2 → A3 → A4 → A5 → A6 → A7 → A8 → A9 → A10 → A11 → A12 → A13 → A14 → A15 → A16 → Nat) (hs : ∀ (n : Nat) (a1 : A1) (a2 : A2) (a3 : A3) (a4 : A4) (a5 : A5) (a6 : A6) (a7 : A7) (a8 : A8) (a9 : A9) (a10 : A10) (a11 : A11) (a12 : A12) (a13 : A13) (a14 : A14) (a15 : A15) (a16 : A16), I a1 a2 a3 a4 a5 a6 a7 a8 a9 a10 a11 a12 a13 a14 a15 a16 → (∀ (b1 : A1) (b2 : A2) (b3 : A3) (b4 : A4) (b5 : A5) (b6 : A6) (b7 : A7) (b8 : A8) (b9 : A9) (b10 : A10) (b11 : A11) (b12 : A12) (b13 : A13) (b14 : A14) (b15 : A15) (b16 : A16), I b1 b2 b3 b4 b5 b6 b7 b8 b9 b10 b11 b12 b13 b14 b15 b16 → μ b1 b2 b3 b4 b5 b6 b7 b8 b9 b10 b11 b12 b13 b14 b15 b16 < μ a1 a2 a3 a4 a5 a6 a7 a8 a9 a10 a11 a12 a13 a14 a15 a16 → W n b1 b2 b3 b4 b5 b6 b7 b8 b9 b10 b11 b12 b13 b14 b15 b16) → W (n + 1) a1 a2 a3 a4 a5 a6 a7 a8 a9 a10 a11 a12 a13 a14 a15 a16) (a1 : A1) (a2 : A2) (a3 : A3) (a4 : A4) (a5 : A5) (a6 : A6) (a7 : A7) (a8 : A8) (a9 : A9) (a10 : A10) (a11 : A11) (a12 : A12) (a13 : A13) (a14 : A14) (a15 : A15) (a16 : A16) (h : I a1 a2 a3 a4 a5 a6 a7 a8 a9 a10 a11 a12 a13 a14 a15 a16) : ∃ n, W n a1 a2 a3 a4 a5 a6 a7 a8 a9 a10 a11 a12 a13 a14 a15 a16 :=
  loop_m (σ := A1 × A2 × A3 × A4 × A5 × A6 × A7 × A8 × A9 × A10 × A11 × A12 × A13 × A14 × A15 × A16) (fun n s => W n s.1 s.2.1 s.2.2.1 s.2.2.2.1 s.2.2.2.2.1 s.2.2.2.2.2.1 s.2.2.2.2.2.2.1 s.2.2.2.2.2.2.2.1 s.2.2.2.2.2.2.2.2.1 s.2.2.2.2.2.2.2.2.2.1 s.2.2.2.2.2.2.2.2.2.2.1 s.2.2.2.2.2.2.2.2.2.2.2.1 s.2.2.2.2.2.2.2.2.2.2.2.2.1 s.2.2.2.2.2.2.2.2.2.2.2.2.2.1 s.2.2.2.2.2.2.2.2.2.2.2.2.2.2.1 s.2.2.2.2.2.2.2.2.2.2.2.2.2.2.2) (fun s => I s.1 s.2.1 s.2.2.1 s.2.2.2.1 s.2.2.2.2.1 s.2.2.2.2.2.1 s.2.2.2.2.2.2.1 s.2.2.2.2.2.2.2.1 s.2.2.2.2.2.2.2.2.1 s.2.2.2.2.2.2.2.2.2.1 s.2.2.2.2.2.2.2.2.2.2.1 s.2.2.2.2.2.2.2.2.2.2.2.1 s.2.2.2.2.2.2.2.2.2.2.2.2.1 s.2.2.2.2.2.2.2.2.2.2.2.2.2.1 s.2.2.2.2.2.2.2.2.2.2.2.2.2.2.1 s.2.2.2.2.2.2.2.2.2.2.2.2.2.2.2) (fun s => μ s.1 s.2.1 s.2.2.1 s.2.2.2.1 s.2.2.2.2.1 s.2.2.2.2.2.1 s.2.2.2.2.2.2.1 s.2.2.2.2.2.2.2.1 s.2.2.2.2.2.2.2.2.1 s.2.2.2.2.2.2.2.2.2.1 s.2.2.2.2.2.2.2.2.2.2.1 s.2.2.2.2.2.2.2.2.2.2.2.1 s.2.2.2.2.2.2.2.2.2.2.2.2.1 s.2.2.2.2.2.2.2.2.2.2.2.2.2.1 s.2.2.2.2.2.2.2.2.2.2.2.2.2.2.1 s.2.2.2.2.2.2.2.2.2.2.2.2.2.2.2) (fun n s hI hk => hs n s.1 s.2.1 s.2.2.1 s.2.2.2.1 s.2.2.2.2.1 s.2.2.2.2.2.1 s.2.2.2.2.2.2.1 s.2.2.2.2.2.2.2.1 s.2.2.2.2.2.2.2.2.1 s.2.2.2.2.2.2.2.2.2.1 s.2.2.2.2.2.2.2.2.2.2.1 s.2.2.2.2.2.2.2.2.2.2.2.1 s.2.2.2.2.2.2.2.2.2.2.2.2.1 s.2.2.2.2.2.2.2.2.2.2.2.2.2.1 s.2.2.2.2.2.2.2.2.2.2.2.2.2.2.1 s.2.2.2.2.2.2.2.2.2.2.2.2.2.2.2 hI (fun b1 b2 b3 b4 b5 b6 b7 b8 b9 b10 b11 b12 b13 b14 b15 b16 h9 hm => hk (b1, b2, b3, b4, b5, b6, b7, b8, b9, b10, b11, b12, b13, b14, b15, b16) h9 hm)) (a1, a2, a3, a4, a5, a6, a7, a8, a9, a10, a11, a12, a13, a14, a15, a16) h
theorem pk_least (P : Nat → Prop) (h : ∃ k, P k) : ∃ k, P k ∧ ∀ j, j < k → ¬ P j := by
  obtain ⟨k, hk⟩ := h
  induction k using Nat.strongRecOn with
  | ind k ih =>
    by_cases e : ∃ j, j < k ∧ P j
    · obtain ⟨j, hj, pj⟩ := e
      exact ih j hj pj
    · exact ⟨k, hk, fun j hj pj => e ⟨j, hj, pj⟩⟩
theorem rp1 {ρ A1 : Type} (W : Nat → (ρ → Prop) → A1 → Prop) (ok : A1 → Prop) (μ : A1 → Nat) (val : A1 → ρ)
    (hs : ∀ (d : Nat) (post : ρ → Prop) (a1 : A1), ok a1 → post (val a1) → (∀ (post' : ρ → Prop) (b1 : A1), ok b1 → μ b1 < μ a1 → post' (val b1) → W d post' b1) → W (d + 1) post a1) :
    ∀ (d : Nat) (post : ρ → Prop) (a1 : A1), ok a1 → μ a1 < d → post (val a1) → W d post a1 := by
  intro d
  induction d with
  | zero => intro post a1 _ h; omega
  | succ d ih =>
    intro post a1 ho hm hp
    exact hs d post a1 ho hp (fun post' b1 ho' hm' hp' => ih post' b1 ho' (by omega) hp')
theorem rp2 {ρ A1 A2 : Type} (W : Nat → (ρ → Prop) → A1 → A2 → Prop) (ok : A1 → A2 → Prop) (μ : A1 → A2 → Nat) (val : A1 → A2 → ρ)
    (hs : ∀ (d : Nat) (post : ρ → Prop) (a1 : A1) (a2 : A2), ok a1 a2 → post (val a1 a2) → (∀ (post' : ρ → Prop) (b1 : A1) (b2 : A2), ok b1 b2 → μ b1 b2 < μ a1 a2 → post' (val b1 b2) → W d post' b1 b2) → W (d + 1) post a1 a2) :
    ∀ (d : Nat) (post : ρ → Prop) (a1 : A1) (a2 : A2), ok a1 a2 → μ a1 a2 < d → post (val a1 a2) → W d post a1 a2 := by
  intro d
  induction d with
  | zero => intro post a1 a2 _ h; omega
  | succ d ih =>
    intro post a1 a2 ho hm hp
    exact hs d post a1 a2 ho hp (fun post' b1 b2 ho' hm' hp' => ih post' b1 b2 ho' (by omega) hp')
theorem rp3 {ρ A1 A2 A3 : Type} (W : Nat → (ρ → Prop) → A1 → A2 → A3 → Prop) (ok : A1 → A2 → A3 → Prop) (μ : A1 → A2 → A3 → Nat) (val : A1 → A2 → A3 → ρ)
    (hs : ∀ (d : Nat) (post : ρ → Prop) (a1 : A1) (a2 : A2) (a3 : A3), ok a1 a2 a3 → post (val a1 a2 a3) → (∀ (post' : ρ → Prop) (b1 : A1) (b2 : A2) (b3 : A3), ok b1 b2 b3 → μ b1 b2 b3 < μ a1 a2 a3 → post' (val b1 b2 b3) → W d post' b1 b2 b3) → W (d + 1) post a1 a2 a3) :
    ∀ (d : Nat) (post : ρ → Prop) (a1 : A1) (a2 : A2) (a3 : A3), ok a1 a2 a3 → μ a1 a2 a3 < d → post (val a1 a2 a3) → W d post a1 a2 a3 := by
  intro d
  induction d with
  | zero => intro post a1 a2 a3 _ h; omega
  | succ d ih =>
    intro post a1 a2 a3 ho hm hp
    exact hs d post a1 a2 a3 ho hp (fun post' b1 b2 b3 ho' hm' hp' => ih post' b1 b2 b3 ho' (by omega) hp')
theorem rp4 {ρ A1 A2 A3 A4 : Type} (W : Nat → (ρ → Prop) → A1 → A2 → A3 → A4 → Prop) (ok : A1 → A2 → A3 → A4 → Prop) (μ : A1 → A2 → A3 → A4 → Nat) (val : A1 → A2 → A3 → A4 → ρ)
    (hs : ∀ (d : Nat) (post : ρ → Prop) (a1 : A1) (a2 : A2) (a3 : A3) (a4 : A4), ok a1 a2 a3 a4 → post (val a1 a2 a3 a4) → (∀ (post' : ρ → Prop) (b1 : A1) (b2 : A2) (b3 : A3) (b4 : A4), ok b1 b2 b3 b4 → μ b1 b2 b3 b4 < μ a1 a2 a3 a4 → post' (val b1 b2 b3 b4) → W d post' b1 b2 b3 b4) → W (d + 1) post a1 a2 a3 a4) :
    ∀ (d : Nat) (post : ρ → Prop) (a1 : A1) (a2 : A2) (a3 : A3) (a4 : A4), ok a1 a2 a3 a4 → μ a1 a2 a3 a4 < d → post (val a1 a2 a3 a4) → W d post a1 a2 a3 a4 := by
  intro d
  induction d with
  | zero => intro post a1 a2 a3 a4 _ h; omega
  | succ d ih =>
    intro post a1 a2 a3 a4 ho hm hp
    exact hs d post a1 a2 a3 a4 ho hp (fun post' b1 b2 b3 b4 ho' hm' hp' => ih post' b1 b2 b3 b4 ho' (by omega) hp')
theorem rp5 {ρ A1 A2 A3 A4 A5 : Type} (W : Nat → (ρ → Prop) → A1 → A2 → A3 → A4 → A5 → Prop) (ok : A1 → A2 → A3 → A4 → A5 → Prop) (μ : A1 → A2 → A3 → A4 → A5 → Nat) (val : A1 → A2 → A3 → A4 → A5 → ρ)
    (hs : ∀ (d : Nat) (post : ρ → Prop) (a1 : A1) (a2 : A2) (a3 : A3) (a4 : A4) (a5 : A5), ok a1 a2 a3 a4 a5 → post (val a1 a2 a3 a4 a5) → (∀ (post' : ρ → Prop) (b1 : A1) (b2 : A2) (b3 : A3) (b4 : A4) (b5 : A5), ok b1 b2 b3 b4 b5 → μ b1 b2 b3 b4 b5 < μ a1 a2 a3 a4 a5 → post' (val b1 b2 b3 b4 b5) → W d post' b1 b2 b3 b4 b5) → W (d + 1) post a1 a2 a3 a4 a5) :
    ∀ (d : Nat) (post : ρ → Prop) (a1 : A1) (a2 : A2) (a3 : A3) (a4 : A4) (a5 : A5), ok a1 a2 a3 a4 a5 → μ a1 a2 a3 a4 a5 < d → post (val a1 a2 a3 a4 a5) → W d post a1 a2 a3 a4 a5 := by
  intro d
  induction d with
  | zero => intro post a1 a2 a3 a4 a5 _ h; omega
  | succ d ih =>
    intro post a1 a2 a3 a4 a5 ho hm hp
    exact hs d post a1 a2 a3 a4 a5 ho hp (fun post' b1 b2 b3 b4 b5 ho' hm' hp' => ih post' b1 b2 b3 b4 b5 ho' (by omega) hp')
theorem rp6 {ρ A1 A2 A3 A4 A5 A6 : Type} (W : Nat → (ρ → Prop) → A1 → A2 → A3 → A4 → A5 → A6 → Prop) (ok : A1 → A2 → A3 → A4 → A5 → A6 → Prop) (μ : A1 → A2 → A3 → A4 → A5 → A6 → Nat) (val : A1 → A2 → A3 → A4 → A5 → A6 → ρ)
    (hs : ∀ (d : Nat) (post : ρ → Prop) (a1 : A1) (a2 : A2) (a3 : A3) (a4 : A4) (a5 : A5) (a6 : A6), ok a1 a2 a3 a4 a5 a6 → post (val a1 a2 a3 a4 a5 a6) → (∀ (post' : ρ → Prop) (b1 : A1) (b2 : A2) (b3 : A3) (b4 : A4) (b5 : A5) (b6 : A6), ok b1 b2 b3 b4 b5 b6 → μ b1 b2 b3 b4 b5 b6 < μ a1 a2 a3 a4 a5 a6 → post' (val b1 b2 b3 b4 b5 b6) → W d post' b1 b2 b3 b4 b5 b6) → W (d + 1) post a1 a2 a3 a4 a5 a6) :
    ∀ (d : Nat) (post : ρ → Prop) (a1 : A1) (a2 : A2) (a3 : A3) (a4 : A4) (a5 : A5) (a6 : A6), ok a1 a2 a3 a4 a5 a6 → μ a1 a2 a3 a4 a5 a6 < d → post (val a1 a2 a3 a4 a5 a6) → W d post a1 a2 a3 a4 a5 a6 := by
  intro d
  induction d with
  | zero => intro post a1 a2 a3 a4 a5 a6 _ h; omega
  | succ d ih =>
    intro post a1 a2 a3 a4 a5 a6 ho hm hp
    exact hs d post a1 a2 a3 a4 a5 a6 ho hp (fun post' b1 b2 b3 b4 b5 b6 ho' hm' hp' => ih post' b1 b2 b3 b4 b5 b6 ho' (by omega) hp')
theorem rec_p {σ ρ : Type} (W : Nat → (ρ → Prop) → σ → Prop) (ok : σ → Prop) (μ : σ → Nat) (val : σ → ρ)
    (hs : ∀ d s post, ok s → post (val s) → (∀ s' post', ok s' → μ s' < μ s → post' (val s') → W d post' s') → W (d + 1) post s) :
    ∀ d s post, ok s → μ s < d → post (val s) → W d post s := by
  intro d
  induction d with
  | zero => intro s post _ h; omega
  | succ d ih =>
    intro s post ho hm hp
    exact hs d s post ho hp (fun s' post' ho' hm' hp' => ih s' post' ho' (by omega) hp')
theorem rec_q {σ ρ : Type} (W : Nat → (ρ → Prop) → σ → Prop) (ok : σ → Prop) (μ : σ → Nat) (Q : σ → ρ → Prop)
    (hs : ∀ d s post, ok s → (∀ r, Q s r → post r) → (∀ s' post', ok s' → μ s' < μ s → (∀ r, Q s' r → post' r) → W d post' s') → W (d + 1) post s) :
    ∀ d s post, ok s → μ s < d → (∀ r, Q s r → post r) → W d post s := by
  intro d
  induction d with
  | zero => intro s post _ h; omega
  | succ d ih =>
    intro s post ho hm hp
    exact hs d s post ho hp (fun s' post' ho' hm' hp' => ih s' post' ho' (by omega) hp')
def bx_sum (f : Nat → Int32) : Nat → Int32
  | 0 => 0
  | n + 1 => bx_sum f n + f n
theorem ek_u {A : Prop} {B : Nat → Prop} {k N : Nat} (hk : k < N) (h : B k) : (some k = none → A) ∧ (∀ y : Nat, some k = some y → (y < N ∧ B y)) :=
  ⟨fun z => absurd z (Option.some_ne_none k), fun _ e => (by cases e; exact ⟨hk, h⟩)⟩
theorem ek_nu {A : Prop} {B : Nat → Prop} (h : A) : ((none : Option Nat) = none → A) ∧ (∀ y : Nat, (none : Option Nat) = some y → B y) :=
  ⟨fun _ => h, fun _ e => (by cases e)⟩
theorem ek_if {c d A B : Prop} (e : c ↔ d) (f : d → A) (g : ¬ d → B) : (c → A) ∧ (¬ c → B) :=
  ⟨fun z => f (e.mp z), fun z => g (fun y => z (e.mpr y))⟩
theorem ek_v {α : Sort _} {P : α → Prop} {a b : α} (e : a = b) (h : P b) : P a := e ▸ h
theorem co_some {x : Option Nat} {A : Prop} {B : Nat → Prop} (i : Nat) (h : B i) (hx : x = some i := by rfl) : (x = none → A) ∧ (∀ y : Nat, x = some y → B y) := by
  subst hx
  exact ⟨fun e => (nomatch e), fun y e => Option.some.inj e ▸ h⟩
theorem co_none {x : Option Nat} {A : Prop} {B : Nat → Prop} (h : A) (hx : x = none := by rfl) : (x = none → A) ∧ (∀ y : Nat, x = some y → B y) := by
  subst hx
  exact ⟨fun _ => h, fun y e => (nomatch e)⟩
theorem co_any {x : Option Nat} {A : Prop} {B : Nat → Prop} (hn : x = none → A) (hs : ∀ i : Nat, x = some i → B i) : (x = none → A) ∧ (∀ y : Nat, x = some y → B y) := ⟨hn, hs⟩
theorem co_2 {P : Nat → Prop} (h0 : P 0) (h1 : P 1) {i : Nat} (hi : i < 2) : P i :=
  match i, hi with
  | 0, _ => h0
  | 1, _ => h1
theorem co_3 {P : Nat → Prop} (h0 : P 0) (h1 : P 1) (h2 : P 2) {i : Nat} (hi : i < 3) : P i :=
  match i, hi with
  | 0, _ => h0
  | 1, _ => h1
  | 2, _ => h2
theorem co_4 {P : Nat → Prop} (h0 : P 0) (h1 : P 1) (h2 : P 2) (h3 : P 3) {i : Nat} (hi : i < 4) : P i :=
  match i, hi with
  | 0, _ => h0
  | 1, _ => h1
  | 2, _ => h2
  | 3, _ => h3
theorem co_dec {N : Nat} {P : Nat → Prop} [DecidablePred P] (h : (List.range N).all (fun i => decide (P i)) = true) {i : Nat} (hi : i < N) : P i := by
  have := List.all_eq_true.mp h i (List.mem_range.mpr hi)
  exact of_decide_eq_true this
theorem co_tab {α : Type} {l : List α} {d : α} {P : α → Prop} (h : ∀ a, a ∈ l → P a) {i : Nat} (hi : i < l.length) : P (l.getD i d) := by
  rw [List.getD_eq_getElem?_getD, List.getElem?_eq_getElem hi]
  exact h _ (List.getElem_mem hi)
theorem pk_mu {x : Int32} {L : Nat} (h0 : ¬ x < 0) (h : ¬ nI L ≤ x) (hL : L < 2 ^ 31) : ∃ j : Nat, j < L ∧ x = nI j ∧ x + 1 = nI (j + 1) ∧ x.toNatClampNeg = j ∧ L - (x + 1).toNatClampNeg < L - x.toNatClampNeg := by
  obtain ⟨j, hj, rfl⟩ := nI_of h0
  have hl : j < L := Nat.not_le.mp fun q => h (nI_le q hj)
  refine ⟨j, hl, rfl, nI_1 j, nI_clamp hj, ?_⟩
  rw [nI_1, nI_clamp (by omega), nI_clamp hj]
  omega
theorem op_s {α : Type} {r : Option α} {A : Prop} {B : α → Prop} {y : α} (h : r = some y) (b : B y) : (r = none → A) ∧ ∀ z, r = some z → B z :=
  ⟨fun e => (by rw [h] at e; cases e), fun z e => (by rw [h] at e; cases e; exact b)⟩
def l_holds {α : Type} (a : Nat → Option Nat) (LP : List Nat) (p : Nat → α) (c : Nat) (b : Nat → α) : Prop :=
  ∀ j, j < c → ∃ y, a j = some y ∧ y ∈ LP ∧ p y = b j
theorem l_holds_0 {α : Type} {a : Nat → Option Nat} {LP : List Nat} {p b : Nat → α} : l_holds a LP p 0 b := fun j h => absurd h (Nat.not_lt_zero j)
theorem l_in_new (LP : List Nat) (q : Nat) : q ∈ LP ++ [q] := List.mem_append.mpr (Or.inr (List.mem_singleton.mpr rfl))
def l_sum (b : Nat → Int32) : Nat → Int32
  | 0 => 0
  | k + 1 => l_sum b k + b k
theorem sb_shr0 (x : Int32) : x >>> ((0 : Int32) &&& 31) = x := by
  rw [show ((0 : Int32) &&& 31) = 0 by decide]
  simp
theorem sb_shl0 (x : Int32) : x <<< ((0 : Int32) &&& 31) = x := by
  rw [show ((0 : Int32) &&& 31) = 0 by decide]
  simp
theorem sb_cl0 : (0 : Int32).toNatClampNeg = 0 := by decide
theorem sb_m1 {p : Nat} (h : 0 < p) : nI p + (-1) = nI (p - 1) := by
  obtain ⟨q, rfl⟩ : ∃ q, p = q + 1 := ⟨p - 1, by omega⟩
  exact pk_m1 q
def sb_b (c : Nat) : Int32 := (nI c).toInt8.toInt32
theorem sb_byte : ∀ c, c < 256 → sb_b c &&& 255 = nI c ∧ ((nI c).toUInt32 % 65536).toInt32 = nI c ∧ nI c ≤ 255 := by decide +kernel
def sb_Fit (a : Nat → Int32) : Prop := ∀ j, fits .byte (.int (a j)) = true
def sb_Lat (t : Nat → Nat) (n : Nat) (a : Nat → Int32) : Prop := ∀ j, j < n → t j < 256 ∧ a j = sb_b (t j)
theorem sb_fitB (c : Nat) : fits .byte (.int (sb_b c)) = true := pk_fb _
theorem sb_fit0 : sb_Fit (fun _ => 0) := fun _ => by
  show fits .byte (.int 0) = true
  decide
theorem sb_fitU {a : Nat → Int32} {k : Nat} {x : Int32} (h : sb_Fit a) (hx : fits .byte (.int x) = true) : sb_Fit (upd a k x) := by
  intro j
  by_cases e : j = k
  · subst e
    rw [pk_us]
    exact hx
  · rw [pk_un e]
    exact h j
def sb_cat (t : Nat → Nat) (n : Nat) (s : Nat → Nat) : Nat → Nat := fun j => if j < n then t j else s (j - n)
theorem sb_cat_lo {t s : Nat → Nat} {n j : Nat} (h : j < n) : sb_cat t n s j = t j := if_pos h
theorem sb_cat_hi {t s : Nat → Nat} {n j : Nat} : sb_cat t n s (n + j) = s j := by
  show (if n + j < n then t (n + j) else s (n + j - n)) = s j
  rw [if_neg (by omega), Nat.add_sub_cancel_left]
theorem sb_latPut {t s : Nat → Nat} {n w : Nat} {a a' : Nat → Int32} (h : sb_Lat t n a) (hk : ∀ j, j < n → a' j = a j) (hs : ∀ i, i < w → s i < 256 ∧ a' (n + i) = sb_b (s i)) : sb_Lat (sb_cat t n s) (n + w) a' := by
  intro j hj
  by_cases e : j < n
  · rw [sb_cat_lo e, hk j e]
    exact h j e
  · obtain ⟨i, rfl⟩ : ∃ i, j = n + i := ⟨j - n, by omega⟩
    rw [sb_cat_hi]
    exact hs i (by omega)
theorem sb_latKeep {t : Nat → Nat} {n : Nat} {a a' : Nat → Int32} (h : sb_Lat t n a) (hk : ∀ j, j < n → a' j = a j) : sb_Lat t n a' := fun j hj => by
  rw [hk j hj]
  exact h j hj
def sb_cap (q m : Nat) : Nat := if q ≤ m then m else if 2 * m + 2 < q then q else 2 * m + 2
def sb_Room (q m mc ms : Nat) : Prop := q ≤ m ∨ (1 ≤ mc ∧ sb_cap q m ≤ ms ∧ sb_cap q m ≤ 65536)
theorem sb_cap_ge (q m : Nat) : q ≤ sb_cap q m := by
  unfold sb_cap
  split
  · omega
  · split <;> omega
theorem sb_cap_gem (q m : Nat) : m ≤ sb_cap q m := by
  unfold sb_cap
  split
  · omega
  · split <;> omega
theorem sb_cap_le {q m mc ms : Nat} (hm : m ≤ 65536) (hr : sb_Room q m mc ms) : sb_cap q m ≤ 65536 := by
  rcases hr with h | h
  · rw [sb_cap, if_pos h]
    exact hm
  · exact h.2.2
theorem sb_at {P : Int32 → Prop} {x y : Int32} (e : x = y) (h : P y) : P x := e ▸ h
def sb_dg (w : Nat) : Nat := if w < 10 then 1 else if w < 100 then 2 else if w < 1000 then 3 else if w < 10000 then 4 else if w < 100000 then 5 else if w < 1000000 then 6 else if w < 10000000 then 7 else if w < 100000000 then 8 else if w < 1000000000 then 9 else 10
def sb_dec (v : Nat) : Nat → Nat := fun i => 48 + v / 10 ^ (sb_dg v - 1 - i) % 10
theorem sb_dg_in (w : Nat) : 1 ≤ sb_dg w ∧ sb_dg w ≤ 10 := by
  unfold sb_dg
  constructor <;> (repeat' split) <;> omega
theorem sb_dg100 {w : Nat} (h : 100 ≤ w) (hw : w < 2 ^ 31) : sb_dg w = sb_dg (w / 100) + 2 := by
  rw [sb_dg, sb_dg, if_neg (show ¬ w < 10 by omega), if_neg (show ¬ w < 100 by omega)]
  by_cases h3 : w < 1000
  · rw [if_pos h3, if_pos (show w / 100 < 10 by omega)]
  rw [if_neg h3, if_neg (show ¬ w / 100 < 10 by omega)]
  by_cases h4 : w < 10000
  · rw [if_pos h4, if_pos (show w / 100 < 100 by omega)]
  rw [if_neg h4, if_neg (show ¬ w / 100 < 100 by omega)]
  by_cases h5 : w < 100000
  · rw [if_pos h5, if_pos (show w / 100 < 1000 by omega)]
  rw [if_neg h5, if_neg (show ¬ w / 100 < 1000 by omega)]
  by_cases h6 : w < 1000000
  · rw [if_pos h6, if_pos (show w / 100 < 10000 by omega)]
  rw [if_neg h6, if_neg (show ¬ w / 100 < 10000 by omega)]
  by_cases h7 : w < 10000000
  · rw [if_pos h7, if_pos (show w / 100 < 100000 by omega)]
  rw [if_neg h7, if_neg (show ¬ w / 100 < 100000 by omega)]
  by_cases h8 : w < 100000000
  · rw [if_pos h8, if_pos (show w / 100 < 1000000 by omega)]
  rw [if_neg h8, if_neg (show ¬ w / 100 < 1000000 by omega)]
  by_cases h9 : w < 1000000000
  · rw [if_pos h9, if_pos (show w / 100 < 10000000 by omega)]
  rw [if_neg h9, if_neg (show ¬ w / 100 < 10000000 by omega)]
  rw [if_pos (show w / 100 < 100000000 by omega)]
theorem sb_negT {w : Nat} (h : w < 2 ^ 31) : (-nI w).toInt = -(w : Int) := by
  rw [Int32.toInt_neg, nI_toInt h]
  exact Int.bmod_eq_of_le (by omega) (by omega)
theorem sb_nle {a b : Nat} (ha : a < 2 ^ 31) (hb : b < 2 ^ 31) : -nI a ≤ -nI b ↔ b ≤ a := by
  rw [Int32.le_iff_toInt_le, sb_negT ha, sb_negT hb]
  omega
theorem sb_nlt {a b : Nat} (ha : a < 2 ^ 31) (hb : b < 2 ^ 31) : -nI a < -nI b ↔ b < a := by
  rw [Int32.lt_iff_toInt_lt, sb_negT ha, sb_negT hb]
  omega
theorem sb_cmp {A B : Prop} {x : Int32} (v c : Nat) (f : c ≤ v → A) (g : v < c → B) (hv : v < 2 ^ 31) (hx : x = -nI c := by rfl) (hc : c < 2 ^ 31 := by omega) : (-nI v ≤ x → A) ∧ (¬ -nI v ≤ x → B) := by
  subst hx
  rw [sb_nle hv hc]
  exact ⟨f, fun z => g (by omega)⟩
theorem sb_ndiv {w : Nat} (hw : w < 2 ^ 31) : (-nI w) / 100 = -nI (w / 100) := by
  apply Int32.toInt_inj.mp
  have h100 : (100 : Int32).toInt = 100 := by decide
  rw [Int32.toInt_div, sb_negT hw, h100, sb_negT (by omega), Int.neg_tdiv, Int.tdiv_eq_ediv_of_nonneg (by omega), Int.bmod_eq_of_le (by omega) (by omega)]
  omega
theorem sb_nrem {w : Nat} (hw : w < 2 ^ 31) : (-nI (w / 100)) * 100 - (-nI w) = nI (w % 100) := by
  have h := pk_rem (a := w) (d := 100) hw (by decide) (by decide)
  rw [pk_div hw (by decide) (by decide)] at h
  rw [← h]
  show (-nI (w / 100)) * nI 100 - (-nI w) = nI w - nI (w / 100) * nI 100
  rw [Int32.neg_mul, Int32.sub_neg, Int32.add_comm, ← Int32.sub_eq_add_neg]
end
section
/-! numbers, bytes, paths, counting -/
abbrev zn_Nd : Type := Int32 × Int32 × Int32 × Int32 × Int32 × Int32
abbrev zn_Mp : Type := Int32 → Option zn_Nd
/-- data, version, childVersion, created, setAt, owner -/
def zn_nd (d v c m t o : Nat → Int32) (s : Nat) : zn_Nd := (d s, v s, c s, m s, t s, o s)

theorem zb_t0 : (0 : Int32).toInt = 0 := by decide
theorem zb_tm1 : (-1 : Int32).toInt = -1 := by decide
theorem zb_lt0 {x : Int32} : x < 0 ↔ x.toInt < 0 := by rw [Int32.lt_iff_toInt_lt, zb_t0]
theorem zb_ge0 {x : Int32} : 0 ≤ x ↔ 0 ≤ x.toInt := by rw [Int32.le_iff_toInt_le, zb_t0]
theorem zb_inj {x y : Int32} (h : x.toInt = y.toInt) : x = y := Int32.toInt_inj.mp h
theorem zb_lt {x y : Int32} : x < y ↔ x.toInt < y.toInt := Int32.lt_iff_toInt_lt
theorem zb_le {x y : Int32} : x ≤ y ↔ x.toInt ≤ y.toInt := Int32.le_iff_toInt_le
theorem zb_nI {x : Int32} (h : 0 ≤ x.toInt) : ∃ n : Nat, n < 2 ^ 31 ∧ x = nI n ∧ x.toInt = n := by
  obtain ⟨n, hn, rfl⟩ := nI_of (x := x) (by rw [zb_lt0]; omega)
  exact ⟨n, hn, rfl, nI_toInt hn⟩
theorem zb_by {x : Int32} (h1 : -128 ≤ x.toInt) (h2 : x.toInt < 128) : x.toInt8.toInt32 = x := by
  apply zb_inj
  rw [Int8.toInt_toInt32, Int32.toInt_toInt8]
  exact Int.bmod_eq_of_le (by omega) (by omega)
theorem zb_sh {x : Int32} (h1 : -32768 ≤ x.toInt) (h2 : x.toInt < 32768) : x.toInt16.toInt32 = x := by
  apply zb_inj
  rw [Int16.toInt_toInt32, Int32.toInt_toInt16]
  exact Int.bmod_eq_of_le (by omega) (by omega)
theorem zb_nar {x : Int32} (h1 : -128 ≤ x.toInt) (h2 : x.toInt < 128) : vp_nar .byte x = x := by
  rw [vp_nar_byte]; exact zb_by h1 h2
theorem zb_nar2 {x : Int32} (h1 : -128 ≤ x.toInt) (h2 : x.toInt < 128) : vp_nar .byte x.toInt8.toInt32 = x := by
  rw [zb_by h1 h2]; exact zb_nar h1 h2
theorem zb_narS2 {x : Int32} (h1 : -32768 ≤ x.toInt) (h2 : x.toInt < 32768) : vp_nar .short x.toInt16.toInt32 = x := by
  rw [zb_sh h1 h2, vp_nar_short]; exact zb_sh h1 h2
theorem zb_narN {n : Nat} (h : n < 128) : vp_nar .byte (nI n) = nI n :=
  zb_nar (by rw [nI_toInt (by omega)]; omega) (by rw [nI_toInt (by omega)]; omega)
theorem zb_narN2 {n : Nat} (h : n < 128) : vp_nar .byte (nI n).toInt8.toInt32 = nI n :=
  zb_nar2 (by rw [nI_toInt (by omega)]; omega) (by rw [nI_toInt (by omega)]; omega)
theorem zb_narM : vp_nar .byte (-1) = -1 := by rw [vp_nar_byte]; decide
theorem zb_nar0 : vp_nar .byte 0 = 0 := by rw [vp_nar_byte]; decide
theorem zb_b0 : vp_nar .boolean 0 = 0 := rfl
theorem zb_b1 : vp_nar .boolean 1 = 1 := rfl
theorem zb_101 : (101 : Int32).toInt = 101 := by decide
theorem zb_101n : ¬ (101 : Int32) = 0 := by decide
theorem zb_100n : ¬ (100 : Int32) = 0 := by decide
theorem zb_21n : ¬ (21 : Int32) = 0 := by decide
theorem zb_2n : ¬ (2 : Int32) = 0 := by decide
theorem zb_divN {a d : Nat} (ha : a < 2 ^ 31) (h0 : 0 < d) (hd : d < 2 ^ 31) : (nI a / nI d).toInt = (a / d : Nat) := by
  rw [pk_div ha h0 hd, nI_toInt (Nat.lt_of_le_of_lt (Nat.div_le_self a d) ha)]
theorem zb_div {x : Int32} (h : 0 ≤ x.toInt) : (x / 101).toInt = x.toInt / 101 := by
  obtain ⟨n, hn, rfl, e⟩ := zb_nI h
  have := zb_divN (d := 101) hn (by decide) (by decide)
  rw [e, show (101 : Int32) = nI 101 from rfl, this]
  omega
theorem zb_add {x y : Int32} (h1 : -2147483648 ≤ x.toInt + y.toInt) (h2 : x.toInt + y.toInt < 2147483648) : (x + y).toInt = x.toInt + y.toInt := by
  rw [Int32.toInt_add]
  exact Int.bmod_eq_of_le (by omega) (by omega)
theorem zb_sub {x y : Int32} (h1 : -2147483648 ≤ x.toInt - y.toInt) (h2 : x.toInt - y.toInt < 2147483648) : (x - y).toInt = x.toInt - y.toInt := by
  rw [Int32.toInt_sub]
  exact Int.bmod_eq_of_le (by omega) (by omega)
theorem zb_mul {x y : Int32} (h1 : -2147483648 ≤ x.toInt * y.toInt) (h2 : x.toInt * y.toInt < 2147483648) : (x * y).toInt = x.toInt * y.toInt := by
  rw [Int32.toInt_mul]
  exact Int.bmod_eq_of_le (by omega) (by omega)

/-- what a path is -/
abbrev zp_ok (p : Int32) : Prop := 0 ≤ p.toInt ∧ p.toInt < 1030301 ∧ (p.toInt = 0 ∨ (p.toInt % 101 ≠ 0 ∧ (p.toInt < 101 ∨ p.toInt / 101 % 101 ≠ 0)))
theorem zp_par {p : Int32} (h : zp_ok p) : zp_ok (p / 101) := by
  obtain ⟨h0, h1, h2⟩ := h
  unfold zp_ok
  rw [zb_div h0]
  generalize p.toInt = n at *
  omega
theorem zp_0 : zp_ok 0 := by unfold zp_ok; rw [zb_t0]; omega
theorem zp_lt {p : Int32} (h : zp_ok p) (hp : ¬ p = 0) : 0 < p.toInt ∧ (p / 101).toInt < p.toInt := by
  have h0 := h.1
  have : p.toInt ≠ 0 := fun e => hp (zb_inj (by rw [e, zb_t0]))
  rw [zb_div h0]
  omega
theorem zp_made {p c : Int32} (h : zp_ok p) (hp : ¬ p = 0) (hc : 0 ≤ c.toInt) :
    zp_ok (((p / 101) * 101 + (c - c / 100 * 100)) + 1) ∧ (((p / 101) * 101 + (c - c / 100 * 100)) + 1) / 101 = p / 101 ∧ ¬ (((p / 101) * 101 + (c - c / 100 * 100)) + 1) = 0 := by
  obtain ⟨n, hn, rfl, e⟩ := zb_nI h.1
  obtain ⟨m, hm, rfl, e'⟩ := zb_nI hc
  have hn0 : n ≠ 0 := fun z => hp (by rw [z]; rfl)
  obtain ⟨h0, h1, h2⟩ := h
  rw [e] at h0 h1 h2
  have q : (nI n / 101) * 101 + (nI m - nI m / 100 * 100) + 1 = nI (n / 101 * 101 + m % 100 + 1) := by
    rw [show (101 : Int32) = nI 101 from rfl, show (100 : Int32) = nI 100 from rfl, pk_rem hm (by decide) (by decide), pk_div hn (by decide) (by decide), pk_mul, nI_add, nI_1]
  rw [q]
  have hb : n / 101 * 101 + m % 100 + 1 < 2 ^ 31 := by omega
  have hd : nI (n / 101 * 101 + m % 100 + 1) / 101 = nI n / 101 := by
    rw [show (101 : Int32) = nI 101 from rfl, pk_div hb (by decide) (by decide), pk_div hn (by decide) (by decide)]
    exact congrArg nI (by omega)
  refine ⟨?_, hd, ?_⟩
  · unfold zp_ok
    rw [nI_toInt hb]
    omega
  · exact nI_ne0 (by omega) hb

/-! counting -/
def zc_cnt (f : Nat → Bool) : Nat → Nat
  | 0 => 0
  | n + 1 => zc_cnt f n + (if f n = true then 1 else 0)
def zc_ls (f : Nat → Bool) (g : Nat → Int32) (N : Nat) : List Int32 := ((List.range N).filter f).map g
theorem zc_len (f : Nat → Bool) (g : Nat → Int32) (N : Nat) : (zc_ls f g N).length = zc_cnt f N := by
  unfold zc_ls
  induction N with
  | zero => rfl
  | succ n ih =>
    rw [List.range_succ, List.filter_append, List.map_append, List.length_append, ih]
    cases h : f n <;> simp [zc_cnt, h]
theorem zc_mem {f : Nat → Bool} {g : Nat → Int32} {N : Nat} {x : Int32} : x ∈ zc_ls f g N ↔ ∃ s, s < N ∧ f s = true ∧ g s = x := by
  unfold zc_ls
  rw [List.mem_map]
  constructor
  · rintro ⟨s, hs, e⟩
    rw [List.mem_filter, List.mem_range] at hs
    exact ⟨s, hs.1, hs.2, e⟩
  · rintro ⟨s, hs, h2, e⟩
    exact ⟨s, by rw [List.mem_filter, List.mem_range]; exact ⟨hs, h2⟩, e⟩
theorem zc_nd {f : Nat → Bool} {g : Nat → Int32} {N : Nat} (h : ∀ s s', s < N → s' < N → f s = true → f s' = true → g s = g s' → s = s') : (zc_ls f g N).Nodup := by
  unfold zc_ls List.Nodup
  rw [List.pairwise_map]
  refine List.Pairwise.imp_of_mem ?_ (List.Pairwise.filter f (List.nodup_range (n := N)))
  intro a b ha hb hab e
  rw [List.mem_filter, List.mem_range] at ha hb
  exact hab (h a b ha.1 hb.1 ha.2 hb.2 e)
theorem zc_le {f f' : Nat → Bool} {g g' : Nat → Int32} {N N' : Nat} (h : ∀ s s', s < N → s' < N → f s = true → f s' = true → g s = g s' → s = s')
    (hs : ∀ s, s < N → f s = true → ∃ s', s' < N' ∧ f' s' = true ∧ g' s' = g s) : zc_cnt f N ≤ zc_cnt f' N' := by
  rw [← zc_len f g, ← zc_len f' g']
  refine List.Nodup.length_le_of_subset (zc_nd h) ?_
  intro x hx
  obtain ⟨s, h1, h2, h3⟩ := zc_mem.mp hx
  obtain ⟨s', h4, h5, h6⟩ := hs s h1 h2
  exact zc_mem.mpr ⟨s', h4, h5, by rw [h6, h3]⟩
theorem zc_congr {f f' : Nat → Bool} : ∀ {N : Nat}, (∀ s, s < N → f s = f' s) → zc_cnt f N = zc_cnt f' N
  | 0, _ => rfl
  | n + 1, h => by
    unfold zc_cnt
    rw [zc_congr (fun s hs => h s (by omega)), h n (by omega)]
theorem zc_leN (f : Nat → Bool) : ∀ N : Nat, zc_cnt f N ≤ N
  | 0 => Nat.le_refl 0
  | n + 1 => by
    have := zc_leN f n
    unfold zc_cnt
    split <;> omega
theorem zc_all {f : Nat → Bool} : ∀ {N : Nat}, (∀ s, s < N → f s = true) → zc_cnt f N = N
  | 0, _ => rfl
  | n + 1, h => by
    unfold zc_cnt
    rw [zc_all (fun s hs => h s (by omega)), h n (by omega)]
    rfl
theorem zc_ext {f : Nat → Bool} {n : Nat} : ∀ {d : Nat}, (∀ s, n ≤ s → s < n + d → f s = false) → zc_cnt f (n + d) = zc_cnt f n
  | 0, _ => rfl
  | d + 1, h => by
    have e : zc_cnt f (n + (d + 1)) = zc_cnt f (n + d) + (if f (n + d) = true then 1 else 0) := rfl
    rw [e, zc_ext (fun s h1 h2 => h s h1 (by omega)), h (n + d) (by omega) (by omega)]
    rfl
theorem zc_ext' {f : Nat → Bool} {n N : Nat} (hn : n ≤ N) (h : ∀ s, n ≤ s → s < N → f s = false) : zc_cnt f N = zc_cnt f n := by
  obtain ⟨d, rfl⟩ : ∃ d, N = n + d := ⟨N - n, by omega⟩
  exact zc_ext h
theorem zc_ex {f : Nat → Bool} : ∀ {N : Nat}, zc_cnt f N < N → ∃ s, s < N ∧ f s = false
  | 0, h => by omega
  | n + 1, h => by
    cases e : f n with
    | false => exact ⟨n, by omega, e⟩
    | true =>
      have : zc_cnt f (n + 1) = zc_cnt f n + 1 := by show _ + _ = _; rw [e]; rfl
      obtain ⟨s, h1, h2⟩ := zc_ex (f := f) (N := n) (by omega)
      exact ⟨s, by omega, h2⟩
theorem zc_lt {f : Nat → Bool} : ∀ {N s : Nat}, s < N → f s = false → zc_cnt f N < N
  | 0, s, h, _ => by omega
  | n + 1, s, h, e => by
    by_cases z : s = n
    · subst z
      have : zc_cnt f (s + 1) = zc_cnt f s := by show _ + _ = _; rw [e]; rfl
      have := zc_leN f s
      omega
    · have := zc_lt (f := f) (N := n) (s := s) (by omega) e
      have e2 : zc_cnt f (n + 1) = zc_cnt f n + (if f n = true then 1 else 0) := rfl
      rw [e2]
      split <;> omega
theorem zc_upd {f f' : Nat → Bool} : ∀ {N s : Nat}, s < N → f s = false → f' s = true → (∀ j, j < N → j ≠ s → f' j = f j) → zc_cnt f' N = zc_cnt f N + 1
  | 0, s, h, _, _, _ => by omega
  | n + 1, s, h, e, e', o => by
    have a1 : zc_cnt f (n + 1) = zc_cnt f n + (if f n = true then 1 else 0) := rfl
    have a2 : zc_cnt f' (n + 1) = zc_cnt f' n + (if f' n = true then 1 else 0) := rfl
    by_cases z : s = n
    · subst z
      have : zc_cnt f' s = zc_cnt f s := zc_congr (fun j hj => o j (by omega) (by omega))
      rw [a1, a2, e, e', this]
      rfl
    · have := zc_upd (f := f) (f' := f') (N := n) (s := s) (by omega) e e' (fun j hj hn => o j (by omega) hn)
      rw [a1, a2, this, o n (by omega) (fun z' => z z'.symm)]
      omega
theorem zc_pos {f : Nat → Bool} : ∀ {N : Nat}, 0 < zc_cnt f N → ∃ s, s < N ∧ f s = true
  | 0, h => absurd h (Nat.lt_irrefl 0)
  | n + 1, h => by
    cases e : f n with
    | true => exact ⟨n, by omega, e⟩
    | false =>
      have : zc_cnt f (n + 1) = zc_cnt f n := by show _ + _ = _; rw [e]; rfl
      obtain ⟨s, h1, h2⟩ := zc_pos (f := f) (N := n) (by omega)
      exact ⟨s, by omega, h2⟩
theorem zc_pos' {f : Nat → Bool} : ∀ {N s : Nat}, s < N → f s = true → 0 < zc_cnt f N
  | 0, s, h, _ => by omega
  | n + 1, s, h, e => by
    have a1 : zc_cnt f (n + 1) = zc_cnt f n + (if f n = true then 1 else 0) := rfl
    by_cases z : s = n
    · subst z; rw [a1, e]; simp
    · have := zc_pos' (f := f) (N := n) (s := s) (by omega) e
      omega
end
section
/-! a table of slots that holds a map -/
def zr_Rep (N : Nat) (path : Nat → Int32) (nd : Nat → zn_Nd) (C : zn_Mp) : Prop :=
  (∀ s, s < N → 0 ≤ (path s).toInt → C (path s) = some (nd s)) ∧
  (∀ p x, C p = some x → 0 ≤ p.toInt ∧ ∃ s, s < N ∧ path s = p) ∧
  (∀ s s', s < N → s' < N → 0 ≤ (path s).toInt → path s = path s' → s = s')
def zr_oc (path : Nat → Int32) (P : Int32 → Bool) (s : Nat) : Bool := decide (0 ≤ (path s).toInt) && P (path s)
def zr_set (C : zn_Mp) (p : Int32) (x : Option zn_Nd) : zn_Mp := fun q => if q = p then x else C q
theorem zr_oc_t {path : Nat → Int32} {P : Int32 → Bool} {s : Nat} : zr_oc path P s = true ↔ 0 ≤ (path s).toInt ∧ P (path s) = true := by
  unfold zr_oc; rw [Bool.and_eq_true, decide_eq_true_eq]
theorem zr_oc1 {path : Nat → Int32} {s : Nat} : zr_oc path (fun _ => true) s = true ↔ 0 ≤ (path s).toInt := by
  rw [zr_oc_t]; exact ⟨fun h => h.1, fun h => ⟨h, rfl⟩⟩
theorem zr_oc0 {path : Nat → Int32} {s : Nat} : zr_oc path (fun _ => true) s = false ↔ (path s).toInt < 0 := by
  rw [← Bool.not_eq_true, zr_oc1]; omega
theorem zr_set_s {C : zn_Mp} {p : Int32} {x : Option zn_Nd} : zr_set C p x p = x := if_pos rfl
theorem zr_set_n {C : zn_Mp} {p q : Int32} {x : Option zn_Nd} (h : ¬ q = p) : zr_set C p x q = C q := if_neg h

theorem zr_get {N : Nat} {path : Nat → Int32} {nd : Nat → zn_Nd} {C : zn_Mp} (R : zr_Rep N path nd C) {p : Int32} {x : zn_Nd} (h : C p = some x) :
    ∃ s, s < N ∧ path s = p ∧ nd s = x ∧ 0 ≤ (path s).toInt := by
  obtain ⟨h0, s, hs, e⟩ := R.2.1 p x h
  subst e
  have := R.1 s hs h0
  rw [h] at this
  exact ⟨s, hs, rfl, (Option.some.inj this).symm, h0⟩
theorem zr_none {N : Nat} {path : Nat → Int32} {nd : Nat → zn_Nd} {C : zn_Mp} (R : zr_Rep N path nd C) {p : Int32} (h : C p = none) {s : Nat} (hs : s < N) (h0 : 0 ≤ (path s).toInt) : ¬ path s = p := by
  intro e
  have := R.1 s hs h0
  rw [e, h] at this
  exact nomatch this
theorem zr_absent {N : Nat} {path : Nat → Int32} {nd : Nat → zn_Nd} {C : zn_Mp} (R : zr_Rep N path nd C) {p : Int32} (h : ∀ s, s < N → 0 ≤ (path s).toInt → ¬ path s = p) : C p = none := by
  cases e : C p with
  | none => rfl
  | some x =>
    obtain ⟨s, hs, e1, _, h0⟩ := zr_get R e
    exact absurd e1 (h s hs h0)
theorem zr_neg {N : Nat} {path : Nat → Int32} {nd : Nat → zn_Nd} {C : zn_Mp} (R : zr_Rep N path nd C) {p : Int32} (h : p.toInt < 0) : C p = none := by
  cases e : C p with
  | none => rfl
  | some x => have := (R.2.1 p x e).1; omega
theorem zr_congr {N : Nat} {path path' : Nat → Int32} {nd nd' : Nat → zn_Nd} {C C' : zn_Mp} (R : zr_Rep N path nd C) (hp : ∀ s, s < N → path' s = path s)
    (hn : ∀ s, s < N → 0 ≤ (path s).toInt → nd' s = nd s) (hC : ∀ p, C' p = C p) : zr_Rep N path' nd' C' := by
  refine ⟨fun s hs h0 => ?_, fun p x h => ?_, fun s s' hs hs' h0 e => ?_⟩
  · rw [hp s hs] at h0 ⊢
    rw [hC, hn s hs h0]
    exact R.1 s hs h0
  · rw [hC] at h
    obtain ⟨h0, s, hs, e⟩ := R.2.1 p x h
    exact ⟨h0, s, hs, by rw [hp s hs, e]⟩
  · rw [hp s hs] at h0 e
    rw [hp s' hs'] at e
    exact R.2.2 s s' hs hs' h0 e
theorem zr_upd {N : Nat} {path : Nat → Int32} {nd nd' : Nat → zn_Nd} {C : zn_Mp} (R : zr_Rep N path nd C) {s : Nat} (hs : s < N) (h0 : 0 ≤ (path s).toInt)
    (ho : ∀ j, j < N → j ≠ s → 0 ≤ (path j).toInt → nd' j = nd j) : zr_Rep N path nd' (zr_set C (path s) (some (nd' s))) := by
  refine ⟨fun j hj hj0 => ?_, fun p x h => ?_, R.2.2⟩
  · by_cases e : path j = path s
    · have := R.2.2 j s hj hs hj0 e
      rw [e, zr_set_s, this]
    · rw [zr_set_n e, ho j hj (fun z => e (by rw [z])) hj0]
      exact R.1 j hj hj0
  · by_cases e : p = path s
    · exact ⟨by rw [e]; exact h0, s, hs, e.symm⟩
    · rw [zr_set_n e] at h
      exact R.2.1 p x h
theorem zr_ins {N : Nat} {path path' : Nat → Int32} {nd nd' : Nat → zn_Nd} {C : zn_Mp} (R : zr_Rep N path nd C) {s : Nat} {p : Int32} (hs : s < N) (h0 : (path s).toInt < 0) (hp : 0 ≤ p.toInt) (hC : C p = none)
    (e1 : path' s = p) (ho1 : ∀ j, j < N → j ≠ s → path' j = path j) (ho : ∀ j, j < N → j ≠ s → 0 ≤ (path j).toInt → nd' j = nd j) : zr_Rep N path' nd' (zr_set C p (some (nd' s))) := by
  refine ⟨fun j hj hj0 => ?_, fun q x h => ?_, fun j j' hj hj' hj0 e => ?_⟩
  · by_cases z : j = s
    · subst z; rw [e1, zr_set_s]
    · rw [ho1 j hj z] at hj0 ⊢
      rw [zr_set_n (zr_none R hC hj hj0), ho j hj z hj0]
      exact R.1 j hj hj0
  · by_cases z : q = p
    · exact ⟨by rw [z]; exact hp, s, hs, by rw [e1, z]⟩
    · rw [zr_set_n z] at h
      obtain ⟨q0, j, hj, ej⟩ := R.2.1 q x h
      have : j ≠ s := fun w => by rw [← ej, w] at q0; omega
      exact ⟨q0, j, hj, by rw [ho1 j hj this, ej]⟩
  · by_cases z : j = s
    · by_cases z' : j' = s
      · rw [z, z']
      · exfalso
        rw [z, e1, ho1 j' hj' z'] at e
        exact zr_none R hC hj' (by rw [← e]; exact hp) e.symm
    · rw [ho1 j hj z] at e hj0
      by_cases z' : j' = s
      · exfalso
        rw [z', e1] at e
        exact zr_none R hC hj hj0 e
      · rw [ho1 j' hj' z'] at e
        exact R.2.2 j j' hj hj' hj0 e
theorem zr_del {N : Nat} {path path' : Nat → Int32} {nd nd' : Nat → zn_Nd} {C : zn_Mp} (R : zr_Rep N path nd C) {s : Nat} (hs : s < N) (h0 : 0 ≤ (path s).toInt)
    (e1 : (path' s).toInt < 0) (ho1 : ∀ j, j < N → j ≠ s → path' j = path j) (ho : ∀ j, j < N → j ≠ s → 0 ≤ (path j).toInt → nd' j = nd j) : zr_Rep N path' nd' (zr_set C (path s) none) := by
  refine ⟨fun j hj hj0 => ?_, fun q x h => ?_, fun j j' hj hj' hj0 e => ?_⟩
  · have z : j ≠ s := fun w => by rw [w] at hj0; omega
    rw [ho1 j hj z] at hj0 ⊢
    have : ¬ path j = path s := fun w => z (R.2.2 j s hj hs hj0 w)
    rw [zr_set_n this, ho j hj z hj0]
    exact R.1 j hj hj0
  · by_cases z : q = path s
    · rw [z, zr_set_s] at h; exact nomatch h
    · rw [zr_set_n z] at h
      obtain ⟨q0, j, hj, ej⟩ := R.2.1 q x h
      have : j ≠ s := fun w => z (by rw [← ej, w])
      exact ⟨q0, j, hj, by rw [ho1 j hj this, ej]⟩
  · have z : j ≠ s := fun w => by rw [w] at hj0; omega
    rw [ho1 j hj z] at hj0 e
    have z' : j' ≠ s := fun w => by rw [w] at e; rw [e] at hj0; omega
    rw [ho1 j' hj' z'] at e
    exact R.2.2 j j' hj hj' hj0 e
/-- the slots move -/
theorem zr_perm {N : Nat} {path path' : Nat → Int32} {nd nd' : Nat → zn_Nd} {C : zn_Mp} (R : zr_Rep N path nd C) (g : Nat → Nat) (hg : ∀ j, j < N → g j < N) (hgg : ∀ j, j < N → g (g j) = j)
    (e1 : ∀ j, j < N → path' j = path (g j)) (e2 : ∀ j, j < N → nd' j = nd (g j)) : zr_Rep N path' nd' C := by
  refine ⟨fun j hj hj0 => ?_, fun q x h => ?_, fun j j' hj hj' hj0 e => ?_⟩
  · rw [e1 j hj] at hj0 ⊢
    rw [e2 j hj]
    exact R.1 (g j) (hg j hj) hj0
  · obtain ⟨q0, j, hj, ej⟩ := R.2.1 q x h
    exact ⟨q0, g j, hg j hj, by rw [e1 _ (hg j hj), hgg j hj, ej]⟩
  · rw [e1 j hj] at hj0 e
    rw [e1 j' hj'] at e
    have := R.2.2 _ _ (hg j hj) (hg j' hj') hj0 e
    rw [← hgg j hj, ← hgg j' hj', this]
theorem zr_cle {N N' : Nat} {path path' : Nat → Int32} {nd nd' : Nat → zn_Nd} {C : zn_Mp} (R : zr_Rep N path nd C) (R' : zr_Rep N' path' nd' C) (P : Int32 → Bool) :
    zc_cnt (zr_oc path P) N ≤ zc_cnt (zr_oc path' P) N' := by
  refine zc_le (g := path) (g' := path') (fun s s' hs hs' h1 h2 e => ?_) (fun s hs h1 => ?_)
  · exact R.2.2 s s' hs hs' (zr_oc_t.mp h1).1 e
  · have h2 := zr_oc_t.mp h1
    obtain ⟨s', hs', e, _, h0⟩ := zr_get R' (R.1 s hs h2.1)
    exact ⟨s', hs', zr_oc_t.mpr ⟨h0, by rw [e]; exact h2.2⟩, e⟩
theorem zr_cnt {N N' : Nat} {path path' : Nat → Int32} {nd nd' : Nat → zn_Nd} {C : zn_Mp} (R : zr_Rep N path nd C) (R' : zr_Rep N' path' nd' C) (P : Int32 → Bool) :
    zc_cnt (zr_oc path P) N = zc_cnt (zr_oc path' P) N' := Nat.le_antisymm (zr_cle R R' P) (zr_cle R' R P)
/-- the number of nodes -/
def zr_n (path : Nat → Int32) (N : Nat) : Nat := zc_cnt (zr_oc path (fun _ => true)) N
theorem zr_n_ins {path path' : Nat → Int32} {N s : Nat} (hs : s < N) (h0 : (path s).toInt < 0) (h1 : 0 ≤ (path' s).toInt) (ho : ∀ j, j < N → j ≠ s → path' j = path j) : zr_n path' N = zr_n path N + 1 :=
  zc_upd hs (zr_oc0.mpr h0) (zr_oc1.mpr h1) (fun j hj hn => by unfold zr_oc; rw [ho j hj hn])
theorem zr_n_del {path path' : Nat → Int32} {N s : Nat} (hs : s < N) (h0 : 0 ≤ (path s).toInt) (h1 : (path' s).toInt < 0) (ho : ∀ j, j < N → j ≠ s → path' j = path j) : zr_n path N = zr_n path' N + 1 :=
  zr_n_ins hs h1 h0 (fun j hj hn => (ho j hj hn).symm)
end
section
/-! the table of hashes -/
def zh_h (p : Int32) : Nat := ((p * 40503).toUInt32 >>> ((7 : Int32).toUInt32 &&& Int32.toUInt32 31)).toInt32.toBitVec.toNat % 128
theorem zh_lt (p : Int32) : zh_h p < 128 := Nat.mod_lt _ (by decide)
theorem zh_eq (p : Int32) : ((((p * 40503).toUInt32 >>> ((7 : Int32).toUInt32 &&& Int32.toUInt32 31)).toInt32) &&& 127) = nI (zh_h p) :=
  pk_and _ 7 (by decide)
theorem zh_and {n : Nat} (h : n < 128) : (nI n + 1) &&& 127 = nI ((n + 1) % 128) := by
  rw [nI_1, pk_andN (by omega) 7 (by decide)]
theorem zh_sub {a b : Nat} (ha : a < 128) (hb : b < 128) : (nI a - nI b) &&& 127 = nI ((a + 128 - b) % 128) := by
  have e : nI a - nI b = nI (a + 4294967296 - b) := by
    apply Int32.toBitVec_inj.mp
    apply BitVec.eq_of_toNat_eq
    rw [Int32.toBitVec_sub, BitVec.toNat_sub, pk_tn (by omega), pk_tn (by omega)]
    show _ = (BitVec.ofNat 32 _).toNat
    rw [BitVec.toNat_ofNat]
    omega
  rw [e, pk_and _ 7 (by decide)]
  refine congrArg nI ?_
  show (BitVec.ofNat 32 _).toNat % _ = _
  rw [BitVec.toNat_ofNat]
  omega
/-- distance forward round the table -/
def zh_d (a b : Nat) : Nat := (b + 128 - a) % 128
theorem zh_d_lt (a b : Nat) : zh_d a b < 128 := Nat.mod_lt _ (by decide)

/-- O: the slots that are held; w: where each wants to lie -/
def zh_T (O : Nat → Prop) (w : Nat → Nat) (bk : Nat → Int32) : Prop :=
  (∀ k, k < 128 → bk k = -1 ∨ ∃ s, s < 48 ∧ bk k = nI s ∧ O s) ∧
  (∀ s, s < 48 → O s → ∃ k, k < 128 ∧ bk k = nI s ∧ ∀ i, i < zh_d (w s) k → ¬ bk ((w s + i) % 128) = -1) ∧
  (∀ k k' s, k < 128 → k' < 128 → s < 48 → bk k = nI s → bk k' = nI s → k = k')
theorem zh_m1 {s : Nat} (h : s < 48) : ¬ nI s = -1 := by
  intro e
  have := congrArg Int32.toInt e
  rw [nI_toInt (by omega), zb_tm1] at this
  omega
theorem zh_inj {s s' : Nat} (h : s < 48) (h' : s' < 48) (e : nI s = nI s') : s = s' := (nI_eq (by omega) (by omega)).mp e
theorem zh_T_congr {O O' : Nat → Prop} {w w' : Nat → Nat} {bk : Nat → Int32} (T : zh_T O w bk) (hO : ∀ s, s < 48 → (O' s ↔ O s)) (hw : ∀ s, s < 48 → O s → w' s = w s) : zh_T O' w' bk := by
  refine ⟨fun k hk => ?_, fun s hs ho => ?_, T.2.2⟩
  · rcases T.1 k hk with h | ⟨s, hs, e, ho⟩
    · exact Or.inl h
    · exact Or.inr ⟨s, hs, e, (hO s hs).mpr ho⟩
  · have ho' := (hO s hs).mp ho
    rw [hw s hs ho']
    exact T.2.1 s hs ho'
theorem zh_neg {O : Nat → Prop} {w : Nat → Nat} {bk : Nat → Int32} (T : zh_T O w bk) {k : Nat} (hk : k < 128) : bk k < 0 ↔ bk k = -1 := by
  rcases T.1 k hk with h | ⟨s, hs, e, _⟩
  · rw [h]; decide
  · rw [e]
    exact ⟨fun h => absurd h (nI_pos (by omega)), fun h => absurd h (zh_m1 hs)⟩
/-- some place is empty -/
theorem zh_empty {O : Nat → Prop} {w : Nat → Nat} {bk : Nat → Int32} (T : zh_T O w bk) : ∃ k, k < 128 ∧ bk k = -1 := by
  rcases Classical.em (∃ k, k < 128 ∧ bk k = -1) with h | h
  · exact h
  · exfalso
    have hx : ∀ k, k < 128 → ∃ s, s < 48 ∧ bk k = nI s := fun k hk => by
      rcases T.1 k hk with z | ⟨s, hs, e, _⟩
      · exact absurd ⟨k, hk, z⟩ h
      · exact ⟨s, hs, e⟩
    have := zc_le (f := fun _ => true) (f' := fun _ => true) (g := bk) (g' := nI) (N := 128) (N' := 48) (fun s s' hs hs' _ _ e => by
      obtain ⟨a, ha, e1⟩ := hx s hs
      exact T.2.2 s s' a hs hs' ha e1 (by rw [← e, e1])) (fun s hs _ => by
      obtain ⟨a, ha, e1⟩ := hx s hs
      exact ⟨a, ha, rfl, e1.symm⟩)
    rw [zc_all (fun _ _ => rfl), zc_all (fun _ _ => rfl)] at this
    omega
/-- a slot comes in at the first empty place -/
theorem zh_put {O O' : Nat → Prop} {w w' : Nat → Nat} {bk : Nat → Int32} (T : zh_T O w bk) {s i : Nat} (hs : s < 48) (hO : ¬ O s)
    (hO' : ∀ j, j < 48 → (O' j ↔ j = s ∨ O j)) (hw' : ∀ j, j < 48 → O j → w' j = w j) (hw : w' s < 128) (hi : i < 128)
    (he : bk ((w' s + i) % 128) = -1) (hf : ∀ j, j < i → ¬ bk ((w' s + j) % 128) = -1) : zh_T O' w' (upd bk ((w' s + i) % 128) (nI s)) := by
  have hne : ∀ k, ¬ bk k = -1 → ¬ upd bk ((w' s + i) % 128) (nI s) k = -1 := fun k hk => by
    by_cases z : k = (w' s + i) % 128
    · rw [z, pk_us]; exact zh_m1 hs
    · rw [pk_un z]; exact hk
  have hno : ∀ k, k < 128 → ¬ bk k = nI s := fun k hk e => by
    rcases T.1 k hk with z | ⟨s', hs', e', ho⟩
    · rw [z] at e; exact zh_m1 hs e.symm
    · rw [e'] at e
      have := zh_inj hs' hs e
      subst this
      exact hO ho
  refine ⟨fun k hk => ?_, fun j hj ho => ?_, fun k k' j hk hk' hj e e' => ?_⟩
  · by_cases z : k = (w' s + i) % 128
    · rw [z, pk_us]; exact Or.inr ⟨s, hs, rfl, (hO' s hs).mpr (Or.inl rfl)⟩
    · rw [pk_un z]
      rcases T.1 k hk with h | ⟨j, hj, e, ho⟩
      · exact Or.inl h
      · exact Or.inr ⟨j, hj, e, (hO' j hj).mpr (Or.inr ho)⟩
  · rcases (hO' j hj).mp ho with rfl | ho'
    · refine ⟨(w' j + i) % 128, Nat.mod_lt _ (by decide), pk_us, fun a ha => ?_⟩
      refine hne _ (hf a ?_)
      unfold zh_d at ha
      omega
    · obtain ⟨k, hk, e, hr⟩ := T.2.1 j hj ho'
      refine ⟨k, hk, ?_, fun a ha => ?_⟩
      · have : k ≠ (w' s + i) % 128 := fun z => by rw [z, he] at e; exact zh_m1 hj e.symm
        rw [pk_un this, e]
      · rw [hw' j hj ho'] at ha ⊢
        exact hne _ (hr a ha)
  · by_cases z : k = (w' s + i) % 128
    · by_cases z' : k' = (w' s + i) % 128
      · rw [z, z']
      · rw [z, pk_us] at e
        rw [pk_un z', ← e] at e'
        exact absurd e' (hno k' hk')
    · rw [pk_un z] at e
      by_cases z' : k' = (w' s + i) % 128
      · rw [z', pk_us] at e'
        rw [← e'] at e
        exact absurd e (hno k hk)
      · rw [pk_un z'] at e'
        exact T.2.2 k k' j hk hk' hj e e'
/-- what holds while a slot is taken out: the hole still holds what it held -/
def zh_R (O : Nat → Prop) (w : Nat → Nat) (bk : Nat → Int32) (hole d : Nat) : Prop :=
  hole < 128 ∧ 1 ≤ d ∧ d < 128 ∧ ¬ bk hole = -1 ∧
  (∀ j, 1 ≤ j → j < d → ¬ bk ((hole + j) % 128) = -1) ∧
  (∀ k, k < 128 → k ≠ hole → bk k = -1 ∨ ∃ s, s < 48 ∧ bk k = nI s ∧ O s) ∧
  (∀ s, s < 48 → O s → ∃ k, k < 128 ∧ k ≠ hole ∧ bk k = nI s ∧ (∀ i, i < zh_d (w s) k → ¬ bk ((w s + i) % 128) = -1) ∧
    (zh_d hole k < d → ∀ i, i < zh_d (w s) k → ¬ (w s + i) % 128 = hole)) ∧
  (∀ k k' s, k < 128 → k' < 128 → k ≠ hole → k' ≠ hole → s < 48 → bk k = nI s → bk k' = nI s → k = k')
theorem zh_R0 {O O' : Nat → Prop} {w : Nat → Nat} {bk : Nat → Int32} (T : zh_T O w bk) {s hole : Nat} (hs : s < 48) (hh : hole < 128) (e : bk hole = nI s)
    (hO : ∀ j, j < 48 → (O' j ↔ j ≠ s ∧ O j)) : zh_R O' w bk hole 1 := by
  have hne : ∀ k, k < 128 → k ≠ hole → ∀ j, j < 48 → bk k = nI j → j ≠ s := fun k hk hkh j hj ej z => by
    subst z
    exact hkh (T.2.2 k hole j hk hh hj ej e)
  refine ⟨hh, by omega, by omega, ?_, fun j h1 h2 => by omega, fun k hk hkh => ?_, fun j hj ho => ?_, fun k k' j hk hk' _ _ hj e1 e2 => T.2.2 k k' j hk hk' hj e1 e2⟩
  · rw [e]; exact zh_m1 hs
  · rcases T.1 k hk with h | ⟨j, hj, ej, ho⟩
    · exact Or.inl h
    · exact Or.inr ⟨j, hj, ej, (hO j hj).mpr ⟨hne k hk hkh j hj ej, ho⟩⟩
  · obtain ⟨hjs, ho'⟩ := (hO j hj).mp ho
    obtain ⟨k, hk, ek, hr⟩ := T.2.1 j hj ho'
    have hkh : k ≠ hole := fun z => by
      rw [z, e] at ek
      exact hjs (zh_inj hs hj ek).symm
    refine ⟨k, hk, hkh, ek, hr, fun hd => ?_⟩
    exfalso
    unfold zh_d at hd
    omega
theorem zh_Rend {O : Nat → Prop} {w : Nat → Nat} {bk : Nat → Int32} {hole d : Nat} (hw : ∀ s, s < 48 → O s → w s < 128) (R : zh_R O w bk hole d) (e : bk ((hole + d) % 128) = -1) : zh_T O w (upd bk hole (-1)) := by
  obtain ⟨hh, d1, d2, hnh, _, h2, h3, h4⟩ := R
  refine ⟨fun k hk => ?_, fun s hs ho => ?_, fun k k' s hk hk' hs e1 e2 => ?_⟩
  · by_cases z : k = hole
    · rw [z, pk_us]; exact Or.inl rfl
    · rw [pk_un z]; exact h2 k hk z
  · obtain ⟨k, hk, hkh, ek, hr, hn⟩ := h3 s hs ho
    refine ⟨k, hk, by rw [pk_un hkh, ek], fun i hi => ?_⟩
    have hnot : ¬ (w s + i) % 128 = hole := fun z => by
      by_cases hd : zh_d hole k < d
      · exact hn hd i hi z
      · have hkd : k ≠ (hole + d) % 128 := fun z2 => by rw [z2, e] at ek; exact zh_m1 hs ek.symm
        have hws := hw s hs ho
        refine hr (i + d) ?_ ?_
        · unfold zh_d at hd hi ⊢
          omega
        · rw [← Nat.add_assoc, Nat.add_mod, z, Nat.mod_eq_of_lt d2, e]
    rw [pk_un hnot]
    exact hr i hi
  · have z : k ≠ hole := fun z => by rw [z, pk_us] at e1; exact zh_m1 hs e1.symm
    have z' : k' ≠ hole := fun z => by rw [z, pk_us] at e2; exact zh_m1 hs e2.symm
    rw [pk_un z] at e1
    rw [pk_un z'] at e2
    exact h4 k k' s hk hk' z z' hs e1 e2
theorem zh_Rstay {O : Nat → Prop} {w : Nat → Nat} {bk : Nat → Int32} {hole d s : Nat} (R : zh_R O w bk hole d) (hs : s < 48) (ho : O s) (hw : w s < 128) (e : bk ((hole + d) % 128) = nI s) (hd : d + 1 < 128)
    (hlt : zh_d (w s) ((hole + d) % 128) < d) : zh_R O w bk hole (d + 1) := by
  obtain ⟨hh, d1, d2, hnh, h1, h2, h3, h4⟩ := R
  refine ⟨hh, by omega, hd, hnh, fun j a b => ?_, h2, fun j hj hoj => ?_, h4⟩
  · by_cases z : j = d
    · rw [z, e]; exact zh_m1 hs
    · exact h1 j a (by omega)
  · obtain ⟨k, hk, hkh, ek, hr, hn⟩ := h3 j hj hoj
    refine ⟨k, hk, hkh, ek, hr, fun hdk i hi z => ?_⟩
    by_cases z2 : zh_d hole k < d
    · exact hn z2 i hi z
    · have hk2 : k = (hole + d) % 128 := by
        unfold zh_d at hdk z2
        omega
      have : j = s := zh_inj hj hs (by rw [← ek, hk2, e])
      subst this
      rw [hk2] at hi
      unfold zh_d at hlt hi
      omega
theorem zh_Rmove {O : Nat → Prop} {w : Nat → Nat} {bk : Nat → Int32} {hole d s : Nat} (R : zh_R O w bk hole d) (hs : s < 48) (ho : O s) (hw : w s < 128) (e : bk ((hole + d) % 128) = nI s)
    (hge : ¬ zh_d (w s) ((hole + d) % 128) < d) : zh_R O w (upd bk hole (nI s)) ((hole + d) % 128) 1 := by
  obtain ⟨hh, d1, d2, hnh, h1, h2, h3, h4⟩ := R
  have hkh : (hole + d) % 128 ≠ hole := by omega
  have hkl : (hole + d) % 128 < 128 := Nat.mod_lt _ (by decide)
  have hne : ∀ k, ¬ bk k = -1 → ¬ upd bk hole (nI s) k = -1 := fun k hk => by
    by_cases z : k = hole
    · rw [z, pk_us]; exact zh_m1 hs
    · rw [pk_un z]; exact hk
  have huniq : ∀ k, k < 128 → k ≠ hole → bk k = nI s → k = (hole + d) % 128 := fun k hk hn ek => h4 k _ s hk hkl hn hkh hs ek e
  refine ⟨hkl, by omega, by omega, ?_, fun j a b => by omega, fun k hk hn => ?_, fun j hj hoj => ?_, fun k k' j hk hk' hn hn' hj e1 e2 => ?_⟩
  · rw [pk_un hkh, e]; exact zh_m1 hs
  · by_cases z : k = hole
    · rw [z, pk_us]; exact Or.inr ⟨s, hs, rfl, ho⟩
    · rw [pk_un z]; exact h2 k hk z
  · by_cases z : j = s
    · subst z
      obtain ⟨k, hk, hkh2, ek, hr, _⟩ := h3 j hj hoj
      have hk2 := huniq k hk hkh2 ek
      refine ⟨hole, hh, fun z => hkh z.symm, pk_us, fun i hi => hne _ (hr i ?_), fun hd => ?_⟩
      · rw [hk2]
        unfold zh_d at hge hi ⊢
        omega
      · exfalso
        unfold zh_d at hd
        omega
    · obtain ⟨k, hk, hkh2, ek, hr, _⟩ := h3 j hj hoj
      have hkk : k ≠ (hole + d) % 128 := fun z2 => by
        rw [z2, e] at ek
        exact z (zh_inj hs hj ek).symm
      refine ⟨k, hk, hkk, by rw [pk_un hkh2, ek], fun i hi => hne _ (hr i hi), fun hd => ?_⟩
      exfalso
      unfold zh_d at hd
      omega
  · by_cases z : k = hole
    · by_cases z' : k' = hole
      · rw [z, z']
      · rw [z, pk_us] at e1
        rw [pk_un z', ← e1] at e2
        exact absurd (huniq k' hk' z' e2) hn'
    · rw [pk_un z] at e1
      by_cases z' : k' = hole
      · rw [z', pk_us] at e2
        rw [← e2] at e1
        exact absurd (huniq k hk z e1) hn
      · rw [pk_un z'] at e2
        exact h4 k k' j hk hk' z z' hj e1 e2
/-- there is an empty place ahead -/
theorem zh_Rempty {O : Nat → Prop} {w : Nat → Nat} {bk : Nat → Int32} {hole d : Nat} (R : zh_R O w bk hole d) : ∃ d', d ≤ d' ∧ d' < 128 ∧ bk ((hole + d') % 128) = -1 := by
  rcases Classical.em (∃ k, k < 128 ∧ bk k = -1) with ⟨k, hk, e⟩ | h
  · obtain ⟨hh, d1, d2, hnh, h1, _⟩ := R
    have hkh : k ≠ hole := fun z => by rw [z] at e; exact hnh e
    refine ⟨zh_d hole k, ?_, zh_d_lt _ _, ?_⟩
    · rcases Nat.lt_or_ge (zh_d hole k) d with z | z
      · exfalso
        refine h1 (zh_d hole k) ?_ z ?_
        · unfold zh_d; omega
        · rw [show (hole + zh_d hole k) % 128 = k from by unfold zh_d; omega, e]
      · exact z
    · rw [show (hole + zh_d hole k) % 128 = k from by unfold zh_d; omega, e]
  · exfalso
    obtain ⟨hh, d1, d2, hnh, _, h2, _, h4⟩ := R
    have hx : ∀ k, k < 128 → k ≠ hole → ∃ s, s < 48 ∧ bk k = nI s := fun k hk hn => by
      rcases h2 k hk hn with z | ⟨s, hs, e, _⟩
      · exact absurd ⟨k, hk, z⟩ h
      · exact ⟨s, hs, e⟩
    have := zc_le (f := fun k => decide (k ≠ hole)) (f' := fun _ => true) (g := bk) (g' := nI) (N := 128) (N' := 48) (fun s s' hs hs' n1 n2 e => by
      obtain ⟨a, ha, e1⟩ := hx s hs (of_decide_eq_true n1)
      exact h4 s s' a hs hs' (of_decide_eq_true n1) (of_decide_eq_true n2) ha e1 (by rw [← e, e1])) (fun s hs n1 => by
      obtain ⟨a, ha, e1⟩ := hx s hs (of_decide_eq_true n1)
      exact ⟨a, ha, rfl, e1.symm⟩)
    have e2 : zc_cnt (fun _ => true) 128 = zc_cnt (fun k => decide (k ≠ hole)) 128 + 1 :=
      zc_upd hh (by simp) rfl (fun j _ hn => by simp [hn])
    rw [zc_all (fun _ _ => rfl)] at e2
    rw [zc_all (f := fun _ => true) (N := 48) (fun _ _ => rfl)] at this
    omega
end
section
/-! children in lists by name, without lists: each link shows the next child -/
def zk_Nx (path : Nat → Int32) (D : Nat → Prop) (q : Int32) (x : Int) (c : Int32) : Prop :=
  (c = -1 ∧ ∀ s, s < 48 → D s → path s / 101 = q → (path s).toInt ≤ x) ∨
  (∃ s, s < 48 ∧ c = nI s ∧ D s ∧ path s / 101 = q ∧ x < (path s).toInt ∧
    ∀ s', s' < 48 → D s' → path s' / 101 = q → x < (path s').toInt → (path s).toInt ≤ (path s').toInt)
def zk_L (path fc sb : Nat → Int32) (D : Nat → Prop) : Prop :=
  (∀ q, q < 48 → 0 ≤ (path q).toInt → zk_Nx path D (path q) 0 (fc q)) ∧
  (∀ s, s < 48 → D s → zk_Nx path D (path s / 101) (path s).toInt (sb s))
def zk_inj (path : Nat → Int32) : Prop := ∀ s s', s < 48 → s' < 48 → 0 ≤ (path s).toInt → path s = path s' → s = s'

theorem zk_Nx_cg {path path' : Nat → Int32} {D D' : Nat → Prop} {q : Int32} {x : Int} {c : Int32} (h : zk_Nx path D q x c) (hD : ∀ s, s < 48 → (D' s ↔ D s)) (hp : ∀ s, s < 48 → D s → path' s = path s) : zk_Nx path' D' q x c := by
  rcases h with ⟨e, h⟩ | ⟨s, hs, e, ds, e2, hx, hl⟩
  · refine Or.inl ⟨e, fun s hs d e' => ?_⟩
    have d' := (hD s hs).mp d
    rw [hp s hs d'] at e' ⊢
    exact h s hs d' e'
  · refine Or.inr ⟨s, hs, e, (hD s hs).mpr ds, by rw [hp s hs ds]; exact e2, by rw [hp s hs ds]; exact hx, fun s' hs' d e' hx' => ?_⟩
    have d' := (hD s' hs').mp d
    rw [hp s' hs' d'] at e' hx'
    rw [hp s hs ds, hp s' hs' d']
    exact hl s' hs' d' e' hx'
theorem zk_L_cg {path path' fc fc' sb sb' : Nat → Int32} {D D' : Nat → Prop} (L : zk_L path fc sb D) (hD : ∀ s, s < 48 → (D' s ↔ D s)) (hp : ∀ s, s < 48 → D s → path' s = path s)
    (hq : ∀ q, q < 48 → 0 ≤ (path' q).toInt → path' q = path q) (hf : ∀ q, q < 48 → 0 ≤ (path' q).toInt → fc' q = fc q) (hs : ∀ s, s < 48 → D s → sb' s = sb s) : zk_L path' fc' sb' D' := by
  refine ⟨fun q hq1 h0 => ?_, fun s hs1 d => ?_⟩
  · rw [hf q hq1 h0]
    have e := hq q hq1 h0
    rw [e] at h0 ⊢
    exact zk_Nx_cg (L.1 q hq1 h0) hD hp
  · have d' := (hD s hs1).mp d
    rw [hs s hs1 d', hp s hs1 d']
    exact zk_Nx_cg (L.2 s hs1 d') hD hp
/-- a slot without links comes in -/
theorem zk_L_new {path path' fc fc' sb sb' : Nat → Int32} {D : Nat → Prop} {s : Nat} (L : zk_L path fc sb D) (hs : s < 48) (hd : ¬ D s) (hp : ∀ j, j < 48 → j ≠ s → path' j = path j)
    (hf : ∀ j, j < 48 → j ≠ s → fc' j = fc j) (hb : ∀ j, j < 48 → j ≠ s → sb' j = sb j) (hfs : fc' s = -1) (hn : ∀ j, j < 48 → D j → ¬ path j / 101 = path' s) : zk_L path' fc' sb' D := by
  have hne : ∀ j, j < 48 → D j → j ≠ s := fun j _ d z => hd (z ▸ d)
  refine ⟨fun q hq h0 => ?_, fun j hj d => ?_⟩
  · by_cases z : q = s
    · subst z
      rw [hfs]
      exact Or.inl ⟨rfl, fun j hj d e => absurd (by rw [hp j hj (hne j hj d)] at e; exact e) (hn j hj d)⟩
    · rw [hp q hq z] at h0 ⊢
      rw [hf q hq z]
      exact zk_Nx_cg (L.1 q hq h0) (fun _ _ => Iff.rfl) (fun j hj d => hp j hj (hne j hj d))
  · rw [hp j hj (hne j hj d), hb j hj (hne j hj d)]
    exact zk_Nx_cg (L.2 j hj d) (fun _ _ => Iff.rfl) (fun j hj d => hp j hj (hne j hj d))
section
variable {path : Nat → Int32} {D D' : Nat → Prop} {s : Nat} {q : Int32}
theorem zk_keep (hs : s < 48) (hq : path s / 101 = q) (hD : ∀ j, j < 48 → (D' j ↔ j = s ∨ D j)) {q' : Int32} {x : Int} {c : Int32} (h : zk_Nx path D q' x c)
    (hk : ¬ q' = q ∨ (path s).toInt ≤ x ∨ ∃ j, j < 48 ∧ c = nI j ∧ (path j).toInt < (path s).toInt) : zk_Nx path D' q' x c := by
  rcases h with ⟨e, h⟩ | ⟨j, hj, e, dj, e2, hx, hl⟩
  · refine Or.inl ⟨e, fun a ha d e' => ?_⟩
    rcases (hD a ha).mp d with rfl | d'
    · rcases hk with z | z | ⟨j, hj, ej, _⟩
      · exact absurd (e'.symm.trans hq) z
      · exact z
      · rw [e] at ej; exact absurd ej.symm (zh_m1 hj)
    · exact h a ha d' e'
  · refine Or.inr ⟨j, hj, e, (hD j hj).mpr (Or.inr dj), e2, hx, fun a ha d e' hx' => ?_⟩
    rcases (hD a ha).mp d with rfl | d'
    · rcases hk with z | z | ⟨b, hb, eb, hlt⟩
      · exact absurd (e'.symm.trans hq) z
      · omega
      · have : b = j := zh_inj hb hj (by rw [← eb, e])
        subst this
        omega
    · exact hl a ha d' e' hx'
theorem zk_newp (hs : s < 48) (hq : path s / 101 = q) (hD : ∀ j, j < 48 → (D' j ↔ j = s ∨ D j)) {x : Int} {k : Int32} (h : zk_Nx path D q x k) (hx : x < (path s).toInt)
    (hk : k = -1 ∨ ∃ j, j < 48 ∧ k = nI j ∧ (path s).toInt ≤ (path j).toInt) : zk_Nx path D' q x (nI s) := by
  refine Or.inr ⟨s, hs, rfl, (hD s hs).mpr (Or.inl rfl), hq, hx, fun a ha d e' hx' => ?_⟩
  rcases (hD a ha).mp d with rfl | d'
  · omega
  · rcases h with ⟨e, h⟩ | ⟨j, hj, e, dj, e2, hxj, hl⟩
    · have := h a ha d' e'; omega
    · have := hl a ha d' e' hx'
      rcases hk with z | ⟨b, hb, eb, hle⟩
      · rw [e] at z; exact absurd z (zh_m1 hj)
      · have : b = j := zh_inj hb hj (by rw [← eb, e])
        subst this
        omega
theorem zk_own (hs : s < 48) (hq : path s / 101 = q) (hD : ∀ j, j < 48 → (D' j ↔ j = s ∨ D j)) {x : Int} {k : Int32} (h : zk_Nx path D q x k) (hx : x < (path s).toInt)
    (hk : k = -1 ∨ ∃ j, j < 48 ∧ k = nI j ∧ (path s).toInt < (path j).toInt) : zk_Nx path D' q (path s).toInt k := by
  rcases h with ⟨e, h⟩ | ⟨j, hj, e, dj, e2, hxj, hl⟩
  · refine Or.inl ⟨e, fun a ha d e' => ?_⟩
    rcases (hD a ha).mp d with rfl | d'
    · omega
    · have := h a ha d' e'; omega
  · rcases hk with z | ⟨b, hb, eb, hlt⟩
    · rw [e] at z; exact absurd z (zh_m1 hj)
    · have : b = j := zh_inj hb hj (by rw [← eb, e])
      subst this
      refine Or.inr ⟨b, hb, e, (hD b hb).mpr (Or.inr dj), e2, hlt, fun a ha d e' hx' => ?_⟩
      rcases (hD a ha).mp d with rfl | d'
      · omega
      · exact hl a ha d' e' (by omega)
/-- a child comes in as the first -/
theorem zk_link0 {fc sb : Nat → Int32} {up : Nat} {k : Int32} (L : zk_L path fc sb D) (inj : zk_inj path) (hDp : ∀ j, j < 48 → D j → 0 < (path j).toInt) (hs : s < 48) (hds : ¬ D s) (h0 : 0 < (path s).toInt)
    (hup : up < 48) (hu : path up = path s / 101) (hu0 : 0 ≤ (path up).toInt) (hD : ∀ j, j < 48 → (D' j ↔ j = s ∨ D j))
    (hk : fc up = k) (hk2 : k = -1 ∨ ∃ j, j < 48 ∧ k = nI j ∧ (path s).toInt < (path j).toInt) : zk_L path (upd fc up (nI s)) (upd sb s k) D' := by
  have hN := L.1 up hup hu0
  rw [hk, hu] at hN
  have hk3 : k = -1 ∨ ∃ j, j < 48 ∧ k = nI j ∧ (path s).toInt ≤ (path j).toInt := hk2.imp id (fun ⟨j, a, b, c⟩ => ⟨j, a, b, by omega⟩)
  refine ⟨fun q hq h => ?_, fun j hj d => ?_⟩
  · by_cases z : q = up
    · subst z
      rw [pk_us, hu]
      exact zk_newp hs rfl hD hN h0 hk3
    · rw [pk_un z]
      refine zk_keep hs rfl hD (L.1 q hq h) (Or.inl fun e => z (inj q up hq hup h (by rw [e, hu])))
  · rcases (hD j hj).mp d with rfl | d'
    · rw [pk_us]
      exact zk_own hs rfl hD hN h0 hk2
    · have hjs : j ≠ s := fun z => hds (z ▸ d')
      rw [pk_un hjs]
      by_cases z : path j / 101 = path s / 101
      · refine zk_keep hs rfl hD (L.2 j hj d') (Or.inr (Or.inl ?_))
        rcases hN with ⟨e, h⟩ | ⟨a, ha, e, da, e2, hxa, hl⟩
        · have := h j hj d' z; have := hDp j hj d'; omega
        · have := hl j hj d' z (hDp j hj d')
          rcases hk2 with z2 | ⟨b, hb, eb, hlt⟩
          · rw [e] at z2; exact absurd z2 (zh_m1 ha)
          · have : b = a := zh_inj hb ha (by rw [← eb, e])
            subst this
            omega
      · exact zk_keep hs rfl hD (L.2 j hj d') (Or.inl z)
/-- a child comes in behind another -/
theorem zk_link1 {fc sb : Nat → Int32} {b : Nat} {k : Int32} (L : zk_L path fc sb D) (inj : zk_inj path) (hDp : ∀ j, j < 48 → D j → 0 < (path j).toInt) (hs : s < 48) (hds : ¬ D s) (h0 : 0 < (path s).toInt)
    (hb : b < 48) (hdb : D b) (hbq : path b / 101 = path s / 101) (hlt : (path b).toInt < (path s).toInt) (hD : ∀ j, j < 48 → (D' j ↔ j = s ∨ D j))
    (hk : sb b = k) (hk2 : k = -1 ∨ ∃ j, j < 48 ∧ k = nI j ∧ (path s).toInt < (path j).toInt) : zk_L path fc (upd (upd sb s k) b (nI s)) D' := by
  have hN := L.2 b hb hdb
  rw [hk, hbq] at hN
  have hk3 : k = -1 ∨ ∃ j, j < 48 ∧ k = nI j ∧ (path s).toInt ≤ (path j).toInt := hk2.imp id (fun ⟨j, a, b, c⟩ => ⟨j, a, b, by omega⟩)
  have hbs : s ≠ b := fun z => hds (z ▸ hdb)
  -- what points to something at b or before it
  have hlow : ∀ {x : Int} {c : Int32}, zk_Nx path D (path s / 101) x c → x < (path b).toInt → ∃ j, j < 48 ∧ c = nI j ∧ (path j).toInt < (path s).toInt := by
    intro x c h hx
    rcases h with ⟨e, h⟩ | ⟨a, ha, e, da, e2, hxa, hl⟩
    · have := h b hb hdb hbq; omega
    · have := hl b hb hdb hbq hx
      exact ⟨a, ha, e, by omega⟩
  refine ⟨fun q hq h => ?_, fun j hj d => ?_⟩
  · by_cases z : path q = path s / 101
    · have h1 := L.1 q hq h
      rw [z] at h1 ⊢
      exact zk_keep hs rfl hD h1 (Or.inr (Or.inr (hlow h1 (hDp b hb hdb))))
    · exact zk_keep hs rfl hD (L.1 q hq h) (Or.inl z)
  · rcases (hD j hj).mp d with rfl | d'
    · rw [pk_un hbs, pk_us]
      exact zk_own hs rfl hD hN hlt hk2
    · have hjs : j ≠ s := fun z => hds (z ▸ d')
      by_cases zb : j = b
      · subst zb
        rw [pk_us, hbq]
        exact zk_newp hs rfl hD hN hlt hk3
      · rw [pk_un zb, pk_un hjs]
        by_cases z : path j / 101 = path s / 101
        · have h1 := L.2 j hj d'
          rw [z] at h1 ⊢
          have hne : (path j).toInt ≠ (path b).toInt := fun e => zb (inj j b hj hb (by have := hDp j hj d'; omega) (zb_inj e))
          by_cases hc : (path j).toInt < (path b).toInt
          · exact zk_keep hs rfl hD h1 (Or.inr (Or.inr (hlow h1 hc)))
          · refine zk_keep hs rfl hD h1 (Or.inr (Or.inl ?_))
            rcases hN with ⟨e, h⟩ | ⟨a, ha, e, da, e2, hxa, hl⟩
            · have := h j hj d' z; omega
            · have := hl j hj d' z (by omega)
              rcases hk2 with z2 | ⟨b', hb', eb, hlt2⟩
              · rw [e] at z2; exact absurd z2 (zh_m1 ha)
              · have : b' = a := zh_inj hb' ha (by rw [← eb, e])
                subst this
                omega
        · exact zk_keep hs rfl hD (L.2 j hj d') (Or.inl z)
theorem zk_out (hD : ∀ j, j < 48 → (D' j ↔ j ≠ s ∧ D j)) {q' : Int32} {x : Int} {c : Int32} (h : zk_Nx path D q' x c) (hc : ¬ c = nI s) : zk_Nx path D' q' x c := by
  rcases h with ⟨e, h⟩ | ⟨j, hj, e, dj, e2, hx, hl⟩
  · exact Or.inl ⟨e, fun a ha d e' => h a ha ((hD a ha).mp d).2 e'⟩
  · exact Or.inr ⟨j, hj, e, (hD j hj).mpr ⟨fun z => hc (by rw [e, z]), dj⟩, e2, hx, fun a ha d e' hx' => hl a ha ((hD a ha).mp d).2 e' hx'⟩
theorem zk_skip (inj : zk_inj path) (hs : s < 48) (h0 : 0 < (path s).toInt) (hD : ∀ j, j < 48 → (D' j ↔ j ≠ s ∧ D j)) {x : Int} {c : Int32} (h : zk_Nx path D q x (nI s)) (h2 : zk_Nx path D q (path s).toInt c) : zk_Nx path D' q x c := by
  rcases h with ⟨e, _⟩ | ⟨j, hj, e, dj, e2, hx, hl⟩
  · exact absurd e (zh_m1 hs)
  · have : s = j := zh_inj hs hj e
    subst this
    have up : ∀ a, a < 48 → D' a → path a / 101 = q → x < (path a).toInt → (path s).toInt < (path a).toInt := fun a ha d e' hx' => by
      obtain ⟨d1, d2⟩ := (hD a ha).mp d
      have := hl a ha d2 e' hx'
      have hne : (path s).toInt ≠ (path a).toInt := fun z => d1 (inj s a hs ha (by omega) (zb_inj z)).symm
      omega
    rcases h2 with ⟨e3, h3⟩ | ⟨j, hj, e3, dj3, e4, hx4, hl4⟩
    · refine Or.inl ⟨e3, fun a ha d e' => ?_⟩
      rcases Int.lt_or_le x (path a).toInt with z | z
      · have := up a ha d e' z
        have := h3 a ha ((hD a ha).mp d).2 e'
        omega
      · exact z
    · refine Or.inr ⟨j, hj, e3, (hD j hj).mpr ⟨fun z => by rw [z] at hx4; omega, dj3⟩, e4, by omega, fun a ha d e' hx' => hl4 a ha ((hD a ha).mp d).2 e' (up a ha d e' hx')⟩
/-- nothing lies between -/
theorem zk_btw {x : Int} (hs : s < 48) (h : zk_Nx path D q x (nI s)) {b : Nat} (hb : b < 48) (hdb : D b) (hbq : path b / 101 = q) (h1 : x < (path b).toInt) (h2 : (path b).toInt < (path s).toInt) : False := by
  rcases h with ⟨e, _⟩ | ⟨j, hj, e, dj, e2, hx, hl⟩
  · exact absurd e (zh_m1 hs)
  · have : s = j := zh_inj hs hj e
    subst this
    have := hl b hb hdb hbq h1
    omega
theorem zk_at {x : Int} (hs : s < 48) (h : zk_Nx path D q x (nI s)) : D s ∧ path s / 101 = q ∧ x < (path s).toInt := by
  rcases h with ⟨e, _⟩ | ⟨j, hj, e, dj, e2, hx, hl⟩
  · exact absurd e (zh_m1 hs)
  · have : s = j := zh_inj hs hj e
    subst this
    exact ⟨dj, e2, hx⟩
theorem zk_unlink0 {fc sb : Nat → Int32} {up : Nat} (L : zk_L path fc sb D) (inj : zk_inj path) (hDp : ∀ j, j < 48 → D j → 0 < (path j).toInt) (hs : s < 48) (hds : D s)
    (hup : up < 48) (hu : path up = path s / 101) (hu0 : 0 ≤ (path up).toInt) (hD : ∀ j, j < 48 → (D' j ↔ j ≠ s ∧ D j)) (hk : fc up = nI s) : zk_L path (upd fc up (sb s)) sb D' := by
  have hN := L.1 up hup hu0
  rw [hk, hu] at hN
  refine ⟨fun q hq h => ?_, fun j hj d => ?_⟩
  · by_cases z : q = up
    · subst z
      rw [pk_us, hu]
      exact zk_skip inj hs (hDp s hs hds) hD hN (L.2 s hs hds)
    · rw [pk_un z]
      refine zk_out hD (L.1 q hq h) fun e => ?_
      have h1 := L.1 q hq h
      rw [e] at h1
      have := (zk_at hs h1).2.1
      exact z (inj q up hq hup h (by rw [← this, hu]))
  · obtain ⟨d1, d2⟩ := (hD j hj).mp d
    refine zk_out hD (L.2 j hj d2) fun e => ?_
    have h1 := L.2 j hj d2
    rw [e] at h1
    obtain ⟨_, a2, a3⟩ := zk_at hs h1
    exact zk_btw hs hN hj d2 a2.symm (hDp j hj d2) a3
theorem zk_unlink1 {fc sb : Nat → Int32} {up b : Nat} (L : zk_L path fc sb D) (inj : zk_inj path) (hDp : ∀ j, j < 48 → D j → 0 < (path j).toInt) (hs : s < 48) (hds : D s)
    (hup : up < 48) (hu : path up = path s / 101) (hu0 : 0 ≤ (path up).toInt) (hD : ∀ j, j < 48 → (D' j ↔ j ≠ s ∧ D j)) (hf : ¬ fc up = nI s) (hb : b < 48) (hdb : D b) (hk : sb b = nI s) : zk_L path fc (upd sb b (sb s)) D' := by
  have hN := L.2 b hb hdb
  rw [hk] at hN
  obtain ⟨_, b2, b3⟩ := zk_at hs hN
  refine ⟨fun q hq h => ?_, fun j hj d => ?_⟩
  · refine zk_out hD (L.1 q hq h) fun e => ?_
    have h1 := L.1 q hq h
    rw [e] at h1
    have := (zk_at hs h1).2.1
    have : q = up := inj q up hq hup h (by rw [← this, hu])
    subst this
    exact hf e
  · obtain ⟨d1, d2⟩ := (hD j hj).mp d
    by_cases zb : j = b
    · subst zb
      rw [pk_us]
      have h2 := L.2 s hs hds
      rw [b2] at h2
      exact zk_skip inj hs (hDp s hs hds) hD hN h2
    · rw [pk_un zb]
      refine zk_out hD (L.2 j hj d2) fun e => ?_
      have h1 := L.2 j hj d2
      rw [e] at h1
      obtain ⟨_, a2, a3⟩ := zk_at hs h1
      have hne : (path j).toInt ≠ (path b).toInt := fun e => zb (inj j b hj hb (by have := hDp j hj d2; omega) (zb_inj e))
      by_cases hc : (path j).toInt < (path b).toInt
      · exact zk_btw hs h1 hb hdb (by rw [← b2, a2]) hc b3
      · exact zk_btw hs hN hj d2 (by rw [← a2, b2]) (by omega) a3
end
/-- the children above x -/
def zk_P (q : Int32) (x : Int) (p : Int32) : Bool := decide (p / 101 = q) && decide (x < p.toInt)
theorem zk_P_t {q : Int32} {x : Int} {p : Int32} : zk_P q x p = true ↔ p / 101 = q ∧ x < p.toInt := by
  unfold zk_P; rw [Bool.and_eq_true, decide_eq_true_eq, decide_eq_true_eq]
theorem zk_cn0 {path : Nat → Int32} {q : Int32} {x : Int} (hx : 0 ≤ x) (h : zk_Nx path (fun s => 0 < (path s).toInt) q x (-1)) : zc_cnt (zr_oc path (zk_P q x)) 48 = 0 := by
  rcases Nat.eq_zero_or_pos (zc_cnt (zr_oc path (zk_P q x)) 48) with z | z
  · exact z
  · exfalso
    obtain ⟨s, hs, e⟩ := zc_pos z
    rw [zr_oc_t, zk_P_t] at e
    rcases h with ⟨_, h⟩ | ⟨j, hj, e2, _⟩
    · have := h s hs (by omega) e.2.1; omega
    · exact zh_m1 hj e2.symm
theorem zk_cn1 {path : Nat → Int32} {q : Int32} {x : Int} {s : Nat} (inj : zk_inj path) (hx : 0 ≤ x) (hs : s < 48) (h : zk_Nx path (fun s => 0 < (path s).toInt) q x (nI s)) :
    zc_cnt (zr_oc path (zk_P q x)) 48 = zc_cnt (zr_oc path (zk_P q (path s).toInt)) 48 + 1 := by
  obtain ⟨a1, a2, a3⟩ := zk_at hs h
  refine zc_upd hs ?_ ?_ (fun j hj hn => ?_)
  · rw [← Bool.not_eq_true, zr_oc_t, zk_P_t]; omega
  · rw [zr_oc_t, zk_P_t]; exact ⟨by omega, a2, a3⟩
  · rw [Bool.eq_iff_iff, zr_oc_t, zr_oc_t, zk_P_t, zk_P_t]
    constructor
    · rintro ⟨b1, b2, b3⟩
      refine ⟨b1, b2, ?_⟩
      rcases Int.lt_or_le (path s).toInt (path j).toInt with z | z
      · exact z
      · exfalso
        have hne : (path s).toInt ≠ (path j).toInt := fun e => hn (inj s j hs hj (by omega) (zb_inj e)).symm
        exact zk_btw hs h hj (by omega : 0 < (path j).toInt) b2 b3 (by omega)
    · rintro ⟨b1, b2, b3⟩
      exact ⟨b1, b2, by omega⟩
end
section
/-! entries of the log done again, path by path -/
abbrev zf_E : Type := Int32 × Int32 × Int32 × Int32 × Int32 × Int32
/-- kind, path, data, owner, version, number -/
def zf_en (k p d o v n : Nat → Int32) (j : Nat) : zf_E := (k j, p j, d j, o j, v j, n j)
def zf_f (e : zf_E) (p : Int32) (x : Option zn_Nd) : Option zn_Nd :=
  if e.2.1 = p then
    (if e.1 = 1 then some (e.2.2.1, 0, 0, e.2.2.2.2.2, e.2.2.2.2.2, e.2.2.2.1)
     else if e.1 = 2 then x.map (fun n => (e.2.2.1, e.2.2.2.2.1, n.2.2.1, n.2.2.2.1, e.2.2.2.2.2, n.2.2.2.2.2))
     else if e.1 = 3 then none else x)
  else if (e.1 = 1 ∨ e.1 = 3) ∧ e.2.1 / 101 = p then x.map (fun n => (n.1, n.2.1, e.2.2.2.2.1, n.2.2.2.1, n.2.2.2.2.1, n.2.2.2.2.2))
  else x
theorem zf_cls (e : zf_E) (p : Int32) : (∃ c : Option zn_Nd, ∀ x, zf_f e p x = c) ∨
    (∃ a b c : Int32, ∀ x, zf_f e p x = x.map (fun n => (a, b, n.2.2.1, n.2.2.2.1, c, n.2.2.2.2.2))) ∨
    (∃ v : Int32, ∀ x, zf_f e p x = x.map (fun n => (n.1, n.2.1, v, n.2.2.2.1, n.2.2.2.2.1, n.2.2.2.2.2))) ∨ (∀ x, zf_f e p x = x) := by
  by_cases h : e.2.1 = p
  · by_cases h1 : e.1 = 1
    · exact Or.inl ⟨_, fun x => by unfold zf_f; rw [if_pos h, if_pos h1]⟩
    · by_cases h2 : e.1 = 2
      · exact Or.inr (Or.inl ⟨_, _, _, fun x => by unfold zf_f; rw [if_pos h, if_neg h1, if_pos h2]⟩)
      · by_cases h3 : e.1 = 3
        · exact Or.inl ⟨none, fun x => by unfold zf_f; rw [if_pos h, if_neg h1, if_neg h2, if_pos h3]⟩
        · exact Or.inr (Or.inr (Or.inr fun x => by unfold zf_f; rw [if_pos h, if_neg h1, if_neg h2, if_neg h3]))
  · by_cases h1 : (e.1 = 1 ∨ e.1 = 3) ∧ e.2.1 / 101 = p
    · exact Or.inr (Or.inr (Or.inl ⟨_, fun x => by unfold zf_f; rw [if_neg h, if_pos h1]⟩))
    · exact Or.inr (Or.inr (Or.inr fun x => by unfold zf_f; rw [if_neg h, if_neg h1]))
theorem zf_idem (e : zf_E) (p : Int32) (x : Option zn_Nd) : zf_f e p (zf_f e p x) = zf_f e p x := by
  rcases zf_cls e p with ⟨c, h⟩ | ⟨a, b, c, h⟩ | ⟨v, h⟩ | h
  · rw [h, h]
  · rw [h, h]; cases x <;> rfl
  · rw [h, h]; cases x <;> rfl
  · rw [h]
theorem zf_cong (e e' : zf_E) (p : Int32) {y z : Option zn_Nd} (hyz : zf_f e p y = zf_f e p z) : zf_f e p (zf_f e' p y) = zf_f e p (zf_f e' p z) := by
  rcases zf_cls e p with ⟨c, h⟩ | ⟨a, b, c, h⟩ | ⟨v, h⟩ | h
  · rw [h, h]
  · rw [h, h] at hyz
    rcases zf_cls e' p with ⟨c', h'⟩ | ⟨a', b', c', h'⟩ | ⟨v', h'⟩ | h'
    · rw [h', h']
    · rw [h', h', h, h]
      cases y <;> cases z <;> simp_all
    · rw [h', h', h, h]
      cases y <;> cases z <;> simp_all
    · rw [h', h', h, h]; exact hyz
  · rw [h, h] at hyz
    rcases zf_cls e' p with ⟨c', h'⟩ | ⟨a', b', c', h'⟩ | ⟨v', h'⟩ | h'
    · rw [h', h']
    · rw [h', h', h, h]
      cases y <;> cases z <;> simp_all
    · rw [h', h', h, h]
      cases y <;> cases z <;> simp_all
    · rw [h', h', h, h]; exact hyz
  · rw [h, h] at hyz; rw [hyz]
theorem zf_mono (e : zf_E) (p : Int32) {x y : Option zn_Nd} (hxy : x.isSome = true → y.isSome = true) : (zf_f e p x).isSome = true → (zf_f e p y).isSome = true := by
  rcases zf_cls e p with ⟨c, h⟩ | ⟨a, b, c, h⟩ | ⟨v, h⟩ | h
  · rw [h, h]; exact id
  · rw [h, h, Option.isSome_map, Option.isSome_map]; exact hxy
  · rw [h, h, Option.isSome_map, Option.isSome_map]; exact hxy
  · rw [h, h]; exact hxy
def zf_F (en : Nat → zf_E) (b : Nat) (p : Int32) (x : Option zn_Nd) : Nat → Option zn_Nd
  | 0 => x
  | n + 1 => zf_f (en (b + n)) p (zf_F en b p x n)
theorem zf_F_cg {en en' : Nat → zf_E} {b b' : Nat} {p : Int32} {x : Option zn_Nd} : ∀ {n : Nat}, (∀ j, j < n → en (b + j) = en' (b' + j)) → zf_F en b p x n = zf_F en' b' p x n
  | 0, _ => rfl
  | n + 1, h => by
    show zf_f _ p _ = zf_f _ p _
    rw [zf_F_cg (n := n) (fun j hj => h j (by omega)), h n (by omega)]
theorem zf_F_mono {en : Nat → zf_E} {b : Nat} {p : Int32} {x y : Option zn_Nd} (hxy : x.isSome = true → y.isSome = true) : ∀ {n : Nat}, (zf_F en b p x n).isSome = true → (zf_F en b p y n).isSome = true
  | 0 => hxy
  | n + 1 => zf_mono _ p (zf_F_mono hxy (n := n))
theorem zf_abs (e : zf_E) (en : Nat → zf_E) (b : Nat) (p : Int32) (x : Option zn_Nd) : ∀ n : Nat, zf_f e p (zf_F en b p (zf_f e p x) n) = zf_f e p (zf_F en b p x n)
  | 0 => zf_idem e p x
  | n + 1 => zf_cong e (en (b + n)) p (zf_abs e en b p x n)
/-- the image -/
def zf_im (ip : Nat → Int32) (nd : Nat → zn_Nd) (b : Nat) (p : Int32) : Nat → Option zn_Nd
  | 0 => none
  | n + 1 => if ip (b + n) = p ∧ 0 ≤ p.toInt then some (nd (b + n)) else zf_im ip nd b p n
theorem zf_im_cg {ip ip' : Nat → Int32} {nd nd' : Nat → zn_Nd} {b : Nat} {p : Int32} : ∀ {n : Nat}, (∀ j, j < n → ip (b + j) = ip' (b + j)) → (∀ j, j < n → nd (b + j) = nd' (b + j)) → zf_im ip nd b p n = zf_im ip' nd' b p n
  | 0, _, _ => rfl
  | n + 1, h, h' => by
    unfold zf_im
    rw [zf_im_cg (n := n) (fun j hj => h j (by omega)) (fun j hj => h' j (by omega)), h n (by omega), h' n (by omega)]
theorem zf_im_some {ip : Nat → Int32} {nd : Nat → zn_Nd} {b : Nat} {p : Int32} : ∀ {n : Nat}, (zf_im ip nd b p n).isSome = true → ∃ j, j < n ∧ ip (b + j) = p
  | 0, h => by exact absurd h (by simp [zf_im])
  | n + 1, h => by
    unfold zf_im at h
    by_cases z : ip (b + n) = p ∧ 0 ≤ p.toInt
    · exact ⟨n, by omega, z.1⟩
    · rw [if_neg z] at h
      obtain ⟨j, hj, e⟩ := zf_im_some (n := n) h
      exact ⟨j, by omega, e⟩
/-- what the log makes from nothing had its slots -/
def zf_D (en : Nat → zf_E) (b n : Nat) : Prop := ∀ j, j ≤ n → ∃ T : Nat → Int32, ∀ p, (zf_F en b p none j).isSome = true → ∃ s, s < 21 ∧ T s = p
/-- sessions: is it there, its timeout -/
def zf_s (e : zf_E) (s : Nat) (x : Int32 × Int32) : Int32 × Int32 :=
  if e.1 = 4 ∧ e.2.2.2.1 = nI s then (1, e.2.2.1) else if e.1 = 5 ∧ e.2.2.2.1 = nI s then (0, x.2) else x
def zf_S (en : Nat → zf_E) (b : Nat) (s : Nat) (x : Int32 × Int32) : Nat → Int32 × Int32
  | 0 => x
  | n + 1 => zf_s (en (b + n)) s (zf_S en b s x n)
theorem zf_S_cg {en en' : Nat → zf_E} {b b' : Nat} {s : Nat} {x : Int32 × Int32} : ∀ {n : Nat}, (∀ j, j < n → en (b + j) = en' (b' + j)) → zf_S en b s x n = zf_S en' b' s x n
  | 0, _ => rfl
  | n + 1, h => by
    show zf_s _ s _ = zf_s _ s _
    rw [zf_S_cg (n := n) (fun j hj => h j (by omega)), h n (by omega)]
def zf_t (t : Int32) : Int32 × Int32 := (if 0 < t.toInt then 1 else 0, t)
/-- the same where it is there -/
def zf_q (x : Int32 × Int32) (o t : Int32) : Prop := x.1 = o ∧ (o = 1 → x.2 = t)
theorem zf_q_s {e : zf_E} {s : Nat} {x : Int32 × Int32} {o t o' t' : Int32} (h : zf_q x o t) (h' : zf_q (zf_s e s (o, t)) o' t') (ho : o = 0 ∨ o = 1) : zf_q (zf_s e s x) o' t' := by
  unfold zf_s at h' ⊢
  by_cases c1 : e.1 = 4 ∧ e.2.2.2.1 = nI s
  · rw [if_pos c1] at h' ⊢; exact h'
  · rw [if_neg c1] at h' ⊢
    by_cases c2 : e.1 = 5 ∧ e.2.2.2.1 = nI s
    · rw [if_pos c2] at h' ⊢
      refine ⟨h'.1, fun z => ?_⟩
      have h3 : (0 : Int32) = o' := h'.1
      rw [z] at h3
      exact absurd h3 (by decide)
    · rw [if_neg c2] at h' ⊢
      refine ⟨h.1.trans h'.1, fun z => ?_⟩
      have h1 := h'.1
      have h2 := h'.2 z
      dsimp only at h1 h2
      rw [← h2]
      exact h.2 (by rw [h1]; exact z)
/-- what the entry leaves alone -/
def zf_q0 (e : zf_E) : Prop := ¬ e.1 = 4 ∧ ¬ e.1 = 5
theorem zf_s_id {e : zf_E} (h : zf_q0 e) (s : Nat) (x : Int32 × Int32) : zf_s e s x = x := by
  unfold zf_s
  rw [if_neg (fun z => h.1 z.1), if_neg (fun z => h.2 z.1)]
/-- an entry that is well made -/
def zf_W (e : zf_E) : Prop := (-1 ≤ e.2.2.2.1.toInt ∧ e.2.2.2.1.toInt ≤ 3) ∧
  (e.1 = 0 ∨ (e.1 = 1 ∧ zp_ok e.2.1 ∧ ¬ e.2.1 = 0 ∧ -1 ≤ e.2.2.2.1.toInt ∧ e.2.2.2.1.toInt ≤ 3) ∨ (e.1 = 2 ∧ zp_ok e.2.1) ∨ (e.1 = 3 ∧ zp_ok e.2.1 ∧ ¬ e.2.1 = 0) ∨
  (e.1 = 4 ∧ (∃ s, s < 4 ∧ e.2.2.2.1 = nI s) ∧ 1 ≤ e.2.2.1.toInt ∧ e.2.2.1.toInt ≤ 20) ∨ (e.1 = 5 ∧ ∃ s, s < 4 ∧ e.2.2.2.1 = nI s))

/-- the complete image and the log give what is -/
def zi_Full (en : Nat → zf_E) (N : Nat) (ip : Nat → Int32) (ind : Nat → zn_Nd) (it : Nat → Int32) (cb : Nat) (C : zn_Mp) (op tm : Nat → Int32) : Prop :=
  (∀ p, zf_F en 0 p (zf_im ip ind cb p 21) N = C p) ∧ zf_D en 0 N ∧
  (∀ s, s < 4 → zf_q (zf_S en 0 s (zf_t (it (4 * (cb / 21) + s))) N) (op s) (tm s))
/-- the snapshot under way: tk places are done, the log's tail begins at b -/
def zi_Part (en : Nat → zf_E) (b n : Nat) (ip : Nat → Int32) (ind : Nat → zn_Nd) (it : Nat → Int32) (ob tk : Nat) (C : zn_Mp) (path op tm : Nat → Int32) : Prop :=
  (∀ p, zf_F en b p (C p) n = C p) ∧
  (∀ p, zf_F en b p (zf_im ip ind ob p (min tk 21)) n = C p ∨ ∃ s, tk ≤ s ∧ s < 21 ∧ path s = p ∧ 0 ≤ p.toInt) ∧ zf_D en b n ∧
  (∀ s, s < 4 → zf_q (zf_S en b s (zf_t (it (4 * (ob / 21) + s))) n) (op s) (tm s))
theorem zf_D_app {en en' : Nat → zf_E} {b n : Nat} {C' : zn_Mp} {path' : Nat → Int32} {x : zn_Mp} (h : zf_D en b n) (he : ∀ j, j < b + n → en' j = en j)
    (hF : ∀ p, zf_F en' b p (x p) (n + 1) = C' p) (hC : ∀ p y, C' p = some y → ∃ s, s < 21 ∧ path' s = p) : zf_D en' b (n + 1) := by
  intro j hj
  by_cases z : j = n + 1
  · subst z
    refine ⟨path', fun p hp => ?_⟩
    have := zf_F_mono (x := none) (y := x p) (en := en') (b := b) (p := p) (n := n + 1) (fun h => by simp at h) hp
    rw [hF p] at this
    obtain ⟨y, hy⟩ := Option.isSome_iff_exists.mp this
    exact hC p y hy
  · obtain ⟨T, hT⟩ := h j (by omega)
    refine ⟨T, fun p hp => hT p ?_⟩
    rw [zf_F_cg (en := en) (en' := en') (b := b) (b' := b) (n := j) (fun i hi => (he _ (by omega)).symm)]
    exact hp
theorem zi_Full_app {en en' : Nat → zf_E} {N : Nat} {ip : Nat → Int32} {ind : Nat → zn_Nd} {it : Nat → Int32} {cb : Nat} {C C' : zn_Mp} {op tm op' tm' path' : Nat → Int32} {e : zf_E}
    (h : zi_Full en N ip ind it cb C op tm) (he : ∀ j, j < N → en' j = en j) (eN : en' N = e) (hC : ∀ p, C' p = zf_f e p (C p)) (hP : ∀ p y, C' p = some y → ∃ s, s < 21 ∧ path' s = p)
    (h01 : ∀ s, s < 4 → op s = 0 ∨ op s = 1) (hs : ∀ s, s < 4 → zf_q (zf_s e s (op s, tm s)) (op' s) (tm' s)) : zi_Full en' (N + 1) ip ind it cb C' op' tm' := by
  have e2 : ∀ p x, zf_F en' 0 p x (N + 1) = zf_f e p (zf_F en 0 p x N) := fun p x => by
    show zf_f (en' (0 + N)) p _ = _
    rw [Nat.zero_add, eN, zf_F_cg (en := en') (en' := en) (b := 0) (b' := 0) (n := N) (fun j hj => by rw [Nat.zero_add]; exact he j hj)]
  have hF : ∀ p, zf_F en' 0 p (zf_im ip ind cb p 21) (N + 1) = C' p := fun p => by rw [e2, h.1 p, hC p]
  refine ⟨hF, zf_D_app h.2.1 (fun j hj => he j (by omega)) hF hP, fun s hs4 => ?_⟩
  show zf_q (zf_s (en' (0 + N)) s _) _ _
  rw [Nat.zero_add, eN, zf_S_cg (en := en') (en' := en) (b := 0) (b' := 0) (n := N) (fun j hj => by rw [Nat.zero_add]; exact he j hj)]
  exact zf_q_s (h.2.2 s hs4) (hs s hs4) (h01 s hs4)
theorem zi_Part_app {en en' : Nat → zf_E} {b n : Nat} {ip : Nat → Int32} {ind : Nat → zn_Nd} {it : Nat → Int32} {ob tk : Nat} {C C' : zn_Mp} {path op tm path' op' tm' : Nat → Int32} {e : zf_E}
    (h : zi_Part en b n ip ind it ob tk C path op tm) (he : ∀ j, j < b + n → en' j = en j) (eN : en' (b + n) = e) (hC : ∀ p, C' p = zf_f e p (C p)) (hP : ∀ p y, C' p = some y → ∃ s, s < 21 ∧ path' s = p)
    (hst : ∀ s, s < 21 → 0 ≤ (path s).toInt → path' s = path s ∨ (e.1 = 3 ∧ e.2.1 = path s))
    (h01 : ∀ s, s < 4 → op s = 0 ∨ op s = 1) (hs : ∀ s, s < 4 → zf_q (zf_s e s (op s, tm s)) (op' s) (tm' s)) : zi_Part en' b (n + 1) ip ind it ob tk C' path' op' tm' := by
  have e2 : ∀ p x, zf_F en' b p x (n + 1) = zf_f e p (zf_F en b p x n) := fun p x => by
    show zf_f (en' (b + n)) p _ = _
    rw [eN, zf_F_cg (en := en') (en' := en) (b := b) (b' := b) (n := n) (fun j hj => he _ (by omega))]
  have hA : ∀ p, zf_F en' b p (C' p) (n + 1) = C' p := fun p => by
    rw [e2, hC p, zf_abs, h.1 p]
  refine ⟨hA, fun p => ?_, zf_D_app h.2.2.1 he hA hP, fun s hs4 => ?_⟩
  · rw [e2]
    rcases h.2.1 p with z | ⟨s, h1, h2, h3, h4⟩
    · left; rw [z, hC p]
    · rcases hst s h2 (by rw [h3]; exact h4) with w | ⟨w1, w2⟩
      · exact Or.inr ⟨s, h1, h2, by rw [w, h3], h4⟩
      · left
        have hc : ∀ x, zf_f e p x = none := fun x => by
          unfold zf_f
          rw [if_pos (w2.trans h3), w1]
          rfl
        rw [hC p, hc, hc]
  · show zf_q (zf_s (en' (b + n)) s _) _ _
    rw [eN, zf_S_cg (en := en') (en' := en) (b := b) (b' := b) (n := n) (fun j hj => he _ (by omega))]
    exact zf_q_s (h.2.2.2 s hs4) (hs s hs4) (h01 s hs4)
/-- nothing of the log is changed -/
theorem zi_Full_cg {en en' : Nat → zf_E} {N : Nat} {ip ip' : Nat → Int32} {ind ind' : Nat → zn_Nd} {it it' : Nat → Int32} {cb : Nat} {C C' : zn_Mp} {op tm op' tm' : Nat → Int32}
    (h : zi_Full en N ip ind it cb C op tm) (he : ∀ j, j < N → en' j = en j) (hip : ∀ j, j < 21 → ip' (cb + j) = ip (cb + j)) (hnd : ∀ j, j < 21 → ind' (cb + j) = ind (cb + j)) (hit : ∀ s, s < 4 → it' (4 * (cb / 21) + s) = it (4 * (cb / 21) + s))
    (hC : ∀ p, C' p = C p) (hop : ∀ s, s < 4 → op' s = op s) (htm : ∀ s, s < 4 → op s = 1 → tm' s = tm s) : zi_Full en' N ip' ind' it' cb C' op' tm' := by
  have e1 : ∀ p x n, n ≤ N → zf_F en' 0 p x n = zf_F en 0 p x n := fun p x n hn => zf_F_cg (fun j hj => by rw [Nat.zero_add]; exact he j (by omega))
  refine ⟨fun p => ?_, fun j hj => ?_, fun s hs => ?_⟩
  · rw [e1 _ _ _ (Nat.le_refl N), hC, zf_im_cg (ip' := ip) (nd' := ind) (fun j hj => hip j hj) (fun j hj => hnd j hj)]
    exact h.1 p
  · obtain ⟨T, hT⟩ := h.2.1 j hj
    exact ⟨T, fun p hp => hT p (by rw [← e1 _ _ _ hj]; exact hp)⟩
  · rw [hit s hs, hop s hs, zf_S_cg (en := en') (en' := en) (b := 0) (b' := 0) (n := N) (fun j hj => by rw [Nat.zero_add]; exact he j hj)]
    have := h.2.2 s hs
    exact ⟨this.1, fun z => by rw [htm s hs z]; exact this.2 z⟩
theorem zi_Part_cg {en en' : Nat → zf_E} {b n : Nat} {ip ip' : Nat → Int32} {ind ind' : Nat → zn_Nd} {it it' : Nat → Int32} {ob tk : Nat} {C C' : zn_Mp} {path op tm path' op' tm' : Nat → Int32}
    (h : zi_Part en b n ip ind it ob tk C path op tm) (he : ∀ j, j < b + n → en' j = en j) (hip : ∀ j, j < 21 → ip' (ob + j) = ip (ob + j)) (hnd : ∀ j, j < 21 → ind' (ob + j) = ind (ob + j)) (hit : ∀ s, s < 4 → it' (4 * (ob / 21) + s) = it (4 * (ob / 21) + s))
    (hC : ∀ p, C' p = C p) (hpa : ∀ s, s < 21 → path' s = path s) (hop : ∀ s, s < 4 → op' s = op s) (htm : ∀ s, s < 4 → op s = 1 → tm' s = tm s) : zi_Part en' b n ip' ind' it' ob tk C' path' op' tm' := by
  have e1 : ∀ p x j, j ≤ n → zf_F en' b p x j = zf_F en b p x j := fun p x j hn => zf_F_cg (fun i hi => he _ (by omega))
  refine ⟨fun p => ?_, fun p => ?_, fun j hj => ?_, fun s hs => ?_⟩
  · rw [e1 _ _ _ (Nat.le_refl n), hC]; exact h.1 p
  · rw [e1 _ _ _ (Nat.le_refl n), hC, zf_im_cg (ip' := ip) (nd' := ind) (fun j hj => hip j (by omega)) (fun j hj => hnd j (by omega))]
    rcases h.2.1 p with z | ⟨s, h1, h2, h3, h4⟩
    · exact Or.inl z
    · exact Or.inr ⟨s, h1, h2, by rw [hpa s h2, h3], h4⟩
  · obtain ⟨T, hT⟩ := h.2.2.1 j hj
    exact ⟨T, fun p hp => hT p (by rw [← e1 _ _ _ hj]; exact hp)⟩
  · rw [hit s hs, hop s hs, zf_S_cg (en := en') (en' := en) (b := b) (b' := b) (n := n) (fun j hj => he _ (by omega))]
    have := h.2.2.2 s hs
    exact ⟨this.1, fun z => by rw [htm s hs z]; exact this.2 z⟩
/-- a snapshot begins -/
theorem zi_Part_0 {en : Nat → zf_E} {b : Nat} {ip : Nat → Int32} {ind nd : Nat → zn_Nd} {it : Nat → Int32} {ob N : Nat} {C : zn_Mp} {path op tm : Nat → Int32} (R : zr_Rep 21 path nd C)
    (h01 : ∀ s, s < 4 → op s = 0 ∨ op s = 1) (htm : ∀ s, s < 4 → op s = 1 → 0 < (tm s).toInt) (hit : ∀ s, s < 4 → it (4 * (ob / 21) + s) = if op s = 0 then 0 else tm s) : zi_Part en b 0 ip ind it ob 0 C path op tm := by
  refine ⟨fun p => rfl, fun p => ?_, fun j hj => ?_, fun s hs => ?_⟩
  · cases e : C p with
    | none => exact Or.inl rfl
    | some x =>
      obtain ⟨s, hs, e1, _, h0⟩ := zr_get R e
      exact Or.inr ⟨s, by omega, hs, e1, by rw [← e1]; exact h0⟩
  · have : j = 0 := by omega
    subst this
    exact ⟨fun _ => 0, fun p hp => by exact absurd hp (by simp [zf_F])⟩
  · show zf_q (zf_t _) _ _
    rw [hit s hs]
    rcases h01 s hs with z | z
    · rw [z]
      exact ⟨rfl, fun w => absurd w (by decide)⟩
    · rw [z, if_neg (by decide)]
      refine ⟨?_, fun _ => rfl⟩
      show (if 0 < (tm s).toInt then (1 : Int32) else 0) = 1
      rw [if_pos (htm s hs z)]
/-- one more place is done -/
theorem zi_Part_put {en : Nat → zf_E} {b n : Nat} {ip ip' : Nat → Int32} {ind ind' nd : Nat → zn_Nd} {it : Nat → Int32} {ob tk : Nat} {C : zn_Mp} {path op tm : Nat → Int32} (R : zr_Rep 21 path nd C)
    (h : zi_Part en b n ip ind it ob tk C path op tm) (htk : tk < 21) (h1 : ip' (ob + tk) = path tk) (h2 : 0 ≤ (path tk).toInt → ind' (ob + tk) = nd tk) (h3 : ∀ j, j < tk → ip' (ob + j) = ip (ob + j)) (h4 : ∀ j, j < tk → ind' (ob + j) = ind (ob + j)) :
    zi_Part en b n ip' ind' it ob (tk + 1) C path op tm := by
  refine ⟨h.1, fun p => ?_, h.2.2.1, h.2.2.2⟩
  have e0 : min (tk + 1) 21 = tk + 1 := by omega
  rw [e0]
  unfold zf_im
  by_cases z : path tk = p ∧ 0 ≤ p.toInt
  · left
    have h0 : 0 ≤ (path tk).toInt := by rw [z.1]; exact z.2
    rw [h1, if_pos z, h2 h0]
    have := R.1 tk htk h0
    rw [z.1] at this
    rw [← this]
    exact h.1 p
  · rw [h1, if_neg z, zf_im_cg (ip' := ip) (nd' := ind) (fun j hj => h3 j hj) (fun j hj => h4 j hj)]
    have e1 : min tk 21 = tk := by omega
    have := h.2.1 p
    rw [e1] at this
    rcases this with w | ⟨s, a1, a2, a3, a4⟩
    · exact Or.inl w
    · refine Or.inr ⟨s, ?_, a2, a3, a4⟩
      have : s ≠ tk := fun w => z (by rw [← w]; exact ⟨a3, a4⟩)
      omega
theorem zi_Part_more {en : Nat → zf_E} {b n : Nat} {ip : Nat → Int32} {ind : Nat → zn_Nd} {it : Nat → Int32} {ob tk : Nat} {C : zn_Mp} {path op tm : Nat → Int32}
    (h : zi_Part en b n ip ind it ob tk C path op tm) (htk : 21 ≤ tk) : zi_Part en b n ip ind it ob (tk + 1) C path op tm := by
  refine ⟨h.1, fun p => ?_, h.2.2.1, h.2.2.2⟩
  have := h.2.1 p
  rw [show min tk 21 = 21 by omega] at this
  rw [show min (tk + 1) 21 = 21 by omega]
  rcases this with w | ⟨s, a1, a2, _⟩
  · exact Or.inl w
  · omega
/-- the snapshot is complete, the log is cut -/
theorem zi_Part_end {en en' : Nat → zf_E} {b n : Nat} {ip : Nat → Int32} {ind : Nat → zn_Nd} {it : Nat → Int32} {ob tk : Nat} {C : zn_Mp} {path op tm : Nat → Int32}
    (h : zi_Part en b n ip ind it ob tk C path op tm) (htk : 21 ≤ tk) (he : ∀ j, j < n → en' j = en (b + j)) : zi_Full en' n ip ind it ob C op tm := by
  have e1 : ∀ p x j, j ≤ n → zf_F en' 0 p x j = zf_F en b p x j := fun p x j hn => zf_F_cg (fun i hi => by rw [Nat.zero_add]; exact he _ (by omega))
  refine ⟨fun p => ?_, fun j hj => ?_, fun s hs => ?_⟩
  · rw [e1 _ _ _ (Nat.le_refl n)]
    have := h.2.1 p
    rw [show min tk 21 = 21 by omega] at this
    rcases this with w | ⟨s, a1, a2, _⟩
    · exact w
    · omega
  · obtain ⟨T, hT⟩ := h.2.2.1 j hj
    exact ⟨T, fun p hp => hT p (by rw [← e1 _ _ _ hj]; exact hp)⟩
  · rw [zf_S_cg (en := en') (en' := en) (b := 0) (b' := b) (n := n) (fun j hj => by rw [Nat.zero_add]; exact he _ (by omega))]
    exact h.2.2.2 s hs
end
section
/-! the component's slots: find, place, release, freeSlot -/
theorem zz_st {N k : Nat} {i v v' : Int32} {a : Nat → Int32} {P : (Nat → Int32) → Prop} (hi : i = nI k) (hk : k < N) (hN : N < 2 ^ 31) (hv : v = v') (h : P (upd a k v')) : vp_in i N ∧ ∀ y : Nat → Int32, y = upd a i.toNatClampNeg v → P y := by
  subst hi hv
  refine ⟨vp_in_nI hk hN, fun y e => ?_⟩
  rw [nI_clamp (by omega)] at e
  rw [e]; exact h
theorem zz_in {N k : Nat} {i : Int32} {Q : Prop} (hi : i = nI k) (hk : k < N) (hN : N < 2 ^ 31) (h : Q) : vp_in i N ∧ Q := by
  subst hi
  exact ⟨vp_in_nI hk hN, h⟩
def zx_H (f_nodes : Int32) (a_path a_data a_version a_childVersion a_created a_setAt a_owner a_bucket : Nat → Int32) (C : zn_Mp) : Prop :=
  zh_T (fun s => 0 ≤ (a_path s).toInt) (fun s => zh_h (a_path s)) a_bucket ∧ zr_Rep 48 a_path (zn_nd a_data a_version a_childVersion a_created a_setAt a_owner) C ∧ f_nodes = nI (zr_n a_path 48) ∧ (∀ s, s < 48 → (a_path s).toInt < 0 → a_path s = -1)
section
variable {f_nodes f_time f_latest f_entries f_logged f_complete f_taken f_sinceEntry f_sinceCount f_parts f_wrongPart f_watches : Int32} {a_path a_data a_version a_childVersion a_created a_setAt a_owner a_firstChild a_sibling a_bucket a_open a_timeout a_deadline a_eKind a_ePath a_eData a_eOwner a_eVersion a_eNumber a_iPath a_iData a_iVersion a_iChildVersion a_iCreated a_iSet a_iOwner a_iTimeout a_iLatest a_pKind a_pPath a_pA a_pB a_uEntry a_uSlot a_uData a_uVersion a_uSet a_uChildVersion a_uCreated a_uOwner a_wSession a_wKind a_wPath a_queue a_queued : Nat → Int32}
theorem zx_hash {post : Int32 → Prop} {p : Int32} (h : post (nI (zh_h p))) : wpX_hash post p := by
  unfold wpX_hash
  rw [zh_eq]
  exact h
theorem zx_find_lp {post : Int32 → Prop} {p : Int32} (T : zh_T (fun s => 0 ≤ (a_path s).toInt) (fun s => zh_h (a_path s)) a_bucket)
    (h0 : (∀ s, s < 48 → 0 ≤ (a_path s).toInt → ¬ a_path s = p) → post (-1)) (h1 : ∀ s, s < 48 → a_path s = p → 0 ≤ (a_path s).toInt → post (nI s)) :
    ∀ d i, i + d < 128 → a_bucket ((zh_h p + (i + d)) % 128) = -1 → (∀ j, j < i → ∃ s, s < 48 ∧ a_bucket ((zh_h p + j) % 128) = nI s ∧ ¬ a_path s = p) → wX_find_5 post p f_nodes f_time f_latest f_entries f_logged f_complete f_taken f_sinceEntry f_sinceCount f_parts f_wrongPart f_watches a_path a_data a_version a_childVersion a_created a_setAt a_owner a_firstChild a_sibling a_bucket a_open a_timeout a_deadline a_eKind a_ePath a_eData a_eOwner a_eVersion a_eNumber a_iPath a_iData a_iVersion a_iChildVersion a_iCreated a_iSet a_iOwner a_iTimeout a_iLatest a_pKind a_pPath a_pA a_pB a_uEntry a_uSlot a_uData a_uVersion a_uSet a_uChildVersion a_uCreated a_uOwner a_wSession a_wKind a_wPath a_queue a_queued (d + 1) (nI ((zh_h p + i) % 128)) := by
  intro d
  induction d with
  | zero =>
    intro i hi he hj
    have hk : (zh_h p + i) % 128 < 128 := Nat.mod_lt _ (by decide)
    have hc := nI_clamp (n := (zh_h p + i) % 128) (by omega)
    refine And.intro (vp_in_nI hk (by decide)) (br_t (by rw [hc]; rw [Nat.add_zero] at he; rw [he]; decide) ?_)
    refine h0 fun s hs hs0 e => ?_
    obtain ⟨k, hk2, ek, hr⟩ := T.2.1 s hs hs0
    dsimp only at hr
    rw [e] at hr
    have hl := zh_lt p
    rcases Nat.lt_or_ge (zh_d (zh_h p) k) i with z | z
    · obtain ⟨s', hs', e1, e2⟩ := hj _ z
      rw [show (zh_h p + zh_d (zh_h p) k) % 128 = k from by unfold zh_d; omega, ek] at e1
      rw [← zh_inj hs hs' e1] at e2
      exact e2 e
    · rcases Nat.lt_or_ge i (zh_d (zh_h p) k) with z2 | z2
      · exact hr i z2 he
      · have : zh_d (zh_h p) k = i := by omega
        rw [Nat.add_zero, ← this, show (zh_h p + zh_d (zh_h p) k) % 128 = k from by unfold zh_d; omega, ek] at he
        exact zh_m1 hs he
  | succ d ih =>
    intro i hi he hj
    have hk : (zh_h p + i) % 128 < 128 := Nat.mod_lt _ (by decide)
    have hc := nI_clamp (n := (zh_h p + i) % 128) (by omega)
    rcases T.1 _ hk with e | ⟨s, hs, e, ho⟩
    · refine And.intro (vp_in_nI hk (by decide)) (br_t (by rw [hc, e]; decide) ?_)
      refine h0 fun s hs hs0 ep => ?_
      obtain ⟨k, hk2, ek, hr⟩ := T.2.1 s hs hs0
      dsimp only at hr
      rw [ep] at hr
      have hl := zh_lt p
      rcases Nat.lt_or_ge (zh_d (zh_h p) k) i with z | z
      · obtain ⟨s', hs', e1, e2⟩ := hj _ z
        rw [show (zh_h p + zh_d (zh_h p) k) % 128 = k from by unfold zh_d; omega, ek] at e1
        rw [← zh_inj hs hs' e1] at e2
        exact e2 ep
      · rcases Nat.lt_or_ge i (zh_d (zh_h p) k) with z2 | z2
        · exact hr i z2 e
        · have : zh_d (zh_h p) k = i := by omega
          rw [← this, show (zh_h p + zh_d (zh_h p) k) % 128 = k from by unfold zh_d; omega, ek] at e
          exact zh_m1 hs e
    · have hcs := nI_clamp (n := s) (by omega)
      refine And.intro (vp_in_nI hk (by decide)) (br_f (by rw [hc, e]; exact nI_pos (by omega)) (And.intro (vp_in_nI hk (by decide)) (And.intro (by rw [hc, e]; exact vp_in_nI hs (by decide)) ?_)))
      by_cases ep : a_path s = p
      · exact br_t (by rw [hc, e, hcs]; exact ep) (And.intro (vp_in_nI hk (by decide)) (by rw [hc, e]; exact h1 s hs ep ho))
      · refine br_f (by rw [hc, e, hcs]; exact ep) (nm_r (e' := nI ((zh_h p + (i + 1)) % 128)) ?_ ?_)
        · rw [zh_and hk]; exact congrArg nI (by omega)
        · refine ih (i + 1) (by omega) (by rw [show i + 1 + d = i + (d + 1) from by omega]; exact he) (fun j hj2 => ?_)
          by_cases z : j = i
          · rw [z]; exact ⟨s, hs, e, ep⟩
          · exact hj j (by omega)
theorem zx_find {post : Int32 → Prop} {p : Int32} {C : zn_Mp} (H : zx_H f_nodes a_path a_data a_version a_childVersion a_created a_setAt a_owner a_bucket C)
    (h0 : C p = none → post (-1)) (h1 : ∀ s, s < 48 → a_path s = p → 0 ≤ (a_path s).toInt → C p = some (zn_nd a_data a_version a_childVersion a_created a_setAt a_owner s) → post (nI s)) : wpX_find post (f_nodes, f_time, f_latest, f_entries, f_logged, f_complete, f_taken, f_sinceEntry, f_sinceCount, f_parts, f_wrongPart, f_watches, a_path, a_data, a_version, a_childVersion, a_created, a_setAt, a_owner, a_firstChild, a_sibling, a_bucket, a_open, a_timeout, a_deadline, a_eKind, a_ePath, a_eData, a_eOwner, a_eVersion, a_eNumber, a_iPath, a_iData, a_iVersion, a_iChildVersion, a_iCreated, a_iSet, a_iOwner, a_iTimeout, a_iLatest, a_pKind, a_pPath, a_pA, a_pB, a_uEntry, a_uSlot, a_uData, a_uVersion, a_uSet, a_uChildVersion, a_uCreated, a_uOwner, a_wSession, a_wKind, a_wPath, a_queue, a_queued) p := by
  obtain ⟨k, hk, e⟩ := zh_empty H.1
  have hl := zh_lt p
  unfold wpX_find
  refine zx_hash ?_
  refine Exists.intro (zh_d (zh_h p) k + 1) ?_
  have e0 : nI (zh_h p) = nI ((zh_h p + 0) % 128) := congrArg nI (by omega)
  rw [e0]
  exact zx_find_lp H.1 (fun h => h0 (zr_absent H.2.1 h)) (fun s hs ep ho => h1 s hs ep ho (by rw [← ep]; exact H.2.1.1 s hs ho))
    (zh_d (zh_h p) k) 0 (by have := zh_d_lt (zh_h p) k; omega) (by rw [Nat.zero_add, show (zh_h p + zh_d (zh_h p) k) % 128 = k from by unfold zh_d; omega, e]) (fun j hj => by omega)
theorem zx_place_lp {post : SX → Prop} {s : Nat} {p : Int32} (hs : s < 48) (T : zh_T (fun s => 0 ≤ (a_path s).toInt) (fun s => zh_h (a_path s)) a_bucket) (h0 : (a_path s).toInt < 0) (hp : 0 ≤ p.toInt)
    (h : ∀ a_bucket1 : Nat → Int32, zh_T (fun j => 0 ≤ (upd a_path s p j).toInt) (fun j => zh_h (upd a_path s p j)) a_bucket1 →
      post (f_nodes + 1, f_time, f_latest, f_entries, f_logged, f_complete, f_taken, f_sinceEntry, f_sinceCount, f_parts, f_wrongPart, f_watches, upd a_path s p, upd a_data s 0, upd a_version s 0, upd a_childVersion s 0, a_created, a_setAt, a_owner, upd a_firstChild s (-1), upd a_sibling s (-1), a_bucket1, a_open, a_timeout, a_deadline, a_eKind, a_ePath, a_eData, a_eOwner, a_eVersion, a_eNumber, a_iPath, a_iData, a_iVersion, a_iChildVersion, a_iCreated, a_iSet, a_iOwner, a_iTimeout, a_iLatest, a_pKind, a_pPath, a_pA, a_pB, a_uEntry, a_uSlot, a_uData, a_uVersion, a_uSet, a_uChildVersion, a_uCreated, a_uOwner, a_wSession, a_wKind, a_wPath, a_queue, a_queued)) :
    ∀ d i, i + d < 128 → a_bucket ((zh_h p + (i + d)) % 128) = -1 → (∀ j, j < i → ¬ a_bucket ((zh_h p + j) % 128) = -1) → wX_place_5 post (nI s) p f_nodes f_time f_latest f_entries f_logged f_complete f_taken f_sinceEntry f_sinceCount f_parts f_wrongPart f_watches a_path a_data a_version a_childVersion a_created a_setAt a_owner a_firstChild a_sibling a_bucket a_open a_timeout a_deadline a_eKind a_ePath a_eData a_eOwner a_eVersion a_eNumber a_iPath a_iData a_iVersion a_iChildVersion a_iCreated a_iSet a_iOwner a_iTimeout a_iLatest a_pKind a_pPath a_pA a_pB a_uEntry a_uSlot a_uData a_uVersion a_uSet a_uChildVersion a_uCreated a_uOwner a_wSession a_wKind a_wPath a_queue a_queued (d + 1) (nI ((zh_h p + i) % 128)) := by
  have fin : ∀ i, i < 128 → a_bucket ((zh_h p + i) % 128) = -1 → (∀ j, j < i → ¬ a_bucket ((zh_h p + j) % 128) = -1) →
      zh_T (fun j => 0 ≤ (upd a_path s p j).toInt) (fun j => zh_h (upd a_path s p j)) (upd a_bucket ((zh_h p + i) % 128) (nI s)) := fun i hi he hj => by
    have ew : zh_h (upd a_path s p s) = zh_h p := by rw [pk_us]
    have := zh_put T (O' := fun j => 0 ≤ (upd a_path s p j).toInt) (w' := fun j => zh_h (upd a_path s p j)) (s := s) (i := i) hs (by show ¬ 0 ≤ (a_path s).toInt; omega)
      (fun j hj => by
        by_cases z : j = s
        · subst z; show 0 ≤ (upd a_path j p j).toInt ↔ _; rw [pk_us]; exact ⟨fun _ => Or.inl rfl, fun _ => hp⟩
        · show 0 ≤ (upd a_path s p j).toInt ↔ _; rw [pk_un z]; exact ⟨fun h => Or.inr h, fun h => h.resolve_left z⟩)
      (fun j hj ho => by
        have z : j ≠ s := fun z => by rw [z] at ho; have : 0 ≤ (a_path s).toInt := ho; omega
        show zh_h (upd a_path s p j) = _; rw [pk_un z])
      (by rw [ew]; exact zh_lt p) hi (by rw [ew]; exact he) (fun j hj2 => by rw [ew]; exact hj j hj2)
    rw [ew] at this
    exact this
  intro d
  induction d with
  | zero =>
    intro i hi he hj
    have hk : (zh_h p + i) % 128 < 128 := Nat.mod_lt _ (by decide)
    have hc := nI_clamp (n := (zh_h p + i) % 128) (by omega)
    rw [Nat.add_zero] at he
    refine And.intro (vp_in_nI hk (by decide)) (br_t (by rw [hc, he]; decide) ?_)
    refine zz_st rfl hk (by decide) (zb_narN2 (by omega)) ?_
    refine zz_st rfl hs (by decide) rfl ?_
    refine zz_st rfl hs (by decide) zb_narM ?_
    refine zz_st rfl hs (by decide) zb_narM ?_
    refine zz_st rfl hs (by decide) rfl ?_
    refine zz_st rfl hs (by decide) rfl ?_
    refine zz_st rfl hs (by decide) rfl ?_
    exact nm_e (h _ (fin i (by omega) he hj))
  | succ d ih =>
    intro i hi he hj
    have hk : (zh_h p + i) % 128 < 128 := Nat.mod_lt _ (by decide)
    have hc := nI_clamp (n := (zh_h p + i) % 128) (by omega)
    by_cases e : a_bucket ((zh_h p + i) % 128) = -1
    · refine And.intro (vp_in_nI hk (by decide)) (br_t (by rw [hc, e]; decide) ?_)
      refine zz_st rfl hk (by decide) (zb_narN2 (by omega)) ?_
      refine zz_st rfl hs (by decide) rfl ?_
      refine zz_st rfl hs (by decide) zb_narM ?_
      refine zz_st rfl hs (by decide) zb_narM ?_
      refine zz_st rfl hs (by decide) rfl ?_
      refine zz_st rfl hs (by decide) rfl ?_
      refine zz_st rfl hs (by decide) rfl ?_
      exact nm_e (h _ (fin i (by omega) e hj))
    · refine And.intro (vp_in_nI hk (by decide)) (br_f (by rw [hc, zh_neg T hk]; exact e) (nm_r (e' := nI ((zh_h p + (i + 1)) % 128)) ?_ ?_))
      · rw [zh_and hk]; exact congrArg nI (by omega)
      · refine ih (i + 1) (by omega) (by rw [show i + 1 + d = i + (d + 1) from by omega]; exact he) (fun j hj2 => ?_)
        by_cases z : j = i
        · rw [z]; exact e
        · exact hj j (by omega)
theorem zx_place {post : SX → Prop} {C : zn_Mp} {s : Nat} {p : Int32} (H : zx_H f_nodes a_path a_data a_version a_childVersion a_created a_setAt a_owner a_bucket C) (hs : s < 48) (h0 : (a_path s).toInt < 0) (hp : 0 ≤ p.toInt) (hC : C p = none)
    (h : ∀ a_bucket1 : Nat → Int32, zx_H (f_nodes + 1) (upd a_path s p) (upd a_data s 0) (upd a_version s 0) (upd a_childVersion s 0) a_created a_setAt a_owner a_bucket1 (zr_set C p (some (0, 0, 0, a_created s, a_setAt s, a_owner s))) →
      post (f_nodes + 1, f_time, f_latest, f_entries, f_logged, f_complete, f_taken, f_sinceEntry, f_sinceCount, f_parts, f_wrongPart, f_watches, upd a_path s p, upd a_data s 0, upd a_version s 0, upd a_childVersion s 0, a_created, a_setAt, a_owner, upd a_firstChild s (-1), upd a_sibling s (-1), a_bucket1, a_open, a_timeout, a_deadline, a_eKind, a_ePath, a_eData, a_eOwner, a_eVersion, a_eNumber, a_iPath, a_iData, a_iVersion, a_iChildVersion, a_iCreated, a_iSet, a_iOwner, a_iTimeout, a_iLatest, a_pKind, a_pPath, a_pA, a_pB, a_uEntry, a_uSlot, a_uData, a_uVersion, a_uSet, a_uChildVersion, a_uCreated, a_uOwner, a_wSession, a_wKind, a_wPath, a_queue, a_queued)) :
    wpX_place post (f_nodes, f_time, f_latest, f_entries, f_logged, f_complete, f_taken, f_sinceEntry, f_sinceCount, f_parts, f_wrongPart, f_watches, a_path, a_data, a_version, a_childVersion, a_created, a_setAt, a_owner, a_firstChild, a_sibling, a_bucket, a_open, a_timeout, a_deadline, a_eKind, a_ePath, a_eData, a_eOwner, a_eVersion, a_eNumber, a_iPath, a_iData, a_iVersion, a_iChildVersion, a_iCreated, a_iSet, a_iOwner, a_iTimeout, a_iLatest, a_pKind, a_pPath, a_pA, a_pB, a_uEntry, a_uSlot, a_uData, a_uVersion, a_uSet, a_uChildVersion, a_uCreated, a_uOwner, a_wSession, a_wKind, a_wPath, a_queue, a_queued) (nI s) p := by
  obtain ⟨k, hk, e⟩ := zh_empty H.1
  have hl := zh_lt p
  unfold wpX_place
  refine zx_hash ?_
  refine Exists.intro (zh_d (zh_h p) k + 1) ?_
  have e0 : nI (zh_h p) = nI ((zh_h p + 0) % 128) := congrArg nI (by omega)
  rw [e0]
  refine zx_place_lp hs H.1 h0 hp (fun bk T => h bk ⟨T, ?_, ?_, ?_⟩)
    (zh_d (zh_h p) k) 0 (by have := zh_d_lt (zh_h p) k; omega) (by rw [Nat.zero_add, show (zh_h p + zh_d (zh_h p) k) % 128 = k from by unfold zh_d; omega, e]) (fun j hj => by omega)
  · have := zr_ins (path' := upd a_path s p) (nd' := zn_nd (upd a_data s 0) (upd a_version s 0) (upd a_childVersion s 0) a_created a_setAt a_owner) H.2.1 hs h0 hp hC pk_us (fun j _ hn => pk_un hn)
      (fun j _ hn _ => by unfold zn_nd; rw [pk_un hn, pk_un hn, pk_un hn])
    have e2 : zn_nd (upd a_data s 0) (upd a_version s 0) (upd a_childVersion s 0) a_created a_setAt a_owner s = (0, 0, 0, a_created s, a_setAt s, a_owner s) := by
      unfold zn_nd; rw [pk_us, pk_us, pk_us]
    rw [e2] at this
    exact this
  · rw [zr_n_ins (path := a_path) (path' := upd a_path s p) hs h0 (by rw [pk_us]; exact hp) (fun j _ hn => pk_un hn), H.2.2.1, nI_1]
  · intro j hj hn
    by_cases z : j = s
    · rw [z, pk_us] at hn; omega
    · rw [pk_un z] at hn ⊢; exact H.2.2.2 j hj hn
theorem zx_rel_lp {post : SX → Prop} (h : ∀ a_bucket1 : Nat → Int32, zh_T (fun s => 0 ≤ (a_path s).toInt) (fun s => zh_h (a_path s)) a_bucket1 → post (f_nodes, f_time, f_latest, f_entries, f_logged, f_complete, f_taken, f_sinceEntry, f_sinceCount, f_parts, f_wrongPart, f_watches, a_path, a_data, a_version, a_childVersion, a_created, a_setAt, a_owner, a_firstChild, a_sibling, a_bucket1, a_open, a_timeout, a_deadline, a_eKind, a_ePath, a_eData, a_eOwner, a_eVersion, a_eNumber, a_iPath, a_iData, a_iVersion, a_iChildVersion, a_iCreated, a_iSet, a_iOwner, a_iTimeout, a_iLatest, a_pKind, a_pPath, a_pA, a_pB, a_uEntry, a_uSlot, a_uData, a_uVersion, a_uSet, a_uChildVersion, a_uCreated, a_uOwner, a_wSession, a_wKind, a_wPath, a_queue, a_queued)) :
    ∀ r hole d (bk : Nat → Int32), zh_R (fun s => 0 ≤ (a_path s).toInt) (fun s => zh_h (a_path s)) bk hole d → d + r < 128 → bk ((hole + (d + r)) % 128) = -1 →
      wX_release_54 post f_nodes f_time f_latest f_entries f_logged f_complete f_taken f_sinceEntry f_sinceCount f_parts f_wrongPart f_watches (r + 1) (nI hole) (nI ((hole + d) % 128)) a_path a_data a_version a_childVersion a_created a_setAt a_owner a_firstChild a_sibling bk a_open a_timeout a_deadline a_eKind a_ePath a_eData a_eOwner a_eVersion a_eNumber a_iPath a_iData a_iVersion a_iChildVersion a_iCreated a_iSet a_iOwner a_iTimeout a_iLatest a_pKind a_pPath a_pA a_pB a_uEntry a_uSlot a_uData a_uVersion a_uSet a_uChildVersion a_uCreated a_uOwner a_wSession a_wKind a_wPath a_queue a_queued := by
  intro r
  induction r with
  | zero =>
    intro hole d bk R hd he
    have hk : (hole + d) % 128 < 128 := Nat.mod_lt _ (by decide)
    have hc := nI_clamp (n := (hole + d) % 128) (by omega)
    rw [Nat.add_zero] at he
    refine And.intro (vp_in_nI hk (by decide)) (br_t (by rw [hc, he]; decide) ?_)
    refine zz_st rfl R.1 (by decide) zb_narM ?_
    exact h _ (zh_Rend (fun s _ _ => zh_lt _) R he)
  | succ r ih =>
    intro hole d bk R hd he
    have hk : (hole + d) % 128 < 128 := Nat.mod_lt _ (by decide)
    have hc := nI_clamp (n := (hole + d) % 128) (by omega)
    have hne : (hole + d) % 128 ≠ hole := by have := R.1; have := R.2.1; omega
    rcases R.2.2.2.2.2.1 _ hk hne with e | ⟨s, hs, e, ho⟩
    · refine And.intro (vp_in_nI hk (by decide)) (br_t (by rw [hc, e]; decide) ?_)
      refine zz_st rfl R.1 (by decide) zb_narM ?_
      exact h _ (zh_Rend (fun s _ _ => zh_lt _) R e)
    · have hcs := nI_clamp (n := s) (by omega)
      refine And.intro (vp_in_nI hk (by decide)) (br_f (by rw [hc, e]; exact nI_pos (by omega)) (And.intro (vp_in_nI hk (by decide)) (And.intro (by rw [hc, e]; exact vp_in_nI hs (by decide)) ?_)))
      rw [hc, e, hcs]
      refine zx_hash ?_
      have hw := zh_lt (a_path s)
      have q1 : (nI ((hole + d) % 128) - nI (zh_h (a_path s))) &&& 127 = nI (zh_d (zh_h (a_path s)) ((hole + d) % 128)) := zh_sub hk hw
      have q2 : (nI ((hole + d) % 128) - nI hole) &&& 127 = nI d := by
        rw [zh_sub hk R.1]; exact congrArg nI (by have := R.1; have := R.2.2.1; omega)
      have nxt : (nI ((hole + d) % 128) + 1) &&& 127 = nI ((hole + (d + 1)) % 128) := by
        rw [zh_and hk]; exact congrArg nI (by omega)
      by_cases c : zh_d (zh_h (a_path s)) ((hole + d) % 128) < d
      · refine br_t (by rw [q1, q2]; exact nI_lt c (by have := R.2.2.1; omega)) (nm_r nxt ?_)
        exact ih hole (d + 1) bk (zh_Rstay R hs ho hw e (by omega) c) (by omega) (by rw [show d + 1 + r = d + (r + 1) from by omega]; exact he)
      · refine br_f (by rw [q1, q2]; exact nI_nlt (by omega) (by have := zh_d_lt (zh_h (a_path s)) ((hole + d) % 128); omega)) ?_
        refine And.intro (vp_in_nI hk (by decide)) ?_
        refine zz_st rfl R.1 (by decide) (v' := nI s) (zb_narN (by omega)) ?_
        refine nm_r (e' := nI (((hole + d) % 128 + 1) % 128)) (by rw [zh_and hk]) ?_
        refine ih ((hole + d) % 128) 1 (upd bk hole (nI s)) (zh_Rmove R hs ho hw e c) (by have := R.2.1; omega) ?_
        have h3 : ((hole + d) % 128 + (1 + r)) % 128 = (hole + (d + (r + 1))) % 128 := by omega
        have h4 : (hole + (d + (r + 1))) % 128 ≠ hole := by have := R.1; have := R.2.1; omega
        rw [h3, pk_un h4]
        exact he
theorem zx_rel10 {post : SX → Prop} {s : Nat} (hs : s < 48) (T : zh_T (fun s => 0 ≤ (a_path s).toInt) (fun s => zh_h (a_path s)) a_bucket)
    (h : ∀ a_bucket1 : Nat → Int32, zh_T (fun j => 0 ≤ (upd a_path s (-1) j).toInt) (fun j => zh_h (upd a_path s (-1) j)) a_bucket1 → post (f_nodes - 1, f_time, f_latest, f_entries, f_logged, f_complete, f_taken, f_sinceEntry, f_sinceCount, f_parts, f_wrongPart, f_watches, upd a_path s (-1), a_data, a_version, a_childVersion, a_created, a_setAt, a_owner, a_firstChild, a_sibling, a_bucket1, a_open, a_timeout, a_deadline, a_eKind, a_ePath, a_eData, a_eOwner, a_eVersion, a_eNumber, a_iPath, a_iData, a_iVersion, a_iChildVersion, a_iCreated, a_iSet, a_iOwner, a_iTimeout, a_iLatest, a_pKind, a_pPath, a_pA, a_pB, a_uEntry, a_uSlot, a_uData, a_uVersion, a_uSet, a_uChildVersion, a_uCreated, a_uOwner, a_wSession, a_wKind, a_wPath, a_queue, a_queued))
    {k : Nat} (hk : k < 128) (hw : zh_h (a_path s) < 128) (ek : a_bucket k = nI s) :
    ∀ d i, i + d = zh_d (zh_h (a_path s)) k → wX_release_10 post (nI s) f_nodes f_time f_latest f_entries f_logged f_complete f_taken f_sinceEntry f_sinceCount f_parts f_wrongPart f_watches a_path a_data a_version a_childVersion a_created a_setAt a_owner a_firstChild a_sibling a_bucket a_open a_timeout a_deadline a_eKind a_ePath a_eData a_eOwner a_eVersion a_eNumber a_iPath a_iData a_iVersion a_iChildVersion a_iCreated a_iSet a_iOwner a_iTimeout a_iLatest a_pKind a_pPath a_pA a_pB a_uEntry a_uSlot a_uData a_uVersion a_uSet a_uChildVersion a_uCreated a_uOwner a_wSession a_wKind a_wPath a_queue a_queued (d + 1) (nI ((zh_h (a_path s) + i) % 128)) := by
  intro d
  have hdl := zh_d_lt (zh_h (a_path s)) k
  have heq : (zh_h (a_path s) + zh_d (zh_h (a_path s)) k) % 128 = k := by unfold zh_d; omega
  induction d with
  | zero =>
    intro i hi
    rw [Nat.add_zero] at hi
    rw [hi, heq]
    have hc := nI_clamp (n := k) (by omega)
    refine And.intro (vp_in_nI hk (by decide)) (br_t (by rw [hc, ek]) ?_)
    refine zz_st rfl hs (by decide) rfl ?_
    refine nm_e (nm_r (e' := nI ((k + 1) % 128)) (zh_and hk) ?_)
    have hO : ∀ j, j < 48 → (0 ≤ (upd a_path s (-1) j).toInt ↔ j ≠ s ∧ 0 ≤ (a_path j).toInt) := fun j hj => by
      by_cases z : j = s
      · rw [z, pk_us, zb_tm1]; exact ⟨fun h => by omega, fun h => absurd rfl h.1⟩
      · rw [pk_un z]; exact ⟨fun h => ⟨z, h⟩, fun h => h.2⟩
    have R0 := zh_R0 (O' := fun j => 0 ≤ (upd a_path s (-1) j).toInt) T hs hk ek hO
    have R : zh_R (fun j => 0 ≤ (upd a_path s (-1) j).toInt) (fun j => zh_h (upd a_path s (-1) j)) a_bucket k 1 := by
      obtain ⟨a1, a2, a3, a4, a5, a6, a7, a8⟩ := R0
      refine ⟨a1, a2, a3, a4, a5, a6, fun j hj ho => ?_, a8⟩
      have z : j ≠ s := ((hO j hj).mp ho).1
      show ∃ k', k' < 128 ∧ k' ≠ k ∧ a_bucket k' = nI j ∧ (∀ i, i < zh_d (zh_h (upd a_path s (-1) j)) k' → ¬ a_bucket ((zh_h (upd a_path s (-1) j) + i) % 128) = -1) ∧ (zh_d k k' < 1 → ∀ i, i < zh_d (zh_h (upd a_path s (-1) j)) k' → ¬ (zh_h (upd a_path s (-1) j) + i) % 128 = k)
      rw [pk_un z]
      exact a7 j hj ho
    obtain ⟨d', h1, h2, h3⟩ := zh_Rempty R
    obtain ⟨r, rfl⟩ : ∃ r, d' = 1 + r := ⟨d' - 1, by omega⟩
    exact ⟨r + 1, zx_rel_lp h r k 1 a_bucket R h2 h3⟩
  | succ d ih =>
    intro i hi
    have hk2 : (zh_h (a_path s) + i) % 128 < 128 := Nat.mod_lt _ (by decide)
    have hc := nI_clamp (n := (zh_h (a_path s) + i) % 128) (by omega)
    refine And.intro (vp_in_nI hk2 (by decide)) (br_f (fun e => ?_) (nm_r (e' := nI ((zh_h (a_path s) + (i + 1)) % 128)) ?_ ?_))
    · rw [hc] at e
      have := T.2.2 _ _ s hk2 hk hs e ek
      unfold zh_d at hi
      omega
    · rw [zh_and hk2]; exact congrArg nI (by omega)
    · exact ih (i + 1) (by omega)
theorem zx_release {post : SX → Prop} {C : zn_Mp} {s : Nat} (H : zx_H f_nodes a_path a_data a_version a_childVersion a_created a_setAt a_owner a_bucket C) (hs : s < 48) (h0 : 0 ≤ (a_path s).toInt)
    (h : ∀ a_bucket1 : Nat → Int32, zx_H (f_nodes - 1) (upd a_path s (-1)) a_data a_version a_childVersion a_created a_setAt a_owner a_bucket1 (zr_set C (a_path s) none) → post (f_nodes - 1, f_time, f_latest, f_entries, f_logged, f_complete, f_taken, f_sinceEntry, f_sinceCount, f_parts, f_wrongPart, f_watches, upd a_path s (-1), a_data, a_version, a_childVersion, a_created, a_setAt, a_owner, a_firstChild, a_sibling, a_bucket1, a_open, a_timeout, a_deadline, a_eKind, a_ePath, a_eData, a_eOwner, a_eVersion, a_eNumber, a_iPath, a_iData, a_iVersion, a_iChildVersion, a_iCreated, a_iSet, a_iOwner, a_iTimeout, a_iLatest, a_pKind, a_pPath, a_pA, a_pB, a_uEntry, a_uSlot, a_uData, a_uVersion, a_uSet, a_uChildVersion, a_uCreated, a_uOwner, a_wSession, a_wKind, a_wPath, a_queue, a_queued)) :
    wpX_release post (f_nodes, f_time, f_latest, f_entries, f_logged, f_complete, f_taken, f_sinceEntry, f_sinceCount, f_parts, f_wrongPart, f_watches, a_path, a_data, a_version, a_childVersion, a_created, a_setAt, a_owner, a_firstChild, a_sibling, a_bucket, a_open, a_timeout, a_deadline, a_eKind, a_ePath, a_eData, a_eOwner, a_eVersion, a_eNumber, a_iPath, a_iData, a_iVersion, a_iChildVersion, a_iCreated, a_iSet, a_iOwner, a_iTimeout, a_iLatest, a_pKind, a_pPath, a_pA, a_pB, a_uEntry, a_uSlot, a_uData, a_uVersion, a_uSet, a_uChildVersion, a_uCreated, a_uOwner, a_wSession, a_wKind, a_wPath, a_queue, a_queued) (nI s) := by
  obtain ⟨k, hk, ek, hr⟩ := H.1.2.1 s hs h0
  have hw := zh_lt (a_path s)
  have hcs := nI_clamp (n := s) (by omega)
  refine And.intro (vp_in_nI hs (by decide)) ?_
  rw [hcs]
  refine zx_hash ?_
  refine Exists.intro (zh_d (zh_h (a_path s)) k + 1) ?_
  have e0 : nI (zh_h (a_path s)) = nI ((zh_h (a_path s) + 0) % 128) := congrArg nI (by omega)
  rw [e0]
  refine zx_rel10 hs H.1 (fun bk T => h bk ⟨T, ?_, ?_, ?_⟩) hk hw ek (zh_d (zh_h (a_path s)) k) 0 (by omega)
  · exact zr_del H.2.1 hs h0 (by rw [pk_us, zb_tm1]; omega) (fun j _ hn => pk_un hn) (fun j _ _ _ => rfl)
  · have := zr_n_del (path := a_path) (path' := upd a_path s (-1)) hs h0 (by rw [pk_us, zb_tm1]; omega) (fun j _ hn => pk_un hn)
    rw [H.2.2.1, this, nI_pred]
  · intro j hj hn
    by_cases z : j = s
    · rw [z, pk_us]
    · rw [pk_un z] at hn ⊢; exact H.2.2.2 j hj hn
theorem zx_free_lp {post : Int32 → Prop} {e : Nat} (he : e < 48) (h0 : (a_path e).toInt < 0) (h : ∀ s, s < 48 → (a_path s).toInt < 0 → (∀ j, j < s → 0 ≤ (a_path j).toInt) → post (nI s)) :
    ∀ d i, i + d = e → (∀ j, j < i → 0 ≤ (a_path j).toInt) → wX_freeSlot_2 post f_nodes f_time f_latest f_entries f_logged f_complete f_taken f_sinceEntry f_sinceCount f_parts f_wrongPart f_watches a_path a_data a_version a_childVersion a_created a_setAt a_owner a_firstChild a_sibling a_bucket a_open a_timeout a_deadline a_eKind a_ePath a_eData a_eOwner a_eVersion a_eNumber a_iPath a_iData a_iVersion a_iChildVersion a_iCreated a_iSet a_iOwner a_iTimeout a_iLatest a_pKind a_pPath a_pA a_pB a_uEntry a_uSlot a_uData a_uVersion a_uSet a_uChildVersion a_uCreated a_uOwner a_wSession a_wKind a_wPath a_queue a_queued (d + 1) (nI i) := by
  intro d
  induction d with
  | zero =>
    intro i hi hj
    have hc := nI_clamp (n := i) (by omega)
    have : i = e := by omega
    subst this
    exact And.intro (vp_in_nI he (by decide)) (br_t (by rw [hc, zb_lt0]; exact h0) (h i he h0 hj))
  | succ d ih =>
    intro i hi hj
    have hc := nI_clamp (n := i) (by omega)
    refine And.intro (vp_in_nI (by omega) (by decide)) ?_
    by_cases c : (a_path i).toInt < 0
    · exact br_t (by rw [hc, zb_lt0]; exact c) (h i (by omega) c hj)
    · refine br_f (by rw [hc, zb_lt0]; exact c) (nm_r (nI_1 i) (ih (i + 1) (by omega) (fun j hj2 => ?_)))
      by_cases z : j = i
      · rw [z]; omega
      · exact hj j (by omega)
theorem zx_free {post : Int32 → Prop} {e : Nat} (he : e < 48) (h0 : (a_path e).toInt < 0) (h : ∀ s, s < 48 → (a_path s).toInt < 0 → (∀ j, j < s → 0 ≤ (a_path j).toInt) → post (nI s)) : wpX_freeSlot post (f_nodes, f_time, f_latest, f_entries, f_logged, f_complete, f_taken, f_sinceEntry, f_sinceCount, f_parts, f_wrongPart, f_watches, a_path, a_data, a_version, a_childVersion, a_created, a_setAt, a_owner, a_firstChild, a_sibling, a_bucket, a_open, a_timeout, a_deadline, a_eKind, a_ePath, a_eData, a_eOwner, a_eVersion, a_eNumber, a_iPath, a_iData, a_iVersion, a_iChildVersion, a_iCreated, a_iSet, a_iOwner, a_iTimeout, a_iLatest, a_pKind, a_pPath, a_pA, a_pB, a_uEntry, a_uSlot, a_uData, a_uVersion, a_uSet, a_uChildVersion, a_uCreated, a_uOwner, a_wSession, a_wKind, a_wPath, a_queue, a_queued) :=
  ⟨e + 1, zx_free_lp he h0 h e 0 (by omega) (fun j hj => by omega)⟩
end
end
section
/-! the component's lists of children -/
section
variable {f_nodes f_time f_latest f_entries f_logged f_complete f_taken f_sinceEntry f_sinceCount f_parts f_wrongPart f_watches : Int32} {a_path a_data a_version a_childVersion a_created a_setAt a_owner a_firstChild a_sibling a_bucket a_open a_timeout a_deadline a_eKind a_ePath a_eData a_eOwner a_eVersion a_eNumber a_iPath a_iData a_iVersion a_iChildVersion a_iCreated a_iSet a_iOwner a_iTimeout a_iLatest a_pKind a_pPath a_pA a_pB a_uEntry a_uSlot a_uData a_uVersion a_uSet a_uChildVersion a_uCreated a_uOwner a_wSession a_wKind a_wPath a_queue a_queued : Nat → Int32}
theorem zx_link60a {post : SX → Prop} {D D' : Nat → Prop} {s up b : Nat} {k : Int32} (L : zk_L a_path a_firstChild a_sibling D) (inj : zk_inj a_path) (hDp : ∀ j, j < 48 → D j → 0 < (a_path j).toInt) (hs : s < 48) (hds : ¬ D s) (h0 : 0 < (a_path s).toInt)
    (hb : b < 48) (hdb : D b) (hbq : a_path b / 101 = a_path s / 101) (hlt : (a_path b).toInt < (a_path s).toInt) (hD : ∀ j, j < 48 → (D' j ↔ j = s ∨ D j))
    (hk : a_sibling b = k) (hk2 : k = -1 ∨ ∃ j, j < 48 ∧ k = nI j ∧ (a_path s).toInt < (a_path j).toInt)
    (h : ∀ fc1 sb1 : Nat → Int32, zk_L a_path fc1 sb1 D' → post (f_nodes, f_time, f_latest, f_entries, f_logged, f_complete, f_taken, f_sinceEntry, f_sinceCount, f_parts, f_wrongPart, f_watches, a_path, a_data, a_version, a_childVersion, a_created, a_setAt, a_owner, fc1, sb1, a_bucket, a_open, a_timeout, a_deadline, a_eKind, a_ePath, a_eData, a_eOwner, a_eVersion, a_eNumber, a_iPath, a_iData, a_iVersion, a_iChildVersion, a_iCreated, a_iSet, a_iOwner, a_iTimeout, a_iLatest, a_pKind, a_pPath, a_pA, a_pB, a_uEntry, a_uSlot, a_uData, a_uVersion, a_uSet, a_uChildVersion, a_uCreated, a_uOwner, a_wSession, a_wKind, a_wPath, a_queue, a_queued)) : wX_link_60 post (nI s) (nI up) (nI b) k f_nodes f_time f_latest f_entries f_logged f_complete f_taken f_sinceEntry f_sinceCount f_parts f_wrongPart f_watches a_path a_data a_version a_childVersion a_created a_setAt a_owner a_firstChild a_sibling a_bucket a_open a_timeout a_deadline a_eKind a_ePath a_eData a_eOwner a_eVersion a_eNumber a_iPath a_iData a_iVersion a_iChildVersion a_iCreated a_iSet a_iOwner a_iTimeout a_iLatest a_pKind a_pPath a_pA a_pB a_uEntry a_uSlot a_uData a_uVersion a_uSet a_uChildVersion a_uCreated a_uOwner a_wSession a_wKind a_wPath a_queue a_queued := by
  have ek : vp_nar .byte k.toInt8.toInt32 = k := by
    rcases hk2 with rfl | ⟨j, hj, rfl, _⟩
    · rw [vp_nar_byte]; decide
    · exact zb_narN2 (by omega)
  refine zz_st rfl hs (by decide) ek ?_
  refine br_t (nI_pos' (by omega)) (zz_st rfl hb (by decide) (zb_narN2 (by omega)) ?_)
  exact h _ _ (zk_link1 L inj hDp hs hds h0 hb hdb hbq hlt hD hk hk2)
theorem zx_link60b {post : SX → Prop} {D D' : Nat → Prop} {s up : Nat} {k : Int32} (L : zk_L a_path a_firstChild a_sibling D) (inj : zk_inj a_path) (hDp : ∀ j, j < 48 → D j → 0 < (a_path j).toInt) (hs : s < 48) (hds : ¬ D s) (h0 : 0 < (a_path s).toInt)
    (hup : up < 48) (hu : a_path up = a_path s / 101) (hu0 : 0 ≤ (a_path up).toInt) (hD : ∀ j, j < 48 → (D' j ↔ j = s ∨ D j))
    (hk : a_firstChild up = k) (hk2 : k = -1 ∨ ∃ j, j < 48 ∧ k = nI j ∧ (a_path s).toInt < (a_path j).toInt)
    (h : ∀ fc1 sb1 : Nat → Int32, zk_L a_path fc1 sb1 D' → post (f_nodes, f_time, f_latest, f_entries, f_logged, f_complete, f_taken, f_sinceEntry, f_sinceCount, f_parts, f_wrongPart, f_watches, a_path, a_data, a_version, a_childVersion, a_created, a_setAt, a_owner, fc1, sb1, a_bucket, a_open, a_timeout, a_deadline, a_eKind, a_ePath, a_eData, a_eOwner, a_eVersion, a_eNumber, a_iPath, a_iData, a_iVersion, a_iChildVersion, a_iCreated, a_iSet, a_iOwner, a_iTimeout, a_iLatest, a_pKind, a_pPath, a_pA, a_pB, a_uEntry, a_uSlot, a_uData, a_uVersion, a_uSet, a_uChildVersion, a_uCreated, a_uOwner, a_wSession, a_wKind, a_wPath, a_queue, a_queued)) : wX_link_60 post (nI s) (nI up) (-1) k f_nodes f_time f_latest f_entries f_logged f_complete f_taken f_sinceEntry f_sinceCount f_parts f_wrongPart f_watches a_path a_data a_version a_childVersion a_created a_setAt a_owner a_firstChild a_sibling a_bucket a_open a_timeout a_deadline a_eKind a_ePath a_eData a_eOwner a_eVersion a_eNumber a_iPath a_iData a_iVersion a_iChildVersion a_iCreated a_iSet a_iOwner a_iTimeout a_iLatest a_pKind a_pPath a_pA a_pB a_uEntry a_uSlot a_uData a_uVersion a_uSet a_uChildVersion a_uCreated a_uOwner a_wSession a_wKind a_wPath a_queue a_queued := by
  have ek : vp_nar .byte k.toInt8.toInt32 = k := by
    rcases hk2 with rfl | ⟨j, hj, rfl, _⟩
    · rw [vp_nar_byte]; decide
    · exact zb_narN2 (by omega)
  refine zz_st rfl hs (by decide) ek ?_
  refine br_f (by decide) (zz_st rfl hup (by decide) (zb_narN2 (by omega)) ?_)
  exact h _ _ (zk_link0 L inj hDp hs hds h0 hup hu hu0 hD hk hk2)
theorem zx_link_lp {post : SX → Prop} {D D' : Nat → Prop} {s up : Nat} (L : zk_L a_path a_firstChild a_sibling D) (inj : zk_inj a_path) (hDp : ∀ j, j < 48 → D j → 0 < (a_path j).toInt) (hs : s < 48) (hds : ¬ D s) (h0 : 0 < (a_path s).toInt)
    (hD : ∀ j, j < 48 → (D' j ↔ j = s ∨ D j))
    (h : ∀ fc1 sb1 : Nat → Int32, zk_L a_path fc1 sb1 D' → post (f_nodes, f_time, f_latest, f_entries, f_logged, f_complete, f_taken, f_sinceEntry, f_sinceCount, f_parts, f_wrongPart, f_watches, a_path, a_data, a_version, a_childVersion, a_created, a_setAt, a_owner, fc1, sb1, a_bucket, a_open, a_timeout, a_deadline, a_eKind, a_ePath, a_eData, a_eOwner, a_eVersion, a_eNumber, a_iPath, a_iData, a_iVersion, a_iChildVersion, a_iCreated, a_iSet, a_iOwner, a_iTimeout, a_iLatest, a_pKind, a_pPath, a_pA, a_pB, a_uEntry, a_uSlot, a_uData, a_uVersion, a_uSet, a_uChildVersion, a_uCreated, a_uOwner, a_wSession, a_wKind, a_wPath, a_queue, a_queued)) :
    ∀ (m : Nat) (b : Nat), b < 48 → D b → a_path b / 101 = a_path s / 101 → (a_path b).toInt < (a_path s).toInt → (a_path s).toInt - (a_path b).toInt ≤ m → wX_link_24 post (nI s) (nI up) f_nodes f_time f_latest f_entries f_logged f_complete f_taken f_sinceEntry f_sinceCount f_parts f_wrongPart f_watches a_path a_data a_version a_childVersion a_created a_setAt a_owner a_firstChild a_sibling a_bucket a_open a_timeout a_deadline a_eKind a_ePath a_eData a_eOwner a_eVersion a_eNumber a_iPath a_iData a_iVersion a_iChildVersion a_iCreated a_iSet a_iOwner a_iTimeout a_iLatest a_pKind a_pPath a_pA a_pB a_uEntry a_uSlot a_uData a_uVersion a_uSet a_uChildVersion a_uCreated a_uOwner a_wSession a_wKind a_wPath a_queue a_queued (m + 1) (nI b) (a_sibling b) := by
  intro m
  induction m with
  | zero => intro b hb hdb hbq hlt hm; omega
  | succ m ih =>
    intro b hb hdb hbq hlt hm
    have hN := L.2 b hb hdb
    have hcs := nI_clamp (n := s) (by omega)
    rcases hN with ⟨e, _⟩ | ⟨c, hc, e, dc, ec, hx, hl⟩
    · exact br_t (by rw [e]; decide) (zx_link60a L inj hDp hs hds h0 hb hdb hbq hlt hD rfl (Or.inl e) h)
    · have hcc := nI_clamp (n := c) (by omega)
      have hne : (a_path s).toInt ≠ (a_path c).toInt := fun z => hds (by rw [inj s c hs hc (by omega) (zb_inj z)]; exact dc)
      refine br_f (by rw [e]; exact nI_pos (by omega)) (And.intro (by rw [e]; exact vp_in_nI hc (by decide)) (And.intro (vp_in_nI hs (by decide)) ?_))
      by_cases z : (a_path s).toInt < (a_path c).toInt
      · exact br_t (by rw [e, hcc, hcs, zb_le]; omega) (zx_link60a L inj hDp hs hds h0 hb hdb hbq hlt hD rfl (Or.inr ⟨c, hc, e, z⟩) h)
      · refine br_f (by rw [e, hcc, hcs, zb_le]; omega) (And.intro (by rw [e]; exact vp_in_nI hc (by decide)) (nm_r (e' := a_sibling c) (by rw [e, hcc]) ?_))
        rw [e]
        exact ih c hc dc (by rw [ec, hbq]) (by omega) (by omega)
theorem zx_link {post : SX → Prop} {C : zn_Mp} {D D' : Nat → Prop} {s up : Nat} (H : zx_H f_nodes a_path a_data a_version a_childVersion a_created a_setAt a_owner a_bucket C) (L : zk_L a_path a_firstChild a_sibling D) (hDp : ∀ j, j < 48 → D j → 0 < (a_path j).toInt) (hs : s < 48) (hds : ¬ D s) (h0 : 0 < (a_path s).toInt)
    (hup : up < 48) (hu : a_path up = a_path s / 101) (hD : ∀ j, j < 48 → (D' j ↔ j = s ∨ D j))
    (h : ∀ fc1 sb1 : Nat → Int32, zk_L a_path fc1 sb1 D' → post (f_nodes, f_time, f_latest, f_entries, f_logged, f_complete, f_taken, f_sinceEntry, f_sinceCount, f_parts, f_wrongPart, f_watches, a_path, a_data, a_version, a_childVersion, a_created, a_setAt, a_owner, fc1, sb1, a_bucket, a_open, a_timeout, a_deadline, a_eKind, a_ePath, a_eData, a_eOwner, a_eVersion, a_eNumber, a_iPath, a_iData, a_iVersion, a_iChildVersion, a_iCreated, a_iSet, a_iOwner, a_iTimeout, a_iLatest, a_pKind, a_pPath, a_pA, a_pB, a_uEntry, a_uSlot, a_uData, a_uVersion, a_uSet, a_uChildVersion, a_uCreated, a_uOwner, a_wSession, a_wKind, a_wPath, a_queue, a_queued)) : wpX_link post (f_nodes, f_time, f_latest, f_entries, f_logged, f_complete, f_taken, f_sinceEntry, f_sinceCount, f_parts, f_wrongPart, f_watches, a_path, a_data, a_version, a_childVersion, a_created, a_setAt, a_owner, a_firstChild, a_sibling, a_bucket, a_open, a_timeout, a_deadline, a_eKind, a_ePath, a_eData, a_eOwner, a_eVersion, a_eNumber, a_iPath, a_iData, a_iVersion, a_iChildVersion, a_iCreated, a_iSet, a_iOwner, a_iTimeout, a_iLatest, a_pKind, a_pPath, a_pA, a_pB, a_uEntry, a_uSlot, a_uData, a_uVersion, a_uSet, a_uChildVersion, a_uCreated, a_uOwner, a_wSession, a_wKind, a_wPath, a_queue, a_queued) (nI s) := by
  have hcs := nI_clamp (n := s) (by omega)
  have inj : zk_inj a_path := H.2.1.2.2
  have hu0 : 0 ≤ (a_path up).toInt := by rw [hu, zb_div (by omega)]; omega
  have hC := H.2.1.1 up hup hu0
  refine And.intro (vp_in_nI hs (by decide)) (And.intro zb_101n ?_)
  rw [hcs, ← hu]
  refine zx_find H (fun e => by rw [hC] at e; exact nomatch e) (fun s' hs' e' h0' _ => ?_)
  have : s' = up := inj s' up hs' hup h0' e'
  subst this
  have hcu := nI_clamp (n := s') (by omega)
  refine And.intro (vp_in_nI hs' (by decide)) (nm_r (e' := a_firstChild s') (by rw [hcu]) ?_)
  have hN := L.1 s' hs' hu0
  rcases hN with ⟨e, _⟩ | ⟨c, hc, e, dc, ec, hx, hl⟩
  · exact ⟨1, br_t (by rw [e]; decide) (zx_link60b L inj hDp hs hds h0 hup hu hu0 hD rfl (Or.inl e) h)⟩
  · have hcc := nI_clamp (n := c) (by omega)
    have hne : (a_path s).toInt ≠ (a_path c).toInt := fun z => hds (by rw [inj s c hs hc (by omega) (zb_inj z)]; exact dc)
    refine ⟨((a_path s).toInt - (a_path c).toInt).toNat + 1 + 1, br_f (by rw [e]; exact nI_pos (by omega)) (And.intro (by rw [e]; exact vp_in_nI hc (by decide)) (And.intro (vp_in_nI hs (by decide)) ?_))⟩
    by_cases z : (a_path s).toInt < (a_path c).toInt
    · exact br_t (by rw [e, hcc, hcs, zb_le]; omega) (zx_link60b L inj hDp hs hds h0 hup hu hu0 hD rfl (Or.inr ⟨c, hc, e, z⟩) h)
    · refine br_f (by rw [e, hcc, hcs, zb_le]; omega) (And.intro (by rw [e]; exact vp_in_nI hc (by decide)) (nm_r (e' := a_sibling c) (by rw [e, hcc]) ?_))
      rw [e]
      exact zx_link_lp L inj hDp hs hds h0 hD h _ c hc dc (by rw [ec, hu]) (by omega) (by omega)
theorem zx_unlink_lp {post : SX → Prop} {D D' : Nat → Prop} {s up : Nat} (L : zk_L a_path a_firstChild a_sibling D) (inj : zk_inj a_path) (hDp : ∀ j, j < 48 → D j → 0 < (a_path j).toInt) (hs : s < 48) (hds : D s)
    (hup : up < 48) (hu : a_path up = a_path s / 101) (hu0 : 0 ≤ (a_path up).toInt) (hf : ¬ a_firstChild up = nI s) (hD : ∀ j, j < 48 → (D' j ↔ j ≠ s ∧ D j))
    (h : ∀ fc1 sb1 : Nat → Int32, zk_L a_path fc1 sb1 D' → post (f_nodes, f_time, f_latest, f_entries, f_logged, f_complete, f_taken, f_sinceEntry, f_sinceCount, f_parts, f_wrongPart, f_watches, a_path, a_data, a_version, a_childVersion, a_created, a_setAt, a_owner, fc1, sb1, a_bucket, a_open, a_timeout, a_deadline, a_eKind, a_ePath, a_eData, a_eOwner, a_eVersion, a_eNumber, a_iPath, a_iData, a_iVersion, a_iChildVersion, a_iCreated, a_iSet, a_iOwner, a_iTimeout, a_iLatest, a_pKind, a_pPath, a_pA, a_pB, a_uEntry, a_uSlot, a_uData, a_uVersion, a_uSet, a_uChildVersion, a_uCreated, a_uOwner, a_wSession, a_wKind, a_wPath, a_queue, a_queued)) :
    ∀ (m : Nat) (b : Nat), b < 48 → D b → a_path b / 101 = a_path s / 101 → (a_path b).toInt < (a_path s).toInt → (a_path s).toInt - (a_path b).toInt ≤ m → wX_unlink_44 post (nI s) f_nodes f_time f_latest f_entries f_logged f_complete f_taken f_sinceEntry f_sinceCount f_parts f_wrongPart f_watches a_path a_data a_version a_childVersion a_created a_setAt a_owner a_firstChild a_sibling a_bucket a_open a_timeout a_deadline a_eKind a_ePath a_eData a_eOwner a_eVersion a_eNumber a_iPath a_iData a_iVersion a_iChildVersion a_iCreated a_iSet a_iOwner a_iTimeout a_iLatest a_pKind a_pPath a_pA a_pB a_uEntry a_uSlot a_uData a_uVersion a_uSet a_uChildVersion a_uCreated a_uOwner a_wSession a_wKind a_wPath a_queue a_queued (m + 1) (nI b) := by
  have hcs := nI_clamp (n := s) (by omega)
  have eks : vp_nar .byte (a_sibling s) = a_sibling s := by
    rcases L.2 s hs hds with ⟨e, _⟩ | ⟨c, hc, e, _⟩
    · rw [e]; exact zb_narM
    · rw [e]; exact zb_narN (by omega)
  intro m
  induction m with
  | zero => intro b hb hdb hbq hlt hm; omega
  | succ m ih =>
    intro b hb hdb hbq hlt hm
    have hN := L.2 b hb hdb
    have hcb := nI_clamp (n := b) (by omega)
    refine And.intro (vp_in_nI hb (by decide)) ?_
    rcases hN with ⟨e, hn⟩ | ⟨c, hc, e, dc, ec, hx, hl⟩
    · have := hn s hs hds hbq.symm; omega
    · by_cases z : c = s
      · subst z
        refine br_t (by rw [hcb, e]) (And.intro (vp_in_nI hs (by decide)) (zz_st rfl hb (by decide) (v' := a_sibling c) (by rw [hcs]; exact eks) ?_))
        exact h _ _ (zk_unlink1 L inj hDp hs hds hup hu hu0 hD hf hb hdb e)
      · have h1 := hl s hs hds hbq.symm hlt
        have hne : (a_path c).toInt ≠ (a_path s).toInt := fun w => z (inj c s hc hs (by have := hDp c hc dc; omega) (zb_inj w))
        refine br_f (by rw [hcb, e]; exact fun w => z (zh_inj hc hs w)) (And.intro (vp_in_nI hb (by decide)) (nm_r (e' := nI c) (by rw [hcb, e]) ?_))
        exact ih c hc dc (by rw [ec, hbq]) (by omega) (by omega)
theorem zx_unlink {post : SX → Prop} {C : zn_Mp} {D D' : Nat → Prop} {s up : Nat} (H : zx_H f_nodes a_path a_data a_version a_childVersion a_created a_setAt a_owner a_bucket C) (L : zk_L a_path a_firstChild a_sibling D) (hDp : ∀ j, j < 48 → D j → 0 < (a_path j).toInt) (hs : s < 48) (hds : D s)
    (hup : up < 48) (hu : a_path up = a_path s / 101) (hD : ∀ j, j < 48 → (D' j ↔ j ≠ s ∧ D j))
    (h : ∀ fc1 sb1 : Nat → Int32, zk_L a_path fc1 sb1 D' → post (f_nodes, f_time, f_latest, f_entries, f_logged, f_complete, f_taken, f_sinceEntry, f_sinceCount, f_parts, f_wrongPart, f_watches, a_path, a_data, a_version, a_childVersion, a_created, a_setAt, a_owner, fc1, sb1, a_bucket, a_open, a_timeout, a_deadline, a_eKind, a_ePath, a_eData, a_eOwner, a_eVersion, a_eNumber, a_iPath, a_iData, a_iVersion, a_iChildVersion, a_iCreated, a_iSet, a_iOwner, a_iTimeout, a_iLatest, a_pKind, a_pPath, a_pA, a_pB, a_uEntry, a_uSlot, a_uData, a_uVersion, a_uSet, a_uChildVersion, a_uCreated, a_uOwner, a_wSession, a_wKind, a_wPath, a_queue, a_queued)) : wpX_unlink post (f_nodes, f_time, f_latest, f_entries, f_logged, f_complete, f_taken, f_sinceEntry, f_sinceCount, f_parts, f_wrongPart, f_watches, a_path, a_data, a_version, a_childVersion, a_created, a_setAt, a_owner, a_firstChild, a_sibling, a_bucket, a_open, a_timeout, a_deadline, a_eKind, a_ePath, a_eData, a_eOwner, a_eVersion, a_eNumber, a_iPath, a_iData, a_iVersion, a_iChildVersion, a_iCreated, a_iSet, a_iOwner, a_iTimeout, a_iLatest, a_pKind, a_pPath, a_pA, a_pB, a_uEntry, a_uSlot, a_uData, a_uVersion, a_uSet, a_uChildVersion, a_uCreated, a_uOwner, a_wSession, a_wKind, a_wPath, a_queue, a_queued) (nI s) := by
  have hcs := nI_clamp (n := s) (by omega)
  have inj : zk_inj a_path := H.2.1.2.2
  have h0 := hDp s hs hds
  have hu0 : 0 ≤ (a_path up).toInt := by rw [hu, zb_div (by omega)]; omega
  have hC := H.2.1.1 up hup hu0
  have eks : vp_nar .byte (a_sibling s) = a_sibling s := by
    rcases L.2 s hs hds with ⟨e, _⟩ | ⟨c, hc, e, _⟩
    · rw [e]; exact zb_narM
    · rw [e]; exact zb_narN (by omega)
  refine And.intro (vp_in_nI hs (by decide)) (And.intro zb_101n ?_)
  rw [hcs, ← hu]
  refine zx_find H (fun e => by rw [hC] at e; exact nomatch e) (fun s' hs' e' h0' _ => ?_)
  have : s' = up := inj s' up hs' hup h0' e'
  subst this
  have hcu := nI_clamp (n := s') (by omega)
  refine And.intro (vp_in_nI hs' (by decide)) ?_
  by_cases z : a_firstChild s' = nI s
  · refine br_t (by rw [hcu]; exact z) (And.intro (vp_in_nI hs (by decide)) (zz_st rfl hs' (by decide) (v' := a_sibling s) eks ?_))
    exact h _ _ (zk_unlink0 L inj hDp hs hds hup hu hu0 hD z)
  · refine br_f (by rw [hcu]; exact z) (And.intro (vp_in_nI hs' (by decide)) (nm_r (e' := a_firstChild s') (by rw [hcu]) ?_))
    rcases L.1 s' hs' hu0 with ⟨e, hn⟩ | ⟨c, hc, e, dc, ec, hx, hl⟩
    · have := hn s hs hds hu.symm; omega
    · have h1 := hl s hs hds hu.symm h0
      have hne : (a_path c).toInt ≠ (a_path s).toInt := fun w => z (by rw [e, inj c s hc hs (by omega) (zb_inj w)])
      rw [e]
      exact ⟨_, zx_unlink_lp L inj hDp hs hds hup hu hu0 z hD h (((a_path s).toInt - (a_path c).toInt).toNat + 1) c hc dc (by rw [ec, hu]) (by omega) (by omega)⟩
/-- how many children lie above x -/
def zk_cn (path : Nat → Int32) (q : Int32) (x : Int) : Nat := zc_cnt (zr_oc path (zk_P q x)) 48
theorem zx_children_lp {post : Int32 → Prop} {q : Int32} (L : ∀ s, s < 48 → 0 < (a_path s).toInt → zk_Nx a_path (fun s => 0 < (a_path s).toInt) (a_path s / 101) (a_path s).toInt (a_sibling s)) (inj : zk_inj a_path) {t : Nat} (h : post (nI t)) :
    ∀ (r n : Nat) (x : Int) (c : Int32), 0 ≤ x → zk_Nx a_path (fun s => 0 < (a_path s).toInt) q x c → zk_cn a_path q x = r → n + r = t → wX_children_9 post f_nodes f_time f_latest f_entries f_logged f_complete f_taken f_sinceEntry f_sinceCount f_parts f_wrongPart f_watches a_path a_data a_version a_childVersion a_created a_setAt a_owner a_firstChild a_sibling a_bucket a_open a_timeout a_deadline a_eKind a_ePath a_eData a_eOwner a_eVersion a_eNumber a_iPath a_iData a_iVersion a_iChildVersion a_iCreated a_iSet a_iOwner a_iTimeout a_iLatest a_pKind a_pPath a_pA a_pB a_uEntry a_uSlot a_uData a_uVersion a_uSet a_uChildVersion a_uCreated a_uOwner a_wSession a_wKind a_wPath a_queue a_queued (r + 1) (nI n) c := by
  intro r
  induction r with
  | zero =>
    intro n x c hx hN hr hn
    have : n = t := by omega
    subst this
    rcases hN with ⟨e, hn2⟩ | ⟨s, hs, e, ds, ec, hx2, hl⟩
    · exact br_t (by rw [e]; decide) h
    · have := zk_cn1 inj hx hs (q := q) (Or.inr ⟨s, hs, rfl, ds, ec, hx2, hl⟩)
      unfold zk_cn at hr
      omega
  | succ r ih =>
    intro n x c hx hN hr hn
    rcases hN with ⟨e, hn2⟩ | ⟨s, hs, e, ds, ec, hx2, hl⟩
    · have := zk_cn0 hx (q := q) (path := a_path) (Or.inl ⟨rfl, hn2⟩)
      unfold zk_cn at hr
      omega
    · have h1 := zk_cn1 inj hx hs (q := q) (Or.inr ⟨s, hs, rfl, ds, ec, hx2, hl⟩)
      have hcs := nI_clamp (n := s) (by omega)
      refine br_f (by rw [e]; exact nI_pos (by omega)) (nm_r (nI_1 n) (And.intro (by rw [e]; exact vp_in_nI hs (by decide)) (nm_r (e' := a_sibling s) (by rw [e, hcs]) ?_)))
      have h2 := L s hs ds
      rw [ec] at h2
      refine ih (n + 1) (a_path s).toInt _ (by omega) h2 ?_ (by omega)
      unfold zk_cn at hr ⊢
      omega
theorem zx_children {post : Int32 → Prop} {q : Nat} (L : zk_L a_path a_firstChild a_sibling (fun s => 0 < (a_path s).toInt)) (inj : zk_inj a_path) (hq : q < 48) (h0 : 0 ≤ (a_path q).toInt)
    (h : post (nI (zk_cn a_path (a_path q) 0))) : wpX_children post (f_nodes, f_time, f_latest, f_entries, f_logged, f_complete, f_taken, f_sinceEntry, f_sinceCount, f_parts, f_wrongPart, f_watches, a_path, a_data, a_version, a_childVersion, a_created, a_setAt, a_owner, a_firstChild, a_sibling, a_bucket, a_open, a_timeout, a_deadline, a_eKind, a_ePath, a_eData, a_eOwner, a_eVersion, a_eNumber, a_iPath, a_iData, a_iVersion, a_iChildVersion, a_iCreated, a_iSet, a_iOwner, a_iTimeout, a_iLatest, a_pKind, a_pPath, a_pA, a_pB, a_uEntry, a_uSlot, a_uData, a_uVersion, a_uSet, a_uChildVersion, a_uCreated, a_uOwner, a_wSession, a_wKind, a_wPath, a_queue, a_queued) (nI q) := by
  have hcq := nI_clamp (n := q) (by omega)
  refine And.intro (vp_in_nI hq (by decide)) (nm_r (e' := a_firstChild q) (by rw [hcq]) (Exists.intro (zk_cn a_path (a_path q) 0 + 1) ?_))
  exact zx_children_lp L.2 inj h (zk_cn a_path (a_path q) 0) 0 0 _ (by omega) (L.1 q hq h0) rfl (by omega)
/-- what child answers -/
def zk_Ans (path : Nat → Int32) (q : Int32) (k : Nat) (r : Int32) : Prop :=
  (∃ s, s < 48 ∧ 0 < (path s).toInt ∧ r = path s ∧ path s / 101 = q ∧ zk_cn path q (path s).toInt + k + 1 = zk_cn path q 0) ∨ (r = -1 ∧ zk_cn path q 0 ≤ k)
theorem zx_child_lp {post : Int32 → Prop} {q : Int32} {k : Nat} (hk : k < 2 ^ 31) (L : ∀ s, s < 48 → 0 < (a_path s).toInt → zk_Nx a_path (fun s => 0 < (a_path s).toInt) (a_path s / 101) (a_path s).toInt (a_sibling s)) (inj : zk_inj a_path)
    (h : ∀ r, zk_Ans a_path q k r → post r) :
    ∀ (r n : Nat) (x : Int) (c : Int32), 0 ≤ x → n ≤ k → zk_Nx a_path (fun s => 0 < (a_path s).toInt) q x c → zk_cn a_path q x = r → n + r = zk_cn a_path q 0 → wX_child_38 post (nI k) f_nodes f_time f_latest f_entries f_logged f_complete f_taken f_sinceEntry f_sinceCount f_parts f_wrongPart f_watches a_path a_data a_version a_childVersion a_created a_setAt a_owner a_firstChild a_sibling a_bucket a_open a_timeout a_deadline a_eKind a_ePath a_eData a_eOwner a_eVersion a_eNumber a_iPath a_iData a_iVersion a_iChildVersion a_iCreated a_iSet a_iOwner a_iTimeout a_iLatest a_pKind a_pPath a_pA a_pB a_uEntry a_uSlot a_uData a_uVersion a_uSet a_uChildVersion a_uCreated a_uOwner a_wSession a_wKind a_wPath a_queue a_queued (r + 1) c (nI n) := by
  intro r
  induction r with
  | zero =>
    intro n x c hx hnk hN hr hn
    have fin : wX_child_64 post c f_nodes f_time f_latest f_entries f_logged f_complete f_taken f_sinceEntry f_sinceCount f_parts f_wrongPart f_watches a_path a_data a_version a_childVersion a_created a_setAt a_owner a_firstChild a_sibling a_bucket a_open a_timeout a_deadline a_eKind a_ePath a_eData a_eOwner a_eVersion a_eNumber a_iPath a_iData a_iVersion a_iChildVersion a_iCreated a_iSet a_iOwner a_iTimeout a_iLatest a_pKind a_pPath a_pA a_pB a_uEntry a_uSlot a_uData a_uVersion a_uSet a_uChildVersion a_uCreated a_uOwner a_wSession a_wKind a_wPath a_queue a_queued := by
      rcases hN with ⟨e, hn2⟩ | ⟨s, hs, e, ds, ec, hx2, hl⟩
      · exact br_f (by rw [e]; decide) (h _ (Or.inr ⟨rfl, by omega⟩))
      · have := zk_cn1 inj hx hs (q := q) (Or.inr ⟨s, hs, rfl, ds, ec, hx2, hl⟩)
        unfold zk_cn at hr
        omega
    by_cases z : k ≤ n
    · exact br_t (nI_le z (by omega)) fin
    · refine br_f (nI_ge (by omega) (by omega)) ?_
      rcases hN with ⟨e, hn2⟩ | ⟨s, hs, e, ds, ec, hx2, hl⟩
      · exact br_t (by rw [e]; decide) fin
      · have := zk_cn1 inj hx hs (q := q) (Or.inr ⟨s, hs, rfl, ds, ec, hx2, hl⟩)
        unfold zk_cn at hr
        omega
  | succ r ih =>
    intro n x c hx hnk hN hr hn
    rcases hN with ⟨e, hn2⟩ | ⟨s, hs, e, ds, ec, hx2, hl⟩
    · have := zk_cn0 hx (q := q) (path := a_path) (Or.inl ⟨rfl, hn2⟩)
      unfold zk_cn at hr
      omega
    · have h1 := zk_cn1 inj hx hs (q := q) (Or.inr ⟨s, hs, rfl, ds, ec, hx2, hl⟩)
      have h3 : zk_cn a_path q (a_path s).toInt = r := by unfold zk_cn at hr ⊢; omega
      have hcs := nI_clamp (n := s) (by omega)
      by_cases z : k ≤ n
      · refine br_t (nI_le z (by omega)) (br_t (by rw [e]; exact nI_pos' (by omega)) (And.intro (by rw [e]; exact vp_in_nI hs (by decide)) ?_))
        rw [e, hcs]
        exact h _ (Or.inl ⟨s, hs, ds, rfl, ec, by omega⟩)
      · refine br_f (nI_ge (by omega) (by omega)) (br_f (by rw [e]; exact nI_pos (by omega)) (And.intro (by rw [e]; exact vp_in_nI hs (by decide)) (nm_r (e' := a_sibling s) (by rw [e, hcs]) (nm_r (nI_1 n) ?_))))
        have h2 := L s hs ds
        rw [ec] at h2
        exact ih (n + 1) (a_path s).toInt _ (by omega) (by omega) h2 h3 (by omega)
end
end
section
/-! small questions on both sides: outside, isPath, find, many, childrenOf -/
theorem zx_outside {post : Int32 → Prop} {p a b : Int32} (h0 : a ≤ p → p ≤ b → post 0) (h1 : ¬ (a ≤ p ∧ p ≤ b) → post 1) : wpX_outside post p a b := by
  have e00 : (0 : Int32) ||| 0 = 0 := by decide
  have e01 : (0 : Int32) ||| 1 = 1 := by decide
  have e10 : (1 : Int32) ||| 0 = 1 := by decide
  have e11 : (1 : Int32) ||| 1 = 1 := by decide
  refine br_c (fun ha => br_c (fun hb => ?_) (fun hb => ?_)) (fun ha => br_c (fun hb => ?_) (fun hb => ?_))
  · rw [e00]; exact ⟨rfl, h0 ha hb⟩
  · rw [e01]; exact ⟨rfl, h1 (fun z => hb z.2)⟩
  · rw [e10]; exact ⟨rfl, h1 (fun z => ha z.1)⟩
  · rw [e11]; exact ⟨rfl, h1 (fun z => ha z.1)⟩
theorem zx_isPath {post : Int32 → Prop} {p : Int32} (h1 : zp_ok p → post 1) (h0 : ¬ zp_ok p → post 0) : wpX_isPath post p := by
  refine zx_outside (fun ha hb => br_t rfl ?_) (fun hn => br_f (by decide) (h0 fun z => hn ?_))
  · rw [zb_ge0] at ha
    rw [zb_le, show (1030300 : Int32).toInt = 1030300 from by decide] at hb
    obtain ⟨n, hn, rfl, en⟩ := zb_nI ha
    rw [en] at ha hb
    have d1 : nI n / 101 = nI (n / 101) := pk_div hn (d := 101) (by decide) (by decide)
    have r1 : nI n - nI n / 101 * 101 = nI (n % 101) := pk_rem hn (d := 101) (by decide) (by decide)
    have r2 : nI n / 101 - nI n / 101 / 101 * 101 = nI (n / 101 % 101) := by rw [d1]; exact pk_rem (d := 101) (by omega) (by decide) (by decide)
    refine pk_eq n 0 (fun z => h1 ?_) (fun z => And.intro zb_101n ?_)
    · rw [z]; exact zp_0
    · rw [r1]
      refine pk_eq (n % 101) 0 (fun z1 => h0 fun w => ?_) (fun z1 => ?_)
      · unfold zp_ok at w; rw [en] at w; omega
      · refine pk_lt n 101 (fun z2 => h1 ?_) (fun z2 => And.intro zb_101n (And.intro zb_101n ?_))
        · unfold zp_ok; rw [en]; omega
        · rw [r2]
          refine pk_eq (n / 101 % 101) 0 (fun z3 => h0 fun w => ?_) (fun z3 => h1 ?_)
          · unfold zp_ok at w; rw [en] at w; omega
          · unfold zp_ok; rw [en]; omega
  · unfold zp_ok at z
    rw [zb_ge0, zb_le, show (1030300 : Int32).toInt = 1030300 from by decide]
    omega
theorem zy_ip {post : Int32 → Prop} {n j d : Nat} (hn : n < 2 ^ 31) (hj : j < 3) (h0 : n = 0 → post 1) (h1 : 0 < n → n % 101 = 0 → post 0) (h2 : 0 < n → ¬ n % 101 = 0 → wY_isPath_4 post d (nI (n / 101)) (nI (j + 1))) : wY_isPath_4 post (d + 1) (nI n) (nI j) := by
  have d1 : nI n / 101 = nI (n / 101) := pk_div hn (d := 101) (by decide) (by decide)
  have r1 : nI n - nI n / 101 * 101 = nI (n % 101) := pk_rem hn (d := 101) (by decide) (by decide)
  refine pk_le 3 j (fun z => by omega) (fun _ => ?_)
  refine pk_le n 0 (fun z => ?_) (fun z => And.intro zb_101n ?_)
  · refine pk_eq n 0 (fun z2 => h0 z2) (fun z2 => by omega)
  · rw [r1]
    refine pk_eq (n % 101) 0 (fun z1 => h1 z z1) (fun z1 => And.intro zb_101n (nm_r d1 (nm_r (nI_1 j) (h2 z z1))))
theorem zy_isPath {post : Int32 → Prop} {p : Int32} (h1 : zp_ok p → post 1) (h0 : ¬ zp_ok p → post 0) : wpY_isPath post p := by
  refine ⟨4, ?_⟩
  by_cases hp : p.toInt < 0
  · refine br_f (by decide) (br_t (by rw [zb_le, zb_t0]; omega) (br_f (fun e => ?_) (h0 fun w => ?_)))
    · rw [e, zb_t0] at hp; omega
    · have := w.1; omega
  · obtain ⟨n, hn, rfl, en⟩ := zb_nI (x := p) (by omega)
    refine zy_ip (j := 0) hn (by decide) (fun z => h1 ?_) (fun a b => h0 fun w => ?_) (fun a b => ?_)
    · rw [z]; exact zp_0
    · unfold zp_ok at w; rw [en] at w; omega
    · refine zy_ip (j := 1) (by omega) (by decide) (fun z => h1 ?_) (fun a2 b2 => h0 fun w => ?_) (fun a2 b2 => ?_)
      · unfold zp_ok; rw [en]; omega
      · unfold zp_ok at w; rw [en] at w; omega
      · refine zy_ip (j := 2) (by omega) (by decide) (fun z => h1 ?_) (fun a3 b3 => h0 fun w => ?_) (fun a3 b3 => ?_)
        · unfold zp_ok; rw [en]; omega
        · unfold zp_ok at w; rw [en] at w; omega
        · refine pk_le 3 3 (fun _ => ?_) (fun z => by omega)
          refine pk_eq (n / 101 / 101 / 101) 0 (fun z => h1 ?_) (fun z => h0 fun w => ?_)
          · unfold zp_ok; rw [en]; omega
          · unfold zp_ok at w; rw [en] at w; omega
/-- a node in the reference's table -/
def zy_nd (v : Nat → Int32) (k : Nat) : zn_Nd := (v (6 * k), v (6 * k + 1), v (6 * k + 2), v (6 * k + 3), v (6 * k + 4), v (6 * k + 5))
section
variable {g_time g_last g_watchCount g_partCount g_wrong g_changes g_log g_since g_placesLeft : Int32} {b_paths b_values b_open b_timeouts b_deadlines b_events b_eventCounts b_watchers b_watchKinds b_watchPaths b_parts b_happened b_how : Nat → Int32}
theorem zy_find_lp {post : Int32 → Prop} {p : Int32} (h0 : (∀ k, k < 21 → ¬ (b_paths k = p ∧ 0 ≤ p.toInt)) → post (-1)) (h1 : ∀ k, k < 21 → b_paths k = p → 0 ≤ p.toInt → post (nI k)) :
    ∀ d i, i + d = 21 → (∀ j, j < i → ¬ (b_paths j = p ∧ 0 ≤ p.toInt)) → wY_find_2 post p g_time g_last g_watchCount g_partCount g_wrong g_changes g_log g_since g_placesLeft b_paths b_values b_open b_timeouts b_deadlines b_events b_eventCounts b_watchers b_watchKinds b_watchPaths b_parts b_happened b_how (d + 1) (nI i) := by
  intro d
  induction d with
  | zero =>
    intro i hi hj
    have : i = 21 := by omega
    subst this
    exact br_t (by decide) (h0 hj)
  | succ d ih =>
    intro i hi hj
    have hc := nI_clamp (n := i) (by omega)
    refine br_f (nI_ge (b := 21) (by omega) (by decide)) (And.intro (vp_in_nI (by omega) (by decide)) ?_)
    have nxt : ¬ (b_paths i = p ∧ 0 ≤ p.toInt) → wY_find_2 post p g_time g_last g_watchCount g_partCount g_wrong g_changes g_log g_since g_placesLeft b_paths b_values b_open b_timeouts b_deadlines b_events b_eventCounts b_watchers b_watchKinds b_watchPaths b_parts b_happened b_how (d + 1) (nI (i + 1)) := fun hn => ih (i + 1) (by omega) (fun j hj2 => by
      by_cases z : j = i
      · rw [z]; exact hn
      · exact hj j (by omega))
    by_cases e : b_paths i = p
    · refine br_t (by rw [hc]; exact e) ?_
      by_cases hp : p.toInt < 0
      · exact br_t (by rw [zb_lt0]; exact hp) (nm_r (nI_1 i) (nxt (by omega)))
      · exact br_f (by rw [zb_lt0]; exact hp) (h1 i (by omega) e (by omega))
    · exact br_f (by rw [hc]; exact e) (nm_r (nI_1 i) (nxt (fun z => e z.1)))
theorem zy_find {post : Int32 → Prop} {p : Int32} {nd : Nat → zn_Nd} {C : zn_Mp} (R : zr_Rep 21 b_paths nd C) (h0 : C p = none → post (-1)) (h1 : ∀ k, k < 21 → b_paths k = p → 0 ≤ p.toInt → C p = some (nd k) → post (nI k)) : wpY_find post (g_time, g_last, g_watchCount, g_partCount, g_wrong, g_changes, g_log, g_since, g_placesLeft, b_paths, b_values, b_open, b_timeouts, b_deadlines, b_events, b_eventCounts, b_watchers, b_watchKinds, b_watchPaths, b_parts, b_happened, b_how) p := by
  refine ⟨22, zy_find_lp (fun h => h0 (zr_absent R fun s hs hs0 e => h s hs ⟨e, by rw [← e]; exact hs0⟩)) (fun k hk e hp => h1 k hk e hp ?_) 21 0 rfl (fun j hj => by omega)⟩
  rw [← e]; exact R.1 k hk (by rw [e]; exact hp)
theorem zy_many_lp {post : Int32 → Prop} (h : post (nI (zr_n b_paths 21 - 1))) : ∀ d i, i + d = 21 → 1 ≤ i → 1 ≤ zr_n b_paths i → wY_many_4 post g_time g_last g_watchCount g_partCount g_wrong g_changes g_log g_since g_placesLeft b_paths b_values b_open b_timeouts b_deadlines b_events b_eventCounts b_watchers b_watchKinds b_watchPaths b_parts b_happened b_how (d + 1) (nI (zr_n b_paths i - 1)) (nI i) := by
  intro d
  induction d with
  | zero =>
    intro i hi _ _
    have : i = 21 := by omega
    subst this
    exact br_t (by decide) h
  | succ d ih =>
    intro i hi h1 h2
    have hc := nI_clamp (n := i) (by omega)
    have es : zr_n b_paths (i + 1) = zr_n b_paths i + (if zr_oc b_paths (fun _ => true) i = true then 1 else 0) := rfl
    refine br_f (nI_ge (b := 21) (by omega) (by decide)) (And.intro (vp_in_nI (by omega) (by decide)) ?_)
    by_cases c : (b_paths i).toInt < 0
    · rw [zr_oc0.mpr c, if_neg (by decide), Nat.add_zero] at es
      refine br_t (by rw [hc, zb_lt0]; exact c) (nm_r (nI_1 i) ?_)
      have := ih (i + 1) (by omega) (by omega) (by omega)
      rw [es] at this
      exact this
    · rw [zr_oc1.mpr (by omega), if_pos rfl] at es
      refine br_f (by rw [hc, zb_lt0]; exact c) (nm_r (e' := nI (zr_n b_paths (i + 1) - 1)) ?_ (nm_r (nI_1 i) (ih (i + 1) (by omega) (by omega) (by omega))))
      rw [nI_1]; exact congrArg nI (by omega)
theorem zy_many {post : Int32 → Prop} (h0 : b_paths 0 = 0) (h : post (nI (zr_n b_paths 21 - 1))) : wpY_many post (g_time, g_last, g_watchCount, g_partCount, g_wrong, g_changes, g_log, g_since, g_placesLeft, b_paths, b_values, b_open, b_timeouts, b_deadlines, b_events, b_eventCounts, b_watchers, b_watchKinds, b_watchPaths, b_parts, b_happened, b_how) := by
  have e1 : zr_n b_paths 1 = 1 := by
    show 0 + (if zr_oc b_paths (fun _ => true) 0 = true then 1 else 0) = 1
    rw [zr_oc1.mpr (by rw [h0]; decide)]; rfl
  have key : wY_many_4 post g_time g_last g_watchCount g_partCount g_wrong g_changes g_log g_since g_placesLeft b_paths b_values b_open b_timeouts b_deadlines b_events b_eventCounts b_watchers b_watchKinds b_watchPaths b_parts b_happened b_how 21 (nI (zr_n b_paths 1 - 1)) (nI 1) := zy_many_lp h 20 1 rfl (by omega) (by omega)
  rw [e1] at key
  exact Exists.intro 21 key
theorem zy_kids_lp {post : Int32 → Prop} {q : Int32} (h0 : b_paths 0 = 0) (inj : ∀ s s', s < 21 → s' < 21 → 0 ≤ (b_paths s).toInt → b_paths s = b_paths s' → s = s') (h : post (nI (zc_cnt (zr_oc b_paths (zk_P q 0)) 21))) :
    ∀ d i, i + d = 21 → 1 ≤ i → wY_childrenOf_4 post q g_time g_last g_watchCount g_partCount g_wrong g_changes g_log g_since g_placesLeft b_paths b_values b_open b_timeouts b_deadlines b_events b_eventCounts b_watchers b_watchKinds b_watchPaths b_parts b_happened b_how (d + 1) (nI (zc_cnt (zr_oc b_paths (zk_P q 0)) i)) (nI i) := by
  intro d
  induction d with
  | zero =>
    intro i hi _
    have : i = 21 := by omega
    subst this
    exact br_t (by decide) h
  | succ d ih =>
    intro i hi h1
    have hc := nI_clamp (n := i) (by omega)
    have es : zc_cnt (zr_oc b_paths (zk_P q 0)) (i + 1) = zc_cnt (zr_oc b_paths (zk_P q 0)) i + (if zr_oc b_paths (zk_P q 0) i = true then 1 else 0) := rfl
    refine br_f (nI_ge (b := 21) (by omega) (by decide)) (And.intro (vp_in_nI (by omega) (by decide)) ?_)
    have ihi := ih (i + 1) (by omega) (by omega)
    by_cases c : (b_paths i).toInt < 0
    · rw [if_neg (by rw [zr_oc_t]; omega), Nat.add_zero] at es
      refine br_t (by rw [hc, zb_lt0]; exact c) (nm_r (nI_1 i) ?_)
      rw [es] at ihi
      exact ihi
    · have hpos : 0 < (b_paths i).toInt := by
        rcases Int.lt_or_eq_of_le (show 0 ≤ (b_paths i).toInt by omega) with z | z
        · exact z
        · have := inj i 0 (by omega) (by omega) (by omega) (by rw [h0]; exact zb_inj (by rw [← z, zb_t0]))
          omega
      refine br_f (by rw [hc, zb_lt0]; exact c) (And.intro (vp_in_nI (by omega) (by decide)) (And.intro zb_101n ?_))
      by_cases e : b_paths i / 101 = q
      · rw [if_pos (by rw [zr_oc_t, zk_P_t]; exact ⟨by omega, e, hpos⟩)] at es
        refine br_t (by rw [hc]; exact e) (nm_r (e' := nI (zc_cnt (zr_oc b_paths (zk_P q 0)) (i + 1))) ?_ (nm_r (nI_1 i) ihi))
        rw [es, nI_1]
      · rw [if_neg (by rw [zr_oc_t, zk_P_t]; exact fun z => e z.2.1), Nat.add_zero] at es
        rw [es] at ihi
        exact br_f (by rw [hc]; exact e) (nm_r (nI_1 i) ihi)
theorem zy_kids {post : Int32 → Prop} {q : Int32} (h0 : b_paths 0 = 0) (inj : ∀ s s', s < 21 → s' < 21 → 0 ≤ (b_paths s).toInt → b_paths s = b_paths s' → s = s') (h : post (nI (zc_cnt (zr_oc b_paths (zk_P q 0)) 21))) :
    wpY_childrenOf post (g_time, g_last, g_watchCount, g_partCount, g_wrong, g_changes, g_log, g_since, g_placesLeft, b_paths, b_values, b_open, b_timeouts, b_deadlines, b_events, b_eventCounts, b_watchers, b_watchKinds, b_watchPaths, b_parts, b_happened, b_how) q := by
  have e1 : zc_cnt (zr_oc b_paths (zk_P q 0)) 1 = 0 := by
    show 0 + (if zr_oc b_paths (zk_P q 0) 0 = true then 1 else 0) = 0
    rw [if_neg]
    rw [zr_oc_t, zk_P_t, h0, zb_t0]; omega
  have key : wY_childrenOf_4 post q g_time g_last g_watchCount g_partCount g_wrong g_changes g_log g_since g_placesLeft b_paths b_values b_open b_timeouts b_deadlines b_events b_eventCounts b_watchers b_watchKinds b_watchPaths b_parts b_happened b_how 21 (nI (zc_cnt (zr_oc b_paths (zk_P q 0)) 1)) (nI 1) := zy_kids_lp h0 inj h 20 1 rfl (by omega)
  rw [e1] at key
  exact Exists.intro 21 key
end
end
section
/-! watches as one list; events -/
abbrev zw_E : Type := Int32 × Int32 × Int32
/-- session, kind, path; from place b on -/
def zw_at (ws wk wp : Nat → Int32) : Nat → List zw_E → Prop
  | _, [] => True
  | b, e :: L => e = (ws b, wk b, wp b) ∧ zw_at ws wk wp (b + 1) L
theorem zw_at_cg {ws wk wp ws' wk' wp' : Nat → Int32} : ∀ {L : List zw_E} {b : Nat}, zw_at ws wk wp b L → (∀ i, b ≤ i → i < b + L.length → ws' i = ws i ∧ wk' i = wk i ∧ wp' i = wp i) → zw_at ws' wk' wp' b L
  | [], _, _, _ => trivial
  | e :: L, b, h, hc => by
    obtain ⟨c1, c2, c3⟩ := hc b (Nat.le_refl b) (by rw [List.length_cons]; omega)
    refine ⟨by rw [c1, c2, c3]; exact h.1, zw_at_cg h.2 (fun i h1 h2 => hc i (by omega) (by rw [List.length_cons]; omega))⟩
theorem zw_at_snoc {ws wk wp : Nat → Int32} {e : zw_E} : ∀ {L : List zw_E} {b : Nat}, zw_at ws wk wp b L → e = (ws (b + L.length), wk (b + L.length), wp (b + L.length)) → zw_at ws wk wp b (L ++ [e])
  | [], b, _, h => ⟨h, trivial⟩
  | x :: L, b, h, he => by
    refine ⟨h.1, zw_at_snoc h.2 ?_⟩
    rw [List.length_cons, show b + (L.length + 1) = b + 1 + L.length from by omega] at he
    exact he
theorem zw_at_get {ws wk wp : Nat → Int32} : ∀ {L : List zw_E} {b i : Nat}, zw_at ws wk wp b L → i < L.length → (ws (b + i), wk (b + i), wp (b + i)) ∈ L
  | [], b, i, _, h => by exact absurd h (Nat.not_lt_zero i)
  | x :: L, b, 0, h, _ => by rw [Nat.add_zero, ← h.1]; exact List.mem_cons_self
  | x :: L, b, i + 1, h, hi => by
    have := zw_at_get (i := i) h.2 (by rw [List.length_cons] at hi; omega)
    rw [show b + 1 + i = b + (i + 1) from by omega] at this
    exact List.mem_cons_of_mem _ this
/-- the ranges -/
def zw_ok (W : List zw_E) : Prop := ∀ e, e ∈ W → (∃ s, s < 4 ∧ e.1 = nI s) ∧ (∃ k, k < 3 ∧ e.2.1 = nI k)
def zw_m (p kinds : Int32) (e : zw_E) : Bool := decide (e.2.2 = p) && decide (¬ ((kinds >>> (e.2.1 &&& 31)) &&& 1) = 0)
theorem zw_m_t {p kinds : Int32} {e : zw_E} : zw_m p kinds e = true ↔ e.2.2 = p ∧ ¬ ((kinds >>> (e.2.1 &&& 31)) &&& 1) = 0 := by
  unfold zw_m; rw [Bool.and_eq_true, decide_eq_true_eq, decide_eq_true_eq]
/-- the events of one happening, sessions below n -/
def zw_q (b : Nat → Bool) (v : Int32) (q qd : Nat → Int32) : Nat → (Nat → Int32) × (Nat → Int32)
  | 0 => (q, qd)
  | s + 1 => if b s = true ∧ ((zw_q b v q qd s).2 s).toInt < 8 then
      (upd (zw_q b v q qd s).1 (8 * s + ((zw_q b v q qd s).2 s).toInt.toNat) v, upd (zw_q b v q qd s).2 s ((zw_q b v q qd s).2 s + 1)) else zw_q b v q qd s
/-- every session's count is at most 8 -/
def zw_qok (qd : Nat → Int32) : Prop := ∀ s, s < 4 → 0 ≤ (qd s).toInt ∧ (qd s).toInt ≤ 8
theorem zw_q_ok {b : Nat → Bool} {v : Int32} {q qd : Nat → Int32} (h : zw_qok qd) : ∀ n, zw_qok (zw_q b v q qd n).2
  | 0 => h
  | s + 1 => by
    have ih := zw_q_ok (b := b) (v := v) (q := q) h s
    unfold zw_q
    by_cases c : b s = true ∧ ((zw_q b v q qd s).2 s).toInt < 8
    · rw [if_pos c]
      intro j hj
      by_cases z : j = s
      · have := ih j hj
        rw [z] at this
        show 0 ≤ (upd (zw_q b v q qd s).2 s _ j).toInt ∧ (upd (zw_q b v q qd s).2 s _ j).toInt ≤ 8
        rw [z, pk_us, zb_add (by rw [show (1 : Int32).toInt = 1 from by decide]; omega) (by rw [show (1 : Int32).toInt = 1 from by decide]; omega), show (1 : Int32).toInt = 1 from by decide]
        omega
      · show 0 ≤ (upd (zw_q b v q qd s).2 s _ j).toInt ∧ (upd (zw_q b v q qd s).2 s _ j).toInt ≤ 8
        rw [pk_un z]; exact ih j hj
    · rw [if_neg c]; exact ih
theorem zw_q_cg {b b' : Nat → Bool} {v : Int32} {q qd : Nat → Int32} : ∀ {n : Nat}, (∀ s, s < n → b s = b' s) → zw_q b v q qd n = zw_q b' v q qd n
  | 0, _ => rfl
  | s + 1, h => by
    unfold zw_q
    rw [zw_q_cg (n := s) (fun j hj => h j (by omega)), h s (by omega)]
/-- one happening -/
def zw_hap (p kinds what : Int32) (W : List zw_E) (q qd : Nat → Int32) : List zw_E × (Nat → Int32) × (Nat → Int32) :=
  (W.filter (fun e => !zw_m p kinds e), zw_q (fun s => W.any (fun e => zw_m p kinds e && decide (e.1 = nI s))) (p + (what <<< ((21 : Int32) &&& 31))) q qd 4)
theorem zw_bits : ∀ m, m < 16 → ∀ s, s < 4 → (nI m ||| ((1 : Int32) <<< (nI s &&& 31)) = nI (m ||| 2 ^ s) ∧ m ||| 2 ^ s < 16 ∧ (((nI m >>> (nI s &&& 31)) &&& 1) = 0 ↔ m.testBit s = false)) := by decide +kernel
theorem zw_tb : ∀ m, m < 16 → ∀ s, s < 4 → ∀ j, j < 4 → (m ||| 2 ^ s).testBit j = (m.testBit j || decide (j = s)) := by decide +kernel
section
variable {f_nodes f_time f_latest f_entries f_logged f_complete f_taken f_sinceEntry f_sinceCount f_parts f_wrongPart f_watches : Int32} {a_path a_data a_version a_childVersion a_created a_setAt a_owner a_firstChild a_sibling a_bucket a_open a_timeout a_deadline a_eKind a_ePath a_eData a_eOwner a_eVersion a_eNumber a_iPath a_iData a_iVersion a_iChildVersion a_iCreated a_iSet a_iOwner a_iTimeout a_iLatest a_pKind a_pPath a_pA a_pB a_uEntry a_uSlot a_uData a_uVersion a_uSet a_uChildVersion a_uCreated a_uOwner a_wSession a_wKind a_wPath a_queue a_queued : Nat → Int32}
theorem zx_hap98 {post : SX → Prop} {p kinds what : Int32} {t : Nat} (ht : t < 16) {q qd : Nat → Int32} (hq : zw_qok qd)
    (h : post (f_nodes, f_time, f_latest, f_entries, f_logged, f_complete, f_taken, f_sinceEntry, f_sinceCount, f_parts, f_wrongPart, f_watches, a_path, a_data, a_version, a_childVersion, a_created, a_setAt, a_owner, a_firstChild, a_sibling, a_bucket, a_open, a_timeout, a_deadline, a_eKind, a_ePath, a_eData, a_eOwner, a_eVersion, a_eNumber, a_iPath, a_iData, a_iVersion, a_iChildVersion, a_iCreated, a_iSet, a_iOwner, a_iTimeout, a_iLatest, a_pKind, a_pPath, a_pA, a_pB, a_uEntry, a_uSlot, a_uData, a_uVersion, a_uSet, a_uChildVersion, a_uCreated, a_uOwner, a_wSession, a_wKind, a_wPath, (zw_q (fun s => t.testBit s) (p + (what <<< ((21 : Int32) &&& 31))) q qd 4).1, (zw_q (fun s => t.testBit s) (p + (what <<< ((21 : Int32) &&& 31))) q qd 4).2)) :
    ∀ d s, s + d = 4 → wX_happens_98 post p what (nI t) f_nodes f_time f_latest f_entries f_logged f_complete f_taken f_sinceEntry f_sinceCount f_parts f_wrongPart f_watches (d + 1) (nI s) a_path a_data a_version a_childVersion a_created a_setAt a_owner a_firstChild a_sibling a_bucket a_open a_timeout a_deadline a_eKind a_ePath a_eData a_eOwner a_eVersion a_eNumber a_iPath a_iData a_iVersion a_iChildVersion a_iCreated a_iSet a_iOwner a_iTimeout a_iLatest a_pKind a_pPath a_pA a_pB a_uEntry a_uSlot a_uData a_uVersion a_uSet a_uChildVersion a_uCreated a_uOwner a_wSession a_wKind a_wPath ((zw_q (fun s => t.testBit s) (p + (what <<< ((21 : Int32) &&& 31))) q qd s).1) ((zw_q (fun s => t.testBit s) (p + (what <<< ((21 : Int32) &&& 31))) q qd s).2) := by
  intro d
  induction d with
  | zero =>
    intro s hs
    have : s = 4 := by omega
    subst this
    exact br_t (by decide) h
  | succ d ih =>
    intro s hs
    have hc := nI_clamp (n := s) (by omega)
    have hb := (zw_bits t ht s (by omega)).2.2
    have ok := zw_q_ok (b := fun s => t.testBit s) (v := p + (what <<< ((21 : Int32) &&& 31))) (q := q) hq s s (by omega)
    have ihs := ih (s + 1) (by omega)
    have es : zw_q (fun s => t.testBit s) (p + (what <<< ((21 : Int32) &&& 31))) q qd (s + 1) = if (fun s => t.testBit s) s = true ∧ ((zw_q (fun s => t.testBit s) (p + (what <<< ((21 : Int32) &&& 31))) q qd s).2 s).toInt < 8 then
      (upd (zw_q (fun s => t.testBit s) (p + (what <<< ((21 : Int32) &&& 31))) q qd s).1 (8 * s + ((zw_q (fun s => t.testBit s) (p + (what <<< ((21 : Int32) &&& 31))) q qd s).2 s).toInt.toNat) (p + (what <<< ((21 : Int32) &&& 31))), upd (zw_q (fun s => t.testBit s) (p + (what <<< ((21 : Int32) &&& 31))) q qd s).2 s ((zw_q (fun s => t.testBit s) (p + (what <<< ((21 : Int32) &&& 31))) q qd s).2 s + 1)) else zw_q (fun s => t.testBit s) (p + (what <<< ((21 : Int32) &&& 31))) q qd s := rfl
    refine br_f (nI_ge (b := 4) (by omega) (by decide)) ?_
    generalize zw_q (fun s => t.testBit s) (p + (what <<< ((21 : Int32) &&& 31))) q qd s = r at *
    by_cases c : t.testBit s = false
    · rw [if_neg (fun z => absurd z.1 (by show ¬ t.testBit s = true; rw [c]; decide))] at es
      rw [es] at ihs
      exact br_t (hb.mpr c) (nm_r (nI_1 s) ihs)
    · refine br_f (fun z => c (hb.mp z)) (And.intro (vp_in_nI (by omega) (by decide)) ?_)
      by_cases c8 : (r.2 s).toInt < 8
      · rw [if_pos ⟨by simpa using c, c8⟩] at es
        rw [es] at ihs
        obtain ⟨m, hm, em, em2⟩ := zb_nI ok.1
        refine br_f (by rw [hc, zb_le, show (8 : Int32).toInt = 8 from by decide]; omega) (And.intro (vp_in_nI (by omega) (by decide)) ?_)
        refine zz_st rfl (by omega) (by decide) (v' := r.2 s + 1) ?_ ?_
        · rw [hc, em, nI_1]; exact zb_narN2 (by omega)
        · refine zz_st (k := 8 * s + (r.2 s).toInt.toNat) ?_ (by omega) (by decide) rfl (nm_r (nI_1 s) ihs)
          rw [hc, em, show (8 : Int32) = nI 8 from rfl, pk_mul, nI_add, nI_toInt (by omega)]
          rfl
      · rw [if_neg (fun z => c8 z.2)] at es
        rw [es] at ihs
        exact br_t (by rw [hc, zb_le, show (8 : Int32).toInt = 8 from by decide]; omega) (nm_r (nI_1 s) ihs)
theorem zx_keepW {post : SX → Prop} {k n : Nat} (hk : k < 16) (hn : n < 16) (h1 : vp_nar .byte (a_wSession k) = a_wSession k) (h2 : vp_nar .byte (a_wKind k) = a_wKind k)
    (h : post (f_nodes, f_time, f_latest, f_entries, f_logged, f_complete, f_taken, f_sinceEntry, f_sinceCount, f_parts, f_wrongPart, f_watches, a_path, a_data, a_version, a_childVersion, a_created, a_setAt, a_owner, a_firstChild, a_sibling, a_bucket, a_open, a_timeout, a_deadline, a_eKind, a_ePath, a_eData, a_eOwner, a_eVersion, a_eNumber, a_iPath, a_iData, a_iVersion, a_iChildVersion, a_iCreated, a_iSet, a_iOwner, a_iTimeout, a_iLatest, a_pKind, a_pPath, a_pA, a_pB, a_uEntry, a_uSlot, a_uData, a_uVersion, a_uSet, a_uChildVersion, a_uCreated, a_uOwner, upd a_wSession n (a_wSession k), upd a_wKind n (a_wKind k), upd a_wPath n (a_wPath k), a_queue, a_queued)) : wpX_keepWatch post (f_nodes, f_time, f_latest, f_entries, f_logged, f_complete, f_taken, f_sinceEntry, f_sinceCount, f_parts, f_wrongPart, f_watches, a_path, a_data, a_version, a_childVersion, a_created, a_setAt, a_owner, a_firstChild, a_sibling, a_bucket, a_open, a_timeout, a_deadline, a_eKind, a_ePath, a_eData, a_eOwner, a_eVersion, a_eNumber, a_iPath, a_iData, a_iVersion, a_iChildVersion, a_iCreated, a_iSet, a_iOwner, a_iTimeout, a_iLatest, a_pKind, a_pPath, a_pA, a_pB, a_uEntry, a_uSlot, a_uData, a_uVersion, a_uSet, a_uChildVersion, a_uCreated, a_uOwner, a_wSession, a_wKind, a_wPath, a_queue, a_queued) (nI k) (nI n) := by
  have hc := nI_clamp (n := k) (by omega)
  refine zz_in rfl hk (by decide) (zz_st rfl hn (by decide) (v' := a_wSession k) (by rw [hc]; exact h1) ?_)
  refine zz_in rfl hk (by decide) (zz_st rfl hn (by decide) (v' := a_wKind k) (by rw [hc]; exact h2) ?_)
  refine zz_in rfl hk (by decide) (zz_st rfl hn (by decide) (v' := a_wPath k) (by rw [hc]) ?_)
  exact h
/-- the arrays hold the list -/
def zw_R (n : Int32) (ws wk wp : Nat → Int32) (W : List zw_E) : Prop := n = nI W.length ∧ W.length ≤ 16 ∧ zw_at ws wk wp 0 W ∧ zw_ok W
theorem zx_hap9 {post : SX → Prop} {p kinds what : Int32} {W : List zw_E} (hW : W.length ≤ 16) (ok : zw_ok W) (hq : zw_qok a_queued)
    (h : ∀ (n : Int32) (ws wk wp : Nat → Int32), zw_R n ws wk wp (zw_hap p kinds what W a_queue a_queued).1 →
      post (f_nodes, f_time, f_latest, f_entries, f_logged, f_complete, f_taken, f_sinceEntry, f_sinceCount, f_parts, f_wrongPart, n, a_path, a_data, a_version, a_childVersion, a_created, a_setAt, a_owner, a_firstChild, a_sibling, a_bucket, a_open, a_timeout, a_deadline, a_eKind, a_ePath, a_eData, a_eOwner, a_eVersion, a_eNumber, a_iPath, a_iData, a_iVersion, a_iChildVersion, a_iCreated, a_iSet, a_iOwner, a_iTimeout, a_iLatest, a_pKind, a_pPath, a_pA, a_pB, a_uEntry, a_uSlot, a_uData, a_uVersion, a_uSet, a_uChildVersion, a_uCreated, a_uOwner, ws, wk, wp, (zw_hap p kinds what W a_queue a_queued).2.1, (zw_hap p kinds what W a_queue a_queued).2.2)) :
    ∀ (L D : List zw_E) (t : Nat) (ws wk wp : Nat → Int32), W = D ++ L → zw_at ws wk wp 0 (D.filter (fun e => !zw_m p kinds e)) → zw_at ws wk wp D.length L → t < 16 →
      (∀ s, s < 4 → t.testBit s = D.any (fun e => zw_m p kinds e && decide (e.1 = nI s))) →
      wX_happens_9 post p kinds what (L.length + 1) (nI t) (nI (D.filter (fun e => !zw_m p kinds e)).length) (nI D.length) f_nodes f_time f_latest f_entries f_logged f_complete f_taken f_sinceEntry f_sinceCount f_parts f_wrongPart (nI W.length) a_path a_data a_version a_childVersion a_created a_setAt a_owner a_firstChild a_sibling a_bucket a_open a_timeout a_deadline a_eKind a_ePath a_eData a_eOwner a_eVersion a_eNumber a_iPath a_iData a_iVersion a_iChildVersion a_iCreated a_iSet a_iOwner a_iTimeout a_iLatest a_pKind a_pPath a_pA a_pB a_uEntry a_uSlot a_uData a_uVersion a_uSet a_uChildVersion a_uCreated a_uOwner ws wk wp a_queue a_queued := by
  intro L
  induction L with
  | nil =>
    intro D t ws wk wp hD h1 h2 ht hb
    rw [List.append_nil] at hD
    subst hD
    refine br_t (nI_le (Nat.le_refl _) (by omega)) ⟨5, ?_⟩
    have e : zw_q (fun s => t.testBit s) (p + (what <<< ((21 : Int32) &&& 31))) a_queue a_queued 4 = (zw_hap p kinds what W a_queue a_queued).2 := zw_q_cg hb
    refine zx_hap98 (kinds := kinds) ht hq ?_ 4 0 rfl
    rw [e]
    refine h _ ws wk wp ⟨rfl, ?_, h1, fun x hx => ok x (List.mem_filter.mp hx).1⟩
    exact Nat.le_trans (List.length_filter_le _ _) hW
  | cons e L ih =>
    intro D t ws wk wp hD h1 h2 ht hb
    have hlen : W.length = D.length + (L.length + 1) := by rw [hD, List.length_append, List.length_cons]
    have hfl := List.length_filter_le (fun e => !zw_m p kinds e) D
    have hc := nI_clamp (n := D.length) (by omega)
    obtain ⟨he, h3⟩ := h2
    have hmem : e ∈ W := by rw [hD]; exact List.mem_append_right _ List.mem_cons_self
    obtain ⟨⟨s, hs, es⟩, ⟨kd, hkd, ek⟩⟩ := ok e hmem
    have e1 : ws D.length = nI s := by rw [← es, he]
    have e2 : wk D.length = nI kd := by rw [← ek, he]
    have ihn := ih (D ++ [e])
    rw [List.length_append, List.length_singleton, List.filter_append] at ihn
    refine br_f (nI_ge (by omega) (by omega)) (And.intro (vp_in_nI (by omega) (by decide)) ?_)
    have keep : zw_m p kinds e = false → wX_happens_48 post (wX_happens_9 post p kinds what (L.length + 1)) p kinds what (nI t) (nI (D.filter (fun e => !zw_m p kinds e)).length) (nI D.length) 0 f_nodes f_time f_latest f_entries f_logged f_complete f_taken f_sinceEntry f_sinceCount f_parts f_wrongPart (nI W.length) a_path a_data a_version a_childVersion a_created a_setAt a_owner a_firstChild a_sibling a_bucket a_open a_timeout a_deadline a_eKind a_ePath a_eData a_eOwner a_eVersion a_eNumber a_iPath a_iData a_iVersion a_iChildVersion a_iCreated a_iSet a_iOwner a_iTimeout a_iLatest a_pKind a_pPath a_pA a_pB a_uEntry a_uSlot a_uData a_uVersion a_uSet a_uChildVersion a_uCreated a_uOwner ws wk wp a_queue a_queued := by
      intro hm
      refine br_t rfl (nm_r (nI_1 _) ?_)
      refine zx_keepW (by omega) (by omega) (by rw [e1]; exact zb_narN (by omega)) (by rw [e2]; exact zb_narN (by omega)) ?_
      refine nm_r (nI_1 _) ?_
      have ef : List.filter (fun e => !zw_m p kinds e) [e] = [e] := by simp [hm]
      have := ihn t (upd ws (D.filter (fun e => !zw_m p kinds e)).length (ws D.length)) (upd wk (D.filter (fun e => !zw_m p kinds e)).length (wk D.length)) (upd wp (D.filter (fun e => !zw_m p kinds e)).length (wp D.length))
        (by rw [hD, List.append_assoc]; rfl) (by
          rw [ef]
          refine zw_at_snoc (zw_at_cg h1 fun i _ hi => ?_) ?_
          · rw [pk_un (by omega), pk_un (by omega), pk_un (by omega)]; exact ⟨rfl, rfl, rfl⟩
          · rw [Nat.zero_add, pk_us, pk_us, pk_us]; exact he)
        (zw_at_cg h3 fun i hi _ => by rw [pk_un (by omega), pk_un (by omega), pk_un (by omega)]; exact ⟨rfl, rfl, rfl⟩) ht
        (fun j hj => by rw [List.any_append, hb j hj]; simp [hm])
      rw [ef, List.length_append, List.length_singleton] at this
      exact this
    by_cases c1 : wp D.length = p
    · refine br_t (by rw [hc]; exact c1) (And.intro (vp_in_nI (by omega) (by decide)) ?_)
      by_cases c2 : ((kinds >>> (wk D.length &&& 31)) &&& 1) = 0
      · refine br_t (by rw [hc]; exact c2) (keep ?_)
        rw [← Bool.not_eq_true, zw_m_t, he]
        exact fun z => z.2 c2
      · refine br_f (by rw [hc]; exact c2) (br_f (by decide) (And.intro (vp_in_nI (by omega) (by decide)) ?_))
        have hm : zw_m p kinds e = true := by rw [zw_m_t, he]; exact ⟨c1, c2⟩
        obtain ⟨b1, b2, _⟩ := zw_bits t ht s hs
        refine nm_r (e' := nI (t ||| 2 ^ s)) (by rw [hc, e1]; exact b1) (nm_r (nI_1 _) ?_)
        have ef : List.filter (fun e => !zw_m p kinds e) [e] = [] := by simp [hm]
        have := ihn (t ||| 2 ^ s) ws wk wp (by rw [hD, List.append_assoc]; rfl) (by rw [ef, List.append_nil]; exact h1) h3 b2
          (fun j hj => by
            rw [List.any_append, ← hb j hj, zw_tb t ht s hs j hj]
            simp only [List.any_cons, List.any_nil, hm, Bool.true_and, Bool.or_false]
            congr 1
            rw [es, decide_eq_decide]
            exact ⟨fun z => by rw [z], fun z => ((nI_eq (by omega) (by omega)).mp z).symm⟩)
        rw [ef, List.append_nil] at this
        exact this
    · refine br_f (by rw [hc]; exact c1) (keep ?_)
      rw [← Bool.not_eq_true, zw_m_t, he]
      exact fun z => c1 z.1
theorem zx_happens {post : SX → Prop} {p kinds what : Int32} {W : List zw_E} (R : zw_R f_watches a_wSession a_wKind a_wPath W) (hq : zw_qok a_queued)
    (h : ∀ (n : Int32) (ws wk wp : Nat → Int32), zw_R n ws wk wp (zw_hap p kinds what W a_queue a_queued).1 →
      post (f_nodes, f_time, f_latest, f_entries, f_logged, f_complete, f_taken, f_sinceEntry, f_sinceCount, f_parts, f_wrongPart, n, a_path, a_data, a_version, a_childVersion, a_created, a_setAt, a_owner, a_firstChild, a_sibling, a_bucket, a_open, a_timeout, a_deadline, a_eKind, a_ePath, a_eData, a_eOwner, a_eVersion, a_eNumber, a_iPath, a_iData, a_iVersion, a_iChildVersion, a_iCreated, a_iSet, a_iOwner, a_iTimeout, a_iLatest, a_pKind, a_pPath, a_pA, a_pB, a_uEntry, a_uSlot, a_uData, a_uVersion, a_uSet, a_uChildVersion, a_uCreated, a_uOwner, ws, wk, wp, (zw_hap p kinds what W a_queue a_queued).2.1, (zw_hap p kinds what W a_queue a_queued).2.2)) : wpX_happens post (f_nodes, f_time, f_latest, f_entries, f_logged, f_complete, f_taken, f_sinceEntry, f_sinceCount, f_parts, f_wrongPart, f_watches, a_path, a_data, a_version, a_childVersion, a_created, a_setAt, a_owner, a_firstChild, a_sibling, a_bucket, a_open, a_timeout, a_deadline, a_eKind, a_ePath, a_eData, a_eOwner, a_eVersion, a_eNumber, a_iPath, a_iData, a_iVersion, a_iChildVersion, a_iCreated, a_iSet, a_iOwner, a_iTimeout, a_iLatest, a_pKind, a_pPath, a_pA, a_pB, a_uEntry, a_uSlot, a_uData, a_uVersion, a_uSet, a_uChildVersion, a_uCreated, a_uOwner, a_wSession, a_wKind, a_wPath, a_queue, a_queued) p kinds what := by
  obtain ⟨rfl, hl, ha, ok⟩ := R
  exact ⟨W.length + 1, zx_hap9 hl ok hq h W [] 0 _ _ _ rfl trivial ha (by decide) (fun s _ => by simp)⟩
end
/-- the watches and the events together -/
abbrev zw_S : Type := List zw_E × (Nat → Int32) × (Nat → Int32)
def zw_h (p kinds what : Int32) (S : zw_S) : zw_S := zw_hap p kinds what S.1 S.2.1 S.2.2
/-- what an entry tells -/
def zw_tell (kind p : Int32) (S : zw_S) : zw_S :=
  if kind = 1 then zw_h (p / 101) 2 4 (zw_h p 4 1 S) else if kind = 2 then zw_h p 5 3 S else if kind = 3 then zw_h (p / 101) 2 4 (zw_h p 7 2 S) else S
def zw_tells (ek ep : Nat → Int32) : Nat → Nat → zw_S → zw_S
  | _, 0, S => S
  | b, n + 1, S => zw_tells ek ep (b + 1) n (zw_tell (ek b) (ep b) S)
/-- what is true of watches and events -/
def zw_X (n : Int32) (ws wk wp q qd : Nat → Int32) (S : zw_S) : Prop := zw_R n ws wk wp S.1 ∧ q = S.2.1 ∧ qd = S.2.2 ∧ zw_qok S.2.2
theorem zw_h_ok {p kinds what : Int32} {S : zw_S} (h : zw_qok S.2.2) : zw_qok (zw_h p kinds what S).2.2 := zw_q_ok h 4
theorem zw_tells_snoc (ek ep : Nat → Int32) : ∀ (n b : Nat) (S : zw_S), zw_tells ek ep b (n + 1) S = zw_tell (ek (b + n)) (ep (b + n)) (zw_tells ek ep b n S)
  | 0, b, S => rfl
  | n + 1, b, S => by
    show zw_tells ek ep (b + 1) (n + 1) _ = _
    rw [zw_tells_snoc ek ep n (b + 1)]
    rw [show b + 1 + n = b + (n + 1) from by omega]
    rfl
theorem zw_tells_cg {ek ep ek' ep' : Nat → Int32} : ∀ {n b b' : Nat} {S : zw_S}, (∀ j, j < n → ek (b + j) = ek' (b' + j) ∧ ep (b + j) = ep' (b' + j)) → zw_tells ek ep b n S = zw_tells ek' ep' b' n S
  | 0, _, _, _, _ => rfl
  | n + 1, b, b', S, h => by
    have h0 := h 0 (by omega)
    rw [Nat.add_zero, Nat.add_zero] at h0
    show zw_tells ek ep (b + 1) n _ = zw_tells ek' ep' (b' + 1) n _
    rw [h0.1, h0.2]
    refine zw_tells_cg (fun j hj => ?_)
    have := h (j + 1) (by omega)
    rw [show b + (j + 1) = b + 1 + j from by omega, show b' + (j + 1) = b' + 1 + j from by omega] at this
    exact this
section
variable {f_nodes f_time f_latest f_entries f_logged f_complete f_taken f_sinceEntry f_sinceCount f_parts f_wrongPart f_watches : Int32} {a_path a_data a_version a_childVersion a_created a_setAt a_owner a_firstChild a_sibling a_bucket a_open a_timeout a_deadline a_eKind a_ePath a_eData a_eOwner a_eVersion a_eNumber a_iPath a_iData a_iVersion a_iChildVersion a_iCreated a_iSet a_iOwner a_iTimeout a_iLatest a_pKind a_pPath a_pA a_pB a_uEntry a_uSlot a_uData a_uVersion a_uSet a_uChildVersion a_uCreated a_uOwner a_wSession a_wKind a_wPath a_queue a_queued : Nat → Int32}
theorem zx_hap {post : SX → Prop} {p kinds what : Int32} {S : zw_S} (R : zw_X f_watches a_wSession a_wKind a_wPath a_queue a_queued S)
    (h : ∀ (f_watches1 : Int32) (a_wSession1 a_wKind1 a_wPath1 a_queue1 a_queued1 : Nat → Int32), zw_X f_watches1 a_wSession1 a_wKind1 a_wPath1 a_queue1 a_queued1 (zw_h p kinds what S) → post (f_nodes, f_time, f_latest, f_entries, f_logged, f_complete, f_taken, f_sinceEntry, f_sinceCount, f_parts, f_wrongPart, f_watches1, a_path, a_data, a_version, a_childVersion, a_created, a_setAt, a_owner, a_firstChild, a_sibling, a_bucket, a_open, a_timeout, a_deadline, a_eKind, a_ePath, a_eData, a_eOwner, a_eVersion, a_eNumber, a_iPath, a_iData, a_iVersion, a_iChildVersion, a_iCreated, a_iSet, a_iOwner, a_iTimeout, a_iLatest, a_pKind, a_pPath, a_pA, a_pB, a_uEntry, a_uSlot, a_uData, a_uVersion, a_uSet, a_uChildVersion, a_uCreated, a_uOwner, a_wSession1, a_wKind1, a_wPath1, a_queue1, a_queued1)) : wpX_happens post (f_nodes, f_time, f_latest, f_entries, f_logged, f_complete, f_taken, f_sinceEntry, f_sinceCount, f_parts, f_wrongPart, f_watches, a_path, a_data, a_version, a_childVersion, a_created, a_setAt, a_owner, a_firstChild, a_sibling, a_bucket, a_open, a_timeout, a_deadline, a_eKind, a_ePath, a_eData, a_eOwner, a_eVersion, a_eNumber, a_iPath, a_iData, a_iVersion, a_iChildVersion, a_iCreated, a_iSet, a_iOwner, a_iTimeout, a_iLatest, a_pKind, a_pPath, a_pA, a_pB, a_uEntry, a_uSlot, a_uData, a_uVersion, a_uSet, a_uChildVersion, a_uCreated, a_uOwner, a_wSession, a_wKind, a_wPath, a_queue, a_queued) p kinds what := by
  obtain ⟨W, q, qd⟩ := S
  obtain ⟨R, rfl, rfl, hq⟩ := R
  exact zx_happens R hq (fun n ws wk wp R2 => h n ws wk wp _ _ ⟨R2, rfl, rfl, zw_h_ok (S := (W, _, _)) hq⟩)
theorem zx_tell {post : SX → Prop} {S : zw_S} {k : Nat} (hk : k < 400) (R : zw_X f_watches a_wSession a_wKind a_wPath a_queue a_queued S) (h : ∀ (f_watches1 : Int32) (a_wSession1 a_wKind1 a_wPath1 a_queue1 a_queued1 : Nat → Int32), zw_X f_watches1 a_wSession1 a_wKind1 a_wPath1 a_queue1 a_queued1 (zw_tell (a_eKind k) (a_ePath k) S) → post (f_nodes, f_time, f_latest, f_entries, f_logged, f_complete, f_taken, f_sinceEntry, f_sinceCount, f_parts, f_wrongPart, f_watches1, a_path, a_data, a_version, a_childVersion, a_created, a_setAt, a_owner, a_firstChild, a_sibling, a_bucket, a_open, a_timeout, a_deadline, a_eKind, a_ePath, a_eData, a_eOwner, a_eVersion, a_eNumber, a_iPath, a_iData, a_iVersion, a_iChildVersion, a_iCreated, a_iSet, a_iOwner, a_iTimeout, a_iLatest, a_pKind, a_pPath, a_pA, a_pB, a_uEntry, a_uSlot, a_uData, a_uVersion, a_uSet, a_uChildVersion, a_uCreated, a_uOwner, a_wSession1, a_wKind1, a_wPath1, a_queue1, a_queued1)) : wpX_tell post (f_nodes, f_time, f_latest, f_entries, f_logged, f_complete, f_taken, f_sinceEntry, f_sinceCount, f_parts, f_wrongPart, f_watches, a_path, a_data, a_version, a_childVersion, a_created, a_setAt, a_owner, a_firstChild, a_sibling, a_bucket, a_open, a_timeout, a_deadline, a_eKind, a_ePath, a_eData, a_eOwner, a_eVersion, a_eNumber, a_iPath, a_iData, a_iVersion, a_iChildVersion, a_iCreated, a_iSet, a_iOwner, a_iTimeout, a_iLatest, a_pKind, a_pPath, a_pA, a_pB, a_uEntry, a_uSlot, a_uData, a_uVersion, a_uSet, a_uChildVersion, a_uCreated, a_uOwner, a_wSession, a_wKind, a_wPath, a_queue, a_queued) (nI k) := by
  have hc := nI_clamp (n := k) (by omega)
  refine zz_in rfl hk (by decide) (nm_r (e' := a_eKind k) (by rw [hc]) (zz_in rfl hk (by decide) (nm_r (e' := a_ePath k) (by rw [hc]) ?_)))
  have t1 : (1 : Int32).toInt = 1 := by decide
  have t3 : (3 : Int32).toInt = 3 := by decide
  refine zx_outside (fun h1 h2 => br_t rfl ?_) (fun hn => br_f (by decide) (h _ _ _ _ _ _ ?_))
  · by_cases c1 : a_eKind k = 1
    · refine br_t c1 (zx_hap R fun f_watches2 a_wSession2 a_wKind2 a_wPath2 a_queue2 a_queued2 R2 => ?_)
      refine br_f (by rw [c1]; decide) (And.intro zb_101n (zx_hap R2 fun f_watches3 a_wSession3 a_wKind3 a_wPath3 a_queue3 a_queued3 R3 => ?_))
      refine h _ _ _ _ _ _ ?_
      unfold zw_tell
      rw [if_pos c1]
      exact R3
    · refine br_f c1 ?_
      by_cases c2 : a_eKind k = 2
      · refine br_t c2 (zx_hap R fun f_watches2 a_wSession2 a_wKind2 a_wPath2 a_queue2 a_queued2 R2 => ?_)
        refine br_t c2 (h _ _ _ _ _ _ ?_)
        unfold zw_tell
        rw [if_neg c1, if_pos c2]
        exact R2
      · refine br_f c2 (zx_hap R fun f_watches2 a_wSession2 a_wKind2 a_wPath2 a_queue2 a_queued2 R2 => ?_)
        refine br_f c2 (And.intro zb_101n (zx_hap R2 fun f_watches3 a_wSession3 a_wKind3 a_wPath3 a_queue3 a_queued3 R3 => ?_))
        refine h _ _ _ _ _ _ ?_
        have c3 : a_eKind k = 3 := by
          rw [zb_le, t1] at h1
          rw [zb_le, t3] at h2
          have n1 : (a_eKind k).toInt ≠ 1 := fun z => c1 (zb_inj (by rw [z, t1]))
          have n2 : (a_eKind k).toInt ≠ 2 := fun z => c2 (zb_inj (by rw [z]; decide))
          exact zb_inj (by rw [t3]; omega)
        unfold zw_tell
        rw [if_neg c1, if_neg c2, if_pos c3]
        exact R3
  · unfold zw_tell
    rw [if_neg (fun z => hn (by rw [z]; decide)), if_neg (fun z => hn (by rw [z]; decide)), if_neg (fun z => hn (by rw [z]; decide))]
    exact R
theorem zx_commit_lp {post : SX → Prop} {N : Nat} (hN : N ≤ 400) :
    ∀ (d b : Nat) (S : zw_S) (f_watches : Int32) (a_wSession a_wKind a_wPath a_queue a_queued : Nat → Int32), b + d = N → zw_X f_watches a_wSession a_wKind a_wPath a_queue a_queued S → (∀ (f_watches1 : Int32) (a_wSession1 a_wKind1 a_wPath1 a_queue1 a_queued1 : Nat → Int32), zw_X f_watches1 a_wSession1 a_wKind1 a_wPath1 a_queue1 a_queued1 (zw_tells a_eKind a_ePath b d S) → post (f_nodes, f_time, f_latest, nI N, f_logged, f_complete, f_taken, f_sinceEntry, f_sinceCount, f_parts, f_wrongPart, f_watches1, a_path, a_data, a_version, a_childVersion, a_created, a_setAt, a_owner, a_firstChild, a_sibling, a_bucket, a_open, a_timeout, a_deadline, a_eKind, a_ePath, a_eData, a_eOwner, a_eVersion, a_eNumber, a_iPath, a_iData, a_iVersion, a_iChildVersion, a_iCreated, a_iSet, a_iOwner, a_iTimeout, a_iLatest, a_pKind, a_pPath, a_pA, a_pB, a_uEntry, a_uSlot, a_uData, a_uVersion, a_uSet, a_uChildVersion, a_uCreated, a_uOwner, a_wSession1, a_wKind1, a_wPath1, a_queue1, a_queued1)) → wX_commit_40 post (d + 1) (nI b) f_nodes f_time f_latest (nI N) f_logged f_complete f_taken f_sinceEntry f_sinceCount f_parts f_wrongPart f_watches a_path a_data a_version a_childVersion a_created a_setAt a_owner a_firstChild a_sibling a_bucket a_open a_timeout a_deadline a_eKind a_ePath a_eData a_eOwner a_eVersion a_eNumber a_iPath a_iData a_iVersion a_iChildVersion a_iCreated a_iSet a_iOwner a_iTimeout a_iLatest a_pKind a_pPath a_pA a_pB a_uEntry a_uSlot a_uData a_uVersion a_uSet a_uChildVersion a_uCreated a_uOwner a_wSession a_wKind a_wPath a_queue a_queued := by
  intro d
  induction d with
  | zero =>
    intro b S f_watches a_wSession a_wKind a_wPath a_queue a_queued hb R h
    exact br_t (nI_le (by omega) (by omega)) (h _ _ _ _ _ _ R)
  | succ d ih =>
    intro b S f_watches a_wSession a_wKind a_wPath a_queue a_queued hb R h
    refine br_f (nI_ge (by omega) (by omega)) (zx_tell (by omega) R fun f_watches2 a_wSession2 a_wKind2 a_wPath2 a_queue2 a_queued2 R2 => ?_)
    exact nm_r (nI_1 b) (ih (b + 1) _ _ _ _ _ _ _ (by omega) R2 h)
/-- the entries from b on are told; there is one at least -/
theorem zx_commit {post : SX → Prop} {N b : Nat} {S : zw_S} (hN : N ≤ 400) (hb : b < N) (he : f_entries = nI N) (R : zw_X f_watches a_wSession a_wKind a_wPath a_queue a_queued S)
    (h : ∀ (f_watches1 : Int32) (a_wSession1 a_wKind1 a_wPath1 a_queue1 a_queued1 : Nat → Int32), zw_X f_watches1 a_wSession1 a_wKind1 a_wPath1 a_queue1 a_queued1 (zw_tells a_eKind a_ePath b (N - b) S) → post (f_nodes, f_time, f_latest + 1, f_entries, f_logged + 1, f_complete, f_taken, f_sinceEntry, f_sinceCount, f_parts, f_wrongPart, f_watches1, a_path, a_data, a_version, a_childVersion, a_created, a_setAt, a_owner, a_firstChild, a_sibling, a_bucket, a_open, a_timeout, a_deadline, a_eKind, a_ePath, a_eData, a_eOwner, a_eVersion, a_eNumber, a_iPath, a_iData, a_iVersion, a_iChildVersion, a_iCreated, a_iSet, a_iOwner, a_iTimeout, a_iLatest, a_pKind, a_pPath, a_pA, a_pB, a_uEntry, a_uSlot, a_uData, a_uVersion, a_uSet, a_uChildVersion, a_uCreated, a_uOwner, a_wSession1, a_wKind1, a_wPath1, a_queue1, a_queued1)) : wpX_commit post (f_nodes, f_time, f_latest, f_entries, f_logged, f_complete, f_taken, f_sinceEntry, f_sinceCount, f_parts, f_wrongPart, f_watches, a_path, a_data, a_version, a_childVersion, a_created, a_setAt, a_owner, a_firstChild, a_sibling, a_bucket, a_open, a_timeout, a_deadline, a_eKind, a_ePath, a_eData, a_eOwner, a_eVersion, a_eNumber, a_iPath, a_iData, a_iVersion, a_iChildVersion, a_iCreated, a_iSet, a_iOwner, a_iTimeout, a_iLatest, a_pKind, a_pPath, a_pA, a_pB, a_uEntry, a_uSlot, a_uData, a_uVersion, a_uSet, a_uChildVersion, a_uCreated, a_uOwner, a_wSession, a_wKind, a_wPath, a_queue, a_queued) (nI b) := by
  subst he
  refine br_f (fun e => ?_) ?_
  · have := (nI_eq (by omega) (by omega)).mp e; omega
  · exact nm_e (nm_e ⟨_, zx_commit_lp hN (N - b) b S _ _ _ _ _ _ (by omega) R h⟩)
end
end
section
/-! the reference's watches -/
def zw_g (s p kinds : Int32) (e : zw_E) : Bool := decide (e.1 = s) && (decide (¬ ((kinds >>> (e.2.1 &&& 31)) &&& 1) = 0) && (decide (p < 0) || decide (e.2.2 = p)))
theorem zw_g_t {s p kinds : Int32} {e : zw_E} : zw_g s p kinds e = true ↔ e.1 = s ∧ ¬ ((kinds >>> (e.2.1 &&& 31)) &&& 1) = 0 ∧ (p < 0 ∨ e.2.2 = p) := by
  unfold zw_g; rw [Bool.and_eq_true, Bool.and_eq_true, Bool.or_eq_true, decide_eq_true_eq, decide_eq_true_eq, decide_eq_true_eq, decide_eq_true_eq]
theorem zw_flen {g : zw_E → Bool} : ∀ {W : List zw_E}, W.length ≤ (W.filter (fun e => !g e)).length ↔ W.any g = false
  | [] => by simp
  | e :: W => by
    have ih := zw_flen (g := g) (W := W)
    have hl := List.length_filter_le (fun e => !g e) W
    cases he : g e with
    | true =>
      rw [List.filter_cons_of_neg (by simp [he]), List.any_cons, he, List.length_cons]
      simp only [Bool.true_or]
      constructor
      · intro h; omega
      · intro h; exact absurd h (by decide)
    | false =>
      rw [List.filter_cons_of_pos (by simp [he]), List.any_cons, he, List.length_cons, List.length_cons, Bool.false_or]
      rw [← ih]
      omega
section
variable {g_time g_last g_watchCount g_partCount g_wrong g_changes g_log g_since g_placesLeft : Int32} {b_paths b_values b_open b_timeouts b_deadlines b_events b_eventCounts b_watchers b_watchKinds b_watchPaths b_parts b_happened b_how : Nat → Int32}
theorem zy_drop_lp {post : Int32 → SY → Prop} {s p kinds : Int32} {W : List zw_E} (hW : W.length ≤ 16)
    (h0 : ∀ ws wk wp : Nat → Int32, W.any (zw_g s p kinds) = false → zw_at ws wk wp 0 (W.filter (fun e => !zw_g s p kinds e)) → post 0 (g_time, g_last, nI (W.filter (fun e => !zw_g s p kinds e)).length, g_partCount, g_wrong, g_changes, g_log, g_since, g_placesLeft, b_paths, b_values, b_open, b_timeouts, b_deadlines, b_events, b_eventCounts, ws, wk, wp, b_parts, b_happened, b_how))
    (h1 : ∀ ws wk wp : Nat → Int32, W.any (zw_g s p kinds) = true → zw_at ws wk wp 0 (W.filter (fun e => !zw_g s p kinds e)) → post 1 (g_time, g_last, nI (W.filter (fun e => !zw_g s p kinds e)).length, g_partCount, g_wrong, g_changes, g_log, g_since, g_placesLeft, b_paths, b_values, b_open, b_timeouts, b_deadlines, b_events, b_eventCounts, ws, wk, wp, b_parts, b_happened, b_how)) :
    ∀ (L D : List zw_E) (ws wk wp : Nat → Int32), W = D ++ L → zw_at ws wk wp 0 (D.filter (fun e => !zw_g s p kinds e)) → zw_at ws wk wp D.length L →
      wY_drop_6 post s p kinds g_time g_last (nI W.length) g_partCount g_wrong g_changes g_log g_since g_placesLeft (L.length + 1) (nI (D.filter (fun e => !zw_g s p kinds e)).length) (nI D.length) b_paths b_values b_open b_timeouts b_deadlines b_events b_eventCounts ws wk wp b_parts b_happened b_how := by
  intro L
  induction L with
  | nil =>
    intro D ws wk wp hD a1 a2
    rw [List.append_nil] at hD
    subst hD
    have hfl := List.length_filter_le (fun e => !zw_g s p kinds e) W
    refine br_t (nI_le (Nat.le_refl _) (by omega)) ?_
    by_cases c : W.length ≤ (W.filter (fun e => !zw_g s p kinds e)).length
    · exact br_t (nI_le c (by omega)) (h0 ws wk wp (zw_flen.mp c) a1)
    · refine br_f (nI_ge (by omega) (by omega)) (h1 ws wk wp ?_ a1)
      rw [zw_flen] at c
      simpa using c
  | cons e L ih =>
    intro D ws wk wp hD a1 a2
    have hlen : W.length = D.length + (L.length + 1) := by rw [hD, List.length_append, List.length_cons]
    have hfl := List.length_filter_le (fun e => !zw_g s p kinds e) D
    have hc := nI_clamp (n := D.length) (by omega)
    obtain ⟨he, a3⟩ := a2
    have ihn := ih (D ++ [e])
    rw [List.length_append, List.length_singleton, List.filter_append] at ihn
    refine br_f (nI_ge (by omega) (by omega)) (And.intro (vp_in_nI (by omega) (by decide)) ?_)
    have keep : zw_g s p kinds e = false → wY_drop_60 post (wY_drop_6 post s p kinds g_time g_last (nI W.length) g_partCount g_wrong g_changes g_log g_since g_placesLeft (L.length + 1)) s p kinds (nI (D.filter (fun e => !zw_g s p kinds e)).length) (nI D.length) 0 g_time g_last (nI W.length) g_partCount g_wrong g_changes g_log g_since g_placesLeft b_paths b_values b_open b_timeouts b_deadlines b_events b_eventCounts ws wk wp b_parts b_happened b_how := by
      intro hm
      refine br_t rfl (zz_in rfl (by omega) (by decide) (zz_st rfl (by omega) (by decide) (v' := ws D.length) (by rw [hc]) ?_))
      refine zz_in rfl (by omega) (by decide) (zz_st rfl (by omega) (by decide) (v' := wk D.length) (by rw [hc]) ?_)
      refine nm_r (nI_1 _) (zz_in rfl (by omega) (by decide) (zz_st rfl (by omega) (by decide) (v' := wp D.length) (by rw [hc]) (nm_r (nI_1 _) ?_)))
      have ef : List.filter (fun e => !zw_g s p kinds e) [e] = [e] := by simp [hm]
      have := ihn (upd ws (D.filter (fun e => !zw_g s p kinds e)).length (ws D.length)) (upd wk (D.filter (fun e => !zw_g s p kinds e)).length (wk D.length)) (upd wp (D.filter (fun e => !zw_g s p kinds e)).length (wp D.length))
        (by rw [hD, List.append_assoc]; rfl) (by
          rw [ef]
          refine zw_at_snoc (zw_at_cg a1 fun i _ hi => ?_) ?_
          · rw [pk_un (by omega), pk_un (by omega), pk_un (by omega)]; exact ⟨rfl, rfl, rfl⟩
          · rw [Nat.zero_add, pk_us, pk_us, pk_us]; exact he)
        (zw_at_cg a3 fun i hi _ => by rw [pk_un (by omega), pk_un (by omega), pk_un (by omega)]; exact ⟨rfl, rfl, rfl⟩)
      rw [ef, List.length_append, List.length_singleton] at this
      exact this
    have out : zw_g s p kinds e = true → wY_drop_60 post (wY_drop_6 post s p kinds g_time g_last (nI W.length) g_partCount g_wrong g_changes g_log g_since g_placesLeft (L.length + 1)) s p kinds (nI (D.filter (fun e => !zw_g s p kinds e)).length) (nI D.length) 1 g_time g_last (nI W.length) g_partCount g_wrong g_changes g_log g_since g_placesLeft b_paths b_values b_open b_timeouts b_deadlines b_events b_eventCounts ws wk wp b_parts b_happened b_how := by
      intro hm
      refine br_f (by decide) (nm_r (nI_1 _) ?_)
      have ef : List.filter (fun e => !zw_g s p kinds e) [e] = [] := by simp [hm]
      have := ihn ws wk wp (by rw [hD, List.append_assoc]; rfl) (by rw [ef, List.append_nil]; exact a1) a3
      rw [ef, List.append_nil] at this
      exact this
    have gt := zw_g_t (s := s) (p := p) (kinds := kinds) (e := e)
    have gf : ¬ (e.1 = s ∧ ¬ ((kinds >>> (e.2.1 &&& 31)) &&& 1) = 0 ∧ (p < 0 ∨ e.2.2 = p)) → zw_g s p kinds e = false := fun z => by
      rw [← Bool.not_eq_true, gt]; exact z
    rw [he] at gt gf
    dsimp only at gt gf
    rw [← he] at gt gf
    by_cases c1 : ws D.length = s
    · refine br_t (by rw [hc]; exact c1) (And.intro (vp_in_nI (by omega) (by decide)) ?_)
      by_cases c2 : ((kinds >>> (wk D.length &&& 31)) &&& 1) = 0
      · exact br_t (by rw [hc]; exact c2) (keep (gf (fun z => z.2.1 c2)))
      · refine br_f (by rw [hc]; exact c2) ?_
        by_cases c3 : p < 0
        · exact br_t c3 (out (gt.mpr ⟨c1, c2, Or.inl c3⟩))
        · refine br_f c3 (And.intro (vp_in_nI (by omega) (by decide)) ?_)
          by_cases c4 : wp D.length = p
          · exact br_t (by rw [hc]; exact c4) (out (gt.mpr ⟨c1, c2, Or.inr c4⟩))
          · exact br_f (by rw [hc]; exact c4) (keep (gf (fun z => z.2.2.elim c3 c4)))
    · exact br_f (by rw [hc]; exact c1) (keep (gf (fun z => c1 z.1)))
theorem zy_drop {post : Int32 → SY → Prop} {s p kinds : Int32} {W : List zw_E} (R : zw_R g_watchCount b_watchers b_watchKinds b_watchPaths W)
    (h : ∀ (r n : Int32) (ws wk wp : Nat → Int32), (r = 0 ∧ W.any (zw_g s p kinds) = false ∨ r = 1 ∧ W.any (zw_g s p kinds) = true) → zw_R n ws wk wp (W.filter (fun e => !zw_g s p kinds e)) → post r (g_time, g_last, n, g_partCount, g_wrong, g_changes, g_log, g_since, g_placesLeft, b_paths, b_values, b_open, b_timeouts, b_deadlines, b_events, b_eventCounts, ws, wk, wp, b_parts, b_happened, b_how)) :
    wpY_drop post (g_time, g_last, g_watchCount, g_partCount, g_wrong, g_changes, g_log, g_since, g_placesLeft, b_paths, b_values, b_open, b_timeouts, b_deadlines, b_events, b_eventCounts, b_watchers, b_watchKinds, b_watchPaths, b_parts, b_happened, b_how) s p kinds := by
  obtain ⟨rfl, hl, ha, ok⟩ := R
  have fin : ∀ ws wk wp : Nat → Int32, zw_at ws wk wp 0 (W.filter (fun e => !zw_g s p kinds e)) → zw_R (nI (W.filter (fun e => !zw_g s p kinds e)).length) ws wk wp (W.filter (fun e => !zw_g s p kinds e)) :=
    fun ws wk wp z => ⟨rfl, Nat.le_trans (List.length_filter_le _ _) hl, z, fun x hx => ok x (List.mem_filter.mp hx).1⟩
  exact ⟨W.length + 1, zy_drop_lp hl (fun ws wk wp z a => h _ _ ws wk wp (Or.inl ⟨rfl, z⟩) (fin ws wk wp a)) (fun ws wk wp z a => h _ _ ws wk wp (Or.inr ⟨rfl, z⟩) (fin ws wk wp a)) W [] _ _ _ rfl trivial ha⟩
theorem zw_fs {p kinds : Int32} {W : List zw_E} {s : Nat} (hs : s < 4) (hp : ¬ p < 0) (ok : zw_ok W) :
    (W.filter (fun e => !(zw_m p kinds e && decide (e.1.toInt < s)))).filter (fun e => !zw_g (nI s) p kinds e) = W.filter (fun e => !(zw_m p kinds e && decide (e.1.toInt < (s + 1 : Nat)))) := by
  rw [List.filter_filter]
  refine List.filter_congr fun e he => ?_
  obtain ⟨⟨j, hj, ej⟩, _⟩ := ok e he
  have g : zw_g (nI s) p kinds e = (decide (e.1 = nI s) && zw_m p kinds e) := by
    rw [Bool.eq_iff_iff, zw_g_t, Bool.and_eq_true, zw_m_t, decide_eq_true_eq]
    exact ⟨fun ⟨a, b, c⟩ => ⟨a, c.resolve_left hp, b⟩, fun ⟨a, c, b⟩ => ⟨a, b, Or.inr c⟩⟩
  rw [g, ej, nI_toInt (by omega)]
  cases zw_m p kinds e
  · simp
  · simp only [Bool.true_and, Bool.and_true]
    rw [← Bool.not_or]
    congr 1
    rw [Bool.eq_iff_iff, Bool.or_eq_true, decide_eq_true_eq, decide_eq_true_eq, decide_eq_true_eq, nI_eq (by omega) (by omega)]
    omega
theorem zw_as {p kinds : Int32} {W : List zw_E} {s : Nat} (hs : s < 4) (hp : ¬ p < 0) (ok : zw_ok W) :
    (W.filter (fun e => !(zw_m p kinds e && decide (e.1.toInt < s)))).any (zw_g (nI s) p kinds) = W.any (fun e => zw_m p kinds e && decide (e.1 = nI s)) := by
  rw [Bool.eq_iff_iff, List.any_eq_true, List.any_eq_true]
  constructor
  · rintro ⟨e, he, g⟩
    rw [zw_g_t] at g
    refine ⟨e, (List.mem_filter.mp he).1, ?_⟩
    rw [Bool.and_eq_true, zw_m_t, decide_eq_true_eq]
    exact ⟨⟨g.2.2.resolve_left hp, g.2.1⟩, g.1⟩
  · rintro ⟨e, he, g⟩
    rw [Bool.and_eq_true, zw_m_t, decide_eq_true_eq] at g
    refine ⟨e, ?_, ?_⟩
    · rw [List.mem_filter]
      refine ⟨he, ?_⟩
      rw [g.2, nI_toInt (by omega)]
      simp
    · rw [zw_g_t]
      exact ⟨g.2, g.1.2, Or.inr g.1.1⟩
theorem zy_tell_lp {post : SY → Prop} {p kinds what : Int32} {W : List zw_E} {q qd : Nat → Int32} (hp : ¬ p < 0) (ok : zw_ok W) (hq : zw_qok qd)
    (h : ∀ (g_watchCount1 : Int32) (b_watchers1 b_watchKinds1 b_watchPaths1 b_events1 b_eventCounts1 : Nat → Int32), zw_X g_watchCount1 b_watchers1 b_watchKinds1 b_watchPaths1 b_events1 b_eventCounts1 (zw_h p kinds what (W, q, qd)) → post (g_time, g_last, g_watchCount1, g_partCount, g_wrong, g_changes, g_log, g_since, g_placesLeft, b_paths, b_values, b_open, b_timeouts, b_deadlines, b_events1, b_eventCounts1, b_watchers1, b_watchKinds1, b_watchPaths1, b_parts, b_happened, b_how)) :
    ∀ (d s : Nat) (n : Int32) (ws wk wp : Nat → Int32), s + d = 4 → zw_R n ws wk wp (W.filter (fun e => !(zw_m p kinds e && decide (e.1.toInt < s)))) →
      wY_tell_3 post p kinds what (d + 1) (nI s) g_time g_last n g_partCount g_wrong g_changes g_log g_since g_placesLeft b_paths b_values b_open b_timeouts b_deadlines ((zw_q (fun s => W.any (fun e => zw_m p kinds e && decide (e.1 = nI s))) (p + (what <<< ((21 : Int32) &&& 31))) q qd s).1) ((zw_q (fun s => W.any (fun e => zw_m p kinds e && decide (e.1 = nI s))) (p + (what <<< ((21 : Int32) &&& 31))) q qd s).2) ws wk wp b_parts b_happened b_how := by
  intro d
  induction d with
  | zero =>
    intro s n ws wk wp hs R
    have : s = 4 := by omega
    subst this
    refine br_t (by decide) (h _ _ _ _ _ _ ⟨?_, rfl, rfl, zw_q_ok hq 4⟩)
    have e : W.filter (fun e => !(zw_m p kinds e && decide (e.1.toInt < (4 : Nat)))) = W.filter (fun e => !zw_m p kinds e) := by
      refine List.filter_congr fun e he => ?_
      obtain ⟨⟨j, hj, ej⟩, _⟩ := ok e he
      rw [ej, nI_toInt (by omega), decide_eq_true (by omega), Bool.and_true]
    rw [e] at R
    exact R
  | succ d ih =>
    intro s n ws wk wp hs R
    have hc := nI_clamp (n := s) (by omega)
    have hok := zw_q_ok (b := fun s => W.any (fun e => zw_m p kinds e && decide (e.1 = nI s))) (v := p + (what <<< ((21 : Int32) &&& 31))) (q := q) hq s s (by omega)
    have ihs := fun n ws wk wp => ih (s + 1) n ws wk wp (by omega)
    have es : zw_q (fun s => W.any (fun e => zw_m p kinds e && decide (e.1 = nI s))) (p + (what <<< ((21 : Int32) &&& 31))) q qd (s + 1) = if (fun s => W.any (fun e => zw_m p kinds e && decide (e.1 = nI s))) s = true ∧ ((zw_q (fun s => W.any (fun e => zw_m p kinds e && decide (e.1 = nI s))) (p + (what <<< ((21 : Int32) &&& 31))) q qd s).2 s).toInt < 8 then
      (upd (zw_q (fun s => W.any (fun e => zw_m p kinds e && decide (e.1 = nI s))) (p + (what <<< ((21 : Int32) &&& 31))) q qd s).1 (8 * s + ((zw_q (fun s => W.any (fun e => zw_m p kinds e && decide (e.1 = nI s))) (p + (what <<< ((21 : Int32) &&& 31))) q qd s).2 s).toInt.toNat) (p + (what <<< ((21 : Int32) &&& 31))), upd (zw_q (fun s => W.any (fun e => zw_m p kinds e && decide (e.1 = nI s))) (p + (what <<< ((21 : Int32) &&& 31))) q qd s).2 s ((zw_q (fun s => W.any (fun e => zw_m p kinds e && decide (e.1 = nI s))) (p + (what <<< ((21 : Int32) &&& 31))) q qd s).2 s + 1)) else zw_q (fun s => W.any (fun e => zw_m p kinds e && decide (e.1 = nI s))) (p + (what <<< ((21 : Int32) &&& 31))) q qd s := rfl
    generalize zw_q (fun s => W.any (fun e => zw_m p kinds e && decide (e.1 = nI s))) (p + (what <<< ((21 : Int32) &&& 31))) q qd s = r at *
    refine br_f (nI_ge (b := 4) (by omega) (by decide)) (zy_drop R fun rr n1 ws1 wk1 wp1 hr R1 => ?_)
    rw [zw_as (by omega) hp ok] at hr
    rw [zw_fs (by omega) hp ok] at R1
    rcases hr with ⟨rfl, hr⟩ | ⟨rfl, hr⟩
    · rw [if_neg (fun z => by dsimp only at z; rw [hr] at z; exact nomatch z.1)] at es
      refine br_t rfl (nm_r (nI_1 s) ?_)
      have := ihs n1 ws1 wk1 wp1 R1
      rw [es] at this
      exact this
    · refine br_f (by decide) (And.intro (vp_in_nI (by omega) (by decide)) ?_)
      by_cases c8 : (r.2 s).toInt < 8
      · rw [if_pos ⟨hr, c8⟩] at es
        obtain ⟨m, hm, em, em2⟩ := zb_nI hok.1
        refine br_f (by rw [hc, zb_le, show (8 : Int32).toInt = 8 from by decide]; omega) (And.intro (vp_in_nI (by omega) (by decide)) ?_)
        refine zz_st rfl (by omega) (by decide) (v' := r.2 s + 1) (by rw [hc]) ?_
        refine zz_st (k := 8 * s + (r.2 s).toInt.toNat) ?_ (by omega) (by decide) rfl (nm_r (nI_1 s) ?_)
        · rw [hc, em, show (8 : Int32) = nI 8 from rfl, pk_mul, nI_add, nI_toInt (by omega)]
          rfl
        · have := ihs n1 ws1 wk1 wp1 R1
          rw [es] at this
          exact this
      · rw [if_neg (fun z => c8 z.2)] at es
        refine br_t (by rw [hc, zb_le, show (8 : Int32).toInt = 8 from by decide]; omega) (nm_r (nI_1 s) ?_)
        have := ihs n1 ws1 wk1 wp1 R1
        rw [es] at this
        exact this
theorem zy_tell {post : SY → Prop} {p kinds what : Int32} {S : zw_S} (hp : ¬ p < 0) (R : zw_X g_watchCount b_watchers b_watchKinds b_watchPaths b_events b_eventCounts S) (h : ∀ (g_watchCount1 : Int32) (b_watchers1 b_watchKinds1 b_watchPaths1 b_events1 b_eventCounts1 : Nat → Int32), zw_X g_watchCount1 b_watchers1 b_watchKinds1 b_watchPaths1 b_events1 b_eventCounts1 (zw_h p kinds what S) → post (g_time, g_last, g_watchCount1, g_partCount, g_wrong, g_changes, g_log, g_since, g_placesLeft, b_paths, b_values, b_open, b_timeouts, b_deadlines, b_events1, b_eventCounts1, b_watchers1, b_watchKinds1, b_watchPaths1, b_parts, b_happened, b_how)) : wpY_tell post (g_time, g_last, g_watchCount, g_partCount, g_wrong, g_changes, g_log, g_since, g_placesLeft, b_paths, b_values, b_open, b_timeouts, b_deadlines, b_events, b_eventCounts, b_watchers, b_watchKinds, b_watchPaths, b_parts, b_happened, b_how) p kinds what := by
  obtain ⟨W, q, qd⟩ := S
  obtain ⟨R, rfl, rfl, hq⟩ := R
  refine ⟨5, zy_tell_lp hp R.2.2.2 hq h 4 0 _ _ _ _ rfl ?_⟩
  have e : W.filter (fun e => !(zw_m p kinds e && decide (e.1.toInt < (0 : Nat)))) = W := by
    rw [List.filter_eq_self]
    intro e he
    obtain ⟨⟨j, hj, ej⟩, _⟩ := R.2.2.2 e he
    rw [ej, nI_toInt (by omega), decide_eq_false (by omega), Bool.and_false]
    rfl
  rw [e]
  exact R
/-- the reference's word for the kind of an entry -/
def zy_how (k h : Int32) : Prop := (k = 1 ∧ h = 1) ∨ (k = 2 ∧ h = 3) ∨ (k = 3 ∧ h = 2)
theorem zy_tellAll_lp {post : SY → Prop} {ek ep : Nat → Int32} {b n : Nat} (hn : n ≤ 21) (hh : ∀ j, j < n → zy_how (ek (b + j)) (b_how j) ∧ ep (b + j) = b_happened j ∧ 0 ≤ (b_happened j).toInt) :
    ∀ (d j : Nat) (S : zw_S) (g_watchCount : Int32) (b_watchers b_watchKinds b_watchPaths b_events b_eventCounts : Nat → Int32), j + d = n → zw_X g_watchCount b_watchers b_watchKinds b_watchPaths b_events b_eventCounts S → (∀ (g_watchCount1 : Int32) (b_watchers1 b_watchKinds1 b_watchPaths1 b_events1 b_eventCounts1 : Nat → Int32), zw_X g_watchCount1 b_watchers1 b_watchKinds1 b_watchPaths1 b_events1 b_eventCounts1 (zw_tells ek ep (b + j) d S) → post (g_time, g_last, g_watchCount1, g_partCount, g_wrong, nI n, g_log, g_since, g_placesLeft, b_paths, b_values, b_open, b_timeouts, b_deadlines, b_events1, b_eventCounts1, b_watchers1, b_watchKinds1, b_watchPaths1, b_parts, b_happened, b_how)) → wY_tellAll_2 post (d + 1) (nI j) g_time g_last g_watchCount g_partCount g_wrong (nI n) g_log g_since g_placesLeft b_paths b_values b_open b_timeouts b_deadlines b_events b_eventCounts b_watchers b_watchKinds b_watchPaths b_parts b_happened b_how := by
  intro d
  induction d with
  | zero =>
    intro j S g_watchCount b_watchers b_watchKinds b_watchPaths b_events b_eventCounts hj R h
    exact br_t (nI_le (by omega) (by omega)) (h _ _ _ _ _ _ R)
  | succ d ih =>
    intro j S g_watchCount b_watchers b_watchKinds b_watchPaths b_events b_eventCounts hj R h
    have hc := nI_clamp (n := j) (by omega)
    obtain ⟨h1, h2, h3⟩ := hh j (by omega)
    have hp : ¬ b_happened j < 0 := by rw [zb_lt0]; omega
    have hp2 : ¬ b_happened j / 101 < 0 := by rw [zb_lt0, zb_div h3]; omega
    refine br_f (nI_ge (by omega) (by omega)) (zz_in rfl (by omega) (by decide) (zz_in rfl (by omega) (by decide) ?_))
    have nxt : ∀ (S1 : zw_S) (g_watchCount2 : Int32) (b_watchers2 b_watchKinds2 b_watchPaths2 b_events2 b_eventCounts2 : Nat → Int32), zw_X g_watchCount2 b_watchers2 b_watchKinds2 b_watchPaths2 b_events2 b_eventCounts2 S1 → zw_tell (ek (b + j)) (ep (b + j)) S = S1 → wY_tellAll_2 post (d + 1) (nI (j + 1)) g_time g_last g_watchCount2 g_partCount g_wrong (nI n) g_log g_since g_placesLeft b_paths b_values b_open b_timeouts b_deadlines b_events2 b_eventCounts2 b_watchers2 b_watchKinds2 b_watchPaths2 b_parts b_happened b_how := fun S1 g_watchCount2 b_watchers2 b_watchKinds2 b_watchPaths2 b_events2 b_eventCounts2 R2 e2 => by
      refine ih (j + 1) S1 _ _ _ _ _ _ (by omega) R2 ?_
      have : zw_tells ek ep (b + j) (d + 1) S = zw_tells ek ep (b + (j + 1)) d S1 := by
        show zw_tells ek ep (b + j + 1) d _ = _
        rw [e2]; rfl
      rw [this] at h
      exact h
    rcases h1 with ⟨k1, w1⟩ | ⟨k1, w1⟩ | ⟨k1, w1⟩
    · refine br_t (by rw [hc]; exact w1) (zz_in rfl (by omega) (by decide) ?_)
      rw [hc, w1]
      refine zy_tell hp R fun g_watchCount2 b_watchers2 b_watchKinds2 b_watchPaths2 b_events2 b_eventCounts2 R2 => ?_
      refine zz_in rfl (by omega) (by decide) (br_f (by rw [w1]; decide) (zz_in rfl (by omega) (by decide) (And.intro zb_101n ?_)))
      refine zy_tell hp2 R2 fun g_watchCount3 b_watchers3 b_watchKinds3 b_watchPaths3 b_events3 b_eventCounts3 R3 => nm_r (nI_1 j) (nxt _ _ _ _ _ _ _ R3 ?_)
      unfold zw_tell
      rw [if_pos k1, h2]
    · refine br_f (by rw [hc, w1]; decide) (zz_in rfl (by omega) (by decide) (br_f (by rw [hc, w1]; decide) (zz_in rfl (by omega) (by decide) ?_)))
      rw [hc, w1]
      refine zy_tell hp R fun g_watchCount2 b_watchers2 b_watchKinds2 b_watchPaths2 b_events2 b_eventCounts2 R2 => ?_
      refine zz_in rfl (by omega) (by decide) (br_t w1 (nm_r (nI_1 j) (nxt _ _ _ _ _ _ _ R2 ?_)))
      unfold zw_tell
      rw [if_neg (by rw [k1]; decide), if_pos k1, h2]
    · refine br_f (by rw [hc, w1]; decide) (zz_in rfl (by omega) (by decide) (br_t (by rw [hc, w1]) (zz_in rfl (by omega) (by decide) ?_)))
      rw [hc, w1]
      refine zy_tell hp R fun g_watchCount2 b_watchers2 b_watchKinds2 b_watchPaths2 b_events2 b_eventCounts2 R2 => ?_
      refine zz_in rfl (by omega) (by decide) (br_f (by rw [w1]; decide) (zz_in rfl (by omega) (by decide) (And.intro zb_101n ?_)))
      refine zy_tell hp2 R2 fun g_watchCount3 b_watchers3 b_watchKinds3 b_watchPaths3 b_events3 b_eventCounts3 R3 => nm_r (nI_1 j) (nxt _ _ _ _ _ _ _ R3 ?_)
      unfold zw_tell
      rw [if_neg (by rw [k1]; decide), if_neg (by rw [k1]; decide), if_pos k1, h2]
theorem zy_tellAll {post : SY → Prop} {ek ep : Nat → Int32} {b n : Nat} {S : zw_S} (hn : n ≤ 21) (hc : g_changes = nI n) (hh : ∀ j, j < n → zy_how (ek (b + j)) (b_how j) ∧ ep (b + j) = b_happened j ∧ 0 ≤ (b_happened j).toInt) (R : zw_X g_watchCount b_watchers b_watchKinds b_watchPaths b_events b_eventCounts S)
    (h : ∀ (g_watchCount1 : Int32) (b_watchers1 b_watchKinds1 b_watchPaths1 b_events1 b_eventCounts1 : Nat → Int32), zw_X g_watchCount1 b_watchers1 b_watchKinds1 b_watchPaths1 b_events1 b_eventCounts1 (zw_tells ek ep b n S) → post (g_time, g_last, g_watchCount1, g_partCount, g_wrong, g_changes, g_log, g_since, g_placesLeft, b_paths, b_values, b_open, b_timeouts, b_deadlines, b_events1, b_eventCounts1, b_watchers1, b_watchKinds1, b_watchPaths1, b_parts, b_happened, b_how)) : wpY_tellAll post (g_time, g_last, g_watchCount, g_partCount, g_wrong, g_changes, g_log, g_since, g_placesLeft, b_paths, b_values, b_open, b_timeouts, b_deadlines, b_events, b_eventCounts, b_watchers, b_watchKinds, b_watchPaths, b_parts, b_happened, b_how) := by
  subst hc
  exact ⟨n + 1, zy_tellAll_lp (ek := ek) (ep := ep) (b := b) hn hh n 0 S _ _ _ _ _ _ (by omega) R h⟩
end
end
section
/-! requests: what they answer and what they write down -/
def zf_ap (e : zf_E) (C : zn_Mp) : zn_Mp := fun p => zf_f e p (C p)
/-- what is true of the map; versions are at most b -/
def zi_C (b : Nat) (C : zn_Mp) : Prop :=
  (∃ r, C 0 = some r ∧ r.2.2.2.2.2 = -1) ∧
  (∀ p x, C p = some x → zp_ok p ∧ 0 ≤ x.2.1.toInt ∧ x.2.1.toInt ≤ b ∧ 0 ≤ x.2.2.1.toInt ∧ x.2.2.1.toInt ≤ b ∧ -1 ≤ x.2.2.2.2.2.toInt ∧ x.2.2.2.2.2.toInt ≤ 3 ∧ (¬ p = 0 → ∃ u, C (p / 101) = some u ∧ u.2.2.2.2.2 = -1))
theorem zi_C_le {b b' : Nat} {C : zn_Mp} (h : zi_C b C) (hb : b ≤ b') : zi_C b' C :=
  ⟨h.1, fun p x e => by obtain ⟨a1, a2, a3, a4, a5, a6⟩ := h.2 p x e; exact ⟨a1, a2, by omega, a4, by omega, a6⟩⟩
theorem zf_21 : ¬ (2 : Int32) = 1 := by decide
theorem zf_23 : ¬ (2 : Int32) = 3 := by decide
theorem zf_31 : ¬ (3 : Int32) = 1 := by decide
theorem zf_32 : ¬ (3 : Int32) = 2 := by decide
theorem zf_f1s {m d o v t : Int32} {x : Option zn_Nd} : zf_f (1, m, d, o, v, t) m x = some (d, 0, 0, t, t, o) := by
  unfold zf_f; rw [if_pos rfl, if_pos rfl]
theorem zf_f1u {m d o v t q : Int32} {x : Option zn_Nd} (h : ¬ m = q) (hq : m / 101 = q) : zf_f (1, m, d, o, v, t) q x = x.map (fun n => (n.1, n.2.1, v, n.2.2.2.1, n.2.2.2.2.1, n.2.2.2.2.2)) := by
  unfold zf_f; rw [if_neg h, if_pos ⟨Or.inl rfl, hq⟩]
theorem zf_f1o {m d o v t q : Int32} {x : Option zn_Nd} (h : ¬ m = q) (hq : ¬ m / 101 = q) : zf_f (1, m, d, o, v, t) q x = x := by
  unfold zf_f; rw [if_neg h, if_neg (fun z => hq z.2)]
theorem zf_f2s {m d o v t : Int32} {x : Option zn_Nd} : zf_f (2, m, d, o, v, t) m x = x.map (fun n => (d, v, n.2.2.1, n.2.2.2.1, t, n.2.2.2.2.2)) := by
  unfold zf_f; rw [if_pos rfl, if_neg zf_21, if_pos rfl]
theorem zf_f2o {m d o v t q : Int32} {x : Option zn_Nd} (h : ¬ m = q) : zf_f (2, m, d, o, v, t) q x = x := by
  unfold zf_f; rw [if_neg h, if_neg (fun z => z.1.elim zf_21 zf_23)]
theorem zf_f3s {m d o v t : Int32} {x : Option zn_Nd} : zf_f (3, m, d, o, v, t) m x = none := by
  unfold zf_f; rw [if_pos rfl, if_neg zf_31, if_neg zf_32, if_pos rfl]
theorem zf_f3u {m d o v t q : Int32} {x : Option zn_Nd} (h : ¬ m = q) (hq : m / 101 = q) : zf_f (3, m, d, o, v, t) q x = x.map (fun n => (n.1, n.2.1, v, n.2.2.2.1, n.2.2.2.2.1, n.2.2.2.2.2)) := by
  unfold zf_f; rw [if_neg h, if_pos ⟨Or.inr rfl, hq⟩]
theorem zf_f3o {m d o v t q : Int32} {x : Option zn_Nd} (h : ¬ m = q) (hq : ¬ m / 101 = q) : zf_f (3, m, d, o, v, t) q x = x := by
  unfold zf_f; rw [if_neg h, if_neg (fun z => hq z.2)]
theorem zf_fo {e : zf_E} {q : Int32} {x : Option zn_Nd} (h1 : ¬ e.1 = 1) (h2 : ¬ e.1 = 2) (h3 : ¬ e.1 = 3) : zf_f e q x = x := by
  unfold zf_f
  by_cases c : e.2.1 = q
  · rw [if_pos c, if_neg h1, if_neg h2, if_neg h3]
  · rw [if_neg c, if_neg (fun z => z.1.elim h1 h3)]
theorem zb_1 : (1 : Int32).toInt = 1 := by decide
theorem zb_inc {x : Int32} {b : Nat} (h0 : 0 ≤ x.toInt) (h1 : x.toInt ≤ b) (hb : b < 1000000000) : 0 ≤ (x + 1).toInt ∧ (x + 1).toInt ≤ (b + 1 : Nat) := by
  rw [zb_add (by rw [zb_1]; omega) (by rw [zb_1]; omega), zb_1]; omega
theorem zi_C1 {b : Nat} {C : zn_Mp} (h : zi_C b C) (hb : b < 1000000000) {m d o t : Int32} {u : zn_Nd} (hm : zp_ok m) (hm0 : ¬ m = 0) (hu : C (m / 101) = some u) (hou : u.2.2.2.2.2 = -1) (hC : C m = none) (ho : -1 ≤ o.toInt) (ho2 : o.toInt ≤ 3) :
    zi_C (b + 1) (zf_ap (1, m, d, o, u.2.2.1 + 1, t) C) := by
  have hmm : ¬ m = m / 101 := fun z => by have := (zp_lt hm hm0).2; rw [← z] at this; omega
  have key : ∀ q x, zf_ap (1, m, d, o, u.2.2.1 + 1, t) C q = some x → (q = m ∧ x = (d, 0, 0, t, t, o)) ∨ (q = m / 101 ∧ x = (u.1, u.2.1, u.2.2.1 + 1, u.2.2.2.1, u.2.2.2.2.1, u.2.2.2.2.2)) ∨ (¬ q = m ∧ ¬ q = m / 101 ∧ C q = some x) := by
    intro q x e
    unfold zf_ap at e
    by_cases c1 : m = q
    · subst c1; rw [zf_f1s] at e; exact Or.inl ⟨rfl, (Option.some.inj e).symm⟩
    · by_cases c2 : m / 101 = q
      · subst c2; rw [zf_f1u c1 rfl, hu] at e; exact Or.inr (Or.inl ⟨rfl, (Option.some.inj e).symm⟩)
      · rw [zf_f1o c1 c2] at e; exact Or.inr (Or.inr ⟨fun z => c1 z.symm, fun z => c2 z.symm, e⟩)
  have back : ∀ q y, C q = some y → ∃ y', zf_ap (1, m, d, o, u.2.2.1 + 1, t) C q = some y' ∧ y'.2.2.2.2.2 = y.2.2.2.2.2 := by
    intro q y e
    have c1 : ¬ m = q := fun z => by rw [z, e] at hC; exact nomatch hC
    unfold zf_ap
    by_cases c2 : m / 101 = q
    · rw [zf_f1u c1 c2, e]; exact ⟨_, rfl, rfl⟩
    · rw [zf_f1o c1 c2]; exact ⟨y, e, rfl⟩
  refine ⟨?_, fun p x e => ?_⟩
  · obtain ⟨r, hr, hr2⟩ := h.1
    obtain ⟨y', e1, e2⟩ := back 0 r hr
    exact ⟨y', e1, by rw [e2, hr2]⟩
  · rcases key p x e with ⟨rfl, rfl⟩ | ⟨rfl, rfl⟩ | ⟨n1, n2, e2⟩
    · have z0 : 0 ≤ (0 : Int32).toInt ∧ (0 : Int32).toInt ≤ ((b + 1 : Nat) : Int) := by rw [zb_t0]; omega
      refine ⟨hm, z0.1, z0.2, z0.1, z0.2, ho, ho2, fun _ => ?_⟩
      obtain ⟨y', e1, e2⟩ := back _ u hu
      exact ⟨y', e1, by rw [e2, hou]⟩
    · obtain ⟨a1, a2, a3, a4, a5, a6, a7, a8⟩ := h.2 _ u hu
      have := zb_inc a4 a5 hb
      refine ⟨a1, a2, by dsimp only; omega, this.1, this.2, a6, a7, fun z => ?_⟩
      obtain ⟨w, hw, hw2⟩ := a8 z
      obtain ⟨y', e1, e2⟩ := back _ w hw
      exact ⟨y', e1, by rw [e2, hw2]⟩
    · obtain ⟨a1, a2, a3, a4, a5, a6, a7, a8⟩ := h.2 _ x e2
      refine ⟨a1, a2, by omega, a4, by omega, a6, a7, fun z => ?_⟩
      obtain ⟨w, hw, hw2⟩ := a8 z
      obtain ⟨y', e1, e2⟩ := back _ w hw
      exact ⟨y', e1, by rw [e2, hw2]⟩
theorem zi_C2 {b : Nat} {C : zn_Mp} (h : zi_C b C) (hb : b < 1000000000) {p d o t : Int32} {u : zn_Nd} (hu : C p = some u) : zi_C (b + 1) (zf_ap (2, p, d, o, u.2.1 + 1, t) C) := by
  have back : ∀ q y, C q = some y → ∃ y', zf_ap (2, p, d, o, u.2.1 + 1, t) C q = some y' ∧ y'.2.2.2.2.2 = y.2.2.2.2.2 := by
    intro q y e
    unfold zf_ap
    by_cases c : p = q
    · subst c; rw [zf_f2s, e]; exact ⟨_, rfl, rfl⟩
    · rw [zf_f2o c]; exact ⟨y, e, rfl⟩
  refine ⟨?_, fun q x e => ?_⟩
  · obtain ⟨r, hr, hr2⟩ := h.1
    obtain ⟨y', e1, e2⟩ := back 0 r hr
    exact ⟨y', e1, by rw [e2, hr2]⟩
  · unfold zf_ap at e
    have par : ∀ w, C (q / 101) = some w ∧ w.2.2.2.2.2 = -1 → ∃ u', zf_ap (2, p, d, o, u.2.1 + 1, t) C (q / 101) = some u' ∧ u'.2.2.2.2.2 = -1 := fun w hw => by
      obtain ⟨y', e1, e2⟩ := back _ w hw.1
      exact ⟨y', e1, by rw [e2, hw.2]⟩
    by_cases c : p = q
    · subst c
      rw [zf_f2s, hu] at e
      have e := (Option.some.inj e).symm
      subst e
      obtain ⟨a1, a2, a3, a4, a5, a6, a7, a8⟩ := h.2 _ u hu
      have := zb_inc a2 a3 hb
      exact ⟨a1, this.1, this.2, a4, by dsimp only; omega, a6, a7, fun z => (a8 z).elim fun w hw => par w hw⟩
    · rw [zf_f2o c] at e
      obtain ⟨a1, a2, a3, a4, a5, a6, a7, a8⟩ := h.2 _ x e
      exact ⟨a1, a2, by omega, a4, by omega, a6, a7, fun z => (a8 z).elim fun w hw => par w hw⟩
theorem zi_C3 {b : Nat} {C : zn_Mp} (h : zi_C b C) (hb : b < 1000000000) {p d o t : Int32} {u : zn_Nd} (hp : zp_ok p) (hp0 : ¬ p = 0) (hu : C (p / 101) = some u) (hn : ∀ q y, C q = some y → ¬ q = 0 → ¬ q / 101 = p) :
    zi_C (b + 1) (zf_ap (3, p, d, o, u.2.2.1 + 1, t) C) := by
  have hmm : ¬ p = p / 101 := fun z => by have := (zp_lt hp hp0).2; rw [← z] at this; omega
  have back : ∀ q y, ¬ p = q → C q = some y → ∃ y', zf_ap (3, p, d, o, u.2.2.1 + 1, t) C q = some y' ∧ y'.2.2.2.2.2 = y.2.2.2.2.2 := by
    intro q y c1 e
    unfold zf_ap
    by_cases c2 : p / 101 = q
    · rw [zf_f3u c1 c2, e]; exact ⟨_, rfl, rfl⟩
    · rw [zf_f3o c1 c2]; exact ⟨y, e, rfl⟩
  refine ⟨?_, fun q x e => ?_⟩
  · obtain ⟨r, hr, hr2⟩ := h.1
    obtain ⟨y', e1, e2⟩ := back 0 r hp0 hr
    exact ⟨y', e1, by rw [e2, hr2]⟩
  · unfold zf_ap at e
    by_cases c1 : p = q
    · subst c1; rw [zf_f3s] at e; exact nomatch e
    · have par : ∀ y, C q = some y → ¬ q = 0 → ∀ w, C (q / 101) = some w ∧ w.2.2.2.2.2 = -1 → ∃ u', zf_ap (3, p, d, o, u.2.2.1 + 1, t) C (q / 101) = some u' ∧ u'.2.2.2.2.2 = -1 := fun y hy z w hw => by
        obtain ⟨y', e1, e2⟩ := back _ w (fun z2 => hn q y hy z z2.symm) hw.1
        exact ⟨y', e1, by rw [e2, hw.2]⟩
      by_cases c2 : p / 101 = q
      · subst c2
        rw [zf_f3u c1 rfl, hu] at e
        have e := (Option.some.inj e).symm
        subst e
        obtain ⟨a1, a2, a3, a4, a5, a6, a7, a8⟩ := h.2 _ u hu
        have := zb_inc a4 a5 hb
        exact ⟨a1, a2, by dsimp only; omega, this.1, this.2, a6, a7, fun z => (a8 z).elim fun w hw => par u hu z w hw⟩
      · rw [zf_f3o c1 c2] at e
        obtain ⟨a1, a2, a3, a4, a5, a6, a7, a8⟩ := h.2 _ x e
        exact ⟨a1, a2, by omega, a4, by omega, a6, a7, fun z => (a8 z).elim fun w hw => par x e z w hw⟩
/-- the path that is made -/
def zq_m (cv p fl : Int32) : Int32 := if 1 < fl.toInt then ((p / 101) * 101 + (cv - cv / 100 * 100)) + 1 else p
/-- one request: n nodes there are, k children of p; what it answers, what is written down -/
def zq_rq (C : zn_Mp) (n k : Nat) (t s kind p a b : Int32) : Int32 × Option zf_E :=
  if ¬ zp_ok p ∨ (p = 0 ∧ (kind = 0 ∨ kind = 2)) then (-2, none)
  else if kind = 0 then
    (match C (p / 101) with
    | none => (-3, none)
    | some u => if u.2.2.2.2.2 = -1 then
        (if (C (zq_m u.2.2.1 p b)).isSome = true then (-5, none) else if n = 21 then (-6, none) else
          (zq_m u.2.2.1 p b, some (1, zq_m u.2.2.1 p b, a, if b.toInt % 2 = 1 then s else -1, u.2.2.1 + 1, t)))
      else (-4, none))
  else
    (match C p with
    | none => (-3, none)
    | some u => if b = -1 ∨ b = u.2.1 then
        (if kind = 1 then (u.2.1 + 1, some (2, p, a, 0, u.2.1 + 1, t))
        else if kind = 3 then (0, none)
        else if 0 < k then (-8, none)
        else (match C (p / 101) with
          | none => (-3, none)
          | some w => (w.2.2.1 + 1, some (3, p, 0, 0, w.2.2.1 + 1, t))))
      else (-7, none))
section
variable {C : zn_Mp} {n k : Nat} {t s kind p a b : Int32}
theorem zq_2 (h : ¬ zp_ok p ∨ (p = 0 ∧ (kind = 0 ∨ kind = 2))) : zq_rq C n k t s kind p a b = (-2, none) := by
  unfold zq_rq; rw [if_pos h]
theorem zq_c3 (hp : zp_ok p) (h0 : ¬ p = 0) (hu : C (p / 101) = none) : zq_rq C n k t s 0 p a b = (-3, none) := by
  unfold zq_rq; rw [if_neg (fun z => z.elim (fun w => w hp) (fun w => h0 w.1)), if_pos rfl, hu]
theorem zq_c4 (hp : zp_ok p) (h0 : ¬ p = 0) {u : zn_Nd} (hu : C (p / 101) = some u) (ho : ¬ u.2.2.2.2.2 = -1) : zq_rq C n k t s 0 p a b = (-4, none) := by
  unfold zq_rq; rw [if_neg (fun z => z.elim (fun w => w hp) (fun w => h0 w.1)), if_pos rfl, hu]; exact if_neg ho
theorem zq_c5 (hp : zp_ok p) (h0 : ¬ p = 0) {u : zn_Nd} (hu : C (p / 101) = some u) (ho : u.2.2.2.2.2 = -1) {y : zn_Nd} (hm : C (zq_m u.2.2.1 p b) = some y) : zq_rq C n k t s 0 p a b = (-5, none) := by
  unfold zq_rq; rw [if_neg (fun z => z.elim (fun w => w hp) (fun w => h0 w.1)), if_pos rfl, hu]
  show (if u.2.2.2.2.2 = -1 then _ else _) = _
  rw [if_pos ho, hm]; rfl
theorem zq_c6 (hp : zp_ok p) (h0 : ¬ p = 0) {u : zn_Nd} (hu : C (p / 101) = some u) (ho : u.2.2.2.2.2 = -1) (hm : C (zq_m u.2.2.1 p b) = none) (hn : n = 21) : zq_rq C n k t s 0 p a b = (-6, none) := by
  unfold zq_rq; rw [if_neg (fun z => z.elim (fun w => w hp) (fun w => h0 w.1)), if_pos rfl, hu]
  show (if u.2.2.2.2.2 = -1 then _ else _) = _
  rw [if_pos ho, hm, if_neg (by simp), if_pos hn]
theorem zq_c (hp : zp_ok p) (h0 : ¬ p = 0) {u : zn_Nd} (hu : C (p / 101) = some u) (ho : u.2.2.2.2.2 = -1) (hm : C (zq_m u.2.2.1 p b) = none) (hn : ¬ n = 21) :
    zq_rq C n k t s 0 p a b = (zq_m u.2.2.1 p b, some (1, zq_m u.2.2.1 p b, a, if b.toInt % 2 = 1 then s else -1, u.2.2.1 + 1, t)) := by
  unfold zq_rq; rw [if_neg (fun z => z.elim (fun w => w hp) (fun w => h0 w.1)), if_pos rfl, hu]
  show (if u.2.2.2.2.2 = -1 then _ else _) = _
  rw [if_pos ho, hm, if_neg (by simp), if_neg hn]
theorem zq_v3 (hk : ¬ kind = 0) (h2 : ¬ (p = 0 ∧ kind = 2)) (hp : zp_ok p) (hu : C p = none) : zq_rq C n k t s kind p a b = (-3, none) := by
  unfold zq_rq; rw [if_neg (fun z => z.elim (fun w => w hp) (fun w => w.2.elim hk (fun w2 => h2 ⟨w.1, w2⟩))), if_neg hk, hu]
theorem zq_v7 (hk : ¬ kind = 0) (h2 : ¬ (p = 0 ∧ kind = 2)) (hp : zp_ok p) {u : zn_Nd} (hu : C p = some u) (hb : ¬ (b = -1 ∨ b = u.2.1)) : zq_rq C n k t s kind p a b = (-7, none) := by
  unfold zq_rq; rw [if_neg (fun z => z.elim (fun w => w hp) (fun w => w.2.elim hk (fun w2 => h2 ⟨w.1, w2⟩))), if_neg hk, hu]; exact if_neg hb
theorem zq_s (hp : zp_ok p) {u : zn_Nd} (hu : C p = some u) (hb : b = -1 ∨ b = u.2.1) : zq_rq C n k t s 1 p a b = (u.2.1 + 1, some (2, p, a, 0, u.2.1 + 1, t)) := by
  unfold zq_rq; rw [if_neg (fun z => z.elim (fun w => w hp) (fun w => w.2.elim (by decide) (by decide))), if_neg (by decide), hu]
  show (if b = -1 ∨ b = u.2.1 then _ else _) = _
  rw [if_pos hb, if_pos rfl]
theorem zq_v (hp : zp_ok p) {u : zn_Nd} (hu : C p = some u) (hb : b = -1 ∨ b = u.2.1) : zq_rq C n k t s 3 p a b = (0, none) := by
  unfold zq_rq; rw [if_neg (fun z => z.elim (fun w => w hp) (fun w => w.2.elim (by decide) (by decide))), if_neg (by decide), hu]
  show (if b = -1 ∨ b = u.2.1 then _ else _) = _
  rw [if_pos hb, if_neg (by decide), if_pos rfl]
theorem zq_r8 (hp : zp_ok p) (h0 : ¬ p = 0) {u : zn_Nd} (hu : C p = some u) (hb : b = -1 ∨ b = u.2.1) (hk : 0 < k) : zq_rq C n k t s 2 p a b = (-8, none) := by
  unfold zq_rq; rw [if_neg (fun z => z.elim (fun w => w hp) (fun w => h0 w.1)), if_neg (by decide), hu]
  show (if b = -1 ∨ b = u.2.1 then _ else _) = _
  rw [if_pos hb, if_neg (by decide), if_neg (by decide), if_pos hk]
theorem zq_r (hp : zp_ok p) (h0 : ¬ p = 0) {u w : zn_Nd} (hu : C p = some u) (hb : b = -1 ∨ b = u.2.1) (hk : ¬ 0 < k) (hw : C (p / 101) = some w) : zq_rq C n k t s 2 p a b = (w.2.2.1 + 1, some (3, p, 0, 0, w.2.2.1 + 1, t)) := by
  unfold zq_rq; rw [if_neg (fun z => z.elim (fun w => w hp) (fun w => h0 w.1)), if_neg (by decide), hu]
  show (if b = -1 ∨ b = u.2.1 then _ else _) = _
  rw [if_pos hb, if_neg (by decide), if_neg (by decide), if_neg hk, hw]
end
end
section
/-! the component's requests -/
theorem zr_mod {N : Nat} {path : Nat → Int32} {nd nd' : Nat → zn_Nd} {C C' : zn_Mp} (R : zr_Rep N path nd C) (h1 : ∀ s, s < N → 0 ≤ (path s).toInt → C' (path s) = some (nd' s)) (h2 : ∀ p, C p = none → C' p = none) : zr_Rep N path nd' C' := by
  refine ⟨h1, fun p x e => ?_, R.2.2⟩
  cases e2 : C p with
  | none => rw [h2 p e2] at e; exact nomatch e
  | some y => exact R.2.1 p y e2
/-- the whole tree of the component -/
def zx_T (f_nodes : Int32) (a_path a_data a_version a_childVersion a_created a_setAt a_owner a_firstChild a_sibling a_bucket : Nat → Int32) (C : zn_Mp) : Prop :=
  zx_H f_nodes a_path a_data a_version a_childVersion a_created a_setAt a_owner a_bucket C ∧ zk_L a_path a_firstChild a_sibling (fun s => 0 < (a_path s).toInt) ∧ (∀ s, 21 ≤ s → s < 48 → a_path s = -1) ∧ a_path 0 = 0
/-- how the slots change by an entry -/
def zs_St (e : zf_E) (path : Nat → Int32) (nd : Nat → zn_Nd) (path1 : Nat → Int32) (nd1 : Nat → zn_Nd) : Prop :=
  (e.1 = 1 ∧ ∃ s up, s < 21 ∧ up < 21 ∧ up ≠ s ∧ path s = -1 ∧ path1 s = e.2.1 ∧ (∀ j, j ≠ s → path1 j = path j) ∧ path up = e.2.1 / 101 ∧
    nd1 up = ((nd up).1, (nd up).2.1, (nd up).2.2.1 + 1, (nd up).2.2.2.1, (nd up).2.2.2.2.1, (nd up).2.2.2.2.2) ∧ (∀ j, j ≠ s → j ≠ up → nd1 j = nd j)) ∨
  (e.1 = 2 ∧ ∃ s, s < 21 ∧ path s = e.2.1 ∧ (∀ j, path1 j = path j) ∧ (∀ j, j ≠ s → nd1 j = nd j)) ∨
  (e.1 = 3 ∧ ∃ s up, s < 21 ∧ up < 21 ∧ up ≠ s ∧ path s = e.2.1 ∧ path1 s = -1 ∧ (∀ j, j ≠ s → path1 j = path j) ∧ path up = e.2.1 / 101 ∧
    nd1 up = ((nd up).1, (nd up).2.1, (nd up).2.2.1 + 1, (nd up).2.2.2.1, (nd up).2.2.2.2.1, (nd up).2.2.2.2.2) ∧ (∀ j, j ≠ up → nd1 j = nd j))
def zs_En (N : Nat) (e : zf_E) (a_eKind a_ePath a_eData a_eOwner a_eVersion a_eNumber : Nat → Int32) (a_eKind1 a_ePath1 a_eData1 a_eOwner1 a_eVersion1 a_eNumber1 : Nat → Int32) : Prop := (∀ j, j ≠ N → zf_en a_eKind1 a_ePath1 a_eData1 a_eOwner1 a_eVersion1 a_eNumber1 j = zf_en a_eKind a_ePath a_eData a_eOwner a_eVersion a_eNumber j) ∧ zf_en a_eKind1 a_ePath1 a_eData1 a_eOwner1 a_eVersion1 a_eNumber1 N = e
/-- a request that was done -/
def zx_Step (e : zf_E) (N : Nat) (C : zn_Mp) (f_nodes : Int32) (a_path a_data a_version a_childVersion a_created a_setAt a_owner a_firstChild a_sibling a_bucket : Nat → Int32) (a_eKind a_ePath a_eData a_eOwner a_eVersion a_eNumber : Nat → Int32) (f_nodes1 : Int32) (a_path1 a_data1 a_version1 a_childVersion1 a_created1 a_setAt1 a_owner1 a_firstChild1 a_sibling1 a_bucket1 : Nat → Int32) (a_eKind1 a_ePath1 a_eData1 a_eOwner1 a_eVersion1 a_eNumber1 : Nat → Int32) : Prop :=
  zx_T f_nodes1 a_path1 a_data1 a_version1 a_childVersion1 a_created1 a_setAt1 a_owner1 a_firstChild1 a_sibling1 a_bucket1 (zf_ap e C) ∧ zs_St e a_path (zn_nd a_data a_version a_childVersion a_created a_setAt a_owner) a_path1 (zn_nd a_data1 a_version1 a_childVersion1 a_created1 a_setAt1 a_owner1) ∧ zs_En N e a_eKind a_ePath a_eData a_eOwner a_eVersion a_eNumber a_eKind1 a_ePath1 a_eData1 a_eOwner1 a_eVersion1 a_eNumber1
theorem zs_En_upd {N : Nat} {k p d o v t : Int32} {a_eKind a_ePath a_eData a_eOwner a_eVersion a_eNumber : Nat → Int32} : zs_En N (k, p, d, o, v, t) a_eKind a_ePath a_eData a_eOwner a_eVersion a_eNumber (upd a_eKind N k) (upd a_ePath N p) (upd a_eData N d) (upd a_eOwner N o) (upd a_eVersion N v) (upd a_eNumber N t) := by
  refine ⟨fun j hj => ?_, ?_⟩
  · unfold zf_en; rw [pk_un hj, pk_un hj, pk_un hj, pk_un hj, pk_un hj, pk_un hj]
  · unfold zf_en; rw [pk_us, pk_us, pk_us, pk_us, pk_us, pk_us]
section
variable {f_nodes f_time f_latest f_entries f_logged f_complete f_taken f_sinceEntry f_sinceCount f_parts f_wrongPart f_watches : Int32} {a_path a_data a_version a_childVersion a_created a_setAt a_owner a_firstChild a_sibling a_bucket a_open a_timeout a_deadline a_eKind a_ePath a_eData a_eOwner a_eVersion a_eNumber a_iPath a_iData a_iVersion a_iChildVersion a_iCreated a_iSet a_iOwner a_iTimeout a_iLatest a_pKind a_pPath a_pA a_pB a_uEntry a_uSlot a_uData a_uVersion a_uSet a_uChildVersion a_uCreated a_uOwner a_wSession a_wKind a_wPath a_queue a_queued : Nat → Int32}
theorem zx_entry {post : Int32 → SX → Prop} {N : Nat} {k p d o v : Int32} (hN : N < 400) (he : f_entries = nI N) (hk1 : -128 ≤ k.toInt) (hk2 : k.toInt < 128) (ho1 : -128 ≤ o.toInt) (ho2 : o.toInt < 128)
    (h : post (nI N) (f_nodes, f_time, f_latest, nI (N + 1), f_logged, f_complete, f_taken, f_sinceEntry, f_sinceCount, f_parts, f_wrongPart, f_watches, a_path, a_data, a_version, a_childVersion, a_created, a_setAt, a_owner, a_firstChild, a_sibling, a_bucket, a_open, a_timeout, a_deadline, upd a_eKind N k, upd a_ePath N p, upd a_eData N d, upd a_eOwner N o, upd a_eVersion N v, upd a_eNumber N (f_latest + 1), a_iPath, a_iData, a_iVersion, a_iChildVersion, a_iCreated, a_iSet, a_iOwner, a_iTimeout, a_iLatest, a_pKind, a_pPath, a_pA, a_pB, a_uEntry, a_uSlot, a_uData, a_uVersion, a_uSet, a_uChildVersion, a_uCreated, a_uOwner, a_wSession, a_wKind, a_wPath, a_queue, a_queued)) : wpX_entry post (f_nodes, f_time, f_latest, f_entries, f_logged, f_complete, f_taken, f_sinceEntry, f_sinceCount, f_parts, f_wrongPart, f_watches, a_path, a_data, a_version, a_childVersion, a_created, a_setAt, a_owner, a_firstChild, a_sibling, a_bucket, a_open, a_timeout, a_deadline, a_eKind, a_ePath, a_eData, a_eOwner, a_eVersion, a_eNumber, a_iPath, a_iData, a_iVersion, a_iChildVersion, a_iCreated, a_iSet, a_iOwner, a_iTimeout, a_iLatest, a_pKind, a_pPath, a_pA, a_pB, a_uEntry, a_uSlot, a_uData, a_uVersion, a_uSet, a_uChildVersion, a_uCreated, a_uOwner, a_wSession, a_wKind, a_wPath, a_queue, a_queued) k p d o v := by
  subst he
  refine zz_st rfl hN (by decide) (zb_nar2 hk1 hk2) ?_
  refine zz_st rfl hN (by decide) rfl ?_
  refine zz_st rfl hN (by decide) rfl ?_
  refine zz_st rfl hN (by decide) (zb_nar2 ho1 ho2) ?_
  refine zz_st rfl hN (by decide) rfl ?_
  refine zz_st rfl hN (by decide) rfl ?_
  exact nm_r (nI_1 N) h
theorem zx_n_le {C : zn_Mp} (H : zx_T f_nodes a_path a_data a_version a_childVersion a_created a_setAt a_owner a_firstChild a_sibling a_bucket C) : zr_n a_path 48 ≤ 21 := by
  have : zr_n a_path 48 = zr_n a_path 21 := zc_ext' (by omega) (fun s h1 h2 => zr_oc0.mpr (by rw [H.2.2.1 s h1 h2]; decide))
  rw [this]; exact zc_leN _ _
theorem zx_slot {C : zn_Mp} (H : zx_T f_nodes a_path a_data a_version a_childVersion a_created a_setAt a_owner a_firstChild a_sibling a_bucket C) {s : Nat} (hs : s < 48) (h0 : 0 ≤ (a_path s).toInt) : s < 21 := by
  rcases Nat.lt_or_ge s 21 with z | z
  · exact z
  · rw [H.2.2.1 s z hs, zb_tm1] at h0; omega
theorem zx_dc90 {post : Int32 → SX → Prop} {C : zn_Mp} {b N up : Nat} {m d own : Int32} (H : zx_T f_nodes a_path a_data a_version a_childVersion a_created a_setAt a_owner a_firstChild a_sibling a_bucket C) (hC : zi_C b C) (hN : N < 400) (he : f_entries = nI N)
    (hm : zp_ok m) (hm0 : ¬ m = 0) (hup : up < 48) (hu : a_path up = m / 101) (ho1 : -1 ≤ own.toInt) (ho2 : own.toInt ≤ 3)
    (h5 : ∀ y, C m = some y → post (-5) (f_nodes, f_time, f_latest, f_entries, f_logged, f_complete, f_taken, f_sinceEntry, f_sinceCount, f_parts, f_wrongPart, f_watches, a_path, a_data, a_version, a_childVersion, a_created, a_setAt, a_owner, a_firstChild, a_sibling, a_bucket, a_open, a_timeout, a_deadline, a_eKind, a_ePath, a_eData, a_eOwner, a_eVersion, a_eNumber, a_iPath, a_iData, a_iVersion, a_iChildVersion, a_iCreated, a_iSet, a_iOwner, a_iTimeout, a_iLatest, a_pKind, a_pPath, a_pA, a_pB, a_uEntry, a_uSlot, a_uData, a_uVersion, a_uSet, a_uChildVersion, a_uCreated, a_uOwner, a_wSession, a_wKind, a_wPath, a_queue, a_queued)) (h6 : C m = none → zr_n a_path 48 = 21 → post (-6) (f_nodes, f_time, f_latest, f_entries, f_logged, f_complete, f_taken, f_sinceEntry, f_sinceCount, f_parts, f_wrongPart, f_watches, a_path, a_data, a_version, a_childVersion, a_created, a_setAt, a_owner, a_firstChild, a_sibling, a_bucket, a_open, a_timeout, a_deadline, a_eKind, a_ePath, a_eData, a_eOwner, a_eVersion, a_eNumber, a_iPath, a_iData, a_iVersion, a_iChildVersion, a_iCreated, a_iSet, a_iOwner, a_iTimeout, a_iLatest, a_pKind, a_pPath, a_pA, a_pB, a_uEntry, a_uSlot, a_uData, a_uVersion, a_uSet, a_uChildVersion, a_uCreated, a_uOwner, a_wSession, a_wKind, a_wPath, a_queue, a_queued))
    (h : C m = none → ¬ zr_n a_path 48 = 21 → ∀ (f_nodes1 : Int32) (a_path1 a_data1 a_version1 a_childVersion1 a_created1 a_setAt1 a_owner1 a_firstChild1 a_sibling1 a_bucket1 : Nat → Int32) (a_eKind1 a_ePath1 a_eData1 a_eOwner1 a_eVersion1 a_eNumber1 : Nat → Int32), zx_Step (1, m, d, own, a_childVersion up + 1, f_latest + 1) N C f_nodes a_path a_data a_version a_childVersion a_created a_setAt a_owner a_firstChild a_sibling a_bucket a_eKind a_ePath a_eData a_eOwner a_eVersion a_eNumber f_nodes1 a_path1 a_data1 a_version1 a_childVersion1 a_created1 a_setAt1 a_owner1 a_firstChild1 a_sibling1 a_bucket1 a_eKind1 a_ePath1 a_eData1 a_eOwner1 a_eVersion1 a_eNumber1 → post m (f_nodes1, f_time, f_latest, nI (N + 1), f_logged, f_complete, f_taken, f_sinceEntry, f_sinceCount, f_parts, f_wrongPart, f_watches, a_path1, a_data1, a_version1, a_childVersion1, a_created1, a_setAt1, a_owner1, a_firstChild1, a_sibling1, a_bucket1, a_open, a_timeout, a_deadline, a_eKind1, a_ePath1, a_eData1, a_eOwner1, a_eVersion1, a_eNumber1, a_iPath, a_iData, a_iVersion, a_iChildVersion, a_iCreated, a_iSet, a_iOwner, a_iTimeout, a_iLatest, a_pKind, a_pPath, a_pA, a_pB, a_uEntry, a_uSlot, a_uData, a_uVersion, a_uSet, a_uChildVersion, a_uCreated, a_uOwner, a_wSession, a_wKind, a_wPath, a_queue, a_queued)) :
    wX_doCreate_90 post d (nI up) own m f_nodes f_time f_latest f_entries f_logged f_complete f_taken f_sinceEntry f_sinceCount f_parts f_wrongPart f_watches a_path a_data a_version a_childVersion a_created a_setAt a_owner a_firstChild a_sibling a_bucket a_open a_timeout a_deadline a_eKind a_ePath a_eData a_eOwner a_eVersion a_eNumber a_iPath a_iData a_iVersion a_iChildVersion a_iCreated a_iSet a_iOwner a_iTimeout a_iLatest a_pKind a_pPath a_pA a_pB a_uEntry a_uSlot a_uData a_uVersion a_uSet a_uChildVersion a_uCreated a_uOwner a_wSession a_wKind a_wPath a_queue a_queued := by
  have hn := zx_n_le H
  have inj : zk_inj a_path := H.1.2.1.2.2
  refine zx_find H.1 (fun e => br_t (by decide) ?_) (fun s hs e h0 e2 => br_f (nI_pos (by omega)) (h5 _ e2))
  refine pk_le (zr_n a_path 48) 20 (fun c => ?_) (fun c => h6 e (by omega)) (hx := H.1.2.2.1)
  have hfree : zr_n a_path 21 < 21 := by
    have : zr_n a_path 48 = zr_n a_path 21 := zc_ext' (by omega) (fun s h1 h2 => zr_oc0.mpr (by rw [H.2.2.1 s h1 h2]; decide))
    omega
  obtain ⟨f, hf, hf2⟩ := zc_ex hfree
  have hf3 := zr_oc0.mp hf2
  refine zx_free (e := f) (by omega) hf3 (fun s hs hs0 hlow => ?_)
  have hs21 : s < 21 := by
    rcases Nat.lt_or_ge f s with z | z
    · have := hlow f z; omega
    · omega
  have hsm1 : a_path s = -1 := H.1.2.2.2 s hs hs0
  have hu0 : 0 ≤ (a_path up).toInt := by rw [hu, zb_div hm.1]; have := hm.1; omega
  have hup21 := zx_slot H hup hu0
  have hups : up ≠ s := fun z => by rw [z] at hu0; omega
  have hs0' : s ≠ 0 := fun z => by rw [z, H.2.2.2, zb_t0] at hs0; omega
  have hmpos := (zp_lt hm hm0).1
  have hmm : ¬ m = m / 101 := fun z => by have := (zp_lt hm hm0).2; rw [← z] at this; omega
  have hcu := nI_clamp (n := up) (by omega)
  refine zx_place H.1 hs hs0 hm.1 e (fun bk H1 => ?_)
  -- the links after place
  have L1 : zk_L (upd a_path s m) (upd a_firstChild s (-1)) (upd a_sibling s (-1)) (fun j => 0 < (a_path j).toInt) := by
    refine zk_L_new H.2.1 hs (by omega) (fun j _ hj => pk_un hj) (fun j _ hj => pk_un hj) (fun j _ hj => pk_un hj) pk_us (fun j hj dj ej => ?_)
    rw [pk_us] at ej
    have e1 := H.1.2.1.1 j hj (by omega)
    obtain ⟨w, hw, _⟩ := (hC.2 _ _ e1).2.2.2.2.2.2.2 (fun z => by rw [z, zb_t0] at dj; omega)
    rw [ej, e] at hw
    exact nomatch hw
  refine zx_link (D := fun j => 0 < (a_path j).toInt) (D' := fun j => 0 < (upd a_path s m j).toInt) (up := up) H1 L1 (fun j hj dj => ?_) hs (by omega) (by rw [pk_us]; exact hmpos) hup (by rw [pk_un hups, pk_us]; exact hu) (fun j hj => ?_) (fun fc1 sb1 L2 => ?_)
  · have : j ≠ s := fun z => by rw [z] at dj; omega
    rw [pk_un this]; exact dj
  · by_cases z : j = s
    · rw [z, pk_us]; exact ⟨fun _ => Or.inl rfl, fun _ => hmpos⟩
    · rw [pk_un z]; exact ⟨fun w => Or.inr w, fun w => w.resolve_left z⟩
  refine zz_st rfl hs (by decide) rfl ?_
  refine zz_st rfl hs (by decide) (zb_nar2 (by omega) (by omega)) ?_
  refine zz_st rfl hs (by decide) rfl ?_
  refine zz_st rfl hs (by decide) rfl ?_
  refine zz_in rfl hup (by decide) (zz_st rfl hup (by decide) (v' := a_childVersion up + 1) (by rw [hcu, pk_un hups]) ?_)
  refine zz_in rfl hup (by decide) ?_
  rw [hcu, pk_us]
  refine zx_entry hN he (by decide) (by decide) (by omega) (by omega) ?_
  refine h e (by omega) (f_nodes + 1) (upd a_path s m) _ _ _ _ _ _ fc1 sb1 bk _ _ _ _ _ _ ⟨⟨⟨H1.1, ?_, H1.2.2.1, H1.2.2.2⟩, L2, ?_, ?_⟩, Or.inl ⟨rfl, s, up, hs21, hup21, hups, hsm1, pk_us, fun j hj => pk_un hj, hu, ?_, fun j hj hj2 => ?_⟩, zs_En_upd⟩
  · refine zr_mod H1.2.1 (fun j hj hj0 => ?_) (fun p hp => ?_)
    · unfold zf_ap
      by_cases z : j = s
      · subst z
        simp only [zn_nd, pk_us, pk_un hups.symm, zf_f1s]
      · rw [pk_un z] at hj0 ⊢
        have e1 := H.1.2.1.1 j hj hj0
        have n1 : ¬ m = a_path j := fun w => by rw [← w, e] at e1; exact nomatch e1
        by_cases z2 : j = up
        · subst z2
          rw [zf_f1u n1 hu.symm, e1]
          simp only [zn_nd, pk_us, pk_un z, Option.map_some]
        · have n2 : ¬ m / 101 = a_path j := fun w => z2 (inj j up hj hup hj0 (by rw [← w, hu]))
          rw [zf_f1o n1 n2, e1]
          simp only [zn_nd, pk_un z, pk_un z2]
    · have n1 : ¬ m = p := fun w => by rw [← w, zr_set_s] at hp; exact nomatch hp
      rw [zr_set_n (fun w => n1 w.symm)] at hp
      unfold zf_ap
      rw [hp]
      by_cases c2 : m / 101 = p
      · rw [zf_f1u n1 c2]; rfl
      · rw [zf_f1o n1 c2]
  · intro j h1 h2
    rw [pk_un (by omega)]; exact H.2.2.1 j h1 h2
  · rw [pk_un hs0'.symm]; exact H.2.2.2
  · simp only [zn_nd, pk_us, pk_un hups]
  · simp only [zn_nd, pk_un hj, pk_un hj2]
/-- flags -/
theorem zx_fl : ∀ f, f < 4 → (((nI f &&& 2) = 0 ↔ f < 2) ∧ ((nI f &&& 1) = 0 ↔ f % 2 = 0) ∧ nI f - nI f / 2 * 2 = nI (f % 2) ∧ (nI f ≤ 1 ↔ f < 2)) := by decide +kernel
theorem zx_create {post : Int32 → SX → Prop} {C : zn_Mp} {b N f ss k : Nat} {p d : Int32} (H : zx_T f_nodes a_path a_data a_version a_childVersion a_created a_setAt a_owner a_firstChild a_sibling a_bucket C) (hC : zi_C b C) (hN : N < 400) (he : f_entries = nI N) (hf : f < 4) (hss : ss < 4)
    (hn : ∀ r, zq_rq C (zr_n a_path 48) k (f_latest + 1) (nI ss) 0 p d (nI f) = (r, none) → post r (f_nodes, f_time, f_latest, f_entries, f_logged, f_complete, f_taken, f_sinceEntry, f_sinceCount, f_parts, f_wrongPart, f_watches, a_path, a_data, a_version, a_childVersion, a_created, a_setAt, a_owner, a_firstChild, a_sibling, a_bucket, a_open, a_timeout, a_deadline, a_eKind, a_ePath, a_eData, a_eOwner, a_eVersion, a_eNumber, a_iPath, a_iData, a_iVersion, a_iChildVersion, a_iCreated, a_iSet, a_iOwner, a_iTimeout, a_iLatest, a_pKind, a_pPath, a_pA, a_pB, a_uEntry, a_uSlot, a_uData, a_uVersion, a_uSet, a_uChildVersion, a_uCreated, a_uOwner, a_wSession, a_wKind, a_wPath, a_queue, a_queued))
    (h : ∀ r e, zq_rq C (zr_n a_path 48) k (f_latest + 1) (nI ss) 0 p d (nI f) = (r, some e) → ∀ (f_nodes1 : Int32) (a_path1 a_data1 a_version1 a_childVersion1 a_created1 a_setAt1 a_owner1 a_firstChild1 a_sibling1 a_bucket1 : Nat → Int32) (a_eKind1 a_ePath1 a_eData1 a_eOwner1 a_eVersion1 a_eNumber1 : Nat → Int32), zx_Step e N C f_nodes a_path a_data a_version a_childVersion a_created a_setAt a_owner a_firstChild a_sibling a_bucket a_eKind a_ePath a_eData a_eOwner a_eVersion a_eNumber f_nodes1 a_path1 a_data1 a_version1 a_childVersion1 a_created1 a_setAt1 a_owner1 a_firstChild1 a_sibling1 a_bucket1 a_eKind1 a_ePath1 a_eData1 a_eOwner1 a_eVersion1 a_eNumber1 → post r (f_nodes1, f_time, f_latest, nI (N + 1), f_logged, f_complete, f_taken, f_sinceEntry, f_sinceCount, f_parts, f_wrongPart, f_watches, a_path1, a_data1, a_version1, a_childVersion1, a_created1, a_setAt1, a_owner1, a_firstChild1, a_sibling1, a_bucket1, a_open, a_timeout, a_deadline, a_eKind1, a_ePath1, a_eData1, a_eOwner1, a_eVersion1, a_eNumber1, a_iPath, a_iData, a_iVersion, a_iChildVersion, a_iCreated, a_iSet, a_iOwner, a_iTimeout, a_iLatest, a_pKind, a_pPath, a_pA, a_pB, a_uEntry, a_uSlot, a_uData, a_uVersion, a_uSet, a_uChildVersion, a_uCreated, a_uOwner, a_wSession, a_wKind, a_wPath, a_queue, a_queued)) :
    wpX_doCreate post (f_nodes, f_time, f_latest, f_entries, f_logged, f_complete, f_taken, f_sinceEntry, f_sinceCount, f_parts, f_wrongPart, f_watches, a_path, a_data, a_version, a_childVersion, a_created, a_setAt, a_owner, a_firstChild, a_sibling, a_bucket, a_open, a_timeout, a_deadline, a_eKind, a_ePath, a_eData, a_eOwner, a_eVersion, a_eNumber, a_iPath, a_iData, a_iVersion, a_iChildVersion, a_iCreated, a_iSet, a_iOwner, a_iTimeout, a_iLatest, a_pKind, a_pPath, a_pA, a_pB, a_uEntry, a_uSlot, a_uData, a_uVersion, a_uSet, a_uChildVersion, a_uCreated, a_uOwner, a_wSession, a_wKind, a_wPath, a_queue, a_queued) (nI ss) p d (nI f) := by
  obtain ⟨f1, f2, _, _⟩ := zx_fl f hf
  unfold wpX_doCreate
  refine zx_isPath (fun hp => br_f (by decide) ?_) (fun hp => br_t rfl (hn _ (zq_2 (Or.inl hp))))
  by_cases h0 : p = 0
  · exact br_t h0 (hn _ (zq_2 (Or.inr ⟨h0, Or.inl rfl⟩)))
  refine br_f h0 (And.intro zb_101n (zx_find H.1 (fun e => br_f (by decide) (hn _ (zq_c3 hp h0 e))) (fun up hup hu hu0 eu => br_t (nI_pos' (by omega)) ?_)))
  have hcu := nI_clamp (n := up) (by omega)
  refine zz_in rfl hup (by decide) ?_
  obtain ⟨_, _, _, c1, c2, o1, o2, _⟩ := hC.2 _ _ eu
  by_cases ho : a_owner up = -1
  · refine br_t (by rw [hcu, ho]; decide) ?_
    have ho' : (zn_nd a_data a_version a_childVersion a_created a_setAt a_owner up).2.2.2.2.2 = -1 := ho
    -- what follows for either owner
    have fin : ∀ own : Int32, (own = if (nI f).toInt % 2 = 1 then nI ss else -1) → wX_doCreate_57 post p d (nI f) (nI up) own f_nodes f_time f_latest f_entries f_logged f_complete f_taken f_sinceEntry f_sinceCount f_parts f_wrongPart f_watches a_path a_data a_version a_childVersion a_created a_setAt a_owner a_firstChild a_sibling a_bucket a_open a_timeout a_deadline a_eKind a_ePath a_eData a_eOwner a_eVersion a_eNumber a_iPath a_iData a_iVersion a_iChildVersion a_iCreated a_iSet a_iOwner a_iTimeout a_iLatest a_pKind a_pPath a_pA a_pB a_uEntry a_uSlot a_uData a_uVersion a_uSet a_uChildVersion a_uCreated a_uOwner a_wSession a_wKind a_wPath a_queue a_queued := by
      intro own hown
      have ow1 : -1 ≤ own.toInt ∧ own.toInt ≤ 3 := by
        rw [hown]
        by_cases c : (nI f).toInt % 2 = 1
        · rw [if_pos c, nI_toInt (by omega)]; omega
        · rw [if_neg c, zb_tm1]; omega
      have fin2 : ∀ m : Int32, m = zq_m (a_childVersion up) p (nI f) → zp_ok m → ¬ m = 0 → m / 101 = p / 101 → wX_doCreate_90 post d (nI up) own m f_nodes f_time f_latest f_entries f_logged f_complete f_taken f_sinceEntry f_sinceCount f_parts f_wrongPart f_watches a_path a_data a_version a_childVersion a_created a_setAt a_owner a_firstChild a_sibling a_bucket a_open a_timeout a_deadline a_eKind a_ePath a_eData a_eOwner a_eVersion a_eNumber a_iPath a_iData a_iVersion a_iChildVersion a_iCreated a_iSet a_iOwner a_iTimeout a_iLatest a_pKind a_pPath a_pA a_pB a_uEntry a_uSlot a_uData a_uVersion a_uSet a_uChildVersion a_uCreated a_uOwner a_wSession a_wKind a_wPath a_queue a_queued := by
        intro m em hm hm0 hm2
        have em' : zq_m (zn_nd a_data a_version a_childVersion a_created a_setAt a_owner up).2.2.1 p (nI f) = m := em.symm
        refine zx_dc90 H hC hN he hm hm0 hup (by rw [hu, hm2]) ow1.1 ow1.2 (fun y hy => hn _ (zq_c5 hp h0 eu ho' (y := y) (by rw [em']; exact hy)))
          (fun e1 e2 => hn _ (zq_c6 hp h0 eu ho' (by rw [em']; exact e1) e2)) (fun e1 e2 f_nodes1 a_path1 a_data1 a_version1 a_childVersion1 a_created1 a_setAt1 a_owner1 a_firstChild1 a_sibling1 a_bucket1 a_eKind1 a_ePath1 a_eData1 a_eOwner1 a_eVersion1 a_eNumber1 S => ?_)
        have hq : zq_rq C (zr_n a_path 48) k (f_latest + 1) (nI ss) 0 p d (nI f) = (m, some (1, m, d, own, a_childVersion up + 1, f_latest + 1)) := by
          rw [zq_c hp h0 eu ho' (by rw [em']; exact e1) e2, em', hown]
          rfl
        exact h m _ hq _ _ _ _ _ _ _ _ _ _ _ _ _ _ _ _ _ S
      by_cases c : f < 2
      · refine br_t (f1.mpr c) (fin2 p ?_ hp h0 rfl)
        unfold zq_m
        rw [if_neg (by rw [nI_toInt (by omega)]; omega)]
      · have mk := zp_made (c := a_childVersion up) hp h0 c1
        refine br_f (fun z => c (f1.mp z)) (And.intro zb_101n (zz_in rfl hup (by decide) (And.intro zb_100n ?_)))
        rw [hcu]
        refine fin2 _ ?_ mk.1 mk.2.2 mk.2.1
        unfold zq_m
        rw [if_pos (by rw [nI_toInt (by omega)]; omega)]
    by_cases c : f % 2 = 0
    · refine br_t (f2.mpr c) (fin _ ?_)
      rw [if_neg (by rw [nI_toInt (by omega)]; omega)]
    · refine br_f (fun z => c (f2.mp z)) (fin _ ?_)
      rw [if_pos (by rw [nI_toInt (by omega)]; omega)]
  · refine br_f (fun z => ho ?_) (hn _ (zq_c4 hp h0 eu ho))
    rw [hcu, zb_lt0] at z
    have o1' : -1 ≤ (a_owner up).toInt := o1
    exact zb_inj (by rw [zb_tm1]; omega)
theorem zx_fits {post : Int32 → Prop} {C : zn_Mp} {p v : Int32} (H : zx_H f_nodes a_path a_data a_version a_childVersion a_created a_setAt a_owner a_bucket C)
    (h2 : ¬ zp_ok p → post (-2)) (h3 : zp_ok p → C p = none → post (-3)) (h7 : ∀ u, zp_ok p → C p = some u → ¬ (v = -1 ∨ v = u.2.1) → post (-7)) (h0 : ∀ u, zp_ok p → C p = some u → (v = -1 ∨ v = u.2.1) → post 0) : wpX_versionFits post (f_nodes, f_time, f_latest, f_entries, f_logged, f_complete, f_taken, f_sinceEntry, f_sinceCount, f_parts, f_wrongPart, f_watches, a_path, a_data, a_version, a_childVersion, a_created, a_setAt, a_owner, a_firstChild, a_sibling, a_bucket, a_open, a_timeout, a_deadline, a_eKind, a_ePath, a_eData, a_eOwner, a_eVersion, a_eNumber, a_iPath, a_iData, a_iVersion, a_iChildVersion, a_iCreated, a_iSet, a_iOwner, a_iTimeout, a_iLatest, a_pKind, a_pPath, a_pA, a_pB, a_uEntry, a_uSlot, a_uData, a_uVersion, a_uSet, a_uChildVersion, a_uCreated, a_uOwner, a_wSession, a_wKind, a_wPath, a_queue, a_queued) p v := by
  unfold wpX_versionFits
  refine zx_isPath (fun hp => br_f (by decide) ?_) (fun hp => br_t rfl (h2 hp))
  refine zx_find H (fun e => br_f (by decide) (h3 hp e)) (fun s hs e e0 e2 => br_t (nI_pos' (by omega)) ?_)
  have hc := nI_clamp (n := s) (by omega)
  by_cases c : v = -1
  · exact br_t c (h0 _ hp e2 (Or.inl c))
  · refine br_f c (zz_in rfl hs (by decide) ?_)
    by_cases c2 : v = a_version s
    · exact br_t (by rw [hc]; exact c2) (h0 _ hp e2 (Or.inr c2))
    · exact br_f (by rw [hc]; exact c2) (h7 _ hp e2 (fun z => z.elim c c2))
theorem zx_set {post : Int32 → SX → Prop} {C : zn_Mp} {N n k : Nat} {p d v ss : Int32} (H : zx_T f_nodes a_path a_data a_version a_childVersion a_created a_setAt a_owner a_firstChild a_sibling a_bucket C) (hN : N < 400) (he : f_entries = nI N)
    (hn : ∀ r, zq_rq C n k (f_latest + 1) ss 1 p d v = (r, none) → r < 0 → post r (f_nodes, f_time, f_latest, f_entries, f_logged, f_complete, f_taken, f_sinceEntry, f_sinceCount, f_parts, f_wrongPart, f_watches, a_path, a_data, a_version, a_childVersion, a_created, a_setAt, a_owner, a_firstChild, a_sibling, a_bucket, a_open, a_timeout, a_deadline, a_eKind, a_ePath, a_eData, a_eOwner, a_eVersion, a_eNumber, a_iPath, a_iData, a_iVersion, a_iChildVersion, a_iCreated, a_iSet, a_iOwner, a_iTimeout, a_iLatest, a_pKind, a_pPath, a_pA, a_pB, a_uEntry, a_uSlot, a_uData, a_uVersion, a_uSet, a_uChildVersion, a_uCreated, a_uOwner, a_wSession, a_wKind, a_wPath, a_queue, a_queued))
    (h : ∀ r e, zq_rq C n k (f_latest + 1) ss 1 p d v = (r, some e) → ∀ (f_nodes1 : Int32) (a_path1 a_data1 a_version1 a_childVersion1 a_created1 a_setAt1 a_owner1 a_firstChild1 a_sibling1 a_bucket1 : Nat → Int32) (a_eKind1 a_ePath1 a_eData1 a_eOwner1 a_eVersion1 a_eNumber1 : Nat → Int32), zx_Step e N C f_nodes a_path a_data a_version a_childVersion a_created a_setAt a_owner a_firstChild a_sibling a_bucket a_eKind a_ePath a_eData a_eOwner a_eVersion a_eNumber f_nodes1 a_path1 a_data1 a_version1 a_childVersion1 a_created1 a_setAt1 a_owner1 a_firstChild1 a_sibling1 a_bucket1 a_eKind1 a_ePath1 a_eData1 a_eOwner1 a_eVersion1 a_eNumber1 → post r (f_nodes1, f_time, f_latest, nI (N + 1), f_logged, f_complete, f_taken, f_sinceEntry, f_sinceCount, f_parts, f_wrongPart, f_watches, a_path1, a_data1, a_version1, a_childVersion1, a_created1, a_setAt1, a_owner1, a_firstChild1, a_sibling1, a_bucket1, a_open, a_timeout, a_deadline, a_eKind1, a_ePath1, a_eData1, a_eOwner1, a_eVersion1, a_eNumber1, a_iPath, a_iData, a_iVersion, a_iChildVersion, a_iCreated, a_iSet, a_iOwner, a_iTimeout, a_iLatest, a_pKind, a_pPath, a_pA, a_pB, a_uEntry, a_uSlot, a_uData, a_uVersion, a_uSet, a_uChildVersion, a_uCreated, a_uOwner, a_wSession, a_wKind, a_wPath, a_queue, a_queued)) :
    wpX_doSet post (f_nodes, f_time, f_latest, f_entries, f_logged, f_complete, f_taken, f_sinceEntry, f_sinceCount, f_parts, f_wrongPart, f_watches, a_path, a_data, a_version, a_childVersion, a_created, a_setAt, a_owner, a_firstChild, a_sibling, a_bucket, a_open, a_timeout, a_deadline, a_eKind, a_ePath, a_eData, a_eOwner, a_eVersion, a_eNumber, a_iPath, a_iData, a_iVersion, a_iChildVersion, a_iCreated, a_iSet, a_iOwner, a_iTimeout, a_iLatest, a_pKind, a_pPath, a_pA, a_pB, a_uEntry, a_uSlot, a_uData, a_uVersion, a_uSet, a_uChildVersion, a_uCreated, a_uOwner, a_wSession, a_wKind, a_wPath, a_queue, a_queued) p d v := by
  have inj : zk_inj a_path := H.1.2.1.2.2
  have d1 : ¬ (p = 0 ∧ (1 : Int32) = 2) := fun z => absurd z.2 (by decide)
  unfold wpX_doSet
  refine zx_fits H.1 (fun hp => br_f (by decide) (hn _ (zq_2 (Or.inl hp)) (by decide))) (fun hp e => br_f (by decide) (hn _ (zq_v3 (by decide) d1 hp e) (by decide)))
    (fun u hp e hv => br_f (by decide) (hn _ (zq_v7 (by decide) d1 hp e hv) (by decide))) (fun u hp e hv => br_t (by decide) ?_)
  refine zx_find H.1 (fun e2 => by rw [e] at e2; exact nomatch e2) (fun s hs es s0 e2 => ?_)
  have hu : u = zn_nd a_data a_version a_childVersion a_created a_setAt a_owner s := Option.some.inj (e.symm.trans e2)
  subst hu
  have hc := nI_clamp (n := s) (by omega)
  refine zz_st rfl hs (by decide) rfl ?_
  refine zz_in rfl hs (by decide) (zz_st rfl hs (by decide) (v' := a_version s + 1) (by rw [hc]) ?_)
  refine zz_st rfl hs (by decide) rfl ?_
  refine zz_in rfl hs (by decide) ?_
  rw [hc, pk_us]
  refine zx_entry hN he (by decide) (by decide) (by decide) (by decide) ?_
  refine zz_in rfl hs (by decide) ?_
  rw [pk_us]
  refine h _ _ (zq_s hp e hv) f_nodes a_path _ _ _ _ _ _ a_firstChild a_sibling a_bucket _ _ _ _ _ _ ⟨⟨⟨H.1.1, ?_, H.1.2.2.1, H.1.2.2.2⟩, H.2⟩, Or.inr (Or.inl ⟨rfl, s, zx_slot H hs s0, es, fun j => rfl, fun j hj => ?_⟩), zs_En_upd⟩
  · refine zr_mod H.1.2.1 (fun j hj hj0 => ?_) (fun q hq => ?_)
    · unfold zf_ap
      have e1 := H.1.2.1.1 j hj hj0
      by_cases z : j = s
      · subst z
        rw [es, zf_f2s, e]
        simp only [zn_nd, pk_us, Option.map_some]
      · have n1 : ¬ p = a_path j := fun w => z (inj j s hj hs hj0 (by rw [← w, es]))
        rw [zf_f2o n1, e1]
        simp only [zn_nd, pk_un z]
    · unfold zf_ap
      have n1 : ¬ p = q := fun w => by rw [← w, e] at hq; exact nomatch hq
      rw [zf_f2o n1, hq]
  · simp only [zn_nd, pk_un hj]
/-- a node goes -/
theorem zx_drop {post : SX → Prop} {C : zn_Mp} {b N s : Nat} (H : zx_T f_nodes a_path a_data a_version a_childVersion a_created a_setAt a_owner a_firstChild a_sibling a_bucket C) (hC : zi_C b C) (hN : N < 400) (he : f_entries = nI N) (hs : s < 48) (h0 : 0 < (a_path s).toInt)
    (hk : ∀ j, j < 48 → 0 < (a_path j).toInt → ¬ a_path j / 101 = a_path s)
    (h : ∀ w, C (a_path s / 101) = some w → ∀ (f_nodes1 : Int32) (a_path1 a_data1 a_version1 a_childVersion1 a_created1 a_setAt1 a_owner1 a_firstChild1 a_sibling1 a_bucket1 : Nat → Int32) (a_eKind1 a_ePath1 a_eData1 a_eOwner1 a_eVersion1 a_eNumber1 : Nat → Int32), zx_Step (3, a_path s, 0, 0, w.2.2.1 + 1, f_latest + 1) N C f_nodes a_path a_data a_version a_childVersion a_created a_setAt a_owner a_firstChild a_sibling a_bucket a_eKind a_ePath a_eData a_eOwner a_eVersion a_eNumber f_nodes1 a_path1 a_data1 a_version1 a_childVersion1 a_created1 a_setAt1 a_owner1 a_firstChild1 a_sibling1 a_bucket1 a_eKind1 a_ePath1 a_eData1 a_eOwner1 a_eVersion1 a_eNumber1 → a_eVersion1 N = w.2.2.1 + 1 → post (f_nodes1, f_time, f_latest, nI (N + 1), f_logged, f_complete, f_taken, f_sinceEntry, f_sinceCount, f_parts, f_wrongPart, f_watches, a_path1, a_data1, a_version1, a_childVersion1, a_created1, a_setAt1, a_owner1, a_firstChild1, a_sibling1, a_bucket1, a_open, a_timeout, a_deadline, a_eKind1, a_ePath1, a_eData1, a_eOwner1, a_eVersion1, a_eNumber1, a_iPath, a_iData, a_iVersion, a_iChildVersion, a_iCreated, a_iSet, a_iOwner, a_iTimeout, a_iLatest, a_pKind, a_pPath, a_pA, a_pB, a_uEntry, a_uSlot, a_uData, a_uVersion, a_uSet, a_uChildVersion, a_uCreated, a_uOwner, a_wSession, a_wKind, a_wPath, a_queue, a_queued)) :
    wpX_drop post (f_nodes, f_time, f_latest, f_entries, f_logged, f_complete, f_taken, f_sinceEntry, f_sinceCount, f_parts, f_wrongPart, f_watches, a_path, a_data, a_version, a_childVersion, a_created, a_setAt, a_owner, a_firstChild, a_sibling, a_bucket, a_open, a_timeout, a_deadline, a_eKind, a_ePath, a_eData, a_eOwner, a_eVersion, a_eNumber, a_iPath, a_iData, a_iVersion, a_iChildVersion, a_iCreated, a_iSet, a_iOwner, a_iTimeout, a_iLatest, a_pKind, a_pPath, a_pA, a_pB, a_uEntry, a_uSlot, a_uData, a_uVersion, a_uSet, a_uChildVersion, a_uCreated, a_uOwner, a_wSession, a_wKind, a_wPath, a_queue, a_queued) (nI s) := by
  have inj : zk_inj a_path := H.1.2.1.2.2
  have hc := nI_clamp (n := s) (by omega)
  have es := H.1.2.1.1 s hs (by omega)
  have hp0 : ¬ a_path s = 0 := fun z => by rw [z, zb_t0] at h0; omega
  obtain ⟨hok, _, _, _, _, _, _, hpar⟩ := hC.2 _ _ es
  obtain ⟨w, hw, hw2⟩ := hpar hp0
  have hmm : ¬ a_path s = a_path s / 101 := fun z => by have := (zp_lt hok hp0).2; rw [← z] at this; omega
  refine zz_in rfl hs (by decide) (nm_r (e' := a_path s) (by rw [hc]) (And.intro zb_101n ?_))
  refine zx_find H.1 (fun e => by rw [hw] at e; exact nomatch e) (fun up hup hu hu0 eu => ?_)
  have hwu : w = zn_nd a_data a_version a_childVersion a_created a_setAt a_owner up := Option.some.inj (hw.symm.trans eu)
  subst hwu
  have hcu := nI_clamp (n := up) (by omega)
  have hups : up ≠ s := fun z => hmm (by rw [← hu, z])
  have hs0' : s ≠ 0 := fun z => by rw [z, H.2.2.2] at hp0; exact hp0 rfl
  refine zx_unlink (D := fun j => 0 < (a_path j).toInt) (D' := fun j => j ≠ s ∧ 0 < (a_path j).toInt) (up := up) H.1 H.2.1 (fun j hj dj => dj) hs h0 hup hu (fun j hj => Iff.rfl) (fun fc1 sb1 L1 => ?_)
  refine zx_release H.1 hs (by omega) (fun bk H1 => ?_)
  refine zz_in rfl hup (by decide) (zz_st rfl hup (by decide) (v' := a_childVersion up + 1) (by rw [hcu]) ?_)
  refine zz_in rfl hup (by decide) ?_
  rw [hcu, pk_us]
  refine zx_entry hN he (by decide) (by decide) (by decide) (by decide) ?_
  refine h _ hw (f_nodes - 1) (upd a_path s (-1)) _ _ _ _ _ _ fc1 sb1 bk _ _ _ _ _ _ ⟨⟨⟨H1.1, ?_, H1.2.2.1, H1.2.2.2⟩, ?_, ?_, ?_⟩, Or.inr (Or.inr ⟨rfl, s, up, zx_slot H hs (by omega), zx_slot H hup hu0, hups, rfl, pk_us, fun j hj => pk_un hj, hu, ?_, fun j hj => ?_⟩), zs_En_upd⟩ pk_us
  · refine zr_mod H1.2.1 (fun j hj hj0 => ?_) (fun q hq => ?_)
    · unfold zf_ap
      have z : j ≠ s := fun z => by rw [z, pk_us, zb_tm1] at hj0; omega
      rw [pk_un z] at hj0 ⊢
      have e1 := H.1.2.1.1 j hj hj0
      have n1 : ¬ a_path s = a_path j := fun w => z (inj j s hj hs hj0 w.symm)
      by_cases z2 : j = up
      · subst z2
        rw [zf_f3u n1 hu.symm, e1]
        simp only [zn_nd, pk_us, Option.map_some]
      · have n2 : ¬ a_path s / 101 = a_path j := fun w => z2 (inj j up hj hup hj0 (by rw [← w, hu]))
        rw [zf_f3o n1 n2, e1]
        simp only [zn_nd, pk_un z2]
    · unfold zf_ap
      by_cases n1 : a_path s = q
      · rw [n1, zf_f3s]
      · rw [zr_set_n (fun w => n1 w.symm)] at hq
        rw [hq]
        by_cases n2 : a_path s / 101 = q
        · rw [zf_f3u n1 n2]; rfl
        · rw [zf_f3o n1 n2]
  · refine zk_L_cg L1 (fun j hj => ?_) (fun j hj dj => pk_un dj.1) (fun q hq hq0 => ?_) (fun _ _ _ => rfl) (fun _ _ _ => rfl)
    · by_cases z : j = s
      · rw [z, pk_us, zb_tm1]; exact ⟨fun w => by omega, fun w => absurd rfl w.1⟩
      · rw [pk_un z]; exact ⟨fun w => ⟨z, w⟩, fun w => w.2⟩
    · have z : q ≠ s := fun z => by rw [z, pk_us, zb_tm1] at hq0; omega
      exact pk_un z
  · intro j h1 h2
    have : j ≠ s := by have := zx_slot H hs (by omega); omega
    rw [pk_un this]; exact H.2.2.1 j h1 h2
  · rw [pk_un hs0'.symm]; exact H.2.2.2
  · simp only [zn_nd, pk_us]
  · simp only [zn_nd, pk_un hj]
/-- no children, told by the first link -/
theorem zx_nokids {C : zn_Mp} (H : zx_T f_nodes a_path a_data a_version a_childVersion a_created a_setAt a_owner a_firstChild a_sibling a_bucket C) {s : Nat} (hs : s < 48) (h0 : 0 ≤ (a_path s).toInt) : a_firstChild s < 0 ↔ zk_cn a_path (a_path s) 0 = 0 := by
  have inj : zk_inj a_path := H.1.2.1.2.2
  have L := H.2.1.1 s hs h0
  rcases L with ⟨e, hn⟩ | ⟨c, hc, e, dc, ec, hx, hl⟩
  · rw [e]
    refine ⟨fun _ => zk_cn0 (by omega) (Or.inl ⟨rfl, hn⟩), fun _ => by decide⟩
  · rw [e]
    refine ⟨fun z => absurd z (nI_pos (by omega)), fun z => ?_⟩
    have := zk_cn1 inj (show (0 : Int) ≤ 0 by omega) hc (q := a_path s) (Or.inr ⟨c, hc, rfl, dc, ec, hx, hl⟩)
    unfold zk_cn at z
    omega
theorem zx_nokids2 {s : Nat} (h : zk_cn a_path (a_path s) 0 = 0) : ∀ j, j < 48 → 0 < (a_path j).toInt → ¬ a_path j / 101 = a_path s := by
  intro j hj h0 e
  have : 0 < zk_cn a_path (a_path s) 0 := zc_pos' hj (zr_oc_t.mpr ⟨by omega, zk_P_t.mpr ⟨e, h0⟩⟩)
  omega
theorem zx_remove {post : Int32 → SX → Prop} {C : zn_Mp} {b N n : Nat} {p d v ss : Int32} (H : zx_T f_nodes a_path a_data a_version a_childVersion a_created a_setAt a_owner a_firstChild a_sibling a_bucket C) (hC : zi_C b C) (hN : N < 400) (he : f_entries = nI N)
    (hn : ∀ r, zq_rq C n (zk_cn a_path p 0) (f_latest + 1) ss 2 p d v = (r, none) → r < 0 → post r (f_nodes, f_time, f_latest, f_entries, f_logged, f_complete, f_taken, f_sinceEntry, f_sinceCount, f_parts, f_wrongPart, f_watches, a_path, a_data, a_version, a_childVersion, a_created, a_setAt, a_owner, a_firstChild, a_sibling, a_bucket, a_open, a_timeout, a_deadline, a_eKind, a_ePath, a_eData, a_eOwner, a_eVersion, a_eNumber, a_iPath, a_iData, a_iVersion, a_iChildVersion, a_iCreated, a_iSet, a_iOwner, a_iTimeout, a_iLatest, a_pKind, a_pPath, a_pA, a_pB, a_uEntry, a_uSlot, a_uData, a_uVersion, a_uSet, a_uChildVersion, a_uCreated, a_uOwner, a_wSession, a_wKind, a_wPath, a_queue, a_queued))
    (h : ∀ r e, zq_rq C n (zk_cn a_path p 0) (f_latest + 1) ss 2 p d v = (r, some e) → ∀ (f_nodes1 : Int32) (a_path1 a_data1 a_version1 a_childVersion1 a_created1 a_setAt1 a_owner1 a_firstChild1 a_sibling1 a_bucket1 : Nat → Int32) (a_eKind1 a_ePath1 a_eData1 a_eOwner1 a_eVersion1 a_eNumber1 : Nat → Int32), zx_Step e N C f_nodes a_path a_data a_version a_childVersion a_created a_setAt a_owner a_firstChild a_sibling a_bucket a_eKind a_ePath a_eData a_eOwner a_eVersion a_eNumber f_nodes1 a_path1 a_data1 a_version1 a_childVersion1 a_created1 a_setAt1 a_owner1 a_firstChild1 a_sibling1 a_bucket1 a_eKind1 a_ePath1 a_eData1 a_eOwner1 a_eVersion1 a_eNumber1 → post r (f_nodes1, f_time, f_latest, nI (N + 1), f_logged, f_complete, f_taken, f_sinceEntry, f_sinceCount, f_parts, f_wrongPart, f_watches, a_path1, a_data1, a_version1, a_childVersion1, a_created1, a_setAt1, a_owner1, a_firstChild1, a_sibling1, a_bucket1, a_open, a_timeout, a_deadline, a_eKind1, a_ePath1, a_eData1, a_eOwner1, a_eVersion1, a_eNumber1, a_iPath, a_iData, a_iVersion, a_iChildVersion, a_iCreated, a_iSet, a_iOwner, a_iTimeout, a_iLatest, a_pKind, a_pPath, a_pA, a_pB, a_uEntry, a_uSlot, a_uData, a_uVersion, a_uSet, a_uChildVersion, a_uCreated, a_uOwner, a_wSession, a_wKind, a_wPath, a_queue, a_queued)) :
    wpX_doRemove post (f_nodes, f_time, f_latest, f_entries, f_logged, f_complete, f_taken, f_sinceEntry, f_sinceCount, f_parts, f_wrongPart, f_watches, a_path, a_data, a_version, a_childVersion, a_created, a_setAt, a_owner, a_firstChild, a_sibling, a_bucket, a_open, a_timeout, a_deadline, a_eKind, a_ePath, a_eData, a_eOwner, a_eVersion, a_eNumber, a_iPath, a_iData, a_iVersion, a_iChildVersion, a_iCreated, a_iSet, a_iOwner, a_iTimeout, a_iLatest, a_pKind, a_pPath, a_pA, a_pB, a_uEntry, a_uSlot, a_uData, a_uVersion, a_uSet, a_uChildVersion, a_uCreated, a_uOwner, a_wSession, a_wKind, a_wPath, a_queue, a_queued) p v := by
  by_cases hp0 : p = 0
  · exact br_t hp0 (hn _ (zq_2 (Or.inr ⟨hp0, Or.inr rfl⟩)) (by decide))
  refine br_f hp0 ?_
  have d1 : ¬ (p = 0 ∧ (2 : Int32) = 2) := fun z => hp0 z.1
  refine zx_fits H.1 (fun hp => br_f (by decide) (hn _ (zq_2 (Or.inl hp)) (by decide))) (fun hp e => br_f (by decide) (hn _ (zq_v3 (by decide) d1 hp e) (by decide)))
    (fun u hp e hv => br_f (by decide) (hn _ (zq_v7 (by decide) d1 hp e hv) (by decide))) (fun u hp e hv => br_t (by decide) ?_)
  refine zx_find H.1 (fun e2 => by rw [e] at e2; exact nomatch e2) (fun s hs es s0 e2 => ?_)
  have hc := nI_clamp (n := s) (by omega)
  have nk := zx_nokids H hs s0
  refine zz_in rfl hs (by decide) ?_
  rw [hc]
  by_cases c : a_firstChild s < 0
  · refine br_t c ?_
    have k0 := nk.mp c
    have hpos : 0 < (a_path s).toInt := by rw [es]; exact (zp_lt hp hp0).1
    refine zx_drop H hC hN he hs hpos (zx_nokids2 k0) (fun w hw f_nodes1 a_path1 a_data1 a_version1 a_childVersion1 a_created1 a_setAt1 a_owner1 a_firstChild1 a_sibling1 a_bucket1 a_eKind1 a_ePath1 a_eData1 a_eOwner1 a_eVersion1 a_eNumber1 S ev => ?_)
    rw [es] at hw S k0
    have e1 : nI (N + 1) - 1 = nI N := nI_pred N
    refine And.intro (by rw [e1]; exact vp_in_nI hN (by decide)) ?_
    rw [e1, nI_clamp (by omega), ev]
    exact h _ _ (zq_r hp hp0 e hv (by omega) hw) _ _ _ _ _ _ _ _ _ _ _ _ _ _ _ _ _ S
  · refine br_f c (hn _ (zq_r8 hp hp0 e hv ?_) (by decide))
    rcases Nat.eq_zero_or_pos (zk_cn a_path p 0) with z | z
    · rw [← es] at z; exact absurd (nk.mpr z) c
    · exact z
end
end
section
/-! the reference's requests -/
theorem zy_i0 (k : Nat) : (6 : Int32) * nI k = nI (6 * k) := pk_mul 6 k
theorem zy_i1 (k : Nat) : (6 : Int32) * nI k + 1 = nI (6 * k + 1) := by rw [zy_i0, nI_1]
theorem zy_i2 (k : Nat) : (6 : Int32) * nI k + 2 = nI (6 * k + 2) := by rw [zy_i0]; exact nI_add _ 2
theorem zy_i3 (k : Nat) : (6 : Int32) * nI k + 3 = nI (6 * k + 3) := by rw [zy_i0]; exact nI_add _ 3
theorem zy_i4 (k : Nat) : (6 : Int32) * nI k + 4 = nI (6 * k + 4) := by rw [zy_i0]; exact nI_add _ 4
theorem zy_i5 (k : Nat) : (6 : Int32) * nI k + 5 = nI (6 * k + 5) := by rw [zy_i0]; exact nI_add _ 5
theorem zy_un0 {v : Nat → Int32} {k j : Nat} {x : Int32} (h : j ≠ k) : zy_nd (upd v (6 * k) x) j = zy_nd v j := by
  unfold zy_nd; rw [pk_un (by omega), pk_un (by omega), pk_un (by omega), pk_un (by omega), pk_un (by omega), pk_un (by omega)]
theorem zy_un {v : Nat → Int32} {k j i : Nat} {x : Int32} (hi : i < 6) (h : j ≠ k) : zy_nd (upd v (6 * k + i) x) j = zy_nd v j := by
  unfold zy_nd; rw [pk_un (by omega), pk_un (by omega), pk_un (by omega), pk_un (by omega), pk_un (by omega), pk_un (by omega)]
theorem zy_u0 {v : Nat → Int32} {k : Nat} {x : Int32} : zy_nd (upd v (6 * k) x) k = (x, (zy_nd v k).2) := by
  unfold zy_nd; rw [pk_us, pk_un (by omega), pk_un (by omega), pk_un (by omega), pk_un (by omega), pk_un (by omega)]
theorem zy_u1 {v : Nat → Int32} {k : Nat} {x : Int32} : zy_nd (upd v (6 * k + 1) x) k = ((zy_nd v k).1, x, (zy_nd v k).2.2) := by
  unfold zy_nd; rw [pk_us, pk_un (by omega), pk_un (by omega), pk_un (by omega), pk_un (by omega), pk_un (by omega)]
theorem zy_u2 {v : Nat → Int32} {k : Nat} {x : Int32} : zy_nd (upd v (6 * k + 2) x) k = ((zy_nd v k).1, (zy_nd v k).2.1, x, (zy_nd v k).2.2.2) := by
  unfold zy_nd; rw [pk_us, pk_un (by omega), pk_un (by omega), pk_un (by omega), pk_un (by omega), pk_un (by omega)]
theorem zy_u3 {v : Nat → Int32} {k : Nat} {x : Int32} : zy_nd (upd v (6 * k + 3) x) k = ((zy_nd v k).1, (zy_nd v k).2.1, (zy_nd v k).2.2.1, x, (zy_nd v k).2.2.2.2) := by
  unfold zy_nd; rw [pk_us, pk_un (by omega), pk_un (by omega), pk_un (by omega), pk_un (by omega), pk_un (by omega)]
theorem zy_u4 {v : Nat → Int32} {k : Nat} {x : Int32} : zy_nd (upd v (6 * k + 4) x) k = ((zy_nd v k).1, (zy_nd v k).2.1, (zy_nd v k).2.2.1, (zy_nd v k).2.2.2.1, x, (zy_nd v k).2.2.2.2.2) := by
  unfold zy_nd; rw [pk_us, pk_un (by omega), pk_un (by omega), pk_un (by omega), pk_un (by omega), pk_un (by omega)]
theorem zy_u5 {v : Nat → Int32} {k : Nat} {x : Int32} : zy_nd (upd v (6 * k + 5) x) k = ((zy_nd v k).1, (zy_nd v k).2.1, (zy_nd v k).2.2.1, (zy_nd v k).2.2.2.1, (zy_nd v k).2.2.2.2.1, x) := by
  unfold zy_nd; rw [pk_us, pk_un (by omega), pk_un (by omega), pk_un (by omega), pk_un (by omega), pk_un (by omega)]
theorem zz_sv {N k : Nat} {i v v' : Int32} {a : Nat → Int32} {P : (Nat → Int32) → Prop} (hi : i = nI k) (hk : k < N) (hN : N < 2 ^ 31) (hv : v = v') (h : P (upd a k v')) : vp_in i N ∧ ∀ y : Nat → Int32, y = upd a k v → P y := by
  subst hi hv
  exact ⟨vp_in_nI hk hN, fun y e => by rw [e]; exact h⟩
/-- the reference's table -/
def zy_T (b_paths b_values : Nat → Int32) (C : zn_Mp) : Prop := zr_Rep 21 b_paths (zy_nd b_values) C ∧ b_paths 0 = 0
/-- and what lies behind it stays -/
def zy_F (b_paths b_values : Nat → Int32) (b_paths1 b_values1 : Nat → Int32) (C : zn_Mp) : Prop := zy_T b_paths1 b_values1 C ∧ (∀ j, 21 ≤ j → b_paths1 j = b_paths j) ∧ (∀ j, 126 ≤ j → b_values1 j = b_values j)
section
variable {g_time g_last g_watchCount g_partCount g_wrong g_changes g_log g_since g_placesLeft : Int32} {b_paths b_values b_open b_timeouts b_deadlines b_events b_eventCounts b_watchers b_watchKinds b_watchPaths b_parts b_happened b_how : Nat → Int32}
theorem zy_note {post : SY → Prop} {c : Nat} {p w : Int32} (hc : c < 21) (he : g_changes = nI c) (h : post (g_time, g_last, g_watchCount, g_partCount, g_wrong, nI (c + 1), g_log, g_since, g_placesLeft, b_paths, b_values, b_open, b_timeouts, b_deadlines, b_events, b_eventCounts, b_watchers, b_watchKinds, b_watchPaths, b_parts, upd b_happened c p, upd b_how c w)) : wpY_note post (g_time, g_last, g_watchCount, g_partCount, g_wrong, g_changes, g_log, g_since, g_placesLeft, b_paths, b_values, b_open, b_timeouts, b_deadlines, b_events, b_eventCounts, b_watchers, b_watchKinds, b_watchPaths, b_parts, b_happened, b_how) p w := by
  subst he
  refine zz_st rfl hc (by decide) rfl (nm_r (nI_1 c) (zz_st rfl hc (by decide) rfl h))
theorem zy_mk215 {post : Int32 → SY → Prop} {C : zn_Mp} {up k c : Nat} {m d own t : Int32} {u : zn_Nd} (H : zy_T b_paths b_values C) (hc : c < 21) (he : g_changes = nI c) (hm : zp_ok m) (hm0 : ¬ m = 0) (e : C m = none) (hup : up < 21) (hu : b_paths up = m / 101) (hu2 : u = zy_nd b_values up)
    (hk : k < 21) (hk0 : (b_paths k).toInt < 0)
    (h : ∀ (b_paths1 b_values1 : Nat → Int32), zy_F b_paths b_values b_paths1 b_values1 (zf_ap (1, m, d, own, u.2.2.1 + 1, t) C) → post m (g_time, g_last, g_watchCount, g_partCount, g_wrong, nI (c + 1), g_log, g_since, g_placesLeft, b_paths1, b_values1, b_open, b_timeouts, b_deadlines, b_events, b_eventCounts, b_watchers, b_watchKinds, b_watchPaths, b_parts, upd b_happened c m, upd b_how c 1)) :
    wY_make_215 post (nI up) m own (6 * nI k + 5) g_time g_last g_watchCount g_partCount g_wrong g_changes g_log g_since g_placesLeft (upd b_paths k m) (upd (upd (upd (upd (upd b_values (6 * k) d) (6 * k + 1) 0) (6 * k + 2) 0) (6 * k + 3) t) (6 * k + 4) t) b_open b_timeouts b_deadlines b_events b_eventCounts b_watchers b_watchKinds b_watchPaths b_parts b_happened b_how := by
  have hu0 : 0 ≤ (b_paths up).toInt := by rw [hu, zb_div hm.1]; have := hm.1; omega
  have huk : up ≠ k := fun z => by rw [z] at hu0; omega
  have hk00 : k ≠ 0 := fun z => by rw [z, H.2, zb_t0] at hk0; omega
  have hmm : ¬ m = m / 101 := fun z => by have := (zp_lt hm hm0).2; rw [← z] at this; omega
  have i2 := nI_clamp (n := 6 * up + 2) (by omega)
  refine zz_st (zy_i5 k) (by omega) (by decide) rfl ?_
  refine zz_in (zy_i2 up) (by omega) (by decide) ?_
  refine zz_st (zy_i2 up) (by omega) (by decide) (v' := u.2.2.1 + 1) ?_ ?_
  · rw [zy_i2, i2, pk_un (by omega), pk_un (by omega), pk_un (by omega), pk_un (by omega), pk_un (by omega), pk_un (by omega), hu2]
    rfl
  refine zy_note hc he (h _ _ ⟨⟨?_, ?_⟩, fun j hj => pk_un (by omega), fun j hj => ?_⟩)
  · have R := H.1
    refine ⟨fun j hj hj0 => ?_, fun q x eq => ?_, fun j j' hj hj' hj0 ej => ?_⟩
    · unfold zf_ap
      by_cases z : j = k
      · subst z
        rw [pk_us, zf_f1s]
        simp only [zy_un (show 2 < 6 by decide) huk.symm, zy_u0, zy_u1, zy_u2, zy_u3, zy_u4, zy_u5]
      · rw [pk_un z] at hj0 ⊢
        have e1 := R.1 j hj hj0
        have n1 : ¬ m = b_paths j := fun w => by rw [← w, e] at e1; exact nomatch e1
        by_cases z2 : j = up
        · subst z2
          rw [zf_f1u n1 hu.symm, e1]
          simp only [zy_u2, zy_un0 z, zy_un (show 1 < 6 by decide) z, zy_un (show 2 < 6 by decide) z, zy_un (show 3 < 6 by decide) z, zy_un (show 4 < 6 by decide) z, zy_un (show 5 < 6 by decide) z, Option.map_some, hu2]
        · have n2 : ¬ m / 101 = b_paths j := fun w => z2 (R.2.2 j up hj hup hj0 (by rw [← w, hu]))
          rw [zf_f1o n1 n2, e1]
          simp only [zy_un (show 2 < 6 by decide) z2, zy_un0 z, zy_un (show 1 < 6 by decide) z, zy_un (show 2 < 6 by decide) z, zy_un (show 3 < 6 by decide) z, zy_un (show 4 < 6 by decide) z, zy_un (show 5 < 6 by decide) z]
    · unfold zf_ap at eq
      by_cases n1 : m = q
      · subst n1; exact ⟨hm.1, k, hk, pk_us⟩
      · have : ∃ y, C q = some y := by
          by_cases n2 : m / 101 = q
          · rw [zf_f1u n1 n2] at eq
            cases e3 : C q with
            | none => rw [e3] at eq; exact nomatch eq
            | some y => exact ⟨y, rfl⟩
          · rw [zf_f1o n1 n2] at eq; exact ⟨x, eq⟩
        obtain ⟨y, hy⟩ := this
        obtain ⟨j, hj, ej, _, j0⟩ := zr_get R hy
        have : j ≠ k := fun z => by rw [z] at j0; omega
        exact ⟨(R.2.1 q y hy).1, j, hj, by rw [pk_un this]; exact ej⟩
    · by_cases z : j = k
      · by_cases z' : j' = k
        · rw [z, z']
        · exfalso
          rw [z, pk_us, pk_un z'] at ej
          exact zr_none R e hj' (by rw [← ej]; exact hm.1) ej.symm
      · rw [pk_un z] at hj0 ej
        by_cases z' : j' = k
        · exfalso
          rw [z', pk_us] at ej
          exact zr_none R e hj hj0 ej
        · rw [pk_un z'] at ej
          exact R.2.2 j j' hj hj' hj0 ej
  · rw [pk_un hk00.symm]; exact H.2
  · rw [pk_un (by omega), pk_un (by omega), pk_un (by omega), pk_un (by omega), pk_un (by omega), pk_un (by omega), pk_un (by omega)]
theorem zy_mk101 {post : Int32 → SY → Prop} {C : zn_Mp} {up c f : Nat} {m d t ss : Int32} {u : zn_Nd} (H : zy_T b_paths b_values C) (hc : c < 21) (he : g_changes = nI c) (hm : zp_ok m) (hm0 : ¬ m = 0) (e : C m = none) (hup : up < 21) (hu : b_paths up = m / 101) (hu2 : u = zy_nd b_values up)
    (hf : f < 4) {k0 : Nat} (hk : k0 < 21) (hk0 : (b_paths k0).toInt < 0)
    (h : ∀ (b_paths1 b_values1 : Nat → Int32), zy_F b_paths b_values b_paths1 b_values1 (zf_ap (1, m, d, if (nI f).toInt % 2 = 1 then ss else -1, u.2.2.1 + 1, t) C) → post m (g_time, g_last, g_watchCount, g_partCount, g_wrong, nI (c + 1), g_log, g_since, g_placesLeft, b_paths1, b_values1, b_open, b_timeouts, b_deadlines, b_events, b_eventCounts, b_watchers, b_watchKinds, b_watchPaths, b_parts, upd b_happened c m, upd b_how c 1)) :
    ∀ dd i, i + dd = k0 → wY_make_101 post ss d (nI f) t (nI up) m g_time g_last g_watchCount g_partCount g_wrong g_changes g_log g_since g_placesLeft b_paths b_values b_open b_timeouts b_deadlines b_events b_eventCounts b_watchers b_watchKinds b_watchPaths b_parts b_happened b_how (dd + 1) (nI i) := by
  obtain ⟨_, _, f3, _⟩ := zx_fl f hf
  have fin : ∀ i, i < 21 → (b_paths i).toInt < 0 → ∀ n, wY_make_101 post ss d (nI f) t (nI up) m g_time g_last g_watchCount g_partCount g_wrong g_changes g_log g_since g_placesLeft b_paths b_values b_open b_timeouts b_deadlines b_events b_eventCounts b_watchers b_watchKinds b_watchPaths b_parts b_happened b_how (n + 1) (nI i) := by
    intro i hi hi0 n
    have hci := nI_clamp (n := i) (by omega)
    refine And.intro (vp_in_nI (by omega) (by decide)) (br_t (by rw [hci, zb_lt0]; exact hi0) ?_)
    refine zz_st rfl (show i < 42 by omega) (by decide) rfl ?_
    refine zz_st (zy_i0 i) (by omega) (by decide) rfl ?_
    refine zz_st (zy_i1 i) (by omega) (by decide) rfl ?_
    refine zz_st (zy_i2 i) (by omega) (by decide) rfl ?_
    refine zz_st (zy_i3 i) (by omega) (by decide) rfl ?_
    refine zz_st (zy_i4 i) (by omega) (by decide) rfl ?_
    refine And.intro zb_2n ?_
    rw [f3]
    refine pk_eq (f % 2) 1 (fun z => ?_) (fun z => ?_)
    · rw [if_pos (by rw [nI_toInt (by omega)]; omega)] at h
      exact zy_mk215 H hc he hm hm0 e hup hu hu2 hi hi0 h
    · rw [if_neg (by rw [nI_toInt (by omega)]; omega)] at h
      exact zy_mk215 H hc he hm hm0 e hup hu hu2 hi hi0 h
  intro dd
  induction dd with
  | zero =>
    intro i hi
    have : i = k0 := by omega
    subst this
    exact fin i hk hk0 0
  | succ dd ih =>
    intro i hi
    by_cases c1 : (b_paths i).toInt < 0
    · exact fin i (by omega) c1 _
    · have hci := nI_clamp (n := i) (by omega)
      exact And.intro (vp_in_nI (by omega) (by decide)) (br_f (by rw [hci, zb_lt0]; exact c1) (nm_r (nI_1 i) (ih (i + 1) (by omega))))
theorem zy_mk72 {post : Int32 → SY → Prop} {C : zn_Mp} {up c f : Nat} {m d t ss : Int32} {u : zn_Nd} (H : zy_T b_paths b_values C) (hc : c < 21) (he : g_changes = nI c) (hm : zp_ok m) (hm0 : ¬ m = 0) (hup : up < 21) (hu : b_paths up = m / 101) (hu2 : u = zy_nd b_values up)
    (hf : f < 4) (h5 : ∀ y, C m = some y → post (-5) (g_time, g_last, g_watchCount, g_partCount, g_wrong, g_changes, g_log, g_since, g_placesLeft, b_paths, b_values, b_open, b_timeouts, b_deadlines, b_events, b_eventCounts, b_watchers, b_watchKinds, b_watchPaths, b_parts, b_happened, b_how)) (h6 : C m = none → zr_n b_paths 21 = 21 → post (-6) (g_time, g_last, g_watchCount, g_partCount, g_wrong, g_changes, g_log, g_since, g_placesLeft, b_paths, b_values, b_open, b_timeouts, b_deadlines, b_events, b_eventCounts, b_watchers, b_watchKinds, b_watchPaths, b_parts, b_happened, b_how))
    (h : C m = none → ¬ zr_n b_paths 21 = 21 → ∀ (b_paths1 b_values1 : Nat → Int32), zy_F b_paths b_values b_paths1 b_values1 (zf_ap (1, m, d, if (nI f).toInt % 2 = 1 then ss else -1, u.2.2.1 + 1, t) C) → post m (g_time, g_last, g_watchCount, g_partCount, g_wrong, nI (c + 1), g_log, g_since, g_placesLeft, b_paths1, b_values1, b_open, b_timeouts, b_deadlines, b_events, b_eventCounts, b_watchers, b_watchKinds, b_watchPaths, b_parts, upd b_happened c m, upd b_how c 1)) :
    wY_make_72 post ss d (nI f) t (nI up) m g_time g_last g_watchCount g_partCount g_wrong g_changes g_log g_since g_placesLeft b_paths b_values b_open b_timeouts b_deadlines b_events b_eventCounts b_watchers b_watchKinds b_watchPaths b_parts b_happened b_how := by
  have hle : zr_n b_paths 21 ≤ 21 := zc_leN _ _
  refine zy_find H.1 (fun e => br_t (by decide) ?_) (fun k hk ek k0 e2 => br_f (nI_pos (by omega)) (h5 _ e2))
  refine zy_many H.2 ?_
  refine pk_eq (zr_n b_paths 21 - 1) 20 (fun z => h6 e (by omega)) (fun z => ?_)
  have hne : ¬ zr_n b_paths 21 = 21 := by
    intro w
    omega
  obtain ⟨k0, hk, hk2⟩ := zc_ex (f := zr_oc b_paths (fun _ => true)) (N := 21) (by unfold zr_n at hne hle; omega)
  have hk0 := zr_oc0.mp hk2
  have : k0 ≠ 0 := fun z => by rw [z, H.2, zb_t0] at hk0; omega
  exact ⟨_, zy_mk101 H hc he hm hm0 e hup hu hu2 hf hk hk0 (h e hne) (k0 - 1) 1 (by omega)⟩
theorem zy_make {post : Int32 → SY → Prop} {C : zn_Mp} {b c f k : Nat} {p d t ss : Int32} (H : zy_T b_paths b_values C) (hC : zi_C b C) (hc : c < 21) (he : g_changes = nI c) (hf : f < 4) (hp : zp_ok p) (h0 : ¬ p = 0)
    (hn : ∀ r, zq_rq C (zr_n b_paths 21) k t ss 0 p d (nI f) = (r, none) → r < 0 → post r (g_time, g_last, g_watchCount, g_partCount, g_wrong, g_changes, g_log, g_since, g_placesLeft, b_paths, b_values, b_open, b_timeouts, b_deadlines, b_events, b_eventCounts, b_watchers, b_watchKinds, b_watchPaths, b_parts, b_happened, b_how))
    (h : ∀ r e, zq_rq C (zr_n b_paths 21) k t ss 0 p d (nI f) = (r, some e) → ∀ (b_paths1 b_values1 : Nat → Int32) (hw : Int32), zy_F b_paths b_values b_paths1 b_values1 (zf_ap e C) → zy_how e.1 hw → post r (g_time, g_last, g_watchCount, g_partCount, g_wrong, nI (c + 1), g_log, g_since, g_placesLeft, b_paths1, b_values1, b_open, b_timeouts, b_deadlines, b_events, b_eventCounts, b_watchers, b_watchKinds, b_watchPaths, b_parts, upd b_happened c e.2.1, upd b_how c hw)) :
    wpY_make post (g_time, g_last, g_watchCount, g_partCount, g_wrong, g_changes, g_log, g_since, g_placesLeft, b_paths, b_values, b_open, b_timeouts, b_deadlines, b_events, b_eventCounts, b_watchers, b_watchKinds, b_watchPaths, b_parts, b_happened, b_how) ss p d (nI f) t := by
  obtain ⟨_, _, _, f4⟩ := zx_fl f hf
  refine And.intro zb_101n (zy_find H.1 (fun e => br_f (by decide) (hn _ (zq_c3 hp h0 e) (by decide))) (fun up hup hu hu0 eu => br_t (nI_pos' (by omega)) ?_))
  have i5 := nI_clamp (n := 6 * up + 5) (by omega)
  have i2 := nI_clamp (n := 6 * up + 2) (by omega)
  obtain ⟨_, _, _, c1, c2, o1, o2, _⟩ := hC.2 _ _ eu
  refine zz_in (zy_i5 up) (by omega) (by decide) ?_
  rw [zy_i5, i5]
  by_cases ho : b_values (6 * up + 5) = -1
  · refine br_t ho ?_
    have ho' : (zy_nd b_values up).2.2.2.2.2 = -1 := ho
    have fin2 : ∀ m : Int32, m = zq_m (b_values (6 * up + 2)) p (nI f) → zp_ok m → ¬ m = 0 → m / 101 = p / 101 → wY_make_72 post ss d (nI f) t (nI up) m g_time g_last g_watchCount g_partCount g_wrong g_changes g_log g_since g_placesLeft b_paths b_values b_open b_timeouts b_deadlines b_events b_eventCounts b_watchers b_watchKinds b_watchPaths b_parts b_happened b_how := by
      intro m em hm hm0 hm2
      have em' : zq_m (zy_nd b_values up).2.2.1 p (nI f) = m := em.symm
      refine zy_mk72 (u := zy_nd b_values up) H hc he hm hm0 hup (by rw [hu, hm2]) rfl hf (fun y hy => hn _ (zq_c5 hp h0 eu ho' (y := y) (by rw [em']; exact hy)) (by decide))
        (fun e1 e2 => hn _ (zq_c6 hp h0 eu ho' (by rw [em']; exact e1) e2) (by decide)) (fun e1 e2 b_paths1 b_values1 S => ?_)
      have hq := zq_c (k := k) (t := t) (s := ss) (a := d) hp h0 eu ho' (by rw [em']; exact e1) e2
      rw [em'] at hq
      exact h m _ hq _ _ 1 S (Or.inl ⟨rfl, rfl⟩)
    by_cases c : f < 2
    · refine br_t (f4.mpr c) (fin2 p ?_ hp h0 rfl)
      unfold zq_m
      rw [if_neg (by rw [nI_toInt (by omega)]; omega)]
    · have mk := zp_made (c := b_values (6 * up + 2)) hp h0 c1
      refine br_f (fun z => c (f4.mp z)) (And.intro zb_101n (zz_in (zy_i2 up) (by omega) (by decide) (And.intro zb_100n ?_)))
      rw [zy_i2, i2]
      refine fin2 _ ?_ mk.1 mk.2.2 mk.2.1
      unfold zq_m
      rw [if_pos (by rw [nI_toInt (by omega)]; omega)]
  · exact br_f ho (hn _ (zq_c4 hp h0 eu ho) (by decide))
/-- the node in row k goes -/
theorem zy_take {post : Int32 → SY → Prop} {C : zn_Mp} {b c k : Nat} {t : Int32} (H : zy_T b_paths b_values C) (hC : zi_C b C) (hc : c < 21) (he : g_changes = nI c) (hk : k < 21) (h0 : 0 < (b_paths k).toInt)
    (h : ∀ w, C (b_paths k / 101) = some w → ∀ (b_paths1 b_values1 : Nat → Int32), zy_F b_paths b_values b_paths1 b_values1 (zf_ap (3, b_paths k, 0, 0, w.2.2.1 + 1, t) C) → post (w.2.2.1 + 1) (g_time, g_last, g_watchCount, g_partCount, g_wrong, nI (c + 1), g_log, g_since, g_placesLeft, b_paths1, b_values1, b_open, b_timeouts, b_deadlines, b_events, b_eventCounts, b_watchers, b_watchKinds, b_watchPaths, b_parts, upd b_happened c (b_paths k), upd b_how c 2)) :
    wpY_take post (g_time, g_last, g_watchCount, g_partCount, g_wrong, g_changes, g_log, g_since, g_placesLeft, b_paths, b_values, b_open, b_timeouts, b_deadlines, b_events, b_eventCounts, b_watchers, b_watchKinds, b_watchPaths, b_parts, b_happened, b_how) (nI k) := by
  have R := H.1
  have hck := nI_clamp (n := k) (by omega)
  have es := R.1 k hk (by omega)
  have hp0 : ¬ b_paths k = 0 := fun z => by rw [z, zb_t0] at h0; omega
  obtain ⟨hok, _, _, _, _, _, _, hpar⟩ := hC.2 _ _ es
  obtain ⟨w, hw, hw2⟩ := hpar hp0
  have hmm : ¬ b_paths k = b_paths k / 101 := fun z => by have := (zp_lt hok hp0).2; rw [← z] at this; omega
  refine zz_in rfl (show k < 42 by omega) (by decide) (And.intro zb_101n ?_)
  rw [hck]
  refine zy_find R (fun e => by rw [hw] at e; exact nomatch e) (fun up hup hu hu0 eu => ?_)
  have hwu : w = zy_nd b_values up := Option.some.inj (hw.symm.trans eu)
  subst hwu
  have hups : up ≠ k := fun z => hmm (by rw [← hu, z])
  have hk00 : k ≠ 0 := fun z => by rw [z, H.2] at hp0; exact hp0 rfl
  have i2 := nI_clamp (n := 6 * up + 2) (by omega)
  refine zz_in rfl (show k < 42 by omega) (by decide) ?_
  refine zy_note hc he ?_
  refine zz_sv rfl (show k < 42 by omega) (by decide) rfl ?_
  refine zz_in (zy_i2 up) (by omega) (by decide) ?_
  refine zz_st (zy_i2 up) (by omega) (by decide) (v' := (zy_nd b_values up).2.2.1 + 1) (by rw [zy_i2, i2]; rfl) ?_
  rw [zy_i2, i2]
  refine h _ hw _ _ ⟨⟨⟨fun j hj hj0 => ?_, fun q x eq => ?_, fun j j' hj hj' hj0 ej => ?_⟩, ?_⟩, fun j hj => pk_un (by omega), fun j hj => pk_un (by omega)⟩
  · unfold zf_ap
    have z : j ≠ k := fun z => by rw [z, pk_us, zb_tm1] at hj0; omega
    rw [pk_un z] at hj0 ⊢
    have e1 := R.1 j hj hj0
    have n1 : ¬ b_paths k = b_paths j := fun w => z (R.2.2 j k hj hk hj0 w.symm)
    by_cases z2 : j = up
    · subst z2
      rw [zf_f3u n1 hu.symm, e1, zy_u2]
      rfl
    · have n2 : ¬ b_paths k / 101 = b_paths j := fun w => z2 (R.2.2 j up hj hup hj0 (by rw [← w, hu]))
      rw [zf_f3o n1 n2, e1, zy_un (by decide) z2]
  · unfold zf_ap at eq
    by_cases n1 : b_paths k = q
    · rw [n1, zf_f3s] at eq; exact nomatch eq
    · have : ∃ y, C q = some y := by
        by_cases n2 : b_paths k / 101 = q
        · rw [zf_f3u n1 n2] at eq
          cases e3 : C q with
          | none => rw [e3] at eq; exact nomatch eq
          | some y => exact ⟨y, rfl⟩
        · rw [zf_f3o n1 n2] at eq; exact ⟨x, eq⟩
      obtain ⟨y, hy⟩ := this
      obtain ⟨j, hj, ej, _, j0⟩ := zr_get R hy
      have : j ≠ k := fun z => n1 (by rw [← z]; exact ej)
      exact ⟨(R.2.1 q y hy).1, j, hj, by rw [pk_un this]; exact ej⟩
  · have z : j ≠ k := fun z => by rw [z, pk_us, zb_tm1] at hj0; omega
    rw [pk_un z] at hj0 ej
    have z' : j' ≠ k := fun z => by rw [z, pk_us] at ej; rw [ej, zb_tm1] at hj0; omega
    rw [pk_un z'] at ej
    exact R.2.2 j j' hj hj' hj0 ej
  · rw [pk_un hk00.symm]; exact H.2
theorem zy_request {post : Int32 → SY → Prop} {C : zn_Mp} {b c : Nat} {kind p a v t ss : Int32} (H : zy_T b_paths b_values C) (hC : zi_C b C) (hc : c < 21) (he : g_changes = nI c) (hkd : kind = 0 ∨ kind = 1 ∨ kind = 2 ∨ kind = 3) (hf : kind = 0 → ∃ f, f < 4 ∧ v = nI f)
    (hn : ∀ r, zq_rq C (zr_n b_paths 21) (zc_cnt (zr_oc b_paths (zk_P p 0)) 21) t ss kind p a v = (r, none) → post r (g_time, g_last, g_watchCount, g_partCount, g_wrong, g_changes, g_log, g_since, g_placesLeft, b_paths, b_values, b_open, b_timeouts, b_deadlines, b_events, b_eventCounts, b_watchers, b_watchKinds, b_watchPaths, b_parts, b_happened, b_how))
    (h : ∀ r e, zq_rq C (zr_n b_paths 21) (zc_cnt (zr_oc b_paths (zk_P p 0)) 21) t ss kind p a v = (r, some e) → ∀ (b_paths1 b_values1 : Nat → Int32) (hw : Int32), zy_F b_paths b_values b_paths1 b_values1 (zf_ap e C) → zy_how e.1 hw → post r (g_time, g_last, g_watchCount, g_partCount, g_wrong, nI (c + 1), g_log, g_since, g_placesLeft, b_paths1, b_values1, b_open, b_timeouts, b_deadlines, b_events, b_eventCounts, b_watchers, b_watchKinds, b_watchPaths, b_parts, upd b_happened c e.2.1, upd b_how c hw)) :
    wpY_request post (g_time, g_last, g_watchCount, g_partCount, g_wrong, g_changes, g_log, g_since, g_placesLeft, b_paths, b_values, b_open, b_timeouts, b_deadlines, b_events, b_eventCounts, b_watchers, b_watchKinds, b_watchPaths, b_parts, b_happened, b_how) ss kind p a v t := by
  refine zy_isPath (fun hp => br_f (by decide) ?_) (fun hp => br_t rfl (hn _ (zq_2 (Or.inl hp))))
  have main : ¬ (p = 0 ∧ (kind = 0 ∨ kind = 2)) → wY_request_23 post ss kind p a v t g_time g_last g_watchCount g_partCount g_wrong g_changes g_log g_since g_placesLeft b_paths b_values b_open b_timeouts b_deadlines b_events b_eventCounts b_watchers b_watchKinds b_watchPaths b_parts b_happened b_how := by
    intro hbad
    by_cases k0 : kind = 0
    · subst k0
      obtain ⟨f, hf4, rfl⟩ := hf rfl
      exact br_t rfl (zy_make H hC hc he hf4 hp (fun z => hbad ⟨z, Or.inl rfl⟩) (fun r e _ => hn r e) h)
    · refine br_f k0 ?_
      have d1 : ¬ (p = 0 ∧ kind = 2) := fun z => hbad ⟨z.1, Or.inr z.2⟩
      refine zy_find H.1 (fun e => br_f (by decide) (hn _ (zq_v3 k0 d1 hp e))) (fun k hk ek kp0 eu => br_t (nI_pos' (by omega)) ?_)
      have i0 := nI_clamp (n := 6 * k) (by omega)
      have i1 := nI_clamp (n := 6 * k + 1) (by omega)
      have hkk0 := hC.2 _ _ eu
      have fin : (v = -1 ∨ v = (zy_nd b_values k).2.1) → wY_request_81 post kind p a t (nI k) g_time g_last g_watchCount g_partCount g_wrong g_changes g_log g_since g_placesLeft b_paths b_values b_open b_timeouts b_deadlines b_events b_eventCounts b_watchers b_watchKinds b_watchPaths b_parts b_happened b_how := by
        intro hv
        rcases hkd with hh | rfl | rfl | rfl
        · exact absurd hh k0
        · refine br_t rfl ?_
          refine zz_st (zy_i0 k) (by omega) (by decide) rfl ?_
          refine zz_st (zy_i4 k) (by omega) (by decide) rfl ?_
          refine zy_note hc he ?_
          refine zz_in (zy_i1 k) (by omega) (by decide) ?_
          refine zz_st (zy_i1 k) (by omega) (by decide) (v' := (zy_nd b_values k).2.1 + 1) (by rw [zy_i1, i1, pk_un (by omega), pk_un (by omega)]; rfl) ?_
          rw [zy_i1, i1, pk_un (by omega), pk_un (by omega)]
          refine h _ _ (zq_s hp eu hv) _ _ 3 ⟨⟨?_, H.2⟩, fun _ _ => rfl, fun j hj => by rw [pk_un (by omega), pk_un (by omega), pk_un (by omega)]⟩ (Or.inr (Or.inl ⟨rfl, rfl⟩))
          refine zr_mod H.1 (fun j hj hj0 => ?_) (fun q hq => ?_)
          · unfold zf_ap
            by_cases z : j = k
            · subst z
              rw [ek, zf_f2s, eu, zy_u1, zy_u4, zy_u0]
              rfl
            · have n1 : ¬ p = b_paths j := fun w => z (H.1.2.2 j k hj hk hj0 (by rw [← w, ek]))
              rw [zf_f2o n1, H.1.1 j hj hj0, zy_un (by decide) z, zy_un (by decide) z, zy_un0 z]
          · unfold zf_ap
            have n1 : ¬ p = q := fun w => by rw [← w, eu] at hq; exact nomatch hq
            rw [zf_f2o n1, hq]
        · refine br_f (by decide) (br_f (by decide) (zy_kids H.2 H.1.2.2 ?_))
          have hp0 : ¬ p = 0 := fun z => d1 ⟨z, rfl⟩
          refine pk_le (zc_cnt (zr_oc b_paths (zk_P p 0)) 21) 0 (fun z => ?_) (fun z => hn _ (zq_r8 hp hp0 eu hv z)) (ha := by have := zc_leN (zr_oc b_paths (zk_P p 0)) 21; omega)
          have hpos : 0 < (b_paths k).toInt := by rw [ek]; exact (zp_lt hp hp0).1
          refine zy_take (t := t) H hC hc he hk hpos (fun w hw b_paths1 b_values1 S => ?_)
          rw [ek] at hw S ⊢
          exact h _ _ (zq_r hp hp0 eu hv (by omega) hw) _ _ 2 S (Or.inr (Or.inr ⟨rfl, rfl⟩))
        · exact br_f (by decide) (br_t rfl (hn _ (zq_v hp eu hv)))
      by_cases c1 : v = -1
      · exact br_t c1 (fin (Or.inl c1))
      · refine br_f c1 (zz_in (zy_i1 k) (by omega) (by decide) ?_)
        rw [zy_i1, i1]
        by_cases c2 : v = b_values (6 * k + 1)
        · exact br_t c2 (fin (Or.inr c2))
        · exact br_f c2 (hn _ (zq_v7 k0 d1 hp eu (fun z => z.elim c1 c2)))
  by_cases p0 : p = 0
  · refine br_t p0 ?_
    by_cases k0 : kind = 0
    · exact br_t k0 (hn _ (zq_2 (Or.inr ⟨p0, Or.inl k0⟩)))
    · refine br_f k0 ?_
      by_cases k2 : kind = 2
      · exact br_t k2 (hn _ (zq_2 (Or.inr ⟨p0, Or.inr k2⟩)))
      · exact br_f k2 (main (fun z => z.2.elim k0 k2))
  · exact br_f p0 (main (fun z => p0 z.1))
end
end
section
/-! the relation -/
/-- tree, log, image: what a request keeps -/
def zi_M (b0 N : Nat) (C : zn_Mp) (f_nodes : Int32) (a_path a_data a_version a_childVersion a_created a_setAt a_owner a_firstChild a_sibling a_bucket : Nat → Int32) (a_eKind a_ePath a_eData a_eOwner a_eVersion a_eNumber : Nat → Int32) (a_iPath a_iData a_iVersion a_iChildVersion a_iCreated a_iSet a_iOwner : Nat → Int32) (a_iTimeout : Nat → Int32) (cb : Nat) (sn : Option (Nat × Nat)) (a_open a_timeout : Nat → Int32) : Prop :=
  zx_T f_nodes a_path a_data a_version a_childVersion a_created a_setAt a_owner a_firstChild a_sibling a_bucket C ∧ zi_C b0 C ∧ (∀ j, j < N → zf_W (zf_en a_eKind a_ePath a_eData a_eOwner a_eVersion a_eNumber j)) ∧ zi_Full (zf_en a_eKind a_ePath a_eData a_eOwner a_eVersion a_eNumber) N a_iPath (zn_nd a_iData a_iVersion a_iChildVersion a_iCreated a_iSet a_iOwner) a_iTimeout cb C a_open a_timeout ∧
  (∀ tk b, sn = some (tk, b) → b ≤ N ∧ zi_Part (zf_en a_eKind a_ePath a_eData a_eOwner a_eVersion a_eNumber) b (N - b) a_iPath (zn_nd a_iData a_iVersion a_iChildVersion a_iCreated a_iSet a_iOwner) a_iTimeout (21 - cb) tk C a_path a_open a_timeout)
theorem zx_cov {C : zn_Mp} {f_nodes : Int32} {a_path a_data a_version a_childVersion a_created a_setAt a_owner a_firstChild a_sibling a_bucket : Nat → Int32} (H : zx_T f_nodes a_path a_data a_version a_childVersion a_created a_setAt a_owner a_firstChild a_sibling a_bucket C) : ∀ p y, C p = some y → ∃ s, s < 21 ∧ a_path s = p := by
  intro p y e
  obtain ⟨s, hs, e1, _, h0⟩ := zr_get H.1.2.1 e
  exact ⟨s, zx_slot H hs h0, e1⟩
theorem zs_stay {e : zf_E} {path path1 : Nat → Int32} {nd nd1 : Nat → zn_Nd} (h : zs_St e path nd path1 nd1) : ∀ s, s < 21 → 0 ≤ (path s).toInt → path1 s = path s ∨ (e.1 = 3 ∧ e.2.1 = path s) := by
  intro s hs h0
  rcases h with ⟨_, s', up, _, _, _, a4, a5, a6, _⟩ | ⟨_, s', _, _, a3, _⟩ | ⟨e3, s', up, _, _, _, a4, a5, a6, _⟩
  · by_cases z : s = s'
    · rw [z, a4, zb_tm1] at h0; omega
    · exact Or.inl (a6 s z)
  · exact Or.inl (a3 s)
  · by_cases z : s = s'
    · rw [z]; exact Or.inr ⟨e3, a4.symm⟩
    · exact Or.inl (a6 s z)
theorem zs_num {e : zf_E} {path path1 : Nat → Int32} {nd nd1 : Nat → zn_Nd} (h : zs_St e path nd path1 nd1) (hp : zp_ok e.2.1) : zr_n path1 48 ≤ zr_n path 48 + 1 := by
  rcases h with ⟨_, s', up, a1, _, _, a4, a5, a6, _⟩ | ⟨_, s', _, _, a3, _⟩ | ⟨e3, s', up, a1, _, _, a4, a5, a6, _⟩
  · have := zr_n_ins (path := path) (path' := path1) (N := 48) (s := s') (by omega) (by rw [a4, zb_tm1]; omega) (by rw [a5]; exact hp.1) (fun j _ hj => a6 j hj)
    omega
  · have : zr_n path1 48 = zr_n path 48 := zc_congr (fun s _ => by unfold zr_oc; rw [a3])
    omega
  · have := zr_n_del (path := path) (path' := path1) (N := 48) (s := s') (by omega) (by rw [a4]; exact hp.1) (by rw [a5, zb_tm1]; omega) (fun j _ hj => a6 j hj)
    omega
theorem zs_num3 {e : zf_E} {path path1 : Nat → Int32} {nd nd1 : Nat → zn_Nd} (h : zs_St e path nd path1 nd1) (he : e.1 = 3) (hp : zp_ok e.2.1) : zr_n path1 48 + 1 = zr_n path 48 := by
  rcases h with ⟨e1, _⟩ | ⟨e2, _⟩ | ⟨e3, s', up, a1, _, _, a4, a5, a6, _⟩
  · rw [he] at e1; exact absurd e1 (by decide)
  · rw [he] at e2; exact absurd e2 (by decide)
  · have := zr_n_del (path := path) (path' := path1) (N := 48) (s := s') (by omega) (by rw [a4]; exact hp.1) (by rw [a5, zb_tm1]; omega) (fun j _ hj => a6 j hj)
    omega
theorem zi_M_step {b0 N : Nat} {C : zn_Mp} {e : zf_E} {f_nodes : Int32} {a_path a_data a_version a_childVersion a_created a_setAt a_owner a_firstChild a_sibling a_bucket : Nat → Int32} {a_eKind a_ePath a_eData a_eOwner a_eVersion a_eNumber : Nat → Int32} {f_nodes1 : Int32} {a_path1 a_data1 a_version1 a_childVersion1 a_created1 a_setAt1 a_owner1 a_firstChild1 a_sibling1 a_bucket1 : Nat → Int32} {a_eKind1 a_ePath1 a_eData1 a_eOwner1 a_eVersion1 a_eNumber1 : Nat → Int32} {a_iPath a_iData a_iVersion a_iChildVersion a_iCreated a_iSet a_iOwner : Nat → Int32} {a_iTimeout : Nat → Int32} {cb : Nat} {sn : Option (Nat × Nat)} {a_open a_timeout : Nat → Int32}
    (M : zi_M b0 N C f_nodes a_path a_data a_version a_childVersion a_created a_setAt a_owner a_firstChild a_sibling a_bucket a_eKind a_ePath a_eData a_eOwner a_eVersion a_eNumber a_iPath a_iData a_iVersion a_iChildVersion a_iCreated a_iSet a_iOwner a_iTimeout cb sn a_open a_timeout) (S : zx_Step e N C f_nodes a_path a_data a_version a_childVersion a_created a_setAt a_owner a_firstChild a_sibling a_bucket a_eKind a_ePath a_eData a_eOwner a_eVersion a_eNumber f_nodes1 a_path1 a_data1 a_version1 a_childVersion1 a_created1 a_setAt1 a_owner1 a_firstChild1 a_sibling1 a_bucket1 a_eKind1 a_ePath1 a_eData1 a_eOwner1 a_eVersion1 a_eNumber1) (hW : zf_W e) (hq : zf_q0 e) (hC : zi_C (b0 + 1) (zf_ap e C)) (h01 : ∀ s, s < 4 → a_open s = 0 ∨ a_open s = 1) :
    zi_M (b0 + 1) (N + 1) (zf_ap e C) f_nodes1 a_path1 a_data1 a_version1 a_childVersion1 a_created1 a_setAt1 a_owner1 a_firstChild1 a_sibling1 a_bucket1 a_eKind1 a_ePath1 a_eData1 a_eOwner1 a_eVersion1 a_eNumber1 a_iPath a_iData a_iVersion a_iChildVersion a_iCreated a_iSet a_iOwner a_iTimeout cb sn a_open a_timeout := by
  obtain ⟨_, _, m3, m4, m5⟩ := M
  obtain ⟨s1, s2, s3⟩ := S
  have q : ∀ s, s < 4 → zf_q (zf_s e s (a_open s, a_timeout s)) (a_open s) (a_timeout s) := fun s _ => by rw [zf_s_id hq]; exact ⟨rfl, fun _ => rfl⟩
  refine ⟨s1, hC, fun j hj => ?_, zi_Full_app m4 (fun j hj => s3.1 j (by omega)) s3.2 (fun p => rfl) (zx_cov s1) h01 q, fun tk b hb => ?_⟩
  · by_cases z : j = N
    · rw [z, s3.2]; exact hW
    · rw [s3.1 j z]; exact m3 j (by omega)
  · obtain ⟨hbN, P⟩ := m5 tk b hb
    refine ⟨by omega, ?_⟩
    rw [show N + 1 - b = N - b + 1 from by omega]
    exact zi_Part_app P (fun j hj => s3.1 j (by omega)) (by rw [show b + (N - b) = N from by omega]; exact s3.2) (fun p => rfl) (zx_cov s1) (zs_stay s2) h01 q
/-- how many sessions there are -/
def zi_S (op : Nat → Int32) : Nat := zc_cnt (fun s => decide (op s = 1)) 4
def zi_Ses (a_open a_timeout a_deadline b_timeouts b_deadlines : Nat → Int32) : Prop :=
  ∀ s, s < 4 → (a_open s = 0 ∨ a_open s = 1) ∧ (a_open s = 1 → b_timeouts s = a_timeout s ∧ b_deadlines s = a_deadline s ∧ 1 ≤ (a_timeout s).toInt ∧ (a_timeout s).toInt ≤ 20)
def zi_Pk (pc : Nat) (a_pKind a_pPath a_pA a_pB : Nat → Int32) (b_parts : Nat → Int32) : Prop :=
  ∀ j, j < pc → (b_parts (4 * j) = a_pKind j ∧ b_parts (4 * j + 1) = a_pPath j ∧ b_parts (4 * j + 2) = a_pA j ∧ b_parts (4 * j + 3) = a_pB j) ∧
    (a_pKind j = 0 ∨ a_pKind j = 1 ∨ a_pKind j = 2 ∨ a_pKind j = 3) ∧ (a_pKind j = 0 → ∃ f, f < 4 ∧ a_pB j = nI f)
def zi_Img (ip io it : Nat → Int32) : Prop := (∀ j, j < 42 → 0 ≤ (ip j).toInt → -1 ≤ (io j).toInt ∧ (io j).toInt ≤ 3) ∧ (∀ j, j < 8 → 0 ≤ (it j).toInt ∧ (it j).toInt ≤ 20)
def zi_Lat (N b : Nat) (en : Nat → Int32) (il lat : Int32) : Prop := (N = b → il = lat) ∧ (b < N → en (N - 1) = lat)
def zi_Pot (N n S lg : Nat) : Prop := 16 * N + 5 * n + 110 * S ≤ 126 * lg + 545
def zi_Snap (sn : Option (Nat × Nat)) (f_taken f_sinceEntry f_sinceCount g_since g_placesLeft : Int32) (N lg n S : Nat) (a_eNumber : Nat → Int32) (il lat : Int32) : Prop :=
  (sn = none ∧ f_taken = -1 ∧ g_placesLeft = 0) ∨
  (∃ tk b bc, sn = some (tk, b) ∧ f_taken = nI tk ∧ 1 ≤ tk ∧ tk < 24 ∧ g_placesLeft = nI (24 - tk) ∧ f_sinceEntry = nI b ∧ f_sinceCount = nI bc ∧ b ≤ N ∧ bc ≤ lg ∧ g_since = nI (lg - bc) ∧ zi_Pot (N - b) n S (lg - bc) ∧ zi_Lat N b a_eNumber il lat)
/-- all but tree and log -/
def zi_Q (N lg pc cb : Nat) (sn : Option (Nat × Nat)) (S : zw_S) (f_nodes f_time f_latest f_entries f_logged f_complete f_taken f_sinceEntry f_sinceCount f_parts f_wrongPart f_watches : Int32) (a_path a_data a_version a_childVersion a_created a_setAt a_owner a_firstChild a_sibling a_bucket a_open a_timeout a_deadline a_eKind a_ePath a_eData a_eOwner a_eVersion a_eNumber a_iPath a_iData a_iVersion a_iChildVersion a_iCreated a_iSet a_iOwner a_iTimeout a_iLatest a_pKind a_pPath a_pA a_pB a_uEntry a_uSlot a_uData a_uVersion a_uSet a_uChildVersion a_uCreated a_uOwner a_wSession a_wKind a_wPath a_queue a_queued : Nat → Int32) (g_time g_last g_watchCount g_partCount g_wrong g_changes g_log g_since g_placesLeft : Int32) (b_paths b_values b_open b_timeouts b_deadlines b_events b_eventCounts b_watchers b_watchKinds b_watchPaths b_parts b_happened b_how : Nat → Int32) : Prop :=
  (f_entries = nI N ∧ f_logged = nI lg ∧ g_log = nI lg ∧ g_last = f_latest ∧ g_time = f_time ∧ b_open = a_open ∧ f_parts = nI pc ∧ g_partCount = nI pc ∧ g_wrong = f_wrongPart ∧ f_complete = nI cb) ∧
  ((cb = 0 ∨ cb = 21) ∧ pc ≤ 6 ∧ zi_Pot N (zr_n a_path 48) (zi_S a_open) lg ∧ lg + zi_S a_open ≤ 44) ∧
  zi_Ses a_open a_timeout a_deadline b_timeouts b_deadlines ∧ zi_Pk pc a_pKind a_pPath a_pA a_pB b_parts ∧ zw_X f_watches a_wSession a_wKind a_wPath a_queue a_queued S ∧ zw_X g_watchCount b_watchers b_watchKinds b_watchPaths b_events b_eventCounts S ∧ zi_Img a_iPath a_iOwner a_iTimeout ∧
  zi_Lat N 0 a_eNumber (a_iLatest (cb / 21)) f_latest ∧
  zi_Snap sn f_taken f_sinceEntry f_sinceCount g_since g_placesLeft N lg (zr_n a_path 48) (zi_S a_open) a_eNumber (a_iLatest ((21 - cb) / 21)) f_latest
def zi_R (k : Nat) (f_nodes f_time f_latest f_entries f_logged f_complete f_taken f_sinceEntry f_sinceCount f_parts f_wrongPart f_watches : Int32) (a_path a_data a_version a_childVersion a_created a_setAt a_owner a_firstChild a_sibling a_bucket a_open a_timeout a_deadline a_eKind a_ePath a_eData a_eOwner a_eVersion a_eNumber a_iPath a_iData a_iVersion a_iChildVersion a_iCreated a_iSet a_iOwner a_iTimeout a_iLatest a_pKind a_pPath a_pA a_pB a_uEntry a_uSlot a_uData a_uVersion a_uSet a_uChildVersion a_uCreated a_uOwner a_wSession a_wKind a_wPath a_queue a_queued : Nat → Int32) (g_time g_last g_watchCount g_partCount g_wrong g_changes g_log g_since g_placesLeft : Int32) (b_paths b_values b_open b_timeouts b_deadlines b_events b_eventCounts b_watchers b_watchKinds b_watchPaths b_parts b_happened b_how : Nat → Int32) : Prop :=
  ∃ (C : zn_Mp) (S : zw_S) (N lg pc cb : Nat) (sn : Option (Nat × Nat)), zi_M (20 * k) N C f_nodes a_path a_data a_version a_childVersion a_created a_setAt a_owner a_firstChild a_sibling a_bucket a_eKind a_ePath a_eData a_eOwner a_eVersion a_eNumber a_iPath a_iData a_iVersion a_iChildVersion a_iCreated a_iSet a_iOwner a_iTimeout cb sn a_open a_timeout ∧ zy_T b_paths b_values C ∧ zi_Q N lg pc cb sn S f_nodes f_time f_latest f_entries f_logged f_complete f_taken f_sinceEntry f_sinceCount f_parts f_wrongPart f_watches a_path a_data a_version a_childVersion a_created a_setAt a_owner a_firstChild a_sibling a_bucket a_open a_timeout a_deadline a_eKind a_ePath a_eData a_eOwner a_eVersion a_eNumber a_iPath a_iData a_iVersion a_iChildVersion a_iCreated a_iSet a_iOwner a_iTimeout a_iLatest a_pKind a_pPath a_pA a_pB a_uEntry a_uSlot a_uData a_uVersion a_uSet a_uChildVersion a_uCreated a_uOwner a_wSession a_wKind a_wPath a_queue a_queued g_time g_last g_watchCount g_partCount g_wrong g_changes g_log g_since g_placesLeft b_paths b_values b_open b_timeouts b_deadlines b_events b_eventCounts b_watchers b_watchKinds b_watchPaths b_parts b_happened b_how
theorem zi_elX {P : SX → Prop} (h : ∀ (f_nodes f_time f_latest f_entries f_logged f_complete f_taken f_sinceEntry f_sinceCount f_parts f_wrongPart f_watches : Int32) (a_path a_data a_version a_childVersion a_created a_setAt a_owner a_firstChild a_sibling a_bucket a_open a_timeout a_deadline a_eKind a_ePath a_eData a_eOwner a_eVersion a_eNumber a_iPath a_iData a_iVersion a_iChildVersion a_iCreated a_iSet a_iOwner a_iTimeout a_iLatest a_pKind a_pPath a_pA a_pB a_uEntry a_uSlot a_uData a_uVersion a_uSet a_uChildVersion a_uCreated a_uOwner a_wSession a_wKind a_wPath a_queue a_queued : Nat → Int32), P (f_nodes, f_time, f_latest, f_entries, f_logged, f_complete, f_taken, f_sinceEntry, f_sinceCount, f_parts, f_wrongPart, f_watches, a_path, a_data, a_version, a_childVersion, a_created, a_setAt, a_owner, a_firstChild, a_sibling, a_bucket, a_open, a_timeout, a_deadline, a_eKind, a_ePath, a_eData, a_eOwner, a_eVersion, a_eNumber, a_iPath, a_iData, a_iVersion, a_iChildVersion, a_iCreated, a_iSet, a_iOwner, a_iTimeout, a_iLatest, a_pKind, a_pPath, a_pA, a_pB, a_uEntry, a_uSlot, a_uData, a_uVersion, a_uSet, a_uChildVersion, a_uCreated, a_uOwner, a_wSession, a_wKind, a_wPath, a_queue, a_queued)) (u : SX) : P u := h u.1 u.2.1 u.2.2.1 u.2.2.2.1 u.2.2.2.2.1 u.2.2.2.2.2.1 u.2.2.2.2.2.2.1 u.2.2.2.2.2.2.2.1 u.2.2.2.2.2.2.2.2.1 u.2.2.2.2.2.2.2.2.2.1 u.2.2.2.2.2.2.2.2.2.2.1 u.2.2.2.2.2.2.2.2.2.2.2.1 u.2.2.2.2.2.2.2.2.2.2.2.2.1 u.2.2.2.2.2.2.2.2.2.2.2.2.2.1 u.2.2.2.2.2.2.2.2.2.2.2.2.2.2.1 u.2.2.2.2.2.2.2.2.2.2.2.2.2.2.2.1 u.2.2.2.2.2.2.2.2.2.2.2.2.2.2.2.2.1 u.2.2.2.2.2.2.2.2.2.2.2.2.2.2.2.2.2.1 u.2.2.2.2.2.2.2.2.2.2.2.2.2.2.2.2.2.2.1 u.2.2.2.2.2.2.2.2.2.2.2.2.2.2.2.2.2.2.2.1 u.2.2.2.2.2.2.2.2.2.2.2.2.2.2.2.2.2.2.2.2.1 u.2.2.2.2.2.2.2.2.2.2.2.2.2.2.2.2.2.2.2.2.2.1 u.2.2.2.2.2.2.2.2.2.2.2.2.2.2.2.2.2.2.2.2.2.2.1 u.2.2.2.2.2.2.2.2.2.2.2.2.2.2.2.2.2.2.2.2.2.2.2.1 u.2.2.2.2.2.2.2.2.2.2.2.2.2.2.2.2.2.2.2.2.2.2.2.2.1 u.2.2.2.2.2.2.2.2.2.2.2.2.2.2.2.2.2.2.2.2.2.2.2.2.2.1 u.2.2.2.2.2.2.2.2.2.2.2.2.2.2.2.2.2.2.2.2.2.2.2.2.2.2.1 u.2.2.2.2.2.2.2.2.2.2.2.2.2.2.2.2.2.2.2.2.2.2.2.2.2.2.2.1 u.2.2.2.2.2.2.2.2.2.2.2.2.2.2.2.2.2.2.2.2.2.2.2.2.2.2.2.2.1 u.2.2.2.2.2.2.2.2.2.2.2.2.2.2.2.2.2.2.2.2.2.2.2.2.2.2.2.2.2.1 u.2.2.2.2.2.2.2.2.2.2.2.2.2.2.2.2.2.2.2.2.2.2.2.2.2.2.2.2.2.2.1 u.2.2.2.2.2.2.2.2.2.2.2.2.2.2.2.2.2.2.2.2.2.2.2.2.2.2.2.2.2.2.2.1 u.2.2.2.2.2.2.2.2.2.2.2.2.2.2.2.2.2.2.2.2.2.2.2.2.2.2.2.2.2.2.2.2.1 u.2.2.2.2.2.2.2.2.2.2.2.2.2.2.2.2.2.2.2.2.2.2.2.2.2.2.2.2.2.2.2.2.2.1 u.2.2.2.2.2.2.2.2.2.2.2.2.2.2.2.2.2.2.2.2.2.2.2.2.2.2.2.2.2.2.2.2.2.2.1 u.2.2.2.2.2.2.2.2.2.2.2.2.2.2.2.2.2.2.2.2.2.2.2.2.2.2.2.2.2.2.2.2.2.2.2.1 u.2.2.2.2.2.2.2.2.2.2.2.2.2.2.2.2.2.2.2.2.2.2.2.2.2.2.2.2.2.2.2.2.2.2.2.2.1 u.2.2.2.2.2.2.2.2.2.2.2.2.2.2.2.2.2.2.2.2.2.2.2.2.2.2.2.2.2.2.2.2.2.2.2.2.2.1 u.2.2.2.2.2.2.2.2.2.2.2.2.2.2.2.2.2.2.2.2.2.2.2.2.2.2.2.2.2.2.2.2.2.2.2.2.2.2.1 u.2.2.2.2.2.2.2.2.2.2.2.2.2.2.2.2.2.2.2.2.2.2.2.2.2.2.2.2.2.2.2.2.2.2.2.2.2.2.2.1 u.2.2.2.2.2.2.2.2.2.2.2.2.2.2.2.2.2.2.2.2.2.2.2.2.2.2.2.2.2.2.2.2.2.2.2.2.2.2.2.2.1 u.2.2.2.2.2.2.2.2.2.2.2.2.2.2.2.2.2.2.2.2.2.2.2.2.2.2.2.2.2.2.2.2.2.2.2.2.2.2.2.2.2.1 u.2.2.2.2.2.2.2.2.2.2.2.2.2.2.2.2.2.2.2.2.2.2.2.2.2.2.2.2.2.2.2.2.2.2.2.2.2.2.2.2.2.2.1 u.2.2.2.2.2.2.2.2.2.2.2.2.2.2.2.2.2.2.2.2.2.2.2.2.2.2.2.2.2.2.2.2.2.2.2.2.2.2.2.2.2.2.2.1 u.2.2.2.2.2.2.2.2.2.2.2.2.2.2.2.2.2.2.2.2.2.2.2.2.2.2.2.2.2.2.2.2.2.2.2.2.2.2.2.2.2.2.2.2.1 u.2.2.2.2.2.2.2.2.2.2.2.2.2.2.2.2.2.2.2.2.2.2.2.2.2.2.2.2.2.2.2.2.2.2.2.2.2.2.2.2.2.2.2.2.2.1 u.2.2.2.2.2.2.2.2.2.2.2.2.2.2.2.2.2.2.2.2.2.2.2.2.2.2.2.2.2.2.2.2.2.2.2.2.2.2.2.2.2.2.2.2.2.2.1 u.2.2.2.2.2.2.2.2.2.2.2.2.2.2.2.2.2.2.2.2.2.2.2.2.2.2.2.2.2.2.2.2.2.2.2.2.2.2.2.2.2.2.2.2.2.2.2.1 u.2.2.2.2.2.2.2.2.2.2.2.2.2.2.2.2.2.2.2.2.2.2.2.2.2.2.2.2.2.2.2.2.2.2.2.2.2.2.2.2.2.2.2.2.2.2.2.2.1 u.2.2.2.2.2.2.2.2.2.2.2.2.2.2.2.2.2.2.2.2.2.2.2.2.2.2.2.2.2.2.2.2.2.2.2.2.2.2.2.2.2.2.2.2.2.2.2.2.2.1 u.2.2.2.2.2.2.2.2.2.2.2.2.2.2.2.2.2.2.2.2.2.2.2.2.2.2.2.2.2.2.2.2.2.2.2.2.2.2.2.2.2.2.2.2.2.2.2.2.2.2.1 u.2.2.2.2.2.2.2.2.2.2.2.2.2.2.2.2.2.2.2.2.2.2.2.2.2.2.2.2.2.2.2.2.2.2.2.2.2.2.2.2.2.2.2.2.2.2.2.2.2.2.2.1 u.2.2.2.2.2.2.2.2.2.2.2.2.2.2.2.2.2.2.2.2.2.2.2.2.2.2.2.2.2.2.2.2.2.2.2.2.2.2.2.2.2.2.2.2.2.2.2.2.2.2.2.2.1 u.2.2.2.2.2.2.2.2.2.2.2.2.2.2.2.2.2.2.2.2.2.2.2.2.2.2.2.2.2.2.2.2.2.2.2.2.2.2.2.2.2.2.2.2.2.2.2.2.2.2.2.2.2.1 u.2.2.2.2.2.2.2.2.2.2.2.2.2.2.2.2.2.2.2.2.2.2.2.2.2.2.2.2.2.2.2.2.2.2.2.2.2.2.2.2.2.2.2.2.2.2.2.2.2.2.2.2.2.2.1 u.2.2.2.2.2.2.2.2.2.2.2.2.2.2.2.2.2.2.2.2.2.2.2.2.2.2.2.2.2.2.2.2.2.2.2.2.2.2.2.2.2.2.2.2.2.2.2.2.2.2.2.2.2.2.2.1 u.2.2.2.2.2.2.2.2.2.2.2.2.2.2.2.2.2.2.2.2.2.2.2.2.2.2.2.2.2.2.2.2.2.2.2.2.2.2.2.2.2.2.2.2.2.2.2.2.2.2.2.2.2.2.2.2
theorem zi_elY {P : SY → Prop} (h : ∀ (g_time g_last g_watchCount g_partCount g_wrong g_changes g_log g_since g_placesLeft : Int32) (b_paths b_values b_open b_timeouts b_deadlines b_events b_eventCounts b_watchers b_watchKinds b_watchPaths b_parts b_happened b_how : Nat → Int32), P (g_time, g_last, g_watchCount, g_partCount, g_wrong, g_changes, g_log, g_since, g_placesLeft, b_paths, b_values, b_open, b_timeouts, b_deadlines, b_events, b_eventCounts, b_watchers, b_watchKinds, b_watchPaths, b_parts, b_happened, b_how)) (v : SY) : P v := h v.1 v.2.1 v.2.2.1 v.2.2.2.1 v.2.2.2.2.1 v.2.2.2.2.2.1 v.2.2.2.2.2.2.1 v.2.2.2.2.2.2.2.1 v.2.2.2.2.2.2.2.2.1 v.2.2.2.2.2.2.2.2.2.1 v.2.2.2.2.2.2.2.2.2.2.1 v.2.2.2.2.2.2.2.2.2.2.2.1 v.2.2.2.2.2.2.2.2.2.2.2.2.1 v.2.2.2.2.2.2.2.2.2.2.2.2.2.1 v.2.2.2.2.2.2.2.2.2.2.2.2.2.2.1 v.2.2.2.2.2.2.2.2.2.2.2.2.2.2.2.1 v.2.2.2.2.2.2.2.2.2.2.2.2.2.2.2.2.1 v.2.2.2.2.2.2.2.2.2.2.2.2.2.2.2.2.2.1 v.2.2.2.2.2.2.2.2.2.2.2.2.2.2.2.2.2.2.1 v.2.2.2.2.2.2.2.2.2.2.2.2.2.2.2.2.2.2.2.1 v.2.2.2.2.2.2.2.2.2.2.2.2.2.2.2.2.2.2.2.2.1 v.2.2.2.2.2.2.2.2.2.2.2.2.2.2.2.2.2.2.2.2.2
def i_Rel (k : Nat) (u : SX) (v : SY) : Prop := zi_R k u.1 u.2.1 u.2.2.1 u.2.2.2.1 u.2.2.2.2.1 u.2.2.2.2.2.1 u.2.2.2.2.2.2.1 u.2.2.2.2.2.2.2.1 u.2.2.2.2.2.2.2.2.1 u.2.2.2.2.2.2.2.2.2.1 u.2.2.2.2.2.2.2.2.2.2.1 u.2.2.2.2.2.2.2.2.2.2.2.1 u.2.2.2.2.2.2.2.2.2.2.2.2.1 u.2.2.2.2.2.2.2.2.2.2.2.2.2.1 u.2.2.2.2.2.2.2.2.2.2.2.2.2.2.1 u.2.2.2.2.2.2.2.2.2.2.2.2.2.2.2.1 u.2.2.2.2.2.2.2.2.2.2.2.2.2.2.2.2.1 u.2.2.2.2.2.2.2.2.2.2.2.2.2.2.2.2.2.1 u.2.2.2.2.2.2.2.2.2.2.2.2.2.2.2.2.2.2.1 u.2.2.2.2.2.2.2.2.2.2.2.2.2.2.2.2.2.2.2.1 u.2.2.2.2.2.2.2.2.2.2.2.2.2.2.2.2.2.2.2.2.1 u.2.2.2.2.2.2.2.2.2.2.2.2.2.2.2.2.2.2.2.2.2.1 u.2.2.2.2.2.2.2.2.2.2.2.2.2.2.2.2.2.2.2.2.2.2.1 u.2.2.2.2.2.2.2.2.2.2.2.2.2.2.2.2.2.2.2.2.2.2.2.1 u.2.2.2.2.2.2.2.2.2.2.2.2.2.2.2.2.2.2.2.2.2.2.2.2.1 u.2.2.2.2.2.2.2.2.2.2.2.2.2.2.2.2.2.2.2.2.2.2.2.2.2.1 u.2.2.2.2.2.2.2.2.2.2.2.2.2.2.2.2.2.2.2.2.2.2.2.2.2.2.1 u.2.2.2.2.2.2.2.2.2.2.2.2.2.2.2.2.2.2.2.2.2.2.2.2.2.2.2.1 u.2.2.2.2.2.2.2.2.2.2.2.2.2.2.2.2.2.2.2.2.2.2.2.2.2.2.2.2.1 u.2.2.2.2.2.2.2.2.2.2.2.2.2.2.2.2.2.2.2.2.2.2.2.2.2.2.2.2.2.1 u.2.2.2.2.2.2.2.2.2.2.2.2.2.2.2.2.2.2.2.2.2.2.2.2.2.2.2.2.2.2.1 u.2.2.2.2.2.2.2.2.2.2.2.2.2.2.2.2.2.2.2.2.2.2.2.2.2.2.2.2.2.2.2.1 u.2.2.2.2.2.2.2.2.2.2.2.2.2.2.2.2.2.2.2.2.2.2.2.2.2.2.2.2.2.2.2.2.1 u.2.2.2.2.2.2.2.2.2.2.2.2.2.2.2.2.2.2.2.2.2.2.2.2.2.2.2.2.2.2.2.2.2.1 u.2.2.2.2.2.2.2.2.2.2.2.2.2.2.2.2.2.2.2.2.2.2.2.2.2.2.2.2.2.2.2.2.2.2.1 u.2.2.2.2.2.2.2.2.2.2.2.2.2.2.2.2.2.2.2.2.2.2.2.2.2.2.2.2.2.2.2.2.2.2.2.1 u.2.2.2.2.2.2.2.2.2.2.2.2.2.2.2.2.2.2.2.2.2.2.2.2.2.2.2.2.2.2.2.2.2.2.2.2.1 u.2.2.2.2.2.2.2.2.2.2.2.2.2.2.2.2.2.2.2.2.2.2.2.2.2.2.2.2.2.2.2.2.2.2.2.2.2.1 u.2.2.2.2.2.2.2.2.2.2.2.2.2.2.2.2.2.2.2.2.2.2.2.2.2.2.2.2.2.2.2.2.2.2.2.2.2.2.1 u.2.2.2.2.2.2.2.2.2.2.2.2.2.2.2.2.2.2.2.2.2.2.2.2.2.2.2.2.2.2.2.2.2.2.2.2.2.2.2.1 u.2.2.2.2.2.2.2.2.2.2.2.2.2.2.2.2.2.2.2.2.2.2.2.2.2.2.2.2.2.2.2.2.2.2.2.2.2.2.2.2.1 u.2.2.2.2.2.2.2.2.2.2.2.2.2.2.2.2.2.2.2.2.2.2.2.2.2.2.2.2.2.2.2.2.2.2.2.2.2.2.2.2.2.1 u.2.2.2.2.2.2.2.2.2.2.2.2.2.2.2.2.2.2.2.2.2.2.2.2.2.2.2.2.2.2.2.2.2.2.2.2.2.2.2.2.2.2.1 u.2.2.2.2.2.2.2.2.2.2.2.2.2.2.2.2.2.2.2.2.2.2.2.2.2.2.2.2.2.2.2.2.2.2.2.2.2.2.2.2.2.2.2.1 u.2.2.2.2.2.2.2.2.2.2.2.2.2.2.2.2.2.2.2.2.2.2.2.2.2.2.2.2.2.2.2.2.2.2.2.2.2.2.2.2.2.2.2.2.1 u.2.2.2.2.2.2.2.2.2.2.2.2.2.2.2.2.2.2.2.2.2.2.2.2.2.2.2.2.2.2.2.2.2.2.2.2.2.2.2.2.2.2.2.2.2.1 u.2.2.2.2.2.2.2.2.2.2.2.2.2.2.2.2.2.2.2.2.2.2.2.2.2.2.2.2.2.2.2.2.2.2.2.2.2.2.2.2.2.2.2.2.2.2.1 u.2.2.2.2.2.2.2.2.2.2.2.2.2.2.2.2.2.2.2.2.2.2.2.2.2.2.2.2.2.2.2.2.2.2.2.2.2.2.2.2.2.2.2.2.2.2.2.1 u.2.2.2.2.2.2.2.2.2.2.2.2.2.2.2.2.2.2.2.2.2.2.2.2.2.2.2.2.2.2.2.2.2.2.2.2.2.2.2.2.2.2.2.2.2.2.2.2.1 u.2.2.2.2.2.2.2.2.2.2.2.2.2.2.2.2.2.2.2.2.2.2.2.2.2.2.2.2.2.2.2.2.2.2.2.2.2.2.2.2.2.2.2.2.2.2.2.2.2.1 u.2.2.2.2.2.2.2.2.2.2.2.2.2.2.2.2.2.2.2.2.2.2.2.2.2.2.2.2.2.2.2.2.2.2.2.2.2.2.2.2.2.2.2.2.2.2.2.2.2.2.1 u.2.2.2.2.2.2.2.2.2.2.2.2.2.2.2.2.2.2.2.2.2.2.2.2.2.2.2.2.2.2.2.2.2.2.2.2.2.2.2.2.2.2.2.2.2.2.2.2.2.2.2.1 u.2.2.2.2.2.2.2.2.2.2.2.2.2.2.2.2.2.2.2.2.2.2.2.2.2.2.2.2.2.2.2.2.2.2.2.2.2.2.2.2.2.2.2.2.2.2.2.2.2.2.2.2.1 u.2.2.2.2.2.2.2.2.2.2.2.2.2.2.2.2.2.2.2.2.2.2.2.2.2.2.2.2.2.2.2.2.2.2.2.2.2.2.2.2.2.2.2.2.2.2.2.2.2.2.2.2.2.1 u.2.2.2.2.2.2.2.2.2.2.2.2.2.2.2.2.2.2.2.2.2.2.2.2.2.2.2.2.2.2.2.2.2.2.2.2.2.2.2.2.2.2.2.2.2.2.2.2.2.2.2.2.2.2.1 u.2.2.2.2.2.2.2.2.2.2.2.2.2.2.2.2.2.2.2.2.2.2.2.2.2.2.2.2.2.2.2.2.2.2.2.2.2.2.2.2.2.2.2.2.2.2.2.2.2.2.2.2.2.2.2.1 u.2.2.2.2.2.2.2.2.2.2.2.2.2.2.2.2.2.2.2.2.2.2.2.2.2.2.2.2.2.2.2.2.2.2.2.2.2.2.2.2.2.2.2.2.2.2.2.2.2.2.2.2.2.2.2.2 v.1 v.2.1 v.2.2.1 v.2.2.2.1 v.2.2.2.2.1 v.2.2.2.2.2.1 v.2.2.2.2.2.2.1 v.2.2.2.2.2.2.2.1 v.2.2.2.2.2.2.2.2.1 v.2.2.2.2.2.2.2.2.2.1 v.2.2.2.2.2.2.2.2.2.2.1 v.2.2.2.2.2.2.2.2.2.2.2.1 v.2.2.2.2.2.2.2.2.2.2.2.2.1 v.2.2.2.2.2.2.2.2.2.2.2.2.2.1 v.2.2.2.2.2.2.2.2.2.2.2.2.2.2.1 v.2.2.2.2.2.2.2.2.2.2.2.2.2.2.2.1 v.2.2.2.2.2.2.2.2.2.2.2.2.2.2.2.2.1 v.2.2.2.2.2.2.2.2.2.2.2.2.2.2.2.2.2.1 v.2.2.2.2.2.2.2.2.2.2.2.2.2.2.2.2.2.2.1 v.2.2.2.2.2.2.2.2.2.2.2.2.2.2.2.2.2.2.2.1 v.2.2.2.2.2.2.2.2.2.2.2.2.2.2.2.2.2.2.2.2.1 v.2.2.2.2.2.2.2.2.2.2.2.2.2.2.2.2.2.2.2.2.2
theorem i_up {k : Nat} {u : SX} {v : SY} (h : i_Rel k u v) : i_Rel (k + 5) u v := by
  obtain ⟨C, S, N, lg, pc, cb, sn, ⟨m1, m2, m3⟩, h2⟩ := h
  exact ⟨C, S, N, lg, pc, cb, sn, ⟨m1, zi_C_le m2 (by omega), m3⟩, h2⟩
/-- take the relation apart -/
theorem zi_el {k : Nat} {P : SX → SY → Prop} (h : ∀ (f_nodes f_time f_latest f_entries f_logged f_complete f_taken f_sinceEntry f_sinceCount f_parts f_wrongPart f_watches : Int32) (a_path a_data a_version a_childVersion a_created a_setAt a_owner a_firstChild a_sibling a_bucket a_open a_timeout a_deadline a_eKind a_ePath a_eData a_eOwner a_eVersion a_eNumber a_iPath a_iData a_iVersion a_iChildVersion a_iCreated a_iSet a_iOwner a_iTimeout a_iLatest a_pKind a_pPath a_pA a_pB a_uEntry a_uSlot a_uData a_uVersion a_uSet a_uChildVersion a_uCreated a_uOwner a_wSession a_wKind a_wPath a_queue a_queued : Nat → Int32) (g_time g_last g_watchCount g_partCount g_wrong g_changes g_log g_since g_placesLeft : Int32) (b_paths b_values b_open b_timeouts b_deadlines b_events b_eventCounts b_watchers b_watchKinds b_watchPaths b_parts b_happened b_how : Nat → Int32), zi_R k f_nodes f_time f_latest f_entries f_logged f_complete f_taken f_sinceEntry f_sinceCount f_parts f_wrongPart f_watches a_path a_data a_version a_childVersion a_created a_setAt a_owner a_firstChild a_sibling a_bucket a_open a_timeout a_deadline a_eKind a_ePath a_eData a_eOwner a_eVersion a_eNumber a_iPath a_iData a_iVersion a_iChildVersion a_iCreated a_iSet a_iOwner a_iTimeout a_iLatest a_pKind a_pPath a_pA a_pB a_uEntry a_uSlot a_uData a_uVersion a_uSet a_uChildVersion a_uCreated a_uOwner a_wSession a_wKind a_wPath a_queue a_queued g_time g_last g_watchCount g_partCount g_wrong g_changes g_log g_since g_placesLeft b_paths b_values b_open b_timeouts b_deadlines b_events b_eventCounts b_watchers b_watchKinds b_watchPaths b_parts b_happened b_how → P (f_nodes, f_time, f_latest, f_entries, f_logged, f_complete, f_taken, f_sinceEntry, f_sinceCount, f_parts, f_wrongPart, f_watches, a_path, a_data, a_version, a_childVersion, a_created, a_setAt, a_owner, a_firstChild, a_sibling, a_bucket, a_open, a_timeout, a_deadline, a_eKind, a_ePath, a_eData, a_eOwner, a_eVersion, a_eNumber, a_iPath, a_iData, a_iVersion, a_iChildVersion, a_iCreated, a_iSet, a_iOwner, a_iTimeout, a_iLatest, a_pKind, a_pPath, a_pA, a_pB, a_uEntry, a_uSlot, a_uData, a_uVersion, a_uSet, a_uChildVersion, a_uCreated, a_uOwner, a_wSession, a_wKind, a_wPath, a_queue, a_queued) (g_time, g_last, g_watchCount, g_partCount, g_wrong, g_changes, g_log, g_since, g_placesLeft, b_paths, b_values, b_open, b_timeouts, b_deadlines, b_events, b_eventCounts, b_watchers, b_watchKinds, b_watchPaths, b_parts, b_happened, b_how)) {u : SX} {v : SY} (I : i_Rel k u v) : P u v :=
  h u.1 u.2.1 u.2.2.1 u.2.2.2.1 u.2.2.2.2.1 u.2.2.2.2.2.1 u.2.2.2.2.2.2.1 u.2.2.2.2.2.2.2.1 u.2.2.2.2.2.2.2.2.1 u.2.2.2.2.2.2.2.2.2.1 u.2.2.2.2.2.2.2.2.2.2.1 u.2.2.2.2.2.2.2.2.2.2.2.1 u.2.2.2.2.2.2.2.2.2.2.2.2.1 u.2.2.2.2.2.2.2.2.2.2.2.2.2.1 u.2.2.2.2.2.2.2.2.2.2.2.2.2.2.1 u.2.2.2.2.2.2.2.2.2.2.2.2.2.2.2.1 u.2.2.2.2.2.2.2.2.2.2.2.2.2.2.2.2.1 u.2.2.2.2.2.2.2.2.2.2.2.2.2.2.2.2.2.1 u.2.2.2.2.2.2.2.2.2.2.2.2.2.2.2.2.2.2.1 u.2.2.2.2.2.2.2.2.2.2.2.2.2.2.2.2.2.2.2.1 u.2.2.2.2.2.2.2.2.2.2.2.2.2.2.2.2.2.2.2.2.1 u.2.2.2.2.2.2.2.2.2.2.2.2.2.2.2.2.2.2.2.2.2.1 u.2.2.2.2.2.2.2.2.2.2.2.2.2.2.2.2.2.2.2.2.2.2.1 u.2.2.2.2.2.2.2.2.2.2.2.2.2.2.2.2.2.2.2.2.2.2.2.1 u.2.2.2.2.2.2.2.2.2.2.2.2.2.2.2.2.2.2.2.2.2.2.2.2.1 u.2.2.2.2.2.2.2.2.2.2.2.2.2.2.2.2.2.2.2.2.2.2.2.2.2.1 u.2.2.2.2.2.2.2.2.2.2.2.2.2.2.2.2.2.2.2.2.2.2.2.2.2.2.1 u.2.2.2.2.2.2.2.2.2.2.2.2.2.2.2.2.2.2.2.2.2.2.2.2.2.2.2.1 u.2.2.2.2.2.2.2.2.2.2.2.2.2.2.2.2.2.2.2.2.2.2.2.2.2.2.2.2.1 u.2.2.2.2.2.2.2.2.2.2.2.2.2.2.2.2.2.2.2.2.2.2.2.2.2.2.2.2.2.1 u.2.2.2.2.2.2.2.2.2.2.2.2.2.2.2.2.2.2.2.2.2.2.2.2.2.2.2.2.2.2.1 u.2.2.2.2.2.2.2.2.2.2.2.2.2.2.2.2.2.2.2.2.2.2.2.2.2.2.2.2.2.2.2.1 u.2.2.2.2.2.2.2.2.2.2.2.2.2.2.2.2.2.2.2.2.2.2.2.2.2.2.2.2.2.2.2.2.1 u.2.2.2.2.2.2.2.2.2.2.2.2.2.2.2.2.2.2.2.2.2.2.2.2.2.2.2.2.2.2.2.2.2.1 u.2.2.2.2.2.2.2.2.2.2.2.2.2.2.2.2.2.2.2.2.2.2.2.2.2.2.2.2.2.2.2.2.2.2.1 u.2.2.2.2.2.2.2.2.2.2.2.2.2.2.2.2.2.2.2.2.2.2.2.2.2.2.2.2.2.2.2.2.2.2.2.1 u.2.2.2.2.2.2.2.2.2.2.2.2.2.2.2.2.2.2.2.2.2.2.2.2.2.2.2.2.2.2.2.2.2.2.2.2.1 u.2.2.2.2.2.2.2.2.2.2.2.2.2.2.2.2.2.2.2.2.2.2.2.2.2.2.2.2.2.2.2.2.2.2.2.2.2.1 u.2.2.2.2.2.2.2.2.2.2.2.2.2.2.2.2.2.2.2.2.2.2.2.2.2.2.2.2.2.2.2.2.2.2.2.2.2.2.1 u.2.2.2.2.2.2.2.2.2.2.2.2.2.2.2.2.2.2.2.2.2.2.2.2.2.2.2.2.2.2.2.2.2.2.2.2.2.2.2.1 u.2.2.2.2.2.2.2.2.2.2.2.2.2.2.2.2.2.2.2.2.2.2.2.2.2.2.2.2.2.2.2.2.2.2.2.2.2.2.2.2.1 u.2.2.2.2.2.2.2.2.2.2.2.2.2.2.2.2.2.2.2.2.2.2.2.2.2.2.2.2.2.2.2.2.2.2.2.2.2.2.2.2.2.1 u.2.2.2.2.2.2.2.2.2.2.2.2.2.2.2.2.2.2.2.2.2.2.2.2.2.2.2.2.2.2.2.2.2.2.2.2.2.2.2.2.2.2.1 u.2.2.2.2.2.2.2.2.2.2.2.2.2.2.2.2.2.2.2.2.2.2.2.2.2.2.2.2.2.2.2.2.2.2.2.2.2.2.2.2.2.2.2.1 u.2.2.2.2.2.2.2.2.2.2.2.2.2.2.2.2.2.2.2.2.2.2.2.2.2.2.2.2.2.2.2.2.2.2.2.2.2.2.2.2.2.2.2.2.1 u.2.2.2.2.2.2.2.2.2.2.2.2.2.2.2.2.2.2.2.2.2.2.2.2.2.2.2.2.2.2.2.2.2.2.2.2.2.2.2.2.2.2.2.2.2.1 u.2.2.2.2.2.2.2.2.2.2.2.2.2.2.2.2.2.2.2.2.2.2.2.2.2.2.2.2.2.2.2.2.2.2.2.2.2.2.2.2.2.2.2.2.2.2.1 u.2.2.2.2.2.2.2.2.2.2.2.2.2.2.2.2.2.2.2.2.2.2.2.2.2.2.2.2.2.2.2.2.2.2.2.2.2.2.2.2.2.2.2.2.2.2.2.1 u.2.2.2.2.2.2.2.2.2.2.2.2.2.2.2.2.2.2.2.2.2.2.2.2.2.2.2.2.2.2.2.2.2.2.2.2.2.2.2.2.2.2.2.2.2.2.2.2.1 u.2.2.2.2.2.2.2.2.2.2.2.2.2.2.2.2.2.2.2.2.2.2.2.2.2.2.2.2.2.2.2.2.2.2.2.2.2.2.2.2.2.2.2.2.2.2.2.2.2.1 u.2.2.2.2.2.2.2.2.2.2.2.2.2.2.2.2.2.2.2.2.2.2.2.2.2.2.2.2.2.2.2.2.2.2.2.2.2.2.2.2.2.2.2.2.2.2.2.2.2.2.1 u.2.2.2.2.2.2.2.2.2.2.2.2.2.2.2.2.2.2.2.2.2.2.2.2.2.2.2.2.2.2.2.2.2.2.2.2.2.2.2.2.2.2.2.2.2.2.2.2.2.2.2.1 u.2.2.2.2.2.2.2.2.2.2.2.2.2.2.2.2.2.2.2.2.2.2.2.2.2.2.2.2.2.2.2.2.2.2.2.2.2.2.2.2.2.2.2.2.2.2.2.2.2.2.2.2.1 u.2.2.2.2.2.2.2.2.2.2.2.2.2.2.2.2.2.2.2.2.2.2.2.2.2.2.2.2.2.2.2.2.2.2.2.2.2.2.2.2.2.2.2.2.2.2.2.2.2.2.2.2.2.1 u.2.2.2.2.2.2.2.2.2.2.2.2.2.2.2.2.2.2.2.2.2.2.2.2.2.2.2.2.2.2.2.2.2.2.2.2.2.2.2.2.2.2.2.2.2.2.2.2.2.2.2.2.2.2.1 u.2.2.2.2.2.2.2.2.2.2.2.2.2.2.2.2.2.2.2.2.2.2.2.2.2.2.2.2.2.2.2.2.2.2.2.2.2.2.2.2.2.2.2.2.2.2.2.2.2.2.2.2.2.2.2.1 u.2.2.2.2.2.2.2.2.2.2.2.2.2.2.2.2.2.2.2.2.2.2.2.2.2.2.2.2.2.2.2.2.2.2.2.2.2.2.2.2.2.2.2.2.2.2.2.2.2.2.2.2.2.2.2.2 v.1 v.2.1 v.2.2.1 v.2.2.2.1 v.2.2.2.2.1 v.2.2.2.2.2.1 v.2.2.2.2.2.2.1 v.2.2.2.2.2.2.2.1 v.2.2.2.2.2.2.2.2.1 v.2.2.2.2.2.2.2.2.2.1 v.2.2.2.2.2.2.2.2.2.2.1 v.2.2.2.2.2.2.2.2.2.2.2.1 v.2.2.2.2.2.2.2.2.2.2.2.2.1 v.2.2.2.2.2.2.2.2.2.2.2.2.2.1 v.2.2.2.2.2.2.2.2.2.2.2.2.2.2.1 v.2.2.2.2.2.2.2.2.2.2.2.2.2.2.2.1 v.2.2.2.2.2.2.2.2.2.2.2.2.2.2.2.2.1 v.2.2.2.2.2.2.2.2.2.2.2.2.2.2.2.2.2.1 v.2.2.2.2.2.2.2.2.2.2.2.2.2.2.2.2.2.2.1 v.2.2.2.2.2.2.2.2.2.2.2.2.2.2.2.2.2.2.2.1 v.2.2.2.2.2.2.2.2.2.2.2.2.2.2.2.2.2.2.2.2.1 v.2.2.2.2.2.2.2.2.2.2.2.2.2.2.2.2.2.2.2.2.2 I
end
section
/-! the small methods -/
section
variable {f_nodes f_time f_latest f_entries f_logged f_complete f_taken f_sinceEntry f_sinceCount f_parts f_wrongPart f_watches : Int32} {a_path a_data a_version a_childVersion a_created a_setAt a_owner a_firstChild a_sibling a_bucket a_open a_timeout a_deadline a_eKind a_ePath a_eData a_eOwner a_eVersion a_eNumber a_iPath a_iData a_iVersion a_iChildVersion a_iCreated a_iSet a_iOwner a_iTimeout a_iLatest a_pKind a_pPath a_pA a_pB a_uEntry a_uSlot a_uData a_uVersion a_uSet a_uChildVersion a_uCreated a_uOwner a_wSession a_wKind a_wPath a_queue a_queued : Nat → Int32}
theorem zx_isOpen {post : Int32 → Prop} {p : Int32} (h0 : (∀ s, s < 4 → p = nI s → a_open s = 0) → post 0) (h1 : ∀ s, s < 4 → p = nI s → ¬ a_open s = 0 → post 1) : wpX_isOpen post (f_nodes, f_time, f_latest, f_entries, f_logged, f_complete, f_taken, f_sinceEntry, f_sinceCount, f_parts, f_wrongPart, f_watches, a_path, a_data, a_version, a_childVersion, a_created, a_setAt, a_owner, a_firstChild, a_sibling, a_bucket, a_open, a_timeout, a_deadline, a_eKind, a_ePath, a_eData, a_eOwner, a_eVersion, a_eNumber, a_iPath, a_iData, a_iVersion, a_iChildVersion, a_iCreated, a_iSet, a_iOwner, a_iTimeout, a_iLatest, a_pKind, a_pPath, a_pA, a_pB, a_uEntry, a_uSlot, a_uData, a_uVersion, a_uSet, a_uChildVersion, a_uCreated, a_uOwner, a_wSession, a_wKind, a_wPath, a_queue, a_queued) p := by
  unfold wpX_isOpen
  refine zx_outside (fun ha hb => br_t rfl ?_) (fun hn => br_f (by decide) (h0 fun s hs e => absurd ?_ hn))
  · rw [zb_ge0] at ha
    rw [zb_le, show (3 : Int32).toInt = 3 from by decide] at hb
    obtain ⟨s, hs, rfl, es⟩ := zb_nI ha
    have hs4 : s < 4 := by omega
    have hc := nI_clamp (n := s) (by omega)
    refine zz_in rfl hs4 (by decide) ?_
    by_cases c : a_open s = 0
    · refine br_t (by rw [hc]; exact c) (h0 fun s' hs' e => ?_)
      have : s = s' := (nI_eq (by omega) (by omega)).mp e
      rw [← this]; exact c
    · exact br_f (by rw [hc]; exact c) (h1 s hs4 rfl c)
  · rw [e]
    exact ⟨nI_pos' (by omega), nI_le (b := 3) (by omega) (by decide)⟩
end
section
variable {g_time g_last g_watchCount g_partCount g_wrong g_changes g_log g_since g_placesLeft : Int32} {b_paths b_values b_open b_timeouts b_deadlines b_events b_eventCounts b_watchers b_watchKinds b_watchPaths b_parts b_happened b_how : Nat → Int32}
theorem zy_isOpen {post : Int32 → Prop} {p : Int32} (h0 : (∀ s, s < 4 → p = nI s → b_open s = 0) → post 0) (h1 : ∀ s, s < 4 → p = nI s → ¬ b_open s = 0 → post 1) : wpY_isOpen post (g_time, g_last, g_watchCount, g_partCount, g_wrong, g_changes, g_log, g_since, g_placesLeft, b_paths, b_values, b_open, b_timeouts, b_deadlines, b_events, b_eventCounts, b_watchers, b_watchKinds, b_watchPaths, b_parts, b_happened, b_how) p := by
  by_cases ha : p < 0
  · refine br_t ha (h0 fun s hs e => ?_)
    rw [e] at ha
    exact absurd ha (nI_pos (by omega))
  · refine br_f ha ?_
    obtain ⟨s, hs, rfl⟩ := nI_of ha
    refine pk_le 4 s (fun c => h0 fun s' hs' e => ?_) (fun c => ?_)
    · have : s = s' := (nI_eq (by omega) (by omega)).mp e
      omega
    · have hc := nI_clamp (n := s) (by omega)
      refine zz_in rfl c (by decide) ?_
      by_cases c2 : b_open s = 0
      · refine br_t (by rw [hc]; exact c2) (h0 fun s' hs' e => ?_)
        have : s = s' := (nI_eq (by omega) (by omega)).mp e
        rw [← this]; exact c2
      · exact br_f (by rw [hc]; exact c2) (h1 s c rfl c2)
end
section
variable {f_nodes f_time f_latest f_entries f_logged f_complete f_taken f_sinceEntry f_sinceCount f_parts f_wrongPart f_watches : Int32} {a_path a_data a_version a_childVersion a_created a_setAt a_owner a_firstChild a_sibling a_bucket a_open a_timeout a_deadline a_eKind a_ePath a_eData a_eOwner a_eVersion a_eNumber a_iPath a_iData a_iVersion a_iChildVersion a_iCreated a_iSet a_iOwner a_iTimeout a_iLatest a_pKind a_pPath a_pA a_pB a_uEntry a_uSlot a_uData a_uVersion a_uSet a_uChildVersion a_uCreated a_uOwner a_wSession a_wKind a_wPath a_queue a_queued : Nat → Int32}
variable {g_time g_last g_watchCount g_partCount g_wrong g_changes g_log g_since g_placesLeft : Int32} {b_paths b_values b_open b_timeouts b_deadlines b_events b_eventCounts b_watchers b_watchKinds b_watchPaths b_parts b_happened b_how : Nat → Int32}
theorem zi_mk {k : Nat} {C : zn_Mp} {S : zw_S} {N lg pc cb : Nat} {sn : Option (Nat × Nat)} (M : zi_M (20 * k) N C f_nodes a_path a_data a_version a_childVersion a_created a_setAt a_owner a_firstChild a_sibling a_bucket a_eKind a_ePath a_eData a_eOwner a_eVersion a_eNumber a_iPath a_iData a_iVersion a_iChildVersion a_iCreated a_iSet a_iOwner a_iTimeout cb sn a_open a_timeout) (T : zy_T b_paths b_values C) (Q : zi_Q N lg pc cb sn S f_nodes f_time f_latest f_entries f_logged f_complete f_taken f_sinceEntry f_sinceCount f_parts f_wrongPart f_watches a_path a_data a_version a_childVersion a_created a_setAt a_owner a_firstChild a_sibling a_bucket a_open a_timeout a_deadline a_eKind a_ePath a_eData a_eOwner a_eVersion a_eNumber a_iPath a_iData a_iVersion a_iChildVersion a_iCreated a_iSet a_iOwner a_iTimeout a_iLatest a_pKind a_pPath a_pA a_pB a_uEntry a_uSlot a_uData a_uVersion a_uSet a_uChildVersion a_uCreated a_uOwner a_wSession a_wKind a_wPath a_queue a_queued g_time g_last g_watchCount g_partCount g_wrong g_changes g_log g_since g_placesLeft b_paths b_values b_open b_timeouts b_deadlines b_events b_eventCounts b_watchers b_watchKinds b_watchPaths b_parts b_happened b_how) : i_Rel k (f_nodes, f_time, f_latest, f_entries, f_logged, f_complete, f_taken, f_sinceEntry, f_sinceCount, f_parts, f_wrongPart, f_watches, a_path, a_data, a_version, a_childVersion, a_created, a_setAt, a_owner, a_firstChild, a_sibling, a_bucket, a_open, a_timeout, a_deadline, a_eKind, a_ePath, a_eData, a_eOwner, a_eVersion, a_eNumber, a_iPath, a_iData, a_iVersion, a_iChildVersion, a_iCreated, a_iSet, a_iOwner, a_iTimeout, a_iLatest, a_pKind, a_pPath, a_pA, a_pB, a_uEntry, a_uSlot, a_uData, a_uVersion, a_uSet, a_uChildVersion, a_uCreated, a_uOwner, a_wSession, a_wKind, a_wPath, a_queue, a_queued) (g_time, g_last, g_watchCount, g_partCount, g_wrong, g_changes, g_log, g_since, g_placesLeft, b_paths, b_values, b_open, b_timeouts, b_deadlines, b_events, b_eventCounts, b_watchers, b_watchKinds, b_watchPaths, b_parts, b_happened, b_how) :=
  ⟨C, S, N, lg, pc, cb, sn, M, T, Q⟩
theorem zi_M_up {k N : Nat} {C : zn_Mp} {cb : Nat} {sn : Option (Nat × Nat)} (M : zi_M (20 * k) N C f_nodes a_path a_data a_version a_childVersion a_created a_setAt a_owner a_firstChild a_sibling a_bucket a_eKind a_ePath a_eData a_eOwner a_eVersion a_eNumber a_iPath a_iData a_iVersion a_iChildVersion a_iCreated a_iSet a_iOwner a_iTimeout cb sn a_open a_timeout) : zi_M (20 * (k + 5)) N C f_nodes a_path a_data a_version a_childVersion a_created a_setAt a_owner a_firstChild a_sibling a_bucket a_eKind a_ePath a_eData a_eOwner a_eVersion a_eNumber a_iPath a_iData a_iVersion a_iChildVersion a_iCreated a_iSet a_iOwner a_iTimeout cb sn a_open a_timeout :=
  ⟨M.1, zi_C_le M.2.1 (by omega), M.2.2⟩
end
theorem i_vc_wrongPart {k : Nat} {u : SX} {v : SY} (I : i_Rel k u v) (hk : k + 5 ≤ 2560) : wpX_wrongPart (fun r => wpY_wrongPart (fun r' => r' = r ∧ i_Rel (k + 5) u v) v) u := by
  refine zi_el (P := fun u v => wpX_wrongPart (fun r => wpY_wrongPart (fun r' => r' = r ∧ i_Rel (k + 5) u v) v) u) ?_ I
  intro f_nodes f_time f_latest f_entries f_logged f_complete f_taken f_sinceEntry f_sinceCount f_parts f_wrongPart f_watches a_path a_data a_version a_childVersion a_created a_setAt a_owner a_firstChild a_sibling a_bucket a_open a_timeout a_deadline a_eKind a_ePath a_eData a_eOwner a_eVersion a_eNumber a_iPath a_iData a_iVersion a_iChildVersion a_iCreated a_iSet a_iOwner a_iTimeout a_iLatest a_pKind a_pPath a_pA a_pB a_uEntry a_uSlot a_uData a_uVersion a_uSet a_uChildVersion a_uCreated a_uOwner a_wSession a_wKind a_wPath a_queue a_queued g_time g_last g_watchCount g_partCount g_wrong g_changes g_log g_since g_placesLeft b_paths b_values b_open b_timeouts b_deadlines b_events b_eventCounts b_watchers b_watchKinds b_watchPaths b_parts b_happened b_how R
  have R5 : i_Rel (k + 5) (f_nodes, f_time, f_latest, f_entries, f_logged, f_complete, f_taken, f_sinceEntry, f_sinceCount, f_parts, f_wrongPart, f_watches, a_path, a_data, a_version, a_childVersion, a_created, a_setAt, a_owner, a_firstChild, a_sibling, a_bucket, a_open, a_timeout, a_deadline, a_eKind, a_ePath, a_eData, a_eOwner, a_eVersion, a_eNumber, a_iPath, a_iData, a_iVersion, a_iChildVersion, a_iCreated, a_iSet, a_iOwner, a_iTimeout, a_iLatest, a_pKind, a_pPath, a_pA, a_pB, a_uEntry, a_uSlot, a_uData, a_uVersion, a_uSet, a_uChildVersion, a_uCreated, a_uOwner, a_wSession, a_wKind, a_wPath, a_queue, a_queued) (g_time, g_last, g_watchCount, g_partCount, g_wrong, g_changes, g_log, g_since, g_placesLeft, b_paths, b_values, b_open, b_timeouts, b_deadlines, b_events, b_eventCounts, b_watchers, b_watchKinds, b_watchPaths, b_parts, b_happened, b_how) := i_up (k := k) R
  obtain ⟨C, S, N, lg, pc, cb, sn, M, T, ⟨_, _, _, _, _, _, _, _, q9, _⟩, _⟩ := R
  exact And.intro q9 R5
theorem i_vc_watches {k : Nat} {u : SX} {v : SY} (I : i_Rel k u v) (hk : k + 5 ≤ 2560) : wpX_watches (fun r => wpY_watches (fun r' => r' = r ∧ i_Rel (k + 5) u v) v) u := by
  refine zi_el (P := fun u v => wpX_watches (fun r => wpY_watches (fun r' => r' = r ∧ i_Rel (k + 5) u v) v) u) ?_ I
  intro f_nodes f_time f_latest f_entries f_logged f_complete f_taken f_sinceEntry f_sinceCount f_parts f_wrongPart f_watches a_path a_data a_version a_childVersion a_created a_setAt a_owner a_firstChild a_sibling a_bucket a_open a_timeout a_deadline a_eKind a_ePath a_eData a_eOwner a_eVersion a_eNumber a_iPath a_iData a_iVersion a_iChildVersion a_iCreated a_iSet a_iOwner a_iTimeout a_iLatest a_pKind a_pPath a_pA a_pB a_uEntry a_uSlot a_uData a_uVersion a_uSet a_uChildVersion a_uCreated a_uOwner a_wSession a_wKind a_wPath a_queue a_queued g_time g_last g_watchCount g_partCount g_wrong g_changes g_log g_since g_placesLeft b_paths b_values b_open b_timeouts b_deadlines b_events b_eventCounts b_watchers b_watchKinds b_watchPaths b_parts b_happened b_how R
  have R5 : i_Rel (k + 5) (f_nodes, f_time, f_latest, f_entries, f_logged, f_complete, f_taken, f_sinceEntry, f_sinceCount, f_parts, f_wrongPart, f_watches, a_path, a_data, a_version, a_childVersion, a_created, a_setAt, a_owner, a_firstChild, a_sibling, a_bucket, a_open, a_timeout, a_deadline, a_eKind, a_ePath, a_eData, a_eOwner, a_eVersion, a_eNumber, a_iPath, a_iData, a_iVersion, a_iChildVersion, a_iCreated, a_iSet, a_iOwner, a_iTimeout, a_iLatest, a_pKind, a_pPath, a_pA, a_pB, a_uEntry, a_uSlot, a_uData, a_uVersion, a_uSet, a_uChildVersion, a_uCreated, a_uOwner, a_wSession, a_wKind, a_wPath, a_queue, a_queued) (g_time, g_last, g_watchCount, g_partCount, g_wrong, g_changes, g_log, g_since, g_placesLeft, b_paths, b_values, b_open, b_timeouts, b_deadlines, b_events, b_eventCounts, b_watchers, b_watchKinds, b_watchPaths, b_parts, b_happened, b_how) := i_up (k := k) R
  obtain ⟨C, S, N, lg, pc, cb, sn, M, T, _, _, _, _, ⟨⟨w1, _⟩, _⟩, ⟨⟨w2, _⟩, _⟩, _⟩ := R
  exact And.intro (w2.trans w1.symm) R5
theorem i_vc_latest {k : Nat} {u : SX} {v : SY} (I : i_Rel k u v) (hk : k + 5 ≤ 2560) : wpX_latest (fun r => wpY_latest (fun r' => r' = r ∧ i_Rel (k + 5) u v) v) u := by
  refine zi_el (P := fun u v => wpX_latest (fun r => wpY_latest (fun r' => r' = r ∧ i_Rel (k + 5) u v) v) u) ?_ I
  intro f_nodes f_time f_latest f_entries f_logged f_complete f_taken f_sinceEntry f_sinceCount f_parts f_wrongPart f_watches a_path a_data a_version a_childVersion a_created a_setAt a_owner a_firstChild a_sibling a_bucket a_open a_timeout a_deadline a_eKind a_ePath a_eData a_eOwner a_eVersion a_eNumber a_iPath a_iData a_iVersion a_iChildVersion a_iCreated a_iSet a_iOwner a_iTimeout a_iLatest a_pKind a_pPath a_pA a_pB a_uEntry a_uSlot a_uData a_uVersion a_uSet a_uChildVersion a_uCreated a_uOwner a_wSession a_wKind a_wPath a_queue a_queued g_time g_last g_watchCount g_partCount g_wrong g_changes g_log g_since g_placesLeft b_paths b_values b_open b_timeouts b_deadlines b_events b_eventCounts b_watchers b_watchKinds b_watchPaths b_parts b_happened b_how R
  have R5 : i_Rel (k + 5) (f_nodes, f_time, f_latest, f_entries, f_logged, f_complete, f_taken, f_sinceEntry, f_sinceCount, f_parts, f_wrongPart, f_watches, a_path, a_data, a_version, a_childVersion, a_created, a_setAt, a_owner, a_firstChild, a_sibling, a_bucket, a_open, a_timeout, a_deadline, a_eKind, a_ePath, a_eData, a_eOwner, a_eVersion, a_eNumber, a_iPath, a_iData, a_iVersion, a_iChildVersion, a_iCreated, a_iSet, a_iOwner, a_iTimeout, a_iLatest, a_pKind, a_pPath, a_pA, a_pB, a_uEntry, a_uSlot, a_uData, a_uVersion, a_uSet, a_uChildVersion, a_uCreated, a_uOwner, a_wSession, a_wKind, a_wPath, a_queue, a_queued) (g_time, g_last, g_watchCount, g_partCount, g_wrong, g_changes, g_log, g_since, g_placesLeft, b_paths, b_values, b_open, b_timeouts, b_deadlines, b_events, b_eventCounts, b_watchers, b_watchKinds, b_watchPaths, b_parts, b_happened, b_how) := i_up (k := k) R
  obtain ⟨C, S, N, lg, pc, cb, sn, M, T, ⟨_, _, _, q4, _⟩, _⟩ := R
  exact And.intro q4 R5
theorem i_vc_logged {k : Nat} {u : SX} {v : SY} (I : i_Rel k u v) (hk : k + 5 ≤ 2560) : wpX_logged (fun r => wpY_logged (fun r' => r' = r ∧ i_Rel (k + 5) u v) v) u := by
  refine zi_el (P := fun u v => wpX_logged (fun r => wpY_logged (fun r' => r' = r ∧ i_Rel (k + 5) u v) v) u) ?_ I
  intro f_nodes f_time f_latest f_entries f_logged f_complete f_taken f_sinceEntry f_sinceCount f_parts f_wrongPart f_watches a_path a_data a_version a_childVersion a_created a_setAt a_owner a_firstChild a_sibling a_bucket a_open a_timeout a_deadline a_eKind a_ePath a_eData a_eOwner a_eVersion a_eNumber a_iPath a_iData a_iVersion a_iChildVersion a_iCreated a_iSet a_iOwner a_iTimeout a_iLatest a_pKind a_pPath a_pA a_pB a_uEntry a_uSlot a_uData a_uVersion a_uSet a_uChildVersion a_uCreated a_uOwner a_wSession a_wKind a_wPath a_queue a_queued g_time g_last g_watchCount g_partCount g_wrong g_changes g_log g_since g_placesLeft b_paths b_values b_open b_timeouts b_deadlines b_events b_eventCounts b_watchers b_watchKinds b_watchPaths b_parts b_happened b_how R
  have R5 : i_Rel (k + 5) (f_nodes, f_time, f_latest, f_entries, f_logged, f_complete, f_taken, f_sinceEntry, f_sinceCount, f_parts, f_wrongPart, f_watches, a_path, a_data, a_version, a_childVersion, a_created, a_setAt, a_owner, a_firstChild, a_sibling, a_bucket, a_open, a_timeout, a_deadline, a_eKind, a_ePath, a_eData, a_eOwner, a_eVersion, a_eNumber, a_iPath, a_iData, a_iVersion, a_iChildVersion, a_iCreated, a_iSet, a_iOwner, a_iTimeout, a_iLatest, a_pKind, a_pPath, a_pA, a_pB, a_uEntry, a_uSlot, a_uData, a_uVersion, a_uSet, a_uChildVersion, a_uCreated, a_uOwner, a_wSession, a_wKind, a_wPath, a_queue, a_queued) (g_time, g_last, g_watchCount, g_partCount, g_wrong, g_changes, g_log, g_since, g_placesLeft, b_paths, b_values, b_open, b_timeouts, b_deadlines, b_events, b_eventCounts, b_watchers, b_watchKinds, b_watchPaths, b_parts, b_happened, b_how) := i_up (k := k) R
  obtain ⟨C, S, N, lg, pc, cb, sn, M, T, ⟨_, q2, q3, _⟩, _⟩ := R
  exact And.intro (q3.trans q2.symm) R5
section
variable {f_nodes f_time f_latest f_entries f_logged f_complete f_taken f_sinceEntry f_sinceCount f_parts f_wrongPart f_watches : Int32} {a_path a_data a_version a_childVersion a_created a_setAt a_owner a_firstChild a_sibling a_bucket a_open a_timeout a_deadline a_eKind a_ePath a_eData a_eOwner a_eVersion a_eNumber a_iPath a_iData a_iVersion a_iChildVersion a_iCreated a_iSet a_iOwner a_iTimeout a_iLatest a_pKind a_pPath a_pA a_pB a_uEntry a_uSlot a_uData a_uVersion a_uSet a_uChildVersion a_uCreated a_uOwner a_wSession a_wKind a_wPath a_queue a_queued : Nat → Int32}
theorem zx_left {post : Int32 → Prop} {p : Int32} (h0 : (∀ s, s < 4 → p = nI s → a_open s = 0) → post (-1)) (h1 : ∀ s, s < 4 → p = nI s → ¬ a_open s = 0 → post (a_deadline s - f_time)) : wpX_left post (f_nodes, f_time, f_latest, f_entries, f_logged, f_complete, f_taken, f_sinceEntry, f_sinceCount, f_parts, f_wrongPart, f_watches, a_path, a_data, a_version, a_childVersion, a_created, a_setAt, a_owner, a_firstChild, a_sibling, a_bucket, a_open, a_timeout, a_deadline, a_eKind, a_ePath, a_eData, a_eOwner, a_eVersion, a_eNumber, a_iPath, a_iData, a_iVersion, a_iChildVersion, a_iCreated, a_iSet, a_iOwner, a_iTimeout, a_iLatest, a_pKind, a_pPath, a_pA, a_pB, a_uEntry, a_uSlot, a_uData, a_uVersion, a_uSet, a_uChildVersion, a_uCreated, a_uOwner, a_wSession, a_wKind, a_wPath, a_queue, a_queued) p := by
  unfold wpX_left
  refine zx_isOpen (fun h => br_t rfl (h0 h)) (fun s hs e h => br_f (by decide) (zz_in e hs (by decide) ?_))
  rw [e, nI_clamp (by omega)]
  exact h1 s hs e h
theorem zx_touch {post : Int32 → SX → Prop} {p : Int32} (h0 : (∀ s, s < 4 → p = nI s → a_open s = 0) → post 0 (f_nodes, f_time, f_latest, f_entries, f_logged, f_complete, f_taken, f_sinceEntry, f_sinceCount, f_parts, f_wrongPart, f_watches, a_path, a_data, a_version, a_childVersion, a_created, a_setAt, a_owner, a_firstChild, a_sibling, a_bucket, a_open, a_timeout, a_deadline, a_eKind, a_ePath, a_eData, a_eOwner, a_eVersion, a_eNumber, a_iPath, a_iData, a_iVersion, a_iChildVersion, a_iCreated, a_iSet, a_iOwner, a_iTimeout, a_iLatest, a_pKind, a_pPath, a_pA, a_pB, a_uEntry, a_uSlot, a_uData, a_uVersion, a_uSet, a_uChildVersion, a_uCreated, a_uOwner, a_wSession, a_wKind, a_wPath, a_queue, a_queued)) (h1 : ∀ s, s < 4 → p = nI s → ¬ a_open s = 0 → post 1 (f_nodes, f_time, f_latest, f_entries, f_logged, f_complete, f_taken, f_sinceEntry, f_sinceCount, f_parts, f_wrongPart, f_watches, a_path, a_data, a_version, a_childVersion, a_created, a_setAt, a_owner, a_firstChild, a_sibling, a_bucket, a_open, a_timeout, upd a_deadline s (f_time + a_timeout s), a_eKind, a_ePath, a_eData, a_eOwner, a_eVersion, a_eNumber, a_iPath, a_iData, a_iVersion, a_iChildVersion, a_iCreated, a_iSet, a_iOwner, a_iTimeout, a_iLatest, a_pKind, a_pPath, a_pA, a_pB, a_uEntry, a_uSlot, a_uData, a_uVersion, a_uSet, a_uChildVersion, a_uCreated, a_uOwner, a_wSession, a_wKind, a_wPath, a_queue, a_queued)) : wpX_touch post (f_nodes, f_time, f_latest, f_entries, f_logged, f_complete, f_taken, f_sinceEntry, f_sinceCount, f_parts, f_wrongPart, f_watches, a_path, a_data, a_version, a_childVersion, a_created, a_setAt, a_owner, a_firstChild, a_sibling, a_bucket, a_open, a_timeout, a_deadline, a_eKind, a_ePath, a_eData, a_eOwner, a_eVersion, a_eNumber, a_iPath, a_iData, a_iVersion, a_iChildVersion, a_iCreated, a_iSet, a_iOwner, a_iTimeout, a_iLatest, a_pKind, a_pPath, a_pA, a_pB, a_uEntry, a_uSlot, a_uData, a_uVersion, a_uSet, a_uChildVersion, a_uCreated, a_uOwner, a_wSession, a_wKind, a_wPath, a_queue, a_queued) p := by
  unfold wpX_touch
  refine zx_isOpen (fun h => br_t rfl (h0 h)) (fun s hs e h => br_f (by decide) (zz_in e hs (by decide) (zz_st e hs (by decide) (v' := f_time + a_timeout s) ?_ (h1 s hs e h))))
  rw [e, nI_clamp (by omega)]
end
section
variable {g_time g_last g_watchCount g_partCount g_wrong g_changes g_log g_since g_placesLeft : Int32} {b_paths b_values b_open b_timeouts b_deadlines b_events b_eventCounts b_watchers b_watchKinds b_watchPaths b_parts b_happened b_how : Nat → Int32}
theorem zy_left {post : Int32 → Prop} {p : Int32} (h0 : (∀ s, s < 4 → p = nI s → b_open s = 0) → post (-1)) (h1 : ∀ s, s < 4 → p = nI s → ¬ b_open s = 0 → post (b_deadlines s - g_time)) : wpY_left post (g_time, g_last, g_watchCount, g_partCount, g_wrong, g_changes, g_log, g_since, g_placesLeft, b_paths, b_values, b_open, b_timeouts, b_deadlines, b_events, b_eventCounts, b_watchers, b_watchKinds, b_watchPaths, b_parts, b_happened, b_how) p := by
  unfold wpY_left
  refine zy_isOpen (fun h => br_t rfl (h0 h)) (fun s hs e h => br_f (by decide) (zz_in e hs (by decide) ?_))
  rw [e, nI_clamp (by omega)]
  exact h1 s hs e h
theorem zy_touch {post : Int32 → SY → Prop} {p : Int32} (h0 : (∀ s, s < 4 → p = nI s → b_open s = 0) → post 0 (g_time, g_last, g_watchCount, g_partCount, g_wrong, g_changes, g_log, g_since, g_placesLeft, b_paths, b_values, b_open, b_timeouts, b_deadlines, b_events, b_eventCounts, b_watchers, b_watchKinds, b_watchPaths, b_parts, b_happened, b_how)) (h1 : ∀ s, s < 4 → p = nI s → ¬ b_open s = 0 → post 1 (g_time, g_last, g_watchCount, g_partCount, g_wrong, g_changes, g_log, g_since, g_placesLeft, b_paths, b_values, b_open, b_timeouts, upd b_deadlines s (g_time + b_timeouts s), b_events, b_eventCounts, b_watchers, b_watchKinds, b_watchPaths, b_parts, b_happened, b_how)) : wpY_touch post (g_time, g_last, g_watchCount, g_partCount, g_wrong, g_changes, g_log, g_since, g_placesLeft, b_paths, b_values, b_open, b_timeouts, b_deadlines, b_events, b_eventCounts, b_watchers, b_watchKinds, b_watchPaths, b_parts, b_happened, b_how) p := by
  unfold wpY_touch
  refine zy_isOpen (fun h => br_t rfl (And.intro rfl (h0 h))) (fun s hs e h => br_f (by decide) (zz_in e hs (by decide) (zz_st e hs (by decide) (v' := g_time + b_timeouts s) ?_ (And.intro rfl (h1 s hs e h)))))
  rw [e, nI_clamp (by omega)]
end
theorem i_vc_left {k : Nat} {u : SX} {v : SY} (I : i_Rel k u v) (hk : k + 5 ≤ 2560) (v1 : Int32) : wpX_left (fun r => wpY_left (fun r' => r' = r ∧ i_Rel (k + 5) u v) v v1) u v1 := by
  refine zi_el (P := fun u v => wpX_left (fun r => wpY_left (fun r' => r' = r ∧ i_Rel (k + 5) u v) v v1) u v1) ?_ I
  intro f_nodes f_time f_latest f_entries f_logged f_complete f_taken f_sinceEntry f_sinceCount f_parts f_wrongPart f_watches a_path a_data a_version a_childVersion a_created a_setAt a_owner a_firstChild a_sibling a_bucket a_open a_timeout a_deadline a_eKind a_ePath a_eData a_eOwner a_eVersion a_eNumber a_iPath a_iData a_iVersion a_iChildVersion a_iCreated a_iSet a_iOwner a_iTimeout a_iLatest a_pKind a_pPath a_pA a_pB a_uEntry a_uSlot a_uData a_uVersion a_uSet a_uChildVersion a_uCreated a_uOwner a_wSession a_wKind a_wPath a_queue a_queued g_time g_last g_watchCount g_partCount g_wrong g_changes g_log g_since g_placesLeft b_paths b_values b_open b_timeouts b_deadlines b_events b_eventCounts b_watchers b_watchKinds b_watchPaths b_parts b_happened b_how R
  have R5 : i_Rel (k + 5) (f_nodes, f_time, f_latest, f_entries, f_logged, f_complete, f_taken, f_sinceEntry, f_sinceCount, f_parts, f_wrongPart, f_watches, a_path, a_data, a_version, a_childVersion, a_created, a_setAt, a_owner, a_firstChild, a_sibling, a_bucket, a_open, a_timeout, a_deadline, a_eKind, a_ePath, a_eData, a_eOwner, a_eVersion, a_eNumber, a_iPath, a_iData, a_iVersion, a_iChildVersion, a_iCreated, a_iSet, a_iOwner, a_iTimeout, a_iLatest, a_pKind, a_pPath, a_pA, a_pB, a_uEntry, a_uSlot, a_uData, a_uVersion, a_uSet, a_uChildVersion, a_uCreated, a_uOwner, a_wSession, a_wKind, a_wPath, a_queue, a_queued) (g_time, g_last, g_watchCount, g_partCount, g_wrong, g_changes, g_log, g_since, g_placesLeft, b_paths, b_values, b_open, b_timeouts, b_deadlines, b_events, b_eventCounts, b_watchers, b_watchKinds, b_watchPaths, b_parts, b_happened, b_how) := i_up (k := k) R
  obtain ⟨C, S, N, lg, pc, cb, sn, M, T, ⟨_, _, _, _, q5, rfl, _⟩, _, ses, _⟩ := R
  refine zx_left (fun h0 => ?_) (fun s hs e h1 => ?_)
  · exact zy_left (fun _ => And.intro rfl R5) (fun s hs e h1 => absurd (h0 s hs e) h1)
  · subst e
    refine zy_left (fun h0 => absurd (h0 s hs rfl) h1) (fun s' hs' e' _ => And.intro ?_ R5)
    have : s = s' := (nI_eq (by omega) (by omega)).mp e'
    subst this
    obtain ⟨s1, s2⟩ := ses s hs
    rw [(s2 (s1.resolve_left h1)).2.1, q5]
theorem i_vc_touch {k : Nat} {u : SX} {v : SY} (I : i_Rel k u v) (hk : k + 5 ≤ 2560) (v1 : Int32) : wpX_touch (fun r u' => wpY_touch (fun r' v' => r' = r ∧ i_Rel (k + 5) u' v') v v1) u v1 := by
  refine zi_el (P := fun u v => wpX_touch (fun r u' => wpY_touch (fun r' v' => r' = r ∧ i_Rel (k + 5) u' v') v v1) u v1) ?_ I
  intro f_nodes f_time f_latest f_entries f_logged f_complete f_taken f_sinceEntry f_sinceCount f_parts f_wrongPart f_watches a_path a_data a_version a_childVersion a_created a_setAt a_owner a_firstChild a_sibling a_bucket a_open a_timeout a_deadline a_eKind a_ePath a_eData a_eOwner a_eVersion a_eNumber a_iPath a_iData a_iVersion a_iChildVersion a_iCreated a_iSet a_iOwner a_iTimeout a_iLatest a_pKind a_pPath a_pA a_pB a_uEntry a_uSlot a_uData a_uVersion a_uSet a_uChildVersion a_uCreated a_uOwner a_wSession a_wKind a_wPath a_queue a_queued g_time g_last g_watchCount g_partCount g_wrong g_changes g_log g_since g_placesLeft b_paths b_values b_open b_timeouts b_deadlines b_events b_eventCounts b_watchers b_watchKinds b_watchPaths b_parts b_happened b_how R
  have R5 : i_Rel (k + 5) (f_nodes, f_time, f_latest, f_entries, f_logged, f_complete, f_taken, f_sinceEntry, f_sinceCount, f_parts, f_wrongPart, f_watches, a_path, a_data, a_version, a_childVersion, a_created, a_setAt, a_owner, a_firstChild, a_sibling, a_bucket, a_open, a_timeout, a_deadline, a_eKind, a_ePath, a_eData, a_eOwner, a_eVersion, a_eNumber, a_iPath, a_iData, a_iVersion, a_iChildVersion, a_iCreated, a_iSet, a_iOwner, a_iTimeout, a_iLatest, a_pKind, a_pPath, a_pA, a_pB, a_uEntry, a_uSlot, a_uData, a_uVersion, a_uSet, a_uChildVersion, a_uCreated, a_uOwner, a_wSession, a_wKind, a_wPath, a_queue, a_queued) (g_time, g_last, g_watchCount, g_partCount, g_wrong, g_changes, g_log, g_since, g_placesLeft, b_paths, b_values, b_open, b_timeouts, b_deadlines, b_events, b_eventCounts, b_watchers, b_watchKinds, b_watchPaths, b_parts, b_happened, b_how) := i_up (k := k) R
  obtain ⟨C, S, N, lg, pc, cb, sn, M, T, ⟨q1, q2, q3, q4, q5, rfl, q7⟩, q8, ses, q9⟩ := R
  refine zx_touch (fun h0 => ?_) (fun s hs e h1 => ?_)
  · exact zy_touch (fun _ => And.intro rfl R5) (fun s hs e h1 => absurd (h0 s hs e) h1)
  · subst e
    refine zy_touch (fun h0 => absurd (h0 s hs rfl) h1) (fun s' hs' e' _ => And.intro rfl ?_)
    have : s = s' := (nI_eq (by omega) (by omega)).mp e'
    subst this
    refine zi_mk (zi_M_up M) T ⟨⟨q1, q2, q3, q4, q5, rfl, q7⟩, q8, fun j hj => ?_, q9⟩
    obtain ⟨s1, s2⟩ := ses j hj
    refine ⟨s1, fun z => ?_⟩
    obtain ⟨t1, t2, t3⟩ := s2 z
    by_cases w : j = s
    · rw [w, pk_us, pk_us, ← w, t1, q5]; exact ⟨rfl, rfl, t3⟩
    · rw [pk_un w, pk_un w]; exact ⟨t1, t2, t3⟩
end
section
/-- the sessions as bits -/
def zi_bits (op : Nat → Int32) : Nat → Nat
  | 0 => 0
  | s + 1 => if op s = 0 then zi_bits op s else zi_bits op s ||| 2 ^ s
theorem zi_bits_lt (op : Nat → Int32) : ∀ s, s ≤ 4 → zi_bits op s < 16
  | 0, _ => by unfold zi_bits; decide
  | s + 1, h => by
    have ih := zi_bits_lt op s (by omega)
    unfold zi_bits
    by_cases c : op s = 0
    · rw [if_pos c]; exact ih
    · rw [if_neg c]; exact (zw_bits _ ih s (by omega)).2.1
theorem zi_or : ∀ q, q < 21 → ∀ m, m < 16 → ∀ s, s < 4 → nI (16 * q + m) ||| ((1 : Int32) <<< (nI s &&& 31)) = nI (16 * q + (m ||| 2 ^ s)) := by decide +kernel
section
variable {f_nodes f_time f_latest f_entries f_logged f_complete f_taken f_sinceEntry f_sinceCount f_parts f_wrongPart f_watches : Int32} {a_path a_data a_version a_childVersion a_created a_setAt a_owner a_firstChild a_sibling a_bucket a_open a_timeout a_deadline a_eKind a_ePath a_eData a_eOwner a_eVersion a_eNumber a_iPath a_iData a_iVersion a_iChildVersion a_iCreated a_iSet a_iOwner a_iTimeout a_iLatest a_pKind a_pPath a_pA a_pB a_uEntry a_uSlot a_uData a_uVersion a_uSet a_uChildVersion a_uCreated a_uOwner a_wSession a_wKind a_wPath a_queue a_queued : Nat → Int32}
theorem zx_state_lp {post : Int32 → Prop} (h : post (nI (zi_bits a_open 4) + 16 * (f_nodes - 1))) : ∀ d s, s + d = 4 → wX_state_4 post f_nodes f_time f_latest f_entries f_logged f_complete f_taken f_sinceEntry f_sinceCount f_parts f_wrongPart f_watches a_path a_data a_version a_childVersion a_created a_setAt a_owner a_firstChild a_sibling a_bucket a_open a_timeout a_deadline a_eKind a_ePath a_eData a_eOwner a_eVersion a_eNumber a_iPath a_iData a_iVersion a_iChildVersion a_iCreated a_iSet a_iOwner a_iTimeout a_iLatest a_pKind a_pPath a_pA a_pB a_uEntry a_uSlot a_uData a_uVersion a_uSet a_uChildVersion a_uCreated a_uOwner a_wSession a_wKind a_wPath a_queue a_queued (d + 1) (nI (zi_bits a_open s)) (nI s) := by
  intro d
  induction d with
  | zero =>
    intro s hs
    have : s = 4 := by omega
    subst this
    exact br_t (by decide) h
  | succ d ih =>
    intro s hs
    have hc := nI_clamp (n := s) (by omega)
    have hl := zi_bits_lt a_open s (by omega)
    have ihs := ih (s + 1) (by omega)
    refine br_f (nI_ge (b := 4) (by omega) (by decide)) (zz_in rfl (by omega) (by decide) ?_)
    unfold zi_bits at ihs
    by_cases c : a_open s = 0
    · rw [if_pos c] at ihs
      exact br_t (by rw [hc]; exact c) (nm_r (nI_1 s) ihs)
    · rw [if_neg c] at ihs
      exact br_f (by rw [hc]; exact c) (nm_r (zw_bits _ hl s (by omega)).1 (nm_r (nI_1 s) ihs))
end
section
variable {g_time g_last g_watchCount g_partCount g_wrong g_changes g_log g_since g_placesLeft : Int32} {b_paths b_values b_open b_timeouts b_deadlines b_events b_eventCounts b_watchers b_watchKinds b_watchPaths b_parts b_happened b_how : Nat → Int32}
theorem zy_state_lp {post : Int32 → Prop} {q : Nat} (hq : q < 21) (h : post (nI (16 * q + zi_bits b_open 4))) : ∀ d s, s + d = 4 → wY_state_10 post g_time g_last g_watchCount g_partCount g_wrong g_changes g_log g_since g_placesLeft b_paths b_values b_open b_timeouts b_deadlines b_events b_eventCounts b_watchers b_watchKinds b_watchPaths b_parts b_happened b_how (d + 1) (nI (16 * q + zi_bits b_open s)) (nI s) := by
  intro d
  induction d with
  | zero =>
    intro s hs
    have : s = 4 := by omega
    subst this
    exact br_t (by decide) h
  | succ d ih =>
    intro s hs
    have hc := nI_clamp (n := s) (by omega)
    have hl := zi_bits_lt b_open s (by omega)
    have ihs := ih (s + 1) (by omega)
    refine br_f (nI_ge (b := 4) (by omega) (by decide)) (zz_in rfl (by omega) (by decide) ?_)
    unfold zi_bits at ihs
    by_cases c : b_open s = 0
    · rw [if_pos c] at ihs
      exact br_t (by rw [hc]; exact c) (nm_r (nI_1 s) ihs)
    · rw [if_neg c] at ihs
      exact br_f (by rw [hc]; exact c) (nm_r (zi_or q hq _ hl s (by omega)) (nm_r (nI_1 s) ihs))
end
theorem i_vc_state {k : Nat} {u : SX} {v : SY} (I : i_Rel k u v) (hk : k + 5 ≤ 2560) : wpX_state (fun r => wpY_state (fun r' => r' = r ∧ i_Rel (k + 5) u v) v) u := by
  refine zi_el (P := fun u v => wpX_state (fun r => wpY_state (fun r' => r' = r ∧ i_Rel (k + 5) u v) v) u) ?_ I
  intro f_nodes f_time f_latest f_entries f_logged f_complete f_taken f_sinceEntry f_sinceCount f_parts f_wrongPart f_watches a_path a_data a_version a_childVersion a_created a_setAt a_owner a_firstChild a_sibling a_bucket a_open a_timeout a_deadline a_eKind a_ePath a_eData a_eOwner a_eVersion a_eNumber a_iPath a_iData a_iVersion a_iChildVersion a_iCreated a_iSet a_iOwner a_iTimeout a_iLatest a_pKind a_pPath a_pA a_pB a_uEntry a_uSlot a_uData a_uVersion a_uSet a_uChildVersion a_uCreated a_uOwner a_wSession a_wKind a_wPath a_queue a_queued g_time g_last g_watchCount g_partCount g_wrong g_changes g_log g_since g_placesLeft b_paths b_values b_open b_timeouts b_deadlines b_events b_eventCounts b_watchers b_watchKinds b_watchPaths b_parts b_happened b_how R
  have R5 : i_Rel (k + 5) (f_nodes, f_time, f_latest, f_entries, f_logged, f_complete, f_taken, f_sinceEntry, f_sinceCount, f_parts, f_wrongPart, f_watches, a_path, a_data, a_version, a_childVersion, a_created, a_setAt, a_owner, a_firstChild, a_sibling, a_bucket, a_open, a_timeout, a_deadline, a_eKind, a_ePath, a_eData, a_eOwner, a_eVersion, a_eNumber, a_iPath, a_iData, a_iVersion, a_iChildVersion, a_iCreated, a_iSet, a_iOwner, a_iTimeout, a_iLatest, a_pKind, a_pPath, a_pA, a_pB, a_uEntry, a_uSlot, a_uData, a_uVersion, a_uSet, a_uChildVersion, a_uCreated, a_uOwner, a_wSession, a_wKind, a_wPath, a_queue, a_queued) (g_time, g_last, g_watchCount, g_partCount, g_wrong, g_changes, g_log, g_since, g_placesLeft, b_paths, b_values, b_open, b_timeouts, b_deadlines, b_events, b_eventCounts, b_watchers, b_watchKinds, b_watchPaths, b_parts, b_happened, b_how) := i_up (k := k) R
  obtain ⟨C, S, N, lg, pc, cb, sn, M, T, ⟨_, _, _, _, _, rfl, _⟩, _⟩ := R
  have hn := zx_n_le M.1
  have hnn : zr_n a_path 48 = zr_n b_paths 21 := zr_cnt M.1.1.2.1 T.1 (fun _ => true)
  have hpos : 0 < zr_n a_path 48 := zc_pos' (s := 0) (by omega) (zr_oc1.mpr (by rw [M.1.2.2.2]; decide))
  refine Exists.intro 5 (zx_state_lp ?_ 4 0 rfl)
  refine zy_many T.2 (nm_r (e' := nI (16 * (zr_n b_paths 21 - 1))) ?_ (Exists.intro 5 (zy_state_lp (q := zr_n b_paths 21 - 1) (by omega) (And.intro ?_ R5) 4 0 rfl)))
  · exact pk_mul 16 _
  · rw [M.1.1.2.2.1, hnn]
    obtain ⟨m, hm⟩ : ∃ m, zr_n b_paths 21 = m + 1 := ⟨zr_n b_paths 21 - 1, by omega⟩
    rw [hm, nI_pred, show (16 : Int32) = nI 16 from rfl, pk_mul, nI_add]
    exact congrArg nI (by omega)
end
section
/-- what node tells -/
def zn_val (x : zn_Nd) (c : Nat) : Nat → Int64
  | 0 => x.1.toInt64
  | 1 => x.2.1.toInt64
  | 2 => x.2.2.1.toInt64
  | 3 => x.2.2.2.1.toInt64
  | 4 => x.2.2.2.2.1.toInt64
  | 5 => x.2.2.2.2.2.toInt64
  | 6 => (nI c).toInt64
  | _ => -4000000000
section
variable {f_nodes f_time f_latest f_entries f_logged f_complete f_taken f_sinceEntry f_sinceCount f_parts f_wrongPart f_watches : Int32} {a_path a_data a_version a_childVersion a_created a_setAt a_owner a_firstChild a_sibling a_bucket a_open a_timeout a_deadline a_eKind a_ePath a_eData a_eOwner a_eVersion a_eNumber a_iPath a_iData a_iVersion a_iChildVersion a_iCreated a_iSet a_iOwner a_iTimeout a_iLatest a_pKind a_pPath a_pA a_pB a_uEntry a_uSlot a_uData a_uVersion a_uSet a_uChildVersion a_uCreated a_uOwner a_wSession a_wKind a_wPath a_queue a_queued : Nat → Int32}
theorem zx_node {post : Int64 → Prop} {C : zn_Mp} {b : Nat} {p w : Int32} (H : zx_T f_nodes a_path a_data a_version a_childVersion a_created a_setAt a_owner a_firstChild a_sibling a_bucket C) (hC : zi_C b C) (h0 : C p = none → post (-4000000000)) (h2 : ∀ x, C p = some x → (w < 0 ∨ 6 < w) → post (-4000000000))
    (h1 : ∀ j x, j < 7 → w = nI j → C p = some x → post (zn_val x (zk_cn a_path p 0) j)) : wpX_node post (f_nodes, f_time, f_latest, f_entries, f_logged, f_complete, f_taken, f_sinceEntry, f_sinceCount, f_parts, f_wrongPart, f_watches, a_path, a_data, a_version, a_childVersion, a_created, a_setAt, a_owner, a_firstChild, a_sibling, a_bucket, a_open, a_timeout, a_deadline, a_eKind, a_ePath, a_eData, a_eOwner, a_eVersion, a_eNumber, a_iPath, a_iData, a_iVersion, a_iChildVersion, a_iCreated, a_iSet, a_iOwner, a_iTimeout, a_iLatest, a_pKind, a_pPath, a_pA, a_pB, a_uEntry, a_uSlot, a_uData, a_uVersion, a_uSet, a_uChildVersion, a_uCreated, a_uOwner, a_wSession, a_wKind, a_wPath, a_queue, a_queued) p w := by
  unfold wpX_node
  refine zx_isPath (fun hp => br_f (by decide) ?_) (fun hp => br_t rfl (br_f (by decide) (h0 ?_)))
  · refine zx_find H.1 (fun e => br_f (by decide) (h0 e)) (fun s hs es s0 e => br_t (nI_pos' (by omega)) ?_)
    have hc := nI_clamp (n := s) (by omega)
    by_cases c0 : w < 0
    · exact br_t c0 (h2 _ e (Or.inl c0))
    refine br_f c0 ?_
    obtain ⟨j, hj, rfl⟩ := nI_of c0
    refine pk_lt 6 j (fun c => h2 _ e (Or.inr (nI_lt c hj))) (fun c => ?_)
    refine pk_eq j 0 (fun z => ?_) (fun z0 => ?_)
    · subst z; refine zz_in rfl hs (by decide) ?_; rw [hc]; exact h1 0 (zn_nd a_data a_version a_childVersion a_created a_setAt a_owner s) (by omega) rfl e
    refine pk_eq j 1 (fun z => ?_) (fun z1 => ?_)
    · subst z; refine zz_in rfl hs (by decide) ?_; rw [hc]; exact h1 1 (zn_nd a_data a_version a_childVersion a_created a_setAt a_owner s) (by omega) rfl e
    refine pk_eq j 2 (fun z => ?_) (fun z2 => ?_)
    · subst z; refine zz_in rfl hs (by decide) ?_; rw [hc]; exact h1 2 (zn_nd a_data a_version a_childVersion a_created a_setAt a_owner s) (by omega) rfl e
    refine pk_eq j 3 (fun z => ?_) (fun z3 => ?_)
    · subst z; refine zz_in rfl hs (by decide) ?_; rw [hc]; exact h1 3 (zn_nd a_data a_version a_childVersion a_created a_setAt a_owner s) (by omega) rfl e
    refine pk_eq j 4 (fun z => ?_) (fun z4 => ?_)
    · subst z; refine zz_in rfl hs (by decide) ?_; rw [hc]; exact h1 4 (zn_nd a_data a_version a_childVersion a_created a_setAt a_owner s) (by omega) rfl e
    refine pk_eq j 5 (fun z => ?_) (fun z5 => ?_)
    · subst z; refine zz_in rfl hs (by decide) ?_; rw [hc]; exact h1 5 (zn_nd a_data a_version a_childVersion a_created a_setAt a_owner s) (by omega) rfl e
    refine pk_eq j 6 (fun z => ?_) (fun z6 => by omega)
    subst z
    refine zx_children H.2.1 H.1.2.1.2.2 hs s0 ?_
    rw [es]
    exact h1 6 (zn_nd a_data a_version a_childVersion a_created a_setAt a_owner s) (by omega) rfl e
  · cases e : C p with
    | none => rfl
    | some x => exact absurd (hC.2 _ _ e).1 hp
end
section
variable {g_time g_last g_watchCount g_partCount g_wrong g_changes g_log g_since g_placesLeft : Int32} {b_paths b_values b_open b_timeouts b_deadlines b_events b_eventCounts b_watchers b_watchKinds b_watchPaths b_parts b_happened b_how : Nat → Int32}
theorem zy_node {post : Int64 → Prop} {C : zn_Mp} {p w : Int32} (H : zy_T b_paths b_values C) (h0 : C p = none → post (-4000000000)) (h2 : ∀ x, C p = some x → (w < 0 ∨ 6 < w) → post (-4000000000))
    (h1 : ∀ j x, j < 7 → w = nI j → C p = some x → post (zn_val x (zc_cnt (zr_oc b_paths (zk_P p 0)) 21) j)) : wpY_node post (g_time, g_last, g_watchCount, g_partCount, g_wrong, g_changes, g_log, g_since, g_placesLeft, b_paths, b_values, b_open, b_timeouts, b_deadlines, b_events, b_eventCounts, b_watchers, b_watchKinds, b_watchPaths, b_parts, b_happened, b_how) p w := by
  unfold wpY_node
  refine zy_find H.1 (fun e => br_t (by decide) (h0 e)) (fun r hr er r0 e => br_f (nI_pos (by omega)) ?_)
  by_cases c0 : w < 0
  · exact br_t c0 (h2 _ e (Or.inl c0))
  refine br_f c0 ?_
  obtain ⟨j, hj, rfl⟩ := nI_of c0
  refine pk_le j 6 (fun c => ?_) (fun c => h2 _ e (Or.inr (nI_lt c hj)))
  refine pk_eq j 6 (fun z => ?_) (fun z => ?_)
  · subst z
    exact zy_kids H.2 H.1.2.2 (h1 6 (zy_nd b_values r) (by omega) rfl e)
  · have hi : (6 * nI r) + nI j = nI (6 * r + j) := by rw [zy_i0, nI_add]
    refine zz_in hi (by omega) (by decide) ?_
    rw [hi, nI_clamp (by omega)]
    have : j = 0 ∨ j = 1 ∨ j = 2 ∨ j = 3 ∨ j = 4 ∨ j = 5 := by omega
    rcases this with rfl | rfl | rfl | rfl | rfl | rfl
    · exact h1 0 (zy_nd b_values r) (by omega) rfl e
    · exact h1 1 (zy_nd b_values r) (by omega) rfl e
    · exact h1 2 (zy_nd b_values r) (by omega) rfl e
    · exact h1 3 (zy_nd b_values r) (by omega) rfl e
    · exact h1 4 (zy_nd b_values r) (by omega) rfl e
    · exact h1 5 (zy_nd b_values r) (by omega) rfl e
end
theorem i_vc_node {k : Nat} {u : SX} {v : SY} (I : i_Rel k u v) (hk : k + 5 ≤ 2560) (v1 : Int32) (v2 : Int32) : wpX_node (fun r => wpY_node (fun r' => r' = r ∧ i_Rel (k + 5) u v) v v1 v2) u v1 v2 := by
  refine zi_el (P := fun u v => wpX_node (fun r => wpY_node (fun r' => r' = r ∧ i_Rel (k + 5) u v) v v1 v2) u v1 v2) ?_ I
  intro f_nodes f_time f_latest f_entries f_logged f_complete f_taken f_sinceEntry f_sinceCount f_parts f_wrongPart f_watches a_path a_data a_version a_childVersion a_created a_setAt a_owner a_firstChild a_sibling a_bucket a_open a_timeout a_deadline a_eKind a_ePath a_eData a_eOwner a_eVersion a_eNumber a_iPath a_iData a_iVersion a_iChildVersion a_iCreated a_iSet a_iOwner a_iTimeout a_iLatest a_pKind a_pPath a_pA a_pB a_uEntry a_uSlot a_uData a_uVersion a_uSet a_uChildVersion a_uCreated a_uOwner a_wSession a_wKind a_wPath a_queue a_queued g_time g_last g_watchCount g_partCount g_wrong g_changes g_log g_since g_placesLeft b_paths b_values b_open b_timeouts b_deadlines b_events b_eventCounts b_watchers b_watchKinds b_watchPaths b_parts b_happened b_how R
  have R5 : i_Rel (k + 5) (f_nodes, f_time, f_latest, f_entries, f_logged, f_complete, f_taken, f_sinceEntry, f_sinceCount, f_parts, f_wrongPart, f_watches, a_path, a_data, a_version, a_childVersion, a_created, a_setAt, a_owner, a_firstChild, a_sibling, a_bucket, a_open, a_timeout, a_deadline, a_eKind, a_ePath, a_eData, a_eOwner, a_eVersion, a_eNumber, a_iPath, a_iData, a_iVersion, a_iChildVersion, a_iCreated, a_iSet, a_iOwner, a_iTimeout, a_iLatest, a_pKind, a_pPath, a_pA, a_pB, a_uEntry, a_uSlot, a_uData, a_uVersion, a_uSet, a_uChildVersion, a_uCreated, a_uOwner, a_wSession, a_wKind, a_wPath, a_queue, a_queued) (g_time, g_last, g_watchCount, g_partCount, g_wrong, g_changes, g_log, g_since, g_placesLeft, b_paths, b_values, b_open, b_timeouts, b_deadlines, b_events, b_eventCounts, b_watchers, b_watchKinds, b_watchPaths, b_parts, b_happened, b_how) := i_up (k := k) R
  obtain ⟨C, S, N, lg, pc, cb, sn, M, T, _⟩ := R
  refine zx_node M.1 M.2.1 (fun e => ?_) (fun x e hw => ?_) (fun j x hj hw e => ?_)
  · exact zy_node T (fun _ => And.intro rfl R5) (fun x e2 _ => by rw [e] at e2; exact nomatch e2) (fun _ x _ _ e2 => by rw [e] at e2; exact nomatch e2)
  · refine zy_node T (fun e2 => by rw [e] at e2; exact nomatch e2) (fun _ _ _ => And.intro rfl R5) (fun j x hj hj2 e2 => ?_)
    exfalso
    rw [hj2] at hw
    rcases hw with z | z
    · exact nI_pos (by omega) z
    · exact nI_nlt (a := 6) (by omega) (by decide) z
  · refine zy_node T (fun e2 => by rw [e] at e2; exact nomatch e2) (fun _ _ hw2 => ?_) (fun j' x' hj' hw' e2 => And.intro ?_ R5)
    · exfalso
      rw [hw] at hw2
      rcases hw2 with z | z
      · exact nI_pos (by omega) z
      · exact nI_nlt (a := 6) (by omega) (by decide) z
    · have : j = j' := (nI_eq (by omega) (by omega)).mp (hw.symm.trans hw')
      subst this
      have : x = x' := Option.some.inj (e.symm.trans e2)
      subst this
      have : zk_cn a_path v1 0 = zc_cnt (zr_oc b_paths (zk_P v1 0)) 21 := zr_cnt M.1.1.2.1 T.1 (zk_P v1 0)
      rw [this]
end
section
/-! child, part, watch, event -/
theorem zk_Ans_u {path : Nat → Int32} (inj : zk_inj path) {q : Int32} {k : Nat} {r r' : Int32} (h : zk_Ans path q k r) (h' : zk_Ans path q k r') : r' = r := by
  have lt : ∀ s s', s < 48 → s' < 48 → 0 < (path s').toInt → path s' / 101 = q → (path s).toInt < (path s').toInt → zk_cn path q (path s').toInt + 1 ≤ zk_cn path q (path s).toInt := by
    intro s s' hs hs' h0 e hl
    have h1 : zc_cnt (zr_oc path (fun p => zk_P q (path s').toInt p || decide (p = path s'))) 48 = zc_cnt (zr_oc path (zk_P q (path s').toInt)) 48 + 1 := by
      refine zc_upd hs' ?_ ?_ (fun j hj hn => ?_)
      · rw [← Bool.not_eq_true, zr_oc_t, zk_P_t]; omega
      · rw [zr_oc_t, Bool.or_eq_true, decide_eq_true_eq]; exact ⟨by omega, Or.inr rfl⟩
      · unfold zr_oc
        by_cases c : 0 ≤ (path j).toInt
        · have : ¬ path j = path s' := fun z => hn (inj j s' hj hs' c z)
          dsimp only
          rw [decide_eq_false this, Bool.or_false]
        · rw [decide_eq_false c, Bool.false_and, Bool.false_and]
    have h2 : zc_cnt (zr_oc path (fun p => zk_P q (path s').toInt p || decide (p = path s'))) 48 ≤ zc_cnt (zr_oc path (zk_P q (path s).toInt)) 48 := by
      refine zc_le (g := path) (g' := path) (fun a b ha hb h1 h2 e => inj a b ha hb (zr_oc_t.mp h1).1 e) (fun a ha h1 => ⟨a, ha, ?_, rfl⟩)
      rw [zr_oc_t, Bool.or_eq_true, decide_eq_true_eq, zk_P_t] at h1
      rw [zr_oc_t, zk_P_t]
      rcases h1 with ⟨a1, a2 | a2⟩
      · exact ⟨a1, a2.1, by omega⟩
      · rw [a2]; exact ⟨by omega, e, hl⟩
    unfold zk_cn
    omega
  have pos : ∀ s, s < 48 → 0 < (path s).toInt → path s / 101 = q → zk_cn path q (path s).toInt + 1 ≤ zk_cn path q 0 := by
    intro s hs h0 e
    unfold zk_cn
    have h1 : zc_cnt (zr_oc path (fun p => zk_P q (path s).toInt p || decide (p = path s))) 48 = zc_cnt (zr_oc path (zk_P q (path s).toInt)) 48 + 1 := by
      refine zc_upd hs ?_ ?_ (fun j hj hn => ?_)
      · rw [← Bool.not_eq_true, zr_oc_t, zk_P_t]; omega
      · rw [zr_oc_t, Bool.or_eq_true, decide_eq_true_eq]; exact ⟨by omega, Or.inr rfl⟩
      · unfold zr_oc
        by_cases c : 0 ≤ (path j).toInt
        · have : ¬ path j = path s := fun z => hn (inj j s hj hs c z)
          dsimp only
          rw [decide_eq_false this, Bool.or_false]
        · rw [decide_eq_false c, Bool.false_and, Bool.false_and]
    have h2 : zc_cnt (zr_oc path (fun p => zk_P q (path s).toInt p || decide (p = path s))) 48 ≤ zc_cnt (zr_oc path (zk_P q 0)) 48 := by
      refine zc_le (g := path) (g' := path) (fun a b ha hb h1 h2 e => inj a b ha hb (zr_oc_t.mp h1).1 e) (fun a ha h1 => ⟨a, ha, ?_, rfl⟩)
      rw [zr_oc_t, Bool.or_eq_true, decide_eq_true_eq, zk_P_t] at h1
      rw [zr_oc_t, zk_P_t]
      rcases h1 with ⟨a1, a2 | a2⟩
      · exact ⟨a1, a2.1, by omega⟩
      · rw [a2]; exact ⟨by omega, e, h0⟩
    omega
  rcases h with ⟨s, hs, h0, rfl, e, c⟩ | ⟨rfl, c⟩
  · rcases h' with ⟨s', hs', h0', rfl, e', c'⟩ | ⟨rfl, c'⟩
    · rcases Int.lt_trichotomy (path s).toInt (path s').toInt with z | z | z
      · have := lt s s' hs hs' h0' e' z; omega
      · exact zb_inj z.symm
      · have := lt s' s hs' hs h0 e z; omega
    · have := pos s hs h0 e; omega
  · rcases h' with ⟨s', hs', h0', rfl, e', c'⟩ | ⟨rfl, c'⟩
    · have := pos s' hs' h0' e'; omega
    · rfl
section
variable {g_time g_last g_watchCount g_partCount g_wrong g_changes g_log g_since g_placesLeft : Int32} {b_paths b_values b_open b_timeouts b_deadlines b_events b_eventCounts b_watchers b_watchKinds b_watchPaths b_parts b_happened b_how : Nat → Int32}
/-- the reference's walk by names -/
theorem zy_child_lp {post : Int32 → Prop} {path : Nat → Int32} {nd nd' : Nat → zn_Nd} {C : zn_Mp} {q k : Nat} (R : zr_Rep 48 path nd C) (R' : zr_Rep 21 b_paths nd' C) (hok : ∀ p x, C p = some x → zp_ok p) (hk : k < 2 ^ 31) (hq : q < 1030301)
    (h : ∀ r, zk_Ans path (nI q) k r → post r) :
    ∀ (d i n : Nat), i + d = 100 → n ≤ k → n + zk_cn path (nI q) (101 * q + i : Nat) = zk_cn path (nI q) 0 → wY_child_19 post (nI q) (nI k) g_time g_last g_watchCount g_partCount g_wrong g_changes g_log g_since g_placesLeft b_paths b_values b_open b_timeouts b_deadlines b_events b_eventCounts b_watchers b_watchKinds b_watchPaths b_parts b_happened b_how (d + 1) (nI n) (nI i) := by
  have eq0 : (nI q).toInt = q := nI_toInt (by omega)
  -- a child's number
  have kid : ∀ s, s < 48 → 0 < (path s).toInt → path s / 101 = nI q → ∃ i : Nat, i < 100 ∧ (path s).toInt = 101 * q + i + 1 ∧ q < 10201 := by
    intro s hs h0 e
    have e1 := congrArg Int32.toInt e
    rw [zb_div (by omega), eq0] at e1
    have hx := hok _ _ (R.1 s hs (by omega))
    obtain ⟨x1, x2, x3⟩ := hx
    refine ⟨((path s).toInt - 101 * q - 1).toNat, ?_, ?_, ?_⟩ <;> omega
  have inj : zk_inj path := R.2.2
  intro d
  induction d with
  | zero =>
    intro i n hi hn hc
    have : i = 100 := by omega
    subst this
    refine br_t (by decide) (h _ (Or.inr ⟨rfl, ?_⟩))
    have : zk_cn path (nI q) (101 * q + 100 : Nat) = 0 := by
      rcases Nat.eq_zero_or_pos (zk_cn path (nI q) (101 * q + 100 : Nat)) with z | z
      · exact z
      · exfalso
        obtain ⟨s, hs, e⟩ := zc_pos z
        rw [zr_oc_t, zk_P_t] at e
        obtain ⟨i, hi, e2, _⟩ := kid s hs (by omega) e.2.1
        omega
    omega
  | succ d ih =>
    intro i n hi hn hc
    refine br_f (nI_ge (b := 100) (by omega) (by decide)) ?_
    -- no child of that name
    have skip : (∀ s, s < 48 → 0 < (path s).toInt → path s / 101 = nI q → ¬ (path s).toInt = 101 * q + i + 1) → wY_child_19 post (nI q) (nI k) g_time g_last g_watchCount g_partCount g_wrong g_changes g_log g_since g_placesLeft b_paths b_values b_open b_timeouts b_deadlines b_events b_eventCounts b_watchers b_watchKinds b_watchPaths b_parts b_happened b_how (d + 1) (nI n) (nI (i + 1)) := fun hno => by
      refine ih (i + 1) n (by omega) hn ?_
      rw [← hc]
      congr 1
      unfold zk_cn
      refine zc_congr fun s hs => ?_
      rw [Bool.eq_iff_iff, zr_oc_t, zr_oc_t, zk_P_t, zk_P_t]
      constructor
      · rintro ⟨a1, a2, a3⟩; exact ⟨a1, a2, by omega⟩
      · rintro ⟨a1, a2, a3⟩
        have := hno s hs (by omega) a2
        exact ⟨a1, a2, by omega⟩
    refine pk_le 10201 q (fun c => ?_) (fun c => ?_)
    · refine zy_find R' (fun _ => br_t (by decide) (nm_r (nI_1 i) (skip fun s hs h0 e z => ?_))) (fun j hj ej j0 _ => absurd j0 (by decide))
      obtain ⟨_, _, _, z2⟩ := kid s hs h0 e
      omega
    · have ep : ((nI q * 101) + nI i) + 1 = nI (101 * q + i + 1) := by
        rw [show (101 : Int32) = nI 101 from rfl, pk_mul, nI_add, nI_1]
        exact congrArg nI (by omega)
      have ept : (nI (101 * q + i + 1)).toInt = 101 * q + i + 1 := by rw [nI_toInt (by omega)]; omega
      rw [ep]
      refine zy_find R' (fun e => br_t (by decide) (nm_r (nI_1 i) (skip fun s hs h0 es z => ?_))) (fun j hj ej j0 e => br_f (nI_pos (by omega)) (nm_r (nI_1 n) ?_))
      · exact zr_none R e hs (by omega) (zb_inj (by rw [z, ept]))
      · obtain ⟨s, hs, es, _, s0⟩ := zr_get R e
        have est : (path s).toInt = 101 * q + i + 1 := by rw [es, ept]
        have esq : path s / 101 = nI q := zb_inj (by rw [zb_div s0, est, eq0]; omega)
        have hcn : zk_cn path (nI q) (101 * q + i : Nat) = zk_cn path (nI q) (101 * q + (i + 1) : Nat) + 1 := by
          unfold zk_cn
          refine zc_upd hs ?_ ?_ (fun a ha hne => ?_)
          · rw [← Bool.not_eq_true, zr_oc_t, zk_P_t]; omega
          · rw [zr_oc_t, zk_P_t]; exact ⟨s0, esq, by omega⟩
          · rw [Bool.eq_iff_iff, zr_oc_t, zr_oc_t, zk_P_t, zk_P_t]
            constructor
            · rintro ⟨a1, a2, a3⟩
              have : ¬ (path a).toInt = (path s).toInt := fun w => hne (inj a s ha hs a1 (zb_inj w))
              exact ⟨a1, a2, by omega⟩
            · rintro ⟨a1, a2, a3⟩; exact ⟨a1, a2, by omega⟩
        refine pk_eq n k (fun z => ?_) (fun z => nm_r (nI_1 i) (ih (i + 1) (n + 1) (by omega) (by omega) (by omega)))
        rw [← es]
        refine h _ (Or.inl ⟨s, hs, by omega, rfl, esq, ?_⟩)
        rw [est, show (101 * (q : Int) + i + 1) = ((101 * q + (i + 1) : Nat) : Int) from by omega]
        omega
end
section
variable {f_nodes f_time f_latest f_entries f_logged f_complete f_taken f_sinceEntry f_sinceCount f_parts f_wrongPart f_watches : Int32} {a_path a_data a_version a_childVersion a_created a_setAt a_owner a_firstChild a_sibling a_bucket a_open a_timeout a_deadline a_eKind a_ePath a_eData a_eOwner a_eVersion a_eNumber a_iPath a_iData a_iVersion a_iChildVersion a_iCreated a_iSet a_iOwner a_iTimeout a_iLatest a_pKind a_pPath a_pA a_pB a_uEntry a_uSlot a_uData a_uVersion a_uSet a_uChildVersion a_uCreated a_uOwner a_wSession a_wKind a_wPath a_queue a_queued : Nat → Int32}
theorem zx_child {post : Int32 → Prop} {C : zn_Mp} {b : Nat} {p w : Int32} (H : zx_T f_nodes a_path a_data a_version a_childVersion a_created a_setAt a_owner a_firstChild a_sibling a_bucket C) (hC : zi_C b C) (h0 : (C p = none ∨ w < 0) → post (-1))
    (h1 : ∀ x kk r, C p = some x → kk < 2 ^ 31 → w = nI kk → zk_Ans a_path p kk r → post r) : wpX_child post (f_nodes, f_time, f_latest, f_entries, f_logged, f_complete, f_taken, f_sinceEntry, f_sinceCount, f_parts, f_wrongPart, f_watches, a_path, a_data, a_version, a_childVersion, a_created, a_setAt, a_owner, a_firstChild, a_sibling, a_bucket, a_open, a_timeout, a_deadline, a_eKind, a_ePath, a_eData, a_eOwner, a_eVersion, a_eNumber, a_iPath, a_iData, a_iVersion, a_iChildVersion, a_iCreated, a_iSet, a_iOwner, a_iTimeout, a_iLatest, a_pKind, a_pPath, a_pA, a_pB, a_uEntry, a_uSlot, a_uData, a_uVersion, a_uSet, a_uChildVersion, a_uCreated, a_uOwner, a_wSession, a_wKind, a_wPath, a_queue, a_queued) p w := by
  unfold wpX_child
  refine zx_isPath (fun hp => br_f (by decide) ?_) (fun hp => br_t rfl (br_t (by decide) (h0 (Or.inl ?_))))
  · refine zx_find H.1 (fun e => br_t (by decide) (h0 (Or.inl e))) (fun s hs es s0 e => br_f (nI_pos (by omega)) ?_)
    have hc := nI_clamp (n := s) (by omega)
    by_cases c0 : 0 ≤ w
    · refine br_t c0 (zz_in rfl hs (by decide) (nm_r (e' := a_firstChild s) (by rw [hc]) ?_))
      obtain ⟨kk, hkk, rfl⟩ := nI_of (x := w) (Int32.not_lt.mpr c0)
      refine Exists.intro (zk_cn a_path p 0 + 1) (zx_child_lp hkk H.2.1.2 H.1.2.1.2.2 (fun r hr => h1 _ kk r e hkk rfl hr) _ 0 0 _ (by omega) (by omega) ?_ rfl (by omega))
      have := H.2.1.1 s hs s0
      rw [es] at this
      exact this
    · exact br_f c0 (h0 (Or.inr (Int32.not_le.mp c0)))
  · cases e : C p with
    | none => rfl
    | some x => exact absurd (hC.2 _ _ e).1 hp
end
section
variable {g_time g_last g_watchCount g_partCount g_wrong g_changes g_log g_since g_placesLeft : Int32} {b_paths b_values b_open b_timeouts b_deadlines b_events b_eventCounts b_watchers b_watchKinds b_watchPaths b_parts b_happened b_how : Nat → Int32}
theorem zy_child {post : Int32 → Prop} {path : Nat → Int32} {nd : Nat → zn_Nd} {C : zn_Mp} {b : Nat} {p w : Int32} (R : zr_Rep 48 path nd C) (H : zy_T b_paths b_values C) (hC : zi_C b C) (h0 : (C p = none ∨ w < 0) → post (-1))
    (h1 : ∀ x kk r, C p = some x → kk < 2 ^ 31 → w = nI kk → zk_Ans path p kk r → post r) : wpY_child post (g_time, g_last, g_watchCount, g_partCount, g_wrong, g_changes, g_log, g_since, g_placesLeft, b_paths, b_values, b_open, b_timeouts, b_deadlines, b_events, b_eventCounts, b_watchers, b_watchKinds, b_watchPaths, b_parts, b_happened, b_how) p w := by
  unfold wpY_child
  refine zy_find H.1 (fun e => br_t (by decide) (h0 (Or.inl e))) (fun j hj ej j0 e => br_f (nI_pos (by omega)) ?_)
  by_cases c0 : 0 ≤ w
  · refine br_t c0 (Exists.intro 101 ?_)
    obtain ⟨kk, hkk, rfl⟩ := nI_of (x := w) (Int32.not_lt.mpr c0)
    have hp := (hC.2 _ _ e).1
    obtain ⟨q, hq, rfl, eq⟩ := zb_nI hp.1
    have hq2 : q < 1030301 := by have := hp.2.1; omega
    refine zy_child_lp R H.1 (fun p x ex => (hC.2 p x ex).1) hkk hq2 (fun r' hr' => h1 _ kk r' e hkk rfl hr') 100 0 0 rfl (by omega) ?_
    rw [Nat.zero_add]
    unfold zk_cn
    refine zc_congr fun a ha => ?_
    rw [Bool.eq_iff_iff, zr_oc_t, zr_oc_t, zk_P_t, zk_P_t]
    constructor
    · rintro ⟨a1, a2, a3⟩; exact ⟨a1, a2, by omega⟩
    · rintro ⟨a1, a2, a3⟩
      have x := (hC.2 _ _ (R.1 a ha a1)).1
      have e1 := congrArg Int32.toInt a2
      rw [zb_div a1, eq] at e1
      obtain ⟨x1, x2, x3⟩ := x
      exact ⟨a1, a2, by omega⟩
  · exact br_f c0 (h0 (Or.inr (Int32.not_le.mp c0)))
end
theorem i_vc_child {k : Nat} {u : SX} {v : SY} (I : i_Rel k u v) (hk : k + 5 ≤ 2560) (v1 : Int32) (v2 : Int32) : wpX_child (fun r => wpY_child (fun r' => r' = r ∧ i_Rel (k + 5) u v) v v1 v2) u v1 v2 := by
  refine zi_el (P := fun u v => wpX_child (fun r => wpY_child (fun r' => r' = r ∧ i_Rel (k + 5) u v) v v1 v2) u v1 v2) ?_ I
  intro f_nodes f_time f_latest f_entries f_logged f_complete f_taken f_sinceEntry f_sinceCount f_parts f_wrongPart f_watches a_path a_data a_version a_childVersion a_created a_setAt a_owner a_firstChild a_sibling a_bucket a_open a_timeout a_deadline a_eKind a_ePath a_eData a_eOwner a_eVersion a_eNumber a_iPath a_iData a_iVersion a_iChildVersion a_iCreated a_iSet a_iOwner a_iTimeout a_iLatest a_pKind a_pPath a_pA a_pB a_uEntry a_uSlot a_uData a_uVersion a_uSet a_uChildVersion a_uCreated a_uOwner a_wSession a_wKind a_wPath a_queue a_queued g_time g_last g_watchCount g_partCount g_wrong g_changes g_log g_since g_placesLeft b_paths b_values b_open b_timeouts b_deadlines b_events b_eventCounts b_watchers b_watchKinds b_watchPaths b_parts b_happened b_how R
  have R5 : i_Rel (k + 5) (f_nodes, f_time, f_latest, f_entries, f_logged, f_complete, f_taken, f_sinceEntry, f_sinceCount, f_parts, f_wrongPart, f_watches, a_path, a_data, a_version, a_childVersion, a_created, a_setAt, a_owner, a_firstChild, a_sibling, a_bucket, a_open, a_timeout, a_deadline, a_eKind, a_ePath, a_eData, a_eOwner, a_eVersion, a_eNumber, a_iPath, a_iData, a_iVersion, a_iChildVersion, a_iCreated, a_iSet, a_iOwner, a_iTimeout, a_iLatest, a_pKind, a_pPath, a_pA, a_pB, a_uEntry, a_uSlot, a_uData, a_uVersion, a_uSet, a_uChildVersion, a_uCreated, a_uOwner, a_wSession, a_wKind, a_wPath, a_queue, a_queued) (g_time, g_last, g_watchCount, g_partCount, g_wrong, g_changes, g_log, g_since, g_placesLeft, b_paths, b_values, b_open, b_timeouts, b_deadlines, b_events, b_eventCounts, b_watchers, b_watchKinds, b_watchPaths, b_parts, b_happened, b_how) := i_up (k := k) R
  obtain ⟨C, S, N, lg, pc, cb, sn, M, T, _⟩ := R
  have inj : zk_inj a_path := M.1.1.2.1.2.2
  have no : (C v1 = none ∨ v2 < 0) → ∀ x kk, C v1 = some x → kk < 2 ^ 31 → v2 = nI kk → False := fun h x kk e hkk ek => by
    rcases h with h | h
    · rw [h] at e; exact nomatch e
    · rw [ek] at h; exact nI_pos hkk h
  refine zx_child M.1 M.2.1 (fun h => ?_) (fun x kk r e hkk ek hr => ?_)
  · exact zy_child M.1.1.2.1 T M.2.1 (fun _ => And.intro rfl R5) (fun x kk r e hkk ek _ => (no h x kk e hkk ek).elim)
  · refine zy_child M.1.1.2.1 T M.2.1 (fun h => (no h x kk e hkk ek).elim) (fun x' kk' r' e' hkk' ek' hr' => And.intro ?_ R5)
    have : kk = kk' := (nI_eq hkk hkk').mp (ek.symm.trans ek')
    subst this
    exact zk_Ans_u inj hr hr'
theorem zi_4 (k : Nat) : (4 : Int32) * nI k = nI (4 * k) := pk_mul 4 k
/-- a part that is taken -/
def zq_pa (pc : Nat) (kd b : Int32) : Prop := ¬ pc = 6 ∧ (0 ≤ kd.toInt ∧ kd.toInt ≤ 3) ∧ (kd = 0 → 0 ≤ b.toInt ∧ b.toInt ≤ 3)
theorem zb_3 : (3 : Int32).toInt = 3 := by decide
section
variable {f_nodes f_time f_latest f_entries f_logged f_complete f_taken f_sinceEntry f_sinceCount f_parts f_wrongPart f_watches : Int32} {a_path a_data a_version a_childVersion a_created a_setAt a_owner a_firstChild a_sibling a_bucket a_open a_timeout a_deadline a_eKind a_ePath a_eData a_eOwner a_eVersion a_eNumber a_iPath a_iData a_iVersion a_iChildVersion a_iCreated a_iSet a_iOwner a_iTimeout a_iLatest a_pKind a_pPath a_pA a_pB a_uEntry a_uSlot a_uData a_uVersion a_uSet a_uChildVersion a_uCreated a_uOwner a_wSession a_wKind a_wPath a_queue a_queued : Nat → Int32}
theorem zx_part {post : Int32 → SX → Prop} {pc : Nat} {v1 v2 v3 v4 : Int32} (hpc : pc ≤ 6) (he : f_parts = nI pc) (h0 : ¬ zq_pa pc v1 v4 → post (-1) (f_nodes, f_time, f_latest, f_entries, f_logged, f_complete, f_taken, f_sinceEntry, f_sinceCount, f_parts, f_wrongPart, f_watches, a_path, a_data, a_version, a_childVersion, a_created, a_setAt, a_owner, a_firstChild, a_sibling, a_bucket, a_open, a_timeout, a_deadline, a_eKind, a_ePath, a_eData, a_eOwner, a_eVersion, a_eNumber, a_iPath, a_iData, a_iVersion, a_iChildVersion, a_iCreated, a_iSet, a_iOwner, a_iTimeout, a_iLatest, a_pKind, a_pPath, a_pA, a_pB, a_uEntry, a_uSlot, a_uData, a_uVersion, a_uSet, a_uChildVersion, a_uCreated, a_uOwner, a_wSession, a_wKind, a_wPath, a_queue, a_queued))
    (h1 : zq_pa pc v1 v4 → post (nI (pc + 1)) (f_nodes, f_time, f_latest, f_entries, f_logged, f_complete, f_taken, f_sinceEntry, f_sinceCount, nI (pc + 1), f_wrongPart, f_watches, a_path, a_data, a_version, a_childVersion, a_created, a_setAt, a_owner, a_firstChild, a_sibling, a_bucket, a_open, a_timeout, a_deadline, a_eKind, a_ePath, a_eData, a_eOwner, a_eVersion, a_eNumber, a_iPath, a_iData, a_iVersion, a_iChildVersion, a_iCreated, a_iSet, a_iOwner, a_iTimeout, a_iLatest, upd a_pKind pc v1, upd a_pPath pc v2, upd a_pA pc v3, upd a_pB pc v4, a_uEntry, a_uSlot, a_uData, a_uVersion, a_uSet, a_uChildVersion, a_uCreated, a_uOwner, a_wSession, a_wKind, a_wPath, a_queue, a_queued)) : wpX_part post (f_nodes, f_time, f_latest, f_entries, f_logged, f_complete, f_taken, f_sinceEntry, f_sinceCount, f_parts, f_wrongPart, f_watches, a_path, a_data, a_version, a_childVersion, a_created, a_setAt, a_owner, a_firstChild, a_sibling, a_bucket, a_open, a_timeout, a_deadline, a_eKind, a_ePath, a_eData, a_eOwner, a_eVersion, a_eNumber, a_iPath, a_iData, a_iVersion, a_iChildVersion, a_iCreated, a_iSet, a_iOwner, a_iTimeout, a_iLatest, a_pKind, a_pPath, a_pA, a_pB, a_uEntry, a_uSlot, a_uData, a_uVersion, a_uSet, a_uChildVersion, a_uCreated, a_uOwner, a_wSession, a_wKind, a_wPath, a_queue, a_queued) v1 v2 v3 v4 := by
  refine pk_eq pc 6 (fun z => h0 (fun w => w.1 z)) (fun z => ?_) (hx := he)
  have fin : zq_pa pc v1 v4 → wX_part_34 post v1 v2 v3 v4 f_nodes f_time f_latest f_entries f_logged f_complete f_taken f_sinceEntry f_sinceCount f_parts f_wrongPart f_watches a_path a_data a_version a_childVersion a_created a_setAt a_owner a_firstChild a_sibling a_bucket a_open a_timeout a_deadline a_eKind a_ePath a_eData a_eOwner a_eVersion a_eNumber a_iPath a_iData a_iVersion a_iChildVersion a_iCreated a_iSet a_iOwner a_iTimeout a_iLatest a_pKind a_pPath a_pA a_pB a_uEntry a_uSlot a_uData a_uVersion a_uSet a_uChildVersion a_uCreated a_uOwner a_wSession a_wKind a_wPath a_queue a_queued := by
    intro hA
    subst he
    have hb : vp_nar .byte v1.toInt8.toInt32 = v1 := zb_nar2 (by have := hA.2.1; omega) (by have := hA.2.1; omega)
    refine zz_st rfl (show pc < 6 by omega) (by decide) hb ?_
    refine zz_st rfl (show pc < 6 by omega) (by decide) rfl ?_
    refine zz_st rfl (show pc < 6 by omega) (by decide) rfl ?_
    refine zz_st rfl (show pc < 6 by omega) (by decide) rfl ?_
    have := h1 hA
    rw [← nI_1] at this
    exact nm_e this
  refine zx_outside (fun ha hb => br_t rfl ?_) (fun hn => br_f (by decide) (h0 fun w => hn ?_))
  · rw [zb_ge0] at ha
    rw [zb_le, zb_3] at hb
    by_cases c0 : v1 = 0
    · refine br_t c0 (zx_outside (fun hc hd => br_t rfl (fin ⟨z, ⟨ha, hb⟩, fun _ => ?_⟩)) (fun hn => br_f (by decide) (h0 fun w => hn ?_)))
      · rw [zb_ge0] at hc
        rw [zb_le, zb_3] at hd
        exact ⟨hc, hd⟩
      · rw [zb_ge0, zb_le, zb_3]
        exact w.2.2 c0
    · exact br_f c0 (fin ⟨z, ⟨ha, hb⟩, fun w => absurd w c0⟩)
  · rw [zb_ge0, zb_le, zb_3]
    exact w.2.1
end
section
variable {g_time g_last g_watchCount g_partCount g_wrong g_changes g_log g_since g_placesLeft : Int32} {b_paths b_values b_open b_timeouts b_deadlines b_events b_eventCounts b_watchers b_watchKinds b_watchPaths b_parts b_happened b_how : Nat → Int32}
theorem zy_part {post : Int32 → SY → Prop} {pc : Nat} {v1 v2 v3 v4 : Int32} (hpc : pc ≤ 6) (he : g_partCount = nI pc) (h0 : ¬ zq_pa pc v1 v4 → post (-1) (g_time, g_last, g_watchCount, g_partCount, g_wrong, g_changes, g_log, g_since, g_placesLeft, b_paths, b_values, b_open, b_timeouts, b_deadlines, b_events, b_eventCounts, b_watchers, b_watchKinds, b_watchPaths, b_parts, b_happened, b_how))
    (h1 : zq_pa pc v1 v4 → post (nI (pc + 1)) (g_time, g_last, g_watchCount, nI (pc + 1), g_wrong, g_changes, g_log, g_since, g_placesLeft, b_paths, b_values, b_open, b_timeouts, b_deadlines, b_events, b_eventCounts, b_watchers, b_watchKinds, b_watchPaths, upd (upd (upd (upd b_parts (4 * pc) v1) (4 * pc + 1) v2) (4 * pc + 2) v3) (4 * pc + 3) v4, b_happened, b_how)) : wpY_part post (g_time, g_last, g_watchCount, g_partCount, g_wrong, g_changes, g_log, g_since, g_placesLeft, b_paths, b_values, b_open, b_timeouts, b_deadlines, b_events, b_eventCounts, b_watchers, b_watchKinds, b_watchPaths, b_parts, b_happened, b_how) v1 v2 v3 v4 := by
  refine pk_eq pc 6 (fun z => h0 (fun w => w.1 z)) (fun z => ?_) (hx := he)
  have fin : zq_pa pc v1 v4 → wY_part_35 post v1 v2 v3 v4 g_time g_last g_watchCount g_partCount g_wrong g_changes g_log g_since g_placesLeft b_paths b_values b_open b_timeouts b_deadlines b_events b_eventCounts b_watchers b_watchKinds b_watchPaths b_parts b_happened b_how := by
    intro hA
    subst he
    refine zz_st (zi_4 pc) (by omega) (by decide) rfl ?_
    refine zz_st (k := 4 * pc + 1) (by rw [zi_4, nI_1]) (by omega) (by decide) rfl ?_
    refine zz_st (k := 4 * pc + 2) (by rw [zi_4]; exact nI_add _ 2) (by omega) (by decide) rfl ?_
    refine nm_r (nI_1 pc) ?_
    exact zz_st (k := 4 * pc + 3) (by rw [zi_4]; exact nI_add _ 3) (by omega) (by decide) rfl (h1 hA)
  by_cases w : v1 < 0
  · refine br_t w (h0 fun hA => ?_)
    rw [zb_lt0] at w
    have := hA.2.1; omega
  refine br_f w ?_
  by_cases w3 : 3 < v1
  · refine br_t w3 (h0 fun hA => ?_)
    rw [zb_lt, zb_3] at w3
    have := hA.2.1; omega
  refine br_f w3 ?_
  rw [zb_lt0] at w
  rw [zb_lt, zb_3] at w3
  by_cases c0 : v1 = 0
  · refine br_t c0 ?_
    by_cases x : v4 < 0
    · refine br_t x (h0 fun hA => ?_)
      rw [zb_lt0] at x
      have := hA.2.2 c0; omega
    refine br_f x ?_
    by_cases x3 : v4 ≤ 3
    · refine br_t x3 (fin ⟨z, by omega, fun _ => ?_⟩)
      rw [zb_lt0] at x
      rw [zb_le, zb_3] at x3
      omega
    · refine br_f x3 (h0 fun hA => ?_)
      rw [zb_le, zb_3] at x3
      have := hA.2.2 c0; omega
  · exact br_f c0 (fin ⟨z, by omega, fun q => absurd q c0⟩)
end
theorem i_vc_part {k : Nat} {u : SX} {v : SY} (I : i_Rel k u v) (hk : k + 5 ≤ 2560) (v1 : Int32) (v2 : Int32) (v3 : Int32) (v4 : Int32) : wpX_part (fun r u' => wpY_part (fun r' v' => r' = r ∧ i_Rel (k + 5) u' v') v v1 v2 v3 v4) u v1 v2 v3 v4 := by
  refine zi_el (P := fun u v => wpX_part (fun r u' => wpY_part (fun r' v' => r' = r ∧ i_Rel (k + 5) u' v') v v1 v2 v3 v4) u v1 v2 v3 v4) ?_ I
  intro f_nodes f_time f_latest f_entries f_logged f_complete f_taken f_sinceEntry f_sinceCount f_parts f_wrongPart f_watches a_path a_data a_version a_childVersion a_created a_setAt a_owner a_firstChild a_sibling a_bucket a_open a_timeout a_deadline a_eKind a_ePath a_eData a_eOwner a_eVersion a_eNumber a_iPath a_iData a_iVersion a_iChildVersion a_iCreated a_iSet a_iOwner a_iTimeout a_iLatest a_pKind a_pPath a_pA a_pB a_uEntry a_uSlot a_uData a_uVersion a_uSet a_uChildVersion a_uCreated a_uOwner a_wSession a_wKind a_wPath a_queue a_queued g_time g_last g_watchCount g_partCount g_wrong g_changes g_log g_since g_placesLeft b_paths b_values b_open b_timeouts b_deadlines b_events b_eventCounts b_watchers b_watchKinds b_watchPaths b_parts b_happened b_how R
  have R5 : i_Rel (k + 5) (f_nodes, f_time, f_latest, f_entries, f_logged, f_complete, f_taken, f_sinceEntry, f_sinceCount, f_parts, f_wrongPart, f_watches, a_path, a_data, a_version, a_childVersion, a_created, a_setAt, a_owner, a_firstChild, a_sibling, a_bucket, a_open, a_timeout, a_deadline, a_eKind, a_ePath, a_eData, a_eOwner, a_eVersion, a_eNumber, a_iPath, a_iData, a_iVersion, a_iChildVersion, a_iCreated, a_iSet, a_iOwner, a_iTimeout, a_iLatest, a_pKind, a_pPath, a_pA, a_pB, a_uEntry, a_uSlot, a_uData, a_uVersion, a_uSet, a_uChildVersion, a_uCreated, a_uOwner, a_wSession, a_wKind, a_wPath, a_queue, a_queued) (g_time, g_last, g_watchCount, g_partCount, g_wrong, g_changes, g_log, g_since, g_placesLeft, b_paths, b_values, b_open, b_timeouts, b_deadlines, b_events, b_eventCounts, b_watchers, b_watchKinds, b_watchPaths, b_parts, b_happened, b_how) := i_up (k := k) R
  obtain ⟨C, S, N, lg, pc, cb, sn, M, T, ⟨q1, q2, q3, q4, q5, q6, q7, q8, q9⟩, ⟨p1, p2, p3⟩, ses, pk, rest⟩ := R
  refine zx_part p2 q7 (fun hA => ?_) (fun hA => ?_)
  · exact zy_part p2 q8 (fun _ => And.intro rfl R5) (fun z => absurd z hA)
  refine zy_part p2 q8 (fun z => absurd hA z) (fun _ => And.intro rfl ?_)
  refine zi_mk (pc := pc + 1) (zi_M_up M) T ⟨⟨q1, q2, q3, q4, q5, q6, rfl, rfl, q9⟩, ⟨p1, by have := hA.1; omega, p3⟩, ses, fun j hj => ?_, rest⟩
  by_cases w : j = pc
  · subst w
    simp only [pk_us]
    rw [pk_un (by omega), pk_un (by omega), pk_un (by omega), pk_us, pk_un (by omega), pk_un (by omega), pk_us, pk_un (by omega), pk_us]
    obtain ⟨_, ⟨a1, a2⟩, a3⟩ := hA
    refine ⟨⟨by trivial, by trivial, by trivial, by trivial⟩, ?_, fun z => ?_⟩
    · have : v1.toInt = 0 ∨ v1.toInt = 1 ∨ v1.toInt = 2 ∨ v1.toInt = 3 := by omega
      rcases this with w | w | w | w
      · exact Or.inl (zb_inj w)
      · exact Or.inr (Or.inl (zb_inj w))
      · exact Or.inr (Or.inr (Or.inl (zb_inj w)))
      · exact Or.inr (Or.inr (Or.inr (zb_inj w)))
    · obtain ⟨b1, b2⟩ := a3 z
      obtain ⟨f, hf, ef, ef2⟩ := zb_nI b1
      exact ⟨f, by omega, ef⟩
  · have := pk j (by omega)
    rw [pk_un w, pk_un w, pk_un w, pk_un w]
    have ne : ∀ a b : Nat, a < 4 → b < 4 → 4 * j + a ≠ 4 * pc + b := fun a b _ _ => by omega
    have g : ∀ a, a < 4 → upd (upd (upd (upd b_parts (4 * pc) v1) (4 * pc + 1) v2) (4 * pc + 2) v3) (4 * pc + 3) v4 (4 * j + a) = b_parts (4 * j + a) := fun a ha => by
      rw [pk_un (ne a 3 ha (by decide)), pk_un (ne a 2 ha (by decide)), pk_un (ne a 1 ha (by decide)), pk_un (show 4 * j + a ≠ 4 * pc from ne a 0 ha (by decide))]
    rw [g 1 (by decide), g 2 (by decide), g 3 (by decide)]
    rw [show upd (upd (upd (upd b_parts (4 * pc) v1) (4 * pc + 1) v2) (4 * pc + 2) v3) (4 * pc + 3) v4 (4 * j) = b_parts (4 * j) from g 0 (by decide)]
    exact this
/-- events move up -/
def zw_sh (q : Nat → Int32) (b : Nat) : Nat → Nat → Int32
  | 0 => q
  | j + 1 => upd (zw_sh q b j) (b + j) (zw_sh q b j (b + j + 1))
section
variable {f_nodes f_time f_latest f_entries f_logged f_complete f_taken f_sinceEntry f_sinceCount f_parts f_wrongPart f_watches : Int32} {a_path a_data a_version a_childVersion a_created a_setAt a_owner a_firstChild a_sibling a_bucket a_open a_timeout a_deadline a_eKind a_ePath a_eData a_eOwner a_eVersion a_eNumber a_iPath a_iData a_iVersion a_iChildVersion a_iCreated a_iSet a_iOwner a_iTimeout a_iLatest a_pKind a_pPath a_pA a_pB a_uEntry a_uSlot a_uData a_uVersion a_uSet a_uChildVersion a_uCreated a_uOwner a_wSession a_wKind a_wPath a_queue a_queued : Nat → Int32}
theorem zx_event_lp {post : Int32 → SX → Prop} {e : Int32} {s m : Nat} {q qd : Nat → Int32} (hs : s < 4) (hm : m < 8) (hq : qd s = nI m) (h : post e (f_nodes, f_time, f_latest, f_entries, f_logged, f_complete, f_taken, f_sinceEntry, f_sinceCount, f_parts, f_wrongPart, f_watches, a_path, a_data, a_version, a_childVersion, a_created, a_setAt, a_owner, a_firstChild, a_sibling, a_bucket, a_open, a_timeout, a_deadline, a_eKind, a_ePath, a_eData, a_eOwner, a_eVersion, a_eNumber, a_iPath, a_iData, a_iVersion, a_iChildVersion, a_iCreated, a_iSet, a_iOwner, a_iTimeout, a_iLatest, a_pKind, a_pPath, a_pA, a_pB, a_uEntry, a_uSlot, a_uData, a_uVersion, a_uSet, a_uChildVersion, a_uCreated, a_uOwner, a_wSession, a_wKind, a_wPath, zw_sh q (8 * s) m, qd)) :
    ∀ d j, j + d = m → wX_event_45 post (nI s) e f_nodes f_time f_latest f_entries f_logged f_complete f_taken f_sinceEntry f_sinceCount f_parts f_wrongPart f_watches (d + 1) (nI (8 * s + j)) a_path a_data a_version a_childVersion a_created a_setAt a_owner a_firstChild a_sibling a_bucket a_open a_timeout a_deadline a_eKind a_ePath a_eData a_eOwner a_eVersion a_eNumber a_iPath a_iData a_iVersion a_iChildVersion a_iCreated a_iSet a_iOwner a_iTimeout a_iLatest a_pKind a_pPath a_pA a_pB a_uEntry a_uSlot a_uData a_uVersion a_uSet a_uChildVersion a_uCreated a_uOwner a_wSession a_wKind a_wPath (zw_sh q (8 * s) j) qd := by
  have hc := nI_clamp (n := s) (by omega)
  have lim : (8 * nI s) + qd (nI s).toNatClampNeg = nI (8 * s + m) := by rw [hc, hq, show (8 : Int32) = nI 8 from rfl, pk_mul, nI_add]
  intro d
  induction d with
  | zero =>
    intro j hj
    have : j = m := by omega
    subst this
    refine zz_in rfl hs (by decide) (br_t ?_ h)
    rw [lim]
    exact nI_le (Nat.le_refl _) (by omega)
  | succ d ih =>
    intro j hj
    refine zz_in rfl hs (by decide) (br_f ?_ ?_)
    · rw [lim]; exact nI_ge (by omega) (by omega)
    · refine zz_in (nI_1 _) (by omega) (by decide) (zz_st rfl (by omega) (by decide) (v' := zw_sh q (8 * s) j (8 * s + j + 1)) ?_ (nm_r (nI_1 _) (ih (j + 1) (by omega))))
      rw [nI_1, nI_clamp (by omega)]
end
section
variable {g_time g_last g_watchCount g_partCount g_wrong g_changes g_log g_since g_placesLeft : Int32} {b_paths b_values b_open b_timeouts b_deadlines b_events b_eventCounts b_watchers b_watchKinds b_watchPaths b_parts b_happened b_how : Nat → Int32}
theorem zy_event_lp {post : Int32 → SY → Prop} {e : Int32} {s m : Nat} {q qd : Nat → Int32} (hs : s < 4) (hm : m < 8) (hq : qd s = nI m) (h : post e (g_time, g_last, g_watchCount, g_partCount, g_wrong, g_changes, g_log, g_since, g_placesLeft, b_paths, b_values, b_open, b_timeouts, b_deadlines, zw_sh q (8 * s) m, qd, b_watchers, b_watchKinds, b_watchPaths, b_parts, b_happened, b_how)) :
    ∀ d j, j + d = m → wY_event_41 post (nI s) e g_time g_last g_watchCount g_partCount g_wrong g_changes g_log g_since g_placesLeft (d + 1) (nI j) b_paths b_values b_open b_timeouts b_deadlines (zw_sh q (8 * s) j) qd b_watchers b_watchKinds b_watchPaths b_parts b_happened b_how := by
  have hc := nI_clamp (n := s) (by omega)
  intro d
  induction d with
  | zero =>
    intro j hj
    have : j = m := by omega
    subst this
    refine zz_in rfl hs (by decide) (br_t ?_ h)
    rw [hc, hq]
    exact nI_le (Nat.le_refl _) (by omega)
  | succ d ih =>
    intro j hj
    have e1 : (8 * nI s) + nI j = nI (8 * s + j) := by rw [show (8 : Int32) = nI 8 from rfl, pk_mul, nI_add]
    refine zz_in rfl hs (by decide) (br_f ?_ ?_)
    · rw [hc, hq]; exact nI_ge (by omega) (by omega)
    · refine zz_in (k := 8 * s + j + 1) (by rw [e1, nI_1]) (by omega) (by decide) (zz_st e1 (by omega) (by decide) (v' := zw_sh q (8 * s) j (8 * s + j + 1)) ?_ (nm_r (nI_1 _) (ih (j + 1) (by omega))))
      rw [e1, nI_1, nI_clamp (by omega)]
end
/-- an event is taken -/
def zq_ev (op q qd : Nat → Int32) (p : Int32) : Int32 × (Nat → Int32) × (Nat → Int32) :=
  if 0 ≤ p.toInt ∧ p.toInt < 4 ∧ ¬ op p.toInt.toNat = 0 ∧ ¬ qd p.toInt.toNat = 0 then
    (q (8 * p.toInt.toNat), zw_sh q (8 * p.toInt.toNat) ((qd p.toInt.toNat).toInt.toNat - 1), upd qd p.toInt.toNat (nI ((qd p.toInt.toNat).toInt.toNat - 1)))
  else (-1, q, qd)
theorem zq_ev_n {op q qd : Nat → Int32} {p : Int32} (h : ∀ s, s < 4 → p = nI s → op s = 0 ∨ qd s = 0) : zq_ev op q qd p = (-1, q, qd) := by
  unfold zq_ev
  rw [if_neg]
  rintro ⟨a, b, c, d⟩
  obtain ⟨s, hs, rfl, e⟩ := zb_nI a
  rw [e] at c d b
  rcases h s (by omega) rfl with z | z
  · exact c z
  · exact d z
theorem zq_ev_s {op q qd : Nat → Int32} {s m : Nat} (hs : s < 4) (h : ¬ op s = 0) (hm : qd s = nI (m + 1)) (hm2 : m < 8) : zq_ev op q qd (nI s) = (q (8 * s), zw_sh q (8 * s) m, upd qd s (nI m)) := by
  have e : (nI s).toInt.toNat = s := by rw [nI_toInt (by omega)]; omega
  unfold zq_ev
  rw [e, if_pos ⟨by rw [nI_toInt (by omega)]; omega, by rw [nI_toInt (by omega)]; omega, h, by rw [hm]; exact nI_ne0 (by omega) (by omega)⟩, hm, nI_toInt (by omega)]
  rfl
section
variable {f_nodes f_time f_latest f_entries f_logged f_complete f_taken f_sinceEntry f_sinceCount f_parts f_wrongPart f_watches : Int32} {a_path a_data a_version a_childVersion a_created a_setAt a_owner a_firstChild a_sibling a_bucket a_open a_timeout a_deadline a_eKind a_ePath a_eData a_eOwner a_eVersion a_eNumber a_iPath a_iData a_iVersion a_iChildVersion a_iCreated a_iSet a_iOwner a_iTimeout a_iLatest a_pKind a_pPath a_pA a_pB a_uEntry a_uSlot a_uData a_uVersion a_uSet a_uChildVersion a_uCreated a_uOwner a_wSession a_wKind a_wPath a_queue a_queued : Nat → Int32}
theorem zx_event {post : Int32 → SX → Prop} {p : Int32} (hq : zw_qok a_queued) (h : post (zq_ev a_open a_queue a_queued p).1 (f_nodes, f_time, f_latest, f_entries, f_logged, f_complete, f_taken, f_sinceEntry, f_sinceCount, f_parts, f_wrongPart, f_watches, a_path, a_data, a_version, a_childVersion, a_created, a_setAt, a_owner, a_firstChild, a_sibling, a_bucket, a_open, a_timeout, a_deadline, a_eKind, a_ePath, a_eData, a_eOwner, a_eVersion, a_eNumber, a_iPath, a_iData, a_iVersion, a_iChildVersion, a_iCreated, a_iSet, a_iOwner, a_iTimeout, a_iLatest, a_pKind, a_pPath, a_pA, a_pB, a_uEntry, a_uSlot, a_uData, a_uVersion, a_uSet, a_uChildVersion, a_uCreated, a_uOwner, a_wSession, a_wKind, a_wPath, (zq_ev a_open a_queue a_queued p).2.1, (zq_ev a_open a_queue a_queued p).2.2)) : wpX_event post (f_nodes, f_time, f_latest, f_entries, f_logged, f_complete, f_taken, f_sinceEntry, f_sinceCount, f_parts, f_wrongPart, f_watches, a_path, a_data, a_version, a_childVersion, a_created, a_setAt, a_owner, a_firstChild, a_sibling, a_bucket, a_open, a_timeout, a_deadline, a_eKind, a_ePath, a_eData, a_eOwner, a_eVersion, a_eNumber, a_iPath, a_iData, a_iVersion, a_iChildVersion, a_iCreated, a_iSet, a_iOwner, a_iTimeout, a_iLatest, a_pKind, a_pPath, a_pA, a_pB, a_uEntry, a_uSlot, a_uData, a_uVersion, a_uSet, a_uChildVersion, a_uCreated, a_uOwner, a_wSession, a_wKind, a_wPath, a_queue, a_queued) p := by
  unfold wpX_event
  refine zx_isOpen (fun h0 => br_t rfl ?_) (fun s hs e h1 => br_f (by decide) ?_)
  · rw [zq_ev_n (fun s hs e => Or.inl (h0 s hs e))] at h
    exact h
  · subst e
    have hc := nI_clamp (n := s) (by omega)
    have i8 : (8 : Int32) * nI s = nI (8 * s) := pk_mul 8 s
    have c8 := nI_clamp (n := 8 * s) (by omega)
    refine zz_in rfl hs (by decide) ?_
    rw [hc]
    by_cases c : a_queued s = 0
    · rw [zq_ev_n (fun s' hs' e => Or.inr (by rw [← (nI_eq (a := s) (b := s') (by omega) (by omega)).mp e]; exact c))] at h
      exact br_t c h
    · obtain ⟨a1, a2⟩ := hq s hs
      obtain ⟨m, hm, em, em2⟩ := zb_nI a1
      obtain ⟨m, rfl⟩ : ∃ m', m = m' + 1 := ⟨m - 1, by
        have : m ≠ 0 := fun z => c (by rw [em, z]; rfl)
        omega⟩
      have hm7 : m < 8 := by omega
      rw [zq_ev_s hs h1 em hm7] at h
      refine br_f c (zz_in i8 (by omega) (by decide) (nm_r (e' := a_queue (8 * s)) (by rw [i8, c8]) ?_))
      refine zz_in rfl hs (by decide) (zz_sv rfl hs (by decide) (v' := nI m) ?_ (nm_r i8 ?_))
      · rw [em, nI_pred]; exact zb_narN2 (by omega)
      · exact Exists.intro (m + 1) (zx_event_lp (q := a_queue) (qd := upd a_queued s (nI m)) hs hm7 pk_us h m 0 (by omega))
end
section
variable {g_time g_last g_watchCount g_partCount g_wrong g_changes g_log g_since g_placesLeft : Int32} {b_paths b_values b_open b_timeouts b_deadlines b_events b_eventCounts b_watchers b_watchKinds b_watchPaths b_parts b_happened b_how : Nat → Int32}
theorem zy_event {post : Int32 → SY → Prop} {p : Int32} (hq : zw_qok b_eventCounts) (h : post (zq_ev b_open b_events b_eventCounts p).1 (g_time, g_last, g_watchCount, g_partCount, g_wrong, g_changes, g_log, g_since, g_placesLeft, b_paths, b_values, b_open, b_timeouts, b_deadlines, (zq_ev b_open b_events b_eventCounts p).2.1, (zq_ev b_open b_events b_eventCounts p).2.2, b_watchers, b_watchKinds, b_watchPaths, b_parts, b_happened, b_how)) : wpY_event post (g_time, g_last, g_watchCount, g_partCount, g_wrong, g_changes, g_log, g_since, g_placesLeft, b_paths, b_values, b_open, b_timeouts, b_deadlines, b_events, b_eventCounts, b_watchers, b_watchKinds, b_watchPaths, b_parts, b_happened, b_how) p := by
  unfold wpY_event
  refine zy_isOpen (fun h0 => br_t rfl ?_) (fun s hs e h1 => br_f (by decide) ?_)
  · rw [zq_ev_n (fun s hs e => Or.inl (h0 s hs e))] at h
    exact h
  · subst e
    have hc := nI_clamp (n := s) (by omega)
    have i8 : (8 : Int32) * nI s = nI (8 * s) := pk_mul 8 s
    have c8 := nI_clamp (n := 8 * s) (by omega)
    refine zz_in rfl hs (by decide) ?_
    rw [hc]
    by_cases c : b_eventCounts s = 0
    · rw [zq_ev_n (fun s' hs' e => Or.inr (by rw [← (nI_eq (a := s) (b := s') (by omega) (by omega)).mp e]; exact c))] at h
      exact br_t c h
    · obtain ⟨a1, a2⟩ := hq s hs
      obtain ⟨m, hm, em, em2⟩ := zb_nI a1
      obtain ⟨m, rfl⟩ : ∃ m', m = m' + 1 := ⟨m - 1, by
        have : m ≠ 0 := fun z => c (by rw [em, z]; rfl)
        omega⟩
      have hm7 : m < 8 := by omega
      rw [zq_ev_s hs h1 em hm7] at h
      refine br_f c (zz_in i8 (by omega) (by decide) (nm_r (e' := b_events (8 * s)) (by rw [i8, c8]) ?_))
      refine zz_in rfl hs (by decide) (zz_sv rfl hs (by decide) (v' := nI m) ?_ ?_)
      · rw [em, nI_pred]
      · exact Exists.intro (m + 1) (zy_event_lp (q := b_events) (qd := upd b_eventCounts s (nI m)) hs hm7 pk_us h m 0 (by omega))
end
theorem zq_ev_ok {op q qd : Nat → Int32} {p : Int32} (h : zw_qok qd) : zw_qok (zq_ev op q qd p).2.2 := by
  unfold zq_ev
  by_cases c : 0 ≤ p.toInt ∧ p.toInt < 4 ∧ ¬ op p.toInt.toNat = 0 ∧ ¬ qd p.toInt.toNat = 0
  · rw [if_pos c]
    intro j hj
    have := h p.toInt.toNat (by omega)
    show 0 ≤ (upd qd p.toInt.toNat _ j).toInt ∧ (upd qd p.toInt.toNat _ j).toInt ≤ 8
    by_cases z : j = p.toInt.toNat
    · rw [z, pk_us, nI_toInt (by omega)]; omega
    · rw [pk_un z]; exact h j hj
  · rw [if_neg c]; exact h
theorem i_vc_event {k : Nat} {u : SX} {v : SY} (I : i_Rel k u v) (hk : k + 5 ≤ 2560) (v1 : Int32) : wpX_event (fun r u' => wpY_event (fun r' v' => r' = r ∧ i_Rel (k + 5) u' v') v v1) u v1 := by
  refine zi_el (P := fun u v => wpX_event (fun r u' => wpY_event (fun r' v' => r' = r ∧ i_Rel (k + 5) u' v') v v1) u v1) ?_ I
  intro f_nodes f_time f_latest f_entries f_logged f_complete f_taken f_sinceEntry f_sinceCount f_parts f_wrongPart f_watches a_path a_data a_version a_childVersion a_created a_setAt a_owner a_firstChild a_sibling a_bucket a_open a_timeout a_deadline a_eKind a_ePath a_eData a_eOwner a_eVersion a_eNumber a_iPath a_iData a_iVersion a_iChildVersion a_iCreated a_iSet a_iOwner a_iTimeout a_iLatest a_pKind a_pPath a_pA a_pB a_uEntry a_uSlot a_uData a_uVersion a_uSet a_uChildVersion a_uCreated a_uOwner a_wSession a_wKind a_wPath a_queue a_queued g_time g_last g_watchCount g_partCount g_wrong g_changes g_log g_since g_placesLeft b_paths b_values b_open b_timeouts b_deadlines b_events b_eventCounts b_watchers b_watchKinds b_watchPaths b_parts b_happened b_how R
  obtain ⟨C, ⟨W, q, qd⟩, N, lg, pc, cb, sn, M, T, ⟨q1, q2, q3, q4, q5, rfl, q7⟩, q8, ses, q9, ⟨w1, w2, w3, w4⟩, ⟨x1, x2, x3, x4⟩, q10⟩ := R
  dsimp only at w1 w2 w3 w4 x1 x2 x3 x4
  subst w2 w3 x2 x3
  refine zx_event w4 (zy_event w4 (And.intro rfl ?_))
  exact zi_mk (S := (W, (zq_ev b_open b_events b_eventCounts v1).2.1, (zq_ev b_open b_events b_eventCounts v1).2.2)) (zi_M_up M) T ⟨⟨q1, q2, q3, q4, q5, rfl, q7⟩, q8, ses, q9, ⟨w1, rfl, rfl, zq_ev_ok w4⟩, ⟨x1, rfl, rfl, zq_ev_ok w4⟩, q10⟩
end
section
/-- a watch is set -/
def zq_w (op : Nat → Int32) (C : zn_Mp) (W : List zw_E) (p1 p2 p3 : Int32) : Int32 × List zw_E :=
  if ¬ (0 ≤ p1.toInt ∧ p1.toInt < 4 ∧ ¬ op p1.toInt.toNat = 0) then (-1, W)
  else if ¬ (0 ≤ p2.toInt ∧ p2.toInt ≤ 2) then (-1, W)
  else if ¬ zp_ok p3 then (-2, W)
  else if (C p3).isNone = true ∧ p2.toInt < 2 then (-3, W)
  else if (p1, p2, p3) ∈ W then (0, W)
  else if W.length = 16 then (-6, W)
  else (1, W ++ [(p1, p2, p3)])
section
variable {op : Nat → Int32} {C : zn_Mp} {W : List zw_E} {p1 p2 p3 : Int32} {s kd : Nat}
theorem zq_w1 (h : ∀ s, s < 4 → p1 = nI s → op s = 0) : zq_w op C W p1 p2 p3 = (-1, W) := by
  unfold zq_w
  rw [if_pos]
  rintro ⟨a, b, c⟩
  obtain ⟨s, hs, rfl, e⟩ := zb_nI a
  rw [e] at c b
  exact c (h s (by omega) rfl)
theorem zq_wo (hs : s < 4) (ho : ¬ op s = 0) : ¬ ¬ (0 ≤ (nI s).toInt ∧ (nI s).toInt < 4 ∧ ¬ op (nI s).toInt.toNat = 0) := by
  rw [nI_toInt (by omega)]
  exact fun z => z ⟨by omega, by omega, by rw [show ((s : Int).toNat) = s from by omega]; exact ho⟩
theorem zq_w2 (hs : s < 4) (ho : ¬ op s = 0) (h : ¬ (0 ≤ p2.toInt ∧ p2.toInt ≤ 2)) : zq_w op C W (nI s) p2 p3 = (-1, W) := by
  unfold zq_w
  rw [if_neg (zq_wo hs ho), if_pos h]
theorem zq_wk (hk : kd < 3) : ¬ ¬ (0 ≤ (nI kd).toInt ∧ (nI kd).toInt ≤ 2) := by
  rw [nI_toInt (by omega)]
  exact fun z => z ⟨by omega, by omega⟩
theorem zq_w3 (hs : s < 4) (ho : ¬ op s = 0) (hk : kd < 3) (h : ¬ zp_ok p3) : zq_w op C W (nI s) (nI kd) p3 = (-2, W) := by
  unfold zq_w
  rw [if_neg (zq_wo hs ho), if_neg (zq_wk hk), if_pos h]
theorem zq_w4 (hs : s < 4) (ho : ¬ op s = 0) (hk : kd < 3) (hp : zp_ok p3) (hn : C p3 = none) (h2 : kd < 2) : zq_w op C W (nI s) (nI kd) p3 = (-3, W) := by
  unfold zq_w
  rw [if_neg (zq_wo hs ho), if_neg (zq_wk hk), if_neg (fun z => z hp), if_pos ⟨by rw [hn]; rfl, by rw [nI_toInt (by omega)]; omega⟩]
theorem zq_wn (hk : kd < 3) (hn : C p3 = none → 2 ≤ kd) : ¬ ((C p3).isNone = true ∧ (nI kd).toInt < 2) := by
  rintro ⟨a, b⟩
  have := hn (Option.isNone_iff_eq_none.mp a)
  rw [nI_toInt (by omega)] at b
  omega
theorem zq_w5 (hs : s < 4) (ho : ¬ op s = 0) (hk : kd < 3) (hp : zp_ok p3) (hn : C p3 = none → 2 ≤ kd) (hm : (nI s, nI kd, p3) ∈ W) : zq_w op C W (nI s) (nI kd) p3 = (0, W) := by
  unfold zq_w
  rw [if_neg (zq_wo hs ho), if_neg (zq_wk hk), if_neg (fun z => z hp), if_neg (zq_wn hk hn), if_pos hm]
theorem zq_w6 (hs : s < 4) (ho : ¬ op s = 0) (hk : kd < 3) (hp : zp_ok p3) (hn : C p3 = none → 2 ≤ kd) (hm : (nI s, nI kd, p3) ∉ W) (hl : W.length = 16) : zq_w op C W (nI s) (nI kd) p3 = (-6, W) := by
  unfold zq_w
  rw [if_neg (zq_wo hs ho), if_neg (zq_wk hk), if_neg (fun z => z hp), if_neg (zq_wn hk hn), if_neg hm, if_pos hl]
theorem zq_w7 (hs : s < 4) (ho : ¬ op s = 0) (hk : kd < 3) (hp : zp_ok p3) (hn : C p3 = none → 2 ≤ kd) (hm : (nI s, nI kd, p3) ∉ W) (hl : W.length < 16) : zq_w op C W (nI s) (nI kd) p3 = (1, W ++ [(nI s, nI kd, p3)]) := by
  unfold zq_w
  rw [if_neg (zq_wo hs ho), if_neg (zq_wk hk), if_neg (fun z => z hp), if_neg (zq_wn hk hn), if_neg hm, if_neg (by omega)]
theorem zw_R_snoc {n : Int32} {ws wk wp : Nat → Int32} (R : zw_R n ws wk wp W) (hs : s < 4) (hk : kd < 3) (hl : W.length < 16) : zw_R (nI (W.length + 1)) (upd ws W.length (nI s)) (upd wk W.length (nI kd)) (upd wp W.length p3) (W ++ [(nI s, nI kd, p3)]) := by
  have len : (W ++ [(nI s, nI kd, p3)]).length = W.length + 1 := by rw [List.length_append, List.length_singleton]
  refine ⟨by rw [len], by rw [len]; omega, ?_, fun e he => ?_⟩
  · refine zw_at_snoc (zw_at_cg R.2.2.1 fun i _ hi => ?_) ?_
    · rw [pk_un (by omega), pk_un (by omega), pk_un (by omega)]; exact ⟨rfl, rfl, rfl⟩
    · rw [Nat.zero_add, pk_us, pk_us, pk_us]
  · rw [List.mem_append, List.mem_singleton] at he
    rcases he with he | rfl
    · exact R.2.2.2 e he
    · exact ⟨⟨s, hs, rfl⟩, ⟨kd, hk, rfl⟩⟩
end
theorem zb_2 : (2 : Int32).toInt = 2 := by decide
section
variable {f_nodes f_time f_latest f_entries f_logged f_complete f_taken f_sinceEntry f_sinceCount f_parts f_wrongPart f_watches : Int32} {a_path a_data a_version a_childVersion a_created a_setAt a_owner a_firstChild a_sibling a_bucket a_open a_timeout a_deadline a_eKind a_ePath a_eData a_eOwner a_eVersion a_eNumber a_iPath a_iData a_iVersion a_iChildVersion a_iCreated a_iSet a_iOwner a_iTimeout a_iLatest a_pKind a_pPath a_pA a_pB a_uEntry a_uSlot a_uData a_uVersion a_uSet a_uChildVersion a_uCreated a_uOwner a_wSession a_wKind a_wPath a_queue a_queued : Nat → Int32}
theorem zx_watch_lp {post : Int32 → SX → Prop} {s kd : Nat} {p : Int32} {W : List zw_E} (hW : W.length ≤ 16) (hw : f_watches = nI W.length) (hs : s < 4) (hkd : kd < 3)
    (h0 : (nI s, nI kd, p) ∈ W → post 0 (f_nodes, f_time, f_latest, f_entries, f_logged, f_complete, f_taken, f_sinceEntry, f_sinceCount, f_parts, f_wrongPart, f_watches, a_path, a_data, a_version, a_childVersion, a_created, a_setAt, a_owner, a_firstChild, a_sibling, a_bucket, a_open, a_timeout, a_deadline, a_eKind, a_ePath, a_eData, a_eOwner, a_eVersion, a_eNumber, a_iPath, a_iData, a_iVersion, a_iChildVersion, a_iCreated, a_iSet, a_iOwner, a_iTimeout, a_iLatest, a_pKind, a_pPath, a_pA, a_pB, a_uEntry, a_uSlot, a_uData, a_uVersion, a_uSet, a_uChildVersion, a_uCreated, a_uOwner, a_wSession, a_wKind, a_wPath, a_queue, a_queued)) (h6 : (nI s, nI kd, p) ∉ W → W.length = 16 → post (-6) (f_nodes, f_time, f_latest, f_entries, f_logged, f_complete, f_taken, f_sinceEntry, f_sinceCount, f_parts, f_wrongPart, f_watches, a_path, a_data, a_version, a_childVersion, a_created, a_setAt, a_owner, a_firstChild, a_sibling, a_bucket, a_open, a_timeout, a_deadline, a_eKind, a_ePath, a_eData, a_eOwner, a_eVersion, a_eNumber, a_iPath, a_iData, a_iVersion, a_iChildVersion, a_iCreated, a_iSet, a_iOwner, a_iTimeout, a_iLatest, a_pKind, a_pPath, a_pA, a_pB, a_uEntry, a_uSlot, a_uData, a_uVersion, a_uSet, a_uChildVersion, a_uCreated, a_uOwner, a_wSession, a_wKind, a_wPath, a_queue, a_queued))
    (h1 : (nI s, nI kd, p) ∉ W → W.length < 16 → post 1 (f_nodes, f_time, f_latest, f_entries, f_logged, f_complete, f_taken, f_sinceEntry, f_sinceCount, f_parts, f_wrongPart, nI (W.length + 1), a_path, a_data, a_version, a_childVersion, a_created, a_setAt, a_owner, a_firstChild, a_sibling, a_bucket, a_open, a_timeout, a_deadline, a_eKind, a_ePath, a_eData, a_eOwner, a_eVersion, a_eNumber, a_iPath, a_iData, a_iVersion, a_iChildVersion, a_iCreated, a_iSet, a_iOwner, a_iTimeout, a_iLatest, a_pKind, a_pPath, a_pA, a_pB, a_uEntry, a_uSlot, a_uData, a_uVersion, a_uSet, a_uChildVersion, a_uCreated, a_uOwner, upd a_wSession W.length (nI s), upd a_wKind W.length (nI kd), upd a_wPath W.length p, a_queue, a_queued)) :
    ∀ (L D : List zw_E), W = D ++ L → zw_at a_wSession a_wKind a_wPath D.length L → (nI s, nI kd, p) ∉ D → wX_watch_52 post (nI s) (nI kd) p f_nodes f_time f_latest f_entries f_logged f_complete f_taken f_sinceEntry f_sinceCount f_parts f_wrongPart f_watches a_path a_data a_version a_childVersion a_created a_setAt a_owner a_firstChild a_sibling a_bucket a_open a_timeout a_deadline a_eKind a_ePath a_eData a_eOwner a_eVersion a_eNumber a_iPath a_iData a_iVersion a_iChildVersion a_iCreated a_iSet a_iOwner a_iTimeout a_iLatest a_pKind a_pPath a_pA a_pB a_uEntry a_uSlot a_uData a_uVersion a_uSet a_uChildVersion a_uCreated a_uOwner a_wSession a_wKind a_wPath a_queue a_queued (L.length + 1) (nI D.length) := by
  intro L
  induction L with
  | nil =>
    intro D hD _ hn
    rw [List.append_nil] at hD
    subst hD
    subst hw
    refine br_t (nI_le (Nat.le_refl _) (by omega)) (pk_eq W.length 16 (fun z => h6 hn z) (fun z => ?_))
    refine zz_st rfl (show W.length < 16 by omega) (by decide) (zb_narN2 (by omega)) ?_
    refine zz_st rfl (show W.length < 16 by omega) (by decide) (zb_narN2 (by omega)) ?_
    refine nm_r (nI_1 _) (zz_st rfl (show W.length < 16 by omega) (by decide) rfl (h1 hn (by omega)))
  | cons e L ih =>
    intro D hD ha hn
    have hlen : W.length = D.length + (L.length + 1) := by rw [hD, List.length_append, List.length_cons]
    have hc := nI_clamp (n := D.length) (by omega)
    obtain ⟨he, a3⟩ := ha
    have nxt : ¬ (nI s, nI kd, p) = e → wX_watch_52 post (nI s) (nI kd) p f_nodes f_time f_latest f_entries f_logged f_complete f_taken f_sinceEntry f_sinceCount f_parts f_wrongPart f_watches a_path a_data a_version a_childVersion a_created a_setAt a_owner a_firstChild a_sibling a_bucket a_open a_timeout a_deadline a_eKind a_ePath a_eData a_eOwner a_eVersion a_eNumber a_iPath a_iData a_iVersion a_iChildVersion a_iCreated a_iSet a_iOwner a_iTimeout a_iLatest a_pKind a_pPath a_pA a_pB a_uEntry a_uSlot a_uData a_uVersion a_uSet a_uChildVersion a_uCreated a_uOwner a_wSession a_wKind a_wPath a_queue a_queued (L.length + 1) (nI (D.length + 1)) := fun hne => by
      have := ih (D ++ [e]) (by rw [hD, List.append_assoc]; rfl) (by rw [List.length_append, List.length_singleton]; exact a3) (fun z => by
        rw [List.mem_append, List.mem_singleton] at z
        exact z.elim hn hne)
      rw [List.length_append, List.length_singleton] at this
      exact this
    refine br_f (by rw [hw]; exact nI_ge (by omega) (by omega)) (zz_in rfl (by omega) (by decide) ?_)
    rw [hc]
    by_cases c1 : a_wSession D.length = nI s
    · refine br_t c1 (zz_in rfl (by omega) (by decide) ?_)
      by_cases c2 : a_wKind D.length = nI kd
      · refine br_t c2 (zz_in rfl (by omega) (by decide) ?_)
        by_cases c3 : a_wPath D.length = p
        · refine br_t c3 (h0 ?_)
          rw [hD, ← c1, ← c2, ← c3, ← he]
          exact List.mem_append_right _ List.mem_cons_self
        · exact br_f c3 (nm_r (nI_1 _) (nxt fun z => c3 (by rw [he] at z; exact (congrArg (fun x => x.2.2) z).symm)))
      · exact br_f c2 (nm_r (nI_1 _) (nxt fun z => c2 (by rw [he] at z; exact (congrArg (fun x => x.2.1) z).symm)))
    · exact br_f c1 (nm_r (nI_1 _) (nxt fun z => c1 (by rw [he] at z; exact (congrArg (fun x => x.1) z).symm)))
theorem zx_watch {post : Int32 → SX → Prop} {C : zn_Mp} {W : List zw_E} {p1 p2 p3 : Int32} (H : zx_H f_nodes a_path a_data a_version a_childVersion a_created a_setAt a_owner a_bucket C) (R : zw_R f_watches a_wSession a_wKind a_wPath W)
    (h : ∀ (n : Int32) (ws wk wp : Nat → Int32), zw_R n ws wk wp (zq_w a_open C W p1 p2 p3).2 → post (zq_w a_open C W p1 p2 p3).1 (f_nodes, f_time, f_latest, f_entries, f_logged, f_complete, f_taken, f_sinceEntry, f_sinceCount, f_parts, f_wrongPart, n, a_path, a_data, a_version, a_childVersion, a_created, a_setAt, a_owner, a_firstChild, a_sibling, a_bucket, a_open, a_timeout, a_deadline, a_eKind, a_ePath, a_eData, a_eOwner, a_eVersion, a_eNumber, a_iPath, a_iData, a_iVersion, a_iChildVersion, a_iCreated, a_iSet, a_iOwner, a_iTimeout, a_iLatest, a_pKind, a_pPath, a_pA, a_pB, a_uEntry, a_uSlot, a_uData, a_uVersion, a_uSet, a_uChildVersion, a_uCreated, a_uOwner, ws, wk, wp, a_queue, a_queued)) : wpX_watch post (f_nodes, f_time, f_latest, f_entries, f_logged, f_complete, f_taken, f_sinceEntry, f_sinceCount, f_parts, f_wrongPart, f_watches, a_path, a_data, a_version, a_childVersion, a_created, a_setAt, a_owner, a_firstChild, a_sibling, a_bucket, a_open, a_timeout, a_deadline, a_eKind, a_ePath, a_eData, a_eOwner, a_eVersion, a_eNumber, a_iPath, a_iData, a_iVersion, a_iChildVersion, a_iCreated, a_iSet, a_iOwner, a_iTimeout, a_iLatest, a_pKind, a_pPath, a_pA, a_pB, a_uEntry, a_uSlot, a_uData, a_uVersion, a_uSet, a_uChildVersion, a_uCreated, a_uOwner, a_wSession, a_wKind, a_wPath, a_queue, a_queued) p1 p2 p3 := by
  unfold wpX_watch
  refine zx_isOpen (fun h0 => br_t rfl ?_) (fun s hs e ho => br_f (by decide) ?_)
  · rw [zq_w1 h0] at h
    exact h _ _ _ _ R
  subst e
  refine zx_outside (fun ha hb => br_t rfl ?_) (fun hn => br_f (by decide) ?_)
  · rw [zb_ge0] at ha
    rw [zb_le, zb_2] at hb
    obtain ⟨kd, hkd, rfl, ekd⟩ := zb_nI ha
    have hk : kd < 3 := by omega
    refine zx_isPath (fun hp => br_f (by decide) ?_) (fun hp => br_t rfl ?_)
    · have fin : (C p3 = none → 2 ≤ kd) → ∃ n52 : Nat, wX_watch_52 post (nI s) (nI kd) p3 f_nodes f_time f_latest f_entries f_logged f_complete f_taken f_sinceEntry f_sinceCount f_parts f_wrongPart f_watches a_path a_data a_version a_childVersion a_created a_setAt a_owner a_firstChild a_sibling a_bucket a_open a_timeout a_deadline a_eKind a_ePath a_eData a_eOwner a_eVersion a_eNumber a_iPath a_iData a_iVersion a_iChildVersion a_iCreated a_iSet a_iOwner a_iTimeout a_iLatest a_pKind a_pPath a_pA a_pB a_uEntry a_uSlot a_uData a_uVersion a_uSet a_uChildVersion a_uCreated a_uOwner a_wSession a_wKind a_wPath a_queue a_queued n52 0 := by
        intro hn
        refine Exists.intro (W.length + 1) (zx_watch_lp R.2.1 R.1 hs hk (fun hm => ?_) (fun hm hl => ?_) (fun hm hl => ?_) W [] rfl R.2.2.1 (by simp))
        · rw [zq_w5 hs ho hk hp hn hm] at h
          exact h _ _ _ _ R
        · rw [zq_w6 hs ho hk hp hn hm hl] at h
          exact h _ _ _ _ R
        · rw [zq_w7 hs ho hk hp hn hm hl] at h
          exact h _ _ _ _ (zw_R_snoc R hs hk hl)
      refine zx_find H (fun e => br_f (by decide) ?_) (fun sl hsl es s0 e => br_t (nI_pos' (by omega)) (fin fun z => by rw [e] at z; exact nomatch z))
      refine pk_le 2 kd (fun c => fin fun _ => c) (fun c => ?_)
      rw [zq_w4 hs ho hk hp e c] at h
      exact h _ _ _ _ R
    · rw [zq_w3 hs ho hk hp] at h
      exact h _ _ _ _ R
  · rw [zb_ge0, zb_le, zb_2] at hn
    rw [zq_w2 hs ho hn] at h
    exact h _ _ _ _ R
end
section
variable {g_time g_last g_watchCount g_partCount g_wrong g_changes g_log g_since g_placesLeft : Int32} {b_paths b_values b_open b_timeouts b_deadlines b_events b_eventCounts b_watchers b_watchKinds b_watchPaths b_parts b_happened b_how : Nat → Int32}
theorem zy_watch_lp {post : Int32 → SY → Prop} {s kd : Nat} {p : Int32} {W : List zw_E} (hW : W.length ≤ 16) (hw : g_watchCount = nI W.length) (hs : s < 4) (hkd : kd < 3)
    (h0 : (nI s, nI kd, p) ∈ W → post 0 (g_time, g_last, g_watchCount, g_partCount, g_wrong, g_changes, g_log, g_since, g_placesLeft, b_paths, b_values, b_open, b_timeouts, b_deadlines, b_events, b_eventCounts, b_watchers, b_watchKinds, b_watchPaths, b_parts, b_happened, b_how)) (h6 : (nI s, nI kd, p) ∉ W → W.length = 16 → post (-6) (g_time, g_last, g_watchCount, g_partCount, g_wrong, g_changes, g_log, g_since, g_placesLeft, b_paths, b_values, b_open, b_timeouts, b_deadlines, b_events, b_eventCounts, b_watchers, b_watchKinds, b_watchPaths, b_parts, b_happened, b_how))
    (h1 : (nI s, nI kd, p) ∉ W → W.length < 16 → post 1 (g_time, g_last, nI (W.length + 1), g_partCount, g_wrong, g_changes, g_log, g_since, g_placesLeft, b_paths, b_values, b_open, b_timeouts, b_deadlines, b_events, b_eventCounts, upd b_watchers W.length (nI s), upd b_watchKinds W.length (nI kd), upd b_watchPaths W.length p, b_parts, b_happened, b_how)) :
    ∀ (L D : List zw_E), W = D ++ L → zw_at b_watchers b_watchKinds b_watchPaths D.length L → (nI s, nI kd, p) ∉ D → wY_watch_48 post (nI s) (nI kd) p g_time g_last g_watchCount g_partCount g_wrong g_changes g_log g_since g_placesLeft b_paths b_values b_open b_timeouts b_deadlines b_events b_eventCounts b_watchers b_watchKinds b_watchPaths b_parts b_happened b_how (L.length + 1) (nI D.length) := by
  intro L
  induction L with
  | nil =>
    intro D hD _ hn
    rw [List.append_nil] at hD
    subst hD
    subst hw
    refine br_t (nI_le (Nat.le_refl _) (by omega)) (pk_eq W.length 16 (fun z => h6 hn z) (fun z => ?_))
    refine zz_st rfl (show W.length < 16 by omega) (by decide) rfl ?_
    refine zz_st rfl (show W.length < 16 by omega) (by decide) rfl ?_
    refine nm_r (nI_1 _) (zz_st rfl (show W.length < 16 by omega) (by decide) rfl (h1 hn (by omega)))
  | cons e L ih =>
    intro D hD ha hn
    have hlen : W.length = D.length + (L.length + 1) := by rw [hD, List.length_append, List.length_cons]
    have hc := nI_clamp (n := D.length) (by omega)
    obtain ⟨he, a3⟩ := ha
    have nxt : ¬ (nI s, nI kd, p) = e → wY_watch_48 post (nI s) (nI kd) p g_time g_last g_watchCount g_partCount g_wrong g_changes g_log g_since g_placesLeft b_paths b_values b_open b_timeouts b_deadlines b_events b_eventCounts b_watchers b_watchKinds b_watchPaths b_parts b_happened b_how (L.length + 1) (nI (D.length + 1)) := fun hne => by
      have := ih (D ++ [e]) (by rw [hD, List.append_assoc]; rfl) (by rw [List.length_append, List.length_singleton]; exact a3) (fun z => by
        rw [List.mem_append, List.mem_singleton] at z
        exact z.elim hn hne)
      rw [List.length_append, List.length_singleton] at this
      exact this
    refine br_f (by rw [hw]; exact nI_ge (by omega) (by omega)) (zz_in rfl (by omega) (by decide) ?_)
    rw [hc]
    by_cases c1 : b_watchers D.length = nI s
    · refine br_t c1 (zz_in rfl (by omega) (by decide) ?_)
      by_cases c2 : b_watchKinds D.length = nI kd
      · refine br_t c2 (zz_in rfl (by omega) (by decide) ?_)
        by_cases c3 : b_watchPaths D.length = p
        · refine br_t c3 (h0 ?_)
          rw [hD, ← c1, ← c2, ← c3, ← he]
          exact List.mem_append_right _ List.mem_cons_self
        · exact br_f c3 (nm_r (nI_1 _) (nxt fun z => c3 (by rw [he] at z; exact (congrArg (fun x => x.2.2) z).symm)))
      · exact br_f c2 (nm_r (nI_1 _) (nxt fun z => c2 (by rw [he] at z; exact (congrArg (fun x => x.2.1) z).symm)))
    · exact br_f c1 (nm_r (nI_1 _) (nxt fun z => c1 (by rw [he] at z; exact (congrArg (fun x => x.1) z).symm)))
theorem zy_watch {post : Int32 → SY → Prop} {nd : Nat → zn_Nd} {C : zn_Mp} {W : List zw_E} {p1 p2 p3 : Int32} (H : zr_Rep 21 b_paths nd C) (R : zw_R g_watchCount b_watchers b_watchKinds b_watchPaths W)
    (h : ∀ (n : Int32) (ws wk wp : Nat → Int32), zw_R n ws wk wp (zq_w b_open C W p1 p2 p3).2 → post (zq_w b_open C W p1 p2 p3).1 (g_time, g_last, n, g_partCount, g_wrong, g_changes, g_log, g_since, g_placesLeft, b_paths, b_values, b_open, b_timeouts, b_deadlines, b_events, b_eventCounts, ws, wk, wp, b_parts, b_happened, b_how)) : wpY_watch post (g_time, g_last, g_watchCount, g_partCount, g_wrong, g_changes, g_log, g_since, g_placesLeft, b_paths, b_values, b_open, b_timeouts, b_deadlines, b_events, b_eventCounts, b_watchers, b_watchKinds, b_watchPaths, b_parts, b_happened, b_how) p1 p2 p3 := by
  unfold wpY_watch
  refine zy_isOpen (fun h0 => br_t rfl ?_) (fun s hs e ho => br_f (by decide) ?_)
  · rw [zq_w1 h0] at h
    exact h _ _ _ _ R
  subst e
  by_cases c0 : p2 < 0
  · refine br_t c0 ?_
    rw [zb_lt0] at c0
    rw [zq_w2 hs ho (by omega)] at h
    exact h _ _ _ _ R
  refine br_f c0 ?_
  by_cases c2 : p2 ≤ 2
  · refine br_t c2 ?_
    rw [zb_lt0] at c0
    rw [zb_le, zb_2] at c2
    obtain ⟨kd, hkd, rfl, ekd⟩ := zb_nI (x := p2) (by omega)
    have hk : kd < 3 := by omega
    refine zy_isPath (fun hp => br_f (by decide) ?_) (fun hp => br_t rfl ?_)
    · have fin : (C p3 = none → 2 ≤ kd) → ∃ n48 : Nat, wY_watch_48 post (nI s) (nI kd) p3 g_time g_last g_watchCount g_partCount g_wrong g_changes g_log g_since g_placesLeft b_paths b_values b_open b_timeouts b_deadlines b_events b_eventCounts b_watchers b_watchKinds b_watchPaths b_parts b_happened b_how n48 0 := by
        intro hn
        refine Exists.intro (W.length + 1) (zy_watch_lp R.2.1 R.1 hs hk (fun hm => ?_) (fun hm hl => ?_) (fun hm hl => ?_) W [] rfl R.2.2.1 (by simp))
        · rw [zq_w5 hs ho hk hp hn hm] at h
          exact h _ _ _ _ R
        · rw [zq_w6 hs ho hk hp hn hm hl] at h
          exact h _ _ _ _ R
        · rw [zq_w7 hs ho hk hp hn hm hl] at h
          exact h _ _ _ _ (zw_R_snoc R hs hk hl)
      refine pk_le 2 kd (fun c => fin fun _ => c) (fun c => ?_)
      refine zy_find H (fun e => br_f (by decide) ?_) (fun j hj ej j0 e => br_t (nI_pos' (by omega)) (fin fun z => by rw [e] at z; exact nomatch z))
      rw [zq_w4 hs ho hk hp e c] at h
      exact h _ _ _ _ R
    · rw [zq_w3 hs ho hk hp] at h
      exact h _ _ _ _ R
  · refine br_f c2 ?_
    rw [zb_le, zb_2] at c2
    rw [zq_w2 hs ho (by omega)] at h
    exact h _ _ _ _ R
end
theorem i_vc_watch {k : Nat} {u : SX} {v : SY} (I : i_Rel k u v) (hk : k + 5 ≤ 2560) (v1 : Int32) (v2 : Int32) (v3 : Int32) : wpX_watch (fun r u' => wpY_watch (fun r' v' => r' = r ∧ i_Rel (k + 5) u' v') v v1 v2 v3) u v1 v2 v3 := by
  refine zi_el (P := fun u v => wpX_watch (fun r u' => wpY_watch (fun r' v' => r' = r ∧ i_Rel (k + 5) u' v') v v1 v2 v3) u v1 v2 v3) ?_ I
  intro f_nodes f_time f_latest f_entries f_logged f_complete f_taken f_sinceEntry f_sinceCount f_parts f_wrongPart f_watches a_path a_data a_version a_childVersion a_created a_setAt a_owner a_firstChild a_sibling a_bucket a_open a_timeout a_deadline a_eKind a_ePath a_eData a_eOwner a_eVersion a_eNumber a_iPath a_iData a_iVersion a_iChildVersion a_iCreated a_iSet a_iOwner a_iTimeout a_iLatest a_pKind a_pPath a_pA a_pB a_uEntry a_uSlot a_uData a_uVersion a_uSet a_uChildVersion a_uCreated a_uOwner a_wSession a_wKind a_wPath a_queue a_queued g_time g_last g_watchCount g_partCount g_wrong g_changes g_log g_since g_placesLeft b_paths b_values b_open b_timeouts b_deadlines b_events b_eventCounts b_watchers b_watchKinds b_watchPaths b_parts b_happened b_how R
  obtain ⟨C, ⟨W, q, qd⟩, N, lg, pc, cb, sn, M, T, ⟨q1, q2, q3, q4, q5, rfl, q7⟩, q8, ses, q9, ⟨w1, w2⟩, ⟨x1, x2⟩, q10⟩ := R
  refine zx_watch M.1.1 w1 (fun n ws wk wp R1 => zy_watch T.1 x1 (fun n' ws' wk' wp' R2 => And.intro rfl ?_))
  exact zi_mk (S := ((zq_w b_open C W v1 v2 v3).2, q, qd)) (zi_M_up M) T ⟨⟨q1, q2, q3, q4, q5, rfl, q7⟩, q8, ses, q9, ⟨R1, w2⟩, ⟨R2, x2⟩, q10⟩
end
section
/-! transactions of one request -/
theorem zq_cases {C : zn_Mp} {n k : Nat} {t s kind p a v : Int32} (hkd : kind = 0 ∨ kind = 1 ∨ kind = 2 ∨ kind = 3) {r : Int32} {o : Option zf_E} (hq : zq_rq C n k t s kind p a v = (r, o)) :
    (o = none ∧ (r < 0 ∨ kind = 3)) ∨
    (∃ u, zp_ok p ∧ ¬ p = 0 ∧ kind = 0 ∧ C (p / 101) = some u ∧ u.2.2.2.2.2 = -1 ∧ C (zq_m u.2.2.1 p v) = none ∧ ¬ n = 21 ∧ r = zq_m u.2.2.1 p v ∧ o = some (1, zq_m u.2.2.1 p v, a, if v.toInt % 2 = 1 then s else -1, u.2.2.1 + 1, t)) ∨
    (∃ u, zp_ok p ∧ kind = 1 ∧ C p = some u ∧ r = u.2.1 + 1 ∧ o = some (2, p, a, 0, u.2.1 + 1, t)) ∨
    (∃ u w, zp_ok p ∧ ¬ p = 0 ∧ kind = 2 ∧ C p = some u ∧ k = 0 ∧ C (p / 101) = some w ∧ r = w.2.2.1 + 1 ∧ o = some (3, p, 0, 0, w.2.2.1 + 1, t)) := by
  have neg : ∀ x : Int32, x < 0 → zq_rq C n k t s kind p a v = (x, none) → (o = none ∧ (r < 0 ∨ kind = 3)) := fun x hx e => by
    rw [e] at hq
    have h1 := congrArg Prod.fst hq
    have h2 := congrArg Prod.snd hq
    exact ⟨h2.symm, Or.inl (by rw [← show x = r from h1]; exact hx)⟩
  by_cases h2 : ¬ zp_ok p ∨ (p = 0 ∧ (kind = 0 ∨ kind = 2))
  · exact Or.inl (neg _ (by decide) (zq_2 h2))
  have hp : zp_ok p := Decidable.byContradiction fun z => h2 (Or.inl z)
  by_cases k0 : kind = 0
  · subst k0
    have p0 : ¬ p = 0 := fun z => h2 (Or.inr ⟨z, Or.inl rfl⟩)
    cases hu : C (p / 101) with
    | none => exact Or.inl (neg _ (by decide) (zq_c3 hp p0 hu))
    | some u =>
      by_cases ho : u.2.2.2.2.2 = -1
      · cases hm : C (zq_m u.2.2.1 p v) with
        | some y => exact Or.inl (neg _ (by decide) (zq_c5 hp p0 hu ho hm))
        | none =>
          by_cases hn : n = 21
          · exact Or.inl (neg _ (by decide) (zq_c6 hp p0 hu ho hm hn))
          · rw [zq_c hp p0 hu ho hm hn] at hq
            have h1 := congrArg Prod.fst hq
            have h2 := congrArg Prod.snd hq
            exact Or.inr (Or.inl ⟨u, hp, p0, rfl, rfl, ho, hm, hn, h1.symm, h2.symm⟩)
      · exact Or.inl (neg _ (by decide) (zq_c4 hp p0 hu ho))
  · have d1 : ¬ (p = 0 ∧ kind = 2) := fun z => h2 (Or.inr ⟨z.1, Or.inr z.2⟩)
    cases hu : C p with
    | none => exact Or.inl (neg _ (by decide) (zq_v3 k0 d1 hp hu))
    | some u =>
      by_cases hv : v = -1 ∨ v = u.2.1
      · rcases hkd with z | rfl | rfl | rfl
        · exact absurd z k0
        · rw [zq_s hp hu hv] at hq
          have h1 := congrArg Prod.fst hq
          have h2 := congrArg Prod.snd hq
          exact Or.inr (Or.inr (Or.inl ⟨u, hp, rfl, rfl, h1.symm, h2.symm⟩))
        · have p0 : ¬ p = 0 := fun z => d1 ⟨z, rfl⟩
          by_cases hk : 0 < k
          · exact Or.inl (neg _ (by decide) (zq_r8 hp p0 hu hv hk))
          · cases hw : C (p / 101) with
            | none =>
              have e : zq_rq C n k t s 2 p a v = (-3, none) := by
                unfold zq_rq; rw [if_neg h2, if_neg (by decide), hu]
                show (if v = -1 ∨ v = u.2.1 then _ else _) = _
                rw [if_pos hv, if_neg (by decide), if_neg (by decide), if_neg hk, hw]
              exact Or.inl (neg _ (by decide) e)
            | some w =>
              rw [zq_r hp p0 hu hv hk hw] at hq
              have h1 := congrArg Prod.fst hq
              have h2 := congrArg Prod.snd hq
              exact Or.inr (Or.inr (Or.inr ⟨u, w, hp, p0, rfl, rfl, by omega, rfl, h1.symm, h2.symm⟩))
        · rw [zq_v hp hu hv] at hq
          have h2 := congrArg Prod.snd hq
          exact Or.inl ⟨h2.symm, Or.inr rfl⟩
      · exact Or.inl (neg _ (by decide) (zq_v7 k0 d1 hp hu hv))
/-- what a request that is done gives -/
def zq_F (b : Nat) (C : zn_Mp) (t r : Int32) (e : zf_E) : Prop := 0 ≤ r.toInt ∧ zf_W e ∧ zf_q0 e ∧ zi_C (b + 1) (zf_ap e C) ∧ e.2.2.2.2.2 = t ∧ zp_ok e.2.1
theorem zq_facts {C : zn_Mp} {b n k ss : Nat} {t kind p a v : Int32} (hC : zi_C b C) (hb : b < 1000000000) (hss : ss < 4) (hk : k = 0 → ∀ q y, C q = some y → ¬ q = 0 → ¬ q / 101 = p) (hkd : kind = 0 ∨ kind = 1 ∨ kind = 2 ∨ kind = 3) {r : Int32} {e : zf_E}
    (hq : zq_rq C n k t (nI ss) kind p a v = (r, some e)) : zq_F b C t r e := by
  rcases zq_cases hkd hq with ⟨h, _⟩ | ⟨u, hp, p0, _, hu, ho, hm, _, hr, he⟩ | ⟨u, hp, _, hu, hr, he⟩ | ⟨u, w, hp, p0, _, hu, hk0, hw, hr, he⟩
  · exact nomatch h
  · have he := Option.some.inj he
    subst he
    have hcv := (hC.2 _ _ hu).2.2.2.1
    have mk : zp_ok (zq_m u.2.2.1 p v) ∧ ¬ zq_m u.2.2.1 p v = 0 ∧ zq_m u.2.2.1 p v / 101 = p / 101 := by
      unfold zq_m
      by_cases c : 1 < v.toInt
      · rw [if_pos c]
        obtain ⟨a1, a2, a3⟩ := zp_made (c := u.2.2.1) hp p0 hcv
        exact ⟨a1, a3, a2⟩
      · rw [if_neg c]; exact ⟨hp, p0, rfl⟩
    have ow : -1 ≤ (if v.toInt % 2 = 1 then nI ss else -1).toInt ∧ (if v.toInt % 2 = 1 then nI ss else -1).toInt ≤ 3 := by
      by_cases c : v.toInt % 2 = 1
      · rw [if_pos c, nI_toInt (by omega)]; omega
      · rw [if_neg c, zb_tm1]; omega
    refine ⟨by rw [hr]; exact mk.1.1, ⟨ow, Or.inr (Or.inl ⟨rfl, mk.1, mk.2.1, ow.1, ow.2⟩)⟩, ⟨?_, ?_⟩, ?_, rfl, mk.1⟩
    · show ¬ (1 : Int32) = 4; decide
    · show ¬ (1 : Int32) = 5; decide
    · exact zi_C1 hC hb mk.1 mk.2.1 (by rw [mk.2.2]; exact hu) ho hm ow.1 ow.2
  · have he := Option.some.inj he
    subst he
    obtain ⟨_, a2, a3, _⟩ := hC.2 _ _ hu
    refine ⟨by rw [hr]; exact (zb_inc a2 a3 hb).1, ⟨by show -1 ≤ (0 : Int32).toInt ∧ (0 : Int32).toInt ≤ 3; decide, Or.inr (Or.inr (Or.inl ⟨rfl, hp⟩))⟩, ⟨?_, ?_⟩, zi_C2 hC hb hu, rfl, hp⟩
    · show ¬ (2 : Int32) = 4; decide
    · show ¬ (2 : Int32) = 5; decide
  · have he := Option.some.inj he
    subst he
    obtain ⟨_, _, _, a4, a5, _⟩ := hC.2 _ _ hw
    refine ⟨by rw [hr]; exact (zb_inc a4 a5 hb).1, ⟨by show -1 ≤ (0 : Int32).toInt ∧ (0 : Int32).toInt ≤ 3; decide, Or.inr (Or.inr (Or.inr (Or.inl ⟨rfl, hp, p0⟩)))⟩, ⟨?_, ?_⟩, zi_C3 hC hb hp p0 hw (hk hk0), rfl, hp⟩
    · show ¬ (3 : Int32) = 4; decide
    · show ¬ (3 : Int32) = 5; decide
theorem zx_kids0 {C : zn_Mp} {path : Nat → Int32} {nd : Nat → zn_Nd} (R : zr_Rep 48 path nd C) {p : Int32} (h : zk_cn path p 0 = 0) : ∀ q y, C q = some y → ¬ q = 0 → ¬ q / 101 = p := by
  intro q y e q0 ep
  obtain ⟨s, hs, es, _, s0⟩ := zr_get R e
  have hpos : 0 < (path s).toInt := by
    rcases Int.lt_or_eq_of_le s0 with z | z
    · exact z
    · exact absurd (by rw [← es]; exact zb_inj (by rw [← z, zb_t0])) q0
  have : 0 < zk_cn path p 0 := zc_pos' hs (zr_oc_t.mpr ⟨s0, zk_P_t.mpr ⟨by rw [es]; exact ep, hpos⟩⟩)
  omega
section
variable {f_nodes f_time f_latest f_entries f_logged f_complete f_taken f_sinceEntry f_sinceCount f_parts f_wrongPart f_watches : Int32} {a_path a_data a_version a_childVersion a_created a_setAt a_owner a_firstChild a_sibling a_bucket a_open a_timeout a_deadline a_eKind a_ePath a_eData a_eOwner a_eVersion a_eNumber a_iPath a_iData a_iVersion a_iChildVersion a_iCreated a_iSet a_iOwner a_iTimeout a_iLatest a_pKind a_pPath a_pA a_pB a_uEntry a_uSlot a_uData a_uVersion a_uSet a_uChildVersion a_uCreated a_uOwner a_wSession a_wKind a_wPath a_queue a_queued : Nat → Int32}
theorem zx_single0 {post : Int32 → SX → Prop} {N : Nat} {r : Int32} (hN : N < 400) (he : f_entries = nI N) (h : post r (f_nodes, f_time, f_latest, f_entries, f_logged, f_complete, f_taken, f_sinceEntry, f_sinceCount, f_parts, f_wrongPart, f_watches, a_path, a_data, a_version, a_childVersion, a_created, a_setAt, a_owner, a_firstChild, a_sibling, a_bucket, a_open, a_timeout, a_deadline, a_eKind, a_ePath, a_eData, a_eOwner, a_eVersion, a_eNumber, a_iPath, a_iData, a_iVersion, a_iChildVersion, a_iCreated, a_iSet, a_iOwner, a_iTimeout, a_iLatest, a_pKind, a_pPath, a_pA, a_pB, a_uEntry, a_uSlot, a_uData, a_uVersion, a_uSet, a_uChildVersion, a_uCreated, a_uOwner, a_wSession, a_wKind, a_wPath, a_queue, a_queued)) : wpX_single post (f_nodes, f_time, f_latest, f_entries, f_logged, f_complete, f_taken, f_sinceEntry, f_sinceCount, f_parts, f_wrongPart, f_watches, a_path, a_data, a_version, a_childVersion, a_created, a_setAt, a_owner, a_firstChild, a_sibling, a_bucket, a_open, a_timeout, a_deadline, a_eKind, a_ePath, a_eData, a_eOwner, a_eVersion, a_eNumber, a_iPath, a_iData, a_iVersion, a_iChildVersion, a_iCreated, a_iSet, a_iOwner, a_iTimeout, a_iLatest, a_pKind, a_pPath, a_pA, a_pB, a_uEntry, a_uSlot, a_uData, a_uVersion, a_uSet, a_uChildVersion, a_uCreated, a_uOwner, a_wSession, a_wKind, a_wPath, a_queue, a_queued) (nI N) r := by
  subst he
  exact br_t (nI_le (Nat.le_refl _) (by omega)) h
theorem zx_single1 {post : Int32 → SX → Prop} {N : Nat} {r : Int32} {S : zw_S} (hN : N < 400) (he : f_entries = nI (N + 1)) (R : zw_X f_watches a_wSession a_wKind a_wPath a_queue a_queued S)
    (h : ∀ (f_watches1 : Int32) (a_wSession1 a_wKind1 a_wPath1 a_queue1 a_queued1 : Nat → Int32), zw_X f_watches1 a_wSession1 a_wKind1 a_wPath1 a_queue1 a_queued1 (zw_tell (a_eKind N) (a_ePath N) S) → post r (f_nodes, f_time, f_latest + 1, f_entries, f_logged + 1, f_complete, f_taken, f_sinceEntry, f_sinceCount, f_parts, f_wrongPart, f_watches1, a_path, a_data, a_version, a_childVersion, a_created, a_setAt, a_owner, a_firstChild, a_sibling, a_bucket, a_open, a_timeout, a_deadline, a_eKind, a_ePath, a_eData, a_eOwner, a_eVersion, a_eNumber, a_iPath, a_iData, a_iVersion, a_iChildVersion, a_iCreated, a_iSet, a_iOwner, a_iTimeout, a_iLatest, a_pKind, a_pPath, a_pA, a_pB, a_uEntry, a_uSlot, a_uData, a_uVersion, a_uSet, a_uChildVersion, a_uCreated, a_uOwner, a_wSession1, a_wKind1, a_wPath1, a_queue1, a_queued1)) : wpX_single post (f_nodes, f_time, f_latest, f_entries, f_logged, f_complete, f_taken, f_sinceEntry, f_sinceCount, f_parts, f_wrongPart, f_watches, a_path, a_data, a_version, a_childVersion, a_created, a_setAt, a_owner, a_firstChild, a_sibling, a_bucket, a_open, a_timeout, a_deadline, a_eKind, a_ePath, a_eData, a_eOwner, a_eVersion, a_eNumber, a_iPath, a_iData, a_iVersion, a_iChildVersion, a_iCreated, a_iSet, a_iOwner, a_iTimeout, a_iLatest, a_pKind, a_pPath, a_pA, a_pB, a_uEntry, a_uSlot, a_uData, a_uVersion, a_uSet, a_uChildVersion, a_uCreated, a_uOwner, a_wSession, a_wKind, a_wPath, a_queue, a_queued) (nI N) r := by
  refine br_f (by rw [he]; exact nI_ge (by omega) (by omega)) (zx_commit (N := N + 1) (by omega) (by omega) he R (fun f_watches1 a_wSession1 a_wKind1 a_wPath1 a_queue1 a_queued1 R1 => ?_))
  rw [show N + 1 - N = 1 from by omega] at R1
  exact h _ _ _ _ _ _ R1
/-- may it ask -/
theorem zx_barred {post : Int32 → Prop} {p : Int32} {lg : Nat} (hl : f_logged = nI lg) (hlg : lg < 100) (h1 : (∀ s, s < 4 → p = nI s → a_open s = 0) → post (-1)) (h9 : ∀ s, s < 4 → p = nI s → ¬ a_open s = 0 → 40 ≤ lg → post (-9)) (h0 : ∀ s, s < 4 → p = nI s → ¬ a_open s = 0 → lg < 40 → post 0) : wpX_barred post (f_nodes, f_time, f_latest, f_entries, f_logged, f_complete, f_taken, f_sinceEntry, f_sinceCount, f_parts, f_wrongPart, f_watches, a_path, a_data, a_version, a_childVersion, a_created, a_setAt, a_owner, a_firstChild, a_sibling, a_bucket, a_open, a_timeout, a_deadline, a_eKind, a_ePath, a_eData, a_eOwner, a_eVersion, a_eNumber, a_iPath, a_iData, a_iVersion, a_iChildVersion, a_iCreated, a_iSet, a_iOwner, a_iTimeout, a_iLatest, a_pKind, a_pPath, a_pA, a_pB, a_uEntry, a_uSlot, a_uData, a_uVersion, a_uSet, a_uChildVersion, a_uCreated, a_uOwner, a_wSession, a_wKind, a_wPath, a_queue, a_queued) p := by
  unfold wpX_barred
  exact zx_isOpen (fun h => br_t rfl (h1 h)) (fun s hs e h => br_f (by decide) (pk_lt lg 40 (fun c => h0 s hs e h c) (fun c => h9 s hs e h c) (hx := hl)))
/-- a request alone, on the component's side -/
theorem zx_oneC {post : Int32 → SX → Prop} {C : zn_Mp} {S : zw_S} {b N lg k : Nat} {p1 p2 p3 p4 : Int32} (H : zx_T f_nodes a_path a_data a_version a_childVersion a_created a_setAt a_owner a_firstChild a_sibling a_bucket C) (hC : zi_C b C) (hN : N < 400) (he : f_entries = nI N) (hl : f_logged = nI lg) (hlg : lg < 100) (R : zw_X f_watches a_wSession a_wKind a_wPath a_queue a_queued S)
    (h1 : ((∀ s, s < 4 → p1 = nI s → a_open s = 0) ∨ ¬ (0 ≤ p4.toInt ∧ p4.toInt ≤ 3)) → post (-1) (f_nodes, f_time, f_latest, f_entries, f_logged, f_complete, f_taken, f_sinceEntry, f_sinceCount, f_parts, f_wrongPart, f_watches, a_path, a_data, a_version, a_childVersion, a_created, a_setAt, a_owner, a_firstChild, a_sibling, a_bucket, a_open, a_timeout, a_deadline, a_eKind, a_ePath, a_eData, a_eOwner, a_eVersion, a_eNumber, a_iPath, a_iData, a_iVersion, a_iChildVersion, a_iCreated, a_iSet, a_iOwner, a_iTimeout, a_iLatest, a_pKind, a_pPath, a_pA, a_pB, a_uEntry, a_uSlot, a_uData, a_uVersion, a_uSet, a_uChildVersion, a_uCreated, a_uOwner, a_wSession, a_wKind, a_wPath, a_queue, a_queued))
    (h9 : ∀ s, s < 4 → p1 = nI s → ¬ a_open s = 0 → (0 ≤ p4.toInt ∧ p4.toInt ≤ 3) → 40 ≤ lg → post (-9) (f_nodes, f_time, f_latest, f_entries, f_logged, f_complete, f_taken, f_sinceEntry, f_sinceCount, f_parts, f_wrongPart, f_watches, a_path, a_data, a_version, a_childVersion, a_created, a_setAt, a_owner, a_firstChild, a_sibling, a_bucket, a_open, a_timeout, a_deadline, a_eKind, a_ePath, a_eData, a_eOwner, a_eVersion, a_eNumber, a_iPath, a_iData, a_iVersion, a_iChildVersion, a_iCreated, a_iSet, a_iOwner, a_iTimeout, a_iLatest, a_pKind, a_pPath, a_pA, a_pB, a_uEntry, a_uSlot, a_uData, a_uVersion, a_uSet, a_uChildVersion, a_uCreated, a_uOwner, a_wSession, a_wKind, a_wPath, a_queue, a_queued))
    (hn : ∀ s, s < 4 → p1 = nI s → ¬ a_open s = 0 → (0 ≤ p4.toInt ∧ p4.toInt ≤ 3) → lg < 40 → ∀ r, zq_rq C (zr_n a_path 48) k (f_latest + 1) p1 0 p2 p3 p4 = (r, none) → post r (f_nodes, f_time, f_latest, f_entries, f_logged, f_complete, f_taken, f_sinceEntry, f_sinceCount, f_parts, f_wrongPart, f_watches, a_path, a_data, a_version, a_childVersion, a_created, a_setAt, a_owner, a_firstChild, a_sibling, a_bucket, a_open, a_timeout, a_deadline, a_eKind, a_ePath, a_eData, a_eOwner, a_eVersion, a_eNumber, a_iPath, a_iData, a_iVersion, a_iChildVersion, a_iCreated, a_iSet, a_iOwner, a_iTimeout, a_iLatest, a_pKind, a_pPath, a_pA, a_pB, a_uEntry, a_uSlot, a_uData, a_uVersion, a_uSet, a_uChildVersion, a_uCreated, a_uOwner, a_wSession, a_wKind, a_wPath, a_queue, a_queued))
    (h : ∀ s, s < 4 → p1 = nI s → ¬ a_open s = 0 → (0 ≤ p4.toInt ∧ p4.toInt ≤ 3) → lg < 40 → ∀ r e, zq_rq C (zr_n a_path 48) k (f_latest + 1) p1 0 p2 p3 p4 = (r, some e) → ∀ (f_nodes1 : Int32) (a_path1 a_data1 a_version1 a_childVersion1 a_created1 a_setAt1 a_owner1 a_firstChild1 a_sibling1 a_bucket1 : Nat → Int32) (a_eKind1 a_ePath1 a_eData1 a_eOwner1 a_eVersion1 a_eNumber1 : Nat → Int32) (f_watches1 : Int32) (a_wSession1 a_wKind1 a_wPath1 a_queue1 a_queued1 : Nat → Int32), zx_Step e N C f_nodes a_path a_data a_version a_childVersion a_created a_setAt a_owner a_firstChild a_sibling a_bucket a_eKind a_ePath a_eData a_eOwner a_eVersion a_eNumber f_nodes1 a_path1 a_data1 a_version1 a_childVersion1 a_created1 a_setAt1 a_owner1 a_firstChild1 a_sibling1 a_bucket1 a_eKind1 a_ePath1 a_eData1 a_eOwner1 a_eVersion1 a_eNumber1 → zw_X f_watches1 a_wSession1 a_wKind1 a_wPath1 a_queue1 a_queued1 (zw_tell e.1 e.2.1 S) →
      post r (f_nodes1, f_time, f_latest + 1, nI (N + 1), f_logged + 1, f_complete, f_taken, f_sinceEntry, f_sinceCount, f_parts, f_wrongPart, f_watches1, a_path1, a_data1, a_version1, a_childVersion1, a_created1, a_setAt1, a_owner1, a_firstChild1, a_sibling1, a_bucket1, a_open, a_timeout, a_deadline, a_eKind1, a_ePath1, a_eData1, a_eOwner1, a_eVersion1, a_eNumber1, a_iPath, a_iData, a_iVersion, a_iChildVersion, a_iCreated, a_iSet, a_iOwner, a_iTimeout, a_iLatest, a_pKind, a_pPath, a_pA, a_pB, a_uEntry, a_uSlot, a_uData, a_uVersion, a_uSet, a_uChildVersion, a_uCreated, a_uOwner, a_wSession1, a_wKind1, a_wPath1, a_queue1, a_queued1)) :
    wpX_create post (f_nodes, f_time, f_latest, f_entries, f_logged, f_complete, f_taken, f_sinceEntry, f_sinceCount, f_parts, f_wrongPart, f_watches, a_path, a_data, a_version, a_childVersion, a_created, a_setAt, a_owner, a_firstChild, a_sibling, a_bucket, a_open, a_timeout, a_deadline, a_eKind, a_ePath, a_eData, a_eOwner, a_eVersion, a_eNumber, a_iPath, a_iData, a_iVersion, a_iChildVersion, a_iCreated, a_iSet, a_iOwner, a_iTimeout, a_iLatest, a_pKind, a_pPath, a_pA, a_pB, a_uEntry, a_uSlot, a_uData, a_uVersion, a_uSet, a_uChildVersion, a_uCreated, a_uOwner, a_wSession, a_wKind, a_wPath, a_queue, a_queued) p1 p2 p3 p4 := by
  unfold wpX_create
  refine zx_outside (fun ha hb => br_t rfl ?_) (fun hn => br_f (by decide) (h1 (Or.inr ?_)))
  · rw [zb_ge0] at ha
    rw [zb_le, zb_3] at hb
    obtain ⟨f, hf, rfl, ef⟩ := zb_nI ha
    refine zx_barred hl hlg (fun z => br_f (by decide) (h1 (Or.inl z))) (fun s hs e ho c => br_f (by decide) (h9 s hs e ho ⟨ha, hb⟩ c)) (fun s hs e ho c => br_t (by decide) ?_)
    subst e
    refine zx_create (k := k) H hC hN he (by omega) hs (fun r hr => ?_) (fun r e hr f_nodes1 a_path1 a_data1 a_version1 a_childVersion1 a_created1 a_setAt1 a_owner1 a_firstChild1 a_sibling1 a_bucket1 a_eKind1 a_ePath1 a_eData1 a_eOwner1 a_eVersion1 a_eNumber1 St => ?_)
    · rw [he]
      exact zx_single0 hN rfl (by rw [← he]; exact hn s hs rfl ho ⟨ha, hb⟩ c r hr)
    · rw [he]
      refine zx_single1 hN rfl R (fun f_watches1 a_wSession1 a_wKind1 a_wPath1 a_queue1 a_queued1 R1 => ?_)
      have e1 : a_eKind1 N = e.1 := congrArg (fun x => x.1) St.2.2.2
      have e2 : a_ePath1 N = e.2.1 := congrArg (fun x => x.2.1) St.2.2.2
      rw [e1, e2] at R1
      exact h s hs rfl ho ⟨ha, hb⟩ c r e hr _ _ _ _ _ _ _ _ _ _ _ _ _ _ _ _ _ _ _ _ _ _ _ St R1
  · rw [zb_ge0, zb_le, zb_3] at hn
    exact hn
theorem zx_oneS {post : Int32 → SX → Prop} {C : zn_Mp} {S : zw_S} {N lg n k : Nat} {p1 p2 p3 p4 : Int32} (H : zx_T f_nodes a_path a_data a_version a_childVersion a_created a_setAt a_owner a_firstChild a_sibling a_bucket C) (hN : N < 400) (he : f_entries = nI N) (hl : f_logged = nI lg) (hlg : lg < 100) (R : zw_X f_watches a_wSession a_wKind a_wPath a_queue a_queued S)
    (h1 : (∀ s, s < 4 → p1 = nI s → a_open s = 0) → post (-1) (f_nodes, f_time, f_latest, f_entries, f_logged, f_complete, f_taken, f_sinceEntry, f_sinceCount, f_parts, f_wrongPart, f_watches, a_path, a_data, a_version, a_childVersion, a_created, a_setAt, a_owner, a_firstChild, a_sibling, a_bucket, a_open, a_timeout, a_deadline, a_eKind, a_ePath, a_eData, a_eOwner, a_eVersion, a_eNumber, a_iPath, a_iData, a_iVersion, a_iChildVersion, a_iCreated, a_iSet, a_iOwner, a_iTimeout, a_iLatest, a_pKind, a_pPath, a_pA, a_pB, a_uEntry, a_uSlot, a_uData, a_uVersion, a_uSet, a_uChildVersion, a_uCreated, a_uOwner, a_wSession, a_wKind, a_wPath, a_queue, a_queued))
    (h9 : ∀ s, s < 4 → p1 = nI s → ¬ a_open s = 0 → 40 ≤ lg → post (-9) (f_nodes, f_time, f_latest, f_entries, f_logged, f_complete, f_taken, f_sinceEntry, f_sinceCount, f_parts, f_wrongPart, f_watches, a_path, a_data, a_version, a_childVersion, a_created, a_setAt, a_owner, a_firstChild, a_sibling, a_bucket, a_open, a_timeout, a_deadline, a_eKind, a_ePath, a_eData, a_eOwner, a_eVersion, a_eNumber, a_iPath, a_iData, a_iVersion, a_iChildVersion, a_iCreated, a_iSet, a_iOwner, a_iTimeout, a_iLatest, a_pKind, a_pPath, a_pA, a_pB, a_uEntry, a_uSlot, a_uData, a_uVersion, a_uSet, a_uChildVersion, a_uCreated, a_uOwner, a_wSession, a_wKind, a_wPath, a_queue, a_queued))
    (hn : ∀ s, s < 4 → p1 = nI s → ¬ a_open s = 0 → lg < 40 → ∀ r, zq_rq C n k (f_latest + 1) p1 1 p2 p3 p4 = (r, none) → post r (f_nodes, f_time, f_latest, f_entries, f_logged, f_complete, f_taken, f_sinceEntry, f_sinceCount, f_parts, f_wrongPart, f_watches, a_path, a_data, a_version, a_childVersion, a_created, a_setAt, a_owner, a_firstChild, a_sibling, a_bucket, a_open, a_timeout, a_deadline, a_eKind, a_ePath, a_eData, a_eOwner, a_eVersion, a_eNumber, a_iPath, a_iData, a_iVersion, a_iChildVersion, a_iCreated, a_iSet, a_iOwner, a_iTimeout, a_iLatest, a_pKind, a_pPath, a_pA, a_pB, a_uEntry, a_uSlot, a_uData, a_uVersion, a_uSet, a_uChildVersion, a_uCreated, a_uOwner, a_wSession, a_wKind, a_wPath, a_queue, a_queued))
    (h : ∀ s, s < 4 → p1 = nI s → ¬ a_open s = 0 → lg < 40 → ∀ r e, zq_rq C n k (f_latest + 1) p1 1 p2 p3 p4 = (r, some e) → ∀ (f_nodes1 : Int32) (a_path1 a_data1 a_version1 a_childVersion1 a_created1 a_setAt1 a_owner1 a_firstChild1 a_sibling1 a_bucket1 : Nat → Int32) (a_eKind1 a_ePath1 a_eData1 a_eOwner1 a_eVersion1 a_eNumber1 : Nat → Int32) (f_watches1 : Int32) (a_wSession1 a_wKind1 a_wPath1 a_queue1 a_queued1 : Nat → Int32), zx_Step e N C f_nodes a_path a_data a_version a_childVersion a_created a_setAt a_owner a_firstChild a_sibling a_bucket a_eKind a_ePath a_eData a_eOwner a_eVersion a_eNumber f_nodes1 a_path1 a_data1 a_version1 a_childVersion1 a_created1 a_setAt1 a_owner1 a_firstChild1 a_sibling1 a_bucket1 a_eKind1 a_ePath1 a_eData1 a_eOwner1 a_eVersion1 a_eNumber1 → zw_X f_watches1 a_wSession1 a_wKind1 a_wPath1 a_queue1 a_queued1 (zw_tell e.1 e.2.1 S) →
      post r (f_nodes1, f_time, f_latest + 1, nI (N + 1), f_logged + 1, f_complete, f_taken, f_sinceEntry, f_sinceCount, f_parts, f_wrongPart, f_watches1, a_path1, a_data1, a_version1, a_childVersion1, a_created1, a_setAt1, a_owner1, a_firstChild1, a_sibling1, a_bucket1, a_open, a_timeout, a_deadline, a_eKind1, a_ePath1, a_eData1, a_eOwner1, a_eVersion1, a_eNumber1, a_iPath, a_iData, a_iVersion, a_iChildVersion, a_iCreated, a_iSet, a_iOwner, a_iTimeout, a_iLatest, a_pKind, a_pPath, a_pA, a_pB, a_uEntry, a_uSlot, a_uData, a_uVersion, a_uSet, a_uChildVersion, a_uCreated, a_uOwner, a_wSession1, a_wKind1, a_wPath1, a_queue1, a_queued1)) :
    wpX_set post (f_nodes, f_time, f_latest, f_entries, f_logged, f_complete, f_taken, f_sinceEntry, f_sinceCount, f_parts, f_wrongPart, f_watches, a_path, a_data, a_version, a_childVersion, a_created, a_setAt, a_owner, a_firstChild, a_sibling, a_bucket, a_open, a_timeout, a_deadline, a_eKind, a_ePath, a_eData, a_eOwner, a_eVersion, a_eNumber, a_iPath, a_iData, a_iVersion, a_iChildVersion, a_iCreated, a_iSet, a_iOwner, a_iTimeout, a_iLatest, a_pKind, a_pPath, a_pA, a_pB, a_uEntry, a_uSlot, a_uData, a_uVersion, a_uSet, a_uChildVersion, a_uCreated, a_uOwner, a_wSession, a_wKind, a_wPath, a_queue, a_queued) p1 p2 p3 p4 := by
  unfold wpX_set
  refine zx_barred hl hlg (fun z => br_f (by decide) (h1 z)) (fun s hs e ho c => br_f (by decide) (h9 s hs e ho c)) (fun s hs e ho c => br_t (by decide) ?_)
  refine zx_set (n := n) (k := k) (ss := p1) H hN he (fun r hr _ => ?_) (fun r e2 hr f_nodes1 a_path1 a_data1 a_version1 a_childVersion1 a_created1 a_setAt1 a_owner1 a_firstChild1 a_sibling1 a_bucket1 a_eKind1 a_ePath1 a_eData1 a_eOwner1 a_eVersion1 a_eNumber1 St => ?_)
  · rw [he]
    exact zx_single0 hN rfl (by rw [← he]; exact hn s hs e ho c r hr)
  · rw [he]
    refine zx_single1 hN rfl R (fun f_watches1 a_wSession1 a_wKind1 a_wPath1 a_queue1 a_queued1 R1 => ?_)
    have e1 : a_eKind1 N = e2.1 := congrArg (fun x => x.1) St.2.2.2
    have e3 : a_ePath1 N = e2.2.1 := congrArg (fun x => x.2.1) St.2.2.2
    rw [e1, e3] at R1
    exact h s hs e ho c r e2 hr _ _ _ _ _ _ _ _ _ _ _ _ _ _ _ _ _ _ _ _ _ _ _ St R1
theorem zx_oneR {post : Int32 → SX → Prop} {C : zn_Mp} {S : zw_S} {b N lg n : Nat} {p1 p2 p3 : Int32} (H : zx_T f_nodes a_path a_data a_version a_childVersion a_created a_setAt a_owner a_firstChild a_sibling a_bucket C) (hC : zi_C b C) (hN : N < 400) (he : f_entries = nI N) (hl : f_logged = nI lg) (hlg : lg < 100) (R : zw_X f_watches a_wSession a_wKind a_wPath a_queue a_queued S)
    (h1 : (∀ s, s < 4 → p1 = nI s → a_open s = 0) → post (-1) (f_nodes, f_time, f_latest, f_entries, f_logged, f_complete, f_taken, f_sinceEntry, f_sinceCount, f_parts, f_wrongPart, f_watches, a_path, a_data, a_version, a_childVersion, a_created, a_setAt, a_owner, a_firstChild, a_sibling, a_bucket, a_open, a_timeout, a_deadline, a_eKind, a_ePath, a_eData, a_eOwner, a_eVersion, a_eNumber, a_iPath, a_iData, a_iVersion, a_iChildVersion, a_iCreated, a_iSet, a_iOwner, a_iTimeout, a_iLatest, a_pKind, a_pPath, a_pA, a_pB, a_uEntry, a_uSlot, a_uData, a_uVersion, a_uSet, a_uChildVersion, a_uCreated, a_uOwner, a_wSession, a_wKind, a_wPath, a_queue, a_queued))
    (h9 : ∀ s, s < 4 → p1 = nI s → ¬ a_open s = 0 → 40 ≤ lg → post (-9) (f_nodes, f_time, f_latest, f_entries, f_logged, f_complete, f_taken, f_sinceEntry, f_sinceCount, f_parts, f_wrongPart, f_watches, a_path, a_data, a_version, a_childVersion, a_created, a_setAt, a_owner, a_firstChild, a_sibling, a_bucket, a_open, a_timeout, a_deadline, a_eKind, a_ePath, a_eData, a_eOwner, a_eVersion, a_eNumber, a_iPath, a_iData, a_iVersion, a_iChildVersion, a_iCreated, a_iSet, a_iOwner, a_iTimeout, a_iLatest, a_pKind, a_pPath, a_pA, a_pB, a_uEntry, a_uSlot, a_uData, a_uVersion, a_uSet, a_uChildVersion, a_uCreated, a_uOwner, a_wSession, a_wKind, a_wPath, a_queue, a_queued))
    (hn : ∀ s, s < 4 → p1 = nI s → ¬ a_open s = 0 → lg < 40 → ∀ r, zq_rq C n (zk_cn a_path p2 0) (f_latest + 1) p1 2 p2 0 p3 = (r, none) → post r (f_nodes, f_time, f_latest, f_entries, f_logged, f_complete, f_taken, f_sinceEntry, f_sinceCount, f_parts, f_wrongPart, f_watches, a_path, a_data, a_version, a_childVersion, a_created, a_setAt, a_owner, a_firstChild, a_sibling, a_bucket, a_open, a_timeout, a_deadline, a_eKind, a_ePath, a_eData, a_eOwner, a_eVersion, a_eNumber, a_iPath, a_iData, a_iVersion, a_iChildVersion, a_iCreated, a_iSet, a_iOwner, a_iTimeout, a_iLatest, a_pKind, a_pPath, a_pA, a_pB, a_uEntry, a_uSlot, a_uData, a_uVersion, a_uSet, a_uChildVersion, a_uCreated, a_uOwner, a_wSession, a_wKind, a_wPath, a_queue, a_queued))
    (h : ∀ s, s < 4 → p1 = nI s → ¬ a_open s = 0 → lg < 40 → ∀ r e, zq_rq C n (zk_cn a_path p2 0) (f_latest + 1) p1 2 p2 0 p3 = (r, some e) → ∀ (f_nodes1 : Int32) (a_path1 a_data1 a_version1 a_childVersion1 a_created1 a_setAt1 a_owner1 a_firstChild1 a_sibling1 a_bucket1 : Nat → Int32) (a_eKind1 a_ePath1 a_eData1 a_eOwner1 a_eVersion1 a_eNumber1 : Nat → Int32) (f_watches1 : Int32) (a_wSession1 a_wKind1 a_wPath1 a_queue1 a_queued1 : Nat → Int32), zx_Step e N C f_nodes a_path a_data a_version a_childVersion a_created a_setAt a_owner a_firstChild a_sibling a_bucket a_eKind a_ePath a_eData a_eOwner a_eVersion a_eNumber f_nodes1 a_path1 a_data1 a_version1 a_childVersion1 a_created1 a_setAt1 a_owner1 a_firstChild1 a_sibling1 a_bucket1 a_eKind1 a_ePath1 a_eData1 a_eOwner1 a_eVersion1 a_eNumber1 → zw_X f_watches1 a_wSession1 a_wKind1 a_wPath1 a_queue1 a_queued1 (zw_tell e.1 e.2.1 S) →
      post r (f_nodes1, f_time, f_latest + 1, nI (N + 1), f_logged + 1, f_complete, f_taken, f_sinceEntry, f_sinceCount, f_parts, f_wrongPart, f_watches1, a_path1, a_data1, a_version1, a_childVersion1, a_created1, a_setAt1, a_owner1, a_firstChild1, a_sibling1, a_bucket1, a_open, a_timeout, a_deadline, a_eKind1, a_ePath1, a_eData1, a_eOwner1, a_eVersion1, a_eNumber1, a_iPath, a_iData, a_iVersion, a_iChildVersion, a_iCreated, a_iSet, a_iOwner, a_iTimeout, a_iLatest, a_pKind, a_pPath, a_pA, a_pB, a_uEntry, a_uSlot, a_uData, a_uVersion, a_uSet, a_uChildVersion, a_uCreated, a_uOwner, a_wSession1, a_wKind1, a_wPath1, a_queue1, a_queued1)) :
    wpX_remove post (f_nodes, f_time, f_latest, f_entries, f_logged, f_complete, f_taken, f_sinceEntry, f_sinceCount, f_parts, f_wrongPart, f_watches, a_path, a_data, a_version, a_childVersion, a_created, a_setAt, a_owner, a_firstChild, a_sibling, a_bucket, a_open, a_timeout, a_deadline, a_eKind, a_ePath, a_eData, a_eOwner, a_eVersion, a_eNumber, a_iPath, a_iData, a_iVersion, a_iChildVersion, a_iCreated, a_iSet, a_iOwner, a_iTimeout, a_iLatest, a_pKind, a_pPath, a_pA, a_pB, a_uEntry, a_uSlot, a_uData, a_uVersion, a_uSet, a_uChildVersion, a_uCreated, a_uOwner, a_wSession, a_wKind, a_wPath, a_queue, a_queued) p1 p2 p3 := by
  unfold wpX_remove
  refine zx_barred hl hlg (fun z => br_f (by decide) (h1 z)) (fun s hs e ho c => br_f (by decide) (h9 s hs e ho c)) (fun s hs e ho c => br_t (by decide) ?_)
  refine zx_remove (n := n) (d := 0) (ss := p1) H hC hN he (fun r hr _ => ?_) (fun r e2 hr f_nodes1 a_path1 a_data1 a_version1 a_childVersion1 a_created1 a_setAt1 a_owner1 a_firstChild1 a_sibling1 a_bucket1 a_eKind1 a_ePath1 a_eData1 a_eOwner1 a_eVersion1 a_eNumber1 St => ?_)
  · rw [he]
    exact zx_single0 hN rfl (by rw [← he]; exact hn s hs e ho c r hr)
  · rw [he]
    refine zx_single1 hN rfl R (fun f_watches1 a_wSession1 a_wKind1 a_wPath1 a_queue1 a_queued1 R1 => ?_)
    have e1 : a_eKind1 N = e2.1 := congrArg (fun x => x.1) St.2.2.2
    have e3 : a_ePath1 N = e2.2.1 := congrArg (fun x => x.2.1) St.2.2.2
    rw [e1, e3] at R1
    exact h s hs e ho c r e2 hr _ _ _ _ _ _ _ _ _ _ _ _ _ _ _ _ _ _ _ _ _ _ _ St R1
end
section
variable {g_time g_last g_watchCount g_partCount g_wrong g_changes g_log g_since g_placesLeft : Int32} {b_paths b_values b_open b_timeouts b_deadlines b_events b_eventCounts b_watchers b_watchKinds b_watchPaths b_parts b_happened b_how : Nat → Int32}
/-- a request alone, on the reference's side -/
theorem zy_single {post : Int32 → SY → Prop} {C : zn_Mp} {S : zw_S} {b lg ss : Nat} {kind p a v : Int32} (H : zy_T b_paths b_values C) (hC : zi_C b C) (hb : b < 1000000000) (hl : g_log = nI lg) (hlg : lg < 100) (hss : ss < 4) (hkd : kind = 0 ∨ kind = 1 ∨ kind = 2) (hf : kind = 0 → ∃ f, f < 4 ∧ v = nI f) (R : zw_X g_watchCount b_watchers b_watchKinds b_watchPaths b_events b_eventCounts S)
    (hkids : zc_cnt (zr_oc b_paths (zk_P p 0)) 21 = 0 → ∀ q y, C q = some y → ¬ q = 0 → ¬ q / 101 = p)
    (h9 : 40 ≤ lg → post (-9) (g_time, g_last, g_watchCount, g_partCount, g_wrong, g_changes, g_log, g_since, g_placesLeft, b_paths, b_values, b_open, b_timeouts, b_deadlines, b_events, b_eventCounts, b_watchers, b_watchKinds, b_watchPaths, b_parts, b_happened, b_how))
    (hn : lg < 40 → ∀ r, zq_rq C (zr_n b_paths 21) (zc_cnt (zr_oc b_paths (zk_P p 0)) 21) (g_last + 1) (nI ss) kind p a v = (r, none) → post r (g_time, g_last, g_watchCount, g_partCount, g_wrong, 0, g_log, g_since, g_placesLeft, b_paths, b_values, b_open, b_timeouts, b_deadlines, b_events, b_eventCounts, b_watchers, b_watchKinds, b_watchPaths, b_parts, b_happened, b_how))
    (h : lg < 40 → ∀ r e, zq_rq C (zr_n b_paths 21) (zc_cnt (zr_oc b_paths (zk_P p 0)) 21) (g_last + 1) (nI ss) kind p a v = (r, some e) → ∀ (b_paths1 b_values1 : Nat → Int32) (g_changes1 : Int32) (b_happened1 b_how1 : Nat → Int32) (g_watchCount1 : Int32) (b_watchers1 b_watchKinds1 b_watchPaths1 b_events1 b_eventCounts1 : Nat → Int32), zy_T b_paths1 b_values1 (zf_ap e C) → zw_X g_watchCount1 b_watchers1 b_watchKinds1 b_watchPaths1 b_events1 b_eventCounts1 (zw_tell e.1 e.2.1 S) →
      post r (g_time, g_last + 1, g_watchCount1, g_partCount, g_wrong, g_changes1, g_log + 1, g_since + 1, g_placesLeft, b_paths1, b_values1, b_open, b_timeouts, b_deadlines, b_events1, b_eventCounts1, b_watchers1, b_watchKinds1, b_watchPaths1, b_parts, b_happened1, b_how1)) :
    wpY_single post (g_time, g_last, g_watchCount, g_partCount, g_wrong, g_changes, g_log, g_since, g_placesLeft, b_paths, b_values, b_open, b_timeouts, b_deadlines, b_events, b_eventCounts, b_watchers, b_watchKinds, b_watchPaths, b_parts, b_happened, b_how) (nI ss) kind p a v := by
  have hkd4 : kind = 0 ∨ kind = 1 ∨ kind = 2 ∨ kind = 3 := hkd.elim Or.inl (fun z => Or.inr (z.elim Or.inl (fun w => Or.inr (Or.inl w))))
  refine pk_lt lg 40 (fun c => ?_) (fun c => h9 c) (hx := hl)
  refine zy_request (c := 0) H hC (by decide) rfl hkd4 hf (fun r hr => br_t ?_ (hn c r hr)) (fun r e hr b_paths1 b_values1 hw T1 hh => ?_)
  · rcases zq_cases hkd4 hr with ⟨_, z | z⟩ | ⟨_, _, _, _, _, _, _, _, _, z⟩ | ⟨_, _, _, _, _, z⟩ | ⟨_, _, _, _, _, _, _, _, _, z⟩
    · exact z
    · rcases hkd with w | w | w <;> rw [w] at z <;> exact absurd z (by decide)
    · exact nomatch z
    · exact nomatch z
    · exact nomatch z
  · have F := zq_facts hC hb hss hkids hkd4 hr
    refine br_f (by rw [zb_lt0]; have := F.1; omega) ?_
    refine nm_e (nm_e (nm_e ?_))
    refine zy_tellAll (ek := fun _ => e.1) (ep := fun _ => e.2.1) (b := 0) (n := 1) (S := S) (by decide) rfl (fun j hj => ?_) R (fun g_watchCount2 b_watchers2 b_watchKinds2 b_watchPaths2 b_events2 b_eventCounts2 R2 => h c r e hr _ _ _ _ _ _ _ _ _ _ _ T1.1 R2)
    have : j = 0 := by omega
    subst this
    rw [pk_us, pk_us]
    exact ⟨hh, rfl, F.2.2.2.2.2.1⟩
theorem zy_oneC {post : Int32 → SY → Prop} {p1 p2 p3 p4 : Int32} (h1 : ((∀ s, s < 4 → p1 = nI s → b_open s = 0) ∨ ¬ (0 ≤ p4.toInt ∧ p4.toInt ≤ 3)) → post (-1) (g_time, g_last, g_watchCount, g_partCount, g_wrong, g_changes, g_log, g_since, g_placesLeft, b_paths, b_values, b_open, b_timeouts, b_deadlines, b_events, b_eventCounts, b_watchers, b_watchKinds, b_watchPaths, b_parts, b_happened, b_how))
    (h : ∀ s, s < 4 → p1 = nI s → ¬ b_open s = 0 → (0 ≤ p4.toInt ∧ p4.toInt ≤ 3) → wpY_single post (g_time, g_last, g_watchCount, g_partCount, g_wrong, g_changes, g_log, g_since, g_placesLeft, b_paths, b_values, b_open, b_timeouts, b_deadlines, b_events, b_eventCounts, b_watchers, b_watchKinds, b_watchPaths, b_parts, b_happened, b_how) p1 0 p2 p3 p4) : wpY_create post (g_time, g_last, g_watchCount, g_partCount, g_wrong, g_changes, g_log, g_since, g_placesLeft, b_paths, b_values, b_open, b_timeouts, b_deadlines, b_events, b_eventCounts, b_watchers, b_watchKinds, b_watchPaths, b_parts, b_happened, b_how) p1 p2 p3 p4 := by
  unfold wpY_create
  refine zy_isOpen (fun z => br_t rfl (h1 (Or.inl z))) (fun s hs e ho => br_f (by decide) ?_)
  by_cases c0 : p4 < 0
  · refine br_t c0 (h1 (Or.inr fun z => ?_))
    rw [zb_lt0] at c0; omega
  refine br_f c0 ?_
  by_cases c3 : p4 ≤ 3
  · refine br_t c3 (h s hs e ho ?_)
    rw [zb_lt0] at c0
    rw [zb_le, zb_3] at c3
    omega
  · refine br_f c3 (h1 (Or.inr fun z => ?_))
    rw [zb_le, zb_3] at c3; omega
theorem zy_oneS {post : Int32 → SY → Prop} {p1 p2 p3 p4 : Int32} (h1 : (∀ s, s < 4 → p1 = nI s → b_open s = 0) → post (-1) (g_time, g_last, g_watchCount, g_partCount, g_wrong, g_changes, g_log, g_since, g_placesLeft, b_paths, b_values, b_open, b_timeouts, b_deadlines, b_events, b_eventCounts, b_watchers, b_watchKinds, b_watchPaths, b_parts, b_happened, b_how))
    (h : ∀ s, s < 4 → p1 = nI s → ¬ b_open s = 0 → wpY_single post (g_time, g_last, g_watchCount, g_partCount, g_wrong, g_changes, g_log, g_since, g_placesLeft, b_paths, b_values, b_open, b_timeouts, b_deadlines, b_events, b_eventCounts, b_watchers, b_watchKinds, b_watchPaths, b_parts, b_happened, b_how) p1 1 p2 p3 p4) : wpY_set post (g_time, g_last, g_watchCount, g_partCount, g_wrong, g_changes, g_log, g_since, g_placesLeft, b_paths, b_values, b_open, b_timeouts, b_deadlines, b_events, b_eventCounts, b_watchers, b_watchKinds, b_watchPaths, b_parts, b_happened, b_how) p1 p2 p3 p4 := by
  unfold wpY_set
  exact zy_isOpen (fun z => br_t rfl (h1 z)) (fun s hs e ho => br_f (by decide) (h s hs e ho))
theorem zy_oneR {post : Int32 → SY → Prop} {p1 p2 p3 : Int32} (h1 : (∀ s, s < 4 → p1 = nI s → b_open s = 0) → post (-1) (g_time, g_last, g_watchCount, g_partCount, g_wrong, g_changes, g_log, g_since, g_placesLeft, b_paths, b_values, b_open, b_timeouts, b_deadlines, b_events, b_eventCounts, b_watchers, b_watchKinds, b_watchPaths, b_parts, b_happened, b_how))
    (h : ∀ s, s < 4 → p1 = nI s → ¬ b_open s = 0 → wpY_single post (g_time, g_last, g_watchCount, g_partCount, g_wrong, g_changes, g_log, g_since, g_placesLeft, b_paths, b_values, b_open, b_timeouts, b_deadlines, b_events, b_eventCounts, b_watchers, b_watchKinds, b_watchPaths, b_parts, b_happened, b_how) p1 2 p2 0 p3) : wpY_remove post (g_time, g_last, g_watchCount, g_partCount, g_wrong, g_changes, g_log, g_since, g_placesLeft, b_paths, b_values, b_open, b_timeouts, b_deadlines, b_events, b_eventCounts, b_watchers, b_watchKinds, b_watchPaths, b_parts, b_happened, b_how) p1 p2 p3 := by
  unfold wpY_remove
  exact zy_isOpen (fun z => br_t rfl (h1 z)) (fun s hs e ho => br_f (by decide) (h s hs e ho))
end
end
section
/-! create, set, remove -/
section
variable {f_nodes f_time f_latest f_entries f_logged f_complete f_taken f_sinceEntry f_sinceCount f_parts f_wrongPart f_watches : Int32} {a_path a_data a_version a_childVersion a_created a_setAt a_owner a_firstChild a_sibling a_bucket a_open a_timeout a_deadline a_eKind a_ePath a_eData a_eOwner a_eVersion a_eNumber a_iPath a_iData a_iVersion a_iChildVersion a_iCreated a_iSet a_iOwner a_iTimeout a_iLatest a_pKind a_pPath a_pA a_pB a_uEntry a_uSlot a_uData a_uVersion a_uSet a_uChildVersion a_uCreated a_uOwner a_wSession a_wKind a_wPath a_queue a_queued : Nat → Int32}
variable {g_time g_last g_watchCount g_partCount g_wrong g_changes g_log g_since g_placesLeft : Int32} {b_paths b_values b_open b_timeouts b_deadlines b_events b_eventCounts b_watchers b_watchKinds b_watchPaths b_parts b_happened b_how : Nat → Int32}
theorem zi_M_le {b b' N : Nat} {C : zn_Mp} {cb : Nat} {sn : Option (Nat × Nat)} (M : zi_M b N C f_nodes a_path a_data a_version a_childVersion a_created a_setAt a_owner a_firstChild a_sibling a_bucket a_eKind a_ePath a_eData a_eOwner a_eVersion a_eNumber a_iPath a_iData a_iVersion a_iChildVersion a_iCreated a_iSet a_iOwner a_iTimeout cb sn a_open a_timeout) (h : b ≤ b') : zi_M b' N C f_nodes a_path a_data a_version a_childVersion a_created a_setAt a_owner a_firstChild a_sibling a_bucket a_eKind a_ePath a_eData a_eOwner a_eVersion a_eNumber a_iPath a_iData a_iVersion a_iChildVersion a_iCreated a_iSet a_iOwner a_iTimeout cb sn a_open a_timeout :=
  ⟨M.1, zi_C_le M.2.1 h, M.2.2⟩
theorem zi_Q_ch {N lg pc cb : Nat} {sn : Option (Nat × Nat)} {S : zw_S} {g_changes1 : Int32} {b_happened1 b_how1 : Nat → Int32} (Q : zi_Q N lg pc cb sn S f_nodes f_time f_latest f_entries f_logged f_complete f_taken f_sinceEntry f_sinceCount f_parts f_wrongPart f_watches a_path a_data a_version a_childVersion a_created a_setAt a_owner a_firstChild a_sibling a_bucket a_open a_timeout a_deadline a_eKind a_ePath a_eData a_eOwner a_eVersion a_eNumber a_iPath a_iData a_iVersion a_iChildVersion a_iCreated a_iSet a_iOwner a_iTimeout a_iLatest a_pKind a_pPath a_pA a_pB a_uEntry a_uSlot a_uData a_uVersion a_uSet a_uChildVersion a_uCreated a_uOwner a_wSession a_wKind a_wPath a_queue a_queued g_time g_last g_watchCount g_partCount g_wrong g_changes g_log g_since g_placesLeft b_paths b_values b_open b_timeouts b_deadlines b_events b_eventCounts b_watchers b_watchKinds b_watchPaths b_parts b_happened b_how) : zi_Q N lg pc cb sn S f_nodes f_time f_latest f_entries f_logged f_complete f_taken f_sinceEntry f_sinceCount f_parts f_wrongPart f_watches a_path a_data a_version a_childVersion a_created a_setAt a_owner a_firstChild a_sibling a_bucket a_open a_timeout a_deadline a_eKind a_ePath a_eData a_eOwner a_eVersion a_eNumber a_iPath a_iData a_iVersion a_iChildVersion a_iCreated a_iSet a_iOwner a_iTimeout a_iLatest a_pKind a_pPath a_pA a_pB a_uEntry a_uSlot a_uData a_uVersion a_uSet a_uChildVersion a_uCreated a_uOwner a_wSession a_wKind a_wPath a_queue a_queued g_time g_last g_watchCount g_partCount g_wrong g_changes1 g_log g_since g_placesLeft b_paths b_values b_open b_timeouts b_deadlines b_events b_eventCounts b_watchers b_watchKinds b_watchPaths b_parts b_happened1 b_how1 := Q
theorem zi_N_lt {N lg pc cb : Nat} {sn : Option (Nat × Nat)} {S : zw_S} (Q : zi_Q N lg pc cb sn S f_nodes f_time f_latest f_entries f_logged f_complete f_taken f_sinceEntry f_sinceCount f_parts f_wrongPart f_watches a_path a_data a_version a_childVersion a_created a_setAt a_owner a_firstChild a_sibling a_bucket a_open a_timeout a_deadline a_eKind a_ePath a_eData a_eOwner a_eVersion a_eNumber a_iPath a_iData a_iVersion a_iChildVersion a_iCreated a_iSet a_iOwner a_iTimeout a_iLatest a_pKind a_pPath a_pA a_pB a_uEntry a_uSlot a_uData a_uVersion a_uSet a_uChildVersion a_uCreated a_uOwner a_wSession a_wKind a_wPath a_queue a_queued g_time g_last g_watchCount g_partCount g_wrong g_changes g_log g_since g_placesLeft b_paths b_values b_open b_timeouts b_deadlines b_events b_eventCounts b_watchers b_watchKinds b_watchPaths b_parts b_happened b_how) : N < 381 ∧ lg ≤ 44 := by
  obtain ⟨_, ⟨_, _, p3, p4⟩, _⟩ := Q
  unfold zi_Pot at p3
  omega
theorem zi_Q_tx {N N' lg pc cb : Nat} {sn : Option (Nat × Nat)} {S S1 : zw_S} {f_nodes1 : Int32} {a_path1 a_data1 a_version1 a_childVersion1 a_created1 a_setAt1 a_owner1 a_firstChild1 a_sibling1 a_bucket1 a_eKind1 a_ePath1 a_eData1 a_eOwner1 a_eVersion1 a_eNumber1 : Nat → Int32} {f_watches1 : Int32} {a_wSession1 a_wKind1 a_wPath1 a_queue1 a_queued1 a_open1 a_timeout1 a_deadline1 a_uEntry1 a_uSlot1 a_uData1 a_uVersion1 a_uSet1 a_uChildVersion1 a_uCreated1 a_uOwner1 : Nat → Int32} {b_paths1 b_values1 : Nat → Int32} {g_changes1 : Int32} {b_happened1 b_how1 : Nat → Int32} {g_watchCount1 : Int32} {b_watchers1 b_watchKinds1 b_watchPaths1 b_events1 b_eventCounts1 : Nat → Int32} {b_timeouts1 b_deadlines1 : Nat → Int32} (Q : zi_Q N lg pc cb sn S f_nodes f_time f_latest f_entries f_logged f_complete f_taken f_sinceEntry f_sinceCount f_parts f_wrongPart f_watches a_path a_data a_version a_childVersion a_created a_setAt a_owner a_firstChild a_sibling a_bucket a_open a_timeout a_deadline a_eKind a_ePath a_eData a_eOwner a_eVersion a_eNumber a_iPath a_iData a_iVersion a_iChildVersion a_iCreated a_iSet a_iOwner a_iTimeout a_iLatest a_pKind a_pPath a_pA a_pB a_uEntry a_uSlot a_uData a_uVersion a_uSet a_uChildVersion a_uCreated a_uOwner a_wSession a_wKind a_wPath a_queue a_queued g_time g_last g_watchCount g_partCount g_wrong g_changes g_log g_since g_placesLeft b_paths b_values b_open b_timeouts b_deadlines b_events b_eventCounts b_watchers b_watchKinds b_watchPaths b_parts b_happened b_how) (hN : N < N') (hen : a_eNumber1 (N' - 1) = f_latest + 1)
    (hpot : 16 * N' + 5 * zr_n a_path1 48 + 110 * zi_S a_open1 ≤ 16 * N + 5 * zr_n a_path 48 + 110 * zi_S a_open + 126) (hlg : lg + 1 + zi_S a_open1 ≤ 44)
    (ses : zi_Ses a_open1 a_timeout1 a_deadline1 b_timeouts1 b_deadlines1) (w : zw_X f_watches1 a_wSession1 a_wKind1 a_wPath1 a_queue1 a_queued1 S1) (x : zw_X g_watchCount1 b_watchers1 b_watchKinds1 b_watchPaths1 b_events1 b_eventCounts1 S1) :
    zi_Q N' (lg + 1) pc cb sn S1 f_nodes1 f_time (f_latest + 1) (nI N') (f_logged + 1) f_complete f_taken f_sinceEntry f_sinceCount f_parts f_wrongPart f_watches1 a_path1 a_data1 a_version1 a_childVersion1 a_created1 a_setAt1 a_owner1 a_firstChild1 a_sibling1 a_bucket1 a_open1 a_timeout1 a_deadline1 a_eKind1 a_ePath1 a_eData1 a_eOwner1 a_eVersion1 a_eNumber1 a_iPath a_iData a_iVersion a_iChildVersion a_iCreated a_iSet a_iOwner a_iTimeout a_iLatest a_pKind a_pPath a_pA a_pB a_uEntry1 a_uSlot1 a_uData1 a_uVersion1 a_uSet1 a_uChildVersion1 a_uCreated1 a_uOwner1 a_wSession1 a_wKind1 a_wPath1 a_queue1 a_queued1 g_time (g_last + 1) g_watchCount1 g_partCount g_wrong g_changes1 (g_log + 1) (g_since + 1) g_placesLeft b_paths1 b_values1 a_open1 b_timeouts1 b_deadlines1 b_events1 b_eventCounts1 b_watchers1 b_watchKinds1 b_watchPaths1 b_parts b_happened1 b_how1 := by
  obtain ⟨⟨q1, q2, q3, q4, q5, q6, q7⟩, ⟨p1, p2, p3, p4⟩, _, pk, _, _, im, la, sp⟩ := Q
  unfold zi_Pot at p3
  refine ⟨⟨rfl, by rw [q2, nI_1], by rw [q3, nI_1], by rw [q4], q5, rfl, q7⟩, ⟨p1, p2, by unfold zi_Pot; omega, hlg⟩, ses, pk, w, x, im, ⟨fun z => by omega, fun _ => hen⟩, ?_⟩
  rcases sp with ⟨s1, s2, s3⟩ | ⟨tk, b, bc, s1, s2, s3, s4, s5, s6, s7, s8, s9, s10, s11, s12⟩
  · exact Or.inl ⟨s1, s2, s3⟩
  · refine Or.inr ⟨tk, b, bc, s1, s2, s3, s4, s5, s6, s7, by omega, by omega, ?_, ?_, ⟨fun z => by omega, fun _ => hen⟩⟩
    · rw [s10, nI_1]; exact congrArg nI (by omega)
    · unfold zi_Pot at s11 ⊢
      omega
/-- after one request, done on both sides -/
theorem zi_one {k : Nat} {C : zn_Mp} {N lg pc cb : Nat} {sn : Option (Nat × Nat)} {S : zw_S} {e : zf_E} {r : Int32} {f_nodes1 : Int32} {a_path1 a_data1 a_version1 a_childVersion1 a_created1 a_setAt1 a_owner1 a_firstChild1 a_sibling1 a_bucket1 a_eKind1 a_ePath1 a_eData1 a_eOwner1 a_eVersion1 a_eNumber1 : Nat → Int32} {f_watches1 : Int32} {a_wSession1 a_wKind1 a_wPath1 a_queue1 a_queued1 : Nat → Int32} {b_paths1 b_values1 : Nat → Int32} {g_changes1 : Int32} {b_happened1 b_how1 : Nat → Int32} {g_watchCount1 : Int32} {b_watchers1 b_watchKinds1 b_watchPaths1 b_events1 b_eventCounts1 : Nat → Int32} (M : zi_M (20 * k) N C f_nodes a_path a_data a_version a_childVersion a_created a_setAt a_owner a_firstChild a_sibling a_bucket a_eKind a_ePath a_eData a_eOwner a_eVersion a_eNumber a_iPath a_iData a_iVersion a_iChildVersion a_iCreated a_iSet a_iOwner a_iTimeout cb sn a_open a_timeout) (Q : zi_Q N lg pc cb sn S f_nodes f_time f_latest f_entries f_logged f_complete f_taken f_sinceEntry f_sinceCount f_parts f_wrongPart f_watches a_path a_data a_version a_childVersion a_created a_setAt a_owner a_firstChild a_sibling a_bucket a_open a_timeout a_deadline a_eKind a_ePath a_eData a_eOwner a_eVersion a_eNumber a_iPath a_iData a_iVersion a_iChildVersion a_iCreated a_iSet a_iOwner a_iTimeout a_iLatest a_pKind a_pPath a_pA a_pB a_uEntry a_uSlot a_uData a_uVersion a_uSet a_uChildVersion a_uCreated a_uOwner a_wSession a_wKind a_wPath a_queue a_queued g_time g_last g_watchCount g_partCount g_wrong g_changes g_log g_since g_placesLeft b_paths b_values b_open b_timeouts b_deadlines b_events b_eventCounts b_watchers b_watchKinds b_watchPaths b_parts b_happened b_how)
    (St : zx_Step e N C f_nodes a_path a_data a_version a_childVersion a_created a_setAt a_owner a_firstChild a_sibling a_bucket a_eKind a_ePath a_eData a_eOwner a_eVersion a_eNumber f_nodes1 a_path1 a_data1 a_version1 a_childVersion1 a_created1 a_setAt1 a_owner1 a_firstChild1 a_sibling1 a_bucket1 a_eKind1 a_ePath1 a_eData1 a_eOwner1 a_eVersion1 a_eNumber1) (F : zq_F (20 * k) C (f_latest + 1) r e) (T1 : zy_T b_paths1 b_values1 (zf_ap e C)) (w : zw_X f_watches1 a_wSession1 a_wKind1 a_wPath1 a_queue1 a_queued1 (zw_tell e.1 e.2.1 S)) (x : zw_X g_watchCount1 b_watchers1 b_watchKinds1 b_watchPaths1 b_events1 b_eventCounts1 (zw_tell e.1 e.2.1 S)) (hlg : lg < 40) :
    i_Rel (k + 5) (f_nodes1, f_time, f_latest + 1, nI (N + 1), f_logged + 1, f_complete, f_taken, f_sinceEntry, f_sinceCount, f_parts, f_wrongPart, f_watches1, a_path1, a_data1, a_version1, a_childVersion1, a_created1, a_setAt1, a_owner1, a_firstChild1, a_sibling1, a_bucket1, a_open, a_timeout, a_deadline, a_eKind1, a_ePath1, a_eData1, a_eOwner1, a_eVersion1, a_eNumber1, a_iPath, a_iData, a_iVersion, a_iChildVersion, a_iCreated, a_iSet, a_iOwner, a_iTimeout, a_iLatest, a_pKind, a_pPath, a_pA, a_pB, a_uEntry, a_uSlot, a_uData, a_uVersion, a_uSet, a_uChildVersion, a_uCreated, a_uOwner, a_wSession1, a_wKind1, a_wPath1, a_queue1, a_queued1) (g_time, g_last + 1, g_watchCount1, g_partCount, g_wrong, g_changes1, g_log + 1, g_since + 1, g_placesLeft, b_paths1, b_values1, b_open, b_timeouts, b_deadlines, b_events1, b_eventCounts1, b_watchers1, b_watchKinds1, b_watchPaths1, b_parts, b_happened1, b_how1) := by
  have q6 := Q.1.2.2.2.2.2.1
  have ses := Q.2.2.1
  have hS : zi_S a_open ≤ 4 := zc_leN _ _
  have hn := zs_num St.2.1 F.2.2.2.2.2
  have hM := zi_M_le (zi_M_step M St F.2.1 F.2.2.1 F.2.2.2.1 (fun s hs => (ses s hs).1)) (show 20 * k + 1 ≤ 20 * (k + 5) by omega)
  have hen : a_eNumber1 (N + 1 - 1) = f_latest + 1 := (congrArg (fun x => x.2.2.2.2.2) St.2.2.2).trans F.2.2.2.2.1
  have hQ := zi_Q_tx (a_open1 := a_open) (a_timeout1 := a_timeout) (a_deadline1 := a_deadline) (b_timeouts1 := b_timeouts) (b_deadlines1 := b_deadlines) (b_paths1 := b_paths1) (b_values1 := b_values1) (g_changes1 := g_changes1) (b_happened1 := b_happened1) (b_how1 := b_how1)
    (a_uEntry1 := a_uEntry) (a_uSlot1 := a_uSlot) (a_uData1 := a_uData) (a_uVersion1 := a_uVersion) (a_uSet1 := a_uSet) (a_uChildVersion1 := a_uChildVersion) (a_uCreated1 := a_uCreated) (a_uOwner1 := a_uOwner)
    (f_nodes1 := f_nodes1) (a_path1 := a_path1) (a_data1 := a_data1) (a_version1 := a_version1) (a_childVersion1 := a_childVersion1) (a_created1 := a_created1) (a_setAt1 := a_setAt1) (a_owner1 := a_owner1) (a_firstChild1 := a_firstChild1) (a_sibling1 := a_sibling1) (a_bucket1 := a_bucket1)
    (a_eKind1 := a_eKind1) (a_ePath1 := a_ePath1) (a_eData1 := a_eData1) (a_eOwner1 := a_eOwner1) (a_eVersion1 := a_eVersion1) (N' := N + 1) Q (by omega) hen (by omega) (by omega) ses w x
  subst q6
  exact zi_mk hM T1 hQ
end
theorem zb_pair {r r' : Int32} {o o' : Option zf_E} (h : (r, o) = (r', o')) : r = r' ∧ o = o' := ⟨congrArg Prod.fst h, congrArg Prod.snd h⟩
theorem i_vc_create {k : Nat} {u : SX} {v : SY} (I : i_Rel k u v) (hk : k + 5 ≤ 2560) (v1 : Int32) (v2 : Int32) (v3 : Int32) (v4 : Int32) : wpX_create (fun r u' => wpY_create (fun r' v' => r' = r ∧ i_Rel (k + 5) u' v') v v1 v2 v3 v4) u v1 v2 v3 v4 := by
  refine zi_el (P := fun u v => wpX_create (fun r u' => wpY_create (fun r' v' => r' = r ∧ i_Rel (k + 5) u' v') v v1 v2 v3 v4) u v1 v2 v3 v4) ?_ I
  intro f_nodes f_time f_latest f_entries f_logged f_complete f_taken f_sinceEntry f_sinceCount f_parts f_wrongPart f_watches a_path a_data a_version a_childVersion a_created a_setAt a_owner a_firstChild a_sibling a_bucket a_open a_timeout a_deadline a_eKind a_ePath a_eData a_eOwner a_eVersion a_eNumber a_iPath a_iData a_iVersion a_iChildVersion a_iCreated a_iSet a_iOwner a_iTimeout a_iLatest a_pKind a_pPath a_pA a_pB a_uEntry a_uSlot a_uData a_uVersion a_uSet a_uChildVersion a_uCreated a_uOwner a_wSession a_wKind a_wPath a_queue a_queued g_time g_last g_watchCount g_partCount g_wrong g_changes g_log g_since g_placesLeft b_paths b_values b_open b_timeouts b_deadlines b_events b_eventCounts b_watchers b_watchKinds b_watchPaths b_parts b_happened b_how R
  have R5 : i_Rel (k + 5) (f_nodes, f_time, f_latest, f_entries, f_logged, f_complete, f_taken, f_sinceEntry, f_sinceCount, f_parts, f_wrongPart, f_watches, a_path, a_data, a_version, a_childVersion, a_created, a_setAt, a_owner, a_firstChild, a_sibling, a_bucket, a_open, a_timeout, a_deadline, a_eKind, a_ePath, a_eData, a_eOwner, a_eVersion, a_eNumber, a_iPath, a_iData, a_iVersion, a_iChildVersion, a_iCreated, a_iSet, a_iOwner, a_iTimeout, a_iLatest, a_pKind, a_pPath, a_pA, a_pB, a_uEntry, a_uSlot, a_uData, a_uVersion, a_uSet, a_uChildVersion, a_uCreated, a_uOwner, a_wSession, a_wKind, a_wPath, a_queue, a_queued) (g_time, g_last, g_watchCount, g_partCount, g_wrong, g_changes, g_log, g_since, g_placesLeft, b_paths, b_values, b_open, b_timeouts, b_deadlines, b_events, b_eventCounts, b_watchers, b_watchKinds, b_watchPaths, b_parts, b_happened, b_how) := i_up (k := k) R
  obtain ⟨C, S, N, lg, pc, cb, sn, M, T, Q⟩ := R
  have lim := zi_N_lt Q
  have q1 := Q.1.1
  have q2 := Q.1.2.1
  have q3 := Q.1.2.2.1
  have q4 := Q.1.2.2.2.1
  have q6 := Q.1.2.2.2.2.2.1
  have w := Q.2.2.2.2.1
  have x := Q.2.2.2.2.2.1
  have hn : zr_n a_path 48 = zr_n b_paths 21 := zr_cnt M.1.1.2.1 T.1 (fun _ => true)
  have hkk : zk_cn a_path v2 0 = zc_cnt (zr_oc b_paths (zk_P v2 0)) 21 := zr_cnt M.1.1.2.1 T.1 (zk_P v2 0)
  have kids : zc_cnt (zr_oc b_paths (zk_P v2 0)) 21 = 0 → ∀ q y, C q = some y → ¬ q = 0 → ¬ q / 101 = v2 := fun z => zx_kids0 M.1.1.2.1 (by rw [hkk]; exact z)
  have flg : ∀ v4 : Int32, (0 ≤ v4.toInt ∧ v4.toInt ≤ 3) → (0 : Int32) = 0 → ∃ f, f < 4 ∧ v4 = nI f := fun v4 h _ => by
    obtain ⟨f, hf, ef, ef2⟩ := zb_nI h.1
    exact ⟨f, by omega, ef⟩
  refine zx_oneC (k := zc_cnt (zr_oc b_paths (zk_P v2 0)) 21) M.1 M.2.1 (by omega) q1 q2 (by omega) w (fun h1 => ?_) (fun s hs e ho hfl c => ?_) (fun s hs e ho hfl c r hr => ?_) (fun s hs e ho hfl c r en hr f_nodes1 a_path1 a_data1 a_version1 a_childVersion1 a_created1 a_setAt1 a_owner1 a_firstChild1 a_sibling1 a_bucket1 a_eKind1 a_ePath1 a_eData1 a_eOwner1 a_eVersion1 a_eNumber1 f_watches1 a_wSession1 a_wKind1 a_wPath1 a_queue1 a_queued1 St w1 => ?_)
  · refine zy_oneC (fun _ => And.intro rfl R5) (fun s hs e ho hfl => ?_)
    exfalso
    rcases h1 with h1 | h1
    · rw [q6] at ho; exact ho (h1 s hs e)
    · exact h1 hfl
  · refine zy_oneC (fun h1 => ?_) (fun s' hs' e' ho' _ => ?_)
    · exfalso
      rcases h1 with h1 | h1
      · rw [q6] at h1; exact ho (h1 s hs e)
      · exact h1 hfl
    · rw [e']
      exact zy_single T M.2.1 (by omega) q3 (by omega) hs' (Or.inl rfl) (flg v4 hfl) x kids (fun _ => And.intro rfl R5) (fun c' => by omega) (fun c' => by omega)
  · refine zy_oneC (fun h1 => ?_) (fun s' hs' e' ho' _ => ?_)
    · exfalso
      rcases h1 with h1 | h1
      · rw [q6] at h1; exact ho (h1 s hs e)
      · exact h1 hfl
    · rw [e']
      refine zy_single T M.2.1 (by omega) q3 (by omega) hs' (Or.inl rfl) (flg v4 hfl) x kids (fun c' => by omega) (fun c' r' hr' => ?_) (fun c' r' e2 hr' => ?_)
      · rw [e', hn, ← q4, hr'] at hr
        exact And.intro (zb_pair hr).1 (zi_mk (zi_M_up M) T (zi_Q_ch Q))
      · rw [e', hn, ← q4, hr'] at hr
        exact nomatch (zb_pair hr).2
  · refine zy_oneC (fun h1 => ?_) (fun s' hs' e' ho' _ => ?_)
    · exfalso
      rcases h1 with h1 | h1
      · rw [q6] at h1; exact ho (h1 s hs e)
      · exact h1 hfl
    · have hf := hr
      rw [e', hn, ← q4] at hr
      rw [e']
      refine zy_single T M.2.1 (by omega) q3 (by omega) hs' (Or.inl rfl) (flg v4 hfl) x kids (fun c' => by omega) (fun c' r' hr' => ?_) (fun c' r' e2 hr' b_paths1 b_values1 g_changes1 b_happened1 b_how1 g_watchCount1 b_watchers1 b_watchKinds1 b_watchPaths1 b_events1 b_eventCounts1 T1 x1 => ?_)
      · rw [hr'] at hr
        exact nomatch (zb_pair hr).2
      · rw [hr'] at hr
        obtain ⟨a1, a2⟩ := zb_pair hr
        have a2 := Option.some.inj a2
        subst a1 a2
        rw [e'] at hf
        have F := zq_facts M.2.1 (by omega) hs' kids (Or.inl rfl) hf
        exact And.intro rfl (zi_one M Q St F T1 w1 x1 c)
end
section
/-! set, remove -/
theorem i_vc_set {k : Nat} {u : SX} {v : SY} (I : i_Rel k u v) (hk : k + 5 ≤ 2560) (v1 : Int32) (v2 : Int32) (v3 : Int32) (v4 : Int32) : wpX_set (fun r u' => wpY_set (fun r' v' => r' = r ∧ i_Rel (k + 5) u' v') v v1 v2 v3 v4) u v1 v2 v3 v4 := by
  refine zi_el (P := fun u v => wpX_set (fun r u' => wpY_set (fun r' v' => r' = r ∧ i_Rel (k + 5) u' v') v v1 v2 v3 v4) u v1 v2 v3 v4) ?_ I
  intro f_nodes f_time f_latest f_entries f_logged f_complete f_taken f_sinceEntry f_sinceCount f_parts f_wrongPart f_watches a_path a_data a_version a_childVersion a_created a_setAt a_owner a_firstChild a_sibling a_bucket a_open a_timeout a_deadline a_eKind a_ePath a_eData a_eOwner a_eVersion a_eNumber a_iPath a_iData a_iVersion a_iChildVersion a_iCreated a_iSet a_iOwner a_iTimeout a_iLatest a_pKind a_pPath a_pA a_pB a_uEntry a_uSlot a_uData a_uVersion a_uSet a_uChildVersion a_uCreated a_uOwner a_wSession a_wKind a_wPath a_queue a_queued g_time g_last g_watchCount g_partCount g_wrong g_changes g_log g_since g_placesLeft b_paths b_values b_open b_timeouts b_deadlines b_events b_eventCounts b_watchers b_watchKinds b_watchPaths b_parts b_happened b_how R
  have R5 : i_Rel (k + 5) (f_nodes, f_time, f_latest, f_entries, f_logged, f_complete, f_taken, f_sinceEntry, f_sinceCount, f_parts, f_wrongPart, f_watches, a_path, a_data, a_version, a_childVersion, a_created, a_setAt, a_owner, a_firstChild, a_sibling, a_bucket, a_open, a_timeout, a_deadline, a_eKind, a_ePath, a_eData, a_eOwner, a_eVersion, a_eNumber, a_iPath, a_iData, a_iVersion, a_iChildVersion, a_iCreated, a_iSet, a_iOwner, a_iTimeout, a_iLatest, a_pKind, a_pPath, a_pA, a_pB, a_uEntry, a_uSlot, a_uData, a_uVersion, a_uSet, a_uChildVersion, a_uCreated, a_uOwner, a_wSession, a_wKind, a_wPath, a_queue, a_queued) (g_time, g_last, g_watchCount, g_partCount, g_wrong, g_changes, g_log, g_since, g_placesLeft, b_paths, b_values, b_open, b_timeouts, b_deadlines, b_events, b_eventCounts, b_watchers, b_watchKinds, b_watchPaths, b_parts, b_happened, b_how) := i_up (k := k) R
  obtain ⟨C, S, N, lg, pc, cb, sn, M, T, Q⟩ := R
  have lim := zi_N_lt Q
  have q1 := Q.1.1
  have q2 := Q.1.2.1
  have q3 := Q.1.2.2.1
  have q4 := Q.1.2.2.2.1
  have q6 := Q.1.2.2.2.2.2.1
  have w := Q.2.2.2.2.1
  have x := Q.2.2.2.2.2.1
  have hkk : zk_cn a_path v2 0 = zc_cnt (zr_oc b_paths (zk_P v2 0)) 21 := zr_cnt M.1.1.2.1 T.1 (zk_P v2 0)
  have kids : zc_cnt (zr_oc b_paths (zk_P v2 0)) 21 = 0 → ∀ q y, C q = some y → ¬ q = 0 → ¬ q / 101 = v2 := fun z => zx_kids0 M.1.1.2.1 (by rw [hkk]; exact z)
  have flg : (1 : Int32) = 0 → ∃ f, f < 4 ∧ v4 = nI f := fun z => absurd z (by decide)
  refine zx_oneS (n := zr_n b_paths 21) (k := zc_cnt (zr_oc b_paths (zk_P v2 0)) 21) M.1 (by omega) q1 q2 (by omega) w (fun h1 => ?_) (fun s hs e ho c => ?_) (fun s hs e ho c r hr => ?_) (fun s hs e ho c r en hr f_nodes1 a_path1 a_data1 a_version1 a_childVersion1 a_created1 a_setAt1 a_owner1 a_firstChild1 a_sibling1 a_bucket1 a_eKind1 a_ePath1 a_eData1 a_eOwner1 a_eVersion1 a_eNumber1 f_watches1 a_wSession1 a_wKind1 a_wPath1 a_queue1 a_queued1 St w1 => ?_)
  · refine zy_oneS (fun _ => And.intro rfl R5) (fun s hs e ho => ?_)
    rw [q6] at ho; exact absurd (h1 s hs e) ho
  · refine zy_oneS (fun h1 => ?_) (fun s' hs' e' ho' => ?_)
    · rw [q6] at h1; exact absurd (h1 s hs e) ho
    · rw [e']
      exact zy_single T M.2.1 (by omega) q3 (by omega) hs' (Or.inr (Or.inl rfl)) flg x kids (fun _ => And.intro rfl R5) (fun c' => by omega) (fun c' => by omega)
  · refine zy_oneS (fun h1 => ?_) (fun s' hs' e' ho' => ?_)
    · rw [q6] at h1; exact absurd (h1 s hs e) ho
    · rw [e']
      refine zy_single T M.2.1 (by omega) q3 (by omega) hs' (Or.inr (Or.inl rfl)) flg x kids (fun c' => by omega) (fun c' r' hr' => ?_) (fun c' r' e2 hr' => ?_)
      · rw [e', ← q4, hr'] at hr
        exact And.intro (zb_pair hr).1 (zi_mk (zi_M_up M) T (zi_Q_ch Q))
      · rw [e', ← q4, hr'] at hr
        exact nomatch (zb_pair hr).2
  · refine zy_oneS (fun h1 => ?_) (fun s' hs' e' ho' => ?_)
    · rw [q6] at h1; exact absurd (h1 s hs e) ho
    · have hf := hr
      rw [e', ← q4] at hr
      rw [e']
      refine zy_single T M.2.1 (by omega) q3 (by omega) hs' (Or.inr (Or.inl rfl)) flg x kids (fun c' => by omega) (fun c' r' hr' => ?_) (fun c' r' e2 hr' b_paths1 b_values1 g_changes1 b_happened1 b_how1 g_watchCount1 b_watchers1 b_watchKinds1 b_watchPaths1 b_events1 b_eventCounts1 T1 x1 => ?_)
      · rw [hr'] at hr
        exact nomatch (zb_pair hr).2
      · rw [hr'] at hr
        obtain ⟨a1, a2⟩ := zb_pair hr
        have a2 := Option.some.inj a2
        subst a1 a2
        rw [e'] at hf
        have F := zq_facts M.2.1 (by omega) hs' kids (Or.inr (Or.inl rfl)) hf
        exact And.intro rfl (zi_one M Q St F T1 w1 x1 c)
theorem i_vc_remove {k : Nat} {u : SX} {v : SY} (I : i_Rel k u v) (hk : k + 5 ≤ 2560) (v1 : Int32) (v2 : Int32) (v3 : Int32) : wpX_remove (fun r u' => wpY_remove (fun r' v' => r' = r ∧ i_Rel (k + 5) u' v') v v1 v2 v3) u v1 v2 v3 := by
  refine zi_el (P := fun u v => wpX_remove (fun r u' => wpY_remove (fun r' v' => r' = r ∧ i_Rel (k + 5) u' v') v v1 v2 v3) u v1 v2 v3) ?_ I
  intro f_nodes f_time f_latest f_entries f_logged f_complete f_taken f_sinceEntry f_sinceCount f_parts f_wrongPart f_watches a_path a_data a_version a_childVersion a_created a_setAt a_owner a_firstChild a_sibling a_bucket a_open a_timeout a_deadline a_eKind a_ePath a_eData a_eOwner a_eVersion a_eNumber a_iPath a_iData a_iVersion a_iChildVersion a_iCreated a_iSet a_iOwner a_iTimeout a_iLatest a_pKind a_pPath a_pA a_pB a_uEntry a_uSlot a_uData a_uVersion a_uSet a_uChildVersion a_uCreated a_uOwner a_wSession a_wKind a_wPath a_queue a_queued g_time g_last g_watchCount g_partCount g_wrong g_changes g_log g_since g_placesLeft b_paths b_values b_open b_timeouts b_deadlines b_events b_eventCounts b_watchers b_watchKinds b_watchPaths b_parts b_happened b_how R
  have R5 : i_Rel (k + 5) (f_nodes, f_time, f_latest, f_entries, f_logged, f_complete, f_taken, f_sinceEntry, f_sinceCount, f_parts, f_wrongPart, f_watches, a_path, a_data, a_version, a_childVersion, a_created, a_setAt, a_owner, a_firstChild, a_sibling, a_bucket, a_open, a_timeout, a_deadline, a_eKind, a_ePath, a_eData, a_eOwner, a_eVersion, a_eNumber, a_iPath, a_iData, a_iVersion, a_iChildVersion, a_iCreated, a_iSet, a_iOwner, a_iTimeout, a_iLatest, a_pKind, a_pPath, a_pA, a_pB, a_uEntry, a_uSlot, a_uData, a_uVersion, a_uSet, a_uChildVersion, a_uCreated, a_uOwner, a_wSession, a_wKind, a_wPath, a_queue, a_queued) (g_time, g_last, g_watchCount, g_partCount, g_wrong, g_changes, g_log, g_since, g_placesLeft, b_paths, b_values, b_open, b_timeouts, b_deadlines, b_events, b_eventCounts, b_watchers, b_watchKinds, b_watchPaths, b_parts, b_happened, b_how) := i_up (k := k) R
  obtain ⟨C, S, N, lg, pc, cb, sn, M, T, Q⟩ := R
  have lim := zi_N_lt Q
  have q1 := Q.1.1
  have q2 := Q.1.2.1
  have q3 := Q.1.2.2.1
  have q4 := Q.1.2.2.2.1
  have q6 := Q.1.2.2.2.2.2.1
  have w := Q.2.2.2.2.1
  have x := Q.2.2.2.2.2.1
  have hkk : zk_cn a_path v2 0 = zc_cnt (zr_oc b_paths (zk_P v2 0)) 21 := zr_cnt M.1.1.2.1 T.1 (zk_P v2 0)
  have kids : zc_cnt (zr_oc b_paths (zk_P v2 0)) 21 = 0 → ∀ q y, C q = some y → ¬ q = 0 → ¬ q / 101 = v2 := fun z => zx_kids0 M.1.1.2.1 (by rw [hkk]; exact z)
  have flg : (2 : Int32) = 0 → ∃ f, f < 4 ∧ v3 = nI f := fun z => absurd z (by decide)
  refine zx_oneR (n := zr_n b_paths 21) M.1 M.2.1 (by omega) q1 q2 (by omega) w (fun h1 => ?_) (fun s hs e ho c => ?_) (fun s hs e ho c r hr => ?_) (fun s hs e ho c r en hr f_nodes1 a_path1 a_data1 a_version1 a_childVersion1 a_created1 a_setAt1 a_owner1 a_firstChild1 a_sibling1 a_bucket1 a_eKind1 a_ePath1 a_eData1 a_eOwner1 a_eVersion1 a_eNumber1 f_watches1 a_wSession1 a_wKind1 a_wPath1 a_queue1 a_queued1 St w1 => ?_)
  · refine zy_oneR (fun _ => And.intro rfl R5) (fun s hs e ho => ?_)
    rw [q6] at ho; exact absurd (h1 s hs e) ho
  · refine zy_oneR (fun h1 => ?_) (fun s' hs' e' ho' => ?_)
    · rw [q6] at h1; exact absurd (h1 s hs e) ho
    · rw [e']
      exact zy_single T M.2.1 (by omega) q3 (by omega) hs' (Or.inr (Or.inr rfl)) flg x kids (fun _ => And.intro rfl R5) (fun c' => by omega) (fun c' => by omega)
  · refine zy_oneR (fun h1 => ?_) (fun s' hs' e' ho' => ?_)
    · rw [q6] at h1; exact absurd (h1 s hs e) ho
    · rw [e']
      refine zy_single T M.2.1 (by omega) q3 (by omega) hs' (Or.inr (Or.inr rfl)) flg x kids (fun c' => by omega) (fun c' r' hr' => ?_) (fun c' r' e2 hr' => ?_)
      · rw [e', hkk, ← q4, hr'] at hr
        exact And.intro (zb_pair hr).1 (zi_mk (zi_M_up M) T (zi_Q_ch Q))
      · rw [e', hkk, ← q4, hr'] at hr
        exact nomatch (zb_pair hr).2
  · refine zy_oneR (fun h1 => ?_) (fun s' hs' e' ho' => ?_)
    · rw [q6] at h1; exact absurd (h1 s hs e) ho
    · rw [hkk] at hr
      have hf := hr
      rw [e', ← q4] at hr
      rw [e']
      refine zy_single T M.2.1 (by omega) q3 (by omega) hs' (Or.inr (Or.inr rfl)) flg x kids (fun c' => by omega) (fun c' r' hr' => ?_) (fun c' r' e2 hr' b_paths1 b_values1 g_changes1 b_happened1 b_how1 g_watchCount1 b_watchers1 b_watchKinds1 b_watchPaths1 b_events1 b_eventCounts1 T1 x1 => ?_)
      · rw [hr'] at hr
        exact nomatch (zb_pair hr).2
      · rw [hr'] at hr
        obtain ⟨a1, a2⟩ := zb_pair hr
        have a2 := Option.some.inj a2
        subst a1 a2
        rw [e'] at hf
        have F := zq_facts M.2.1 (by omega) hs' kids (Or.inr (Or.inr (Or.inl rfl))) hf
        exact And.intro rfl (zi_one M Q St F T1 w1 x1 c)
end
section
/-! closing a session: its nodes go, the greatest path first -/
def zm_no (C : zn_Mp) (s : Int32) : Prop := ∀ p x, C p = some x → ¬ x.2.2.2.2.2 = s
def zm_max (C : zn_Mp) (s m : Int32) : Prop := (∃ x, C m = some x ∧ x.2.2.2.2.2 = s) ∧ ∀ p y, C p = some y → y.2.2.2.2.2 = s → p.toInt ≤ m.toInt
theorem zm_uni {C : zn_Mp} {s m m' : Int32} (h : zm_max C s m) (h' : zm_max C s m') : m = m' := by
  obtain ⟨⟨x, hx, hx2⟩, h1⟩ := h
  obtain ⟨⟨y, hy, hy2⟩, h2⟩ := h'
  have := h1 m' y hy hy2
  have := h2 m x hx hx2
  exact zb_inj (by omega)
/-- the removals that empty a session -/
def zm_run (s t : Int32) : List zf_E → zn_Mp → zn_Mp → Prop
  | [], C, C' => zm_no C s ∧ C' = C
  | e :: L, C, C' => (∃ m w, zm_max C s m ∧ C (m / 101) = some w ∧ e = (3, m, 0, 0, w.2.2.1 + 1, t)) ∧ zm_run s t L (zf_ap e C) C'
/-- the best so far -/
def zm_b (path ow : Nat → Int32) (s : Int32) (i : Nat) (b : Int32) : Prop :=
  (b = -1 ∧ ∀ j, 1 ≤ j → j < i → 0 ≤ (path j).toInt → ¬ ow j = s) ∨
  (∃ j, 1 ≤ j ∧ j < i ∧ b = nI j ∧ 0 ≤ (path j).toInt ∧ ow j = s ∧ ∀ j', 1 ≤ j' → j' < i → 0 ≤ (path j').toInt → ow j' = s → (path j').toInt ≤ (path j).toInt)
theorem zm_b_skip {path ow : Nat → Int32} {s : Int32} {i : Nat} {b : Int32} (h : zm_b path ow s i b) (hi : 0 ≤ (path i).toInt → ¬ ow i = s) : zm_b path ow s (i + 1) b := by
  rcases h with ⟨e, h⟩ | ⟨j, h1, h2, e, h0, ho, hm⟩
  · refine Or.inl ⟨e, fun j a b c => ?_⟩
    by_cases z : j = i
    · rw [z] at c ⊢; exact hi c
    · exact h j a (by omega) c
  · refine Or.inr ⟨j, h1, by omega, e, h0, ho, fun j' a b c d => ?_⟩
    by_cases z : j' = i
    · rw [z] at c d; exact absurd d (hi c)
    · exact hm j' a (by omega) c d
theorem zm_b_new {path ow : Nat → Int32} {s : Int32} {i : Nat} {b : Int32} (h : zm_b path ow s i b) (h1 : 1 ≤ i) (h0 : 0 ≤ (path i).toInt) (ho : ow i = s) (hb : b = -1 ∨ ∃ j, j < 48 ∧ b = nI j ∧ (path j).toInt < (path i).toInt) (hi : i < 48) : zm_b path ow s (i + 1) (nI i) := by
  refine Or.inr ⟨i, h1, by omega, rfl, h0, ho, fun j' a b' c d => ?_⟩
  by_cases z : j' = i
  · rw [z]; omega
  · rcases h with ⟨e, h⟩ | ⟨j, _, h2, e, _, _, hm⟩
    · exact absurd d (h j' a (by omega) c)
    · have := hm j' a (by omega) c d
      rcases hb with hb | ⟨j2, hj2, hb, hlt⟩
      · rw [e] at hb; exact absurd hb (zh_m1 (by omega))
      · have : j = j2 := zh_inj (by omega) hj2 (by rw [← e, hb])
        subst this
        omega
theorem zm_b_keep {path ow : Nat → Int32} {s : Int32} {i j : Nat} (h : zm_b path ow s i (nI j)) (hj : j < 48) (hi : i < 48) (hle : (path i).toInt ≤ (path j).toInt) : zm_b path ow s (i + 1) (nI j) := by
  rcases h with ⟨e, h⟩ | ⟨j2, h1, h2, e, h0, ho, hm⟩
  · exact absurd e (zh_m1 hj)
  · have : j = j2 := zh_inj hj (by omega) e
    subst this
    refine Or.inr ⟨j, h1, by omega, rfl, h0, ho, fun j' a b c d => ?_⟩
    by_cases z : j' = i
    · rw [z]; exact hle
    · exact hm j' a (by omega) c d
section
variable {f_nodes f_time f_latest f_entries f_logged f_complete f_taken f_sinceEntry f_sinceCount f_parts f_wrongPart f_watches : Int32} {a_path a_data a_version a_childVersion a_created a_setAt a_owner a_firstChild a_sibling a_bucket a_open a_timeout a_deadline a_eKind a_ePath a_eData a_eOwner a_eVersion a_eNumber a_iPath a_iData a_iVersion a_iChildVersion a_iCreated a_iSet a_iOwner a_iTimeout a_iLatest a_pKind a_pPath a_pA a_pB a_uEntry a_uSlot a_uData a_uVersion a_uSet a_uChildVersion a_uCreated a_uOwner a_wSession a_wKind a_wPath a_queue a_queued : Nat → Int32}
theorem zx_last_lp {post : Int32 → Prop} {s : Int32} (h : ∀ b, zm_b a_path a_owner s 21 b → post b) : ∀ (d i : Nat) (b : Int32), i + d = 21 → 1 ≤ i → zm_b a_path a_owner s i b → wX_lastOf_4 post s f_nodes f_time f_latest f_entries f_logged f_complete f_taken f_sinceEntry f_sinceCount f_parts f_wrongPart f_watches a_path a_data a_version a_childVersion a_created a_setAt a_owner a_firstChild a_sibling a_bucket a_open a_timeout a_deadline a_eKind a_ePath a_eData a_eOwner a_eVersion a_eNumber a_iPath a_iData a_iVersion a_iChildVersion a_iCreated a_iSet a_iOwner a_iTimeout a_iLatest a_pKind a_pPath a_pA a_pB a_uEntry a_uSlot a_uData a_uVersion a_uSet a_uChildVersion a_uCreated a_uOwner a_wSession a_wKind a_wPath a_queue a_queued (d + 1) b (nI i) := by
  intro d
  induction d with
  | zero =>
    intro i b hi _ hb
    have : i = 21 := by omega
    subst this
    exact br_t (by decide) (h b hb)
  | succ d ih =>
    intro i b hi h1 hb
    have hc := nI_clamp (n := i) (by omega)
    refine br_f (nI_nlt (a := 20) (by omega) (by decide)) (zz_in rfl (show i < 48 by omega) (by decide) ?_)
    rw [hc]
    by_cases c : (a_path i).toInt < 0
    · exact br_t (by rw [zb_lt0]; exact c) (nm_r (nI_1 i) (ih (i + 1) b (by omega) (by omega) (zm_b_skip hb fun z => by omega)))
    · refine br_f (by rw [zb_lt0]; exact c) (zz_in rfl (show i < 48 by omega) (by decide) ?_)
      by_cases co : a_owner i = s
      · refine br_t co ?_
        have hb' := hb
        rcases hb' with ⟨e, _⟩ | ⟨j, j1, j2, e, _⟩
        · exact br_t (by rw [e]; decide) (nm_r (nI_1 i) (ih (i + 1) _ (by omega) (by omega) (zm_b_new hb h1 (by omega) co (Or.inl e) (by omega))))
        · subst e
          have hcj := nI_clamp (n := j) (by omega)
          refine br_f (nI_pos (by omega)) (zz_in rfl (show i < 48 by omega) (by decide) (zz_in rfl (show j < 48 by omega) (by decide) ?_))
          rw [hcj]
          by_cases cl : (a_path i).toInt ≤ (a_path j).toInt
          · exact br_t (by rw [zb_le]; exact cl) (nm_r (nI_1 i) (ih (i + 1) _ (by omega) (by omega) (zm_b_keep hb (by omega) (by omega) cl)))
          · exact br_f (by rw [zb_le]; exact cl) (nm_r (nI_1 i) (ih (i + 1) _ (by omega) (by omega) (zm_b_new hb h1 (by omega) co (Or.inr ⟨j, by omega, rfl, by omega⟩) (by omega))))
      · exact br_f co (nm_r (nI_1 i) (ih (i + 1) b (by omega) (by omega) (zm_b_skip hb fun _ => co)))
theorem zx_last {post : Int32 → Prop} {C : zn_Mp} {b ss : Nat} (H : zx_T f_nodes a_path a_data a_version a_childVersion a_created a_setAt a_owner a_firstChild a_sibling a_bucket C) (hC : zi_C b C) (hss : ss < 4) (h0 : zm_no C (nI ss) → post (-1)) (h1 : ∀ j, j < 21 → 0 < (a_path j).toInt → zm_max C (nI ss) (a_path j) → post (nI j)) : wpX_lastOf post (f_nodes, f_time, f_latest, f_entries, f_logged, f_complete, f_taken, f_sinceEntry, f_sinceCount, f_parts, f_wrongPart, f_watches, a_path, a_data, a_version, a_childVersion, a_created, a_setAt, a_owner, a_firstChild, a_sibling, a_bucket, a_open, a_timeout, a_deadline, a_eKind, a_ePath, a_eData, a_eOwner, a_eVersion, a_eNumber, a_iPath, a_iData, a_iVersion, a_iChildVersion, a_iCreated, a_iSet, a_iOwner, a_iTimeout, a_iLatest, a_pKind, a_pPath, a_pA, a_pB, a_uEntry, a_uSlot, a_uData, a_uVersion, a_uSet, a_uChildVersion, a_uCreated, a_uOwner, a_wSession, a_wKind, a_wPath, a_queue, a_queued) (nI ss) := by
  refine Exists.intro 21 (zx_last_lp (fun b hb => ?_) 20 1 (-1) rfl (by omega) (Or.inl ⟨rfl, fun j a c => by omega⟩))
  obtain ⟨r, hr, hr2⟩ := hC.1
  have root : ∀ p x, C p = some x → x.2.2.2.2.2 = nI ss → ¬ p = 0 := fun p x e eo z => by
    rw [z, hr] at e
    rw [← Option.some.inj e, hr2] at eo
    exact zh_m1 (s := ss) (by omega) eo.symm
  have slot : ∀ p x, C p = some x → x.2.2.2.2.2 = nI ss → ∃ j, 1 ≤ j ∧ j < 21 ∧ a_path j = p ∧ 0 ≤ (a_path j).toInt ∧ a_owner j = nI ss := fun p x e eo => by
    obtain ⟨j, hj, ej, ex, j0⟩ := zr_get H.1.2.1 e
    have hj21 := zx_slot H hj j0
    refine ⟨j, ?_, hj21, ej, j0, by rw [← eo, ← ex]; rfl⟩
    rcases Nat.eq_zero_or_pos j with z | z
    · rw [z, H.2.2.2] at ej; exact absurd ej.symm (root p x e eo)
    · exact z
  rcases hb with ⟨rfl, hb⟩ | ⟨j, j1, j2, rfl, j0, jo, hm⟩
  · refine h0 fun p x e eo => ?_
    obtain ⟨j, a1, a2, _, a4, a5⟩ := slot p x e eo
    exact hb j a1 a2 a4 a5
  · have ej := H.1.2.1.1 j (by omega) j0
    have hne : ¬ a_path j = 0 := root _ _ ej jo
    refine h1 j j2 ?_ ⟨⟨_, ej, jo⟩, fun p y e eo => ?_⟩
    · have : (a_path j).toInt ≠ 0 := fun z => hne (zb_inj (by rw [z, zb_t0]))
      omega
    · obtain ⟨j', a1, a2, a3, a4, a5⟩ := slot p y e eo
      rw [← a3]
      exact hm j' a1 a2 a4 a5
end
section
variable {g_time g_last g_watchCount g_partCount g_wrong g_changes g_log g_since g_placesLeft : Int32} {b_paths b_values b_open b_timeouts b_deadlines b_events b_eventCounts b_watchers b_watchKinds b_watchPaths b_parts b_happened b_how : Nat → Int32}
theorem zy_own_lp {post : Int32 → Prop} {s : Int32} (h : ∀ b, zm_b b_paths (fun k => b_values (6 * k + 5)) s 21 b → post b) : ∀ (d i : Nat) (b : Int32), i + d = 21 → 1 ≤ i → zm_b b_paths (fun k => b_values (6 * k + 5)) s i b → wY_owned_4 post s g_time g_last g_watchCount g_partCount g_wrong g_changes g_log g_since g_placesLeft b_paths b_values b_open b_timeouts b_deadlines b_events b_eventCounts b_watchers b_watchKinds b_watchPaths b_parts b_happened b_how (d + 1) b (nI i) := by
  intro d
  induction d with
  | zero =>
    intro i b hi _ hb
    have : i = 21 := by omega
    subst this
    exact br_t (by decide) (h b hb)
  | succ d ih =>
    intro i b hi h1 hb
    have hc := nI_clamp (n := i) (by omega)
    have i5 := nI_clamp (n := 6 * i + 5) (by omega)
    refine br_f (nI_ge (b := 21) (by omega) (by decide)) (zz_in rfl (show i < 42 by omega) (by decide) ?_)
    rw [hc]
    by_cases c : (b_paths i).toInt < 0
    · exact br_t (by rw [zb_lt0]; exact c) (nm_r (nI_1 i) (ih (i + 1) b (by omega) (by omega) (zm_b_skip hb fun z => by omega)))
    · refine br_f (by rw [zb_lt0]; exact c) (zz_in (zy_i5 i) (by omega) (by decide) ?_)
      rw [zy_i5, i5]
      by_cases co : b_values (6 * i + 5) = s
      · refine br_t co ?_
        have hb' := hb
        rcases hb' with ⟨e, _⟩ | ⟨j, j1, j2, e, _⟩
        · exact br_t (by rw [e]; decide) (nm_r (nI_1 i) (ih (i + 1) _ (by omega) (by omega) (zm_b_new hb h1 (by omega) co (Or.inl e) (by omega))))
        · subst e
          have hcj := nI_clamp (n := j) (by omega)
          refine br_f (nI_pos (by omega)) (zz_in rfl (show i < 42 by omega) (by decide) (zz_in rfl (show j < 42 by omega) (by decide) ?_))
          rw [hcj]
          by_cases cl : (b_paths i).toInt ≤ (b_paths j).toInt
          · exact br_t (by rw [zb_le]; exact cl) (nm_r (nI_1 i) (ih (i + 1) _ (by omega) (by omega) (zm_b_keep hb (by omega) (by omega) cl)))
          · exact br_f (by rw [zb_le]; exact cl) (nm_r (nI_1 i) (ih (i + 1) _ (by omega) (by omega) (zm_b_new hb h1 (by omega) co (Or.inr ⟨j, by omega, rfl, by omega⟩) (by omega))))
      · exact br_f co (nm_r (nI_1 i) (ih (i + 1) b (by omega) (by omega) (zm_b_skip hb fun _ => co)))
theorem zy_own {post : Int32 → Prop} {C : zn_Mp} {b ss : Nat} (H : zy_T b_paths b_values C) (hC : zi_C b C) (hss : ss < 4) (h0 : zm_no C (nI ss) → post (-1)) (h1 : ∀ j, j < 21 → 0 < (b_paths j).toInt → zm_max C (nI ss) (b_paths j) → post (nI j)) : wpY_owned post (g_time, g_last, g_watchCount, g_partCount, g_wrong, g_changes, g_log, g_since, g_placesLeft, b_paths, b_values, b_open, b_timeouts, b_deadlines, b_events, b_eventCounts, b_watchers, b_watchKinds, b_watchPaths, b_parts, b_happened, b_how) (nI ss) := by
  refine Exists.intro 21 (zy_own_lp (fun b hb => ?_) 20 1 (-1) rfl (by omega) (Or.inl ⟨rfl, fun j a c => by omega⟩))
  obtain ⟨r, hr, hr2⟩ := hC.1
  have root : ∀ p x, C p = some x → x.2.2.2.2.2 = nI ss → ¬ p = 0 := fun p x e eo z => by
    rw [z, hr] at e
    rw [← Option.some.inj e, hr2] at eo
    exact zh_m1 (s := ss) (by omega) eo.symm
  have slot : ∀ p x, C p = some x → x.2.2.2.2.2 = nI ss → ∃ j, 1 ≤ j ∧ j < 21 ∧ b_paths j = p ∧ 0 ≤ (b_paths j).toInt ∧ b_values (6 * j + 5) = nI ss := fun p x e eo => by
    obtain ⟨j, hj, ej, ex, j0⟩ := zr_get H.1 e
    refine ⟨j, ?_, hj, ej, j0, by rw [← eo, ← ex]; rfl⟩
    rcases Nat.eq_zero_or_pos j with z | z
    · rw [z, H.2] at ej; exact absurd ej.symm (root p x e eo)
    · exact z
  rcases hb with ⟨rfl, hb⟩ | ⟨j, j1, j2, rfl, j0, jo, hm⟩
  · refine h0 fun p x e eo => ?_
    obtain ⟨j, a1, a2, _, a4, a5⟩ := slot p x e eo
    exact hb j a1 a2 a4 a5
  · have ej := H.1.1 j (by omega) j0
    have hne : ¬ b_paths j = 0 := root _ _ ej jo
    refine h1 j j2 ?_ ⟨⟨_, ej, jo⟩, fun p y e eo => ?_⟩
    · have : (b_paths j).toInt ≠ 0 := fun z => hne (zb_inj (by rw [z, zb_t0]))
      omega
    · obtain ⟨j', a1, a2, a3, a4, a5⟩ := slot p y e eo
      rw [← a3]
      exact hm j' a1 a2 a4 a5
end
end
section
/-! closing: the loops of both sides -/
theorem zm_run_3 {s t : Int32} : ∀ {L : List zf_E} {C C' : zn_Mp}, zm_run s t L C C' → ∀ (j : Nat) (e : zf_E), L[j]? = some e → e.1 = 3
  | [], _, _, _, j, e, h => by simp at h
  | x :: L, C, C', h, 0, e, he => by
    obtain ⟨⟨m, w, _, _, hx⟩, _⟩ := h
    have he : x = e := by simpa using he
    rw [← he, hx]
  | x :: L, C, C', h, j + 1, e, he => zm_run_3 h.2 j e (by simpa using he)
/-- a session's node has no children -/
theorem zm_leaf {C : zn_Mp} {b ss : Nat} (hC : zi_C b C) {m : Int32} (hm : zm_max C (nI ss) m) (hss : ss < 4) : ∀ q y, C q = some y → ¬ q = 0 → ¬ q / 101 = m := by
  intro q y e q0 eq
  obtain ⟨⟨x, hx, hx2⟩, _⟩ := hm
  obtain ⟨u, hu, hu2⟩ := (hC.2 _ _ e).2.2.2.2.2.2.2 q0
  rw [eq, hx] at hu
  rw [← Option.some.inj hu, hx2] at hu2
  exact zh_m1 (s := ss) (by omega) hu2
section
variable {f_nodes f_time f_latest f_entries f_logged f_complete f_taken f_sinceEntry f_sinceCount f_parts f_wrongPart f_watches : Int32} {a_path a_data a_version a_childVersion a_created a_setAt a_owner a_firstChild a_sibling a_bucket a_open a_timeout a_deadline a_eKind a_ePath a_eData a_eOwner a_eVersion a_eNumber a_iPath a_iData a_iVersion a_iChildVersion a_iCreated a_iSet a_iOwner a_iTimeout a_iLatest a_pKind a_pPath a_pA a_pB a_uEntry a_uSlot a_uData a_uVersion a_uSet a_uChildVersion a_uCreated a_uOwner a_wSession a_wKind a_wPath a_queue a_queued : Nat → Int32}
/-- watches of the session go -/
theorem zx_close28 {post : Int32 → SX → Prop} {ss : Nat} {W : List zw_E} (hW : W.length ≤ 16) (ok : zw_ok W)
    (h : ∀ (ws wk wp : Nat → Int32), zw_at ws wk wp 0 (W.filter (fun e => !decide (e.1 = nI ss))) →
      wpX_lastOf (fun r => ∃ n81 : Nat, wX_close_81 post (nI ss) f_entries n81 0 r f_nodes f_time f_latest f_entries f_logged f_complete f_taken f_sinceEntry f_sinceCount f_parts f_wrongPart (nI (W.filter (fun e => !decide (e.1 = nI ss))).length) a_path a_data a_version a_childVersion a_created a_setAt a_owner a_firstChild a_sibling a_bucket a_open a_timeout a_deadline a_eKind a_ePath a_eData a_eOwner a_eVersion a_eNumber a_iPath a_iData a_iVersion a_iChildVersion a_iCreated a_iSet a_iOwner a_iTimeout a_iLatest a_pKind a_pPath a_pA a_pB a_uEntry a_uSlot a_uData a_uVersion a_uSet a_uChildVersion a_uCreated a_uOwner ws wk wp a_queue a_queued) (f_nodes, f_time, f_latest, f_entries, f_logged, f_complete, f_taken, f_sinceEntry, f_sinceCount, f_parts, f_wrongPart, nI (W.filter (fun e => !decide (e.1 = nI ss))).length, a_path, a_data, a_version, a_childVersion, a_created, a_setAt, a_owner, a_firstChild, a_sibling, a_bucket, a_open, a_timeout, a_deadline, a_eKind, a_ePath, a_eData, a_eOwner, a_eVersion, a_eNumber, a_iPath, a_iData, a_iVersion, a_iChildVersion, a_iCreated, a_iSet, a_iOwner, a_iTimeout, a_iLatest, a_pKind, a_pPath, a_pA, a_pB, a_uEntry, a_uSlot, a_uData, a_uVersion, a_uSet, a_uChildVersion, a_uCreated, a_uOwner, ws, wk, wp, a_queue, a_queued) (nI ss)) :
    ∀ (L D : List zw_E) (ws wk wp : Nat → Int32), W = D ++ L → zw_at ws wk wp 0 (D.filter (fun e => !decide (e.1 = nI ss))) → zw_at ws wk wp D.length L →
      wX_close_28 post (nI ss) (L.length + 1) (nI (D.filter (fun e => !decide (e.1 = nI ss))).length) (nI D.length) f_nodes f_time f_latest f_entries f_logged f_complete f_taken f_sinceEntry f_sinceCount f_parts f_wrongPart (nI W.length) a_path a_data a_version a_childVersion a_created a_setAt a_owner a_firstChild a_sibling a_bucket a_open a_timeout a_deadline a_eKind a_ePath a_eData a_eOwner a_eVersion a_eNumber a_iPath a_iData a_iVersion a_iChildVersion a_iCreated a_iSet a_iOwner a_iTimeout a_iLatest a_pKind a_pPath a_pA a_pB a_uEntry a_uSlot a_uData a_uVersion a_uSet a_uChildVersion a_uCreated a_uOwner ws wk wp a_queue a_queued := by
  intro L
  induction L with
  | nil =>
    intro D ws wk wp hD a1 a2
    rw [List.append_nil] at hD
    subst hD
    exact br_t (nI_le (Nat.le_refl _) (by omega)) (h ws wk wp a1)
  | cons e L ih =>
    intro D ws wk wp hD a1 a2
    have hlen : W.length = D.length + (L.length + 1) := by rw [hD, List.length_append, List.length_cons]
    have hfl := List.length_filter_le (fun e => !decide (e.1 = nI ss)) D
    have hc := nI_clamp (n := D.length) (by omega)
    obtain ⟨he, a3⟩ := a2
    have hmem : e ∈ W := by rw [hD]; exact List.mem_append_right _ List.mem_cons_self
    obtain ⟨⟨s, hs, es⟩, ⟨kd, hkd, ek⟩⟩ := ok e hmem
    have e1 : ws D.length = nI s := by rw [← es, he]
    have e2 : wk D.length = nI kd := by rw [← ek, he]
    have ihn := ih (D ++ [e])
    rw [List.length_append, List.length_singleton, List.filter_append] at ihn
    refine br_f (nI_ge (by omega) (by omega)) (zz_in rfl (by omega) (by decide) ?_)
    by_cases c : ws D.length = nI ss
    · have ef : List.filter (fun e => !decide (e.1 = nI ss)) [e] = [] := by
        have : e.1 = nI ss := by rw [he]; exact c
        simp [this]
      have := ihn ws wk wp (by rw [hD, List.append_assoc]; rfl) (by rw [ef, List.append_nil]; exact a1) a3
      rw [ef, List.append_nil] at this
      exact br_t (by rw [hc]; exact c) (nm_r (nI_1 _) this)
    · have ef : List.filter (fun e => !decide (e.1 = nI ss)) [e] = [e] := by
        have : ¬ e.1 = nI ss := by rw [he]; exact c
        simp [this]
      refine br_f (by rw [hc]; exact c) (nm_r (nI_1 _) ?_)
      refine zx_keepW (by omega) (by omega) (by rw [e1]; exact zb_narN (by omega)) (by rw [e2]; exact zb_narN (by omega)) ?_
      have := ihn (upd ws (D.filter (fun e => !decide (e.1 = nI ss))).length (ws D.length)) (upd wk (D.filter (fun e => !decide (e.1 = nI ss))).length (wk D.length)) (upd wp (D.filter (fun e => !decide (e.1 = nI ss))).length (wp D.length))
        (by rw [hD, List.append_assoc]; rfl) (by
          rw [ef]
          refine zw_at_snoc (zw_at_cg a1 fun i _ hi => ?_) ?_
          · rw [pk_un (by omega), pk_un (by omega), pk_un (by omega)]; exact ⟨rfl, rfl, rfl⟩
          · rw [Nat.zero_add, pk_us, pk_us, pk_us]; exact he)
        (zw_at_cg a3 fun i hi _ => by rw [pk_un (by omega), pk_un (by omega), pk_un (by omega)]; exact ⟨rfl, rfl, rfl⟩)
      rw [ef, List.length_append, List.length_singleton] at this
      exact nm_r (nI_1 _) this
/-- the component's removals -/
theorem zx_close_lp {post : Int32 → SX → Prop} {ss fr cb : Nat} {sn : Option (Nat × Nat)} {op0 tm0 : Nat → Int32} (hss : ss < 4) (h01 : ∀ s, s < 4 → op0 s = 0 ∨ op0 s = 1) :
    ∀ (d : Nat) (C : zn_Mp) (b N c : Nat) (f_nodes : Int32) (a_path a_data a_version a_childVersion a_created a_setAt a_owner a_firstChild a_sibling a_bucket : Nat → Int32) (a_eKind a_ePath a_eData a_eOwner a_eVersion a_eNumber : Nat → Int32), zr_n a_path 48 ≤ d → zi_M b N C f_nodes a_path a_data a_version a_childVersion a_created a_setAt a_owner a_firstChild a_sibling a_bucket a_eKind a_ePath a_eData a_eOwner a_eVersion a_eNumber a_iPath a_iData a_iVersion a_iChildVersion a_iCreated a_iSet a_iOwner a_iTimeout cb sn op0 tm0 → N + zr_n a_path 48 ≤ 399 → b + zr_n a_path 48 < 1000000000 →
      (∀ (L : List zf_E) (C1 : zn_Mp) (f_nodes1 : Int32) (a_path1 a_data1 a_version1 a_childVersion1 a_created1 a_setAt1 a_owner1 a_firstChild1 a_sibling1 a_bucket1 : Nat → Int32) (a_eKind1 a_ePath1 a_eData1 a_eOwner1 a_eVersion1 a_eNumber1 : Nat → Int32), zm_run (nI ss) (f_latest + 1) L C C1 → zi_M (b + L.length) (N + L.length) C1 f_nodes1 a_path1 a_data1 a_version1 a_childVersion1 a_created1 a_setAt1 a_owner1 a_firstChild1 a_sibling1 a_bucket1 a_eKind1 a_ePath1 a_eData1 a_eOwner1 a_eVersion1 a_eNumber1 a_iPath a_iData a_iVersion a_iChildVersion a_iCreated a_iSet a_iOwner a_iTimeout cb sn op0 tm0 →
        (∀ j, j < N → zf_en a_eKind1 a_ePath1 a_eData1 a_eOwner1 a_eVersion1 a_eNumber1 j = zf_en a_eKind a_ePath a_eData a_eOwner a_eVersion a_eNumber j) → (∀ (j : Nat) (e : zf_E), L[j]? = some e → zf_en a_eKind1 a_ePath1 a_eData1 a_eOwner1 a_eVersion1 a_eNumber1 (N + j) = e) → zr_n a_path1 48 + L.length = zr_n a_path 48 →
        ∀ d', wX_close_81 post (nI ss) (nI fr) (d' + 1) (nI (c + L.length)) (-1) f_nodes1 f_time f_latest (nI (N + L.length)) f_logged f_complete f_taken f_sinceEntry f_sinceCount f_parts f_wrongPart f_watches a_path1 a_data1 a_version1 a_childVersion1 a_created1 a_setAt1 a_owner1 a_firstChild1 a_sibling1 a_bucket1 a_open a_timeout a_deadline a_eKind1 a_ePath1 a_eData1 a_eOwner1 a_eVersion1 a_eNumber1 a_iPath a_iData a_iVersion a_iChildVersion a_iCreated a_iSet a_iOwner a_iTimeout a_iLatest a_pKind a_pPath a_pA a_pB a_uEntry a_uSlot a_uData a_uVersion a_uSet a_uChildVersion a_uCreated a_uOwner a_wSession a_wKind a_wPath a_queue a_queued) →
      ∀ r, (zm_no C (nI ss) ∧ r = -1 ∨ ∃ j, j < 21 ∧ 0 < (a_path j).toInt ∧ zm_max C (nI ss) (a_path j) ∧ r = nI j) → wX_close_81 post (nI ss) (nI fr) (d + 1) (nI c) r f_nodes f_time f_latest (nI N) f_logged f_complete f_taken f_sinceEntry f_sinceCount f_parts f_wrongPart f_watches a_path a_data a_version a_childVersion a_created a_setAt a_owner a_firstChild a_sibling a_bucket a_open a_timeout a_deadline a_eKind a_ePath a_eData a_eOwner a_eVersion a_eNumber a_iPath a_iData a_iVersion a_iChildVersion a_iCreated a_iSet a_iOwner a_iTimeout a_iLatest a_pKind a_pPath a_pA a_pB a_uEntry a_uSlot a_uData a_uVersion a_uSet a_uChildVersion a_uCreated a_uOwner a_wSession a_wKind a_wPath a_queue a_queued := by
  intro d
  induction d with
  | zero =>
    intro C b N c f_nodes a_path a_data a_version a_childVersion a_created a_setAt a_owner a_firstChild a_sibling a_bucket a_eKind a_ePath a_eData a_eOwner a_eVersion a_eNumber hd M _ _ _ r _
    have hpos : 0 < zr_n a_path 48 := zc_pos' (s := 0) (by omega) (zr_oc1.mpr (by rw [M.1.2.2.2]; decide))
    omega
  | succ d ih =>
    intro C b N c f_nodes a_path a_data a_version a_childVersion a_created a_setAt a_owner a_firstChild a_sibling a_bucket a_eKind a_ePath a_eData a_eOwner a_eVersion a_eNumber hd M hN hb h r hr
    rcases hr with ⟨hno, rfl⟩ | ⟨j, hj, j0, hm, rfl⟩
    · exact h [] C _ _ _ _ _ _ _ _ _ _ _ _ _ _ _ _ _ ⟨hno, rfl⟩ M (fun _ _ => rfl) (fun j e he => by simp at he) rfl (d + 1)
    · have hleaf := zm_leaf M.2.1 hm hss
      have ej := M.1.1.2.1.1 j (by omega) (by omega)
      have hp0 : ¬ a_path j = 0 := fun z => by rw [z, zb_t0] at j0; omega
      have hok := (M.2.1.2 _ _ ej).1
      refine br_f (nI_pos (by omega)) ?_
      refine zx_drop M.1 M.2.1 (show N < 400 by omega) rfl (by omega) j0 (fun i hi i0 => ?_) (fun w hw f_nodes1 a_path1 a_data1 a_version1 a_childVersion1 a_created1 a_setAt1 a_owner1 a_firstChild1 a_sibling1 a_bucket1 a_eKind1 a_ePath1 a_eData1 a_eOwner1 a_eVersion1 a_eNumber1 St _ => ?_)
      · exact hleaf _ _ (M.1.1.2.1.1 i hi (by omega)) (fun z => by rw [z, zb_t0] at i0; omega)
      · have hC3 := zi_C3 (t := f_latest + 1) (d := 0) (o := 0) M.2.1 (by omega) hok hp0 hw hleaf
        have W3 : zf_W (3, a_path j, 0, 0, w.2.2.1 + 1, f_latest + 1) := ⟨by show -1 ≤ (0 : Int32).toInt ∧ (0 : Int32).toInt ≤ 3; decide, Or.inr (Or.inr (Or.inr (Or.inl ⟨rfl, hok, hp0⟩)))⟩
        have q3 : zf_q0 (3, a_path j, 0, 0, w.2.2.1 + 1, f_latest + 1) := ⟨by show ¬ (3 : Int32) = 4; decide, by show ¬ (3 : Int32) = 5; decide⟩
        have M1 := zi_M_step M St W3 q3 hC3 h01
        have n1 := zs_num3 St.2.1 rfl hok
        have ihr := ih _ _ _ (c + 1) _ _ _ _ _ _ _ _ _ _ _ _ _ _ _ _ _ (by omega) M1 (by omega) (by omega) (fun L C1 f_nodes2 a_path2 a_data2 a_version2 a_childVersion2 a_created2 a_setAt2 a_owner2 a_firstChild2 a_sibling2 a_bucket2 a_eKind2 a_ePath2 a_eData2 a_eOwner2 a_eVersion2 a_eNumber2 run M2 s1 s2 n2 d' => by
          have := h ((3, a_path j, 0, 0, w.2.2.1 + 1, f_latest + 1) :: L) C1 _ _ _ _ _ _ _ _ _ _ _ _ _ _ _ _ _ ⟨⟨a_path j, w, hm, hw, rfl⟩, run⟩
            (by rw [List.length_cons, show b + (L.length + 1) = b + 1 + L.length from by omega, show N + (L.length + 1) = N + 1 + L.length from by omega]; exact M2)
            (fun i hi => (s1 i (by omega)).trans (St.2.2.1 i (by omega)))
            (fun i e hi => by
              cases i with
              | zero =>
                have hi : (3, a_path j, 0, 0, w.2.2.1 + 1, f_latest + 1) = e := by simpa using hi
                rw [Nat.add_zero, s1 N (by omega), St.2.2.2, hi]
              | succ i =>
                have hi : L[i]? = some e := by simpa using hi
                rw [show N + (i + 1) = N + 1 + i from by omega]
                exact s2 i e hi)
            (by rw [List.length_cons]; omega) d'
          rw [List.length_cons, show c + (L.length + 1) = c + 1 + L.length from by omega, show N + (L.length + 1) = N + 1 + L.length from by omega] at this
          exact this)
        refine nm_r (nI_1 c) (zx_last M1.1 M1.2.1 hss (fun hno => ihr _ (Or.inl ⟨hno, rfl⟩)) (fun i hi i0 hm1 => ihr _ (Or.inr ⟨i, hi, i0, hm1, rfl⟩)))
end
section
variable {g_time g_last g_watchCount g_partCount g_wrong g_changes g_log g_since g_placesLeft : Int32} {b_paths b_values b_open b_timeouts b_deadlines b_events b_eventCounts b_watchers b_watchKinds b_watchPaths b_parts b_happened b_how : Nat → Int32}
/-- the reference's removals -/
theorem zy_close_lp {post : Int32 → SY → Prop} {ss : Nat} {t : Int32} {C1 : zn_Mp} (hss : ss < 4) :
    ∀ (L : List zf_E) (C : zn_Mp) (b c : Nat) (b_paths b_values : Nat → Int32) (b_happened b_how : Nat → Int32), zm_run (nI ss) t L C C1 → zy_T b_paths b_values C → zi_C b C → b + L.length < 1000000000 → c + L.length ≤ 20 →
      (∀ (b_paths1 b_values1 : Nat → Int32) (b_happened1 b_how1 : Nat → Int32), zy_T b_paths1 b_values1 C1 → (∀ j, j < c → b_happened1 j = b_happened j ∧ b_how1 j = b_how j) → (∀ (j : Nat) (e : zf_E), L[j]? = some e → b_happened1 (c + j) = e.2.1 ∧ b_how1 (c + j) = 2) →
        ∀ d', wY_close_48 post (nI ss) (d' + 1) (-1) g_time g_last g_watchCount g_partCount g_wrong (nI (c + L.length)) g_log g_since g_placesLeft b_paths1 b_values1 b_open b_timeouts b_deadlines b_events b_eventCounts b_watchers b_watchKinds b_watchPaths b_parts b_happened1 b_how1) →
      ∀ r, (zm_no C (nI ss) ∧ r = -1 ∨ ∃ j, j < 21 ∧ 0 < (b_paths j).toInt ∧ zm_max C (nI ss) (b_paths j) ∧ r = nI j) → wY_close_48 post (nI ss) (L.length + 1) r g_time g_last g_watchCount g_partCount g_wrong (nI c) g_log g_since g_placesLeft b_paths b_values b_open b_timeouts b_deadlines b_events b_eventCounts b_watchers b_watchKinds b_watchPaths b_parts b_happened b_how := by
  intro L
  induction L with
  | nil =>
    intro C b c b_paths b_values b_happened b_how run T hC hb hc h r hr
    obtain ⟨hno, rfl⟩ := run
    rcases hr with ⟨_, rfl⟩ | ⟨j, hj, j0, ⟨⟨x, hx, hx2⟩, _⟩, _⟩
    · exact h _ _ _ _ T (fun _ _ => ⟨rfl, rfl⟩) (fun j e he => by simp at he) 0
    · exact absurd hx2 (hno _ _ hx)
  | cons e L ih =>
    intro C b c b_paths b_values b_happened b_how run T hC hb hc h r hr
    obtain ⟨⟨m, w, hm, hw, rfl⟩, run⟩ := run
    rw [List.length_cons] at hb hc
    rcases hr with ⟨hno, _⟩ | ⟨j, hj, j0, hm', rfl⟩
    · obtain ⟨⟨x, hx, hx2⟩, _⟩ := hm
      exact absurd hx2 (hno _ _ hx)
    · have := zm_uni hm hm'
      subst this
      have hleaf := zm_leaf hC hm hss
      have hp0 : ¬ b_paths j = 0 := fun z => by rw [z, zb_t0] at j0; omega
      have hok := (hC.2 _ _ (T.1.1 j hj (by omega))).1
      have hC3 := zi_C3 (t := t) (d := 0) (o := 0) hC (by omega) hok hp0 hw hleaf
      refine br_f (nI_pos (by omega)) (zy_take (t := t) T hC (show c < 21 by omega) rfl hj j0 (fun w' hw' b_paths1 b_values1 T1 => ?_))
      have : w = w' := Option.some.inj (hw.symm.trans hw')
      subst this
      have ihr := ih _ _ (c + 1) b_paths1 b_values1 (upd b_happened c (b_paths j)) (upd b_how c 2) run T1.1 hC3 (by omega) (by omega) (fun b_paths2 b_values2 b_happened2 b_how2 T2 s1 s2 d' => by
        have := h b_paths2 b_values2 b_happened2 b_how2 T2 (fun i hi => by
            have := s1 i (by omega)
            rw [pk_un (by omega), pk_un (by omega)] at this
            exact this)
          (fun i e hi => by
            cases i with
            | zero =>
              have hi : (3, b_paths j, 0, 0, w.2.2.1 + 1, t) = e := by simpa using hi
              have := s1 c (by omega)
              rw [pk_us, pk_us] at this
              rw [Nat.add_zero, ← hi]
              exact this
            | succ i =>
              have hi : L[i]? = some e := by simpa using hi
              rw [show c + (i + 1) = c + 1 + i from by omega]
              exact s2 i e hi) d'
        rw [List.length_cons, show c + (L.length + 1) = c + 1 + L.length from by omega] at this
        exact this)
      exact zy_own T1.1 hC3 hss (fun hno => ihr _ (Or.inl ⟨hno, rfl⟩)) (fun i hi i0 hm1 => ihr _ (Or.inr ⟨i, hi, i0, hm1, rfl⟩))
end
end
section
/-! closing and opening, each side at its name -/
theorem zi_M_ses {b0 N : Nat} {C : zn_Mp} {e : zf_E} {f_nodes : Int32} {a_path a_data a_version a_childVersion a_created a_setAt a_owner a_firstChild a_sibling a_bucket : Nat → Int32} {a_eKind a_ePath a_eData a_eOwner a_eVersion a_eNumber : Nat → Int32} {a_eKind1 a_ePath1 a_eData1 a_eOwner1 a_eVersion1 a_eNumber1 : Nat → Int32} {a_iPath a_iData a_iVersion a_iChildVersion a_iCreated a_iSet a_iOwner : Nat → Int32} {a_iTimeout : Nat → Int32} {cb : Nat} {sn : Option (Nat × Nat)} {op tm op' tm' : Nat → Int32}
    (M : zi_M b0 N C f_nodes a_path a_data a_version a_childVersion a_created a_setAt a_owner a_firstChild a_sibling a_bucket a_eKind a_ePath a_eData a_eOwner a_eVersion a_eNumber a_iPath a_iData a_iVersion a_iChildVersion a_iCreated a_iSet a_iOwner a_iTimeout cb sn op tm) (hE : zs_En N e a_eKind a_ePath a_eData a_eOwner a_eVersion a_eNumber a_eKind1 a_ePath1 a_eData1 a_eOwner1 a_eVersion1 a_eNumber1) (hW : zf_W e) (k1 : ¬ e.1 = 1) (k2 : ¬ e.1 = 2) (k3 : ¬ e.1 = 3) (h01 : ∀ s, s < 4 → op s = 0 ∨ op s = 1)
    (hs : ∀ s, s < 4 → zf_q (zf_s e s (op s, tm s)) (op' s) (tm' s)) : zi_M b0 (N + 1) C f_nodes a_path a_data a_version a_childVersion a_created a_setAt a_owner a_firstChild a_sibling a_bucket a_eKind1 a_ePath1 a_eData1 a_eOwner1 a_eVersion1 a_eNumber1 a_iPath a_iData a_iVersion a_iChildVersion a_iCreated a_iSet a_iOwner a_iTimeout cb sn op' tm' := by
  obtain ⟨m1, m2, m3, m4, m5⟩ := M
  have hC : ∀ p, C p = zf_f e p (C p) := fun p => (zf_fo k1 k2 k3).symm
  refine ⟨m1, m2, fun j hj => ?_, zi_Full_app m4 (fun j hj => hE.1 j (by omega)) hE.2 hC (zx_cov m1) h01 hs, fun tk b hb => ?_⟩
  · by_cases z : j = N
    · rw [z, hE.2]; exact hW
    · rw [hE.1 j z]; exact m3 j (by omega)
  · obtain ⟨hbN, P⟩ := m5 tk b hb
    refine ⟨by omega, ?_⟩
    rw [show N + 1 - b = N - b + 1 from by omega]
    exact zi_Part_app P (fun j hj => hE.1 j (by omega)) (by rw [show b + (N - b) = N from by omega]; exact hE.2) hC (zx_cov m1) (fun s _ _ => Or.inl rfl) h01 hs
theorem zw_g7 {W : List zw_E} (ok : zw_ok W) (s : Int32) : W.filter (fun e => !zw_g s (-1) 7 e) = W.filter (fun e => !decide (e.1 = s)) := by
  refine List.filter_congr fun e he => ?_
  obtain ⟨_, ⟨kd, hkd, ek⟩⟩ := ok e he
  have b7 : ∀ kd, kd < 3 → ¬ (((7 : Int32) >>> (nI kd &&& 31)) &&& 1) = 0 := by decide
  congr 1
  rw [Bool.eq_iff_iff, zw_g_t, decide_eq_true_eq]
  exact ⟨fun z => z.1, fun z => ⟨z, by rw [ek]; exact b7 kd hkd, Or.inl (by decide)⟩⟩
/-- the watches and events when a session is closed -/
def zw_cl (s : Nat) (S : zw_S) : zw_S := (S.1.filter (fun e => !decide (e.1 = nI s)), S.2.1, upd S.2.2 s 0)
theorem zw_cl_ok {s : Nat} {S : zw_S} (h : zw_qok S.2.2) : zw_qok (zw_cl s S).2.2 := fun j hj => by
  show 0 ≤ (upd S.2.2 s 0 j).toInt ∧ (upd S.2.2 s 0 j).toInt ≤ 8
  by_cases z : j = s
  · rw [z, pk_us, zb_t0]; omega
  · rw [pk_un z]; exact h j hj
theorem zw_at5 {ek ep : Nat → Int32} {N n : Nat} {S : zw_S} (h : ek (N + n) = 5 ∨ ek (N + n) = 4 ∨ ek (N + n) = 0) : zw_tells ek ep N (n + 1) S = zw_tells ek ep N n S := by
  rw [zw_tells_snoc]
  unfold zw_tell
  rcases h with h | h | h <;> rw [h, if_neg (by decide), if_neg (by decide), if_neg (by decide)]
section
variable {f_nodes f_time f_latest f_entries f_logged f_complete f_taken f_sinceEntry f_sinceCount f_parts f_wrongPart f_watches : Int32} {a_path a_data a_version a_childVersion a_created a_setAt a_owner a_firstChild a_sibling a_bucket a_open a_timeout a_deadline a_eKind a_ePath a_eData a_eOwner a_eVersion a_eNumber a_iPath a_iData a_iVersion a_iChildVersion a_iCreated a_iSet a_iOwner a_iTimeout a_iLatest a_pKind a_pPath a_pA a_pB a_uEntry a_uSlot a_uData a_uVersion a_uSet a_uChildVersion a_uCreated a_uOwner a_wSession a_wKind a_wPath a_queue a_queued : Nat → Int32}
theorem zx_close {post : Int32 → SX → Prop} {C : zn_Mp} {S : zw_S} {b N ss cb : Nat} {sn : Option (Nat × Nat)} (hss : ss < 4) (ho : ¬ a_open ss = 0) (h01 : ∀ s, s < 4 → a_open s = 0 ∨ a_open s = 1)
    (M : zi_M b N C f_nodes a_path a_data a_version a_childVersion a_created a_setAt a_owner a_firstChild a_sibling a_bucket a_eKind a_ePath a_eData a_eOwner a_eVersion a_eNumber a_iPath a_iData a_iVersion a_iChildVersion a_iCreated a_iSet a_iOwner a_iTimeout cb sn a_open a_timeout) (he : f_entries = nI N) (hN : N + zr_n a_path 48 ≤ 398) (hb : b < 1000000) (R : zw_X f_watches a_wSession a_wKind a_wPath a_queue a_queued S)
    (h : ∀ (L : List zf_E) (C1 : zn_Mp) (f_nodes1 : Int32) (a_path1 a_data1 a_version1 a_childVersion1 a_created1 a_setAt1 a_owner1 a_firstChild1 a_sibling1 a_bucket1 : Nat → Int32) (a_eKind1 a_ePath1 a_eData1 a_eOwner1 a_eVersion1 a_eNumber1 : Nat → Int32) (f_watches1 : Int32) (a_wSession1 a_wKind1 a_wPath1 a_queue1 a_queued1 : Nat → Int32), zm_run (nI ss) (f_latest + 1) L C C1 → zi_M (b + L.length) (N + L.length + 1) C1 f_nodes1 a_path1 a_data1 a_version1 a_childVersion1 a_created1 a_setAt1 a_owner1 a_firstChild1 a_sibling1 a_bucket1 a_eKind1 a_ePath1 a_eData1 a_eOwner1 a_eVersion1 a_eNumber1 a_iPath a_iData a_iVersion a_iChildVersion a_iCreated a_iSet a_iOwner a_iTimeout cb sn (upd a_open ss 0) a_timeout →
      (∀ (j : Nat) (e : zf_E), L[j]? = some e → zf_en a_eKind1 a_ePath1 a_eData1 a_eOwner1 a_eVersion1 a_eNumber1 (N + j) = e) → a_eNumber1 (N + L.length) = f_latest + 1 → zr_n a_path1 48 + L.length = zr_n a_path 48 → zw_X f_watches1 a_wSession1 a_wKind1 a_wPath1 a_queue1 a_queued1 (zw_tells a_eKind1 a_ePath1 N L.length (zw_cl ss S)) →
      post (nI L.length) (f_nodes1, f_time, f_latest + 1, nI (N + L.length + 1), f_logged + 1, f_complete, f_taken, f_sinceEntry, f_sinceCount, f_parts, f_wrongPart, f_watches1, a_path1, a_data1, a_version1, a_childVersion1, a_created1, a_setAt1, a_owner1, a_firstChild1, a_sibling1, a_bucket1, upd a_open ss 0, a_timeout, a_deadline, a_eKind1, a_ePath1, a_eData1, a_eOwner1, a_eVersion1, a_eNumber1, a_iPath, a_iData, a_iVersion, a_iChildVersion, a_iCreated, a_iSet, a_iOwner, a_iTimeout, a_iLatest, a_pKind, a_pPath, a_pA, a_pB, a_uEntry, a_uSlot, a_uData, a_uVersion, a_uSet, a_uChildVersion, a_uCreated, a_uOwner, a_wSession1, a_wKind1, a_wPath1, a_queue1, a_queued1)) : wpX_close post (f_nodes, f_time, f_latest, f_entries, f_logged, f_complete, f_taken, f_sinceEntry, f_sinceCount, f_parts, f_wrongPart, f_watches, a_path, a_data, a_version, a_childVersion, a_created, a_setAt, a_owner, a_firstChild, a_sibling, a_bucket, a_open, a_timeout, a_deadline, a_eKind, a_ePath, a_eData, a_eOwner, a_eVersion, a_eNumber, a_iPath, a_iData, a_iVersion, a_iChildVersion, a_iCreated, a_iSet, a_iOwner, a_iTimeout, a_iLatest, a_pKind, a_pPath, a_pA, a_pB, a_uEntry, a_uSlot, a_uData, a_uVersion, a_uSet, a_uChildVersion, a_uCreated, a_uOwner, a_wSession, a_wKind, a_wPath, a_queue, a_queued) (nI ss) := by
  obtain ⟨W, q, qd⟩ := S
  obtain ⟨⟨rfl, w2, w3, w4⟩, rfl, rfl, w5⟩ := R
  subst he
  have hn21 := zx_n_le M.1
  unfold wpX_close
  refine zx_isOpen (fun h0 => absurd (h0 ss hss rfl) ho) (fun s hs e _ => br_f (by decide) ?_)
  refine zz_st rfl hss (by decide) zb_b0 (zz_st rfl hss (by decide) zb_nar0 ?_)
  refine Exists.intro (W.length + 1) (zx_close28 w2 w4 (fun ws wk wp a1 => ?_) W [] _ _ _ rfl trivial w3)
  have lp := zx_close_lp (post := post) (ss := ss) (fr := N) (f_time := f_time) (f_latest := f_latest) (f_logged := f_logged) (f_complete := f_complete) (f_taken := f_taken) (f_sinceEntry := f_sinceEntry) (f_sinceCount := f_sinceCount) (f_parts := f_parts) (f_wrongPart := f_wrongPart)
    (f_watches := nI (W.filter (fun e => !decide (e.1 = nI ss))).length) (a_open := upd a_open ss 0) (a_timeout := a_timeout) (a_deadline := a_deadline) (a_iLatest := a_iLatest) (a_pKind := a_pKind) (a_pPath := a_pPath) (a_pA := a_pA) (a_pB := a_pB)
    (a_uEntry := a_uEntry) (a_uSlot := a_uSlot) (a_uData := a_uData) (a_uVersion := a_uVersion) (a_uSet := a_uSet) (a_uChildVersion := a_uChildVersion) (a_uCreated := a_uCreated) (a_uOwner := a_uOwner) (a_wSession := ws) (a_wKind := wk) (a_wPath := wp) (a_queue := a_queue) (a_queued := upd a_queued ss 0)
    hss h01 (zr_n a_path 48) C b N 0 _ _ _ _ _ _ _ _ _ _ _ _ _ _ _ _ _ (Nat.le_refl _) M (by omega) (by omega) (fun L C1 f_nodes1 a_path1 a_data1 a_version1 a_childVersion1 a_created1 a_setAt1 a_owner1 a_firstChild1 a_sibling1 a_bucket1 a_eKind1 a_ePath1 a_eData1 a_eOwner1 a_eVersion1 a_eNumber1 run M1 s1 s2 n1 d' => by
      have hlen : L.length ≤ 21 := by omega
      refine br_t (by decide) (zx_entry (N := N + L.length) (by omega) rfl (by decide) (by decide) (by rw [nI_toInt (by omega)]; omega) (by rw [nI_toInt (by omega)]; omega) ?_)
      refine zx_commit (N := N + L.length + 1) (b := N) (S := zw_cl ss (W, a_queue, a_queued)) (by omega) (by omega) rfl ⟨⟨rfl, Nat.le_trans (List.length_filter_le _ _) w2, a1, fun x hx => w4 x (List.mem_filter.mp hx).1⟩, rfl, rfl, zw_cl_ok (S := (W, a_queue, a_queued)) w5⟩ (fun f_watches2 a_wSession2 a_wKind2 a_wPath2 a_queue2 a_queued2 R2 => ?_)
      rw [show N + L.length + 1 - N = L.length + 1 from by omega, zw_at5 (Or.inl pk_us)] at R2
      have hE : zs_En (N + L.length) (5, 0, 0, nI ss, 0, f_latest + 1) a_eKind1 a_ePath1 a_eData1 a_eOwner1 a_eVersion1 a_eNumber1 (upd a_eKind1 (N + L.length) 5) (upd a_ePath1 (N + L.length) 0) (upd a_eData1 (N + L.length) 0) (upd a_eOwner1 (N + L.length) (nI ss)) (upd a_eVersion1 (N + L.length) 0) (upd a_eNumber1 (N + L.length) (f_latest + 1)) := zs_En_upd
      rw [Nat.zero_add]
      refine h L C1 _ _ _ _ _ _ _ _ _ _ _ _ _ _ _ _ _ _ _ _ _ _ _ run (zi_M_ses M1 hE ?_ ?_ ?_ ?_ h01 (fun j hj => ?_)) (fun j e he => ?_) pk_us n1 R2
      · exact ⟨by show -1 ≤ (nI ss).toInt ∧ (nI ss).toInt ≤ 3; rw [nI_toInt (by omega)]; omega, Or.inr (Or.inr (Or.inr (Or.inr (Or.inr ⟨rfl, ss, hss, rfl⟩))))⟩
      · show ¬ (5 : Int32) = 1; decide
      · show ¬ (5 : Int32) = 2; decide
      · show ¬ (5 : Int32) = 3; decide
      · unfold zf_s
        rw [if_neg (fun z => absurd (show (5 : Int32) = 4 from z.1) (by decide))]
        by_cases z : j = ss
        · rw [if_pos ⟨rfl, by rw [z]⟩, z, pk_us]
          exact ⟨rfl, fun w => absurd w (by decide)⟩
        · rw [if_neg (fun w => z ((nI_eq (by omega) (by omega)).mp (show nI ss = nI j from w.2)).symm), pk_un z]
          exact ⟨rfl, fun _ => rfl⟩
      · have hj : j < L.length := by
          rcases Nat.lt_or_ge j L.length with z | z
          · exact z
          · rw [List.getElem?_eq_none z] at he; exact nomatch he
        rw [hE.1 _ (by omega)]
        exact s2 j e he)
  exact zx_last M.1 M.2.1 hss (fun hno => Exists.intro _ (lp _ (Or.inl ⟨hno, rfl⟩))) (fun j hj j0 hm => Exists.intro _ (lp _ (Or.inr ⟨j, hj, j0, hm, rfl⟩)))
end
section
variable {g_time g_last g_watchCount g_partCount g_wrong g_changes g_log g_since g_placesLeft : Int32} {b_paths b_values b_open b_timeouts b_deadlines b_events b_eventCounts b_watchers b_watchKinds b_watchPaths b_parts b_happened b_how : Nat → Int32}
theorem zy_close {post : Int32 → SY → Prop} {C C1 : zn_Mp} {S : zw_S} {b N ss : Nat} {t : Int32} {L : List zf_E} {ek ep : Nat → Int32} (hss : ss < 4) (ho : ¬ b_open ss = 0) (T : zy_T b_paths b_values C) (hC : zi_C b C) (hb : b < 1000000) (R : zw_X g_watchCount b_watchers b_watchKinds b_watchPaths b_events b_eventCounts S)
    (run : zm_run (nI ss) t L C C1) (hL : L.length ≤ 20) (hen : ∀ (j : Nat) (e : zf_E), L[j]? = some e → ek (N + j) = e.1 ∧ ep (N + j) = e.2.1 ∧ zp_ok e.2.1)
    (h : ∀ (b_paths1 b_values1 : Nat → Int32) (g_changes1 : Int32) (b_happened1 b_how1 : Nat → Int32) (g_watchCount1 : Int32) (b_watchers1 b_watchKinds1 b_watchPaths1 b_events1 b_eventCounts1 : Nat → Int32), zy_T b_paths1 b_values1 C1 → zw_X g_watchCount1 b_watchers1 b_watchKinds1 b_watchPaths1 b_events1 b_eventCounts1 (zw_tells ek ep N L.length (zw_cl ss S)) → post (nI L.length) (g_time, g_last + 1, g_watchCount1, g_partCount, g_wrong, g_changes1, g_log + 1, g_since + 1, g_placesLeft, b_paths1, b_values1, upd b_open ss 0, b_timeouts, b_deadlines, b_events1, b_eventCounts1, b_watchers1, b_watchKinds1, b_watchPaths1, b_parts, b_happened1, b_how1)) : wpY_close post (g_time, g_last, g_watchCount, g_partCount, g_wrong, g_changes, g_log, g_since, g_placesLeft, b_paths, b_values, b_open, b_timeouts, b_deadlines, b_events, b_eventCounts, b_watchers, b_watchKinds, b_watchPaths, b_parts, b_happened, b_how) (nI ss) := by
  obtain ⟨W, q, qd⟩ := S
  obtain ⟨R, rfl, rfl, w5⟩ := R
  unfold wpY_close
  refine zy_isOpen (fun h0 => absurd (h0 ss hss rfl) ho) (fun s hs e _ => br_f (by decide) ?_)
  refine nm_e (nm_e (nm_e ?_))
  refine zz_st rfl hss (by decide) zb_b0 (zy_drop R (fun rr n ws wk wp _ R1 => ?_))
  dsimp only at R1
  rw [zw_g7 R.2.2.2] at R1
  refine zz_st rfl hss (by decide) rfl ?_
  have lp := zy_close_lp (post := post) (ss := ss) (t := t) (g_time := g_time) (g_last := g_last + 1) (g_watchCount := n) (g_partCount := g_partCount) (g_wrong := g_wrong) (g_log := g_log + 1) (g_since := g_since + 1) (g_placesLeft := g_placesLeft)
    (b_open := upd b_open ss 0) (b_timeouts := b_timeouts) (b_deadlines := b_deadlines) (b_events := b_events) (b_eventCounts := upd b_eventCounts ss 0) (b_watchers := ws) (b_watchKinds := wk) (b_watchPaths := wp) (b_parts := b_parts)
    hss L C b 0 _ _ b_happened b_how run T hC (by omega) (by omega) (fun b_paths1 b_values1 b_happened1 b_how1 T1 _ s2 d' => by
      rw [Nat.zero_add]
      refine br_t (by decide) (zy_tellAll (ek := ek) (ep := ep) (b := N) (n := L.length) (S := zw_cl ss (W, b_events, b_eventCounts)) (by omega) rfl (fun j hj => ?_) ⟨R1, rfl, rfl, zw_cl_ok (S := (W, b_events, b_eventCounts)) w5⟩ (fun g_watchCount2 b_watchers2 b_watchKinds2 b_watchPaths2 b_events2 b_eventCounts2 R2 => h _ _ _ _ _ _ _ _ _ _ _ T1 R2))
      have he : L[j]? = some L[j] := List.getElem?_eq_getElem hj
      obtain ⟨h1, h2⟩ := s2 j _ he
      obtain ⟨h3, h4, h5⟩ := hen j _ he
      rw [Nat.zero_add] at h1 h2
      refine ⟨Or.inr (Or.inr ⟨by rw [h3]; exact zm_run_3 run j _ he, h2⟩), by rw [h4, h1], by rw [h1]; exact h5.1⟩)
  exact zy_own T hC hss (fun hno => Exists.intro _ (lp _ (Or.inl ⟨hno, rfl⟩))) (fun j hj j0 hm => Exists.intro _ (lp _ (Or.inr ⟨j, hj, j0, hm, rfl⟩)))
end
end
section
/-! opening, closing, time passes -/
theorem zi_S_1 {op : Nat → Int32} {s : Nat} (hs : s < 4) (h : op s = 0) : zi_S (upd op s 1) = zi_S op + 1 := by
  refine zc_upd hs (by rw [h]; decide) (by rw [pk_us]; decide) (fun j _ hn => by rw [pk_un hn])
theorem zi_S_0 {op : Nat → Int32} {s : Nat} (hs : s < 4) (h : op s = 1) : zi_S op = zi_S (upd op s 0) + 1 := by
  refine zc_upd hs (by rw [pk_us]; decide) (by rw [h]; decide) (fun j _ hn => by rw [pk_un hn])
theorem zb_20 : (20 : Int32).toInt = 20 := by decide
/-- the watches and events when a session comes -/
def zw_op (s : Nat) (S : zw_S) : zw_S := (S.1, S.2.1, upd S.2.2 s 0)
theorem zw_op_ok {s : Nat} {S : zw_S} (h : zw_qok S.2.2) : zw_qok (zw_op s S).2.2 := zw_cl_ok (S := S) h
section
variable {f_nodes f_time f_latest f_entries f_logged f_complete f_taken f_sinceEntry f_sinceCount f_parts f_wrongPart f_watches : Int32} {a_path a_data a_version a_childVersion a_created a_setAt a_owner a_firstChild a_sibling a_bucket a_open a_timeout a_deadline a_eKind a_ePath a_eData a_eOwner a_eVersion a_eNumber a_iPath a_iData a_iVersion a_iChildVersion a_iCreated a_iSet a_iOwner a_iTimeout a_iLatest a_pKind a_pPath a_pA a_pB a_uEntry a_uSlot a_uData a_uVersion a_uSet a_uChildVersion a_uCreated a_uOwner a_wSession a_wKind a_wPath a_queue a_queued : Nat → Int32}
theorem zx_open14 {post : Int32 → SX → Prop} {p : Int32} (h : ∀ s, s ≤ 4 → (∀ j, j < s → ¬ a_open j = 0) → (s < 4 → a_open s = 0) → wX_open_34 post p (nI s) f_nodes f_time f_latest f_entries f_logged f_complete f_taken f_sinceEntry f_sinceCount f_parts f_wrongPart f_watches a_path a_data a_version a_childVersion a_created a_setAt a_owner a_firstChild a_sibling a_bucket a_open a_timeout a_deadline a_eKind a_ePath a_eData a_eOwner a_eVersion a_eNumber a_iPath a_iData a_iVersion a_iChildVersion a_iCreated a_iSet a_iOwner a_iTimeout a_iLatest a_pKind a_pPath a_pA a_pB a_uEntry a_uSlot a_uData a_uVersion a_uSet a_uChildVersion a_uCreated a_uOwner a_wSession a_wKind a_wPath a_queue a_queued) : ∀ d i, i + d = 4 → (∀ j, j < i → ¬ a_open j = 0) → wX_open_14 post p f_nodes f_time f_latest f_entries f_logged f_complete f_taken f_sinceEntry f_sinceCount f_parts f_wrongPart f_watches a_path a_data a_version a_childVersion a_created a_setAt a_owner a_firstChild a_sibling a_bucket a_open a_timeout a_deadline a_eKind a_ePath a_eData a_eOwner a_eVersion a_eNumber a_iPath a_iData a_iVersion a_iChildVersion a_iCreated a_iSet a_iOwner a_iTimeout a_iLatest a_pKind a_pPath a_pA a_pB a_uEntry a_uSlot a_uData a_uVersion a_uSet a_uChildVersion a_uCreated a_uOwner a_wSession a_wKind a_wPath a_queue a_queued (d + 1) (nI i) := by
  intro d
  induction d with
  | zero =>
    intro i hi hj
    have : i = 4 := by omega
    subst this
    exact br_t (by decide) (h 4 (by omega) hj (fun z => by omega))
  | succ d ih =>
    intro i hi hj
    have hc := nI_clamp (n := i) (by omega)
    refine br_f (nI_ge (b := 4) (by omega) (by decide)) (zz_in rfl (by omega) (by decide) ?_)
    rw [hc]
    by_cases c : a_open i = 0
    · exact br_t c (h i (by omega) hj (fun _ => c))
    · refine br_f c (nm_r (nI_1 i) (ih (i + 1) (by omega) (fun j hj2 => ?_)))
      by_cases z : j = i
      · rw [z]; exact c
      · exact hj j (by omega)
theorem zx_open {post : Int32 → SX → Prop} {S : zw_S} {N lg : Nat} {p : Int32} (hN : N < 400) (he : f_entries = nI N) (hl : f_logged = nI lg) (hlg : lg < 100) (R : zw_X f_watches a_wSession a_wKind a_wPath a_queue a_queued S)
    (h1 : ¬ (1 ≤ p.toInt ∧ p.toInt ≤ 20) → post (-1) (f_nodes, f_time, f_latest, f_entries, f_logged, f_complete, f_taken, f_sinceEntry, f_sinceCount, f_parts, f_wrongPart, f_watches, a_path, a_data, a_version, a_childVersion, a_created, a_setAt, a_owner, a_firstChild, a_sibling, a_bucket, a_open, a_timeout, a_deadline, a_eKind, a_ePath, a_eData, a_eOwner, a_eVersion, a_eNumber, a_iPath, a_iData, a_iVersion, a_iChildVersion, a_iCreated, a_iSet, a_iOwner, a_iTimeout, a_iLatest, a_pKind, a_pPath, a_pA, a_pB, a_uEntry, a_uSlot, a_uData, a_uVersion, a_uSet, a_uChildVersion, a_uCreated, a_uOwner, a_wSession, a_wKind, a_wPath, a_queue, a_queued)) (h4 : (1 ≤ p.toInt ∧ p.toInt ≤ 20) → (∀ j, j < 4 → ¬ a_open j = 0) → post (-1) (f_nodes, f_time, f_latest, f_entries, f_logged, f_complete, f_taken, f_sinceEntry, f_sinceCount, f_parts, f_wrongPart, f_watches, a_path, a_data, a_version, a_childVersion, a_created, a_setAt, a_owner, a_firstChild, a_sibling, a_bucket, a_open, a_timeout, a_deadline, a_eKind, a_ePath, a_eData, a_eOwner, a_eVersion, a_eNumber, a_iPath, a_iData, a_iVersion, a_iChildVersion, a_iCreated, a_iSet, a_iOwner, a_iTimeout, a_iLatest, a_pKind, a_pPath, a_pA, a_pB, a_uEntry, a_uSlot, a_uData, a_uVersion, a_uSet, a_uChildVersion, a_uCreated, a_uOwner, a_wSession, a_wKind, a_wPath, a_queue, a_queued))
    (h9 : ∀ s, (1 ≤ p.toInt ∧ p.toInt ≤ 20) → s < 4 → (∀ j, j < s → ¬ a_open j = 0) → a_open s = 0 → 40 ≤ lg → post (-9) (f_nodes, f_time, f_latest, f_entries, f_logged, f_complete, f_taken, f_sinceEntry, f_sinceCount, f_parts, f_wrongPart, f_watches, a_path, a_data, a_version, a_childVersion, a_created, a_setAt, a_owner, a_firstChild, a_sibling, a_bucket, a_open, a_timeout, a_deadline, a_eKind, a_ePath, a_eData, a_eOwner, a_eVersion, a_eNumber, a_iPath, a_iData, a_iVersion, a_iChildVersion, a_iCreated, a_iSet, a_iOwner, a_iTimeout, a_iLatest, a_pKind, a_pPath, a_pA, a_pB, a_uEntry, a_uSlot, a_uData, a_uVersion, a_uSet, a_uChildVersion, a_uCreated, a_uOwner, a_wSession, a_wKind, a_wPath, a_queue, a_queued))
    (h : ∀ s, (1 ≤ p.toInt ∧ p.toInt ≤ 20) → s < 4 → (∀ j, j < s → ¬ a_open j = 0) → a_open s = 0 → lg < 40 → ∀ (f_watches1 : Int32) (a_wSession1 a_wKind1 a_wPath1 a_queue1 a_queued1 : Nat → Int32), zw_X f_watches1 a_wSession1 a_wKind1 a_wPath1 a_queue1 a_queued1 (zw_op s S) →
      post (nI s) (f_nodes, f_time, f_latest + 1, nI (N + 1), f_logged + 1, f_complete, f_taken, f_sinceEntry, f_sinceCount, f_parts, f_wrongPart, f_watches1, a_path, a_data, a_version, a_childVersion, a_created, a_setAt, a_owner, a_firstChild, a_sibling, a_bucket, upd a_open s 1, upd a_timeout s p, upd a_deadline s (f_time + p), upd a_eKind N 4, upd a_ePath N 0, upd a_eData N p, upd a_eOwner N (nI s), upd a_eVersion N 0, upd a_eNumber N (f_latest + 1), a_iPath, a_iData, a_iVersion, a_iChildVersion, a_iCreated, a_iSet, a_iOwner, a_iTimeout, a_iLatest, a_pKind, a_pPath, a_pA, a_pB, a_uEntry, a_uSlot, a_uData, a_uVersion, a_uSet, a_uChildVersion, a_uCreated, a_uOwner, a_wSession1, a_wKind1, a_wPath1, a_queue1, a_queued1)) :
    wpX_open post (f_nodes, f_time, f_latest, f_entries, f_logged, f_complete, f_taken, f_sinceEntry, f_sinceCount, f_parts, f_wrongPart, f_watches, a_path, a_data, a_version, a_childVersion, a_created, a_setAt, a_owner, a_firstChild, a_sibling, a_bucket, a_open, a_timeout, a_deadline, a_eKind, a_ePath, a_eData, a_eOwner, a_eVersion, a_eNumber, a_iPath, a_iData, a_iVersion, a_iChildVersion, a_iCreated, a_iSet, a_iOwner, a_iTimeout, a_iLatest, a_pKind, a_pPath, a_pA, a_pB, a_uEntry, a_uSlot, a_uData, a_uVersion, a_uSet, a_uChildVersion, a_uCreated, a_uOwner, a_wSession, a_wKind, a_wPath, a_queue, a_queued) p := by
  unfold wpX_open
  refine zx_outside (fun ha hb => br_t rfl ?_) (fun hn => br_f (by decide) (h1 ?_))
  · rw [zb_le, zb_1] at ha
    rw [zb_le, zb_20] at hb
    refine Exists.intro 5 (zx_open14 (fun s hs hlow hs0 => ?_) 4 0 rfl (fun j hj => by omega))
    refine pk_eq s 4 (fun z => h4 ⟨ha, hb⟩ (fun j hj => hlow j (by omega))) (fun z => ?_)
    have hs4 : s < 4 := by omega
    refine pk_lt lg 40 (fun c => ?_) (fun c => h9 s ⟨ha, hb⟩ hs4 hlow (hs0 hs4) c) (hx := hl)
    obtain ⟨W, q, qd⟩ := S
    obtain ⟨w1, rfl, rfl, w5⟩ := R
    refine zz_st rfl hs4 (by decide) zb_b1 ?_
    refine zz_st rfl hs4 (by decide) (zb_nar2 (by omega) (by omega)) ?_
    refine zz_st rfl hs4 (by decide) rfl ?_
    refine zz_st rfl hs4 (by decide) zb_nar0 ?_
    refine zx_entry hN he (by decide) (by decide) (by rw [nI_toInt (by omega)]; omega) (by rw [nI_toInt (by omega)]; omega) ?_
    refine zx_commit (N := N + 1) (b := N) (S := zw_op s (W, a_queue, a_queued)) (by omega) (by omega) rfl ⟨w1, rfl, rfl, zw_op_ok (S := (W, a_queue, a_queued)) w5⟩ (fun f_watches1 a_wSession1 a_wKind1 a_wPath1 a_queue1 a_queued1 R1 => ?_)
    rw [show N + 1 - N = 0 + 1 from by omega, zw_at5 (n := 0) (Or.inr (Or.inl (show upd a_eKind N 4 N = 4 from pk_us)))] at R1
    exact h s ⟨ha, hb⟩ hs4 hlow (hs0 hs4) c _ _ _ _ _ _ R1
  · rw [zb_le, zb_1, zb_le, zb_20] at hn
    exact hn
theorem zx_closed {post : Int32 → SX → Prop} {p : Int32} (h0 : ∀ s, s < 4 → p = nI s → a_open s = 0) (h : post (-1) (f_nodes, f_time, f_latest, f_entries, f_logged, f_complete, f_taken, f_sinceEntry, f_sinceCount, f_parts, f_wrongPart, f_watches, a_path, a_data, a_version, a_childVersion, a_created, a_setAt, a_owner, a_firstChild, a_sibling, a_bucket, a_open, a_timeout, a_deadline, a_eKind, a_ePath, a_eData, a_eOwner, a_eVersion, a_eNumber, a_iPath, a_iData, a_iVersion, a_iChildVersion, a_iCreated, a_iSet, a_iOwner, a_iTimeout, a_iLatest, a_pKind, a_pPath, a_pA, a_pB, a_uEntry, a_uSlot, a_uData, a_uVersion, a_uSet, a_uChildVersion, a_uCreated, a_uOwner, a_wSession, a_wKind, a_wPath, a_queue, a_queued)) : wpX_close post (f_nodes, f_time, f_latest, f_entries, f_logged, f_complete, f_taken, f_sinceEntry, f_sinceCount, f_parts, f_wrongPart, f_watches, a_path, a_data, a_version, a_childVersion, a_created, a_setAt, a_owner, a_firstChild, a_sibling, a_bucket, a_open, a_timeout, a_deadline, a_eKind, a_ePath, a_eData, a_eOwner, a_eVersion, a_eNumber, a_iPath, a_iData, a_iVersion, a_iChildVersion, a_iCreated, a_iSet, a_iOwner, a_iTimeout, a_iLatest, a_pKind, a_pPath, a_pA, a_pB, a_uEntry, a_uSlot, a_uData, a_uVersion, a_uSet, a_uChildVersion, a_uCreated, a_uOwner, a_wSession, a_wKind, a_wPath, a_queue, a_queued) p := by
  unfold wpX_close
  exact zx_isOpen (fun _ => br_t rfl h) (fun s hs e ho => absurd (h0 s hs e) ho)
end
section
variable {g_time g_last g_watchCount g_partCount g_wrong g_changes g_log g_since g_placesLeft : Int32} {b_paths b_values b_open b_timeouts b_deadlines b_events b_eventCounts b_watchers b_watchKinds b_watchPaths b_parts b_happened b_how : Nat → Int32}
theorem zy_open2 {post : Int32 → SY → Prop} {p : Int32} (h : ∀ s, s ≤ 4 → (∀ j, j < s → ¬ b_open j = 0) → (s < 4 → b_open s = 0) → wY_open_22 post p (nI s) g_time g_last g_watchCount g_partCount g_wrong g_changes g_log g_since g_placesLeft b_paths b_values b_open b_timeouts b_deadlines b_events b_eventCounts b_watchers b_watchKinds b_watchPaths b_parts b_happened b_how) : ∀ d i, i + d = 4 → (∀ j, j < i → ¬ b_open j = 0) → wY_open_2 post p g_time g_last g_watchCount g_partCount g_wrong g_changes g_log g_since g_placesLeft b_paths b_values b_open b_timeouts b_deadlines b_events b_eventCounts b_watchers b_watchKinds b_watchPaths b_parts b_happened b_how (d + 1) (nI i) := by
  intro d
  induction d with
  | zero =>
    intro i hi hj
    have : i = 4 := by omega
    subst this
    exact br_t (by decide) (h 4 (by omega) hj (fun z => by omega))
  | succ d ih =>
    intro i hi hj
    have hc := nI_clamp (n := i) (by omega)
    refine br_f (nI_ge (b := 4) (by omega) (by decide)) (zz_in rfl (by omega) (by decide) ?_)
    rw [hc]
    by_cases c : b_open i = 0
    · exact br_t c (h i (by omega) hj (fun _ => c))
    · refine br_f c (nm_r (nI_1 i) (ih (i + 1) (by omega) (fun j hj2 => ?_)))
      by_cases z : j = i
      · rw [z]; exact c
      · exact hj j (by omega)
theorem zy_open {post : Int32 → SY → Prop} {S : zw_S} {lg : Nat} {p : Int32} (hl : g_log = nI lg) (hlg : lg < 100) (R : zw_X g_watchCount b_watchers b_watchKinds b_watchPaths b_events b_eventCounts S)
    (h1 : ¬ (1 ≤ p.toInt ∧ p.toInt ≤ 20) → post (-1) (g_time, g_last, g_watchCount, g_partCount, g_wrong, g_changes, g_log, g_since, g_placesLeft, b_paths, b_values, b_open, b_timeouts, b_deadlines, b_events, b_eventCounts, b_watchers, b_watchKinds, b_watchPaths, b_parts, b_happened, b_how)) (h4 : (1 ≤ p.toInt ∧ p.toInt ≤ 20) → (∀ j, j < 4 → ¬ b_open j = 0) → post (-1) (g_time, g_last, g_watchCount, g_partCount, g_wrong, g_changes, g_log, g_since, g_placesLeft, b_paths, b_values, b_open, b_timeouts, b_deadlines, b_events, b_eventCounts, b_watchers, b_watchKinds, b_watchPaths, b_parts, b_happened, b_how))
    (h9 : ∀ s, (1 ≤ p.toInt ∧ p.toInt ≤ 20) → s < 4 → (∀ j, j < s → ¬ b_open j = 0) → b_open s = 0 → 40 ≤ lg → post (-9) (g_time, g_last, g_watchCount, g_partCount, g_wrong, g_changes, g_log, g_since, g_placesLeft, b_paths, b_values, b_open, b_timeouts, b_deadlines, b_events, b_eventCounts, b_watchers, b_watchKinds, b_watchPaths, b_parts, b_happened, b_how))
    (h : ∀ s, (1 ≤ p.toInt ∧ p.toInt ≤ 20) → s < 4 → (∀ j, j < s → ¬ b_open j = 0) → b_open s = 0 → lg < 40 → ∀ (g_watchCount1 : Int32) (b_watchers1 b_watchKinds1 b_watchPaths1 b_events1 b_eventCounts1 : Nat → Int32), zw_X g_watchCount1 b_watchers1 b_watchKinds1 b_watchPaths1 b_events1 b_eventCounts1 (zw_op s S) →
      post (nI s) (g_time, g_last + 1, g_watchCount1, g_partCount, g_wrong, g_changes, g_log + 1, g_since + 1, g_placesLeft, b_paths, b_values, upd b_open s 1, upd b_timeouts s p, upd b_deadlines s (g_time + p), b_events1, b_eventCounts1, b_watchers1, b_watchKinds1, b_watchPaths1, b_parts, b_happened, b_how)) :
    wpY_open post (g_time, g_last, g_watchCount, g_partCount, g_wrong, g_changes, g_log, g_since, g_placesLeft, b_paths, b_values, b_open, b_timeouts, b_deadlines, b_events, b_eventCounts, b_watchers, b_watchKinds, b_watchPaths, b_parts, b_happened, b_how) p := by
  refine Exists.intro 5 (zy_open2 (fun s hs hlow hs0 => ?_) 4 0 rfl (fun j hj => by omega))
  by_cases c1 : p < 1
  · refine br_t c1 (h1 fun z => ?_)
    rw [zb_lt, zb_1] at c1; omega
  refine br_f c1 ?_
  by_cases c2 : 20 < p
  · refine br_t c2 (h1 fun z => ?_)
    rw [zb_lt, zb_20] at c2; omega
  refine br_f c2 ?_
  rw [zb_lt, zb_1] at c1
  rw [zb_lt, zb_20] at c2
  refine pk_eq s 4 (fun z => h4 ⟨by omega, by omega⟩ (fun j hj => hlow j (by omega))) (fun z => ?_)
  have hs4 : s < 4 := by omega
  refine pk_lt lg 40 (fun c => ?_) (fun c => h9 s ⟨by omega, by omega⟩ hs4 hlow (hs0 hs4) c) (hx := hl)
  obtain ⟨W, q, qd⟩ := S
  obtain ⟨w1, rfl, rfl, w5⟩ := R
  refine nm_e (nm_e (nm_e ?_))
  refine zz_st rfl hs4 (by decide) zb_b1 ?_
  refine zz_st rfl hs4 (by decide) rfl ?_
  refine zz_st rfl hs4 (by decide) rfl ?_
  refine zz_st rfl hs4 (by decide) rfl ?_
  exact h s ⟨by omega, by omega⟩ hs4 hlow (hs0 hs4) c _ _ _ _ _ _ ⟨w1, rfl, rfl, zw_op_ok (S := (W, b_events, b_eventCounts)) w5⟩
theorem zy_closed {post : Int32 → SY → Prop} {p : Int32} (h0 : ∀ s, s < 4 → p = nI s → b_open s = 0) (h : post (-1) (g_time, g_last, g_watchCount, g_partCount, g_wrong, g_changes, g_log, g_since, g_placesLeft, b_paths, b_values, b_open, b_timeouts, b_deadlines, b_events, b_eventCounts, b_watchers, b_watchKinds, b_watchPaths, b_parts, b_happened, b_how)) : wpY_close post (g_time, g_last, g_watchCount, g_partCount, g_wrong, g_changes, g_log, g_since, g_placesLeft, b_paths, b_values, b_open, b_timeouts, b_deadlines, b_events, b_eventCounts, b_watchers, b_watchKinds, b_watchPaths, b_parts, b_happened, b_how) p := by
  unfold wpY_close
  exact zy_isOpen (fun _ => br_t rfl h) (fun s hs e ho => absurd (h0 s hs e) ho)
end
theorem zi_least {op : Nat → Int32} {s s' : Nat} (h1 : ∀ j, j < s → ¬ op j = 0) (h2 : op s = 0) (h1' : ∀ j, j < s' → ¬ op j = 0) (h2' : op s' = 0) : s = s' := by
  rcases Nat.lt_trichotomy s s' with z | z | z
  · exact absurd h2 (h1' s z)
  · exact z
  · exact absurd h2' (h1 s' z)
theorem i_vc_open {k : Nat} {u : SX} {v : SY} (I : i_Rel k u v) (hk : k + 5 ≤ 2560) (v1 : Int32) : wpX_open (fun r u' => wpY_open (fun r' v' => r' = r ∧ i_Rel (k + 5) u' v') v v1) u v1 := by
  refine zi_el (P := fun u v => wpX_open (fun r u' => wpY_open (fun r' v' => r' = r ∧ i_Rel (k + 5) u' v') v v1) u v1) ?_ I
  intro f_nodes f_time f_latest f_entries f_logged f_complete f_taken f_sinceEntry f_sinceCount f_parts f_wrongPart f_watches a_path a_data a_version a_childVersion a_created a_setAt a_owner a_firstChild a_sibling a_bucket a_open a_timeout a_deadline a_eKind a_ePath a_eData a_eOwner a_eVersion a_eNumber a_iPath a_iData a_iVersion a_iChildVersion a_iCreated a_iSet a_iOwner a_iTimeout a_iLatest a_pKind a_pPath a_pA a_pB a_uEntry a_uSlot a_uData a_uVersion a_uSet a_uChildVersion a_uCreated a_uOwner a_wSession a_wKind a_wPath a_queue a_queued g_time g_last g_watchCount g_partCount g_wrong g_changes g_log g_since g_placesLeft b_paths b_values b_open b_timeouts b_deadlines b_events b_eventCounts b_watchers b_watchKinds b_watchPaths b_parts b_happened b_how R
  have R5 : i_Rel (k + 5) (f_nodes, f_time, f_latest, f_entries, f_logged, f_complete, f_taken, f_sinceEntry, f_sinceCount, f_parts, f_wrongPart, f_watches, a_path, a_data, a_version, a_childVersion, a_created, a_setAt, a_owner, a_firstChild, a_sibling, a_bucket, a_open, a_timeout, a_deadline, a_eKind, a_ePath, a_eData, a_eOwner, a_eVersion, a_eNumber, a_iPath, a_iData, a_iVersion, a_iChildVersion, a_iCreated, a_iSet, a_iOwner, a_iTimeout, a_iLatest, a_pKind, a_pPath, a_pA, a_pB, a_uEntry, a_uSlot, a_uData, a_uVersion, a_uSet, a_uChildVersion, a_uCreated, a_uOwner, a_wSession, a_wKind, a_wPath, a_queue, a_queued) (g_time, g_last, g_watchCount, g_partCount, g_wrong, g_changes, g_log, g_since, g_placesLeft, b_paths, b_values, b_open, b_timeouts, b_deadlines, b_events, b_eventCounts, b_watchers, b_watchKinds, b_watchPaths, b_parts, b_happened, b_how) := i_up (k := k) R
  obtain ⟨C, S, N, lg, pc, cb, sn, M, T, Q⟩ := R
  have lim := zi_N_lt Q
  have q1 := Q.1.1
  have q2 := Q.1.2.1
  have q3 := Q.1.2.2.1
  have q5 := Q.1.2.2.2.2.1
  have q6 := Q.1.2.2.2.2.2.1
  have ses := Q.2.2.1
  have w := Q.2.2.2.2.1
  have x := Q.2.2.2.2.2.1
  subst q6
  refine zx_open (by omega) q1 q2 (by omega) w (fun h1 => ?_) (fun hp h4 => ?_) (fun s hp hs hl h0 c => ?_) (fun s hp hs hl h0 c f_watches1 a_wSession1 a_wKind1 a_wPath1 a_queue1 a_queued1 w1 => ?_)
  · exact zy_open q3 (by omega) x (fun _ => And.intro rfl R5) (fun hp => absurd hp h1) (fun _ hp => absurd hp h1) (fun _ hp => absurd hp h1)
  · exact zy_open q3 (by omega) x (fun z => absurd hp z) (fun _ _ => And.intro rfl R5) (fun s _ hs _ h0 => absurd h0 (h4 s hs)) (fun s _ hs _ h0 => absurd h0 (h4 s hs))
  · exact zy_open q3 (by omega) x (fun z => absurd hp z) (fun _ h4 => absurd h0 (h4 s hs)) (fun _ _ _ _ _ _ => And.intro rfl R5) (fun _ _ _ _ _ c' => by omega)
  · refine zy_open q3 (by omega) x (fun z => absurd hp z) (fun _ h4 => absurd h0 (h4 s hs)) (fun _ _ _ _ _ c' => by omega) (fun s' _ hs' hl' h0' _ g_watchCount1 b_watchers1 b_watchKinds1 b_watchPaths1 b_events1 b_eventCounts1 x1 => ?_)
    have := zi_least hl h0 hl' h0'
    subst this
    have hE : zs_En N (4, 0, v1, nI s, 0, f_latest + 1) a_eKind a_ePath a_eData a_eOwner a_eVersion a_eNumber (upd a_eKind N 4) (upd a_ePath N 0) (upd a_eData N v1) (upd a_eOwner N (nI s)) (upd a_eVersion N 0) (upd a_eNumber N (f_latest + 1)) := zs_En_upd
    have M1 : zi_M (20 * k) (N + 1) C f_nodes a_path a_data a_version a_childVersion a_created a_setAt a_owner a_firstChild a_sibling a_bucket (upd a_eKind N 4) (upd a_ePath N 0) (upd a_eData N v1) (upd a_eOwner N (nI s)) (upd a_eVersion N 0) (upd a_eNumber N (f_latest + 1)) a_iPath a_iData a_iVersion a_iChildVersion a_iCreated a_iSet a_iOwner a_iTimeout cb sn (upd b_open s 1) (upd a_timeout s v1) := by
      refine zi_M_ses M hE ?_ ?_ ?_ ?_ (fun j hj => (ses j hj).1) (fun j hj => ?_)
      · exact ⟨by show -1 ≤ (nI s).toInt ∧ (nI s).toInt ≤ 3; rw [nI_toInt (by omega)]; omega, Or.inr (Or.inr (Or.inr (Or.inr (Or.inl ⟨rfl, ⟨s, hs, rfl⟩, hp.1, hp.2⟩))))⟩
      · show ¬ (4 : Int32) = 1; decide
      · show ¬ (4 : Int32) = 2; decide
      · show ¬ (4 : Int32) = 3; decide
      · unfold zf_s
        by_cases z : j = s
        · rw [if_pos ⟨rfl, by rw [z]⟩, z, pk_us, pk_us]
          exact ⟨rfl, fun _ => rfl⟩
        · rw [if_neg (fun w => z ((nI_eq (by omega) (by omega)).mp (show nI s = nI j from w.2)).symm), if_neg (fun w => absurd (show (4 : Int32) = 5 from w.1) (by decide)), pk_un z, pk_un z]
          exact ⟨rfl, fun _ => rfl⟩
    have hS := zi_S_1 hs h0
    have hS4 : zi_S (upd b_open s 1) ≤ 4 := zc_leN _ _
    have ses1 : zi_Ses (upd b_open s 1) (upd a_timeout s v1) (upd a_deadline s (f_time + v1)) (upd b_timeouts s v1) (upd b_deadlines s (g_time + v1)) := fun j hj => by
      by_cases z : j = s
      · rw [z, pk_us, pk_us, pk_us, pk_us, pk_us, q5]
        exact ⟨Or.inr rfl, fun _ => ⟨rfl, rfl, hp.1, hp.2⟩⟩
      · rw [pk_un z, pk_un z, pk_un z, pk_un z, pk_un z]
        exact ses j hj
    refine And.intro rfl (zi_mk (zi_M_up M1) T (zi_Q_tx (S := S) Q (by omega) (by rw [show N + 1 - 1 = N from by omega, pk_us]) (by omega) (by omega) ses1 w1 x1))
end
section
/-! close, pass -/
section
variable {f_nodes f_time f_latest f_entries f_logged f_complete f_taken f_sinceEntry f_sinceCount f_parts f_wrongPart f_watches : Int32} {a_path a_data a_version a_childVersion a_created a_setAt a_owner a_firstChild a_sibling a_bucket a_open a_timeout a_deadline a_eKind a_ePath a_eData a_eOwner a_eVersion a_eNumber a_iPath a_iData a_iVersion a_iChildVersion a_iCreated a_iSet a_iOwner a_iTimeout a_iLatest a_pKind a_pPath a_pA a_pB a_uEntry a_uSlot a_uData a_uVersion a_uSet a_uChildVersion a_uCreated a_uOwner a_wSession a_wKind a_wPath a_queue a_queued : Nat → Int32}
variable {g_time g_last g_watchCount g_partCount g_wrong g_changes g_log g_since g_placesLeft : Int32} {b_paths b_values b_open b_timeouts b_deadlines b_events b_eventCounts b_watchers b_watchKinds b_watchPaths b_parts b_happened b_how : Nat → Int32}
/-- after a session was closed on both sides -/
theorem zi_Q_cl {N lg pc cb ss : Nat} {sn : Option (Nat × Nat)} {S : zw_S} {L : List zf_E} {f_nodes1 : Int32} {a_path1 a_data1 a_version1 a_childVersion1 a_created1 a_setAt1 a_owner1 a_firstChild1 a_sibling1 a_bucket1 a_eKind1 a_ePath1 a_eData1 a_eOwner1 a_eVersion1 a_eNumber1 : Nat → Int32} {f_watches1 : Int32} {a_wSession1 a_wKind1 a_wPath1 a_queue1 a_queued1 : Nat → Int32} {b_paths1 b_values1 : Nat → Int32} {g_changes1 : Int32} {b_happened1 b_how1 : Nat → Int32} {g_watchCount1 : Int32} {b_watchers1 b_watchKinds1 b_watchPaths1 b_events1 b_eventCounts1 : Nat → Int32} (Q : zi_Q N lg pc cb sn S f_nodes f_time f_latest f_entries f_logged f_complete f_taken f_sinceEntry f_sinceCount f_parts f_wrongPart f_watches a_path a_data a_version a_childVersion a_created a_setAt a_owner a_firstChild a_sibling a_bucket a_open a_timeout a_deadline a_eKind a_ePath a_eData a_eOwner a_eVersion a_eNumber a_iPath a_iData a_iVersion a_iChildVersion a_iCreated a_iSet a_iOwner a_iTimeout a_iLatest a_pKind a_pPath a_pA a_pB a_uEntry a_uSlot a_uData a_uVersion a_uSet a_uChildVersion a_uCreated a_uOwner a_wSession a_wKind a_wPath a_queue a_queued g_time g_last g_watchCount g_partCount g_wrong g_changes g_log g_since g_placesLeft b_paths b_values b_open b_timeouts b_deadlines b_events b_eventCounts b_watchers b_watchKinds b_watchPaths b_parts b_happened b_how) (hss : ss < 4) (ho : ¬ a_open ss = 0) (hL : L.length ≤ 20) (hn : zr_n a_path1 48 + L.length = zr_n a_path 48) (hen : a_eNumber1 (N + L.length) = f_latest + 1)
    (w : zw_X f_watches1 a_wSession1 a_wKind1 a_wPath1 a_queue1 a_queued1 (zw_tells a_eKind1 a_ePath1 N L.length (zw_cl ss S))) (x : zw_X g_watchCount1 b_watchers1 b_watchKinds1 b_watchPaths1 b_events1 b_eventCounts1 (zw_tells a_eKind1 a_ePath1 N L.length (zw_cl ss S))) :
    zi_Q (N + L.length + 1) (lg + 1) pc cb sn (zw_tells a_eKind1 a_ePath1 N L.length (zw_cl ss S)) f_nodes1 f_time (f_latest + 1) (nI (N + L.length + 1)) (f_logged + 1) f_complete f_taken f_sinceEntry f_sinceCount f_parts f_wrongPart f_watches1 a_path1 a_data1 a_version1 a_childVersion1 a_created1 a_setAt1 a_owner1 a_firstChild1 a_sibling1 a_bucket1 (upd a_open ss 0) a_timeout a_deadline a_eKind1 a_ePath1 a_eData1 a_eOwner1 a_eVersion1 a_eNumber1 a_iPath a_iData a_iVersion a_iChildVersion a_iCreated a_iSet a_iOwner a_iTimeout a_iLatest a_pKind a_pPath a_pA a_pB a_uEntry a_uSlot a_uData a_uVersion a_uSet a_uChildVersion a_uCreated a_uOwner a_wSession1 a_wKind1 a_wPath1 a_queue1 a_queued1 g_time (g_last + 1) g_watchCount1 g_partCount g_wrong g_changes1 (g_log + 1) (g_since + 1) g_placesLeft b_paths1 b_values1 (upd a_open ss 0) b_timeouts b_deadlines b_events1 b_eventCounts1 b_watchers1 b_watchKinds1 b_watchPaths1 b_parts b_happened1 b_how1 := by
  have ses := Q.2.2.1
  have ho1 : a_open ss = 1 := (ses ss hss).1.resolve_left ho
  have hS := zi_S_0 hss ho1
  have hp4 := Q.2.1.2.2.2
  have ses1 : zi_Ses (upd a_open ss 0) a_timeout a_deadline b_timeouts b_deadlines := fun j hj => by
    by_cases z : j = ss
    · rw [z, pk_us]; exact ⟨Or.inl rfl, fun w => absurd w (by decide)⟩
    · rw [pk_un z]; exact ses j hj
  exact zi_Q_tx (S := S) Q (by omega) (by rw [show N + L.length + 1 - 1 = N + L.length from by omega]; exact hen) (by omega) (by omega) ses1 w x
end
theorem i_vc_close {k : Nat} {u : SX} {v : SY} (I : i_Rel k u v) (hk : k + 5 ≤ 2560) (v1 : Int32) : wpX_close (fun r u' => wpY_close (fun r' v' => r' = r ∧ i_Rel (k + 5) u' v') v v1) u v1 := by
  refine zi_el (P := fun u v => wpX_close (fun r u' => wpY_close (fun r' v' => r' = r ∧ i_Rel (k + 5) u' v') v v1) u v1) ?_ I
  intro f_nodes f_time f_latest f_entries f_logged f_complete f_taken f_sinceEntry f_sinceCount f_parts f_wrongPart f_watches a_path a_data a_version a_childVersion a_created a_setAt a_owner a_firstChild a_sibling a_bucket a_open a_timeout a_deadline a_eKind a_ePath a_eData a_eOwner a_eVersion a_eNumber a_iPath a_iData a_iVersion a_iChildVersion a_iCreated a_iSet a_iOwner a_iTimeout a_iLatest a_pKind a_pPath a_pA a_pB a_uEntry a_uSlot a_uData a_uVersion a_uSet a_uChildVersion a_uCreated a_uOwner a_wSession a_wKind a_wPath a_queue a_queued g_time g_last g_watchCount g_partCount g_wrong g_changes g_log g_since g_placesLeft b_paths b_values b_open b_timeouts b_deadlines b_events b_eventCounts b_watchers b_watchKinds b_watchPaths b_parts b_happened b_how R
  have R5 : i_Rel (k + 5) (f_nodes, f_time, f_latest, f_entries, f_logged, f_complete, f_taken, f_sinceEntry, f_sinceCount, f_parts, f_wrongPart, f_watches, a_path, a_data, a_version, a_childVersion, a_created, a_setAt, a_owner, a_firstChild, a_sibling, a_bucket, a_open, a_timeout, a_deadline, a_eKind, a_ePath, a_eData, a_eOwner, a_eVersion, a_eNumber, a_iPath, a_iData, a_iVersion, a_iChildVersion, a_iCreated, a_iSet, a_iOwner, a_iTimeout, a_iLatest, a_pKind, a_pPath, a_pA, a_pB, a_uEntry, a_uSlot, a_uData, a_uVersion, a_uSet, a_uChildVersion, a_uCreated, a_uOwner, a_wSession, a_wKind, a_wPath, a_queue, a_queued) (g_time, g_last, g_watchCount, g_partCount, g_wrong, g_changes, g_log, g_since, g_placesLeft, b_paths, b_values, b_open, b_timeouts, b_deadlines, b_events, b_eventCounts, b_watchers, b_watchKinds, b_watchPaths, b_parts, b_happened, b_how) := i_up (k := k) R
  obtain ⟨C, S, N, lg, pc, cb, sn, M, T, Q⟩ := R
  have q1 := Q.1.1
  have q6 := Q.1.2.2.2.2.2.1
  have ses := Q.2.2.1
  have w := Q.2.2.2.2.1
  have x := Q.2.2.2.2.2.1
  have p3 := Q.2.1.2.2.1
  have p4 := Q.2.1.2.2.2
  subst q6
  by_cases hc : ∃ s, s < 4 ∧ v1 = nI s ∧ ¬ b_open s = 0
  · obtain ⟨ss, hss, rfl, ho⟩ := hc
    have ho1 : b_open ss = 1 := (ses ss hss).1.resolve_left ho
    have hS : 0 < zi_S b_open := zc_pos' hss (by rw [ho1]; rfl)
    have hn21 := zx_n_le M.1
    unfold zi_Pot at p3
    refine zx_close hss ho (fun j hj => (ses j hj).1) M q1 (by omega) (by omega) w (fun L C1 f_nodes1 a_path1 a_data1 a_version1 a_childVersion1 a_created1 a_setAt1 a_owner1 a_firstChild1 a_sibling1 a_bucket1 a_eKind1 a_ePath1 a_eData1 a_eOwner1 a_eVersion1 a_eNumber1 f_watches1 a_wSession1 a_wKind1 a_wPath1 a_queue1 a_queued1 run M1 s2 en1 n1 w1 => ?_)
    have hpos : 0 < zr_n a_path1 48 := zc_pos' (s := 0) (by omega) (zr_oc1.mpr (by rw [M1.1.2.2.2]; decide))
    have hL : L.length ≤ 20 := by omega
    refine zy_close (ek := a_eKind1) (ep := a_ePath1) (N := N) hss ho T M.2.1 (by omega) x run hL (fun j e he => ?_) (fun b_paths1 b_values1 g_changes1 b_happened1 b_how1 g_watchCount1 b_watchers1 b_watchKinds1 b_watchPaths1 b_events1 b_eventCounts1 T1 x1 => And.intro rfl ?_)
    · have hj : j < L.length := by
        rcases Nat.lt_or_ge j L.length with z | z
        · exact z
        · rw [List.getElem?_eq_none z] at he; exact nomatch he
      have e2 := s2 j e he
      have W := M1.2.2.1 (N + j) (by omega)
      rw [e2] at W
      have k3 := zm_run_3 run j e he
      refine ⟨congrArg (fun x => x.1) e2, congrArg (fun x => x.2.1) e2, ?_⟩
      rcases W.2 with z | z | z | z | z | z
      · rw [k3] at z; exact absurd z (by decide)
      · exact z.2.1
      · exact z.2
      · exact z.2.1
      · have := z.1; rw [k3] at this; exact absurd this (by decide)
      · have := z.1; rw [k3] at this; exact absurd this (by decide)
    · exact zi_mk (zi_M_le M1 (by omega)) T1 (zi_Q_cl Q hss ho hL n1 en1 w1 x1)
  · have h0 : ∀ s, s < 4 → v1 = nI s → b_open s = 0 := fun s hs e => Decidable.byContradiction fun z => hc ⟨s, hs, e, z⟩
    exact zx_closed h0 (zy_closed h0 (And.intro rfl R5))
/-- what the component's walk needs of the relation -/
def zi_XE (N lg : Nat) (S : zw_S) (f_entries : Int32) (a_path a_open : Nat → Int32) (f_watches : Int32) (a_wSession a_wKind a_wPath a_queue a_queued : Nat → Int32) : Prop :=
  f_entries = nI N ∧ zi_Pot N (zr_n a_path 48) (zi_S a_open) lg ∧ lg + zi_S a_open ≤ 44 ∧ zw_X f_watches a_wSession a_wKind a_wPath a_queue a_queued S ∧ (∀ s, s < 4 → a_open s = 0 ∨ a_open s = 1)
section
variable {f_nodes f_time f_latest f_entries f_logged f_complete f_taken f_sinceEntry f_sinceCount f_parts f_wrongPart f_watches : Int32} {a_path a_data a_version a_childVersion a_created a_setAt a_owner a_firstChild a_sibling a_bucket a_open a_timeout a_deadline a_eKind a_ePath a_eData a_eOwner a_eVersion a_eNumber a_iPath a_iData a_iVersion a_iChildVersion a_iCreated a_iSet a_iOwner a_iTimeout a_iLatest a_pKind a_pPath a_pA a_pB a_uEntry a_uSlot a_uData a_uVersion a_uSet a_uChildVersion a_uCreated a_uOwner a_wSession a_wKind a_wPath a_queue a_queued : Nat → Int32}
theorem zj_pass {k : Nat} {v0 : SY} {v1 : Int32} (hk : k + 5 ≤ 2560) : ∀ (d i cnt : Nat) (C : zn_Mp) (S : zw_S) (N lg pc cb b : Nat) (sn : Option (Nat × Nat)) (f_entries f_latest f_logged : Int32) (f_nodes : Int32) (a_path a_data a_version a_childVersion a_created a_setAt a_owner a_firstChild a_sibling a_bucket : Nat → Int32) (a_eKind a_ePath a_eData a_eOwner a_eVersion a_eNumber : Nat → Int32) (f_watches : Int32) (a_wSession a_wKind a_wPath a_queue a_queued : Nat → Int32) (a_open : Nat → Int32), i + d = 4 → cnt ≤ i → b ≤ 20 * k + 20 * i →
    zi_M b N C f_nodes a_path a_data a_version a_childVersion a_created a_setAt a_owner a_firstChild a_sibling a_bucket a_eKind a_ePath a_eData a_eOwner a_eVersion a_eNumber a_iPath a_iData a_iVersion a_iChildVersion a_iCreated a_iSet a_iOwner a_iTimeout cb sn a_open a_timeout → zi_XE N lg S f_entries a_path a_open f_watches a_wSession a_wKind a_wPath a_queue a_queued →
    (∀ Q : Int32 → SY → Prop, (∀ (g_time g_last g_watchCount g_partCount g_wrong g_changes g_log g_since g_placesLeft : Int32) (b_paths b_values b_open b_timeouts b_deadlines b_events b_eventCounts b_watchers b_watchKinds b_watchPaths b_parts b_happened b_how : Nat → Int32), zy_T b_paths b_values C → zi_Q N lg pc cb sn S f_nodes f_time f_latest f_entries f_logged f_complete f_taken f_sinceEntry f_sinceCount f_parts f_wrongPart f_watches a_path a_data a_version a_childVersion a_created a_setAt a_owner a_firstChild a_sibling a_bucket a_open a_timeout a_deadline a_eKind a_ePath a_eData a_eOwner a_eVersion a_eNumber a_iPath a_iData a_iVersion a_iChildVersion a_iCreated a_iSet a_iOwner a_iTimeout a_iLatest a_pKind a_pPath a_pA a_pB a_uEntry a_uSlot a_uData a_uVersion a_uSet a_uChildVersion a_uCreated a_uOwner a_wSession a_wKind a_wPath a_queue a_queued g_time g_last g_watchCount g_partCount g_wrong g_changes g_log g_since g_placesLeft b_paths b_values b_open b_timeouts b_deadlines b_events b_eventCounts b_watchers b_watchKinds b_watchPaths b_parts b_happened b_how → wY_pass_26 Q (d + 1) (nI cnt) (nI i) g_time g_last g_watchCount g_partCount g_wrong g_changes g_log g_since g_placesLeft b_paths b_values b_open b_timeouts b_deadlines b_events b_eventCounts b_watchers b_watchKinds b_watchPaths b_parts b_happened b_how) → wpY_pass Q v0 v1) →
    wX_pass_26 (fun r u' => wpY_pass (fun r' v' => r' = r ∧ i_Rel (k + 5) u' v') v0 v1) (d + 1) (nI cnt) (nI i) f_nodes f_time f_latest f_entries f_logged f_complete f_taken f_sinceEntry f_sinceCount f_parts f_wrongPart f_watches a_path a_data a_version a_childVersion a_created a_setAt a_owner a_firstChild a_sibling a_bucket a_open a_timeout a_deadline a_eKind a_ePath a_eData a_eOwner a_eVersion a_eNumber a_iPath a_iData a_iVersion a_iChildVersion a_iCreated a_iSet a_iOwner a_iTimeout a_iLatest a_pKind a_pPath a_pA a_pB a_uEntry a_uSlot a_uData a_uVersion a_uSet a_uChildVersion a_uCreated a_uOwner a_wSession a_wKind a_wPath a_queue a_queued := by
  intro d
  induction d with
  | zero =>
    intro i cnt C S N lg pc cb b sn f_entries f_latest f_logged f_nodes a_path a_data a_version a_childVersion a_created a_setAt a_owner a_firstChild a_sibling a_bucket a_eKind a_ePath a_eData a_eOwner a_eVersion a_eNumber f_watches a_wSession a_wKind a_wPath a_queue a_queued a_open hi hc hb M XE HY
    have : i = 4 := by omega
    subst this
    refine br_t (by decide) (HY _ (fun g_time g_last g_watchCount g_partCount g_wrong g_changes g_log g_since g_placesLeft b_paths b_values b_open b_timeouts b_deadlines b_events b_eventCounts b_watchers b_watchKinds b_watchPaths b_parts b_happened b_how T Q => br_t (by decide) (And.intro rfl (zi_mk (zi_M_le M (by omega)) T Q))))
  | succ d ih =>
    intro i cnt C S N lg pc cb b sn f_entries f_latest f_logged f_nodes a_path a_data a_version a_childVersion a_created a_setAt a_owner a_firstChild a_sibling a_bucket a_eKind a_ePath a_eData a_eOwner a_eVersion a_eNumber f_watches a_wSession a_wKind a_wPath a_queue a_queued a_open hi hc hb M XE HY
    have hc := nI_clamp (n := i) (by omega)
    have hi4 : i < 4 := by omega
    have ge : ¬ (4 : Int32) ≤ nI i := nI_ge (b := 4) (by omega) (by decide)
    obtain ⟨e1, e2, e3, e4, e5⟩ := XE
    refine br_f ge (zz_in rfl hi4 (by decide) ?_)
    rw [hc]
    by_cases c : a_open i = 0
    · refine br_t c (nm_r (nI_1 i) (ih (i + 1) cnt C S N lg pc cb b sn _ _ _ _ _ _ _ _ _ _ _ _ _ _ _ _ _ _ _ _ _ _ _ _ _ _ _ (by omega) (by omega) (by omega) M ⟨e1, e2, e3, e4, e5⟩ (fun Q g => HY Q (fun g_time g_last g_watchCount g_partCount g_wrong g_changes g_log g_since g_placesLeft b_paths b_values b_open b_timeouts b_deadlines b_events b_eventCounts b_watchers b_watchKinds b_watchPaths b_parts b_happened b_how T Qq => ?_))))
      refine br_f ge (zz_in rfl hi4 (by decide) (br_t ?_ (nm_r (nI_1 i) (g g_time g_last g_watchCount g_partCount g_wrong g_changes g_log g_since g_placesLeft b_paths b_values b_open b_timeouts b_deadlines b_events b_eventCounts b_watchers b_watchKinds b_watchPaths b_parts b_happened b_how T Qq))))
      rw [hc, Qq.1.2.2.2.2.2.1]; exact c
    · refine br_f c (zz_in rfl hi4 (by decide) ?_)
      by_cases cd : a_deadline i - f_time ≤ 0
      · refine br_t cd ?_
        have ho1 : a_open i = 1 := (e5 i hi4).resolve_left c
        have hS : 0 < zi_S a_open := zc_pos' hi4 (by rw [ho1]; rfl)
        have hn21 := zx_n_le M.1
        have hSS := zi_S_0 hi4 ho1
        unfold zi_Pot at e2
        refine zx_close hi4 c e5 M e1 (by omega) (by omega) e4 (fun L C1 f_nodes1 a_path1 a_data1 a_version1 a_childVersion1 a_created1 a_setAt1 a_owner1 a_firstChild1 a_sibling1 a_bucket1 a_eKind1 a_ePath1 a_eData1 a_eOwner1 a_eVersion1 a_eNumber1 f_watches1 a_wSession1 a_wKind1 a_wPath1 a_queue1 a_queued1 run M1 s2 en1 n1 w1 => ?_)
        have hpos : 0 < zr_n a_path1 48 := zc_pos' (s := 0) (by omega) (zr_oc1.mpr (by rw [M1.1.2.2.2]; decide))
        have hL : L.length ≤ 20 := by omega
        refine nm_r (nI_1 cnt) (nm_r (nI_1 i) (ih (i + 1) (cnt + 1) C1 _ (N + L.length + 1) (lg + 1) pc cb (b + L.length) sn _ _ _ _ _ _ _ _ _ _ _ _ _ _ _ _ _ _ _ _ _ _ _ _ _ _ _ (by omega) (by omega) (by omega) M1 ⟨rfl, ?_, ?_, w1, fun j hj => ?_⟩ (fun Q g => HY Q (fun g_time g_last g_watchCount g_partCount g_wrong g_changes g_log g_since g_placesLeft b_paths b_values b_open b_timeouts b_deadlines b_events b_eventCounts b_watchers b_watchKinds b_watchPaths b_parts b_happened b_how T Qq => ?_))))
        · unfold zi_Pot; omega
        · omega
        · by_cases z : j = i
          · rw [z, pk_us]; exact Or.inl rfl
          · rw [pk_un z]; exact e5 j hj
        · have q5 := Qq.1.2.2.2.2.1
          have q6 := Qq.1.2.2.2.2.2.1
          have ses := (Qq.2.2.1 i hi4).2 ho1
          have x := Qq.2.2.2.2.2.1
          subst q6
          refine br_f ge (zz_in rfl hi4 (by decide) (br_f (by rw [hc]; exact c) (zz_in rfl hi4 (by decide) (br_f ?_ (nm_r (nI_1 cnt) ?_)))))
          · rw [hc, ses.2.1, q5, zb_lt, zb_t0]
            rw [zb_le, zb_t0] at cd
            omega
          · refine zy_close (ek := a_eKind1) (ep := a_ePath1) (N := N) hi4 c T M.2.1 (by omega) x run hL (fun j e he => ?_) (fun b_paths1 b_values1 g_changes1 b_happened1 b_how1 g_watchCount1 b_watchers1 b_watchKinds1 b_watchPaths1 b_events1 b_eventCounts1 T1 x1 => nm_r (nI_1 i) (g _ _ _ _ _ _ _ _ _ _ _ _ _ _ _ _ _ _ _ _ _ _ T1 (zi_Q_cl Qq hi4 c hL n1 en1 w1 x1)))
            have hj : j < L.length := by
              rcases Nat.lt_or_ge j L.length with z | z
              · exact z
              · rw [List.getElem?_eq_none z] at he; exact nomatch he
            have e2 := s2 j e he
            have W := M1.2.2.1 (N + j) (by omega)
            rw [e2] at W
            have k3 := zm_run_3 run j e he
            refine ⟨congrArg (fun x => x.1) e2, congrArg (fun x => x.2.1) e2, ?_⟩
            rcases W.2 with z | z | z | z | z | z
            · rw [k3] at z; exact absurd z (by decide)
            · exact z.2.1
            · exact z.2
            · exact z.2.1
            · have := z.1; rw [k3] at this; exact absurd this (by decide)
            · have := z.1; rw [k3] at this; exact absurd this (by decide)
      · refine br_f cd (nm_r (nI_1 i) (ih (i + 1) cnt C S N lg pc cb b sn _ _ _ _ _ _ _ _ _ _ _ _ _ _ _ _ _ _ _ _ _ _ _ _ _ _ _ (by omega) (by omega) (by omega) M ⟨e1, e2, e3, e4, e5⟩ (fun Q g => HY Q (fun g_time g_last g_watchCount g_partCount g_wrong g_changes g_log g_since g_placesLeft b_paths b_values b_open b_timeouts b_deadlines b_events b_eventCounts b_watchers b_watchKinds b_watchPaths b_parts b_happened b_how T Qq => ?_))))
        have ho1 : a_open i = 1 := (e5 i hi4).resolve_left c
        have ses := (Qq.2.2.1 i hi4).2 ho1
        refine br_f ge (zz_in rfl hi4 (by decide) (br_f ?_ (zz_in rfl hi4 (by decide) (br_t ?_ (nm_r (nI_1 i) (g g_time g_last g_watchCount g_partCount g_wrong g_changes g_log g_since g_placesLeft b_paths b_values b_open b_timeouts b_deadlines b_events b_eventCounts b_watchers b_watchKinds b_watchPaths b_parts b_happened b_how T Qq))))))
        · rw [hc, Qq.1.2.2.2.2.2.1]; exact c
        · rw [hc, ses.2.1, Qq.1.2.2.2.2.1, zb_lt, zb_t0]
          rw [zb_le, zb_t0] at cd
          omega
end
theorem zb_30 : (30 : Int32).toInt = 30 := by decide
theorem i_vc_pass {k : Nat} {u : SX} {v : SY} (I : i_Rel k u v) (hk : k + 5 ≤ 2560) (v1 : Int32) : wpX_pass (fun r u' => wpY_pass (fun r' v' => r' = r ∧ i_Rel (k + 5) u' v') v v1) u v1 := by
  refine zi_el (P := fun u v => wpX_pass (fun r u' => wpY_pass (fun r' v' => r' = r ∧ i_Rel (k + 5) u' v') v v1) u v1) ?_ I
  intro f_nodes f_time f_latest f_entries f_logged f_complete f_taken f_sinceEntry f_sinceCount f_parts f_wrongPart f_watches a_path a_data a_version a_childVersion a_created a_setAt a_owner a_firstChild a_sibling a_bucket a_open a_timeout a_deadline a_eKind a_ePath a_eData a_eOwner a_eVersion a_eNumber a_iPath a_iData a_iVersion a_iChildVersion a_iCreated a_iSet a_iOwner a_iTimeout a_iLatest a_pKind a_pPath a_pA a_pB a_uEntry a_uSlot a_uData a_uVersion a_uSet a_uChildVersion a_uCreated a_uOwner a_wSession a_wKind a_wPath a_queue a_queued g_time g_last g_watchCount g_partCount g_wrong g_changes g_log g_since g_placesLeft b_paths b_values b_open b_timeouts b_deadlines b_events b_eventCounts b_watchers b_watchKinds b_watchPaths b_parts b_happened b_how R
  have R5 : i_Rel (k + 5) (f_nodes, f_time, f_latest, f_entries, f_logged, f_complete, f_taken, f_sinceEntry, f_sinceCount, f_parts, f_wrongPart, f_watches, a_path, a_data, a_version, a_childVersion, a_created, a_setAt, a_owner, a_firstChild, a_sibling, a_bucket, a_open, a_timeout, a_deadline, a_eKind, a_ePath, a_eData, a_eOwner, a_eVersion, a_eNumber, a_iPath, a_iData, a_iVersion, a_iChildVersion, a_iCreated, a_iSet, a_iOwner, a_iTimeout, a_iLatest, a_pKind, a_pPath, a_pA, a_pB, a_uEntry, a_uSlot, a_uData, a_uVersion, a_uSet, a_uChildVersion, a_uCreated, a_uOwner, a_wSession, a_wKind, a_wPath, a_queue, a_queued) (g_time, g_last, g_watchCount, g_partCount, g_wrong, g_changes, g_log, g_since, g_placesLeft, b_paths, b_values, b_open, b_timeouts, b_deadlines, b_events, b_eventCounts, b_watchers, b_watchKinds, b_watchPaths, b_parts, b_happened, b_how) := i_up (k := k) R
  obtain ⟨C, S, N, lg, pc, cb, sn, M, T, Q⟩ := R
  unfold wpX_pass
  refine zx_outside (fun ha hb => br_t rfl ?_) (fun hn => br_f (by decide) ?_)
  · obtain ⟨⟨q1, q2, q3, q4, q5, q6, q7⟩, ⟨p1, p2, p3, p4⟩, ses, pk, w, x, rest⟩ := Q
    refine nm_e (Exists.intro 5 (zj_pass hk 4 0 0 C S N lg pc cb (20 * k) sn _ _ _ _ _ _ _ _ _ _ _ _ _ _ _ _ _ _ _ _ _ _ _ _ _ _ _ rfl (by omega) (by omega) M ⟨q1, p3, p4, w, fun j hj => (ses j hj).1⟩ (fun Q g => ?_)))
    refine br_f (by rw [zb_lt0]; rw [zb_ge0] at ha; omega) (br_t hb (nm_e (Exists.intro 5 (g _ _ _ _ _ _ _ _ _ _ _ _ _ _ _ _ _ _ _ _ _ _ T ⟨⟨q1, q2, q3, q4, by rw [q5], q6, q7⟩, ⟨p1, p2, p3, p4⟩, ses, pk, w, x, rest⟩))))
  · rw [zb_ge0, zb_le, zb_30] at hn
    by_cases c : v1 < 0
    · exact br_t c (And.intro rfl R5)
    · refine br_f c (br_f (fun z => ?_) (And.intro rfl R5))
      rw [zb_lt0] at c
      rw [zb_le, zb_30] at z
      omega
end
section
/-! the snapshot -/
theorem zb_24 : (24 : Int32).toInt = 24 := by decide
section
variable {f_nodes f_time f_latest f_entries f_logged f_complete f_taken f_sinceEntry f_sinceCount f_parts f_wrongPart f_watches : Int32} {a_path a_data a_version a_childVersion a_created a_setAt a_owner a_firstChild a_sibling a_bucket a_open a_timeout a_deadline a_eKind a_ePath a_eData a_eOwner a_eVersion a_eNumber a_iPath a_iData a_iVersion a_iChildVersion a_iCreated a_iSet a_iOwner a_iTimeout a_iLatest a_pKind a_pPath a_pA a_pB a_uEntry a_uSlot a_uData a_uVersion a_uSet a_uChildVersion a_uCreated a_uOwner a_wSession a_wKind a_wPath a_queue a_queued : Nat → Int32}
/-- sessions into the image -/
theorem zx_save63 {post : Int32 → SX → Prop} {m ob : Nat} (hob : ob = 0 ∨ ob = 21) (htm : ∀ s, s < 4 → ¬ a_open s = 0 → vp_nar .byte (a_timeout s) = a_timeout s)
    (h : ∀ it : Nat → Int32, (∀ s, s < 4 → it (4 * (ob / 21) + s) = if a_open s = 0 then 0 else a_timeout s) → (∀ j, (j < 4 * (ob / 21) ∨ 4 * (ob / 21) + 4 ≤ j) → it j = a_iTimeout j) → ∃ n108 : Nat, wX_save_108 post (nI m) (nI ob) n108 0 f_nodes f_time f_latest f_entries f_logged f_complete f_taken f_sinceEntry f_sinceCount f_parts f_wrongPart f_watches a_path a_data a_version a_childVersion a_created a_setAt a_owner a_firstChild a_sibling a_bucket a_open a_timeout a_deadline a_eKind a_ePath a_eData a_eOwner a_eVersion a_eNumber a_iPath a_iData a_iVersion a_iChildVersion a_iCreated a_iSet a_iOwner it a_iLatest a_pKind a_pPath a_pA a_pB a_uEntry a_uSlot a_uData a_uVersion a_uSet a_uChildVersion a_uCreated a_uOwner a_wSession a_wKind a_wPath a_queue a_queued) :
    ∀ (d i : Nat) (it : Nat → Int32), i + d = 4 → (∀ s, s < i → it (4 * (ob / 21) + s) = if a_open s = 0 then 0 else a_timeout s) → (∀ j, (j < 4 * (ob / 21) ∨ 4 * (ob / 21) + 4 ≤ j) → it j = a_iTimeout j) →
      wX_save_63 post (nI m) (nI ob) f_nodes f_time f_latest f_entries f_logged f_complete f_taken f_sinceEntry f_sinceCount f_parts f_wrongPart f_watches (d + 1) (nI i) a_path a_data a_version a_childVersion a_created a_setAt a_owner a_firstChild a_sibling a_bucket a_open a_timeout a_deadline a_eKind a_ePath a_eData a_eOwner a_eVersion a_eNumber a_iPath a_iData a_iVersion a_iChildVersion a_iCreated a_iSet a_iOwner it a_iLatest a_pKind a_pPath a_pA a_pB a_uEntry a_uSlot a_uData a_uVersion a_uSet a_uChildVersion a_uCreated a_uOwner a_wSession a_wKind a_wPath a_queue a_queued := by
  have ix : ∀ i, i < 4 → (4 * (nI ob / 21)) + nI i = nI (4 * (ob / 21) + i) := fun i hi => by
    rw [show (21 : Int32) = nI 21 from rfl, pk_div (by omega) (by decide) (by decide), show (4 : Int32) = nI 4 from rfl, pk_mul, nI_add]
  intro d
  induction d with
  | zero =>
    intro i it hi h1 h2
    have : i = 4 := by omega
    subst this
    exact br_t (by decide) (h it h1 h2)
  | succ d ih =>
    intro i it hi h1 h2
    have hc := nI_clamp (n := i) (by omega)
    have nxt : ∀ v : Int32, v = (if a_open i = 0 then 0 else a_timeout i) → wX_save_63 post (nI m) (nI ob) f_nodes f_time f_latest f_entries f_logged f_complete f_taken f_sinceEntry f_sinceCount f_parts f_wrongPart f_watches (d + 1) (nI (i + 1)) a_path a_data a_version a_childVersion a_created a_setAt a_owner a_firstChild a_sibling a_bucket a_open a_timeout a_deadline a_eKind a_ePath a_eData a_eOwner a_eVersion a_eNumber a_iPath a_iData a_iVersion a_iChildVersion a_iCreated a_iSet a_iOwner (upd it (4 * (ob / 21) + i) v) a_iLatest a_pKind a_pPath a_pA a_pB a_uEntry a_uSlot a_uData a_uVersion a_uSet a_uChildVersion a_uCreated a_uOwner a_wSession a_wKind a_wPath a_queue a_queued := fun v hv => by
      refine ih (i + 1) _ (by omega) (fun s hs => ?_) (fun j hj => ?_)
      · by_cases z : s = i
        · rw [z, pk_us, hv]
        · rw [pk_un (by omega)]; exact h1 s (by omega)
      · rw [pk_un (by omega)]; exact h2 j hj
    refine br_f (nI_ge (b := 4) (by omega) (by decide)) (And.intro zb_21n (zz_in rfl (by omega) (by decide) ?_))
    rw [hc]
    by_cases c : a_open i = 0
    · exact br_t c (zz_st (ix i (by omega)) (by omega) (by decide) zb_nar0 (nm_r (nI_1 i) (nxt 0 (by rw [if_pos c]))))
    · exact br_f c (zz_in rfl (by omega) (by decide) (zz_st (ix i (by omega)) (by omega) (by decide) (htm i (by omega) c) (nm_r (nI_1 i) (nxt _ (by rw [if_neg c])))))
/-- places into the image -/
theorem zx_save108 {post : Int32 → SX → Prop} {m cb N se b0 : Nat} {C : zn_Mp} (hcb : cb = 0 ∨ cb = 21) (hm : m ≤ 24) :
    ∀ (d i tk : Nat) (a_iPath a_iData a_iVersion a_iChildVersion a_iCreated a_iSet a_iOwner : Nat → Int32), i + d = m → tk ≤ 24 → zi_M b0 N C f_nodes a_path a_data a_version a_childVersion a_created a_setAt a_owner a_firstChild a_sibling a_bucket a_eKind a_ePath a_eData a_eOwner a_eVersion a_eNumber a_iPath a_iData a_iVersion a_iChildVersion a_iCreated a_iSet a_iOwner a_iTimeout cb (some (tk, se)) a_open a_timeout → zi_Img a_iPath a_iOwner a_iTimeout →
      (∀ (a_iPath1 a_iData1 a_iVersion1 a_iChildVersion1 a_iCreated1 a_iSet1 a_iOwner1 : Nat → Int32), zi_M b0 N C f_nodes a_path a_data a_version a_childVersion a_created a_setAt a_owner a_firstChild a_sibling a_bucket a_eKind a_ePath a_eData a_eOwner a_eVersion a_eNumber a_iPath1 a_iData1 a_iVersion1 a_iChildVersion1 a_iCreated1 a_iSet1 a_iOwner1 a_iTimeout cb (some (min 24 (tk + d), se)) a_open a_timeout → zi_Img a_iPath1 a_iOwner1 a_iTimeout → wX_save_161 post (nI (21 - cb)) f_nodes f_time f_latest f_entries f_logged f_complete (nI (min 24 (tk + d))) f_sinceEntry f_sinceCount f_parts f_wrongPart f_watches a_path a_data a_version a_childVersion a_created a_setAt a_owner a_firstChild a_sibling a_bucket a_open a_timeout a_deadline a_eKind a_ePath a_eData a_eOwner a_eVersion a_eNumber a_iPath1 a_iData1 a_iVersion1 a_iChildVersion1 a_iCreated1 a_iSet1 a_iOwner1 a_iTimeout a_iLatest a_pKind a_pPath a_pA a_pB a_uEntry a_uSlot a_uData a_uVersion a_uSet a_uChildVersion a_uCreated a_uOwner a_wSession a_wKind a_wPath a_queue a_queued) →
      wX_save_108 post (nI m) (nI (21 - cb)) (d + 1) (nI i) f_nodes f_time f_latest f_entries f_logged f_complete (nI tk) f_sinceEntry f_sinceCount f_parts f_wrongPart f_watches a_path a_data a_version a_childVersion a_created a_setAt a_owner a_firstChild a_sibling a_bucket a_open a_timeout a_deadline a_eKind a_ePath a_eData a_eOwner a_eVersion a_eNumber a_iPath a_iData a_iVersion a_iChildVersion a_iCreated a_iSet a_iOwner a_iTimeout a_iLatest a_pKind a_pPath a_pA a_pB a_uEntry a_uSlot a_uData a_uVersion a_uSet a_uChildVersion a_uCreated a_uOwner a_wSession a_wKind a_wPath a_queue a_queued := by
  intro d
  induction d with
  | zero =>
    intro i tk a_iPath a_iData a_iVersion a_iChildVersion a_iCreated a_iSet a_iOwner hi htk M Im g
    have e : min 24 (tk + 0) = tk := by omega
    rw [e] at g
    exact br_t (nI_le (by omega) (by omega)) (g _ _ _ _ _ _ _ M Im)
  | succ d ih =>
    intro i tk a_iPath a_iData a_iVersion a_iChildVersion a_iCreated a_iSet a_iOwner hi htk M Im g
    refine br_f (nI_ge (by omega) (by omega)) ?_
    by_cases c24 : 24 ≤ tk
    · have e : min 24 (tk + (d + 1)) = tk := by omega
      rw [e] at g
      exact br_t (nI_le (a := 24) c24 (by omega)) (g _ _ _ _ _ _ _ M Im)
    refine br_f (nI_ge (b := 24) (by omega) (by decide)) ?_
    have eg : min 24 (tk + (d + 1)) = min 24 (tk + 1 + d) := by omega
    rw [eg] at g
    obtain ⟨m1, m2, m3, m4, m5⟩ := M
    obtain ⟨hse, P⟩ := m5 tk se rfl
    by_cases c20 : 20 < tk
    · refine br_t (nI_lt (a := 20) c20 (by omega)) (nm_r (nI_1 tk) (nm_r (nI_1 i) (ih (i + 1) (tk + 1) _ _ _ _ _ _ _ (by omega) (by omega) ⟨m1, m2, m3, m4, fun tk' b' hb' => ?_⟩ Im g)))
      have hb' := Option.some.inj hb'
      have e1 := congrArg Prod.fst hb'
      have e2 := congrArg Prod.snd hb'
      dsimp only at e1 e2
      subst e1 e2
      exact ⟨hse, zi_Part_more P (by omega)⟩
    · refine br_f (nI_nlt (a := 20) (b := tk) (by omega) (by decide)) ?_
      have hob : nI (21 - cb) + nI tk = nI (21 - cb + tk) := nI_add _ _
      have h48 : tk < 48 := by omega
      have hct := nI_clamp (n := tk) (by omega)
      refine zz_in rfl h48 (by decide) (zz_st hob (by omega) (by decide) (v' := a_path tk) (by rw [hct]) ?_)
      refine zz_in rfl h48 (by decide) (zz_st hob (by omega) (by decide) (v' := a_data tk) (by rw [hct]) ?_)
      refine zz_in rfl h48 (by decide) (zz_st hob (by omega) (by decide) (v' := a_version tk) (by rw [hct]) ?_)
      refine zz_in rfl h48 (by decide) (zz_st hob (by omega) (by decide) (v' := a_childVersion tk) (by rw [hct]) ?_)
      refine zz_in rfl h48 (by decide) (zz_st hob (by omega) (by decide) (v' := a_created tk) (by rw [hct]) ?_)
      refine zz_in rfl h48 (by decide) (zz_st hob (by omega) (by decide) (v' := a_setAt tk) (by rw [hct]) ?_)
      refine zz_in rfl h48 (by decide) (zz_st hob (by omega) (by decide) (v' := vp_nar .byte (a_owner tk)) (by rw [hct]) ?_)
      have own : 0 ≤ (a_path tk).toInt → vp_nar .byte (a_owner tk) = a_owner tk ∧ -1 ≤ (a_owner tk).toInt ∧ (a_owner tk).toInt ≤ 3 := fun h0 => by
        obtain ⟨_, _, _, _, _, o1, o2, _⟩ := m2.2 _ _ (m1.1.2.1.1 tk h48 h0)
        have o1' : -1 ≤ (a_owner tk).toInt := o1
        have o2' : (a_owner tk).toInt ≤ 3 := o2
        exact ⟨zb_nar (by omega) (by omega), o1', o2'⟩
      refine nm_r (nI_1 tk) (nm_r (nI_1 i) (ih (i + 1) (tk + 1) _ _ _ _ _ _ _ (by omega) (by omega) ⟨m1, m2, m3, ?_, fun tk' b' hb' => ?_⟩ ⟨fun j hj h0 => ?_, Im.2⟩ g))
      · refine zi_Full_cg m4 (fun _ _ => rfl) (fun j hj => pk_un (by omega)) (fun j hj => ?_) (fun _ _ => rfl) (fun _ => rfl) (fun _ _ => rfl) (fun _ _ _ => rfl)
        have hne : cb + j ≠ 21 - cb + tk := by omega
        simp only [zn_nd, pk_un hne]
      · have hb' := Option.some.inj hb'
        have e1 := congrArg Prod.fst hb'
        have e2 := congrArg Prod.snd hb'
        dsimp only at e1 e2
        subst e1 e2
        refine ⟨hse, zi_Part_put (nd := zn_nd a_data a_version a_childVersion a_created a_setAt a_owner) ?_ P (by omega) pk_us (fun h0 => ?_) (fun j hj => pk_un (by omega)) (fun j hj => ?_)⟩
        · refine ⟨fun s hs h0 => m1.1.2.1.1 s (by omega) h0, fun p x e => ?_, fun s s' hs hs' h0 e => m1.1.2.1.2.2 s s' (by omega) (by omega) h0 e⟩
          exact ⟨(m1.1.2.1.2.1 p x e).1, zx_cov m1 p x e⟩
        · simp only [zn_nd, pk_us, (own h0).1]
        · have hne : 21 - cb + j ≠ 21 - cb + tk := by omega
          simp only [zn_nd, pk_un hne]
      · by_cases z : j = 21 - cb + tk
        · rw [z, pk_us] at h0
          rw [z, pk_us, (own h0).1]
          exact (own h0).2
        · rw [pk_un z] at h0 ⊢
          exact Im.1 j hj h0
/-- the log is cut -/
theorem zx_cut {post : SX → Prop} {N se : Nat} (hN : N ≤ 400) (hse : se ≤ N) (he : f_entries = nI N) (hs : f_sinceEntry = nI se) (hW : ∀ j, j < N → zf_W (zf_en a_eKind a_ePath a_eData a_eOwner a_eVersion a_eNumber j))
    (h : ∀ (a_eKind1 a_ePath1 a_eData1 a_eOwner1 a_eVersion1 a_eNumber1 : Nat → Int32), (∀ j, j < N - se → zf_en a_eKind1 a_ePath1 a_eData1 a_eOwner1 a_eVersion1 a_eNumber1 j = zf_en a_eKind a_ePath a_eData a_eOwner a_eVersion a_eNumber (se + j)) → post (f_nodes, f_time, f_latest, nI (N - se), f_logged - f_sinceCount, f_complete, f_taken, f_sinceEntry, f_sinceCount, f_parts, f_wrongPart, f_watches, a_path, a_data, a_version, a_childVersion, a_created, a_setAt, a_owner, a_firstChild, a_sibling, a_bucket, a_open, a_timeout, a_deadline, a_eKind1, a_ePath1, a_eData1, a_eOwner1, a_eVersion1, a_eNumber1, a_iPath, a_iData, a_iVersion, a_iChildVersion, a_iCreated, a_iSet, a_iOwner, a_iTimeout, a_iLatest, a_pKind, a_pPath, a_pA, a_pB, a_uEntry, a_uSlot, a_uData, a_uVersion, a_uSet, a_uChildVersion, a_uCreated, a_uOwner, a_wSession, a_wKind, a_wPath, a_queue, a_queued)) : wpX_cutLog post (f_nodes, f_time, f_latest, f_entries, f_logged, f_complete, f_taken, f_sinceEntry, f_sinceCount, f_parts, f_wrongPart, f_watches, a_path, a_data, a_version, a_childVersion, a_created, a_setAt, a_owner, a_firstChild, a_sibling, a_bucket, a_open, a_timeout, a_deadline, a_eKind, a_ePath, a_eData, a_eOwner, a_eVersion, a_eNumber, a_iPath, a_iData, a_iVersion, a_iChildVersion, a_iCreated, a_iSet, a_iOwner, a_iTimeout, a_iLatest, a_pKind, a_pPath, a_pA, a_pB, a_uEntry, a_uSlot, a_uData, a_uVersion, a_uSet, a_uChildVersion, a_uCreated, a_uOwner, a_wSession, a_wKind, a_wPath, a_queue, a_queued) := by
  subst he hs
  have hk : ∀ j, j < N → vp_nar .byte (a_eKind j) = a_eKind j := fun j hj => by
    rcases (hW j hj).2 with z | z | z | z | z | z
    · rw [show a_eKind j = 0 from z]; exact zb_nar0
    · rw [show a_eKind j = 1 from z.1]; rfl
    · rw [show a_eKind j = 2 from z.1]; rfl
    · rw [show a_eKind j = 3 from z.1]; rfl
    · rw [show a_eKind j = 4 from z.1]; rfl
    · rw [show a_eKind j = 5 from z.1]; rfl
  have ho : ∀ j, j < N → vp_nar .byte (a_eOwner j) = a_eOwner j := fun j hj => by
    have := (hW j hj).1
    have h1 : -1 ≤ (a_eOwner j).toInt := this.1
    have h2 : (a_eOwner j).toInt ≤ 3 := this.2
    exact zb_nar (by omega) (by omega)
  have lp : ∀ (d i : Nat) (a_eKind1 a_ePath1 a_eData1 a_eOwner1 a_eVersion1 a_eNumber1 : Nat → Int32), i + d = N - se → (∀ j, j < i → zf_en a_eKind1 a_ePath1 a_eData1 a_eOwner1 a_eVersion1 a_eNumber1 j = zf_en a_eKind a_ePath a_eData a_eOwner a_eVersion a_eNumber (se + j)) → (∀ j, i ≤ j → zf_en a_eKind1 a_ePath1 a_eData1 a_eOwner1 a_eVersion1 a_eNumber1 (se + j) = zf_en a_eKind a_ePath a_eData a_eOwner a_eVersion a_eNumber (se + j)) →
      wX_cutLog_7 post f_nodes f_time f_latest (nI N) f_logged f_complete f_taken (nI se) f_sinceCount f_parts f_wrongPart f_watches (d + 1) (nI i) (nI (se + i)) a_path a_data a_version a_childVersion a_created a_setAt a_owner a_firstChild a_sibling a_bucket a_open a_timeout a_deadline a_eKind1 a_ePath1 a_eData1 a_eOwner1 a_eVersion1 a_eNumber1 a_iPath a_iData a_iVersion a_iChildVersion a_iCreated a_iSet a_iOwner a_iTimeout a_iLatest a_pKind a_pPath a_pA a_pB a_uEntry a_uSlot a_uData a_uVersion a_uSet a_uChildVersion a_uCreated a_uOwner a_wSession a_wKind a_wPath a_queue a_queued := by
    intro d
    induction d with
    | zero =>
      intro i a_eKind1 a_ePath1 a_eData1 a_eOwner1 a_eVersion1 a_eNumber1 hi h1 h2
      have e : i = N - se := by omega
      subst e
      exact br_t (nI_le (by omega) (by omega)) (nm_e (h _ _ _ _ _ _ h1))
    | succ d ih =>
      intro i a_eKind1 a_ePath1 a_eData1 a_eOwner1 a_eVersion1 a_eNumber1 hi h1 h2
      have hlt : se + i < N := by omega
      have hc := nI_clamp (n := se + i) (by omega)
      have ei := h2 i (Nat.le_refl i)
      have k1 : a_eKind1 (se + i) = a_eKind (se + i) := congrArg (fun x => x.1) ei
      have k2 : a_eOwner1 (se + i) = a_eOwner (se + i) := congrArg (fun x => x.2.2.2.1) ei
      refine br_f (nI_ge (by omega) (by omega)) ?_
      refine zz_in rfl (by omega) (by decide) (zz_st rfl (show i < 400 by omega) (by decide) (v' := a_eKind1 (se + i)) (by rw [hc, k1]; exact hk _ hlt) ?_)
      refine zz_in rfl (by omega) (by decide) (zz_st rfl (show i < 400 by omega) (by decide) (v' := a_ePath1 (se + i)) (by rw [hc]) ?_)
      refine zz_in rfl (by omega) (by decide) (zz_st rfl (show i < 400 by omega) (by decide) (v' := a_eData1 (se + i)) (by rw [hc]) ?_)
      refine zz_in rfl (by omega) (by decide) (zz_st rfl (show i < 400 by omega) (by decide) (v' := a_eOwner1 (se + i)) (by rw [hc, k2]; exact ho _ hlt) ?_)
      refine zz_in rfl (by omega) (by decide) (zz_st rfl (show i < 400 by omega) (by decide) (v' := a_eVersion1 (se + i)) (by rw [hc]) ?_)
      refine zz_in rfl (by omega) (by decide) (zz_st rfl (show i < 400 by omega) (by decide) (v' := a_eNumber1 (se + i)) (by rw [hc]) ?_)
      refine nm_r (nI_1 i) (nm_r (e' := nI (se + (i + 1))) (nI_1 _) ?_)
      have en := zs_En_upd (N := i) (k := a_eKind1 (se + i)) (p := a_ePath1 (se + i)) (d := a_eData1 (se + i)) (o := a_eOwner1 (se + i)) (v := a_eVersion1 (se + i)) (t := a_eNumber1 (se + i)) (a_eKind := a_eKind1) (a_ePath := a_ePath1) (a_eData := a_eData1) (a_eOwner := a_eOwner1) (a_eVersion := a_eVersion1) (a_eNumber := a_eNumber1)
      refine ih (i + 1) _ _ _ _ _ _ (by omega) (fun j hj => ?_) (fun j hj => ?_)
      · by_cases z : j = i
        · rw [z, en.2]; exact ei
        · rw [en.1 j z]; exact h1 j (by omega)
      · rw [en.1 _ (by omega)]; exact h2 j (by omega)
  exact Exists.intro (N - se + 1) (lp (N - se) 0 _ _ _ _ _ _ (by omega) (fun j hj => by omega) (fun _ _ => rfl))
end
end
section
/-! save -/
section
variable {f_nodes f_time f_latest f_entries f_logged f_complete f_taken f_sinceEntry f_sinceCount f_parts f_wrongPart f_watches : Int32} {a_path a_data a_version a_childVersion a_created a_setAt a_owner a_firstChild a_sibling a_bucket a_open a_timeout a_deadline a_eKind a_ePath a_eData a_eOwner a_eVersion a_eNumber a_iPath a_iData a_iVersion a_iChildVersion a_iCreated a_iSet a_iOwner a_iTimeout a_iLatest a_pKind a_pPath a_pA a_pB a_uEntry a_uSlot a_uData a_uVersion a_uSet a_uChildVersion a_uCreated a_uOwner a_wSession a_wKind a_wPath a_queue a_queued : Nat → Int32}
theorem zx_saveT {post : Int32 → SX → Prop} {m cb N se b0 tk : Nat} {C : zn_Mp} (hcb : cb = 0 ∨ cb = 21) (hm : m ≤ 24) (htk : tk ≤ 24) (hN : N ≤ 400) (he : f_entries = nI N) (hs : f_sinceEntry = nI se)
    (M : zi_M b0 N C f_nodes a_path a_data a_version a_childVersion a_created a_setAt a_owner a_firstChild a_sibling a_bucket a_eKind a_ePath a_eData a_eOwner a_eVersion a_eNumber a_iPath a_iData a_iVersion a_iChildVersion a_iCreated a_iSet a_iOwner a_iTimeout cb (some (tk, se)) a_open a_timeout) (Im : zi_Img a_iPath a_iOwner a_iTimeout)
    (hp : tk + m < 24 → ∀ (a_iPath1 a_iData1 a_iVersion1 a_iChildVersion1 a_iCreated1 a_iSet1 a_iOwner1 : Nat → Int32), zi_M b0 N C f_nodes a_path a_data a_version a_childVersion a_created a_setAt a_owner a_firstChild a_sibling a_bucket a_eKind a_ePath a_eData a_eOwner a_eVersion a_eNumber a_iPath1 a_iData1 a_iVersion1 a_iChildVersion1 a_iCreated1 a_iSet1 a_iOwner1 a_iTimeout cb (some (tk + m, se)) a_open a_timeout → zi_Img a_iPath1 a_iOwner1 a_iTimeout → post (nI (24 - (tk + m))) (f_nodes, f_time, f_latest, f_entries, f_logged, f_complete, nI (tk + m), f_sinceEntry, f_sinceCount, f_parts, f_wrongPart, f_watches, a_path, a_data, a_version, a_childVersion, a_created, a_setAt, a_owner, a_firstChild, a_sibling, a_bucket, a_open, a_timeout, a_deadline, a_eKind, a_ePath, a_eData, a_eOwner, a_eVersion, a_eNumber, a_iPath1, a_iData1, a_iVersion1, a_iChildVersion1, a_iCreated1, a_iSet1, a_iOwner1, a_iTimeout, a_iLatest, a_pKind, a_pPath, a_pA, a_pB, a_uEntry, a_uSlot, a_uData, a_uVersion, a_uSet, a_uChildVersion, a_uCreated, a_uOwner, a_wSession, a_wKind, a_wPath, a_queue, a_queued))
    (hd : 24 ≤ tk + m → ∀ (a_iPath1 a_iData1 a_iVersion1 a_iChildVersion1 a_iCreated1 a_iSet1 a_iOwner1 : Nat → Int32) (a_eKind1 a_ePath1 a_eData1 a_eOwner1 a_eVersion1 a_eNumber1 : Nat → Int32), zi_M b0 (N - se) C f_nodes a_path a_data a_version a_childVersion a_created a_setAt a_owner a_firstChild a_sibling a_bucket a_eKind1 a_ePath1 a_eData1 a_eOwner1 a_eVersion1 a_eNumber1 a_iPath1 a_iData1 a_iVersion1 a_iChildVersion1 a_iCreated1 a_iSet1 a_iOwner1 a_iTimeout (21 - cb) none a_open a_timeout → zi_Img a_iPath1 a_iOwner1 a_iTimeout → (∀ j, j < N - se → zf_en a_eKind1 a_ePath1 a_eData1 a_eOwner1 a_eVersion1 a_eNumber1 j = zf_en a_eKind a_ePath a_eData a_eOwner a_eVersion a_eNumber (se + j)) →
      post 0 (f_nodes, f_time, f_latest, nI (N - se), f_logged - f_sinceCount, nI (21 - cb), -1, f_sinceEntry, f_sinceCount, f_parts, f_wrongPart, f_watches, a_path, a_data, a_version, a_childVersion, a_created, a_setAt, a_owner, a_firstChild, a_sibling, a_bucket, a_open, a_timeout, a_deadline, a_eKind1, a_ePath1, a_eData1, a_eOwner1, a_eVersion1, a_eNumber1, a_iPath1, a_iData1, a_iVersion1, a_iChildVersion1, a_iCreated1, a_iSet1, a_iOwner1, a_iTimeout, a_iLatest, a_pKind, a_pPath, a_pA, a_pB, a_uEntry, a_uSlot, a_uData, a_uVersion, a_uSet, a_uChildVersion, a_uCreated, a_uOwner, a_wSession, a_wKind, a_wPath, a_queue, a_queued)) :
    ∃ n108 : Nat, wX_save_108 post (nI m) (nI (21 - cb)) n108 0 f_nodes f_time f_latest f_entries f_logged f_complete (nI tk) f_sinceEntry f_sinceCount f_parts f_wrongPart f_watches a_path a_data a_version a_childVersion a_created a_setAt a_owner a_firstChild a_sibling a_bucket a_open a_timeout a_deadline a_eKind a_ePath a_eData a_eOwner a_eVersion a_eNumber a_iPath a_iData a_iVersion a_iChildVersion a_iCreated a_iSet a_iOwner a_iTimeout a_iLatest a_pKind a_pPath a_pA a_pB a_uEntry a_uSlot a_uData a_uVersion a_uSet a_uChildVersion a_uCreated a_uOwner a_wSession a_wKind a_wPath a_queue a_queued := by
  refine Exists.intro (m + 1) (zx_save108 hcb hm m 0 tk _ _ _ _ _ _ _ (by omega) htk M Im (fun a_iPath1 a_iData1 a_iVersion1 a_iChildVersion1 a_iCreated1 a_iSet1 a_iOwner1 M1 Im1 => ?_))
  by_cases c : 24 ≤ tk + m
  · have e : min 24 (tk + m) = 24 := by omega
    rw [e] at M1 ⊢
    obtain ⟨hse, P⟩ := M1.2.2.2.2 24 se rfl
    refine br_t (by decide) (zx_cut hN hse he hs M1.2.2.1 (fun a_eKind1 a_ePath1 a_eData1 a_eOwner1 a_eVersion1 a_eNumber1 h1 => hd c _ _ _ _ _ _ _ _ _ _ _ _ _ ⟨M1.1, M1.2.1, fun j hj => ?_, zi_Part_end P (by decide) h1, fun _ _ z => nomatch z⟩ Im1 h1))
    rw [h1 j hj]
    exact M1.2.2.1 _ (by omega)
  · have e : min 24 (tk + m) = tk + m := by omega
    rw [e] at M1 ⊢
    refine br_f (nI_ge (b := 24) (by omega) (by decide)) ?_
    rw [show (24 : Int32) = nI 24 from rfl, pk_sub (by omega)]
    exact hp (by omega) _ _ _ _ _ _ _ M1 Im1
theorem zx_save_n {post : Int32 → SX → Prop} {p : Int32} (h : ¬ (1 ≤ p.toInt ∧ p.toInt ≤ 24) → post (-1) (f_nodes, f_time, f_latest, f_entries, f_logged, f_complete, f_taken, f_sinceEntry, f_sinceCount, f_parts, f_wrongPart, f_watches, a_path, a_data, a_version, a_childVersion, a_created, a_setAt, a_owner, a_firstChild, a_sibling, a_bucket, a_open, a_timeout, a_deadline, a_eKind, a_ePath, a_eData, a_eOwner, a_eVersion, a_eNumber, a_iPath, a_iData, a_iVersion, a_iChildVersion, a_iCreated, a_iSet, a_iOwner, a_iTimeout, a_iLatest, a_pKind, a_pPath, a_pA, a_pB, a_uEntry, a_uSlot, a_uData, a_uVersion, a_uSet, a_uChildVersion, a_uCreated, a_uOwner, a_wSession, a_wKind, a_wPath, a_queue, a_queued))
    (h1 : ∀ m, 1 ≤ m → m ≤ 24 → p = nI m → wpX_save post (f_nodes, f_time, f_latest, f_entries, f_logged, f_complete, f_taken, f_sinceEntry, f_sinceCount, f_parts, f_wrongPart, f_watches, a_path, a_data, a_version, a_childVersion, a_created, a_setAt, a_owner, a_firstChild, a_sibling, a_bucket, a_open, a_timeout, a_deadline, a_eKind, a_ePath, a_eData, a_eOwner, a_eVersion, a_eNumber, a_iPath, a_iData, a_iVersion, a_iChildVersion, a_iCreated, a_iSet, a_iOwner, a_iTimeout, a_iLatest, a_pKind, a_pPath, a_pA, a_pB, a_uEntry, a_uSlot, a_uData, a_uVersion, a_uSet, a_uChildVersion, a_uCreated, a_uOwner, a_wSession, a_wKind, a_wPath, a_queue, a_queued) (nI m)) : wpX_save post (f_nodes, f_time, f_latest, f_entries, f_logged, f_complete, f_taken, f_sinceEntry, f_sinceCount, f_parts, f_wrongPart, f_watches, a_path, a_data, a_version, a_childVersion, a_created, a_setAt, a_owner, a_firstChild, a_sibling, a_bucket, a_open, a_timeout, a_deadline, a_eKind, a_ePath, a_eData, a_eOwner, a_eVersion, a_eNumber, a_iPath, a_iData, a_iVersion, a_iChildVersion, a_iCreated, a_iSet, a_iOwner, a_iTimeout, a_iLatest, a_pKind, a_pPath, a_pA, a_pB, a_uEntry, a_uSlot, a_uData, a_uVersion, a_uSet, a_uChildVersion, a_uCreated, a_uOwner, a_wSession, a_wKind, a_wPath, a_queue, a_queued) p := by
  by_cases c : 1 ≤ p.toInt ∧ p.toInt ≤ 24
  · obtain ⟨m, hm, rfl, em⟩ := zb_nI (x := p) (by omega)
    exact h1 m (by omega) (by omega) rfl
  · unfold wpX_save
    refine zx_outside (fun ha hb => ?_) (fun _ => br_f (by decide) (h c))
    rw [zb_le, zb_1] at ha
    rw [zb_le, zb_24] at hb
    exact absurd ⟨ha, hb⟩ c
/-- going on -/
theorem zx_save_go {post : Int32 → SX → Prop} {m cb tk : Nat} (hm : 1 ≤ m) (hm2 : m ≤ 24) (hcb : cb = 0 ∨ cb = 21) (hc : f_complete = nI cb) (ht : f_taken = nI tk) (htk : tk < 100)
    (h : ∃ n108 : Nat, wX_save_108 post (nI m) (nI (21 - cb)) n108 0 f_nodes f_time f_latest f_entries f_logged (nI cb) (nI tk) f_sinceEntry f_sinceCount f_parts f_wrongPart f_watches a_path a_data a_version a_childVersion a_created a_setAt a_owner a_firstChild a_sibling a_bucket a_open a_timeout a_deadline a_eKind a_ePath a_eData a_eOwner a_eVersion a_eNumber a_iPath a_iData a_iVersion a_iChildVersion a_iCreated a_iSet a_iOwner a_iTimeout a_iLatest a_pKind a_pPath a_pA a_pB a_uEntry a_uSlot a_uData a_uVersion a_uSet a_uChildVersion a_uCreated a_uOwner a_wSession a_wKind a_wPath a_queue a_queued) : wpX_save post (f_nodes, f_time, f_latest, f_entries, f_logged, f_complete, f_taken, f_sinceEntry, f_sinceCount, f_parts, f_wrongPart, f_watches, a_path, a_data, a_version, a_childVersion, a_created, a_setAt, a_owner, a_firstChild, a_sibling, a_bucket, a_open, a_timeout, a_deadline, a_eKind, a_ePath, a_eData, a_eOwner, a_eVersion, a_eNumber, a_iPath, a_iData, a_iVersion, a_iChildVersion, a_iCreated, a_iSet, a_iOwner, a_iTimeout, a_iLatest, a_pKind, a_pPath, a_pA, a_pB, a_uEntry, a_uSlot, a_uData, a_uVersion, a_uSet, a_uChildVersion, a_uCreated, a_uOwner, a_wSession, a_wKind, a_wPath, a_queue, a_queued) (nI m) := by
  subst hc ht
  unfold wpX_save
  refine zx_outside (fun _ _ => br_t rfl ?_) (fun hn => absurd ⟨nI_le (a := 1) hm (by omega), nI_le (b := 24) hm2 (by decide)⟩ hn)
  refine nm_r (e' := nI (21 - cb)) (pk_sub (a := 21) (by omega)) ?_
  exact br_t (nI_pos' (by omega)) h
/-- beginning -/
theorem zx_save_0 {post : Int32 → SX → Prop} {m cb : Nat} (hm : 1 ≤ m) (hm2 : m ≤ 24) (hcb : cb = 0 ∨ cb = 21) (hc : f_complete = nI cb) (ht : f_taken = -1) (htm : ∀ s, s < 4 → ¬ a_open s = 0 → vp_nar .byte (a_timeout s) = a_timeout s)
    (h : ∀ it : Nat → Int32, (∀ s, s < 4 → it (4 * ((21 - cb) / 21) + s) = if a_open s = 0 then 0 else a_timeout s) → (∀ j, (j < 4 * ((21 - cb) / 21) ∨ 4 * ((21 - cb) / 21) + 4 ≤ j) → it j = a_iTimeout j) →
      ∃ n108 : Nat, wX_save_108 post (nI m) (nI (21 - cb)) n108 0 f_nodes f_time f_latest f_entries f_logged (nI cb) 0 f_entries f_logged f_parts f_wrongPart f_watches a_path a_data a_version a_childVersion a_created a_setAt a_owner a_firstChild a_sibling a_bucket a_open a_timeout a_deadline a_eKind a_ePath a_eData a_eOwner a_eVersion a_eNumber a_iPath a_iData a_iVersion a_iChildVersion a_iCreated a_iSet a_iOwner it (upd a_iLatest ((21 - cb) / 21) f_latest) a_pKind a_pPath a_pA a_pB a_uEntry a_uSlot a_uData a_uVersion a_uSet a_uChildVersion a_uCreated a_uOwner a_wSession a_wKind a_wPath a_queue a_queued) : wpX_save post (f_nodes, f_time, f_latest, f_entries, f_logged, f_complete, f_taken, f_sinceEntry, f_sinceCount, f_parts, f_wrongPart, f_watches, a_path, a_data, a_version, a_childVersion, a_created, a_setAt, a_owner, a_firstChild, a_sibling, a_bucket, a_open, a_timeout, a_deadline, a_eKind, a_ePath, a_eData, a_eOwner, a_eVersion, a_eNumber, a_iPath, a_iData, a_iVersion, a_iChildVersion, a_iCreated, a_iSet, a_iOwner, a_iTimeout, a_iLatest, a_pKind, a_pPath, a_pA, a_pB, a_uEntry, a_uSlot, a_uData, a_uVersion, a_uSet, a_uChildVersion, a_uCreated, a_uOwner, a_wSession, a_wKind, a_wPath, a_queue, a_queued) (nI m) := by
  subst hc ht
  unfold wpX_save
  refine zx_outside (fun _ _ => br_t rfl ?_) (fun hn => absurd ⟨nI_le (a := 1) hm (by omega), nI_le (b := 24) hm2 (by decide)⟩ hn)
  refine nm_r (e' := nI (21 - cb)) (pk_sub (a := 21) (by omega)) ?_
  have hd : nI (21 - cb) / 21 = nI ((21 - cb) / 21) := pk_div (d := 21) (by omega) (by decide) (by decide)
  refine br_f (by decide) (And.intro zb_21n (zz_st hd (by omega) (by decide) rfl ?_))
  exact Exists.intro 5 (zx_save63 (by omega) htm h 4 0 _ rfl (fun s hs => by omega) (fun _ _ => rfl))
end
section
variable {g_time g_last g_watchCount g_partCount g_wrong g_changes g_log g_since g_placesLeft : Int32} {b_paths b_values b_open b_timeouts b_deadlines b_events b_eventCounts b_watchers b_watchKinds b_watchPaths b_parts b_happened b_how : Nat → Int32}
theorem zy_save {post : Int32 → SY → Prop} {p : Int32} {pl : Nat} (hpl : pl < 24) (he : g_placesLeft = nI pl) (h : ¬ (1 ≤ p.toInt ∧ p.toInt ≤ 24) → post (-1) (g_time, g_last, g_watchCount, g_partCount, g_wrong, g_changes, g_log, g_since, g_placesLeft, b_paths, b_values, b_open, b_timeouts, b_deadlines, b_events, b_eventCounts, b_watchers, b_watchKinds, b_watchPaths, b_parts, b_happened, b_how))
    (hp : ∀ m, 1 ≤ m → m ≤ 24 → p = nI m → m < (if pl = 0 then 24 else pl) → post (nI ((if pl = 0 then 24 else pl) - m)) (g_time, g_last, g_watchCount, g_partCount, g_wrong, g_changes, g_log, if pl = 0 then 0 else g_since, nI ((if pl = 0 then 24 else pl) - m), b_paths, b_values, b_open, b_timeouts, b_deadlines, b_events, b_eventCounts, b_watchers, b_watchKinds, b_watchPaths, b_parts, b_happened, b_how))
    (hd : ∀ m, 1 ≤ m → m ≤ 24 → p = nI m → (if pl = 0 then 24 else pl) ≤ m → post 0 (g_time, g_last, g_watchCount, g_partCount, g_wrong, g_changes, if pl = 0 then 0 else g_since, if pl = 0 then 0 else g_since, 0, b_paths, b_values, b_open, b_timeouts, b_deadlines, b_events, b_eventCounts, b_watchers, b_watchKinds, b_watchPaths, b_parts, b_happened, b_how)) : wpY_save post (g_time, g_last, g_watchCount, g_partCount, g_wrong, g_changes, g_log, g_since, g_placesLeft, b_paths, b_values, b_open, b_timeouts, b_deadlines, b_events, b_eventCounts, b_watchers, b_watchKinds, b_watchPaths, b_parts, b_happened, b_how) p := by
  subst he
  by_cases c1 : p < 1
  · refine br_t c1 (h fun z => ?_)
    rw [zb_lt, zb_1] at c1; omega
  refine br_f c1 ?_
  by_cases c2 : p ≤ 24
  · refine br_t c2 ?_
    rw [zb_lt, zb_1] at c1
    rw [zb_le, zb_24] at c2
    obtain ⟨m, hm, rfl, em⟩ := zb_nI (x := p) (by omega)
    have fin : ∀ (P : Nat) (sc : Int32), P ≤ 24 → P = (if pl = 0 then 24 else pl) → sc = (if pl = 0 then 0 else g_since) → wY_save_31 post (nI m) g_time g_last g_watchCount g_partCount g_wrong g_changes g_log sc (nI P) b_paths b_values b_open b_timeouts b_deadlines b_events b_eventCounts b_watchers b_watchKinds b_watchPaths b_parts b_happened b_how := by
      intro P sc hP eP es
      rw [← eP, ← es] at hp hd
      by_cases c : P ≤ m
      · refine nm_e (br_t ?_ (hd m (by omega) (by omega) rfl c))
        rw [zb_le, zb_sub (by rw [nI_toInt (by omega), nI_toInt (by omega)]; omega) (by rw [nI_toInt (by omega), nI_toInt (by omega)]; omega), nI_toInt (by omega), nI_toInt (by omega), zb_t0]
        omega
      · refine nm_r (e' := nI (P - m)) (pk_sub (by omega)) (br_f (nI_nle (by omega) (by omega)) (hp m (by omega) (by omega) rfl (by omega)))
    refine pk_eq pl 0 (fun z => ?_) (fun z => ?_)
    · exact fin 24 0 (by omega) (by rw [if_pos z]) (by rw [if_pos z])
    · exact fin pl g_since (by omega) (by rw [if_neg z]) (by rw [if_neg z])
  · refine br_f c2 (h fun z => ?_)
    rw [zb_le, zb_24] at c2; omega
end
theorem i_vc_save {k : Nat} {u : SX} {v : SY} (I : i_Rel k u v) (hk : k + 5 ≤ 2560) (v1 : Int32) : wpX_save (fun r u' => wpY_save (fun r' v' => r' = r ∧ i_Rel (k + 5) u' v') v v1) u v1 := by
  refine zi_el (P := fun u v => wpX_save (fun r u' => wpY_save (fun r' v' => r' = r ∧ i_Rel (k + 5) u' v') v v1) u v1) ?_ I
  intro f_nodes f_time f_latest f_entries f_logged f_complete f_taken f_sinceEntry f_sinceCount f_parts f_wrongPart f_watches a_path a_data a_version a_childVersion a_created a_setAt a_owner a_firstChild a_sibling a_bucket a_open a_timeout a_deadline a_eKind a_ePath a_eData a_eOwner a_eVersion a_eNumber a_iPath a_iData a_iVersion a_iChildVersion a_iCreated a_iSet a_iOwner a_iTimeout a_iLatest a_pKind a_pPath a_pA a_pB a_uEntry a_uSlot a_uData a_uVersion a_uSet a_uChildVersion a_uCreated a_uOwner a_wSession a_wKind a_wPath a_queue a_queued g_time g_last g_watchCount g_partCount g_wrong g_changes g_log g_since g_placesLeft b_paths b_values b_open b_timeouts b_deadlines b_events b_eventCounts b_watchers b_watchKinds b_watchPaths b_parts b_happened b_how R
  have R5 : i_Rel (k + 5) (f_nodes, f_time, f_latest, f_entries, f_logged, f_complete, f_taken, f_sinceEntry, f_sinceCount, f_parts, f_wrongPart, f_watches, a_path, a_data, a_version, a_childVersion, a_created, a_setAt, a_owner, a_firstChild, a_sibling, a_bucket, a_open, a_timeout, a_deadline, a_eKind, a_ePath, a_eData, a_eOwner, a_eVersion, a_eNumber, a_iPath, a_iData, a_iVersion, a_iChildVersion, a_iCreated, a_iSet, a_iOwner, a_iTimeout, a_iLatest, a_pKind, a_pPath, a_pA, a_pB, a_uEntry, a_uSlot, a_uData, a_uVersion, a_uSet, a_uChildVersion, a_uCreated, a_uOwner, a_wSession, a_wKind, a_wPath, a_queue, a_queued) (g_time, g_last, g_watchCount, g_partCount, g_wrong, g_changes, g_log, g_since, g_placesLeft, b_paths, b_values, b_open, b_timeouts, b_deadlines, b_events, b_eventCounts, b_watchers, b_watchKinds, b_watchPaths, b_parts, b_happened, b_how) := i_up (k := k) R
  obtain ⟨C, S, N, lg, pc, cb, sn, M, T, Q⟩ := R
  have lim := zi_N_lt Q
  obtain ⟨⟨q1, q2, q3, q4, q5, q6, q7, q8, q9, q10⟩, ⟨p1, p2, p3, p4⟩, ses, pk, w, x, im, la, sp⟩ := Q
  have hn21 := zx_n_le M.1
  have hS4 : zi_S a_open ≤ 4 := zc_leN _ _
  refine zx_save_n (fun h1 => ?_) (fun m hm hm2 e => ?_)
  · rcases sp with ⟨s1, s2, s3⟩ | ⟨tk, b, bc, s1, s2, s3, s4, s5, _⟩
    · exact zy_save (pl := 0) (by omega) s3 (fun _ => And.intro rfl R5) (fun m a b e => absurd ⟨by rw [e, nI_toInt (by omega)]; omega, by rw [e, nI_toInt (by omega)]; omega⟩ h1) (fun m a b e => absurd ⟨by rw [e, nI_toInt (by omega)]; omega, by rw [e, nI_toInt (by omega)]; omega⟩ h1)
    · exact zy_save (pl := 24 - tk) (by omega) s5 (fun _ => And.intro rfl R5) (fun m a b e => absurd ⟨by rw [e, nI_toInt (by omega)]; omega, by rw [e, nI_toInt (by omega)]; omega⟩ h1) (fun m a b e => absurd ⟨by rw [e, nI_toInt (by omega)]; omega, by rw [e, nI_toInt (by omega)]; omega⟩ h1)
  subst e
  have nr : ¬ ¬ (1 ≤ (nI m).toInt ∧ (nI m).toInt ≤ 24) := fun z => z ⟨by rw [nI_toInt (by omega)]; omega, by rw [nI_toInt (by omega)]; omega⟩
  have hcb2 : cb / 21 ≠ (21 - cb) / 21 := by rcases p1 with z | z <;> rw [z] <;> decide
  rcases sp with ⟨s1, s2, s3⟩ | ⟨tk, se, bc, s1, s2, s3, s4, s5, s6, s7, s8, s9, s10, s11, s12⟩
  · -- a snapshot begins
    subst s1
    refine zx_save_0 hm hm2 p1 q10 s2 (fun s hs ho => ?_) (fun it t1 t2 => ?_)
    · obtain ⟨o1, o2⟩ := ses s hs
      obtain ⟨_, _, a3, a4⟩ := o2 (o1.resolve_left ho)
      exact zb_nar (by omega) (by omega)
    have Im' : zi_Img a_iPath a_iOwner it := ⟨im.1, fun j hj => by
      by_cases z : j < 4 * ((21 - cb) / 21) ∨ 4 * ((21 - cb) / 21) + 4 ≤ j
      · rw [t2 j z]; exact im.2 j hj
      · obtain ⟨s, hs, rfl⟩ : ∃ s, s < 4 ∧ j = 4 * ((21 - cb) / 21) + s := ⟨j - 4 * ((21 - cb) / 21), by omega, by omega⟩
        rw [t1 s hs]
        by_cases o : a_open s = 0
        · rw [if_pos o, zb_t0]; omega
        · rw [if_neg o]
          obtain ⟨o1, o2⟩ := ses s hs
          obtain ⟨_, _, a3, a4⟩ := o2 (o1.resolve_left o)
          omega⟩
    have M0 : zi_M (20 * k) N C f_nodes a_path a_data a_version a_childVersion a_created a_setAt a_owner a_firstChild a_sibling a_bucket a_eKind a_ePath a_eData a_eOwner a_eVersion a_eNumber a_iPath a_iData a_iVersion a_iChildVersion a_iCreated a_iSet a_iOwner it cb (some (0, N)) a_open a_timeout := by
      obtain ⟨m1, m2, m3, m4, m5⟩ := M
      refine ⟨m1, m2, m3, zi_Full_cg m4 (fun _ _ => rfl) (fun _ _ => rfl) (fun _ _ => rfl) (fun s hs => t2 _ ?_) (fun _ => rfl) (fun _ _ => rfl) (fun _ _ _ => rfl), fun tk b hb => ?_⟩
      · rcases p1 with z | z
        · subst z; left; omega
        · subst z; right; omega
      · have hb := Option.some.inj hb
        have e1 := congrArg Prod.fst hb
        have e2 := congrArg Prod.snd hb
        dsimp only at e1 e2
        subst e1 e2
        refine ⟨Nat.le_refl _, ?_⟩
        rw [Nat.sub_self]
        refine zi_Part_0 (N := N) (nd := zn_nd a_data a_version a_childVersion a_created a_setAt a_owner) ?_ (fun s hs => (ses s hs).1) (fun s hs o => by have := (ses s hs).2 o; omega) t1
        refine ⟨fun s hs h0 => m1.1.2.1.1 s (by omega) h0, fun p x e => ?_, fun s s' hs hs' h0 e => m1.1.2.1.2.2 s s' (by omega) (by omega) h0 e⟩
        exact ⟨(m1.1.2.1.2.1 p x e).1, zx_cov m1 p x e⟩
    refine zx_saveT (tk := 0) (se := N) p1 hm2 (by omega) (by omega) q1 q1 M0 Im' (fun c a_iPath1 a_iData1 a_iVersion1 a_iChildVersion1 a_iCreated1 a_iSet1 a_iOwner1 M1 I1 => ?_) (fun c a_iPath1 a_iData1 a_iVersion1 a_iChildVersion1 a_iCreated1 a_iSet1 a_iOwner1 a_eKind1 a_ePath1 a_eData1 a_eOwner1 a_eVersion1 a_eNumber1 M1 I1 e1 => ?_)
    · refine zy_save (pl := 0) (by omega) s3 (fun z => absurd z nr) (fun m' a b e c' => And.intro ?_ ?_) (fun m' a b e c' => ?_)
      · have : m = m' := (nI_eq (by omega) (by omega)).mp e
        subst this
        rw [if_pos rfl, Nat.zero_add]
      · have : m = m' := (nI_eq (by omega) (by omega)).mp e
        subst this
        refine zi_mk (zi_M_up M1) T ⟨⟨q1, q2, q3, q4, q5, q6, q7, q8, q9, rfl⟩, ⟨p1, p2, p3, p4⟩, ses, pk, w, x, I1, ?_, Or.inr ⟨0 + m, N, lg, rfl, rfl, by omega, by omega, ?_, q1, q2, Nat.le_refl _, Nat.le_refl _, ?_, ?_, ⟨fun _ => pk_us, fun z => by omega⟩⟩⟩
        · rw [pk_un hcb2]; exact la
        · rw [if_pos rfl, Nat.zero_add]
        · rw [if_pos rfl, Nat.sub_self]; rfl
        · unfold zi_Pot; omega
      · have : m = m' := (nI_eq (by omega) (by omega)).mp e
        subst this
        rw [if_pos rfl] at c'
        omega
    · refine zy_save (pl := 0) (by omega) s3 (fun z => absurd z nr) (fun m' a b e c' => ?_) (fun m' a b e c' => And.intro rfl ?_)
      · have : m = m' := (nI_eq (by omega) (by omega)).mp e
        subst this
        rw [if_pos rfl] at c'
        omega
      · have e0 : N - N = 0 := Nat.sub_self N
        have l0 : f_logged - f_logged = nI 0 := by rw [q2, pk_sub (Nat.le_refl _), Nat.sub_self]
        rw [e0] at M1 ⊢
        refine zi_mk (lg := 0) (zi_M_up M1) T ⟨⟨rfl, l0, by rw [if_pos rfl]; rfl, q4, q5, q6, q7, q8, q9, rfl⟩, ⟨by omega, p2, by unfold zi_Pot; omega, by omega⟩, ses, pk, w, x, I1, ⟨fun _ => pk_us, fun z => by omega⟩, Or.inl ⟨rfl, rfl, rfl⟩⟩
  · -- it goes on
    subst s1
    refine zx_save_go hm hm2 p1 q10 s2 (by omega) ?_
    refine zx_saveT (tk := tk) (se := se) p1 hm2 (by omega) (by omega) q1 s6 M im (fun c a_iPath1 a_iData1 a_iVersion1 a_iChildVersion1 a_iCreated1 a_iSet1 a_iOwner1 M1 I1 => ?_) (fun c a_iPath1 a_iData1 a_iVersion1 a_iChildVersion1 a_iCreated1 a_iSet1 a_iOwner1 a_eKind1 a_ePath1 a_eData1 a_eOwner1 a_eVersion1 a_eNumber1 M1 I1 e1 => ?_)
    · refine zy_save (pl := 24 - tk) (by omega) s5 (fun z => absurd z nr) (fun m' a b e c' => And.intro ?_ ?_) (fun m' a b e c' => ?_)
      · have : m = m' := (nI_eq (by omega) (by omega)).mp e
        subst this
        rw [if_neg (by omega)]
        exact congrArg nI (by omega)
      · have : m = m' := (nI_eq (by omega) (by omega)).mp e
        subst this
        refine zi_mk (zi_M_up M1) T ⟨⟨q1, q2, q3, q4, q5, q6, q7, q8, q9, rfl⟩, ⟨p1, p2, p3, p4⟩, ses, pk, w, x, I1, la, Or.inr ⟨tk + m, se, bc, rfl, rfl, by omega, by omega, ?_, s6, s7, s8, s9, ?_, s11, s12⟩⟩
        · rw [if_neg (by omega)]
          exact congrArg nI (by omega)
        · rw [if_neg (by omega)]; exact s10
      · have : m = m' := (nI_eq (by omega) (by omega)).mp e
        subst this
        rw [if_neg (by omega)] at c'
        omega
    · refine zy_save (pl := 24 - tk) (by omega) s5 (fun z => absurd z nr) (fun m' a b e c' => ?_) (fun m' a b e c' => And.intro rfl ?_)
      · have : m = m' := (nI_eq (by omega) (by omega)).mp e
        subst this
        rw [if_neg (by omega)] at c'
        omega
      · have l0 : f_logged - f_sinceCount = nI (lg - bc) := by rw [q2, s7, pk_sub s9]
        refine zi_mk (lg := lg - bc) (zi_M_up M1) T ⟨⟨rfl, l0, by rw [if_neg (by omega)]; exact s10, q4, q5, q6, q7, q8, q9, rfl⟩, ⟨by omega, p2, s11, by omega⟩, ses, pk, w, x, I1, ⟨fun z => s12.1 (by omega), fun z => ?_⟩, Or.inl ⟨rfl, rfl, rfl⟩⟩
        have e2 := e1 (N - se - 1) (by omega)
        have e3 : a_eNumber1 (N - se - 1) = a_eNumber (se + (N - se - 1)) := congrArg (fun x => x.2.2.2.2.2) e2
        rw [e3, show se + (N - se - 1) = N - 1 from by omega]
        exact s12.2 (by omega)
end
section
/-! several requests at once: what undoes them -/
/-- slots that hold a map -/
def zu_B (b : Nat) (P : Nat → Int32) (D : Nat → zn_Nd) (C : zn_Mp) : Prop :=
  zr_Rep 48 P D C ∧ zi_C b C ∧ (∀ s, s < 48 → (P s).toInt < 0 → P s = -1) ∧ (∀ s, 21 ≤ s → s < 48 → P s = -1) ∧ P 0 = 0
/-- part k is kept so that it can be undone; entries lie below B -/
def zu_R (b B k : Nat) (a_eKind a_ePath a_eData a_eOwner a_eVersion a_eNumber : Nat → Int32) (a_uEntry a_uSlot a_uData a_uVersion a_uSet a_uChildVersion a_uCreated a_uOwner : Nat → Int32) (P : Nat → Int32) (D : Nat → zn_Nd) (C : zn_Mp) (P1 : Nat → Int32) (D1 : Nat → zn_Nd) (C1 : zn_Mp) : Prop :=
  zu_B b P D C ∧
  ((a_uEntry k = -1 ∧ P1 = P ∧ (∀ s, s < 48 → 0 ≤ (P s).toInt → D1 s = D s) ∧ C1 = C) ∨
   (∃ idx, idx < B ∧ a_uEntry k = nI idx ∧ (a_eKind idx = 1 ∨ a_eKind idx = 2 ∨ a_eKind idx = 3) ∧ zp_ok (a_ePath idx) ∧ (¬ a_eKind idx = 2 → ¬ a_ePath idx = 0) ∧ zs_St (zf_en a_eKind a_ePath a_eData a_eOwner a_eVersion a_eNumber idx) P D P1 D1 ∧ C1 = zf_ap (zf_en a_eKind a_ePath a_eData a_eOwner a_eVersion a_eNumber idx) C ∧
     (¬ a_eKind idx = 1 → ∃ s, s < 21 ∧ a_uSlot k = nI s ∧ P s = a_ePath idx ∧ D s = zn_nd a_uData a_uVersion a_uChildVersion a_uCreated a_uSet a_uOwner k)))
/-- the chain of parts done, from the state before them -/
def zu_ch (b B : Nat) (a_eKind a_ePath a_eData a_eOwner a_eVersion a_eNumber : Nat → Int32) (a_uEntry a_uSlot a_uData a_uVersion a_uSet a_uChildVersion a_uCreated a_uOwner : Nat → Int32) (P0 : Nat → Int32) (D0 : Nat → zn_Nd) (C0 : zn_Mp) : Nat → (Nat → Int32) → (Nat → zn_Nd) → zn_Mp → Prop
  | 0, P, D, C => P = P0 ∧ (∀ s, s < 48 → 0 ≤ (P s).toInt → D s = D0 s) ∧ C = C0
  | k + 1, P, D, C => ∃ P' D' C', zu_ch b B a_eKind a_ePath a_eData a_eOwner a_eVersion a_eNumber a_uEntry a_uSlot a_uData a_uVersion a_uSet a_uChildVersion a_uCreated a_uOwner P0 D0 C0 k P' D' C' ∧ zu_R b B k a_eKind a_ePath a_eData a_eOwner a_eVersion a_eNumber a_uEntry a_uSlot a_uData a_uVersion a_uSet a_uChildVersion a_uCreated a_uOwner P' D' C' P D C
theorem zu_R_cg {b b' B B' k : Nat} {a_eKind a_ePath a_eData a_eOwner a_eVersion a_eNumber : Nat → Int32} {a_uEntry a_uSlot a_uData a_uVersion a_uSet a_uChildVersion a_uCreated a_uOwner : Nat → Int32} {a_eKind1 a_ePath1 a_eData1 a_eOwner1 a_eVersion1 a_eNumber1 : Nat → Int32} {a_uEntry1 a_uSlot1 a_uData1 a_uVersion1 a_uSet1 a_uChildVersion1 a_uCreated1 a_uOwner1 : Nat → Int32} {P : Nat → Int32} {D : Nat → zn_Nd} {C : zn_Mp} {P1 : Nat → Int32} {D1 : Nat → zn_Nd} {C1 : zn_Mp} (h : zu_R b B k a_eKind a_ePath a_eData a_eOwner a_eVersion a_eNumber a_uEntry a_uSlot a_uData a_uVersion a_uSet a_uChildVersion a_uCreated a_uOwner P D C P1 D1 C1) (hb : b ≤ b') (hB : B ≤ B')
    (he : ∀ j, j < B → zf_en a_eKind1 a_ePath1 a_eData1 a_eOwner1 a_eVersion1 a_eNumber1 j = zf_en a_eKind a_ePath a_eData a_eOwner a_eVersion a_eNumber j) (hu : a_uEntry1 k = a_uEntry k ∧ a_uSlot1 k = a_uSlot k ∧ zn_nd a_uData1 a_uVersion1 a_uChildVersion1 a_uCreated1 a_uSet1 a_uOwner1 k = zn_nd a_uData a_uVersion a_uChildVersion a_uCreated a_uSet a_uOwner k) :
    zu_R b' B' k a_eKind1 a_ePath1 a_eData1 a_eOwner1 a_eVersion1 a_eNumber1 a_uEntry1 a_uSlot1 a_uData1 a_uVersion1 a_uSet1 a_uChildVersion1 a_uCreated1 a_uOwner1 P D C P1 D1 C1 := by
  obtain ⟨hB0, h⟩ := h
  refine ⟨⟨hB0.1, zi_C_le hB0.2.1 hb, hB0.2.2⟩, ?_⟩
  rcases h with ⟨a1, a2⟩ | ⟨idx, a1, a2, a3, a4, a5, a6, a7, a8⟩
  · exact Or.inl ⟨by rw [hu.1, a1], a2⟩
  · have e := he idx a1
    have e1 : a_eKind1 idx = a_eKind idx := congrArg (fun x => x.1) e
    have e2 : a_ePath1 idx = a_ePath idx := congrArg (fun x => x.2.1) e
    refine Or.inr ⟨idx, by omega, by rw [hu.1, a2], by rw [e1]; exact a3, by rw [e2]; exact a4, by rw [e1, e2]; exact a5, by rw [e]; exact a6, by rw [e]; exact a7, ?_⟩
    rw [e1, e2, hu.2.1, hu.2.2]
    exact a8
theorem zu_ch_cg {b b' B B' : Nat} {a_eKind a_ePath a_eData a_eOwner a_eVersion a_eNumber : Nat → Int32} {a_uEntry a_uSlot a_uData a_uVersion a_uSet a_uChildVersion a_uCreated a_uOwner : Nat → Int32} {a_eKind1 a_ePath1 a_eData1 a_eOwner1 a_eVersion1 a_eNumber1 : Nat → Int32} {a_uEntry1 a_uSlot1 a_uData1 a_uVersion1 a_uSet1 a_uChildVersion1 a_uCreated1 a_uOwner1 : Nat → Int32} {P0 : Nat → Int32} {D0 : Nat → zn_Nd} {C0 : zn_Mp} (hb : b ≤ b') (hB : B ≤ B') (he : ∀ j, j < B → zf_en a_eKind1 a_ePath1 a_eData1 a_eOwner1 a_eVersion1 a_eNumber1 j = zf_en a_eKind a_ePath a_eData a_eOwner a_eVersion a_eNumber j) :
    ∀ {k : Nat} {P : Nat → Int32} {D : Nat → zn_Nd} {C : zn_Mp}, zu_ch b B a_eKind a_ePath a_eData a_eOwner a_eVersion a_eNumber a_uEntry a_uSlot a_uData a_uVersion a_uSet a_uChildVersion a_uCreated a_uOwner P0 D0 C0 k P D C →
      (∀ i, i < k → a_uEntry1 i = a_uEntry i ∧ a_uSlot1 i = a_uSlot i ∧ zn_nd a_uData1 a_uVersion1 a_uChildVersion1 a_uCreated1 a_uSet1 a_uOwner1 i = zn_nd a_uData a_uVersion a_uChildVersion a_uCreated a_uSet a_uOwner i) →
      zu_ch b' B' a_eKind1 a_ePath1 a_eData1 a_eOwner1 a_eVersion1 a_eNumber1 a_uEntry1 a_uSlot1 a_uData1 a_uVersion1 a_uSet1 a_uChildVersion1 a_uCreated1 a_uOwner1 P0 D0 C0 k P D C
  | 0, _, _, _, h, _ => h
  | k + 1, _, _, _, h, hu => by
    obtain ⟨P', D', C', h1, h2⟩ := h
    exact ⟨P', D', C', zu_ch_cg hb hB he h1 (fun i hi => hu i (by omega)), zu_R_cg h2 hb hB he (hu k (by omega))⟩
section
variable {f_nodes f_time f_latest f_entries f_logged f_complete f_taken f_sinceEntry f_sinceCount f_parts f_wrongPart f_watches : Int32} {a_path a_data a_version a_childVersion a_created a_setAt a_owner a_firstChild a_sibling a_bucket a_open a_timeout a_deadline a_eKind a_ePath a_eData a_eOwner a_eVersion a_eNumber a_iPath a_iData a_iVersion a_iChildVersion a_iCreated a_iSet a_iOwner a_iTimeout a_iLatest a_pKind a_pPath a_pA a_pB a_uEntry a_uSlot a_uData a_uVersion a_uSet a_uChildVersion a_uCreated a_uOwner a_wSession a_wKind a_wPath a_queue a_queued : Nat → Int32}
/-- the parent's count goes back -/
theorem zx_undo171 {post : SX → Prop} {C : zn_Mp} {idx up : Nat} {m : Int32} (H : zx_H f_nodes a_path a_data a_version a_childVersion a_created a_setAt a_owner a_bucket C) (hidx : idx < 400) (hk : ¬ a_eKind idx = 2) (hup : up < 48) (hu : a_path up = m / 101) (hu0 : 0 ≤ (a_path up).toInt)
    (h : post (f_nodes, f_time, f_latest, f_entries, f_logged, f_complete, f_taken, f_sinceEntry, f_sinceCount, f_parts, f_wrongPart, f_watches, a_path, a_data, a_version, upd a_childVersion up (a_childVersion up - 1), a_created, a_setAt, a_owner, a_firstChild, a_sibling, a_bucket, a_open, a_timeout, a_deadline, a_eKind, a_ePath, a_eData, a_eOwner, a_eVersion, a_eNumber, a_iPath, a_iData, a_iVersion, a_iChildVersion, a_iCreated, a_iSet, a_iOwner, a_iTimeout, a_iLatest, a_pKind, a_pPath, a_pA, a_pB, a_uEntry, a_uSlot, a_uData, a_uVersion, a_uSet, a_uChildVersion, a_uCreated, a_uOwner, a_wSession, a_wKind, a_wPath, a_queue, a_queued)) : wX_undo_171 post (nI idx) m f_nodes f_time f_latest f_entries f_logged f_complete f_taken f_sinceEntry f_sinceCount f_parts f_wrongPart f_watches a_path a_data a_version a_childVersion a_created a_setAt a_owner a_firstChild a_sibling a_bucket a_open a_timeout a_deadline a_eKind a_ePath a_eData a_eOwner a_eVersion a_eNumber a_iPath a_iData a_iVersion a_iChildVersion a_iCreated a_iSet a_iOwner a_iTimeout a_iLatest a_pKind a_pPath a_pA a_pB a_uEntry a_uSlot a_uData a_uVersion a_uSet a_uChildVersion a_uCreated a_uOwner a_wSession a_wKind a_wPath a_queue a_queued := by
  have hc := nI_clamp (n := idx) (by omega)
  have hcu := nI_clamp (n := up) (by omega)
  have eC := H.2.1.1 up hup hu0
  rw [hu] at eC
  refine zz_in rfl hidx (by decide) (br_f (by rw [hc]; exact hk) (And.intro zb_101n ?_))
  refine zx_find H (fun e => by rw [eC] at e; exact nomatch e) (fun s hs es s0 _ => ?_)
  have : s = up := H.2.1.2.2 s up hs hup s0 (by rw [es, hu])
  subst this
  exact zz_in rfl hs (by decide) (zz_st rfl hs (by decide) (v' := a_childVersion s - 1) (by rw [hcu]) h)
theorem zx_undo93 {post : SX → Prop} {k idx s : Nat} {m : Int32} (hk : k < 6) (hs : s < 48) (ho : vp_nar .byte (a_uOwner k) = a_uOwner k)
    (h : wX_undo_171 post (nI idx) m f_nodes f_time f_latest f_entries f_logged f_complete f_taken f_sinceEntry f_sinceCount f_parts f_wrongPart f_watches a_path (upd a_data s (a_uData k)) (upd a_version s (a_uVersion k)) (upd a_childVersion s (a_uChildVersion k)) (upd a_created s (a_uCreated k)) (upd a_setAt s (a_uSet k)) (upd a_owner s (a_uOwner k)) a_firstChild a_sibling a_bucket a_open a_timeout a_deadline a_eKind a_ePath a_eData a_eOwner a_eVersion a_eNumber a_iPath a_iData a_iVersion a_iChildVersion a_iCreated a_iSet a_iOwner a_iTimeout a_iLatest a_pKind a_pPath a_pA a_pB a_uEntry a_uSlot a_uData a_uVersion a_uSet a_uChildVersion a_uCreated a_uOwner a_wSession a_wKind a_wPath a_queue a_queued) :
    wX_undo_93 post (nI k) (nI idx) m (nI s) f_nodes f_time f_latest f_entries f_logged f_complete f_taken f_sinceEntry f_sinceCount f_parts f_wrongPart f_watches a_path a_data a_version a_childVersion a_created a_setAt a_owner a_firstChild a_sibling a_bucket a_open a_timeout a_deadline a_eKind a_ePath a_eData a_eOwner a_eVersion a_eNumber a_iPath a_iData a_iVersion a_iChildVersion a_iCreated a_iSet a_iOwner a_iTimeout a_iLatest a_pKind a_pPath a_pA a_pB a_uEntry a_uSlot a_uData a_uVersion a_uSet a_uChildVersion a_uCreated a_uOwner a_wSession a_wKind a_wPath a_queue a_queued := by
  have hc := nI_clamp (n := k) (by omega)
  refine zz_in rfl hk (by decide) (zz_st rfl hs (by decide) (v' := a_uData k) (by rw [hc]) ?_)
  refine zz_in rfl hk (by decide) (zz_st rfl hs (by decide) (v' := a_uVersion k) (by rw [hc]) ?_)
  refine zz_in rfl hk (by decide) (zz_st rfl hs (by decide) (v' := a_uChildVersion k) (by rw [hc]) ?_)
  refine zz_in rfl hk (by decide) (zz_st rfl hs (by decide) (v' := a_uCreated k) (by rw [hc]) ?_)
  refine zz_in rfl hk (by decide) (zz_st rfl hs (by decide) (v' := a_uSet k) (by rw [hc]) ?_)
  exact zz_in rfl hk (by decide) (zz_st rfl hs (by decide) (v' := a_uOwner k) (by rw [hc]; exact ho) h)
theorem zx_undo {post : SX → Prop} {b b1 B k : Nat} {P : Nat → Int32} {D : Nat → zn_Nd} {C : zn_Mp} {D1 : Nat → zn_Nd} {C1 : zn_Mp} (H : zx_T f_nodes a_path a_data a_version a_childVersion a_created a_setAt a_owner a_firstChild a_sibling a_bucket C1) (hC1 : zi_C b1 C1) (hd : ∀ i, i < 48 → 0 ≤ (a_path i).toInt → zn_nd a_data a_version a_childVersion a_created a_setAt a_owner i = D1 i)
    (R : zu_R b B k a_eKind a_ePath a_eData a_eOwner a_eVersion a_eNumber a_uEntry a_uSlot a_uData a_uVersion a_uSet a_uChildVersion a_uCreated a_uOwner P D C a_path D1 C1) (hB : B ≤ 400) (hk : k < 6)
    (h : ∀ (f_nodes1 : Int32) (a_path1 a_data1 a_version1 a_childVersion1 a_created1 a_setAt1 a_owner1 a_firstChild1 a_sibling1 a_bucket1 : Nat → Int32), zx_T f_nodes1 a_path1 a_data1 a_version1 a_childVersion1 a_created1 a_setAt1 a_owner1 a_firstChild1 a_sibling1 a_bucket1 C → a_path1 = P → (∀ i, i < 48 → 0 ≤ (P i).toInt → zn_nd a_data1 a_version1 a_childVersion1 a_created1 a_setAt1 a_owner1 i = D i) → post (f_nodes1, f_time, f_latest, f_entries, f_logged, f_complete, f_taken, f_sinceEntry, f_sinceCount, f_parts, f_wrongPart, f_watches, a_path1, a_data1, a_version1, a_childVersion1, a_created1, a_setAt1, a_owner1, a_firstChild1, a_sibling1, a_bucket1, a_open, a_timeout, a_deadline, a_eKind, a_ePath, a_eData, a_eOwner, a_eVersion, a_eNumber, a_iPath, a_iData, a_iVersion, a_iChildVersion, a_iCreated, a_iSet, a_iOwner, a_iTimeout, a_iLatest, a_pKind, a_pPath, a_pA, a_pB, a_uEntry, a_uSlot, a_uData, a_uVersion, a_uSet, a_uChildVersion, a_uCreated, a_uOwner, a_wSession, a_wKind, a_wPath, a_queue, a_queued)) : wpX_undo post (f_nodes, f_time, f_latest, f_entries, f_logged, f_complete, f_taken, f_sinceEntry, f_sinceCount, f_parts, f_wrongPart, f_watches, a_path, a_data, a_version, a_childVersion, a_created, a_setAt, a_owner, a_firstChild, a_sibling, a_bucket, a_open, a_timeout, a_deadline, a_eKind, a_ePath, a_eData, a_eOwner, a_eVersion, a_eNumber, a_iPath, a_iData, a_iVersion, a_iChildVersion, a_iCreated, a_iSet, a_iOwner, a_iTimeout, a_iLatest, a_pKind, a_pPath, a_pA, a_pB, a_uEntry, a_uSlot, a_uData, a_uVersion, a_uSet, a_uChildVersion, a_uCreated, a_uOwner, a_wSession, a_wKind, a_wPath, a_queue, a_queued) (nI k) := by
  obtain ⟨⟨b1, b2, b3, b4, b5⟩, R⟩ := R
  have hck := nI_clamp (n := k) (by omega)
  have inj : zk_inj a_path := H.1.2.1.2.2
  refine zz_in rfl hk (by decide) (nm_r (e' := a_uEntry k) (by rw [hck]) ?_)
  rcases R with ⟨e0, rfl, hD, rfl⟩ | ⟨idx, hidx, eU, hkd, hok, hne, St, hC, hU⟩
  · refine br_f (by rw [e0]; decide) (h _ _ _ _ _ _ _ _ _ _ _ H rfl (fun i hi i0 => by rw [hd i hi i0, hD i hi i0]))
  have hci := nI_clamp (n := idx) (by omega)
  refine br_t (by rw [eU]; exact nI_pos' (by omega)) ?_
  rw [eU]
  refine zz_in rfl (by omega) (by decide) (nm_r (e' := a_ePath idx) (by rw [hci]) (zz_in rfl (by omega) (by decide) ?_))
  rw [hci]
  rcases St with ⟨k1, s, up, hs, hup, hus, e1, e2, e3, e4, e5, e6⟩ | ⟨k2, s, hs, e1, e3, e6⟩ | ⟨k3, s, up, hs, hup, hus, e1, e2, e3, e4, e5, e6⟩
  · -- made: it goes
    have k1 : a_eKind idx = 1 := k1
    have e2 : a_path s = a_ePath idx := e2
    have e4 : P up = a_ePath idx / 101 := e4
    have m0 : ¬ a_ePath idx = 0 := hne (by rw [k1]; decide)
    have mpos := (zp_lt hok m0).1
    have hup' : a_path up = a_ePath idx / 101 := by rw [e3 up hus]; exact e4
    have hup0 : 0 ≤ (a_path up).toInt := by rw [hup', zb_div hok.1]; have := hok.1; omega
    have s0 : 0 < (a_path s).toInt := by rw [e2]; exact mpos
    have hPs : upd a_path s (-1) = P := by
      funext i
      by_cases z : i = s
      · rw [z, pk_us, e1]
      · rw [pk_un z, e3 i z]
    have eC1 := H.1.2.1.1 s (by omega) (by omega)
    refine br_t k1 (zx_find H.1 (fun e => by rw [e2] at eC1; rw [eC1] at e; exact nomatch e) (fun s' hs' es' s0' _ => ?_))
    have : s' = s := inj s' s hs' (by omega) s0' (by rw [es', e2])
    subst this
    refine zz_in rfl (by omega) (by decide) (br_t (by rw [hci]; exact k1) ?_)
    refine zx_unlink (D := fun j => 0 < (a_path j).toInt) (D' := fun j => j ≠ s' ∧ 0 < (a_path j).toInt) (up := up) H.1 H.2.1 (fun j hj dj => dj) hs' s0 (by omega) (by rw [hup', e2]) (fun j hj => Iff.rfl) (fun fc1 sb1 L1 => ?_)
    refine zx_release H.1 hs' (by omega) (fun bk H1 => ?_)
    refine zx_undo171 H1 (by omega) (by rw [k1]; decide) (show up < 48 by omega) (by rw [pk_un hus]; exact hup') (by rw [pk_un hus]; exact hup0) ?_
    refine h _ _ _ _ _ _ _ _ _ _ _ ⟨⟨H1.1, ?_, H1.2.2.1, H1.2.2.2⟩, ?_, by rw [hPs]; exact b4, by rw [hPs]; exact b5⟩ hPs ?_
    · refine zr_congr b1 (fun i hi => by rw [hPs]) (fun i hi i0 => ?_) (fun _ => rfl)
      have z : i ≠ s' := fun z => by rw [z, e1, zb_tm1] at i0; omega
      have i0' : 0 ≤ (a_path i).toInt := by rw [e3 i z]; exact i0
      have hdi := hd i hi i0'
      by_cases z2 : i = up
      · subst z2
        rw [e5] at hdi
        have q1 := congrArg (fun x => x.1) hdi
        have q2 := congrArg (fun x => x.2.1) hdi
        have q3 := congrArg (fun x => x.2.2.1) hdi
        have q4 := congrArg (fun x => x.2.2.2) hdi
        simp only [zn_nd] at q1 q2 q3 q4
        simp only [zn_nd, pk_us]
        rw [q1, q2, q3, q4, Int32.add_sub_cancel]
      · rw [e6 i z z2] at hdi
        rw [← hdi]
        simp only [zn_nd, pk_un z2]
    · refine zk_L_cg L1 (fun j hj => ?_) (fun j hj dj => pk_un dj.1) (fun q hq hq0 => ?_) (fun _ _ _ => rfl) (fun _ _ _ => rfl)
      · by_cases z : j = s'
        · rw [z, pk_us, zb_tm1]; exact ⟨fun w => by omega, fun w => absurd rfl w.1⟩
        · rw [pk_un z]; exact ⟨fun w => ⟨z, w⟩, fun w => w.2⟩
      · have z : q ≠ s' := fun z => by rw [z, pk_us, zb_tm1] at hq0; omega
        exact pk_un z
    · intro i hi i0
      have z : i ≠ s' := fun z => by rw [z, e1, zb_tm1] at i0; omega
      have i0' : 0 ≤ (a_path i).toInt := by rw [e3 i z]; exact i0
      have hdi := hd i hi i0'
      by_cases z2 : i = up
      · subst z2
        rw [e5] at hdi
        have q1 := congrArg (fun x => x.1) hdi
        have q2 := congrArg (fun x => x.2.1) hdi
        have q3 := congrArg (fun x => x.2.2.1) hdi
        have q4 := congrArg (fun x => x.2.2.2) hdi
        simp only [zn_nd] at q1 q2 q3 q4
        simp only [zn_nd, pk_us]
        rw [q1, q2, q3, q4, Int32.add_sub_cancel]
      · rw [e6 i z z2] at hdi
        rw [← hdi]
        simp only [zn_nd, pk_un z2]
  · -- set: what it was
    have k2 : a_eKind idx = 2 := k2
    have hP : a_path = P := funext e3
    subst hP
    obtain ⟨s', hs', eS, es', hDs⟩ := hU (by rw [k2]; decide)
    have e1 : a_path s = a_ePath idx := e1
    have s0 : 0 ≤ (a_path s').toInt := by rw [es']; exact hok.1
    have : s' = s := inj s' s (by omega) (by omega) s0 (by rw [es', e1])
    subst this
    have ow := b2.2 _ _ (b1.1 s' (by omega) s0)
    have q6 : (D s').2.2.2.2.2 = a_uOwner k := by rw [hDs]; rfl
    obtain ⟨_, _, _, _, _, o1, o2, _⟩ := ow
    rw [q6] at o1 o2
    refine br_f (by rw [k2]; decide) (zz_in rfl hk (by decide) ?_)
    rw [hck, eS]
    refine zz_in rfl (by omega) (by decide) (br_f (by rw [hci, k2]; decide) (zz_in rfl (by omega) (by decide) (br_f (by rw [hci, k2]; decide) ?_)))
    refine zx_undo93 hk (by omega) (zb_nar (by omega) (by omega)) (zz_in rfl (by omega) (by decide) (br_t (by rw [hci]; exact k2) ?_))
    have key : ∀ i, i < 48 → 0 ≤ (a_path i).toInt → zn_nd (upd a_data s' (a_uData k)) (upd a_version s' (a_uVersion k)) (upd a_childVersion s' (a_uChildVersion k)) (upd a_created s' (a_uCreated k)) (upd a_setAt s' (a_uSet k)) (upd a_owner s' (a_uOwner k)) i = D i := fun i hi i0 => by
      by_cases z : i = s'
      · subst z
        rw [hDs]
        simp only [zn_nd, pk_us]
      · have hdi := hd i hi i0
        rw [e6 i z] at hdi
        rw [← hdi]
        simp only [zn_nd, pk_un z]
    refine h _ _ _ _ _ _ _ _ _ _ _ ⟨⟨H.1.1, zr_congr b1 (fun _ _ => rfl) key (fun _ => rfl), H.1.2.2⟩, H.2⟩ rfl key
  · -- gone: it comes again
    have k3 : a_eKind idx = 3 := k3
    have e1 : P s = a_ePath idx := e1
    have e4 : P up = a_ePath idx / 101 := e4
    have m0 : ¬ a_ePath idx = 0 := hne (by rw [k3]; decide)
    have mpos := (zp_lt hok m0).1
    have hup' : a_path up = a_ePath idx / 101 := by rw [e3 up hus]; exact e4
    have hup0 : 0 ≤ (a_path up).toInt := by rw [hup', zb_div hok.1]; have := hok.1; omega
    obtain ⟨s', hs', eS, es', hDs⟩ := hU (by rw [k3]; decide)
    have s0 : 0 ≤ (P s').toInt := by rw [es']; exact hok.1
    have : s' = s := b1.2.2 s' s (by omega) (by omega) s0 (by rw [es', e1])
    subst this
    have ow := b2.2 _ _ (b1.1 s' (by omega) s0)
    have q6 : (D s').2.2.2.2.2 = a_uOwner k := by rw [hDs]; rfl
    obtain ⟨_, _, _, _, _, o1, o2, _⟩ := ow
    rw [q6] at o1 o2
    have hPs : upd a_path s' (a_ePath idx) = P := by
      funext i
      by_cases z : i = s'
      · rw [z, pk_us, e1]
      · rw [pk_un z, e3 i z]
    have hfree : (a_path s').toInt < 0 := by rw [e2, zb_tm1]; omega
    have eC1 : C1 (a_ePath idx) = none := by
      rw [hC]
      unfold zf_ap
      have : zf_en a_eKind a_ePath a_eData a_eOwner a_eVersion a_eNumber idx = (3, a_ePath idx, a_eData idx, a_eOwner idx, a_eVersion idx, a_eNumber idx) := by unfold zf_en; rw [k3]
      rw [this, zf_f3s]
    refine br_f (by rw [k3]; decide) (zz_in rfl hk (by decide) ?_)
    rw [hck, eS]
    refine zz_in rfl (by omega) (by decide) (br_f (by rw [hci, k3]; decide) (zz_in rfl (by omega) (by decide) (br_t (by rw [hci]; exact k3) ?_)))
    refine zx_place H.1 (show s' < 48 by omega) hfree hok.1 eC1 (fun bk H1 => ?_)
    have L1 : zk_L (upd a_path s' (a_ePath idx)) (upd a_firstChild s' (-1)) (upd a_sibling s' (-1)) (fun j => 0 < (a_path j).toInt) := by
      refine zk_L_new H.2.1 (by omega) (by omega) (fun j _ hj => pk_un hj) (fun j _ hj => pk_un hj) (fun j _ hj => pk_un hj) pk_us (fun j hj dj ej => ?_)
      rw [pk_us] at ej
      have e1 := H.1.2.1.1 j hj (by omega)
      obtain ⟨w, hw, _⟩ := (hC1.2 _ _ e1).2.2.2.2.2.2.2 (fun z => by rw [z, zb_t0] at dj; omega)
      rw [ej, eC1] at hw
      exact nomatch hw
    refine zx_link (D := fun j => 0 < (a_path j).toInt) (D' := fun j => 0 < (upd a_path s' (a_ePath idx) j).toInt) (up := up) H1 L1 (fun j hj dj => ?_) (show s' < 48 by omega) (by omega) (by rw [pk_us]; exact mpos) (show up < 48 by omega) (by rw [pk_un hus, pk_us]; exact hup') (fun j hj => ?_) (fun fc1 sb1 L2 => ?_)
    · have : j ≠ s' := fun z => by rw [z] at dj; omega
      rw [pk_un this]; exact dj
    · by_cases z : j = s'
      · rw [z, pk_us]; exact ⟨fun _ => Or.inl rfl, fun _ => mpos⟩
      · rw [pk_un z]; exact ⟨fun w => Or.inr w, fun w => w.resolve_left z⟩
    refine zx_undo93 hk (by omega) (zb_nar (by omega) (by omega)) ?_
    have key : ∀ i, i < 48 → 0 ≤ (P i).toInt → zn_nd (upd (upd a_data s' 0) s' (a_uData k)) (upd (upd a_version s' 0) s' (a_uVersion k)) (upd (upd (upd a_childVersion s' 0) s' (a_uChildVersion k)) up (upd (upd a_childVersion s' 0) s' (a_uChildVersion k) up - 1)) (upd a_created s' (a_uCreated k)) (upd a_setAt s' (a_uSet k)) (upd a_owner s' (a_uOwner k)) i = D i := fun i hi i0 => by
      by_cases z : i = s'
      · subst z
        rw [hDs]
        simp only [zn_nd, pk_us, pk_un hus.symm]
      · have i0' : 0 ≤ (a_path i).toInt := by rw [e3 i z]; exact i0
        have hdi := hd i hi i0'
        by_cases z2 : i = up
        · subst z2
          rw [e5] at hdi
          have q1 := congrArg (fun x => x.1) hdi
          have q2 := congrArg (fun x => x.2.1) hdi
          have q3 := congrArg (fun x => x.2.2.1) hdi
          have q4 := congrArg (fun x => x.2.2.2) hdi
          simp only [zn_nd] at q1 q2 q3 q4
          simp only [zn_nd, pk_us, pk_un z]
          rw [q1, q2, q3, q4, Int32.add_sub_cancel]
        · rw [e6 i z2] at hdi
          rw [← hdi]
          simp only [zn_nd, pk_un z, pk_un z2]
    have R2 := zr_upd (nd' := zn_nd (upd (upd a_data s' 0) s' (a_uData k)) (upd (upd a_version s' 0) s' (a_uVersion k)) (upd (upd a_childVersion s' 0) s' (a_uChildVersion k)) (upd a_created s' (a_uCreated k)) (upd a_setAt s' (a_uSet k)) (upd a_owner s' (a_uOwner k))) H1.2.1 (show s' < 48 by omega) (by rw [pk_us]; exact hok.1) (fun j _ hn _ => by simp only [zn_nd, pk_un hn])
    refine zx_undo171 ⟨H1.1, R2, H1.2.2.1, H1.2.2.2⟩ (by omega) (by rw [k3]; decide) (show up < 48 by omega) (by rw [pk_un hus]; exact hup') (by rw [pk_un hus]; exact hup0) ?_
    exact h _ _ _ _ _ _ _ _ _ _ _ ⟨⟨H1.1, zr_congr b1 (fun i hi => by rw [hPs]) key (fun _ => rfl), H1.2.2.1, H1.2.2.2⟩, L2, by rw [hPs]; exact b4, by rw [hPs]; exact b5⟩ hPs key
/-- all parts back, the last first -/
theorem zx_undo_lp {post : Int32 → SX → Prop} {b B fr : Nat} {r : Int32} {P0 : Nat → Int32} {D0 : Nat → zn_Nd} {C0 : zn_Mp} (hB : B ≤ 400)
    (h : ∀ (f_nodes1 : Int32) (a_path1 a_data1 a_version1 a_childVersion1 a_created1 a_setAt1 a_owner1 a_firstChild1 a_sibling1 a_bucket1 : Nat → Int32), zx_T f_nodes1 a_path1 a_data1 a_version1 a_childVersion1 a_created1 a_setAt1 a_owner1 a_firstChild1 a_sibling1 a_bucket1 C0 → a_path1 = P0 → (∀ i, i < 48 → 0 ≤ (P0 i).toInt → zn_nd a_data1 a_version1 a_childVersion1 a_created1 a_setAt1 a_owner1 i = D0 i) → post r (f_nodes1, f_time, f_latest, nI fr, f_logged, f_complete, f_taken, f_sinceEntry, f_sinceCount, f_parts, f_wrongPart, f_watches, a_path1, a_data1, a_version1, a_childVersion1, a_created1, a_setAt1, a_owner1, a_firstChild1, a_sibling1, a_bucket1, a_open, a_timeout, a_deadline, a_eKind, a_ePath, a_eData, a_eOwner, a_eVersion, a_eNumber, a_iPath, a_iData, a_iVersion, a_iChildVersion, a_iCreated, a_iSet, a_iOwner, a_iTimeout, a_iLatest, a_pKind, a_pPath, a_pA, a_pB, a_uEntry, a_uSlot, a_uData, a_uVersion, a_uSet, a_uChildVersion, a_uCreated, a_uOwner, a_wSession, a_wKind, a_wPath, a_queue, a_queued)) :
    ∀ (k : Nat) (D1 : Nat → zn_Nd) (C1 : zn_Mp) (f_nodes : Int32) (a_path a_data a_version a_childVersion a_created a_setAt a_owner a_firstChild a_sibling a_bucket : Nat → Int32), k ≤ 6 → zx_T f_nodes a_path a_data a_version a_childVersion a_created a_setAt a_owner a_firstChild a_sibling a_bucket C1 → zi_C b C1 → (∀ i, i < 48 → 0 ≤ (a_path i).toInt → zn_nd a_data a_version a_childVersion a_created a_setAt a_owner i = D1 i) → zu_ch b B a_eKind a_ePath a_eData a_eOwner a_eVersion a_eNumber a_uEntry a_uSlot a_uData a_uVersion a_uSet a_uChildVersion a_uCreated a_uOwner P0 D0 C0 k a_path D1 C1 →
      wX_multi_112 post (nI fr) r (k + 1) (nI k - 1) f_nodes f_time f_latest f_entries f_logged f_complete f_taken f_sinceEntry f_sinceCount f_parts f_wrongPart f_watches a_path a_data a_version a_childVersion a_created a_setAt a_owner a_firstChild a_sibling a_bucket a_open a_timeout a_deadline a_eKind a_ePath a_eData a_eOwner a_eVersion a_eNumber a_iPath a_iData a_iVersion a_iChildVersion a_iCreated a_iSet a_iOwner a_iTimeout a_iLatest a_pKind a_pPath a_pA a_pB a_uEntry a_uSlot a_uData a_uVersion a_uSet a_uChildVersion a_uCreated a_uOwner a_wSession a_wKind a_wPath a_queue a_queued := by
  intro k
  induction k with
  | zero =>
    intro D1 C1 f_nodes a_path a_data a_version a_childVersion a_created a_setAt a_owner a_firstChild a_sibling a_bucket hk H hC hd ch
    obtain ⟨c1, c2, c3⟩ := ch
    subst c3
    refine br_t (by decide) (h _ _ _ _ _ _ _ _ _ _ _ H c1 (fun i hi i0 => ?_))
    have i0' : 0 ≤ (a_path i).toInt := by rw [c1]; exact i0
    rw [hd i hi i0', c2 i hi i0']
  | succ k ih =>
    intro D1 C1 f_nodes a_path a_data a_version a_childVersion a_created a_setAt a_owner a_firstChild a_sibling a_bucket hk H hC hd ch
    obtain ⟨P', D', C', ch, R⟩ := ch
    rw [nI_pred]
    refine br_f (nI_pos (by omega)) (zx_undo H hC hd R hB (by omega) (fun f_nodes1 a_path1 a_data1 a_version1 a_childVersion1 a_created1 a_setAt1 a_owner1 a_firstChild1 a_sibling1 a_bucket1 H1 hp1 hd1 => ?_))
    subst hp1
    have e : nI k + (-1) = nI k - 1 := by
      apply zb_inj
      rw [zb_add (by rw [nI_toInt (by omega), zb_tm1]; omega) (by rw [nI_toInt (by omega), zb_tm1]; omega), zb_sub (by rw [nI_toInt (by omega), zb_1]; omega) (by rw [nI_toInt (by omega), zb_1]; omega), zb_tm1, zb_1]
      omega
    exact nm_r e (ih D' C' _ _ _ _ _ _ _ _ _ _ _ (by omega) H1 R.1.2.1 hd1 ch)
end
end
section
/-! several requests at once: the component -/
/-- one request, by the map alone -/
def zq_R (C : zn_Mp) (t s kind p a b r : Int32) (o : Option zf_E) : Prop := ∃ (path : Nat → Int32) (nd : Nat → zn_Nd), zr_Rep 48 path nd C ∧ zq_rq C (zr_n path 48) (zk_cn path p 0) t s kind p a b = (r, o)
/-- the parts from k on, d of them: what is written down, the map behind them, what is wrong -/
def zm_pr (pk pp pa pb : Nat → Int32) (t s : Int32) : Nat → Nat → zn_Mp → List zf_E → zn_Mp → Option (Int32 × Nat) → Prop
  | 0, _, C, L, C', f => L = [] ∧ C' = C ∧ f = none
  | d + 1, k, C, L, C', f => ∃ r o, zq_R C t s (pk k) (pp k) (pa k) (pb k) r o ∧
      ((r < 0 ∧ o = none ∧ f = some (r, k)) ∨ (¬ r < 0 ∧ ((o = none ∧ zm_pr pk pp pa pb t s d (k + 1) C L C' f) ∨ ∃ e L', o = some e ∧ L = e :: L' ∧ zm_pr pk pp pa pb t s d (k + 1) (zf_ap e C) L' C' f)))
section
variable {f_nodes f_time f_latest f_entries f_logged f_complete f_taken f_sinceEntry f_sinceCount f_parts f_wrongPart f_watches : Int32} {a_path a_data a_version a_childVersion a_created a_setAt a_owner a_firstChild a_sibling a_bucket a_open a_timeout a_deadline a_eKind a_ePath a_eData a_eOwner a_eVersion a_eNumber a_iPath a_iData a_iVersion a_iChildVersion a_iCreated a_iSet a_iOwner a_iTimeout a_iLatest a_pKind a_pPath a_pA a_pB a_uEntry a_uSlot a_uData a_uVersion a_uSet a_uChildVersion a_uCreated a_uOwner a_wSession a_wKind a_wPath a_queue a_queued : Nat → Int32}
theorem zx_remember {post : SX → Prop} {C : zn_Mp} {b k : Nat} (H : zx_T f_nodes a_path a_data a_version a_childVersion a_created a_setAt a_owner a_firstChild a_sibling a_bucket C) (hC : zi_C b C) (hk : k < 6)
    (h : ∀ (a_uSlot1 a_uData1 a_uVersion1 a_uSet1 a_uChildVersion1 a_uCreated1 a_uOwner1 : Nat → Int32), (∀ i, i ≠ k → a_uSlot1 i = a_uSlot i ∧ zn_nd a_uData1 a_uVersion1 a_uChildVersion1 a_uCreated1 a_uSet1 a_uOwner1 i = zn_nd a_uData a_uVersion a_uChildVersion a_uCreated a_uSet a_uOwner i) →
      (∀ x, C (a_pPath k) = some x → ∃ s, s < 21 ∧ a_uSlot1 k = nI s ∧ a_path s = a_pPath k ∧ zn_nd a_data a_version a_childVersion a_created a_setAt a_owner s = zn_nd a_uData1 a_uVersion1 a_uChildVersion1 a_uCreated1 a_uSet1 a_uOwner1 k) → post (f_nodes, f_time, f_latest, f_entries, f_logged, f_complete, f_taken, f_sinceEntry, f_sinceCount, f_parts, f_wrongPart, f_watches, a_path, a_data, a_version, a_childVersion, a_created, a_setAt, a_owner, a_firstChild, a_sibling, a_bucket, a_open, a_timeout, a_deadline, a_eKind, a_ePath, a_eData, a_eOwner, a_eVersion, a_eNumber, a_iPath, a_iData, a_iVersion, a_iChildVersion, a_iCreated, a_iSet, a_iOwner, a_iTimeout, a_iLatest, a_pKind, a_pPath, a_pA, a_pB, a_uEntry, a_uSlot1, a_uData1, a_uVersion1, a_uSet1, a_uChildVersion1, a_uCreated1, a_uOwner1, a_wSession, a_wKind, a_wPath, a_queue, a_queued)) : wpX_remember post (f_nodes, f_time, f_latest, f_entries, f_logged, f_complete, f_taken, f_sinceEntry, f_sinceCount, f_parts, f_wrongPart, f_watches, a_path, a_data, a_version, a_childVersion, a_created, a_setAt, a_owner, a_firstChild, a_sibling, a_bucket, a_open, a_timeout, a_deadline, a_eKind, a_ePath, a_eData, a_eOwner, a_eVersion, a_eNumber, a_iPath, a_iData, a_iVersion, a_iChildVersion, a_iCreated, a_iSet, a_iOwner, a_iTimeout, a_iLatest, a_pKind, a_pPath, a_pA, a_pB, a_uEntry, a_uSlot, a_uData, a_uVersion, a_uSet, a_uChildVersion, a_uCreated, a_uOwner, a_wSession, a_wKind, a_wPath, a_queue, a_queued) (nI k) := by
  have hc := nI_clamp (n := k) (by omega)
  refine zz_in rfl hk (by decide) ?_
  rw [hc]
  refine zx_isPath (fun hp => br_f (by decide) (zz_in rfl hk (by decide) ?_)) (fun hp => br_t rfl (br_f (by decide) (h _ _ _ _ _ _ _ (fun _ _ => ⟨rfl, rfl⟩) (fun x e => absurd (hC.2 _ _ e).1 hp))))
  refine zx_find H.1 (fun e => br_f (by decide) (h _ _ _ _ _ _ _ (fun _ _ => ⟨rfl, rfl⟩) (fun x e2 => by rw [e] at e2; exact nomatch e2))) (fun s hs es s0 e => ?_)
  have hcs := nI_clamp (n := s) (by omega)
  obtain ⟨_, _, _, _, _, o1, o2, _⟩ := hC.2 _ _ e
  have o1' : -1 ≤ (a_owner s).toInt := o1
  have o2' : (a_owner s).toInt ≤ 3 := o2
  refine br_t (nI_pos' (by omega)) (zz_st rfl hk (by decide) (zb_narN2 (by omega)) ?_)
  refine zz_in rfl hs (by decide) (zz_st rfl hk (by decide) (v' := a_data s) (by rw [hcs]) ?_)
  refine zz_in rfl hs (by decide) (zz_st rfl hk (by decide) (v' := a_version s) (by rw [hcs]) ?_)
  refine zz_in rfl hs (by decide) (zz_st rfl hk (by decide) (v' := a_childVersion s) (by rw [hcs]) ?_)
  refine zz_in rfl hs (by decide) (zz_st rfl hk (by decide) (v' := a_created s) (by rw [hcs]) ?_)
  refine zz_in rfl hs (by decide) (zz_st rfl hk (by decide) (v' := a_setAt s) (by rw [hcs]) ?_)
  refine zz_in rfl hs (by decide) (zz_st rfl hk (by decide) (v' := a_owner s) (by rw [hcs]; exact zb_nar (by omega) (by omega)) ?_)
  refine h _ _ _ _ _ _ _ (fun i hi => ⟨pk_un hi, by simp only [zn_nd, pk_un hi]⟩) (fun x _ => ⟨s, zx_slot H hs s0, pk_us, es, by simp only [zn_nd, pk_us]⟩)
theorem zx_one {post : Int32 → SX → Prop} {C : zn_Mp} {b N k ss : Nat} (H : zx_T f_nodes a_path a_data a_version a_childVersion a_created a_setAt a_owner a_firstChild a_sibling a_bucket C) (hC : zi_C b C) (hN : N < 400) (he : f_entries = nI N) (hk : k < 6) (hss : ss < 4)
    (hkd : a_pKind k = 0 ∨ a_pKind k = 1 ∨ a_pKind k = 2 ∨ a_pKind k = 3) (hf : a_pKind k = 0 → ∃ f, f < 4 ∧ a_pB k = nI f)
    (hn : ∀ r, zq_rq C (zr_n a_path 48) (zk_cn a_path (a_pPath k) 0) (f_latest + 1) (nI ss) (a_pKind k) (a_pPath k) (a_pA k) (a_pB k) = (r, none) → post r (f_nodes, f_time, f_latest, f_entries, f_logged, f_complete, f_taken, f_sinceEntry, f_sinceCount, f_parts, f_wrongPart, f_watches, a_path, a_data, a_version, a_childVersion, a_created, a_setAt, a_owner, a_firstChild, a_sibling, a_bucket, a_open, a_timeout, a_deadline, a_eKind, a_ePath, a_eData, a_eOwner, a_eVersion, a_eNumber, a_iPath, a_iData, a_iVersion, a_iChildVersion, a_iCreated, a_iSet, a_iOwner, a_iTimeout, a_iLatest, a_pKind, a_pPath, a_pA, a_pB, a_uEntry, a_uSlot, a_uData, a_uVersion, a_uSet, a_uChildVersion, a_uCreated, a_uOwner, a_wSession, a_wKind, a_wPath, a_queue, a_queued))
    (h : ∀ r e, zq_rq C (zr_n a_path 48) (zk_cn a_path (a_pPath k) 0) (f_latest + 1) (nI ss) (a_pKind k) (a_pPath k) (a_pA k) (a_pB k) = (r, some e) → ∀ (f_nodes1 : Int32) (a_path1 a_data1 a_version1 a_childVersion1 a_created1 a_setAt1 a_owner1 a_firstChild1 a_sibling1 a_bucket1 : Nat → Int32) (a_eKind1 a_ePath1 a_eData1 a_eOwner1 a_eVersion1 a_eNumber1 : Nat → Int32), zx_Step e N C f_nodes a_path a_data a_version a_childVersion a_created a_setAt a_owner a_firstChild a_sibling a_bucket a_eKind a_ePath a_eData a_eOwner a_eVersion a_eNumber f_nodes1 a_path1 a_data1 a_version1 a_childVersion1 a_created1 a_setAt1 a_owner1 a_firstChild1 a_sibling1 a_bucket1 a_eKind1 a_ePath1 a_eData1 a_eOwner1 a_eVersion1 a_eNumber1 → post r (f_nodes1, f_time, f_latest, nI (N + 1), f_logged, f_complete, f_taken, f_sinceEntry, f_sinceCount, f_parts, f_wrongPart, f_watches, a_path1, a_data1, a_version1, a_childVersion1, a_created1, a_setAt1, a_owner1, a_firstChild1, a_sibling1, a_bucket1, a_open, a_timeout, a_deadline, a_eKind1, a_ePath1, a_eData1, a_eOwner1, a_eVersion1, a_eNumber1, a_iPath, a_iData, a_iVersion, a_iChildVersion, a_iCreated, a_iSet, a_iOwner, a_iTimeout, a_iLatest, a_pKind, a_pPath, a_pA, a_pB, a_uEntry, a_uSlot, a_uData, a_uVersion, a_uSet, a_uChildVersion, a_uCreated, a_uOwner, a_wSession, a_wKind, a_wPath, a_queue, a_queued)) :
    wpX_one post (f_nodes, f_time, f_latest, f_entries, f_logged, f_complete, f_taken, f_sinceEntry, f_sinceCount, f_parts, f_wrongPart, f_watches, a_path, a_data, a_version, a_childVersion, a_created, a_setAt, a_owner, a_firstChild, a_sibling, a_bucket, a_open, a_timeout, a_deadline, a_eKind, a_ePath, a_eData, a_eOwner, a_eVersion, a_eNumber, a_iPath, a_iData, a_iVersion, a_iChildVersion, a_iCreated, a_iSet, a_iOwner, a_iTimeout, a_iLatest, a_pKind, a_pPath, a_pA, a_pB, a_uEntry, a_uSlot, a_uData, a_uVersion, a_uSet, a_uChildVersion, a_uCreated, a_uOwner, a_wSession, a_wKind, a_wPath, a_queue, a_queued) (nI ss) (nI k) := by
  have hc := nI_clamp (n := k) (by omega)
  refine zz_in rfl hk (by decide) (nm_r (e' := a_pPath k) (by rw [hc]) (zz_in rfl hk (by decide) (nm_r (e' := a_pKind k) (by rw [hc]) ?_)))
  rw [hc]
  rcases hkd with z | z | z | z
  · obtain ⟨f, hf4, ef⟩ := hf z
    rw [z] at hn h ⊢
    rw [ef] at hn h ⊢
    refine br_f (by decide) (br_f (by decide) (br_t rfl (zz_in rfl hk (by decide) (zz_in rfl hk (by decide) ?_))))
    exact zx_create H hC hN he hf4 hss hn h
  · rw [z] at hn h ⊢
    refine br_f (by decide) (br_f (by decide) (br_f (by decide) (br_t rfl (zz_in rfl hk (by decide) (zz_in rfl hk (by decide) ?_)))))
    exact zx_set H hN he (fun r hr _ => hn r hr) h
  · rw [z] at hn h ⊢
    refine br_f (by decide) (br_f (by decide) (br_f (by decide) (br_f (by decide) (br_t rfl (zz_in rfl hk (by decide) ?_)))))
    exact zx_remove H hC hN he (fun r hr _ => hn r hr) h
  · rw [z] at hn h ⊢
    refine br_f (by decide) (br_t (by decide) (zz_in rfl hk (by decide) ?_))
    have d1 : ¬ (a_pPath k = 0 ∧ (3 : Int32) = 2) := fun w => absurd w.2 (by decide)
    exact zx_fits H.1 (fun hp => hn _ (zq_2 (Or.inl hp))) (fun hp e => hn _ (zq_v3 (by decide) d1 hp e)) (fun u hp e hv => hn _ (zq_v7 (by decide) d1 hp e hv)) (fun u hp e hv => hn _ (zq_v hp e hv))
/-- a transaction that changed nothing -/
theorem zx_commit0 {post : SX → Prop} {N : Nat} {S : zw_S} (hN : N < 400) (he : f_entries = nI N) (R : zw_X f_watches a_wSession a_wKind a_wPath a_queue a_queued S)
    (h : ∀ (f_watches1 : Int32) (a_wSession1 a_wKind1 a_wPath1 a_queue1 a_queued1 : Nat → Int32), zw_X f_watches1 a_wSession1 a_wKind1 a_wPath1 a_queue1 a_queued1 S → post (f_nodes, f_time, f_latest + 1, nI (N + 1), f_logged + 1, f_complete, f_taken, f_sinceEntry, f_sinceCount, f_parts, f_wrongPart, f_watches1, a_path, a_data, a_version, a_childVersion, a_created, a_setAt, a_owner, a_firstChild, a_sibling, a_bucket, a_open, a_timeout, a_deadline, upd a_eKind N 0, upd a_ePath N 0, upd a_eData N 0, upd a_eOwner N 0, upd a_eVersion N 0, upd a_eNumber N (f_latest + 1), a_iPath, a_iData, a_iVersion, a_iChildVersion, a_iCreated, a_iSet, a_iOwner, a_iTimeout, a_iLatest, a_pKind, a_pPath, a_pA, a_pB, a_uEntry, a_uSlot, a_uData, a_uVersion, a_uSet, a_uChildVersion, a_uCreated, a_uOwner, a_wSession1, a_wKind1, a_wPath1, a_queue1, a_queued1)) : wpX_commit post (f_nodes, f_time, f_latest, f_entries, f_logged, f_complete, f_taken, f_sinceEntry, f_sinceCount, f_parts, f_wrongPart, f_watches, a_path, a_data, a_version, a_childVersion, a_created, a_setAt, a_owner, a_firstChild, a_sibling, a_bucket, a_open, a_timeout, a_deadline, a_eKind, a_ePath, a_eData, a_eOwner, a_eVersion, a_eNumber, a_iPath, a_iData, a_iVersion, a_iChildVersion, a_iCreated, a_iSet, a_iOwner, a_iTimeout, a_iLatest, a_pKind, a_pPath, a_pA, a_pB, a_uEntry, a_uSlot, a_uData, a_uVersion, a_uSet, a_uChildVersion, a_uCreated, a_uOwner, a_wSession, a_wKind, a_wPath, a_queue, a_queued) (nI N) := by
  subst he
  refine br_t rfl (zx_entry hN rfl (by decide) (by decide) (by decide) (by decide) ?_)
  refine nm_e (nm_e (Exists.intro 2 (zx_commit_lp (N := N + 1) (by omega) 1 N S _ _ _ _ _ _ (by omega) R (fun f_watches1 a_wSession1 a_wKind1 a_wPath1 a_queue1 a_queued1 R1 => h _ _ _ _ _ _ ?_))))
  rw [show (1 : Nat) = 0 + 1 from rfl, zw_at5 (n := 0) (Or.inr (Or.inr (show upd a_eKind N 0 N = 0 from pk_us)))] at R1
  exact R1
end
theorem zb_sM : vp_nar .short ((-1 : Int32).toInt16.toInt32) = -1 := by rw [vp_nar_short]; decide
theorem zb_sN {n : Nat} (h : n < 32768) : vp_nar .short ((nI n).toInt16.toInt32) = nI n := zb_narS2 (by rw [nI_toInt (by omega)]; omega) (by rw [nI_toInt (by omega)]; omega)
section
variable {f_nodes f_time f_latest f_entries f_logged f_complete f_taken f_sinceEntry f_sinceCount f_parts f_wrongPart f_watches : Int32} {a_path a_data a_version a_childVersion a_created a_setAt a_owner a_firstChild a_sibling a_bucket a_open a_timeout a_deadline a_eKind a_ePath a_eData a_eOwner a_eVersion a_eNumber a_iPath a_iData a_iVersion a_iChildVersion a_iCreated a_iSet a_iOwner a_iTimeout a_iLatest a_pKind a_pPath a_pA a_pB a_uEntry a_uSlot a_uData a_uVersion a_uSet a_uChildVersion a_uCreated a_uOwner a_wSession a_wKind a_wPath a_queue a_queued : Nat → Int32}
theorem zx_multi_lp {post : Int32 → SX → Prop} {ss pc N0 n0 b0 cb : Nat} {sn : Option (Nat × Nat)} {S : zw_S} {C0 : zn_Mp} {P0 : Nat → Int32} {D0 : Nat → zn_Nd} {a_eKind0 a_ePath0 a_eData0 a_eOwner0 a_eVersion0 a_eNumber0 : Nat → Int32} (hss : ss < 4) (hpc : pc ≤ 6) (hN0 : N0 ≤ 380) (hb0 : b0 < 1000000) (R : zw_X f_watches a_wSession a_wKind a_wPath a_queue a_queued S) (h01 : ∀ s, s < 4 → a_open s = 0 ∨ a_open s = 1)
    (hpk : ∀ j, j < pc → (a_pKind j = 0 ∨ a_pKind j = 1 ∨ a_pKind j = 2 ∨ a_pKind j = 3) ∧ (a_pKind j = 0 → ∃ f, f < 4 ∧ a_pB j = nI f))
    (hfail : ∀ (r : Int32) (m : Nat) (f_nodes1 : Int32) (a_path1 a_data1 a_version1 a_childVersion1 a_created1 a_setAt1 a_owner1 a_firstChild1 a_sibling1 a_bucket1 : Nat → Int32) (a_eKind1 a_ePath1 a_eData1 a_eOwner1 a_eVersion1 a_eNumber1 : Nat → Int32) (a_uEntry1 a_uSlot1 a_uData1 a_uVersion1 a_uSet1 a_uChildVersion1 a_uCreated1 a_uOwner1 : Nat → Int32), (∃ L C', zm_pr a_pKind a_pPath a_pA a_pB (f_latest + 1) (nI ss) pc 0 C0 L C' (some (r, m))) → zx_T f_nodes1 a_path1 a_data1 a_version1 a_childVersion1 a_created1 a_setAt1 a_owner1 a_firstChild1 a_sibling1 a_bucket1 C0 → a_path1 = P0 → (∀ i, i < 48 → 0 ≤ (P0 i).toInt → zn_nd a_data1 a_version1 a_childVersion1 a_created1 a_setAt1 a_owner1 i = D0 i) →
      (∀ j, j < N0 → zf_en a_eKind1 a_ePath1 a_eData1 a_eOwner1 a_eVersion1 a_eNumber1 j = zf_en a_eKind0 a_ePath0 a_eData0 a_eOwner0 a_eVersion0 a_eNumber0 j) → post r (f_nodes1, f_time, f_latest, nI N0, f_logged, f_complete, f_taken, f_sinceEntry, f_sinceCount, f_parts, nI m, f_watches, a_path1, a_data1, a_version1, a_childVersion1, a_created1, a_setAt1, a_owner1, a_firstChild1, a_sibling1, a_bucket1, a_open, a_timeout, a_deadline, a_eKind1, a_ePath1, a_eData1, a_eOwner1, a_eVersion1, a_eNumber1, a_iPath, a_iData, a_iVersion, a_iChildVersion, a_iCreated, a_iSet, a_iOwner, a_iTimeout, a_iLatest, a_pKind, a_pPath, a_pA, a_pB, a_uEntry1, a_uSlot1, a_uData1, a_uVersion1, a_uSet1, a_uChildVersion1, a_uCreated1, a_uOwner1, a_wSession, a_wKind, a_wPath, a_queue, a_queued))
    (hok : ∀ (L : List zf_E) (C1 : zn_Mp) (N1 : Nat) (f_nodes1 : Int32) (a_path1 a_data1 a_version1 a_childVersion1 a_created1 a_setAt1 a_owner1 a_firstChild1 a_sibling1 a_bucket1 : Nat → Int32) (a_eKind1 a_ePath1 a_eData1 a_eOwner1 a_eVersion1 a_eNumber1 : Nat → Int32) (a_uEntry1 a_uSlot1 a_uData1 a_uVersion1 a_uSet1 a_uChildVersion1 a_uCreated1 a_uOwner1 : Nat → Int32) (f_watches1 : Int32) (a_wSession1 a_wKind1 a_wPath1 a_queue1 a_queued1 : Nat → Int32), zm_pr a_pKind a_pPath a_pA a_pB (f_latest + 1) (nI ss) pc 0 C0 L C1 none → zi_M (b0 + L.length) N1 C1 f_nodes1 a_path1 a_data1 a_version1 a_childVersion1 a_created1 a_setAt1 a_owner1 a_firstChild1 a_sibling1 a_bucket1 a_eKind1 a_ePath1 a_eData1 a_eOwner1 a_eVersion1 a_eNumber1 a_iPath a_iData a_iVersion a_iChildVersion a_iCreated a_iSet a_iOwner a_iTimeout cb sn a_open a_timeout →
      N0 < N1 → a_eNumber1 (N1 - 1) = f_latest + 1 → 16 * N1 + 5 * zr_n a_path1 48 ≤ 16 * N0 + 5 * n0 + 126 → L.length ≤ pc → (∀ (j : Nat) (e : zf_E), L[j]? = some e → zf_en a_eKind1 a_ePath1 a_eData1 a_eOwner1 a_eVersion1 a_eNumber1 (N0 + j) = e ∧ zp_ok e.2.1) → zw_X f_watches1 a_wSession1 a_wKind1 a_wPath1 a_queue1 a_queued1 (zw_tells a_eKind1 a_ePath1 N0 L.length S) →
      post (f_latest + 1) (f_nodes1, f_time, f_latest + 1, nI N1, f_logged + 1, f_complete, f_taken, f_sinceEntry, f_sinceCount, f_parts, f_wrongPart, f_watches1, a_path1, a_data1, a_version1, a_childVersion1, a_created1, a_setAt1, a_owner1, a_firstChild1, a_sibling1, a_bucket1, a_open, a_timeout, a_deadline, a_eKind1, a_ePath1, a_eData1, a_eOwner1, a_eVersion1, a_eNumber1, a_iPath, a_iData, a_iVersion, a_iChildVersion, a_iCreated, a_iSet, a_iOwner, a_iTimeout, a_iLatest, a_pKind, a_pPath, a_pA, a_pB, a_uEntry1, a_uSlot1, a_uData1, a_uVersion1, a_uSet1, a_uChildVersion1, a_uCreated1, a_uOwner1, a_wSession1, a_wKind1, a_wPath1, a_queue1, a_queued1)) :
    ∀ (d k : Nat) (C : zn_Mp) (L0 : List zf_E) (f_nodes : Int32) (a_path a_data a_version a_childVersion a_created a_setAt a_owner a_firstChild a_sibling a_bucket : Nat → Int32) (a_eKind a_ePath a_eData a_eOwner a_eVersion a_eNumber : Nat → Int32) (a_uEntry a_uSlot a_uData a_uVersion a_uSet a_uChildVersion a_uCreated a_uOwner : Nat → Int32), k + d = pc → zi_M (b0 + L0.length) (N0 + L0.length) C f_nodes a_path a_data a_version a_childVersion a_created a_setAt a_owner a_firstChild a_sibling a_bucket a_eKind a_ePath a_eData a_eOwner a_eVersion a_eNumber a_iPath a_iData a_iVersion a_iChildVersion a_iCreated a_iSet a_iOwner a_iTimeout cb sn a_open a_timeout → L0.length ≤ k →
      16 * (N0 + L0.length) + 5 * zr_n a_path 48 ≤ 16 * N0 + 5 * n0 + 21 * L0.length → zu_ch (b0 + 6) (N0 + L0.length) a_eKind a_ePath a_eData a_eOwner a_eVersion a_eNumber a_uEntry a_uSlot a_uData a_uVersion a_uSet a_uChildVersion a_uCreated a_uOwner P0 D0 C0 k a_path (zn_nd a_data a_version a_childVersion a_created a_setAt a_owner) C →
      (∀ (j : Nat) (e : zf_E), L0[j]? = some e → zf_en a_eKind a_ePath a_eData a_eOwner a_eVersion a_eNumber (N0 + j) = e ∧ zp_ok e.2.1) → (∀ j, j < N0 → zf_en a_eKind a_ePath a_eData a_eOwner a_eVersion a_eNumber j = zf_en a_eKind0 a_ePath0 a_eData0 a_eOwner0 a_eVersion0 a_eNumber0 j) → (∀ j, N0 ≤ j → j < N0 + L0.length → a_eNumber j = f_latest + 1) →
      (∀ L' C' f, zm_pr a_pKind a_pPath a_pA a_pB (f_latest + 1) (nI ss) d k C L' C' f → zm_pr a_pKind a_pPath a_pA a_pB (f_latest + 1) (nI ss) pc 0 C0 (L0 ++ L') C' f) →
      wX_multi_47 post (nI ss) (nI pc) (nI N0) (d + 1) (nI k) f_nodes f_time f_latest (nI (N0 + L0.length)) f_logged f_complete f_taken f_sinceEntry f_sinceCount f_parts f_wrongPart f_watches a_path a_data a_version a_childVersion a_created a_setAt a_owner a_firstChild a_sibling a_bucket a_open a_timeout a_deadline a_eKind a_ePath a_eData a_eOwner a_eVersion a_eNumber a_iPath a_iData a_iVersion a_iChildVersion a_iCreated a_iSet a_iOwner a_iTimeout a_iLatest a_pKind a_pPath a_pA a_pB a_uEntry a_uSlot a_uData a_uVersion a_uSet a_uChildVersion a_uCreated a_uOwner a_wSession a_wKind a_wPath a_queue a_queued := by
  intro d
  induction d with
  | zero =>
    intro k C L0 f_nodes a_path a_data a_version a_childVersion a_created a_setAt a_owner a_firstChild a_sibling a_bucket a_eKind a_ePath a_eData a_eOwner a_eVersion a_eNumber a_uEntry a_uSlot a_uData a_uVersion a_uSet a_uChildVersion a_uCreated a_uOwner hkd M hL0 hpot ch hen hpre hnum G
    refine br_t (nI_le (by omega) (by omega)) ?_
    have run := G [] C none ⟨rfl, rfl, rfl⟩
    rw [List.append_nil] at run
    by_cases z : L0.length = 0
    · have hL : L0 = [] := List.length_eq_zero_iff.mp z
      subst hL
      refine zx_commit0 (N := N0) (by omega) rfl R (fun f_watches1 a_wSession1 a_wKind1 a_wPath1 a_queue1 a_queued1 R1 => ?_)
      have hE : zs_En N0 (0, 0, 0, 0, 0, f_latest + 1) a_eKind a_ePath a_eData a_eOwner a_eVersion a_eNumber (upd a_eKind N0 0) (upd a_ePath N0 0) (upd a_eData N0 0) (upd a_eOwner N0 0) (upd a_eVersion N0 0) (upd a_eNumber N0 (f_latest + 1)) := zs_En_upd
      refine hok [] C (N0 + 1) _ _ _ _ _ _ _ _ _ _ _ _ _ _ _ _ _ _ _ _ _ _ _ _ _ _ _ _ _ _ _ run (zi_M_ses M hE ?_ ?_ ?_ ?_ h01 (fun s hs => ?_)) (by omega) (by rw [show N0 + 1 - 1 = N0 from by omega, pk_us]) ?_ (by omega) (fun j e he => by simp at he) R1
      · exact ⟨by show -1 ≤ (0 : Int32).toInt ∧ (0 : Int32).toInt ≤ 3; decide, Or.inl rfl⟩
      · show ¬ (0 : Int32) = 1; decide
      · show ¬ (0 : Int32) = 2; decide
      · show ¬ (0 : Int32) = 3; decide
      · rw [zf_s_id ⟨by show ¬ (0 : Int32) = 4; decide, by show ¬ (0 : Int32) = 5; decide⟩]
        exact ⟨rfl, fun _ => rfl⟩
      · -- the room
        simp only [List.length_nil] at hpot
        omega
    · refine zx_commit (N := N0 + L0.length) (b := N0) (by omega) (by omega) rfl R (fun f_watches1 a_wSession1 a_wKind1 a_wPath1 a_queue1 a_queued1 R1 => ?_)
      rw [show N0 + L0.length - N0 = L0.length from by omega] at R1
      exact hok L0 C (N0 + L0.length) _ _ _ _ _ _ _ _ _ _ _ _ _ _ _ _ _ _ _ _ _ _ _ _ _ _ _ _ _ _ _ run M (by omega) (hnum _ (by omega) (by omega)) (by omega) (by omega) hen R1
  | succ d ih =>
    intro k C L0 f_nodes a_path a_data a_version a_childVersion a_created a_setAt a_owner a_firstChild a_sibling a_bucket a_eKind a_ePath a_eData a_eOwner a_eVersion a_eNumber a_uEntry a_uSlot a_uData a_uVersion a_uSet a_uChildVersion a_uCreated a_uOwner hkd M hL0 hpot ch hen hpre hnum G
    have hk6 : k < 6 := by omega
    have hNk : N0 + L0.length < 400 := by omega
    obtain ⟨kd, kf⟩ := hpk k (by omega)
    have hB : zu_B (b0 + 6) a_path (zn_nd a_data a_version a_childVersion a_created a_setAt a_owner) C := ⟨M.1.1.2.1, zi_C_le M.2.1 (by omega), M.1.1.2.2.2, M.1.2.2.1, M.1.2.2.2⟩
    refine br_f (nI_ge (by omega) (by omega)) (zx_remember M.1 M.2.1 hk6 (fun a_uSlot2 a_uData2 a_uVersion2 a_uSet2 a_uChildVersion2 a_uCreated2 a_uOwner2 v1 v2 => ?_))
    refine zx_one M.1 M.2.1 hNk rfl hk6 hss kd kf (fun r hr => br_t (nI_le (Nat.le_refl _) (by omega)) ?_) (fun r e hr f_nodes1 a_path1 a_data1 a_version1 a_childVersion1 a_created1 a_setAt1 a_owner1 a_firstChild1 a_sibling1 a_bucket1 a_eKind1 a_ePath1 a_eData1 a_eOwner1 a_eVersion1 a_eNumber1 St => br_f (nI_ge (by omega) (by omega)) ?_)
    · -- nothing was written
      refine zz_st rfl hk6 (by decide) zb_sM ?_
      have ch1 : zu_ch (b0 + 6) (N0 + L0.length) a_eKind a_ePath a_eData a_eOwner a_eVersion a_eNumber (upd a_uEntry k (-1)) a_uSlot2 a_uData2 a_uVersion2 a_uSet2 a_uChildVersion2 a_uCreated2 a_uOwner2 P0 D0 C0 (k + 1) a_path (zn_nd a_data a_version a_childVersion a_created a_setAt a_owner) C :=
        ⟨a_path, zn_nd a_data a_version a_childVersion a_created a_setAt a_owner, C, zu_ch_cg (Nat.le_refl _) (Nat.le_refl _) (fun _ _ => rfl) ch (fun i hi => ⟨pk_un (by omega), v1 i (by omega)⟩), hB, Or.inl ⟨pk_us, rfl, fun _ _ _ => rfl, rfl⟩⟩
      by_cases c : 0 ≤ r
      · refine br_t c (nm_r (nI_1 k) (ih (k + 1) C L0 _ _ _ _ _ _ _ _ _ _ _ _ _ _ _ _ _ _ _ _ _ _ _ _ _ (by omega) M (by omega) (by omega) ch1 hen hpre hnum (fun L' C' f hrun => G L' C' f ?_)))
        exact ⟨r, none, ⟨a_path, zn_nd a_data a_version a_childVersion a_created a_setAt a_owner, M.1.1.2.1, hr⟩, Or.inr ⟨Int32.not_lt.mpr c, Or.inl ⟨rfl, hrun⟩⟩⟩
      · refine br_f c (Exists.intro (k + 1 + 1) ?_)
        have e0 : nI k = nI (k + 1) - 1 := (nI_pred k).symm
        rw [e0]
        refine zx_undo_lp (B := N0 + L0.length) (fr := N0) (by omega) (fun f_nodes1 a_path1 a_data1 a_version1 a_childVersion1 a_created1 a_setAt1 a_owner1 a_firstChild1 a_sibling1 a_bucket1 H1 hp1 hd1 => ?_) (k + 1) (zn_nd a_data a_version a_childVersion a_created a_setAt a_owner) C _ _ _ _ _ _ _ _ _ _ _ (by omega) M.1 (zi_C_le M.2.1 (by omega)) (fun _ _ _ => rfl) ch1
        rw [← e0]
        refine hfail r k _ _ _ _ _ _ _ _ _ _ _ _ _ _ _ _ _ _ _ _ _ _ _ _ _ ⟨L0 ++ [], C, G [] C _ ?_⟩ H1 hp1 hd1 hpre
        exact ⟨r, none, ⟨a_path, zn_nd a_data a_version a_childVersion a_created a_setAt a_owner, M.1.1.2.1, hr⟩, Or.inl ⟨Int32.not_le.mp c, rfl, rfl⟩⟩
    · -- an entry was written
      have F := zq_facts M.2.1 (by omega) hss (fun z => zx_kids0 M.1.1.2.1 z) kd hr
      have c : 0 ≤ r := zb_ge0.mpr F.1
      have M1 := zi_M_step M St F.2.1 F.2.2.1 F.2.2.2.1 h01
      have n1 := zs_num St.2.1 F.2.2.2.2.2
      have len : (L0 ++ [e]).length = L0.length + 1 := by rw [List.length_append, List.length_singleton]
      have e1 : a_eKind1 (N0 + L0.length) = e.1 := congrArg (fun x => x.1) St.2.2.2
      have e2 : a_ePath1 (N0 + L0.length) = e.2.1 := congrArg (fun x => x.2.1) St.2.2.2
      have en6 : a_eNumber1 (N0 + L0.length) = f_latest + 1 := (congrArg (fun x => x.2.2.2.2.2) St.2.2.2).trans F.2.2.2.2.1
      refine zz_st rfl hk6 (by decide) (zb_sN (by omega)) ?_
      have ch1 : zu_ch (b0 + 6) (N0 + L0.length + 1) a_eKind1 a_ePath1 a_eData1 a_eOwner1 a_eVersion1 a_eNumber1 (upd a_uEntry k (nI (N0 + L0.length))) a_uSlot2 a_uData2 a_uVersion2 a_uSet2 a_uChildVersion2 a_uCreated2 a_uOwner2 P0 D0 C0 (k + 1) a_path1 (zn_nd a_data1 a_version1 a_childVersion1 a_created1 a_setAt1 a_owner1) (zf_ap e C) := by
        refine ⟨a_path, zn_nd a_data a_version a_childVersion a_created a_setAt a_owner, C, zu_ch_cg (Nat.le_refl _) (by omega) (fun j hj => St.2.2.1 j (by omega)) ch (fun i hi => ⟨pk_un (by omega), v1 i (by omega)⟩), hB, Or.inr ⟨N0 + L0.length, by omega, pk_us, ?_, by rw [e2]; exact F.2.2.2.2.2, ?_, by rw [St.2.2.2]; exact St.2.1, by rw [St.2.2.2], ?_⟩⟩
        · rw [e1]
          rcases St.2.1 with z | z | z
          · exact Or.inl z.1
          · exact Or.inr (Or.inl z.1)
          · exact Or.inr (Or.inr z.1)
        · rw [e1, e2]
          intro z2
          rcases F.2.1.2 with z | z | z | z | z | z
          · rcases St.2.1 with w | w | w <;> (have := w.1; rw [z] at this; exact absurd this (by decide))
          · exact z.2.2.1
          · exact absurd z.1 z2
          · exact z.2.2
          · exact absurd z.1 F.2.2.1.1
          · exact absurd z.1 F.2.2.1.2
        · rw [e1, e2]
          intro z1
          rcases zq_cases kd hr with ⟨q, _⟩ | ⟨u, _, _, _, _, _, _, _, _, q⟩ | ⟨u, _, _, hu, _, q⟩ | ⟨u, w, _, _, _, hu, _, _, _, q⟩
          · exact nomatch q
          · rw [Option.some.inj q] at z1; exact absurd rfl z1
          · obtain ⟨s, s1, s2, s3, s4⟩ := v2 u hu
            rw [Option.some.inj q]
            exact ⟨s, s1, s2, s3, s4⟩
          · obtain ⟨s, s1, s2, s3, s4⟩ := v2 u hu
            rw [Option.some.inj q]
            exact ⟨s, s1, s2, s3, s4⟩
      have ihr := ih (k + 1) (zf_ap e C) (L0 ++ [e]) f_nodes1 a_path1 a_data1 a_version1 a_childVersion1 a_created1 a_setAt1 a_owner1 a_firstChild1 a_sibling1 a_bucket1 a_eKind1 a_ePath1 a_eData1 a_eOwner1 a_eVersion1 a_eNumber1 (upd a_uEntry k (nI (N0 + L0.length))) a_uSlot2 a_uData2 a_uVersion2 a_uSet2 a_uChildVersion2 a_uCreated2 a_uOwner2
      rw [len] at ihr
      refine br_t c (nm_r (nI_1 k) (ihr (by omega) M1 (by omega) (by omega) ch1 (fun j x hj => ?_) (fun j hj => (St.2.2.1 j (by omega)).trans (hpre j hj)) (fun j h1 h2 => ?_) (fun L' C' f hrun => ?_)))
      · rcases Nat.lt_or_ge j L0.length with z | z
        · rw [List.getElem?_append_left z] at hj
          rw [St.2.2.1 _ (by omega)]
          exact hen j x hj
        · rw [List.getElem?_append_right z] at hj
          have hz : j - L0.length = 0 := by
            rcases Nat.eq_zero_or_pos (j - L0.length) with w | w
            · exact w
            · rw [List.getElem?_eq_none (by rw [List.length_singleton]; omega)] at hj; exact nomatch hj
          rw [hz] at hj
          have hj : e = x := by simpa using hj
          have : j = L0.length := by omega
          subst this
          rw [← hj]
          exact ⟨St.2.2.2, F.2.2.2.2.2⟩
      · by_cases z : j = N0 + L0.length
        · rw [z]; exact en6
        · have q : a_eNumber1 j = a_eNumber j := congrArg (fun x => x.2.2.2.2.2) (St.2.2.1 j z)
          rw [q]
          exact hnum j h1 (by omega)
      · rw [List.append_assoc]
        exact G ([e] ++ L') C' f ⟨r, some e, ⟨a_path, zn_nd a_data a_version a_childVersion a_created a_setAt a_owner, M.1.1.2.1, hr⟩, Or.inr ⟨Int32.not_lt.mpr c, Or.inr ⟨e, L', rfl, rfl, hrun⟩⟩⟩
end
end
section
/-! several requests at once: the reference, and both -/
section
variable {g_time g_last g_watchCount g_partCount g_wrong g_changes g_log g_since g_placesLeft : Int32} {b_paths b_values b_open b_timeouts b_deadlines b_events b_eventCounts b_watchers b_watchKinds b_watchPaths b_parts b_happened b_how : Nat → Int32}
theorem zy_copy {post : SY → Prop} {a b : Nat} (hab : (a = 0 ∧ b = 21) ∨ (a = 21 ∧ b = 0))
    (h : ∀ pth vals : Nat → Int32, (∀ j, j < 21 → pth (b + j) = b_paths (a + j)) → (∀ j, (j < b ∨ b + 21 ≤ j) → pth j = b_paths j) → (∀ j, j < 126 → vals (6 * b + j) = b_values (6 * a + j)) → (∀ j, (j < 6 * b ∨ 6 * b + 126 ≤ j) → vals j = b_values j) → post (g_time, g_last, g_watchCount, g_partCount, g_wrong, g_changes, g_log, g_since, g_placesLeft, pth, vals, b_open, b_timeouts, b_deadlines, b_events, b_eventCounts, b_watchers, b_watchKinds, b_watchPaths, b_parts, b_happened, b_how)) :
    wpY_copy post (g_time, g_last, g_watchCount, g_partCount, g_wrong, g_changes, g_log, g_since, g_placesLeft, b_paths, b_values, b_open, b_timeouts, b_deadlines, b_events, b_eventCounts, b_watchers, b_watchKinds, b_watchPaths, b_parts, b_happened, b_how) (nI a) (nI b) := by
  have lp2 : ∀ (pth : Nat → Int32), (∀ j, j < 21 → pth (b + j) = b_paths (a + j)) → (∀ j, (j < b ∨ b + 21 ≤ j) → pth j = b_paths j) → ∀ (d i : Nat) (vals : Nat → Int32), i + d = 126 → (∀ j, j < i → vals (6 * b + j) = b_values (6 * a + j)) → (∀ j, (j < 6 * b ∨ 6 * b + 126 ≤ j) → vals j = b_values j) →
      wY_copy_32 post (nI a) (nI b) g_time g_last g_watchCount g_partCount g_wrong g_changes g_log g_since g_placesLeft (d + 1) (nI i) pth vals b_open b_timeouts b_deadlines b_events b_eventCounts b_watchers b_watchKinds b_watchPaths b_parts b_happened b_how := by
    intro pth p1 p2 d
    induction d with
    | zero =>
      intro i vals hi v1 v2
      have : i = 126 := by omega
      subst this
      exact br_t (by decide) (h pth vals p1 p2 v1 v2)
    | succ d ih =>
      intro i vals hi v1 v2
      have ea : (6 * nI a) + nI i = nI (6 * a + i) := by rw [zy_i0, nI_add]
      have eb : (6 * nI b) + nI i = nI (6 * b + i) := by rw [zy_i0, nI_add]
      refine br_f (nI_ge (b := 126) (by omega) (by decide)) (zz_in ea (by omega) (by decide) (zz_st eb (by omega) (by decide) (v' := b_values (6 * a + i)) ?_ (nm_r (nI_1 i) (ih (i + 1) _ (by omega) (fun j hj => ?_) (fun j hj => ?_)))))
      · rw [ea, nI_clamp (by omega)]; exact v2 _ (by omega)
      · by_cases z : j = i
        · rw [z, pk_us]
        · rw [pk_un (by omega)]; exact v1 j (by omega)
      · rw [pk_un (by omega)]; exact v2 j hj
  have lp1 : ∀ (d i : Nat) (pth : Nat → Int32), i + d = 21 → (∀ j, j < i → pth (b + j) = b_paths (a + j)) → (∀ j, (j < b ∨ b + 21 ≤ j) → pth j = b_paths j) →
      wY_copy_2 post (nI a) (nI b) g_time g_last g_watchCount g_partCount g_wrong g_changes g_log g_since g_placesLeft (d + 1) (nI i) pth b_values b_open b_timeouts b_deadlines b_events b_eventCounts b_watchers b_watchKinds b_watchPaths b_parts b_happened b_how := by
    intro d
    induction d with
    | zero =>
      intro i pth hi p1 p2
      have : i = 21 := by omega
      subst this
      exact br_t (by decide) (Exists.intro 127 (lp2 pth p1 p2 126 0 _ rfl (fun j hj => by omega) (fun _ _ => rfl)))
    | succ d ih =>
      intro i pth hi p1 p2
      refine br_f (nI_ge (b := 21) (by omega) (by decide)) (zz_in (nI_add a i) (by omega) (by decide) (zz_st (nI_add b i) (by omega) (by decide) (v' := b_paths (a + i)) ?_ (nm_r (nI_1 i) (ih (i + 1) _ (by omega) (fun j hj => ?_) (fun j hj => ?_)))))
      · rw [nI_add, nI_clamp (by omega)]; exact p2 _ (by omega)
      · by_cases z : j = i
        · rw [z, pk_us]
        · rw [pk_un (by omega)]; exact p1 j (by omega)
      · rw [pk_un (by omega)]; exact p2 j hj
  exact Exists.intro 22 (lp1 21 0 _ rfl (fun j hj => by omega) (fun _ _ => rfl))
theorem zy_multi_lp {post : Int32 → SY → Prop} {ss pc N0 n : Nat} {S : zw_S} {C0 C1 : zn_Mp} {f : Option (Int32 × Nat)} {b_paths0 b_values0 : Nat → Int32} {pk pp pa pb ek ep : Nat → Int32} (hss : ss < 4) (hpc : pc ≤ 6) (T0 : zy_T b_paths0 b_values0 C0) (R : zw_X g_watchCount b_watchers b_watchKinds b_watchPaths b_events b_eventCounts S)
    (hparts : ∀ j, j < pc → b_parts (4 * j) = pk j ∧ b_parts (4 * j + 1) = pp j ∧ b_parts (4 * j + 2) = pa j ∧ b_parts (4 * j + 3) = pb j)
    (hpk : ∀ j, j < pc → (pk j = 0 ∨ pk j = 1 ∨ pk j = 2 ∨ pk j = 3) ∧ (pk j = 0 → ∃ f, f < 4 ∧ pb j = nI f))
    (hfail : ∀ (r : Int32) (m : Nat) (b_paths1 b_values1 : Nat → Int32) (g_changes1 : Int32) (b_happened1 b_how1 : Nat → Int32), f = some (r, m) → zy_T b_paths1 b_values1 C0 → post r (g_time, g_last, g_watchCount, g_partCount, nI m, g_changes1, g_log, g_since, g_placesLeft, b_paths1, b_values1, b_open, b_timeouts, b_deadlines, b_events, b_eventCounts, b_watchers, b_watchKinds, b_watchPaths, b_parts, b_happened1, b_how1))
    (hok : ∀ (b_paths1 b_values1 : Nat → Int32) (g_changes1 : Int32) (b_happened1 b_how1 : Nat → Int32) (g_watchCount1 : Int32) (b_watchers1 b_watchKinds1 b_watchPaths1 b_events1 b_eventCounts1 : Nat → Int32), f = none → zy_T b_paths1 b_values1 C1 → zw_X g_watchCount1 b_watchers1 b_watchKinds1 b_watchPaths1 b_events1 b_eventCounts1 (zw_tells ek ep N0 n S) → post (g_last + 1) (g_time, g_last + 1, g_watchCount1, g_partCount, g_wrong, g_changes1, g_log + 1, g_since + 1, g_placesLeft, b_paths1, b_values1, b_open, b_timeouts, b_deadlines, b_events1, b_eventCounts1, b_watchers1, b_watchKinds1, b_watchPaths1, b_parts, b_happened1, b_how1)) :
    ∀ (d k c b : Nat) (C : zn_Mp) (L : List zf_E) (b_paths b_values : Nat → Int32) (b_happened b_how : Nat → Int32), k + d = pc → c ≤ k → zm_pr pk pp pa pb (g_last + 1) (nI ss) d k C L C1 f → zy_T b_paths b_values C → zi_C b C → b + d < 1000000000 →
      (∀ j, j < 21 → b_paths (21 + j) = b_paths0 j) → (∀ j, j < 126 → b_values (126 + j) = b_values0 j) →
      (f = none → ∀ j, j < c → zy_how (ek (N0 + j)) (b_how j) ∧ ep (N0 + j) = b_happened j ∧ 0 ≤ (b_happened j).toInt) → (f = none → c + L.length = n ∧ ∀ (j : Nat) (e : zf_E), L[j]? = some e → ek (N0 + (c + j)) = e.1 ∧ ep (N0 + (c + j)) = e.2.1 ∧ zp_ok e.2.1) →
      wY_multi_55 post (nI ss) (nI pc) (d + 1) (nI k) g_time g_last g_watchCount g_partCount g_wrong (nI c) g_log g_since g_placesLeft b_paths b_values b_open b_timeouts b_deadlines b_events b_eventCounts b_watchers b_watchKinds b_watchPaths b_parts b_happened b_how := by
  intro d
  induction d with
  | zero =>
    intro k c b C L b_paths b_values b_happened b_how hk hc run T hC hb cp cv cor hL
    obtain ⟨rfl, rfl, rfl⟩ := run
    obtain ⟨hn, _⟩ := hL rfl
    have hcn : c = n := by simpa using hn
    subst hcn
    refine br_t (nI_le (by omega) (by omega)) (nm_e (nm_e (nm_e ?_)))
    exact zy_tellAll (ek := ek) (ep := ep) (b := N0) (n := c) (S := S) (by omega) rfl (cor rfl) R (fun g_watchCount1 b_watchers1 b_watchKinds1 b_watchPaths1 b_events1 b_eventCounts1 R1 => hok _ _ _ _ _ _ _ _ _ _ _ rfl T R1)
  | succ d ih =>
    intro k c b C L b_paths b_values b_happened b_how hk hc run T hC hb cp cv cor hL
    obtain ⟨r, o, ⟨path, nd, RX, hq⟩, hcase⟩ := run
    obtain ⟨kd, kf⟩ := hpk k (by omega)
    obtain ⟨b1, b2, b3, b4⟩ := hparts k (by omega)
    have n1 : zr_n path 48 = zr_n b_paths 21 := zr_cnt RX T.1 (fun _ => true)
    have n2 : zk_cn path (pp k) 0 = zc_cnt (zr_oc b_paths (zk_P (pp k) 0)) 21 := zr_cnt RX T.1 (zk_P (pp k) 0)
    rw [n1, n2] at hq
    have i0 : (4 : Int32) * nI k = nI (4 * k) := zi_4 k
    have i1 : (4 : Int32) * nI k + 1 = nI (4 * k + 1) := by rw [zi_4, nI_1]
    have i2 : (4 : Int32) * nI k + 2 = nI (4 * k + 2) := by rw [zi_4]; exact nI_add _ 2
    have i3 : (4 : Int32) * nI k + 3 = nI (4 * k + 3) := by rw [zi_4]; exact nI_add _ 3
    refine br_f (nI_ge (by omega) (by omega)) (zz_in i0 (by omega) (by decide) (zz_in i1 (by omega) (by decide) (zz_in i2 (by omega) (by decide) (zz_in i3 (by omega) (by decide) ?_))))
    rw [i1, i2, i3, i0, nI_clamp (n := 4 * k) (by omega), nI_clamp (n := 4 * k + 1) (by omega), nI_clamp (n := 4 * k + 2) (by omega), nI_clamp (n := 4 * k + 3) (by omega), b1, b2, b3, b4]
    have kids : zc_cnt (zr_oc b_paths (zk_P (pp k) 0)) 21 = 0 → ∀ q y, C q = some y → ¬ q = 0 → ¬ q / 101 = pp k := fun z => zx_kids0 RX (by rw [n2]; exact z)
    refine zy_request T hC (show c < 21 by omega) rfl kd kf (fun r' hr' => ?_) (fun r' e hr' b_paths1 b_values1 hw T1 hh => ?_)
    · rw [hq] at hr'
      obtain ⟨a1, a2⟩ := zb_pair hr'
      subst a1 a2
      rcases hcase with ⟨h1, _, h3⟩ | ⟨h1, h2⟩
      · refine br_f (fun z => ?_) ?_
        · rw [zb_lt0] at h1; rw [zb_ge0] at z; omega
        · refine zy_copy (a := 21) (b := 0) (Or.inr ⟨rfl, rfl⟩) (fun pth vals p1 p2 v1 v2 => hfail r k _ _ _ _ _ h3 ⟨?_, ?_⟩)
          · have e1 : ∀ j, j < 21 → pth j = b_paths0 j := fun j hj => by
              have := p1 j hj
              rw [Nat.zero_add] at this
              rw [this, cp j hj]
            have e2 : ∀ j, j < 126 → vals j = b_values0 j := fun j hj => by
              have := v1 j hj
              rw [Nat.mul_zero, Nat.zero_add] at this
              rw [this]
              exact cv j hj
            refine zr_congr T0.1 e1 (fun s hs _ => ?_) (fun _ => rfl)
            unfold zy_nd
            rw [e2 _ (by omega), e2 _ (by omega), e2 _ (by omega), e2 _ (by omega), e2 _ (by omega), e2 _ (by omega)]
          · have := p1 0 (by omega)
            rw [Nat.zero_add, cp 0 (by omega)] at this
            rw [this]; exact T0.2
      · rcases h2 with ⟨_, hrun⟩ | ⟨e, L', h3, _⟩
        · exact br_t (Int32.not_lt.mp h1) (nm_r (nI_1 k) (ih (k + 1) c b C L _ _ _ _ (by omega) (by omega) hrun T hC (by omega) cp cv cor hL))
        · exact nomatch h3
    · rw [hq] at hr'
      obtain ⟨a1, a2⟩ := zb_pair hr'
      subst a1 a2
      have F := zq_facts hC (by omega) hss kids kd hq
      rcases hcase with ⟨_, h2, _⟩ | ⟨h1, h2⟩
      · exact nomatch h2
      · rcases h2 with ⟨h3, _⟩ | ⟨e', L', h3, h4, hrun⟩
        · exact nomatch h3
        · have h3 := Option.some.inj h3
          subst h3 h4
          refine br_t (Int32.not_lt.mp h1) (nm_r (nI_1 k) (ih (k + 1) (c + 1) (b + 1) (zf_ap e C) L' _ _ _ _ (by omega) (by omega) hrun T1.1 F.2.2.2.1 (by omega) (fun j hj => ?_) (fun j hj => ?_) (fun hf j hj => ?_) (fun hf => ?_)))
          · rw [T1.2.1 _ (by omega)]; exact cp j hj
          · rw [T1.2.2 _ (by omega)]; exact cv j hj
          · by_cases z : j = c
            · obtain ⟨_, x2⟩ := hL hf
              have := x2 0 e (by simp)
              rw [Nat.add_zero] at this
              rw [z, pk_us, pk_us, this.1, this.2.1]
              exact ⟨hh, rfl, this.2.2.1⟩
            · rw [pk_un z, pk_un z]
              exact cor hf j (by omega)
          · obtain ⟨x1, x2⟩ := hL hf
            rw [List.length_cons] at x1
            refine ⟨by omega, fun j x hj => ?_⟩
            have := x2 (j + 1) x (by simpa using hj)
            rw [show c + (j + 1) = c + 1 + j from by omega] at this
            exact this
end
end
section
/-! multi -/
section
variable {f_nodes f_time f_latest f_entries f_logged f_complete f_taken f_sinceEntry f_sinceCount f_parts f_wrongPart f_watches : Int32} {a_path a_data a_version a_childVersion a_created a_setAt a_owner a_firstChild a_sibling a_bucket a_open a_timeout a_deadline a_eKind a_ePath a_eData a_eOwner a_eVersion a_eNumber a_iPath a_iData a_iVersion a_iChildVersion a_iCreated a_iSet a_iOwner a_iTimeout a_iLatest a_pKind a_pPath a_pA a_pB a_uEntry a_uSlot a_uData a_uVersion a_uSet a_uChildVersion a_uCreated a_uOwner a_wSession a_wKind a_wPath a_queue a_queued : Nat → Int32}
theorem zx_multi {post : Int32 → SX → Prop} {p : Int32} {pc lg N : Nat} (hp : f_parts = nI pc) (hpc : pc ≤ 6) (he : f_entries = nI N) (hl : f_logged = nI lg) (hlg : lg < 100)
    (h1 : ((∀ s, s < 4 → p = nI s → a_open s = 0) ∨ pc = 0) → post (-1) (f_nodes, f_time, f_latest, f_entries, f_logged, f_complete, f_taken, f_sinceEntry, f_sinceCount, 0, -1, f_watches, a_path, a_data, a_version, a_childVersion, a_created, a_setAt, a_owner, a_firstChild, a_sibling, a_bucket, a_open, a_timeout, a_deadline, a_eKind, a_ePath, a_eData, a_eOwner, a_eVersion, a_eNumber, a_iPath, a_iData, a_iVersion, a_iChildVersion, a_iCreated, a_iSet, a_iOwner, a_iTimeout, a_iLatest, a_pKind, a_pPath, a_pA, a_pB, a_uEntry, a_uSlot, a_uData, a_uVersion, a_uSet, a_uChildVersion, a_uCreated, a_uOwner, a_wSession, a_wKind, a_wPath, a_queue, a_queued))
    (h9 : ∀ s, s < 4 → p = nI s → ¬ a_open s = 0 → ¬ pc = 0 → 40 ≤ lg → post (-9) (f_nodes, f_time, f_latest, f_entries, f_logged, f_complete, f_taken, f_sinceEntry, f_sinceCount, 0, -1, f_watches, a_path, a_data, a_version, a_childVersion, a_created, a_setAt, a_owner, a_firstChild, a_sibling, a_bucket, a_open, a_timeout, a_deadline, a_eKind, a_ePath, a_eData, a_eOwner, a_eVersion, a_eNumber, a_iPath, a_iData, a_iVersion, a_iChildVersion, a_iCreated, a_iSet, a_iOwner, a_iTimeout, a_iLatest, a_pKind, a_pPath, a_pA, a_pB, a_uEntry, a_uSlot, a_uData, a_uVersion, a_uSet, a_uChildVersion, a_uCreated, a_uOwner, a_wSession, a_wKind, a_wPath, a_queue, a_queued))
    (h : ∀ s, s < 4 → p = nI s → ¬ a_open s = 0 → ¬ pc = 0 → lg < 40 → wX_multi_47 post (nI s) (nI pc) (nI N) (pc + 1) (nI 0) f_nodes f_time f_latest (nI N) f_logged f_complete f_taken f_sinceEntry f_sinceCount 0 (-1) f_watches a_path a_data a_version a_childVersion a_created a_setAt a_owner a_firstChild a_sibling a_bucket a_open a_timeout a_deadline a_eKind a_ePath a_eData a_eOwner a_eVersion a_eNumber a_iPath a_iData a_iVersion a_iChildVersion a_iCreated a_iSet a_iOwner a_iTimeout a_iLatest a_pKind a_pPath a_pA a_pB a_uEntry a_uSlot a_uData a_uVersion a_uSet a_uChildVersion a_uCreated a_uOwner a_wSession a_wKind a_wPath a_queue a_queued) : wpX_multi post (f_nodes, f_time, f_latest, f_entries, f_logged, f_complete, f_taken, f_sinceEntry, f_sinceCount, f_parts, f_wrongPart, f_watches, a_path, a_data, a_version, a_childVersion, a_created, a_setAt, a_owner, a_firstChild, a_sibling, a_bucket, a_open, a_timeout, a_deadline, a_eKind, a_ePath, a_eData, a_eOwner, a_eVersion, a_eNumber, a_iPath, a_iData, a_iVersion, a_iChildVersion, a_iCreated, a_iSet, a_iOwner, a_iTimeout, a_iLatest, a_pKind, a_pPath, a_pA, a_pB, a_uEntry, a_uSlot, a_uData, a_uVersion, a_uSet, a_uChildVersion, a_uCreated, a_uOwner, a_wSession, a_wKind, a_wPath, a_queue, a_queued) p := by
  subst hp he
  unfold wpX_multi
  refine zx_barred hl hlg (fun z => br_t rfl (h1 (Or.inl z))) (fun s hs e ho c => br_f (by decide) ?_) (fun s hs e ho c => br_f (by decide) ?_)
  · refine pk_eq pc 0 (fun z => h1 (Or.inr z)) (fun z => br_f (by decide) (h9 s hs e ho z c))
  · refine pk_eq pc 0 (fun z => h1 (Or.inr z)) (fun z => br_t (by decide) ?_)
    have := h s hs e ho z c
    rw [← e] at this
    exact Exists.intro (pc + 1) this
end
section
variable {g_time g_last g_watchCount g_partCount g_wrong g_changes g_log g_since g_placesLeft : Int32} {b_paths b_values b_open b_timeouts b_deadlines b_events b_eventCounts b_watchers b_watchKinds b_watchPaths b_parts b_happened b_how : Nat → Int32}
theorem zy_multi {post : Int32 → SY → Prop} {p : Int32} {pc lg : Nat} (hp : g_partCount = nI pc) (hpc : pc ≤ 6) (hl : g_log = nI lg) (hlg : lg < 100)
    (h1 : ((∀ s, s < 4 → p = nI s → b_open s = 0) ∨ pc = 0) → post (-1) (g_time, g_last, g_watchCount, 0, -1, g_changes, g_log, g_since, g_placesLeft, b_paths, b_values, b_open, b_timeouts, b_deadlines, b_events, b_eventCounts, b_watchers, b_watchKinds, b_watchPaths, b_parts, b_happened, b_how))
    (h9 : ∀ s, s < 4 → p = nI s → ¬ b_open s = 0 → ¬ pc = 0 → 40 ≤ lg → post (-9) (g_time, g_last, g_watchCount, 0, -1, g_changes, g_log, g_since, g_placesLeft, b_paths, b_values, b_open, b_timeouts, b_deadlines, b_events, b_eventCounts, b_watchers, b_watchKinds, b_watchPaths, b_parts, b_happened, b_how))
    (h : ∀ s, s < 4 → p = nI s → ¬ b_open s = 0 → ¬ pc = 0 → lg < 40 → ∀ (b_paths1 b_values1 : Nat → Int32), (∀ j, j < 21 → b_paths1 j = b_paths j) → (∀ j, j < 126 → b_values1 j = b_values j) → (∀ j, j < 21 → b_paths1 (21 + j) = b_paths j) → (∀ j, j < 126 → b_values1 (126 + j) = b_values j) →
      wY_multi_55 post (nI s) (nI pc) (pc + 1) (nI 0) g_time g_last g_watchCount 0 (-1) (nI 0) g_log g_since g_placesLeft b_paths1 b_values1 b_open b_timeouts b_deadlines b_events b_eventCounts b_watchers b_watchKinds b_watchPaths b_parts b_happened b_how) : wpY_multi post (g_time, g_last, g_watchCount, g_partCount, g_wrong, g_changes, g_log, g_since, g_placesLeft, b_paths, b_values, b_open, b_timeouts, b_deadlines, b_events, b_eventCounts, b_watchers, b_watchKinds, b_watchPaths, b_parts, b_happened, b_how) p := by
  subst hp
  unfold wpY_multi
  refine zy_isOpen (fun z => br_t rfl (h1 (Or.inl z))) (fun s hs e ho => br_f (by decide) ?_)
  refine pk_eq pc 0 (fun z => h1 (Or.inr z)) (fun z => ?_)
  refine pk_lt lg 40 (fun c => ?_) (fun c => h9 s hs e ho z c) (hx := hl)
  refine zy_copy (a := 0) (b := 21) (Or.inl ⟨rfl, rfl⟩) (fun pth vals p1 p2 v1 v2 => ?_)
  have := h s hs e ho z c pth vals (fun j hj => p2 j (by omega)) (fun j hj => v2 j (by omega)) (fun j hj => by have := p1 j hj; rw [Nat.zero_add] at this; exact this) (fun j hj => by have := v1 j hj; rw [Nat.mul_zero, Nat.zero_add] at this; exact this)
  rw [← e] at this
  exact Exists.intro (pc + 1) this
end
section
variable {f_nodes f_time f_latest f_entries f_logged f_complete f_taken f_sinceEntry f_sinceCount f_parts f_wrongPart f_watches : Int32} {a_path a_data a_version a_childVersion a_created a_setAt a_owner a_firstChild a_sibling a_bucket a_open a_timeout a_deadline a_eKind a_ePath a_eData a_eOwner a_eVersion a_eNumber a_iPath a_iData a_iVersion a_iChildVersion a_iCreated a_iSet a_iOwner a_iTimeout a_iLatest a_pKind a_pPath a_pA a_pB a_uEntry a_uSlot a_uData a_uVersion a_uSet a_uChildVersion a_uCreated a_uOwner a_wSession a_wKind a_wPath a_queue a_queued : Nat → Int32}
variable {g_time g_last g_watchCount g_partCount g_wrong g_changes g_log g_since g_placesLeft : Int32} {b_paths b_values b_open b_timeouts b_deadlines b_events b_eventCounts b_watchers b_watchKinds b_watchPaths b_parts b_happened b_how : Nat → Int32}
/-- without parts -/
theorem zi_Q_p0 {N lg pc cb : Nat} {sn : Option (Nat × Nat)} {S : zw_S} {w : Int32} (Q : zi_Q N lg pc cb sn S f_nodes f_time f_latest f_entries f_logged f_complete f_taken f_sinceEntry f_sinceCount f_parts f_wrongPart f_watches a_path a_data a_version a_childVersion a_created a_setAt a_owner a_firstChild a_sibling a_bucket a_open a_timeout a_deadline a_eKind a_ePath a_eData a_eOwner a_eVersion a_eNumber a_iPath a_iData a_iVersion a_iChildVersion a_iCreated a_iSet a_iOwner a_iTimeout a_iLatest a_pKind a_pPath a_pA a_pB a_uEntry a_uSlot a_uData a_uVersion a_uSet a_uChildVersion a_uCreated a_uOwner a_wSession a_wKind a_wPath a_queue a_queued g_time g_last g_watchCount g_partCount g_wrong g_changes g_log g_since g_placesLeft b_paths b_values b_open b_timeouts b_deadlines b_events b_eventCounts b_watchers b_watchKinds b_watchPaths b_parts b_happened b_how) : zi_Q N lg 0 cb sn S f_nodes f_time f_latest f_entries f_logged f_complete f_taken f_sinceEntry f_sinceCount 0 w f_watches a_path a_data a_version a_childVersion a_created a_setAt a_owner a_firstChild a_sibling a_bucket a_open a_timeout a_deadline a_eKind a_ePath a_eData a_eOwner a_eVersion a_eNumber a_iPath a_iData a_iVersion a_iChildVersion a_iCreated a_iSet a_iOwner a_iTimeout a_iLatest a_pKind a_pPath a_pA a_pB a_uEntry a_uSlot a_uData a_uVersion a_uSet a_uChildVersion a_uCreated a_uOwner a_wSession a_wKind a_wPath a_queue a_queued g_time g_last g_watchCount 0 w g_changes g_log g_since g_placesLeft b_paths b_values b_open b_timeouts b_deadlines b_events b_eventCounts b_watchers b_watchKinds b_watchPaths b_parts b_happened b_how := by
  obtain ⟨⟨q1, q2, q3, q4, q5, q6, q7, q8, q9, q10⟩, ⟨p1, p2, p3⟩, ses, pk, rest⟩ := Q
  exact ⟨⟨q1, q2, q3, q4, q5, q6, rfl, rfl, rfl, q10⟩, ⟨p1, by omega, p3⟩, ses, fun j hj => by omega, rest⟩
/-- the log's part ahead is as it was -/
theorem zi_Q_cg {N lg pc cb : Nat} {sn : Option (Nat × Nat)} {S : zw_S} {f_nodes1 : Int32} {a_path1 a_data1 a_version1 a_childVersion1 a_created1 a_setAt1 a_owner1 a_firstChild1 a_sibling1 a_bucket1 a_eKind1 a_ePath1 a_eData1 a_eOwner1 a_eVersion1 a_eNumber1 a_uEntry1 a_uSlot1 a_uData1 a_uVersion1 a_uSet1 a_uChildVersion1 a_uCreated1 a_uOwner1 : Nat → Int32} {b_paths1 b_values1 : Nat → Int32} {g_changes1 : Int32} {b_happened1 b_how1 : Nat → Int32} (Q : zi_Q N lg pc cb sn S f_nodes f_time f_latest f_entries f_logged f_complete f_taken f_sinceEntry f_sinceCount f_parts f_wrongPart f_watches a_path a_data a_version a_childVersion a_created a_setAt a_owner a_firstChild a_sibling a_bucket a_open a_timeout a_deadline a_eKind a_ePath a_eData a_eOwner a_eVersion a_eNumber a_iPath a_iData a_iVersion a_iChildVersion a_iCreated a_iSet a_iOwner a_iTimeout a_iLatest a_pKind a_pPath a_pA a_pB a_uEntry a_uSlot a_uData a_uVersion a_uSet a_uChildVersion a_uCreated a_uOwner a_wSession a_wKind a_wPath a_queue a_queued g_time g_last g_watchCount g_partCount g_wrong g_changes g_log g_since g_placesLeft b_paths b_values b_open b_timeouts b_deadlines b_events b_eventCounts b_watchers b_watchKinds b_watchPaths b_parts b_happened b_how) (hp : zr_n a_path1 48 = zr_n a_path 48) (he : ∀ j, j < N → a_eNumber1 j = a_eNumber j) :
    zi_Q N lg pc cb sn S f_nodes1 f_time f_latest f_entries f_logged f_complete f_taken f_sinceEntry f_sinceCount f_parts f_wrongPart f_watches a_path1 a_data1 a_version1 a_childVersion1 a_created1 a_setAt1 a_owner1 a_firstChild1 a_sibling1 a_bucket1 a_open a_timeout a_deadline a_eKind1 a_ePath1 a_eData1 a_eOwner1 a_eVersion1 a_eNumber1 a_iPath a_iData a_iVersion a_iChildVersion a_iCreated a_iSet a_iOwner a_iTimeout a_iLatest a_pKind a_pPath a_pA a_pB a_uEntry1 a_uSlot1 a_uData1 a_uVersion1 a_uSet1 a_uChildVersion1 a_uCreated1 a_uOwner1 a_wSession a_wKind a_wPath a_queue a_queued g_time g_last g_watchCount g_partCount g_wrong g_changes1 g_log g_since g_placesLeft b_paths1 b_values1 b_open b_timeouts b_deadlines b_events b_eventCounts b_watchers b_watchKinds b_watchPaths b_parts b_happened1 b_how1 := by
  obtain ⟨q, ⟨p1, p2, p3, p4⟩, ses, pk, w, x, im, la, sp⟩ := Q
  refine ⟨q, ⟨p1, p2, by rw [hp]; exact p3, p4⟩, ses, pk, w, x, im, ⟨la.1, fun z => by rw [he _ (by omega)]; exact la.2 z⟩, ?_⟩
  rcases sp with s | ⟨tk, b, bc, s1, s2, s3, s4, s5, s6, s7, s8, s9, s10, s11, s12⟩
  · exact Or.inl s
  · exact Or.inr ⟨tk, b, bc, s1, s2, s3, s4, s5, s6, s7, s8, s9, s10, by rw [hp]; exact s11, s12.1, fun z => by rw [he _ (by omega)]; exact s12.2 z⟩
theorem zi_M_cg {b N : Nat} {C : zn_Mp} {cb : Nat} {sn : Option (Nat × Nat)} {f_nodes1 : Int32} {a_path1 a_data1 a_version1 a_childVersion1 a_created1 a_setAt1 a_owner1 a_firstChild1 a_sibling1 a_bucket1 a_eKind1 a_ePath1 a_eData1 a_eOwner1 a_eVersion1 a_eNumber1 : Nat → Int32} (M : zi_M b N C f_nodes a_path a_data a_version a_childVersion a_created a_setAt a_owner a_firstChild a_sibling a_bucket a_eKind a_ePath a_eData a_eOwner a_eVersion a_eNumber a_iPath a_iData a_iVersion a_iChildVersion a_iCreated a_iSet a_iOwner a_iTimeout cb sn a_open a_timeout) (H : zx_T f_nodes1 a_path1 a_data1 a_version1 a_childVersion1 a_created1 a_setAt1 a_owner1 a_firstChild1 a_sibling1 a_bucket1 C) (hp : a_path1 = a_path) (he : ∀ j, j < N → zf_en a_eKind1 a_ePath1 a_eData1 a_eOwner1 a_eVersion1 a_eNumber1 j = zf_en a_eKind a_ePath a_eData a_eOwner a_eVersion a_eNumber j) :
    zi_M b N C f_nodes1 a_path1 a_data1 a_version1 a_childVersion1 a_created1 a_setAt1 a_owner1 a_firstChild1 a_sibling1 a_bucket1 a_eKind1 a_ePath1 a_eData1 a_eOwner1 a_eVersion1 a_eNumber1 a_iPath a_iData a_iVersion a_iChildVersion a_iCreated a_iSet a_iOwner a_iTimeout cb sn a_open a_timeout := by
  obtain ⟨m1, m2, m3, m4, m5⟩ := M
  refine ⟨H, m2, fun j hj => by rw [he j hj]; exact m3 j hj, zi_Full_cg m4 he (fun _ _ => rfl) (fun _ _ => rfl) (fun _ _ => rfl) (fun _ => rfl) (fun _ _ => rfl) (fun _ _ _ => rfl), fun tk b' hb => ?_⟩
  obtain ⟨h1, P⟩ := m5 tk b' hb
  exact ⟨h1, zi_Part_cg P (fun j hj => he j (by omega)) (fun _ _ => rfl) (fun _ _ => rfl) (fun _ _ => rfl) (fun _ => rfl) (fun s _ => by rw [hp]) (fun _ _ => rfl) (fun _ _ _ => rfl)⟩
end
theorem i_vc_multi {k : Nat} {u : SX} {v : SY} (I : i_Rel k u v) (hk : k + 5 ≤ 2560) (v1 : Int32) : wpX_multi (fun r u' => wpY_multi (fun r' v' => r' = r ∧ i_Rel (k + 5) u' v') v v1) u v1 := by
  refine zi_el (P := fun u v => wpX_multi (fun r u' => wpY_multi (fun r' v' => r' = r ∧ i_Rel (k + 5) u' v') v v1) u v1) ?_ I
  intro f_nodes f_time f_latest f_entries f_logged f_complete f_taken f_sinceEntry f_sinceCount f_parts f_wrongPart f_watches a_path a_data a_version a_childVersion a_created a_setAt a_owner a_firstChild a_sibling a_bucket a_open a_timeout a_deadline a_eKind a_ePath a_eData a_eOwner a_eVersion a_eNumber a_iPath a_iData a_iVersion a_iChildVersion a_iCreated a_iSet a_iOwner a_iTimeout a_iLatest a_pKind a_pPath a_pA a_pB a_uEntry a_uSlot a_uData a_uVersion a_uSet a_uChildVersion a_uCreated a_uOwner a_wSession a_wKind a_wPath a_queue a_queued g_time g_last g_watchCount g_partCount g_wrong g_changes g_log g_since g_placesLeft b_paths b_values b_open b_timeouts b_deadlines b_events b_eventCounts b_watchers b_watchKinds b_watchPaths b_parts b_happened b_how R
  obtain ⟨C, S, N, lg, pc, cb, sn, M, T, Q⟩ := R
  have lim := zi_N_lt Q
  have q1 := Q.1.1
  have q2 := Q.1.2.1
  have q3 := Q.1.2.2.1
  have q4 := Q.1.2.2.2.1
  have q6 := Q.1.2.2.2.2.2.1
  have q7 := Q.1.2.2.2.2.2.2.1
  have q8 := Q.1.2.2.2.2.2.2.2.1
  have hpc := Q.2.1.2.1
  have ses := Q.2.2.1
  have pk := Q.2.2.2.1
  have w := Q.2.2.2.2.1
  have x := Q.2.2.2.2.2.1
  have hS4 : zi_S a_open ≤ 4 := zc_leN _ _
  subst q6
  have R0 : ∀ wp : Int32, i_Rel (k + 5) (f_nodes, f_time, f_latest, f_entries, f_logged, f_complete, f_taken, f_sinceEntry, f_sinceCount, 0, wp, f_watches, a_path, a_data, a_version, a_childVersion, a_created, a_setAt, a_owner, a_firstChild, a_sibling, a_bucket, b_open, a_timeout, a_deadline, a_eKind, a_ePath, a_eData, a_eOwner, a_eVersion, a_eNumber, a_iPath, a_iData, a_iVersion, a_iChildVersion, a_iCreated, a_iSet, a_iOwner, a_iTimeout, a_iLatest, a_pKind, a_pPath, a_pA, a_pB, a_uEntry, a_uSlot, a_uData, a_uVersion, a_uSet, a_uChildVersion, a_uCreated, a_uOwner, a_wSession, a_wKind, a_wPath, a_queue, a_queued) (g_time, g_last, g_watchCount, 0, wp, g_changes, g_log, g_since, g_placesLeft, b_paths, b_values, b_open, b_timeouts, b_deadlines, b_events, b_eventCounts, b_watchers, b_watchKinds, b_watchPaths, b_parts, b_happened, b_how) := fun wp => zi_mk (zi_M_up M) T (zi_Q_p0 Q)
  refine zx_multi q7 hpc q1 q2 (by omega) (fun h1 => ?_) (fun s hs e ho z c => ?_) (fun s hs e ho z c => ?_)
  · refine zy_multi q8 hpc q3 (by omega) (fun _ => And.intro rfl (R0 _)) (fun s hs e ho z _ => ?_) (fun s hs e ho z _ => ?_)
    · exact (h1.elim (fun h => ho (h s hs e)) z).elim
    · exact (h1.elim (fun h => ho (h s hs e)) z).elim
  · refine zy_multi q8 hpc q3 (by omega) (fun h1 => ?_) (fun _ _ _ _ _ _ => And.intro rfl (R0 _)) (fun _ _ _ _ _ c' => by omega)
    exact (h1.elim (fun h => ho (h s hs e)) z).elim
  · -- the parts are done one by one
    have ymul : ∀ {L : List zf_E} {C1 : zn_Mp} {f : Option (Int32 × Nat)} {ek ep : Nat → Int32} {post : Int32 → SY → Prop}, zm_pr a_pKind a_pPath a_pA a_pB (f_latest + 1) (nI s) pc 0 C L C1 f →
        (f = none → ∀ (j : Nat) (e : zf_E), L[j]? = some e → ek (N + j) = e.1 ∧ ep (N + j) = e.2.1 ∧ zp_ok e.2.1) →
        (∀ (r : Int32) (m : Nat) (b_paths1 b_values1 : Nat → Int32) (g_changes1 : Int32) (b_happened1 b_how1 : Nat → Int32), f = some (r, m) → zy_T b_paths1 b_values1 C → post r (g_time, g_last, g_watchCount, 0, nI m, g_changes1, g_log, g_since, g_placesLeft, b_paths1, b_values1, b_open, b_timeouts, b_deadlines, b_events, b_eventCounts, b_watchers, b_watchKinds, b_watchPaths, b_parts, b_happened1, b_how1)) →
        (∀ (b_paths1 b_values1 : Nat → Int32) (g_changes1 : Int32) (b_happened1 b_how1 : Nat → Int32) (g_watchCount1 : Int32) (b_watchers1 b_watchKinds1 b_watchPaths1 b_events1 b_eventCounts1 : Nat → Int32), f = none → zy_T b_paths1 b_values1 C1 → zw_X g_watchCount1 b_watchers1 b_watchKinds1 b_watchPaths1 b_events1 b_eventCounts1 (zw_tells ek ep N L.length S) → post (g_last + 1) (g_time, g_last + 1, g_watchCount1, 0, -1, g_changes1, g_log + 1, g_since + 1, g_placesLeft, b_paths1, b_values1, b_open, b_timeouts, b_deadlines, b_events1, b_eventCounts1, b_watchers1, b_watchKinds1, b_watchPaths1, b_parts, b_happened1, b_how1)) →
        wpY_multi post (g_time, g_last, g_watchCount, g_partCount, g_wrong, g_changes, g_log, g_since, g_placesLeft, b_paths, b_values, b_open, b_timeouts, b_deadlines, b_events, b_eventCounts, b_watchers, b_watchKinds, b_watchPaths, b_parts, b_happened, b_how) v1 := by
      intro L C1 f ek ep post run hen hf hok
      refine zy_multi q8 hpc q3 (by omega) (fun h1 => ?_) (fun _ _ _ _ _ c' => by omega) (fun s' hs' e' ho' _ _ b_paths2 b_values2 p1 p2 p3 p4 => ?_)
      · exact (h1.elim (fun h => ho (h s hs e)) z).elim
      · have : s = s' := (nI_eq (by omega) (by omega)).mp (e.symm.trans e')
        subst this
        have T2 : zy_T b_paths2 b_values2 C := by
          refine ⟨zr_congr T.1 p1 (fun i hi _ => ?_) (fun _ => rfl), by rw [p1 0 (by omega)]; exact T.2⟩
          unfold zy_nd
          rw [p2 _ (by omega), p2 _ (by omega), p2 _ (by omega), p2 _ (by omega), p2 _ (by omega), p2 _ (by omega)]
        rw [← q4] at run
        exact zy_multi_lp (n := L.length) hs hpc T x (fun j hj => (pk j hj).1) (fun j hj => (pk j hj).2) hf hok pc 0 0 (20 * k) C L _ _ _ _ (by omega) (by omega) run T2 M.2.1 (by omega) p3 p4 (fun _ j hj => by omega) (fun hn => ⟨by omega, fun j e he => by rw [Nat.zero_add]; exact hen hn j e he⟩)
    refine zx_multi_lp (n0 := zr_n a_path 48) (C0 := C) (P0 := a_path) (D0 := zn_nd a_data a_version a_childVersion a_created a_setAt a_owner) (a_eKind0 := a_eKind) (a_ePath0 := a_ePath) (a_eData0 := a_eData) (a_eOwner0 := a_eOwner) (a_eVersion0 := a_eVersion) (a_eNumber0 := a_eNumber) (b0 := 20 * k) (N0 := N) hs hpc (by omega) (by omega) w (fun j hj => (ses j hj).1) (fun j hj => (pk j hj).2)
      (fun r m f_nodes1 a_path1 a_data1 a_version1 a_childVersion1 a_created1 a_setAt1 a_owner1 a_firstChild1 a_sibling1 a_bucket1 a_eKind1 a_ePath1 a_eData1 a_eOwner1 a_eVersion1 a_eNumber1 a_uEntry1 a_uSlot1 a_uData1 a_uVersion1 a_uSet1 a_uChildVersion1 a_uCreated1 a_uOwner1 hrun H1 hp1 hd1 hpre => ?_) (fun L C1 N1 f_nodes1 a_path1 a_data1 a_version1 a_childVersion1 a_created1 a_setAt1 a_owner1 a_firstChild1 a_sibling1 a_bucket1 a_eKind1 a_ePath1 a_eData1 a_eOwner1 a_eVersion1 a_eNumber1 a_uEntry1 a_uSlot1 a_uData1 a_uVersion1 a_uSet1 a_uChildVersion1 a_uCreated1 a_uOwner1 f_watches1 a_wSession1 a_wKind1 a_wPath1 a_queue1 a_queued1 run M1 hN1 hen1 hpot hL hen w1 => ?_) pc 0 C [] _ _ _ _ _ _ _ _ _ _ _ _ _ _ _ _ _ _ _ _ _ _ _ _ _ (by omega) M (by rw [List.length_nil]; omega) (by rw [List.length_nil]; omega) ⟨rfl, fun _ _ _ => rfl, rfl⟩ (fun j e he => by simp at he) (fun _ _ => rfl) (fun j h1 h2 => by rw [List.length_nil] at h2; omega) (fun L' C' f h => h)
    · obtain ⟨L, C', run⟩ := hrun
      refine ymul (ek := fun _ => 0) (ep := fun _ => 0) run (fun z => nomatch z) (fun r' m' b_paths1 b_values1 g_changes1 b_happened1 b_how1 hf T1 => ?_) (fun _ _ _ _ _ _ _ _ _ _ _ z => nomatch z)
      have hf := Option.some.inj hf
      have f1 : r = r' := congrArg Prod.fst hf
      have f2 : m = m' := congrArg Prod.snd hf
      subst f1 f2
      have hQ := zi_Q_cg (f_nodes1 := f_nodes1) (a_path1 := a_path1) (a_data1 := a_data1) (a_version1 := a_version1) (a_childVersion1 := a_childVersion1) (a_created1 := a_created1) (a_setAt1 := a_setAt1) (a_owner1 := a_owner1) (a_firstChild1 := a_firstChild1) (a_sibling1 := a_sibling1) (a_bucket1 := a_bucket1)
        (a_eKind1 := a_eKind1) (a_ePath1 := a_ePath1) (a_eData1 := a_eData1) (a_eOwner1 := a_eOwner1) (a_eVersion1 := a_eVersion1) (a_eNumber1 := a_eNumber1) (a_uEntry1 := a_uEntry1) (a_uSlot1 := a_uSlot1) (a_uData1 := a_uData1) (a_uVersion1 := a_uVersion1) (a_uSet1 := a_uSet1) (a_uChildVersion1 := a_uChildVersion1) (a_uCreated1 := a_uCreated1) (a_uOwner1 := a_uOwner1)
        (b_paths1 := b_paths1) (b_values1 := b_values1) (g_changes1 := g_changes1) (b_happened1 := b_happened1) (b_how1 := b_how1) (zi_Q_p0 (w := nI m) Q) (by rw [hp1]) (fun j hj => congrArg (fun x => x.2.2.2.2.2) (hpre j hj))
      rw [q1] at hQ
      exact And.intro rfl (zi_mk (zi_M_up (zi_M_cg M H1 hp1 hpre)) T1 hQ)
    · refine ymul (ek := a_eKind1) (ep := a_ePath1) run (fun _ j e he => ?_) (fun _ _ _ _ _ _ _ z => nomatch z) (fun b_paths1 b_values1 g_changes1 b_happened1 b_how1 g_watchCount1 b_watchers1 b_watchKinds1 b_watchPaths1 b_events1 b_eventCounts1 _ T1 x1 => And.intro (by rw [q4]) ?_)
      · obtain ⟨e1, e2⟩ := hen j e he
        exact ⟨congrArg (fun x => x.1) e1, congrArg (fun x => x.2.1) e1, e2⟩
      · exact zi_mk (pc := 0) (zi_M_le M1 (by omega)) T1 (zi_Q_tx (S := S) (zi_Q_p0 (w := -1) Q) hN1 hen1 (by omega) (by omega) ses w1 x1)
end
section
/-! a crash: the image is loaded, the log is done again -/
theorem zx_H_ext {f_nodes : Int32} {a_path a_data a_version a_childVersion a_created a_setAt a_owner a_bucket : Nat → Int32} {C C' : zn_Mp} (H : zx_H f_nodes a_path a_data a_version a_childVersion a_created a_setAt a_owner a_bucket C) (h : ∀ p, C' p = C p) : zx_H f_nodes a_path a_data a_version a_childVersion a_created a_setAt a_owner a_bucket C' :=
  ⟨H.1, zr_congr H.2.1 (fun _ _ => rfl) (fun _ _ _ => rfl) h, H.2.2⟩
/-- there is a free slot where few paths are possible -/
theorem zx_room {path : Nat → Int32} {nd : Nat → zn_Nd} {R : zn_Mp} {m : Nat} {V : Nat → Int32} (H : zr_Rep 48 path nd R) (hm : m < 48) (hV : ∀ p, (R p).isSome = true → ∃ j, j < m ∧ V j = p) : ∃ f, f < 48 ∧ (path f).toInt < 0 := by
  have h1 : zc_cnt (zr_oc path (fun _ => true)) 48 ≤ zc_cnt (fun _ => true) m := by
    refine zc_le (g := path) (g' := V) (fun s s' hs hs' h1 _ e => H.2.2 s s' hs hs' (zr_oc1.mp h1) e) (fun s hs h1 => ?_)
    obtain ⟨j, hj, ej⟩ := hV (path s) (by rw [H.1 s hs (zr_oc1.mp h1)]; rfl)
    exact ⟨j, hj, rfl, ej⟩
  rw [zc_all (f := fun _ => true) (N := m) (fun _ _ => rfl)] at h1
  obtain ⟨s, hs, h2⟩ := zc_ex (f := zr_oc path (fun _ => true)) (N := 48) (by omega)
  exact ⟨s, hs, zr_oc0.mp h2⟩
/-- a count is set -/
def zr_par (R : zn_Mp) (q v : Int32) : zn_Mp := fun x => if x = q then (R x).map (fun n => (n.1, n.2.1, v, n.2.2.2.1, n.2.2.2.2.1, n.2.2.2.2.2)) else R x
section
variable {f_nodes f_time f_latest f_entries f_logged f_complete f_taken f_sinceEntry f_sinceCount f_parts f_wrongPart f_watches : Int32} {a_path a_data a_version a_childVersion a_created a_setAt a_owner a_firstChild a_sibling a_bucket a_open a_timeout a_deadline a_eKind a_ePath a_eData a_eOwner a_eVersion a_eNumber a_iPath a_iData a_iVersion a_iChildVersion a_iCreated a_iSet a_iOwner a_iTimeout a_iLatest a_pKind a_pPath a_pA a_pB a_uEntry a_uSlot a_uData a_uVersion a_uSet a_uChildVersion a_uCreated a_uOwner a_wSession a_wKind a_wPath a_queue a_queued : Nat → Int32}
theorem zx_empty {post : SX → Prop} (h : ∀ p1 fc1 bk1 : Nat → Int32, (∀ s, s < 48 → p1 s = -1) → (∀ s, s < 48 → fc1 s = -1) → (∀ k, k < 128 → bk1 k = -1) → post (0, f_time, f_latest, f_entries, f_logged, f_complete, f_taken, f_sinceEntry, f_sinceCount, f_parts, f_wrongPart, f_watches, p1, a_data, a_version, a_childVersion, a_created, a_setAt, a_owner, fc1, a_sibling, bk1, a_open, a_timeout, a_deadline, a_eKind, a_ePath, a_eData, a_eOwner, a_eVersion, a_eNumber, a_iPath, a_iData, a_iVersion, a_iChildVersion, a_iCreated, a_iSet, a_iOwner, a_iTimeout, a_iLatest, a_pKind, a_pPath, a_pA, a_pB, a_uEntry, a_uSlot, a_uData, a_uVersion, a_uSet, a_uChildVersion, a_uCreated, a_uOwner, a_wSession, a_wKind, a_wPath, a_queue, a_queued)) : wpX_empty post (f_nodes, f_time, f_latest, f_entries, f_logged, f_complete, f_taken, f_sinceEntry, f_sinceCount, f_parts, f_wrongPart, f_watches, a_path, a_data, a_version, a_childVersion, a_created, a_setAt, a_owner, a_firstChild, a_sibling, a_bucket, a_open, a_timeout, a_deadline, a_eKind, a_ePath, a_eData, a_eOwner, a_eVersion, a_eNumber, a_iPath, a_iData, a_iVersion, a_iChildVersion, a_iCreated, a_iSet, a_iOwner, a_iTimeout, a_iLatest, a_pKind, a_pPath, a_pA, a_pB, a_uEntry, a_uSlot, a_uData, a_uVersion, a_uSet, a_uChildVersion, a_uCreated, a_uOwner, a_wSession, a_wKind, a_wPath, a_queue, a_queued) := by
  have lp2 : ∀ p1 fc1 : Nat → Int32, (∀ s, s < 48 → p1 s = -1) → (∀ s, s < 48 → fc1 s = -1) → ∀ (d i : Nat) (bk : Nat → Int32), i + d = 128 → (∀ k, k < i → bk k = -1) → wX_empty_30 post f_nodes f_time f_latest f_entries f_logged f_complete f_taken f_sinceEntry f_sinceCount f_parts f_wrongPart f_watches (d + 1) (nI i) p1 a_data a_version a_childVersion a_created a_setAt a_owner fc1 a_sibling bk a_open a_timeout a_deadline a_eKind a_ePath a_eData a_eOwner a_eVersion a_eNumber a_iPath a_iData a_iVersion a_iChildVersion a_iCreated a_iSet a_iOwner a_iTimeout a_iLatest a_pKind a_pPath a_pA a_pB a_uEntry a_uSlot a_uData a_uVersion a_uSet a_uChildVersion a_uCreated a_uOwner a_wSession a_wKind a_wPath a_queue a_queued := by
    intro p1 fc1 h1 h2 d
    induction d with
    | zero =>
      intro i bk hi hb
      have : i = 128 := by omega
      subst this
      exact br_t (by decide) (h p1 fc1 bk h1 h2 hb)
    | succ d ih =>
      intro i bk hi hb
      refine br_f (nI_ge (b := 128) (by omega) (by decide)) (zz_st rfl (by omega) (by decide) zb_narM (nm_r (nI_1 i) (ih (i + 1) _ (by omega) (fun k hk => ?_))))
      by_cases z : k = i
      · rw [z, pk_us]
      · rw [pk_un z]; exact hb k (by omega)
  have lp1 : ∀ (d i : Nat) (p1 fc1 : Nat → Int32), i + d = 48 → (∀ s, s < i → p1 s = -1) → (∀ s, s < i → fc1 s = -1) → wX_empty_2 post f_nodes f_time f_latest f_entries f_logged f_complete f_taken f_sinceEntry f_sinceCount f_parts f_wrongPart f_watches (d + 1) (nI i) p1 a_data a_version a_childVersion a_created a_setAt a_owner fc1 a_sibling a_bucket a_open a_timeout a_deadline a_eKind a_ePath a_eData a_eOwner a_eVersion a_eNumber a_iPath a_iData a_iVersion a_iChildVersion a_iCreated a_iSet a_iOwner a_iTimeout a_iLatest a_pKind a_pPath a_pA a_pB a_uEntry a_uSlot a_uData a_uVersion a_uSet a_uChildVersion a_uCreated a_uOwner a_wSession a_wKind a_wPath a_queue a_queued := by
    intro d
    induction d with
    | zero =>
      intro i p1 fc1 hi h1 h2
      have : i = 48 := by omega
      subst this
      exact br_t (by decide) (Exists.intro 129 (lp2 p1 fc1 h1 h2 128 0 _ rfl (fun k hk => by omega)))
    | succ d ih =>
      intro i p1 fc1 hi h1 h2
      refine br_f (nI_ge (b := 48) (by omega) (by decide)) (zz_st rfl (by omega) (by decide) rfl (zz_st rfl (by omega) (by decide) zb_narM (nm_r (nI_1 i) (ih (i + 1) _ _ (by omega) (fun k hk => ?_) (fun k hk => ?_)))))
      · by_cases z : k = i
        · rw [z, pk_us]
        · rw [pk_un z]; exact h1 k (by omega)
      · by_cases z : k = i
        · rw [z, pk_us]
        · rw [pk_un z]; exact h2 k (by omega)
  exact Exists.intro 49 (lp1 48 0 _ _ rfl (fun k hk => by omega) (fun k hk => by omega))
theorem zx_H0 {p1 bk1 : Nat → Int32} (h1 : ∀ s, s < 48 → p1 s = -1) (h2 : ∀ k, k < 128 → bk1 k = -1) : zx_H 0 p1 a_data a_version a_childVersion a_created a_setAt a_owner bk1 (fun _ => none) := by
  have no : ∀ s, s < 48 → ¬ 0 ≤ (p1 s).toInt := fun s hs => by rw [h1 s hs, zb_tm1]; omega
  refine ⟨⟨fun k hk => Or.inl (h2 k hk), fun s hs ho => absurd ho (no s hs), fun k k' s hk _ hs e => ?_⟩, ⟨fun s hs h0 => absurd h0 (no s hs), (fun p x e => nomatch e), fun s s' hs _ h0 => absurd h0 (no s hs)⟩, ?_, fun s hs _ => h1 s hs⟩
  · rw [h2 k hk] at e; exact absurd e.symm (zh_m1 hs)
  · have : zr_n p1 48 = 0 := by
      have := zc_ext' (f := zr_oc p1 (fun _ => true)) (n := 0) (N := 48) (by omega) (fun s _ hs => zr_oc0.mpr (by rw [h1 s hs]; decide))
      exact this
    rw [this]; rfl
theorem zx_load31 {post : SX → Prop} {R : zn_Mp} {k s : Nat} (H : zx_H f_nodes a_path a_data a_version a_childVersion a_created a_setAt a_owner a_bucket R) (hk : k < 42) (hs : s < 48) (s0 : 0 ≤ (a_path s).toInt) (ho : -1 ≤ (a_iOwner k).toInt ∧ (a_iOwner k).toInt ≤ 3)
    (h : ∀ (a_data1 a_version1 a_childVersion1 a_created1 a_setAt1 a_owner1 : Nat → Int32), zx_H f_nodes a_path a_data1 a_version1 a_childVersion1 a_created1 a_setAt1 a_owner1 a_bucket (zr_set R (a_path s) (some (zn_nd a_iData a_iVersion a_iChildVersion a_iCreated a_iSet a_iOwner k))) → post (f_nodes, f_time, f_latest, f_entries, f_logged, f_complete, f_taken, f_sinceEntry, f_sinceCount, f_parts, f_wrongPart, f_watches, a_path, a_data1, a_version1, a_childVersion1, a_created1, a_setAt1, a_owner1, a_firstChild, a_sibling, a_bucket, a_open, a_timeout, a_deadline, a_eKind, a_ePath, a_eData, a_eOwner, a_eVersion, a_eNumber, a_iPath, a_iData, a_iVersion, a_iChildVersion, a_iCreated, a_iSet, a_iOwner, a_iTimeout, a_iLatest, a_pKind, a_pPath, a_pA, a_pB, a_uEntry, a_uSlot, a_uData, a_uVersion, a_uSet, a_uChildVersion, a_uCreated, a_uOwner, a_wSession, a_wKind, a_wPath, a_queue, a_queued)) : wX_load_31 post (nI k) (nI s) f_nodes f_time f_latest f_entries f_logged f_complete f_taken f_sinceEntry f_sinceCount f_parts f_wrongPart f_watches a_path a_data a_version a_childVersion a_created a_setAt a_owner a_firstChild a_sibling a_bucket a_open a_timeout a_deadline a_eKind a_ePath a_eData a_eOwner a_eVersion a_eNumber a_iPath a_iData a_iVersion a_iChildVersion a_iCreated a_iSet a_iOwner a_iTimeout a_iLatest a_pKind a_pPath a_pA a_pB a_uEntry a_uSlot a_uData a_uVersion a_uSet a_uChildVersion a_uCreated a_uOwner a_wSession a_wKind a_wPath a_queue a_queued := by
  have hc := nI_clamp (n := k) (by omega)
  refine zz_in rfl hk (by decide) (zz_st rfl hs (by decide) (v' := a_iData k) (by rw [hc]) ?_)
  refine zz_in rfl hk (by decide) (zz_st rfl hs (by decide) (v' := a_iVersion k) (by rw [hc]) ?_)
  refine zz_in rfl hk (by decide) (zz_st rfl hs (by decide) (v' := a_iChildVersion k) (by rw [hc]) ?_)
  refine zz_in rfl hk (by decide) (zz_st rfl hs (by decide) (v' := a_iCreated k) (by rw [hc]) ?_)
  refine zz_in rfl hk (by decide) (zz_st rfl hs (by decide) (v' := a_iSet k) (by rw [hc]) ?_)
  refine zz_in rfl hk (by decide) (zz_st rfl hs (by decide) (v' := a_iOwner k) (by rw [hc]; exact zb_nar (by omega) (by omega)) ?_)
  refine h _ _ _ _ _ _ ⟨H.1, ?_, H.2.2⟩
  have R2 := zr_upd (nd' := zn_nd (upd a_data s (a_iData k)) (upd a_version s (a_iVersion k)) (upd a_childVersion s (a_iChildVersion k)) (upd a_created s (a_iCreated k)) (upd a_setAt s (a_iSet k)) (upd a_owner s (a_iOwner k))) H.2.1 hs s0 (fun j _ hn _ => by simp only [zn_nd, pk_un hn])
  have e : zn_nd (upd a_data s (a_iData k)) (upd a_version s (a_iVersion k)) (upd a_childVersion s (a_iChildVersion k)) (upd a_created s (a_iCreated k)) (upd a_setAt s (a_iSet k)) (upd a_owner s (a_iOwner k)) s = zn_nd a_iData a_iVersion a_iChildVersion a_iCreated a_iSet a_iOwner k := by
    simp only [zn_nd, pk_us]
  rw [e] at R2
  exact R2
theorem zx_load {post : SX → Prop} {R : zn_Mp} {k f : Nat} (H : zx_H f_nodes a_path a_data a_version a_childVersion a_created a_setAt a_owner a_bucket R) (hk : k < 42) (hp : 0 ≤ (a_iPath k).toInt) (ho : -1 ≤ (a_iOwner k).toInt ∧ (a_iOwner k).toInt ≤ 3) (hf : f < 48) (hf0 : (a_path f).toInt < 0)
    (h : ∀ (f_nodes1 : Int32) (a_path1 a_data1 a_version1 a_childVersion1 a_created1 a_setAt1 a_owner1 a_firstChild1 a_sibling1 a_bucket1 : Nat → Int32), zx_H f_nodes1 a_path1 a_data1 a_version1 a_childVersion1 a_created1 a_setAt1 a_owner1 a_bucket1 (zr_set R (a_iPath k) (some (zn_nd a_iData a_iVersion a_iChildVersion a_iCreated a_iSet a_iOwner k))) → post (f_nodes1, f_time, f_latest, f_entries, f_logged, f_complete, f_taken, f_sinceEntry, f_sinceCount, f_parts, f_wrongPart, f_watches, a_path1, a_data1, a_version1, a_childVersion1, a_created1, a_setAt1, a_owner1, a_firstChild1, a_sibling1, a_bucket1, a_open, a_timeout, a_deadline, a_eKind, a_ePath, a_eData, a_eOwner, a_eVersion, a_eNumber, a_iPath, a_iData, a_iVersion, a_iChildVersion, a_iCreated, a_iSet, a_iOwner, a_iTimeout, a_iLatest, a_pKind, a_pPath, a_pA, a_pB, a_uEntry, a_uSlot, a_uData, a_uVersion, a_uSet, a_uChildVersion, a_uCreated, a_uOwner, a_wSession, a_wKind, a_wPath, a_queue, a_queued)) : wpX_load post (f_nodes, f_time, f_latest, f_entries, f_logged, f_complete, f_taken, f_sinceEntry, f_sinceCount, f_parts, f_wrongPart, f_watches, a_path, a_data, a_version, a_childVersion, a_created, a_setAt, a_owner, a_firstChild, a_sibling, a_bucket, a_open, a_timeout, a_deadline, a_eKind, a_ePath, a_eData, a_eOwner, a_eVersion, a_eNumber, a_iPath, a_iData, a_iVersion, a_iChildVersion, a_iCreated, a_iSet, a_iOwner, a_iTimeout, a_iLatest, a_pKind, a_pPath, a_pA, a_pB, a_uEntry, a_uSlot, a_uData, a_uVersion, a_uSet, a_uChildVersion, a_uCreated, a_uOwner, a_wSession, a_wKind, a_wPath, a_queue, a_queued) (nI k) := by
  have hc := nI_clamp (n := k) (by omega)
  refine zz_in rfl hk (by decide) ?_
  rw [hc]
  refine zx_find H (fun e => br_f (by decide) ?_) (fun s hs es s0 e => br_t (nI_pos' (by omega)) (zx_load31 H hk hs s0 ho (fun a_data1 a_version1 a_childVersion1 a_created1 a_setAt1 a_owner1 H1 => ?_)))
  · refine zx_free hf hf0 (fun s hs hs0 _ => zz_in rfl hk (by decide) (zx_place H hs hs0 hp e (fun bk H1 => ?_)))
    refine zx_load31 H1 hk hs (by rw [pk_us]; exact hp) ho (fun a_data1 a_version1 a_childVersion1 a_created1 a_setAt1 a_owner1 H2 => h _ _ _ _ _ _ _ _ _ _ _ ?_)
    rw [pk_us] at H2
    refine zx_H_ext H2 (fun p => ?_)
    unfold zr_set
    by_cases z : p = a_iPath k
    · rw [if_pos z, if_pos z]
    · rw [if_neg z, if_neg z, if_neg z]
  · rw [es] at H1
    exact h _ _ _ _ _ _ _ _ _ _ _ H1
theorem zx_again237 {post : SX → Prop} {R : zn_Mp} {e : Nat} {p : Int32} (H : zx_H f_nodes a_path a_data a_version a_childVersion a_created a_setAt a_owner a_bucket R) (he : e < 400)
    (h : ∀ a_childVersion1 : Nat → Int32, zx_H f_nodes a_path a_data a_version a_childVersion1 a_created a_setAt a_owner a_bucket (zr_par R (p / 101) (a_eVersion e)) → post (f_nodes, f_time, f_latest, f_entries, f_logged, f_complete, f_taken, f_sinceEntry, f_sinceCount, f_parts, f_wrongPart, f_watches, a_path, a_data, a_version, a_childVersion1, a_created, a_setAt, a_owner, a_firstChild, a_sibling, a_bucket, a_open, a_timeout, a_deadline, a_eKind, a_ePath, a_eData, a_eOwner, a_eVersion, a_eNumber, a_iPath, a_iData, a_iVersion, a_iChildVersion, a_iCreated, a_iSet, a_iOwner, a_iTimeout, a_iLatest, a_pKind, a_pPath, a_pA, a_pB, a_uEntry, a_uSlot, a_uData, a_uVersion, a_uSet, a_uChildVersion, a_uCreated, a_uOwner, a_wSession, a_wKind, a_wPath, a_queue, a_queued)) : wX_again_237 post (nI e) p f_nodes f_time f_latest f_entries f_logged f_complete f_taken f_sinceEntry f_sinceCount f_parts f_wrongPart f_watches a_path a_data a_version a_childVersion a_created a_setAt a_owner a_firstChild a_sibling a_bucket a_open a_timeout a_deadline a_eKind a_ePath a_eData a_eOwner a_eVersion a_eNumber a_iPath a_iData a_iVersion a_iChildVersion a_iCreated a_iSet a_iOwner a_iTimeout a_iLatest a_pKind a_pPath a_pA a_pB a_uEntry a_uSlot a_uData a_uVersion a_uSet a_uChildVersion a_uCreated a_uOwner a_wSession a_wKind a_wPath a_queue a_queued := by
  have hc := nI_clamp (n := e) (by omega)
  refine And.intro zb_101n (zx_find H (fun e => br_t (by decide) (h _ (zx_H_ext H fun x => ?_))) (fun s hs es s0 eR => br_f (nI_pos (by omega)) (zz_in rfl he (by decide) (zz_st rfl hs (by decide) (v' := a_eVersion e) (by rw [hc]) (h _ ?_)))))
  · unfold zr_par
    by_cases z : x = p / 101
    · rw [if_pos z, z, e]; rfl
    · rw [if_neg z]
  · refine ⟨H.1, ?_, H.2.2⟩
    have R2 := zr_upd (nd' := zn_nd a_data a_version (upd a_childVersion s (a_eVersion e)) a_created a_setAt a_owner) H.2.1 hs s0 (fun j _ hn _ => by simp only [zn_nd, pk_un hn])
    refine zr_congr R2 (fun _ _ => rfl) (fun _ _ _ => rfl) (fun x => ?_)
    unfold zr_par zr_set
    by_cases z : x = p / 101
    · rw [if_pos z, if_pos (by rw [z, es]), z, eR]
      simp only [zn_nd, pk_us, Option.map_some]
    · rw [if_neg z, if_neg (by rw [es]; exact z)]
theorem zx_again {post : SX → Prop} {R : zn_Mp} {e f : Nat} (H : zx_H f_nodes a_path a_data a_version a_childVersion a_created a_setAt a_owner a_bucket R) (he : e < 400) (W : zf_W (zf_en a_eKind a_ePath a_eData a_eOwner a_eVersion a_eNumber e)) (hf : f < 48) (hf0 : (a_path f).toInt < 0)
    (h : ∀ (f_nodes1 : Int32) (a_path1 a_data1 a_version1 a_childVersion1 a_created1 a_setAt1 a_owner1 a_firstChild1 a_sibling1 a_bucket1 : Nat → Int32) (op1 tm1 : Nat → Int32), zx_H f_nodes1 a_path1 a_data1 a_version1 a_childVersion1 a_created1 a_setAt1 a_owner1 a_bucket1 (zf_ap (zf_en a_eKind a_ePath a_eData a_eOwner a_eVersion a_eNumber e) R) → (∀ s, s < 4 → (op1 s, tm1 s) = zf_s (zf_en a_eKind a_ePath a_eData a_eOwner a_eVersion a_eNumber e) s (a_open s, a_timeout s)) → (∀ s, 4 ≤ s → op1 s = a_open s) → post (f_nodes1, f_time, a_eNumber e, f_entries, f_logged, f_complete, f_taken, f_sinceEntry, f_sinceCount, f_parts, f_wrongPart, f_watches, a_path1, a_data1, a_version1, a_childVersion1, a_created1, a_setAt1, a_owner1, a_firstChild1, a_sibling1, a_bucket1, op1, tm1, a_deadline, a_eKind, a_ePath, a_eData, a_eOwner, a_eVersion, a_eNumber, a_iPath, a_iData, a_iVersion, a_iChildVersion, a_iCreated, a_iSet, a_iOwner, a_iTimeout, a_iLatest, a_pKind, a_pPath, a_pA, a_pB, a_uEntry, a_uSlot, a_uData, a_uVersion, a_uSet, a_uChildVersion, a_uCreated, a_uOwner, a_wSession, a_wKind, a_wPath, a_queue, a_queued)) : wpX_again post (f_nodes, f_time, f_latest, f_entries, f_logged, f_complete, f_taken, f_sinceEntry, f_sinceCount, f_parts, f_wrongPart, f_watches, a_path, a_data, a_version, a_childVersion, a_created, a_setAt, a_owner, a_firstChild, a_sibling, a_bucket, a_open, a_timeout, a_deadline, a_eKind, a_ePath, a_eData, a_eOwner, a_eVersion, a_eNumber, a_iPath, a_iData, a_iVersion, a_iChildVersion, a_iCreated, a_iSet, a_iOwner, a_iTimeout, a_iLatest, a_pKind, a_pPath, a_pA, a_pB, a_uEntry, a_uSlot, a_uData, a_uVersion, a_uSet, a_uChildVersion, a_uCreated, a_uOwner, a_wSession, a_wKind, a_wPath, a_queue, a_queued) (nI e) := by
  have hc := nI_clamp (n := e) (by omega)
  have en : zf_en a_eKind a_ePath a_eData a_eOwner a_eVersion a_eNumber e = (a_eKind e, a_ePath e, a_eData e, a_eOwner e, a_eVersion e, a_eNumber e) := rfl
  rw [en] at W h
  obtain ⟨⟨ow1, ow2⟩, W⟩ := W
  dsimp only at ow1 ow2 W
  refine zz_in rfl he (by decide) (nm_r (e' := a_eNumber e) (by rw [hc]) (zz_in rfl he (by decide) (nm_r (e' := a_eKind e) (by rw [hc]) (zz_in rfl he (by decide) (nm_r (e' := a_ePath e) (by rw [hc]) ?_)))))
  -- what does not touch sessions
  have ses0 : ¬ a_eKind e = 4 → ¬ a_eKind e = 5 → ∀ s, s < 4 → (a_open s, a_timeout s) = zf_s (a_eKind e, a_ePath e, a_eData e, a_eOwner e, a_eVersion e, a_eNumber e) s (a_open s, a_timeout s) := fun h4 h5 s _ => (zf_s_id ⟨h4, h5⟩ s _).symm
  have same : ¬ a_eKind e = 1 → ¬ a_eKind e = 2 → ¬ a_eKind e = 3 → zx_H f_nodes a_path a_data a_version a_childVersion a_created a_setAt a_owner a_bucket (zf_ap (a_eKind e, a_ePath e, a_eData e, a_eOwner e, a_eVersion e, a_eNumber e) R) := fun h1 h2 h3 => zx_H_ext H fun p => zf_fo h1 h2 h3
  rcases W with z | ⟨z, hok, hp0, _, _⟩ | ⟨z, hok⟩ | ⟨z, hok, hp0⟩ | ⟨z, ⟨s, hs, es⟩, d1, d2⟩ | ⟨z, s, hs, es⟩
  · -- nothing
    refine br_f (by rw [z]; decide) (br_f (by rw [z]; decide) (br_f (by rw [z]; decide) (zx_outside (fun a _ => by rw [z] at a; exact absurd a (by decide)) (fun _ => br_f (by decide) ?_))))
    exact h _ _ _ _ _ _ _ _ _ _ _ _ _ (same (by rw [z]; decide) (by rw [z]; decide) (by rw [z]; decide)) (ses0 (by rw [z]; decide) (by rw [z]; decide)) (fun _ _ => rfl)
  · -- create
    have hmm : ¬ a_ePath e = a_ePath e / 101 := fun w => by have := (zp_lt hok hp0).2; rw [← w] at this; omega
    refine br_f (by rw [z]; decide) (br_f (by rw [z]; decide) (br_f (by rw [z]; decide) (zx_outside (fun _ _ => br_t rfl ?_) (fun hn => absurd ⟨by rw [z]; decide, by rw [z]; decide⟩ hn))))
    have fin : ∀ (s : Nat) (f_nodes2 : Int32) (a_path2 a_data2 a_version2 a_childVersion2 a_created2 a_setAt2 a_owner2 a_firstChild2 a_sibling2 a_bucket2 : Nat → Int32) (R2 : zn_Mp), zx_H f_nodes2 a_path2 a_data2 a_version2 a_childVersion2 a_created2 a_setAt2 a_owner2 a_bucket2 R2 → s < 48 → a_path2 s = a_ePath e → (∀ q, ¬ q = a_ePath e → R2 q = R q) →
        wX_again_134 post (nI e) (a_eKind e) (a_ePath e) (nI s) f_nodes2 f_time (a_eNumber e) f_entries f_logged f_complete f_taken f_sinceEntry f_sinceCount f_parts f_wrongPart f_watches a_path2 a_data2 a_version2 a_childVersion2 a_created2 a_setAt2 a_owner2 a_firstChild2 a_sibling2 a_bucket2 a_open a_timeout a_deadline a_eKind a_ePath a_eData a_eOwner a_eVersion a_eNumber a_iPath a_iData a_iVersion a_iChildVersion a_iCreated a_iSet a_iOwner a_iTimeout a_iLatest a_pKind a_pPath a_pA a_pB a_uEntry a_uSlot a_uData a_uVersion a_uSet a_uChildVersion a_uCreated a_uOwner a_wSession a_wKind a_wPath a_queue a_queued := by
      intro s f_nodes2 a_path2 a_data2 a_version2 a_childVersion2 a_created2 a_setAt2 a_owner2 a_firstChild2 a_sibling2 a_bucket2 R2 H2 hs es hR2
      refine br_f (nI_pos (by omega)) (br_f (by rw [z]; decide) (zz_in rfl he (by decide) (zz_st rfl hs (by decide) (v' := a_eData e) (by rw [hc]) (zz_in rfl he (by decide) (zz_st rfl hs (by decide) (v' := a_eNumber e) (by rw [hc]) (br_f (by rw [z]; decide) (zz_st rfl hs (by decide) rfl ?_)))))))
      refine br_f (by rw [z]; decide) (br_t z (zz_st rfl hs (by decide) rfl (zz_in rfl he (by decide) (zz_st rfl hs (by decide) (v' := a_eNumber e) (by rw [hc]) (zz_in rfl he (by decide) (zz_st rfl hs (by decide) (v' := a_eOwner e) (by rw [hc]; exact zb_nar (by omega) (by omega)) ?_))))))
      have R3 := zr_upd (nd' := zn_nd (upd a_data2 s (a_eData e)) (upd a_version2 s 0) (upd a_childVersion2 s 0) (upd a_created2 s (a_eNumber e)) (upd a_setAt2 s (a_eNumber e)) (upd a_owner2 s (a_eOwner e))) H2.2.1 hs (by rw [es]; exact hok.1) (fun j _ hn _ => by simp only [zn_nd, pk_un hn])
      have e3 : zn_nd (upd a_data2 s (a_eData e)) (upd a_version2 s 0) (upd a_childVersion2 s 0) (upd a_created2 s (a_eNumber e)) (upd a_setAt2 s (a_eNumber e)) (upd a_owner2 s (a_eOwner e)) s = (a_eData e, 0, 0, a_eNumber e, a_eNumber e, a_eOwner e) := by simp only [zn_nd, pk_us]
      rw [e3, es] at R3
      refine zx_again237 ⟨H2.1, R3, H2.2.2⟩ he (fun cv1 H4 => h _ _ _ _ _ _ _ _ _ _ _ _ _ (zx_H_ext H4 fun q => ?_) (ses0 (by rw [z]; decide) (by rw [z]; decide)) (fun _ _ => rfl))
      unfold zf_ap zr_par zr_set
      rw [z]
      by_cases c1 : q = a_ePath e
      · rw [if_neg (by rw [c1]; exact hmm), if_pos c1, c1, zf_f1s]
      · by_cases c2 : q = a_ePath e / 101
        · rw [if_pos c2, if_neg c1, zf_f1u (fun w => c1 w.symm) c2.symm, hR2 q c1]
        · rw [if_neg c2, if_neg c1, zf_f1o (fun w => c1 w.symm) (fun w => c2 w.symm), hR2 q c1]
    refine zx_find H (fun eR => br_f (by rw [z]; decide) (br_t z (br_f (by decide) ?_))) (fun s hs es s0 eR => br_f (by rw [z]; decide) (br_t z (br_t (nI_pos' (by omega)) (fin s _ _ _ _ _ _ _ _ _ _ _ R H hs es (fun _ _ => rfl)))))
    refine zx_free hf hf0 (fun s hs hs0 _ => zx_place H hs hs0 hok.1 eR (fun bk H1 => ?_))
    exact fin s _ _ _ _ _ _ _ _ _ _ _ _ H1 hs pk_us (fun q hq => zr_set_n hq)
  · -- set
    refine br_f (by rw [z]; decide) (br_f (by rw [z]; decide) (br_f (by rw [z]; decide) (zx_outside (fun _ _ => br_t rfl ?_) (fun hn => absurd ⟨by rw [z]; decide, by rw [z]; decide⟩ hn))))
    refine zx_find H (fun eR => br_f (by rw [z]; decide) (br_f (by rw [z]; decide) (br_t (by decide) (br_t z ?_)))) (fun s hs es s0 eR => br_f (by rw [z]; decide) (br_f (by rw [z]; decide) (br_f (nI_pos (by omega)) (br_f (by rw [z]; decide) ?_))))
    · refine h _ _ _ _ _ _ _ _ _ _ _ _ _ (zx_H_ext H fun q => ?_) (ses0 (by rw [z]; decide) (by rw [z]; decide)) (fun _ _ => rfl)
      unfold zf_ap
      rw [z]
      by_cases c1 : a_ePath e = q
      · rw [← c1, zf_f2s, eR]; rfl
      · rw [zf_f2o c1]
    · refine zz_in rfl he (by decide) (zz_st rfl hs (by decide) (v' := a_eData e) (by rw [hc]) (zz_in rfl he (by decide) (zz_st rfl hs (by decide) (v' := a_eNumber e) (by rw [hc]) (br_t z (zz_in rfl he (by decide) (zz_st rfl hs (by decide) (v' := a_eVersion e) (by rw [hc]) (br_t z ?_)))))))
      refine h _ _ _ _ _ _ _ _ _ _ _ _ _ ⟨H.1, ?_, H.2.2⟩ (ses0 (by rw [z]; decide) (by rw [z]; decide)) (fun _ _ => rfl)
      have R3 := zr_upd (nd' := zn_nd (upd a_data s (a_eData e)) (upd a_version s (a_eVersion e)) a_childVersion a_created (upd a_setAt s (a_eNumber e)) a_owner) H.2.1 hs s0 (fun j _ hn _ => by simp only [zn_nd, pk_un hn])
      refine zr_congr R3 (fun _ _ => rfl) (fun _ _ _ => rfl) (fun q => ?_)
      unfold zf_ap zr_set
      rw [z, es]
      by_cases c1 : q = a_ePath e
      · rw [if_pos c1, c1, zf_f2s, eR]
        simp only [zn_nd, pk_us, Option.map_some]
      · rw [if_neg c1, zf_f2o (fun w => c1 w.symm)]
  · -- remove
    have hmm : ¬ a_ePath e = a_ePath e / 101 := fun w => by have := (zp_lt hok hp0).2; rw [← w] at this; omega
    refine br_f (by rw [z]; decide) (br_f (by rw [z]; decide) (br_f (by rw [z]; decide) (zx_outside (fun _ _ => br_t rfl ?_) (fun hn => absurd ⟨by rw [z]; decide, by rw [z]; decide⟩ hn))))
    have fin : ∀ (f_nodes2 : Int32) (a_path2 a_data2 a_version2 a_childVersion2 a_created2 a_setAt2 a_owner2 a_firstChild2 a_sibling2 a_bucket2 : Nat → Int32) (R2 : zn_Mp) (r : Int32), zx_H f_nodes2 a_path2 a_data2 a_version2 a_childVersion2 a_created2 a_setAt2 a_owner2 a_bucket2 R2 → R2 (a_ePath e) = none → (∀ q, ¬ q = a_ePath e → R2 q = R q) → wX_again_111 post (nI e) (a_eKind e) (a_ePath e) r f_nodes2 f_time (a_eNumber e) f_entries f_logged f_complete f_taken f_sinceEntry f_sinceCount f_parts f_wrongPart f_watches a_path2 a_data2 a_version2 a_childVersion2 a_created2 a_setAt2 a_owner2 a_firstChild2 a_sibling2 a_bucket2 a_open a_timeout a_deadline a_eKind a_ePath a_eData a_eOwner a_eVersion a_eNumber a_iPath a_iData a_iVersion a_iChildVersion a_iCreated a_iSet a_iOwner a_iTimeout a_iLatest a_pKind a_pPath a_pA a_pB a_uEntry a_uSlot a_uData a_uVersion a_uSet a_uChildVersion a_uCreated a_uOwner a_wSession a_wKind a_wPath a_queue a_queued := by
      intro f_nodes2 a_path2 a_data2 a_version2 a_childVersion2 a_created2 a_setAt2 a_owner2 a_firstChild2 a_sibling2 a_bucket2 R2 r H2 e2 hR2
      have nxt : wX_again_192 post (nI e) (a_eKind e) (a_ePath e) r f_nodes2 f_time (a_eNumber e) f_entries f_logged f_complete f_taken f_sinceEntry f_sinceCount f_parts f_wrongPart f_watches a_path2 a_data2 a_version2 a_childVersion2 a_created2 a_setAt2 a_owner2 a_firstChild2 a_sibling2 a_bucket2 a_open a_timeout a_deadline a_eKind a_ePath a_eData a_eOwner a_eVersion a_eNumber a_iPath a_iData a_iVersion a_iChildVersion a_iCreated a_iSet a_iOwner a_iTimeout a_iLatest a_pKind a_pPath a_pA a_pB a_uEntry a_uSlot a_uData a_uVersion a_uSet a_uChildVersion a_uCreated a_uOwner a_wSession a_wKind a_wPath a_queue a_queued := by
        refine br_f (by rw [z]; decide) (br_f (by rw [z]; decide) (zx_again237 H2 he (fun cv1 H4 => h _ _ _ _ _ _ _ _ _ _ _ _ _ (zx_H_ext H4 fun q => ?_) (ses0 (by rw [z]; decide) (by rw [z]; decide)) (fun _ _ => rfl))))
        unfold zf_ap zr_par
        rw [z]
        by_cases c1 : q = a_ePath e
        · rw [if_neg (by rw [c1]; exact hmm), c1, zf_f3s, e2]
        · by_cases c2 : q = a_ePath e / 101
          · rw [if_pos c2, zf_f3u (fun w => c1 w.symm) c2.symm, hR2 q c1]
          · rw [if_neg c2, zf_f3o (fun w => c1 w.symm) (fun w => c2 w.symm), hR2 q c1]
      refine br_f (by rw [z]; decide) ?_
      exact br_c (fun _ => nxt) (fun _ => br_t z nxt)
    refine zx_find H (fun eR => br_t z (br_t (by decide) (fin _ _ _ _ _ _ _ _ _ _ _ R _ H eR (fun _ _ => rfl)))) (fun s hs es s0 eR => br_t z (br_f (nI_pos (by omega)) (zx_release H hs s0 (fun bk H1 => ?_))))
    rw [es] at H1
    exact fin _ _ _ _ _ _ _ _ _ _ _ _ _ H1 zr_set_s (fun q hq => zr_set_n hq)
  · -- a session comes
    refine br_t z (zz_in rfl he (by decide) (zz_in rfl he (by decide) ?_))
    rw [hc, es]
    refine zz_st rfl hs (by decide) (zb_nar2 (by omega) (by omega)) (br_t z (zz_in rfl he (by decide) (br_t z ?_)))
    rw [hc, es]
    refine zz_st rfl hs (by decide) zb_b1 (zx_outside (fun _ b => by rw [z] at b; exact absurd b (by decide)) (fun _ => br_f (by decide) ?_))
    refine h _ _ _ _ _ _ _ _ _ _ _ _ _ (same (by rw [z]; decide) (by rw [z]; decide) (by rw [z]; decide)) (fun j hj => ?_) (fun j hj => pk_un (by omega))
    unfold zf_s
    by_cases c : j = s
    · rw [if_pos ⟨z, by rw [c]; exact es⟩, c, pk_us, pk_us]
    · rw [if_neg (fun w => c ((nI_eq (by omega) (by omega)).mp (es.symm.trans w.2)).symm), if_neg (fun w => by rw [show a_eKind e = 5 from w.1] at z; exact absurd z (by decide)), pk_un c, pk_un c]
  · -- a session goes
    refine br_f (by rw [z]; decide) (br_f (by rw [z]; decide) (br_t z (zz_in rfl he (by decide) (br_f (by rw [z]; decide) ?_))))
    rw [hc, es]
    refine zz_st rfl hs (by decide) zb_b0 (zx_outside (fun _ b => by rw [z] at b; exact absurd b (by decide)) (fun _ => br_f (by decide) ?_))
    refine h _ _ _ _ _ _ _ _ _ _ _ _ _ (same (by rw [z]; decide) (by rw [z]; decide) (by rw [z]; decide)) (fun j hj => ?_) (fun j hj => pk_un (by omega))
    unfold zf_s
    rw [if_neg (fun w => by rw [show a_eKind e = 4 from w.1] at z; exact absurd z (by decide))]
    by_cases c : j = s
    · rw [if_pos ⟨z, by rw [c]; exact es⟩, c, pk_us]
    · rw [if_neg (fun w => c ((nI_eq (by omega) (by omega)).mp (es.symm.trans w.2)).symm), pk_un c]
end
end
section
/-! all nodes into the first slots -/
theorem zc_mono {f : Nat → Bool} {n : Nat} : ∀ d : Nat, zc_cnt f n ≤ zc_cnt f (n + d)
  | 0 => Nat.le_refl _
  | d + 1 => by
    have := zc_mono (f := f) (n := n) d
    have e : zc_cnt f (n + (d + 1)) = zc_cnt f (n + d) + (if f (n + d) = true then 1 else 0) := rfl
    omega
theorem zr_perm2 {N : Nat} {path path' : Nat → Int32} {nd nd' : Nat → zn_Nd} {C : zn_Mp} (R : zr_Rep N path nd C) (g : Nat → Nat) (hg : ∀ j, j < N → g j < N) (hgg : ∀ j, j < N → g (g j) = j)
    (e1 : ∀ j, j < N → path' j = path (g j)) (e2 : ∀ j, j < N → 0 ≤ (path (g j)).toInt → nd' j = nd (g j)) : zr_Rep N path' nd' C := by
  refine ⟨fun j hj hj0 => ?_, fun q x h => ?_, fun j j' hj hj' hj0 e => ?_⟩
  · rw [e1 j hj] at hj0 ⊢
    rw [e2 j hj hj0]
    exact R.1 (g j) (hg j hj) hj0
  · obtain ⟨q0, j, hj, ej⟩ := R.2.1 q x h
    exact ⟨q0, g j, hg j hj, by rw [e1 _ (hg j hj), hgg j hj, ej]⟩
  · rw [e1 j hj] at hj0 e
    rw [e1 j' hj'] at e
    have := R.2.2 _ _ (hg j hj) (hg j' hj') hj0 e
    rw [← hgg j hj, ← hgg j' hj', this]
/-- the first nn slots hold all -/
theorem zr_first {path : Nat → Int32} {nn : Nat} (hn : zr_n path 48 = nn) (h : ∀ s, s < nn → 0 ≤ (path s).toInt) : ∀ s, s < 48 → (0 ≤ (path s).toInt ↔ s < nn) := by
  intro s hs
  refine ⟨fun h0 => ?_, h s⟩
  rcases Nat.lt_or_ge s nn with z | z
  · exact z
  · exfalso
    have h1 : zc_cnt (zr_oc path (fun _ => true)) 48 = zc_cnt (fun j => zr_oc path (fun _ => true) j && decide (j ≠ s)) 48 + 1 := by
      refine zc_upd hs (by simp) (zr_oc1.mpr h0) (fun j _ hj => by simp [hj])
    have h2 : zc_cnt (fun j => zr_oc path (fun _ => true) j && decide (j ≠ s)) nn = nn := zc_all (fun j hj => by
      rw [zr_oc1.mpr (h j hj), decide_eq_true (by omega)]; rfl)
    have h3 := zc_mono (f := fun j => zr_oc path (fun _ => true) j && decide (j ≠ s)) (n := nn) (48 - nn)
    rw [show nn + (48 - nn) = 48 from by omega] at h3
    unfold zr_n at hn
    omega
/-- the least so far -/
def zs_l (path : Nat → Int32) (to i : Nat) (b : Int32) : Prop :=
  (b = -1 ∧ ∀ j, to ≤ j → j < i → (path j).toInt < 0) ∨
  (∃ l, to ≤ l ∧ l < i ∧ b = nI l ∧ 0 ≤ (path l).toInt ∧ ∀ j, to ≤ j → j < i → 0 ≤ (path j).toInt → (path l).toInt ≤ (path j).toInt)
section
variable {f_nodes f_time f_latest f_entries f_logged f_complete f_taken f_sinceEntry f_sinceCount f_parts f_wrongPart f_watches : Int32} {a_path a_data a_version a_childVersion a_created a_setAt a_owner a_firstChild a_sibling a_bucket a_open a_timeout a_deadline a_eKind a_ePath a_eData a_eOwner a_eVersion a_eNumber a_iPath a_iData a_iVersion a_iChildVersion a_iCreated a_iSet a_iOwner a_iTimeout a_iLatest a_pKind a_pPath a_pA a_pB a_uEntry a_uSlot a_uData a_uVersion a_uSet a_uChildVersion a_uCreated a_uOwner a_wSession a_wKind a_wPath a_queue a_queued : Nat → Int32}
theorem zx_swap {post : SX → Prop} {C : zn_Mp} {a b : Nat} (R : zr_Rep 48 a_path (zn_nd a_data a_version a_childVersion a_created a_setAt a_owner) C) (hC : ∀ p x, C p = some x → -1 ≤ x.2.2.2.2.2.toInt ∧ x.2.2.2.2.2.toInt ≤ 3) (ha : a < 48) (hb : b < 48)
    (h : ∀ (a_path1 : Nat → Int32) (a_data1 a_version1 a_childVersion1 a_created1 a_setAt1 a_owner1 : Nat → Int32), zr_Rep 48 a_path1 (zn_nd a_data1 a_version1 a_childVersion1 a_created1 a_setAt1 a_owner1) C → (∀ j, j ≠ a → j ≠ b → a_path1 j = a_path j) → a_path1 a = a_path b → a_path1 b = a_path a → post (f_nodes, f_time, f_latest, f_entries, f_logged, f_complete, f_taken, f_sinceEntry, f_sinceCount, f_parts, f_wrongPart, f_watches, a_path1, a_data1, a_version1, a_childVersion1, a_created1, a_setAt1, a_owner1, a_firstChild, a_sibling, a_bucket, a_open, a_timeout, a_deadline, a_eKind, a_ePath, a_eData, a_eOwner, a_eVersion, a_eNumber, a_iPath, a_iData, a_iVersion, a_iChildVersion, a_iCreated, a_iSet, a_iOwner, a_iTimeout, a_iLatest, a_pKind, a_pPath, a_pA, a_pB, a_uEntry, a_uSlot, a_uData, a_uVersion, a_uSet, a_uChildVersion, a_uCreated, a_uOwner, a_wSession, a_wKind, a_wPath, a_queue, a_queued)) : wpX_swap post (f_nodes, f_time, f_latest, f_entries, f_logged, f_complete, f_taken, f_sinceEntry, f_sinceCount, f_parts, f_wrongPart, f_watches, a_path, a_data, a_version, a_childVersion, a_created, a_setAt, a_owner, a_firstChild, a_sibling, a_bucket, a_open, a_timeout, a_deadline, a_eKind, a_ePath, a_eData, a_eOwner, a_eVersion, a_eNumber, a_iPath, a_iData, a_iVersion, a_iChildVersion, a_iCreated, a_iSet, a_iOwner, a_iTimeout, a_iLatest, a_pKind, a_pPath, a_pA, a_pB, a_uEntry, a_uSlot, a_uData, a_uVersion, a_uSet, a_uChildVersion, a_uCreated, a_uOwner, a_wSession, a_wKind, a_wPath, a_queue, a_queued) (nI a) (nI b) := by
  by_cases z : a = b
  · subst z
    exact br_t rfl (h _ _ _ _ _ _ _ R (fun _ _ _ => rfl) rfl rfl)
  have hca := nI_clamp (n := a) (by omega)
  have hcb := nI_clamp (n := b) (by omega)
  refine br_f (fun w => z ((nI_eq (by omega) (by omega)).mp w)) ?_
  refine zz_in rfl ha (by decide) (nm_r (e' := a_path a) (by rw [hca]) (zz_in rfl ha (by decide) (nm_r (e' := a_data a) (by rw [hca]) (zz_in rfl ha (by decide) (nm_r (e' := a_version a) (by rw [hca]) (zz_in rfl ha (by decide) (nm_r (e' := a_childVersion a) (by rw [hca]) ?_)))))))
  refine zz_in rfl ha (by decide) (nm_r (e' := a_created a) (by rw [hca]) (zz_in rfl ha (by decide) (nm_r (e' := a_setAt a) (by rw [hca]) (zz_in rfl ha (by decide) (nm_r (e' := a_owner a) (by rw [hca]) ?_)))))
  refine zz_in rfl hb (by decide) (zz_st rfl ha (by decide) (v' := a_path b) (by rw [hcb]) ?_)
  refine zz_in rfl hb (by decide) (zz_st rfl ha (by decide) (v' := a_data b) (by rw [hcb]) ?_)
  refine zz_in rfl hb (by decide) (zz_st rfl ha (by decide) (v' := a_version b) (by rw [hcb]) ?_)
  refine zz_in rfl hb (by decide) (zz_st rfl ha (by decide) (v' := a_childVersion b) (by rw [hcb]) ?_)
  refine zz_in rfl hb (by decide) (zz_st rfl ha (by decide) (v' := a_created b) (by rw [hcb]) ?_)
  refine zz_in rfl hb (by decide) (zz_st rfl ha (by decide) (v' := a_setAt b) (by rw [hcb]) ?_)
  refine zz_in rfl hb (by decide) (zz_st rfl ha (by decide) (v' := vp_nar .byte (a_owner b)) (by rw [hcb]) ?_)
  refine zz_st rfl hb (by decide) rfl (zz_st rfl hb (by decide) rfl (zz_st rfl hb (by decide) rfl (zz_st rfl hb (by decide) rfl (zz_st rfl hb (by decide) rfl (zz_st rfl hb (by decide) rfl (zz_st rfl hb (by decide) rfl ?_))))))
  have own : ∀ j, j < 48 → 0 ≤ (a_path j).toInt → -1 ≤ (a_owner j).toInt ∧ (a_owner j).toInt ≤ 3 := fun j hj h0 => hC _ _ (R.1 j hj h0)
  have zba : b ≠ a := fun w => z w.symm
  refine h _ _ _ _ _ _ _ ?_ (fun j h1 h2 => by rw [pk_un h2, pk_un h1]) (by rw [pk_un z, pk_us]) pk_us
  refine zr_perm2 R (fun j => if j = a then b else if j = b then a else j) (fun j hj => ?_) (fun j hj => ?_) (fun j hj => ?_) (fun j hj h0 => ?_)
  · by_cases w1 : j = a
    · rw [if_pos w1]; exact hb
    · rw [if_neg w1]
      by_cases w2 : j = b
      · rw [if_pos w2]; exact ha
      · rw [if_neg w2]; exact hj
  · by_cases w1 : j = a
    · rw [if_pos w1, if_neg zba, if_pos rfl, w1]
    · rw [if_neg w1]
      by_cases w2 : j = b
      · rw [if_pos w2, if_pos rfl, w2]
      · rw [if_neg w2, if_neg w1, if_neg w2]
  · by_cases w1 : j = a
    · rw [if_pos w1, w1, pk_un z, pk_us]
    · rw [if_neg w1]
      by_cases w2 : j = b
      · rw [if_pos w2, w2, pk_us]
      · rw [if_neg w2, pk_un w2, pk_un w1]
  · by_cases w1 : j = a
    · rw [if_pos w1] at h0 ⊢
      have o := own b hb h0
      have e : vp_nar .byte (a_owner b) = a_owner b := zb_nar (by omega) (by omega)
      rw [w1]
      simp only [zn_nd, pk_un z, pk_us, e]
    · rw [if_neg w1] at h0 ⊢
      by_cases w2 : j = b
      · rw [if_pos w2] at h0 ⊢
        have o := own a ha h0
        have e : vp_nar .byte (a_owner a).toInt8.toInt32 = a_owner a := zb_nar2 (by omega) (by omega)
        rw [w2]
        simp only [zn_nd, pk_us, e]
      · rw [if_neg w2]
        simp only [zn_nd, pk_un w2, pk_un w1]
theorem zx_settle17 {post : SX → Prop} {C : zn_Mp} {nn d to : Nat} (R : zr_Rep 48 a_path (zn_nd a_data a_version a_childVersion a_created a_setAt a_owner) C) (hC : ∀ p x, C p = some x → -1 ≤ x.2.2.2.2.2.toInt ∧ x.2.2.2.2.2.toInt ≤ 3) (hto : to < 48) (hex : ∃ j, to ≤ j ∧ j < 48 ∧ 0 ≤ (a_path j).toInt)
    (h : ∀ (l : Nat) (a_path1 : Nat → Int32) (a_data1 a_version1 a_childVersion1 a_created1 a_setAt1 a_owner1 : Nat → Int32), to ≤ l → l < 48 → 0 ≤ (a_path l).toInt → (∀ j, to ≤ j → j < 48 → 0 ≤ (a_path j).toInt → (a_path l).toInt ≤ (a_path j).toInt) →
      zr_Rep 48 a_path1 (zn_nd a_data1 a_version1 a_childVersion1 a_created1 a_setAt1 a_owner1) C → (∀ j, j ≠ to → j ≠ l → a_path1 j = a_path j) → a_path1 to = a_path l → a_path1 l = a_path to → wX_settle_7 post (nI nn) d (nI (to + 1)) f_nodes f_time f_latest f_entries f_logged f_complete f_taken f_sinceEntry f_sinceCount f_parts f_wrongPart f_watches a_path1 a_data1 a_version1 a_childVersion1 a_created1 a_setAt1 a_owner1 a_firstChild a_sibling a_bucket a_open a_timeout a_deadline a_eKind a_ePath a_eData a_eOwner a_eVersion a_eNumber a_iPath a_iData a_iVersion a_iChildVersion a_iCreated a_iSet a_iOwner a_iTimeout a_iLatest a_pKind a_pPath a_pA a_pB a_uEntry a_uSlot a_uData a_uVersion a_uSet a_uChildVersion a_uCreated a_uOwner a_wSession a_wKind a_wPath a_queue a_queued) :
    ∀ (m i : Nat) (b : Int32), i + m = 48 → to ≤ i → zs_l a_path to i b → wX_settle_17 post (wX_settle_7 post (nI nn) d) (nI nn) (nI to) f_nodes f_time f_latest f_entries f_logged f_complete f_taken f_sinceEntry f_sinceCount f_parts f_wrongPart f_watches a_path a_data a_version a_childVersion a_created a_setAt a_owner a_firstChild a_sibling a_bucket a_open a_timeout a_deadline a_eKind a_ePath a_eData a_eOwner a_eVersion a_eNumber a_iPath a_iData a_iVersion a_iChildVersion a_iCreated a_iSet a_iOwner a_iTimeout a_iLatest a_pKind a_pPath a_pA a_pB a_uEntry a_uSlot a_uData a_uVersion a_uSet a_uChildVersion a_uCreated a_uOwner a_wSession a_wKind a_wPath a_queue a_queued (m + 1) b (nI i) := by
  intro m
  induction m with
  | zero =>
    intro i b hi _ hb
    have : i = 48 := by omega
    subst this
    refine br_t (by decide) ?_
    rcases hb with ⟨_, hn⟩ | ⟨l, l1, l2, rfl, l3, l4⟩
    · obtain ⟨j, j1, j2, j3⟩ := hex
      have := hn j j1 j2
      omega
    · exact zx_swap R hC hto l2 (fun a_path1 a_data1 a_version1 a_childVersion1 a_created1 a_setAt1 a_owner1 R1 s1 s2 s3 => nm_r (nI_1 to) (h l _ _ _ _ _ _ _ l1 l2 l3 l4 R1 s1 s2 s3))
  | succ m ih =>
    intro i b hi hti hb
    have hc := nI_clamp (n := i) (by omega)
    refine br_f (nI_ge (b := 48) (by omega) (by decide)) (zz_in rfl (by omega) (by decide) ?_)
    rw [hc]
    by_cases c : (a_path i).toInt < 0
    · refine br_t (by rw [zb_lt0]; exact c) (nm_r (nI_1 i) (ih (i + 1) b (by omega) (by omega) ?_))
      rcases hb with ⟨e, hn⟩ | ⟨l, l1, l2, e, l3, l4⟩
      · refine Or.inl ⟨e, fun j j1 j2 => ?_⟩
        by_cases z : j = i
        · rw [z]; exact c
        · exact hn j j1 (by omega)
      · refine Or.inr ⟨l, l1, by omega, e, l3, fun j j1 j2 j3 => ?_⟩
        by_cases z : j = i
        · rw [z] at j3; omega
        · exact l4 j j1 (by omega) j3
    · refine br_f (by rw [zb_lt0]; exact c) ?_
      rcases hb with ⟨e, hn⟩ | ⟨l, l1, l2, e, l3, l4⟩
      · refine br_t (by rw [e]; decide) (nm_r (nI_1 i) (ih (i + 1) (nI i) (by omega) (by omega) (Or.inr ⟨i, hti, by omega, rfl, by omega, fun j j1 j2 j3 => ?_⟩)))
        by_cases z : j = i
        · rw [z]; omega
        · have := hn j j1 (by omega); omega
      · subst e
        have hcl := nI_clamp (n := l) (by omega)
        refine br_f (nI_pos (by omega)) (zz_in rfl (by omega) (by decide) (zz_in rfl (by omega) (by decide) ?_))
        rw [hcl]
        by_cases cl : (a_path l).toInt ≤ (a_path i).toInt
        · refine br_t (by rw [zb_le]; exact cl) (nm_r (nI_1 i) (ih (i + 1) (nI l) (by omega) (by omega) (Or.inr ⟨l, l1, by omega, rfl, l3, fun j j1 j2 j3 => ?_⟩)))
          by_cases z : j = i
          · rw [z]; exact cl
          · exact l4 j j1 (by omega) j3
        · refine br_f (by rw [zb_le]; exact cl) (nm_r (nI_1 i) (ih (i + 1) (nI i) (by omega) (by omega) (Or.inr ⟨i, hti, by omega, rfl, by omega, fun j j1 j2 j3 => ?_⟩)))
          by_cases z : j = i
          · rw [z]; omega
          · have := l4 j j1 (by omega) j3; omega
theorem zx_settle7 {post : SX → Prop} {C : zn_Mp} {nn : Nat} (hnn : nn ≤ 21) (hC : ∀ p x, C p = some x → 0 ≤ p.toInt ∧ -1 ≤ x.2.2.2.2.2.toInt ∧ x.2.2.2.2.2.toInt ≤ 3) (hroot : ∃ r, C 0 = some r) (hcnt : ∀ (path : Nat → Int32) (nd : Nat → zn_Nd), zr_Rep 48 path nd C → zr_n path 48 = nn)
    (h : ∀ (a_path1 : Nat → Int32) (a_data1 a_version1 a_childVersion1 a_created1 a_setAt1 a_owner1 : Nat → Int32), zr_Rep 48 a_path1 (zn_nd a_data1 a_version1 a_childVersion1 a_created1 a_setAt1 a_owner1) C → (∀ s, s < 48 → (a_path1 s).toInt < 0 → a_path1 s = -1) → (∀ s, s < nn → 0 ≤ (a_path1 s).toInt) → (0 < nn → a_path1 0 = 0) → ∃ n77 : Nat, wX_settle_77 post (nI nn) f_nodes f_time f_latest f_entries f_logged f_complete f_taken f_sinceEntry f_sinceCount f_parts f_wrongPart f_watches n77 0 a_path1 a_data1 a_version1 a_childVersion1 a_created1 a_setAt1 a_owner1 a_firstChild a_sibling a_bucket a_open a_timeout a_deadline a_eKind a_ePath a_eData a_eOwner a_eVersion a_eNumber a_iPath a_iData a_iVersion a_iChildVersion a_iCreated a_iSet a_iOwner a_iTimeout a_iLatest a_pKind a_pPath a_pA a_pB a_uEntry a_uSlot a_uData a_uVersion a_uSet a_uChildVersion a_uCreated a_uOwner a_wSession a_wKind a_wPath a_queue a_queued) :
    ∀ (d i : Nat) (a_path : Nat → Int32) (a_data a_version a_childVersion a_created a_setAt a_owner : Nat → Int32), i + d = nn → zr_Rep 48 a_path (zn_nd a_data a_version a_childVersion a_created a_setAt a_owner) C → (∀ s, s < 48 → (a_path s).toInt < 0 → a_path s = -1) → (∀ s, s < i → 0 ≤ (a_path s).toInt) → (0 < i → a_path 0 = 0) → wX_settle_7 post (nI nn) (d + 1) (nI i) f_nodes f_time f_latest f_entries f_logged f_complete f_taken f_sinceEntry f_sinceCount f_parts f_wrongPart f_watches a_path a_data a_version a_childVersion a_created a_setAt a_owner a_firstChild a_sibling a_bucket a_open a_timeout a_deadline a_eKind a_ePath a_eData a_eOwner a_eVersion a_eNumber a_iPath a_iData a_iVersion a_iChildVersion a_iCreated a_iSet a_iOwner a_iTimeout a_iLatest a_pKind a_pPath a_pA a_pB a_uEntry a_uSlot a_uData a_uVersion a_uSet a_uChildVersion a_uCreated a_uOwner a_wSession a_wKind a_wPath a_queue a_queued := by
  intro d
  induction d with
  | zero =>
    intro i a_path a_data a_version a_childVersion a_created a_setAt a_owner hi R neg occ r0
    have : i = nn := by omega
    subst this
    exact br_t (nI_le (Nat.le_refl _) (by omega)) (h _ _ _ _ _ _ _ R neg occ r0)
  | succ d ih =>
    intro i a_path a_data a_version a_childVersion a_created a_setAt a_owner hi R neg occ r0
    have hn := hcnt _ _ R
    have hex : ∃ j, i ≤ j ∧ j < 48 ∧ 0 ≤ (a_path j).toInt := by
      rcases Classical.em (∃ j, i ≤ j ∧ j < 48 ∧ 0 ≤ (a_path j).toInt) with w | w
      · exact w
      · exfalso
        have : zr_n a_path 48 = zr_n a_path i := zc_ext' (by omega) (fun s h1 h2 => zr_oc0.mpr (by
          rcases Int.lt_or_le (a_path s).toInt 0 with q | q
          · exact q
          · exact absurd ⟨s, h1, h2, q⟩ w))
        have := zc_leN (zr_oc a_path (fun _ => true)) i
        unfold zr_n at *
        omega
    refine br_f (nI_ge (by omega) (by omega)) (Exists.intro (48 - i + 1) (zx_settle17 R (fun p x e => (hC p x e).2) (by omega) hex (fun l a_path1 a_data1 a_version1 a_childVersion1 a_created1 a_setAt1 a_owner1 l1 l2 l3 l4 R1 s1 s2 s3 => ?_) (48 - i) i (-1) (by omega) (Nat.le_refl i) (Or.inl ⟨rfl, fun j j1 j2 => by omega⟩)))
    refine ih (i + 1) _ _ _ _ _ _ _ (by omega) R1 (fun s hs h0 => ?_) (fun s hs => ?_) (fun _ => ?_)
    · by_cases z : s = i
      · rw [z, s2] at h0; omega
      · by_cases z2 : s = l
        · rw [z2, s3] at h0 ⊢; exact neg i (by omega) h0
        · rw [s1 s z z2] at h0 ⊢; exact neg s hs h0
    · by_cases z : s = i
      · rw [z, s2]; exact l3
      · rw [s1 s z (by omega)]; exact occ s (by omega)
    · by_cases z : i = 0
      · subst z
        rw [s2]
        obtain ⟨r, hr⟩ := hroot
        obtain ⟨j, hj, ej, _, j0⟩ := zr_get R hr
        have := l4 j (by omega) hj j0
        rw [ej, zb_t0] at this
        exact zb_inj (by rw [zb_t0]; omega)
      · rw [s1 0 (by omega) (by omega)]; exact r0 (by omega)
end
end
section
/-! all nodes into the first slots: hashes and links anew -/
section
variable {f_nodes f_time f_latest f_entries f_logged f_complete f_taken f_sinceEntry f_sinceCount f_parts f_wrongPart f_watches : Int32} {a_path a_data a_version a_childVersion a_created a_setAt a_owner a_firstChild a_sibling a_bucket a_open a_timeout a_deadline a_eKind a_ePath a_eData a_eOwner a_eVersion a_eNumber a_iPath a_iData a_iVersion a_iChildVersion a_iCreated a_iSet a_iOwner a_iTimeout a_iLatest a_pKind a_pPath a_pA a_pB a_uEntry a_uSlot a_uData a_uVersion a_uSet a_uChildVersion a_uCreated a_uOwner a_wSession a_wKind a_wPath a_queue a_queued : Nat → Int32}
theorem zx_settle77 {post : SX → Prop} {nn : Nat} (h : ∀ bk : Nat → Int32, (∀ k, k < 128 → bk k = -1) → ∃ n99 : Nat, wX_settle_99 post (nI nn) f_nodes f_time f_latest f_entries f_logged f_complete f_taken f_sinceEntry f_sinceCount f_parts f_wrongPart f_watches n99 0 a_path a_data a_version a_childVersion a_created a_setAt a_owner a_firstChild a_sibling bk a_open a_timeout a_deadline a_eKind a_ePath a_eData a_eOwner a_eVersion a_eNumber a_iPath a_iData a_iVersion a_iChildVersion a_iCreated a_iSet a_iOwner a_iTimeout a_iLatest a_pKind a_pPath a_pA a_pB a_uEntry a_uSlot a_uData a_uVersion a_uSet a_uChildVersion a_uCreated a_uOwner a_wSession a_wKind a_wPath a_queue a_queued) : ∃ n77 : Nat, wX_settle_77 post (nI nn) f_nodes f_time f_latest f_entries f_logged f_complete f_taken f_sinceEntry f_sinceCount f_parts f_wrongPart f_watches n77 0 a_path a_data a_version a_childVersion a_created a_setAt a_owner a_firstChild a_sibling a_bucket a_open a_timeout a_deadline a_eKind a_ePath a_eData a_eOwner a_eVersion a_eNumber a_iPath a_iData a_iVersion a_iChildVersion a_iCreated a_iSet a_iOwner a_iTimeout a_iLatest a_pKind a_pPath a_pA a_pB a_uEntry a_uSlot a_uData a_uVersion a_uSet a_uChildVersion a_uCreated a_uOwner a_wSession a_wKind a_wPath a_queue a_queued := by
  have lp : ∀ (d i : Nat) (bk : Nat → Int32), i + d = 128 → (∀ k, k < i → bk k = -1) → wX_settle_77 post (nI nn) f_nodes f_time f_latest f_entries f_logged f_complete f_taken f_sinceEntry f_sinceCount f_parts f_wrongPart f_watches (d + 1) (nI i) a_path a_data a_version a_childVersion a_created a_setAt a_owner a_firstChild a_sibling bk a_open a_timeout a_deadline a_eKind a_ePath a_eData a_eOwner a_eVersion a_eNumber a_iPath a_iData a_iVersion a_iChildVersion a_iCreated a_iSet a_iOwner a_iTimeout a_iLatest a_pKind a_pPath a_pA a_pB a_uEntry a_uSlot a_uData a_uVersion a_uSet a_uChildVersion a_uCreated a_uOwner a_wSession a_wKind a_wPath a_queue a_queued := by
    intro d
    induction d with
    | zero =>
      intro i bk hi hb
      have : i = 128 := by omega
      subst this
      exact br_t (by decide) (h bk hb)
    | succ d ih =>
      intro i bk hi hb
      refine br_f (nI_ge (b := 128) (by omega) (by decide)) (zz_st rfl (by omega) (by decide) zb_narM (nm_r (nI_1 i) (ih (i + 1) _ (by omega) (fun k hk => ?_))))
      by_cases z : k = i
      · rw [z, pk_us]
      · rw [pk_un z]; exact hb k (by omega)
  exact Exists.intro 129 (lp 128 0 _ rfl (fun k hk => by omega))
theorem zx_settle114 {post : SX → Prop} {nn d i : Nat} (hi : i < 48) (T : zh_T (fun j => j < i) (fun j => zh_h (a_path j)) a_bucket)
    (h : ∀ bk1 : Nat → Int32, zh_T (fun j => j < i + 1) (fun j => zh_h (a_path j)) bk1 → wX_settle_99 post (nI nn) f_nodes f_time f_latest f_entries f_logged f_complete f_taken f_sinceEntry f_sinceCount f_parts f_wrongPart f_watches d (nI (i + 1)) a_path a_data a_version a_childVersion a_created a_setAt a_owner (upd a_firstChild i (-1)) a_sibling bk1 a_open a_timeout a_deadline a_eKind a_ePath a_eData a_eOwner a_eVersion a_eNumber a_iPath a_iData a_iVersion a_iChildVersion a_iCreated a_iSet a_iOwner a_iTimeout a_iLatest a_pKind a_pPath a_pA a_pB a_uEntry a_uSlot a_uData a_uVersion a_uSet a_uChildVersion a_uCreated a_uOwner a_wSession a_wKind a_wPath a_queue a_queued) :
    ∀ m k, k + m < 128 → a_bucket ((zh_h (a_path i) + (k + m)) % 128) = -1 → (∀ j, j < k → ¬ a_bucket ((zh_h (a_path i) + j) % 128) = -1) → wX_settle_114 post (wX_settle_99 post (nI nn) f_nodes f_time f_latest f_entries f_logged f_complete f_taken f_sinceEntry f_sinceCount f_parts f_wrongPart f_watches d) (nI nn) (nI i) f_nodes f_time f_latest f_entries f_logged f_complete f_taken f_sinceEntry f_sinceCount f_parts f_wrongPart f_watches a_path a_data a_version a_childVersion a_created a_setAt a_owner a_firstChild a_sibling a_bucket a_open a_timeout a_deadline a_eKind a_ePath a_eData a_eOwner a_eVersion a_eNumber a_iPath a_iData a_iVersion a_iChildVersion a_iCreated a_iSet a_iOwner a_iTimeout a_iLatest a_pKind a_pPath a_pA a_pB a_uEntry a_uSlot a_uData a_uVersion a_uSet a_uChildVersion a_uCreated a_uOwner a_wSession a_wKind a_wPath a_queue a_queued (m + 1) (nI ((zh_h (a_path i) + k) % 128)) := by
  have fin : ∀ k, k < 128 → a_bucket ((zh_h (a_path i) + k) % 128) = -1 → (∀ j, j < k → ¬ a_bucket ((zh_h (a_path i) + j) % 128) = -1) → ∀ m, wX_settle_114 post (wX_settle_99 post (nI nn) f_nodes f_time f_latest f_entries f_logged f_complete f_taken f_sinceEntry f_sinceCount f_parts f_wrongPart f_watches d) (nI nn) (nI i) f_nodes f_time f_latest f_entries f_logged f_complete f_taken f_sinceEntry f_sinceCount f_parts f_wrongPart f_watches a_path a_data a_version a_childVersion a_created a_setAt a_owner a_firstChild a_sibling a_bucket a_open a_timeout a_deadline a_eKind a_ePath a_eData a_eOwner a_eVersion a_eNumber a_iPath a_iData a_iVersion a_iChildVersion a_iCreated a_iSet a_iOwner a_iTimeout a_iLatest a_pKind a_pPath a_pA a_pB a_uEntry a_uSlot a_uData a_uVersion a_uSet a_uChildVersion a_uCreated a_uOwner a_wSession a_wKind a_wPath a_queue a_queued (m + 1) (nI ((zh_h (a_path i) + k) % 128)) := by
    intro k hk he hj m
    have hk2 : (zh_h (a_path i) + k) % 128 < 128 := Nat.mod_lt _ (by decide)
    have hc := nI_clamp (n := (zh_h (a_path i) + k) % 128) (by omega)
    refine And.intro (vp_in_nI hk2 (by decide)) (br_t (by rw [hc, he]; decide) (zz_st rfl hk2 (by decide) (zb_narN2 (by omega)) (zz_st rfl hi (by decide) zb_narM (nm_r (nI_1 i) (h _ ?_)))))
    exact zh_put T (O' := fun j => j < i + 1) (w' := fun j => zh_h (a_path j)) (s := i) (i := k) hi (by omega) (fun j _ => ⟨fun w => by omega, fun w => by omega⟩) (fun _ _ _ => rfl) (zh_lt _) hk he hj
  intro m
  induction m with
  | zero => intro k hk he hj; exact fin k (by omega) (by rw [Nat.add_zero] at he; exact he) hj 0
  | succ m ih =>
    intro k hk he hj
    by_cases e : a_bucket ((zh_h (a_path i) + k) % 128) = -1
    · exact fin k (by omega) e hj _
    · have hk2 : (zh_h (a_path i) + k) % 128 < 128 := Nat.mod_lt _ (by decide)
      have hc := nI_clamp (n := (zh_h (a_path i) + k) % 128) (by omega)
      refine And.intro (vp_in_nI hk2 (by decide)) (br_f (by rw [hc, zh_neg T hk2]; exact e) (nm_r (e' := nI ((zh_h (a_path i) + (k + 1)) % 128)) ?_ ?_))
      · rw [zh_and hk2]; exact congrArg nI (by omega)
      · refine ih (k + 1) (by omega) (by rw [show k + 1 + m = k + (m + 1) from by omega]; exact he) (fun j hj2 => ?_)
        by_cases z : j = k
        · rw [z]; exact e
        · exact hj j (by omega)
theorem zx_settle99 {post : SX → Prop} {nn : Nat} (hnn : nn ≤ 21) (h : ∀ fc bk : Nat → Int32, zh_T (fun j => j < nn) (fun j => zh_h (a_path j)) bk → (∀ s, s < nn → fc s = -1) → ∃ n156 : Nat, wX_settle_156 post (nI nn) n156 1 f_nodes f_time f_latest f_entries f_logged f_complete f_taken f_sinceEntry f_sinceCount f_parts f_wrongPart f_watches a_path a_data a_version a_childVersion a_created a_setAt a_owner fc a_sibling bk a_open a_timeout a_deadline a_eKind a_ePath a_eData a_eOwner a_eVersion a_eNumber a_iPath a_iData a_iVersion a_iChildVersion a_iCreated a_iSet a_iOwner a_iTimeout a_iLatest a_pKind a_pPath a_pA a_pB a_uEntry a_uSlot a_uData a_uVersion a_uSet a_uChildVersion a_uCreated a_uOwner a_wSession a_wKind a_wPath a_queue a_queued) :
    ∀ (d i : Nat) (fc bk : Nat → Int32), i + d = nn → zh_T (fun j => j < i) (fun j => zh_h (a_path j)) bk → (∀ s, s < i → fc s = -1) → wX_settle_99 post (nI nn) f_nodes f_time f_latest f_entries f_logged f_complete f_taken f_sinceEntry f_sinceCount f_parts f_wrongPart f_watches (d + 1) (nI i) a_path a_data a_version a_childVersion a_created a_setAt a_owner fc a_sibling bk a_open a_timeout a_deadline a_eKind a_ePath a_eData a_eOwner a_eVersion a_eNumber a_iPath a_iData a_iVersion a_iChildVersion a_iCreated a_iSet a_iOwner a_iTimeout a_iLatest a_pKind a_pPath a_pA a_pB a_uEntry a_uSlot a_uData a_uVersion a_uSet a_uChildVersion a_uCreated a_uOwner a_wSession a_wKind a_wPath a_queue a_queued := by
  intro d
  induction d with
  | zero =>
    intro i fc bk hi T hf
    have : i = nn := by omega
    subst this
    exact br_t (nI_le (Nat.le_refl _) (by omega)) (h fc bk T hf)
  | succ d ih =>
    intro i fc bk hi T hf
    have hc := nI_clamp (n := i) (by omega)
    refine br_f (nI_ge (by omega) (by omega)) (zz_in rfl (show i < 48 by omega) (by decide) ?_)
    rw [hc]
    refine zx_hash ?_
    obtain ⟨k, hk, e⟩ := zh_empty T
    have hl := zh_lt (a_path i)
    have e0 : nI (zh_h (a_path i)) = nI ((zh_h (a_path i) + 0) % 128) := congrArg nI (by omega)
    rw [e0]
    refine Exists.intro (zh_d (zh_h (a_path i)) k + 1) (zx_settle114 (show i < 48 by omega) T (fun bk1 T1 => ih (i + 1) _ _ (by omega) T1 (fun s hs => ?_)) (zh_d (zh_h (a_path i)) k) 0 (by have := zh_d_lt (zh_h (a_path i)) k; omega) (by rw [Nat.zero_add, show (zh_h (a_path i) + zh_d (zh_h (a_path i)) k) % 128 = k from by unfold zh_d; omega, e]) (fun j hj => by omega))
    by_cases z : s = i
    · rw [z, pk_us]
    · rw [pk_un z]; exact hf s (by omega)
theorem zx_settle156 {post : SX → Prop} {C : zn_Mp} {b nn : Nat} (hnn : nn ≤ 21) (H : zx_H f_nodes a_path a_data a_version a_childVersion a_created a_setAt a_owner a_bucket C) (hC : zi_C b C) (occ : ∀ s, s < 48 → (0 ≤ (a_path s).toInt ↔ s < nn)) (r0 : a_path 0 = 0)
    (h : ∀ fc sb : Nat → Int32, zk_L a_path fc sb (fun j => 1 ≤ j ∧ j < nn) → post (f_nodes, f_time, f_latest, f_entries, f_logged, f_complete, f_taken, f_sinceEntry, f_sinceCount, f_parts, f_wrongPart, f_watches, a_path, a_data, a_version, a_childVersion, a_created, a_setAt, a_owner, fc, sb, a_bucket, a_open, a_timeout, a_deadline, a_eKind, a_ePath, a_eData, a_eOwner, a_eVersion, a_eNumber, a_iPath, a_iData, a_iVersion, a_iChildVersion, a_iCreated, a_iSet, a_iOwner, a_iTimeout, a_iLatest, a_pKind, a_pPath, a_pA, a_pB, a_uEntry, a_uSlot, a_uData, a_uVersion, a_uSet, a_uChildVersion, a_uCreated, a_uOwner, a_wSession, a_wKind, a_wPath, a_queue, a_queued)) :
    ∀ (d i : Nat) (a_firstChild a_sibling : Nat → Int32), 1 ≤ i → i + d = nn → zk_L a_path a_firstChild a_sibling (fun j => 1 ≤ j ∧ j < i) → wX_settle_156 post (nI nn) (d + 1) (nI i) f_nodes f_time f_latest f_entries f_logged f_complete f_taken f_sinceEntry f_sinceCount f_parts f_wrongPart f_watches a_path a_data a_version a_childVersion a_created a_setAt a_owner a_firstChild a_sibling a_bucket a_open a_timeout a_deadline a_eKind a_ePath a_eData a_eOwner a_eVersion a_eNumber a_iPath a_iData a_iVersion a_iChildVersion a_iCreated a_iSet a_iOwner a_iTimeout a_iLatest a_pKind a_pPath a_pA a_pB a_uEntry a_uSlot a_uData a_uVersion a_uSet a_uChildVersion a_uCreated a_uOwner a_wSession a_wKind a_wPath a_queue a_queued := by
  have pos : ∀ j, j < 48 → 1 ≤ j → j < nn → 0 < (a_path j).toInt := fun j hj j1 j2 => by
    have h0 := (occ j hj).mpr j2
    rcases Int.lt_or_eq_of_le h0 with z | z
    · exact z
    · have := H.2.1.2.2 j 0 hj (by omega) h0 (by rw [r0]; exact zb_inj (by rw [← z, zb_t0]))
      omega
  intro d
  induction d with
  | zero =>
    intro i a_firstChild a_sibling h1 hi L
    have : i = nn := by omega
    subst this
    exact br_t (nI_le (Nat.le_refl _) (by omega)) (h _ _ L)
  | succ d ih =>
    intro i a_firstChild a_sibling h1 hi L
    have p0 := pos i (by omega) h1 (by omega)
    have ei := H.2.1.1 i (by omega) (by omega)
    obtain ⟨u, hu, _⟩ := (hC.2 _ _ ei).2.2.2.2.2.2.2 (fun z => by rw [z, zb_t0] at p0; omega)
    obtain ⟨up, hup, eup, _, _⟩ := zr_get H.2.1 hu
    refine br_f (nI_ge (by omega) (by omega)) (zx_link (D := fun j => 1 ≤ j ∧ j < i) (D' := fun j => 1 ≤ j ∧ j < i + 1) (up := up) H L (fun j hj dj => pos j hj dj.1 (by omega)) (by omega) (by omega) p0 hup eup (fun j _ => ⟨fun w => by omega, fun w => by omega⟩) (fun fc1 sb1 L1 => ?_))
    exact nm_r (nI_1 i) (ih (i + 1) fc1 sb1 (by omega) (by omega) L1)
theorem zx_settle {post : SX → Prop} {C : zn_Mp} {b : Nat} (H : zx_H f_nodes a_path a_data a_version a_childVersion a_created a_setAt a_owner a_bucket C) (hC : zi_C b C) (hn : zr_n a_path 48 ≤ 21) (h : ∀ (f_nodes1 : Int32) (a_path1 a_data1 a_version1 a_childVersion1 a_created1 a_setAt1 a_owner1 a_firstChild1 a_sibling1 a_bucket1 : Nat → Int32), zx_T f_nodes1 a_path1 a_data1 a_version1 a_childVersion1 a_created1 a_setAt1 a_owner1 a_firstChild1 a_sibling1 a_bucket1 C → zr_n a_path1 48 = zr_n a_path 48 → post (f_nodes1, f_time, f_latest, f_entries, f_logged, f_complete, f_taken, f_sinceEntry, f_sinceCount, f_parts, f_wrongPart, f_watches, a_path1, a_data1, a_version1, a_childVersion1, a_created1, a_setAt1, a_owner1, a_firstChild1, a_sibling1, a_bucket1, a_open, a_timeout, a_deadline, a_eKind, a_ePath, a_eData, a_eOwner, a_eVersion, a_eNumber, a_iPath, a_iData, a_iVersion, a_iChildVersion, a_iCreated, a_iSet, a_iOwner, a_iTimeout, a_iLatest, a_pKind, a_pPath, a_pA, a_pB, a_uEntry, a_uSlot, a_uData, a_uVersion, a_uSet, a_uChildVersion, a_uCreated, a_uOwner, a_wSession, a_wKind, a_wPath, a_queue, a_queued)) : wpX_settle post (f_nodes, f_time, f_latest, f_entries, f_logged, f_complete, f_taken, f_sinceEntry, f_sinceCount, f_parts, f_wrongPart, f_watches, a_path, a_data, a_version, a_childVersion, a_created, a_setAt, a_owner, a_firstChild, a_sibling, a_bucket, a_open, a_timeout, a_deadline, a_eKind, a_ePath, a_eData, a_eOwner, a_eVersion, a_eNumber, a_iPath, a_iData, a_iVersion, a_iChildVersion, a_iCreated, a_iSet, a_iOwner, a_iTimeout, a_iLatest, a_pKind, a_pPath, a_pA, a_pB, a_uEntry, a_uSlot, a_uData, a_uVersion, a_uSet, a_uChildVersion, a_uCreated, a_uOwner, a_wSession, a_wKind, a_wPath, a_queue, a_queued) := by
  have hcnt : ∀ (path : Nat → Int32) (nd : Nat → zn_Nd), zr_Rep 48 path nd C → zr_n path 48 = zr_n a_path 48 := fun path nd R => zr_cnt R H.2.1 (fun _ => true)
  obtain ⟨r, hr, _⟩ := hC.1
  have hpos : 0 < zr_n a_path 48 := by
    obtain ⟨j, hj, _, _, j0⟩ := zr_get H.2.1 hr
    exact zc_pos' hj (zr_oc1.mpr j0)
  have hf := H.2.2.1
  generalize hg : zr_n a_path 48 = nn at *
  subst hf
  refine Exists.intro (nn + 1) (zx_settle7 hn (fun p x e => ?_) ⟨r, hr⟩ hcnt (fun a_path1 a_data1 a_version1 a_childVersion1 a_created1 a_setAt1 a_owner1 R1 neg1 occ1 r1 => zx_settle77 (fun bk hbk => ?_)) nn 0 _ _ _ _ _ _ _ (by omega) H.2.1 H.2.2.2 (fun s hs => by omega) (fun z => by omega))
  · obtain ⟨_, _, _, _, _, o1, o2, _⟩ := hC.2 p x e
    exact ⟨(H.2.1.2.1 p x e).1, o1, o2⟩
  have hn1 := hcnt _ _ R1
  have occ := zr_first hn1 occ1
  have rr := r1 hpos
  have T0 : zh_T (fun j => j < 0) (fun j => zh_h (a_path1 j)) bk := ⟨fun k hk => Or.inl (hbk k hk), fun s _ ho => by omega, fun k k' s hk _ hs e => by rw [hbk k hk] at e; exact absurd e.symm (zh_m1 hs)⟩
  refine Exists.intro (nn + 1) (zx_settle99 (by omega) (fun fc bk1 T1 hfc => ?_) nn 0 _ bk (by omega) T0 (fun s hs => by omega))
  have H1 : zx_H (nI nn) a_path1 a_data1 a_version1 a_childVersion1 a_created1 a_setAt1 a_owner1 bk1 C := ⟨zh_T_congr T1 (fun s hs => occ s hs) (fun _ _ _ => rfl), R1, by rw [hn1], neg1⟩
  have L0 : zk_L a_path1 fc a_sibling (fun j => 1 ≤ j ∧ j < 1) := by
    refine ⟨fun q hq q0 => ?_, fun s _ ds => by omega⟩
    rw [hfc q ((occ q hq).mp q0)]
    exact Or.inl ⟨rfl, fun s _ ds => by omega⟩
  refine Exists.intro (nn - 1 + 1) (zx_settle156 (by omega) H1 hC occ rr (fun fc2 sb2 L2 => h _ _ _ _ _ _ _ _ _ _ _ ⟨H1, ?_, ?_, rr⟩ hn1) (nn - 1) 1 fc a_sibling (by omega) (by omega) L0)
  · refine zk_L_cg L2 (fun j hj => ?_) (fun _ _ _ => rfl) (fun _ _ _ => rfl) (fun _ _ _ => rfl) (fun _ _ _ => rfl)
    constructor
    · intro p0
      have := (occ j hj).mp (by omega)
      refine ⟨?_, this⟩
      rcases Nat.eq_zero_or_pos j with z | z
      · rw [z, rr, zb_t0] at p0; omega
      · exact z
    · intro ⟨j1, j2⟩
      have h0 := (occ j hj).mpr j2
      rcases Int.lt_or_eq_of_le h0 with z | z
      · exact z
      · have := R1.2.2 j 0 hj (by omega) h0 (by rw [rr]; exact zb_inj (by rw [← z, zb_t0]))
        omega
  · intro s h1 h2
    refine neg1 s h2 ?_
    rcases Int.lt_or_le (a_path1 s).toInt 0 with z | z
    · exact z
    · have := (occ s h2).mp z; omega
end
end
section
/-! crash -/
theorem zf_F_or {en : Nat → zf_E} {b : Nat} {p : Int32} {x : Option zn_Nd} {n : Nat} (h : (zf_F en b p x n).isSome = true) : x.isSome = true ∨ (zf_F en b p none n).isSome = true := by
  cases x with
  | none => exact Or.inr h
  | some y => exact Or.inl rfl
theorem zb_21 (cb : Nat) : nI cb + 21 = nI (cb + 21) := nI_add cb 21
section
variable {f_nodes f_time f_latest f_entries f_logged f_complete f_taken f_sinceEntry f_sinceCount f_parts f_wrongPart f_watches : Int32} {a_path a_data a_version a_childVersion a_created a_setAt a_owner a_firstChild a_sibling a_bucket a_open a_timeout a_deadline a_eKind a_ePath a_eData a_eOwner a_eVersion a_eNumber a_iPath a_iData a_iVersion a_iChildVersion a_iCreated a_iSet a_iOwner a_iTimeout a_iLatest a_pKind a_pPath a_pA a_pB a_uEntry a_uSlot a_uData a_uVersion a_uSet a_uChildVersion a_uCreated a_uOwner a_wSession a_wKind a_wPath a_queue a_queued : Nat → Int32}
theorem zx_crash_d {post : Int32 → SX → Prop} {C : zn_Mp} {b : Nat} (H : zx_H f_nodes a_path a_data a_version a_childVersion a_created a_setAt a_owner a_bucket C) (hC : zi_C b C) (hn : zr_n a_path 48 ≤ 21)
    (h : ∀ (dl : Nat → Int32) (f_nodes1 : Int32) (a_path1 a_data1 a_version1 a_childVersion1 a_created1 a_setAt1 a_owner1 a_firstChild1 a_sibling1 a_bucket1 : Nat → Int32), (∀ s, s < 4 → dl s = f_time + a_timeout s) → zx_T f_nodes1 a_path1 a_data1 a_version1 a_childVersion1 a_created1 a_setAt1 a_owner1 a_firstChild1 a_sibling1 a_bucket1 C → zr_n a_path1 48 = zr_n a_path 48 → post f_logged (f_nodes1, f_time, f_latest, f_entries, f_logged, f_complete, f_taken, f_sinceEntry, f_sinceCount, f_parts, f_wrongPart, f_watches, a_path1, a_data1, a_version1, a_childVersion1, a_created1, a_setAt1, a_owner1, a_firstChild1, a_sibling1, a_bucket1, a_open, a_timeout, dl, a_eKind, a_ePath, a_eData, a_eOwner, a_eVersion, a_eNumber, a_iPath, a_iData, a_iVersion, a_iChildVersion, a_iCreated, a_iSet, a_iOwner, a_iTimeout, a_iLatest, a_pKind, a_pPath, a_pA, a_pB, a_uEntry, a_uSlot, a_uData, a_uVersion, a_uSet, a_uChildVersion, a_uCreated, a_uOwner, a_wSession, a_wKind, a_wPath, a_queue, a_queued)) :
    ∀ (d i : Nat) (dl : Nat → Int32), i + d = 4 → (∀ s, s < i → dl s = f_time + a_timeout s) → wX_crash_156 post f_nodes f_time f_latest f_entries f_logged f_complete f_taken f_sinceEntry f_sinceCount f_parts f_wrongPart f_watches (d + 1) (nI i) a_path a_data a_version a_childVersion a_created a_setAt a_owner a_firstChild a_sibling a_bucket a_open a_timeout dl a_eKind a_ePath a_eData a_eOwner a_eVersion a_eNumber a_iPath a_iData a_iVersion a_iChildVersion a_iCreated a_iSet a_iOwner a_iTimeout a_iLatest a_pKind a_pPath a_pA a_pB a_uEntry a_uSlot a_uData a_uVersion a_uSet a_uChildVersion a_uCreated a_uOwner a_wSession a_wKind a_wPath a_queue a_queued := by
  intro d
  induction d with
  | zero =>
    intro i dl hi hd
    have : i = 4 := by omega
    subst this
    exact br_t (by decide) (zx_settle H hC hn (fun f_nodes1 a_path1 a_data1 a_version1 a_childVersion1 a_created1 a_setAt1 a_owner1 a_firstChild1 a_sibling1 a_bucket1 H1 n1 => h dl _ _ _ _ _ _ _ _ _ _ _ hd H1 n1))
  | succ d ih =>
    intro i dl hi hd
    have hc := nI_clamp (n := i) (by omega)
    refine br_f (nI_ge (b := 4) (by omega) (by decide)) (zz_in rfl (by omega) (by decide) (zz_st rfl (by omega) (by decide) (v' := f_time + a_timeout i) (by rw [hc]) (nm_r (nI_1 i) (ih (i + 1) _ (by omega) (fun s hs => ?_)))))
    by_cases z : s = i
    · rw [z, pk_us]
    · rw [pk_un z]; exact hd s (by omega)
/-- the log -/
theorem zx_crash_l {post : Int32 → SX → Prop} {N cb : Nat} {I0 : Nat → Int32 × Int32} {op0 : Nat → Int32} (hN : N ≤ 400) (hcb : cb = 0 ∨ cb = 21) (hW : ∀ j, j < N → zf_W (zf_en a_eKind a_ePath a_eData a_eOwner a_eVersion a_eNumber j)) (hD : zf_D (zf_en a_eKind a_ePath a_eData a_eOwner a_eVersion a_eNumber) 0 N)
    (h : ∀ (lat : Int32) (f_nodes1 : Int32) (a_path1 a_data1 a_version1 a_childVersion1 a_created1 a_setAt1 a_owner1 a_firstChild1 a_sibling1 a_bucket1 : Nat → Int32) (op1 tm1 : Nat → Int32), zx_H f_nodes1 a_path1 a_data1 a_version1 a_childVersion1 a_created1 a_setAt1 a_owner1 a_bucket1 (fun p => zf_F (zf_en a_eKind a_ePath a_eData a_eOwner a_eVersion a_eNumber) 0 p (zf_im a_iPath (zn_nd a_iData a_iVersion a_iChildVersion a_iCreated a_iSet a_iOwner) cb p 21) N) → (∀ s, s < 4 → (op1 s, tm1 s) = zf_S (zf_en a_eKind a_ePath a_eData a_eOwner a_eVersion a_eNumber) 0 s (I0 s) N) → (∀ s, 4 ≤ s → op1 s = op0 s) →
      ((N = 0 → lat = a_iLatest (cb / 21)) ∧ (0 < N → lat = a_eNumber (N - 1))) → ∃ n156 : Nat, wX_crash_156 post f_nodes1 f_time lat (nI N) f_logged f_complete f_taken f_sinceEntry f_sinceCount f_parts f_wrongPart f_watches n156 0 a_path1 a_data1 a_version1 a_childVersion1 a_created1 a_setAt1 a_owner1 a_firstChild1 a_sibling1 a_bucket1 op1 tm1 a_deadline a_eKind a_ePath a_eData a_eOwner a_eVersion a_eNumber a_iPath a_iData a_iVersion a_iChildVersion a_iCreated a_iSet a_iOwner a_iTimeout a_iLatest a_pKind a_pPath a_pA a_pB a_uEntry a_uSlot a_uData a_uVersion a_uSet a_uChildVersion a_uCreated a_uOwner a_wSession a_wKind a_wPath a_queue a_queued) :
    ∀ (d e : Nat) (lat : Int32) (f_nodes : Int32) (a_path a_data a_version a_childVersion a_created a_setAt a_owner a_firstChild a_sibling a_bucket : Nat → Int32) (a_open a_timeout : Nat → Int32), e + d = N → zx_H f_nodes a_path a_data a_version a_childVersion a_created a_setAt a_owner a_bucket (fun p => zf_F (zf_en a_eKind a_ePath a_eData a_eOwner a_eVersion a_eNumber) 0 p (zf_im a_iPath (zn_nd a_iData a_iVersion a_iChildVersion a_iCreated a_iSet a_iOwner) cb p 21) e) → (∀ s, s < 4 → (a_open s, a_timeout s) = zf_S (zf_en a_eKind a_ePath a_eData a_eOwner a_eVersion a_eNumber) 0 s (I0 s) e) → (∀ s, 4 ≤ s → a_open s = op0 s) →
      ((e = 0 → lat = a_iLatest (cb / 21)) ∧ (0 < e → lat = a_eNumber (e - 1))) → wX_crash_135 post (d + 1) (nI e) f_nodes f_time lat (nI N) f_logged f_complete f_taken f_sinceEntry f_sinceCount f_parts f_wrongPart f_watches a_path a_data a_version a_childVersion a_created a_setAt a_owner a_firstChild a_sibling a_bucket a_open a_timeout a_deadline a_eKind a_ePath a_eData a_eOwner a_eVersion a_eNumber a_iPath a_iData a_iVersion a_iChildVersion a_iCreated a_iSet a_iOwner a_iTimeout a_iLatest a_pKind a_pPath a_pA a_pB a_uEntry a_uSlot a_uData a_uVersion a_uSet a_uChildVersion a_uCreated a_uOwner a_wSession a_wKind a_wPath a_queue a_queued := by
  intro d
  induction d with
  | zero =>
    intro e lat f_nodes a_path a_data a_version a_childVersion a_created a_setAt a_owner a_firstChild a_sibling a_bucket a_open a_timeout he H hs h4 hl
    have : e = N := by omega
    subst this
    exact br_t (nI_le (Nat.le_refl _) (by omega)) (h lat _ _ _ _ _ _ _ _ _ _ _ _ _ H hs h4 hl)
  | succ d ih =>
    intro e lat f_nodes a_path a_data a_version a_childVersion a_created a_setAt a_owner a_firstChild a_sibling a_bucket a_open a_timeout he H hs h4 hl
    obtain ⟨T, hT⟩ := hD e (by omega)
    obtain ⟨f, hf, hf0⟩ := zx_room (m := 42) (V := fun j => if j < 21 then a_iPath (cb + j) else T (j - 21)) H.2.1 (by decide) (fun p hp => by
      rcases zf_F_or hp with w | w
      · obtain ⟨j, hj, ej⟩ := zf_im_some w
        exact ⟨j, by omega, by rw [if_pos hj]; exact ej⟩
      · obtain ⟨s, hs2, es⟩ := hT p w
        exact ⟨21 + s, by omega, by rw [if_neg (by omega), show 21 + s - 21 = s from by omega]; exact es⟩)
    refine br_f (nI_ge (by omega) (by omega)) (zx_again H (show e < 400 by omega) (hW e (by omega)) hf hf0 (fun f_nodes1 a_path1 a_data1 a_version1 a_childVersion1 a_created1 a_setAt1 a_owner1 a_firstChild1 a_sibling1 a_bucket1 op1 tm1 H1 s1 s2 => ?_))
    refine nm_r (nI_1 e) (ih (e + 1) _ _ _ _ _ _ _ _ _ _ _ _ _ _ (by omega) (zx_H_ext H1 fun p => ?_) (fun s hs4 => ?_) (fun s hs4 => (s2 s hs4).trans (h4 s hs4)) ⟨fun z => by omega, fun _ => rfl⟩)
    · show zf_f (zf_en a_eKind a_ePath a_eData a_eOwner a_eVersion a_eNumber (0 + e)) p _ = _
      rw [Nat.zero_add]
      rfl
    · rw [s1 s hs4, hs s hs4]
      show _ = zf_s (zf_en a_eKind a_ePath a_eData a_eOwner a_eVersion a_eNumber (0 + e)) s _
      rw [Nat.zero_add]
/-- the image -/
theorem zx_crash_i {post : Int32 → SX → Prop} {cb : Nat} (hcb : cb = 0 ∨ cb = 21) (hc : f_complete = nI cb) (Im : zi_Img a_iPath a_iOwner a_iTimeout)
    (h : ∀ (f_nodes1 : Int32) (a_path1 a_data1 a_version1 a_childVersion1 a_created1 a_setAt1 a_owner1 a_firstChild1 a_sibling1 a_bucket1 : Nat → Int32), zx_H f_nodes1 a_path1 a_data1 a_version1 a_childVersion1 a_created1 a_setAt1 a_owner1 a_bucket1 (fun p => zf_im a_iPath (zn_nd a_iData a_iVersion a_iChildVersion a_iCreated a_iSet a_iOwner) cb p 21) → ∃ n135 : Nat, wX_crash_135 post n135 0 f_nodes1 f_time f_latest f_entries f_logged f_complete f_taken f_sinceEntry f_sinceCount f_parts f_wrongPart f_watches a_path1 a_data1 a_version1 a_childVersion1 a_created1 a_setAt1 a_owner1 a_firstChild1 a_sibling1 a_bucket1 a_open a_timeout a_deadline a_eKind a_ePath a_eData a_eOwner a_eVersion a_eNumber a_iPath a_iData a_iVersion a_iChildVersion a_iCreated a_iSet a_iOwner a_iTimeout a_iLatest a_pKind a_pPath a_pA a_pB a_uEntry a_uSlot a_uData a_uVersion a_uSet a_uChildVersion a_uCreated a_uOwner a_wSession a_wKind a_wPath a_queue a_queued) :
    ∀ (d n : Nat) (f_nodes : Int32) (a_path a_data a_version a_childVersion a_created a_setAt a_owner a_firstChild a_sibling a_bucket : Nat → Int32), n + d = 21 → zx_H f_nodes a_path a_data a_version a_childVersion a_created a_setAt a_owner a_bucket (fun p => zf_im a_iPath (zn_nd a_iData a_iVersion a_iChildVersion a_iCreated a_iSet a_iOwner) cb p n) → wX_crash_102 post (d + 1) (nI (cb + n)) f_nodes f_time f_latest f_entries f_logged f_complete f_taken f_sinceEntry f_sinceCount f_parts f_wrongPart f_watches a_path a_data a_version a_childVersion a_created a_setAt a_owner a_firstChild a_sibling a_bucket a_open a_timeout a_deadline a_eKind a_ePath a_eData a_eOwner a_eVersion a_eNumber a_iPath a_iData a_iVersion a_iChildVersion a_iCreated a_iSet a_iOwner a_iTimeout a_iLatest a_pKind a_pPath a_pA a_pB a_uEntry a_uSlot a_uData a_uVersion a_uSet a_uChildVersion a_uCreated a_uOwner a_wSession a_wKind a_wPath a_queue a_queued := by
  subst hc
  intro d
  induction d with
  | zero =>
    intro n f_nodes a_path a_data a_version a_childVersion a_created a_setAt a_owner a_firstChild a_sibling a_bucket hn H
    have : n = 21 := by omega
    subst this
    exact br_t (by rw [zb_21]; exact nI_le (Nat.le_refl _) (by omega)) (h _ _ _ _ _ _ _ _ _ _ _ H)
  | succ d ih =>
    intro n f_nodes a_path a_data a_version a_childVersion a_created a_setAt a_owner a_firstChild a_sibling a_bucket hn H
    have hcn := nI_clamp (n := cb + n) (by omega)
    refine br_f (by rw [zb_21]; exact nI_ge (by omega) (by omega)) (zz_in rfl (by omega) (by decide) ?_)
    rw [hcn]
    have step : ∀ p, zf_im a_iPath (zn_nd a_iData a_iVersion a_iChildVersion a_iCreated a_iSet a_iOwner) cb p (n + 1) = if a_iPath (cb + n) = p ∧ 0 ≤ p.toInt then some (zn_nd a_iData a_iVersion a_iChildVersion a_iCreated a_iSet a_iOwner (cb + n)) else zf_im a_iPath (zn_nd a_iData a_iVersion a_iChildVersion a_iCreated a_iSet a_iOwner) cb p n := fun p => rfl
    by_cases c : (a_iPath (cb + n)).toInt < 0
    · refine br_t (by rw [zb_lt0]; exact c) (nm_r (e' := nI (cb + (n + 1))) (nI_1 _) (ih (n + 1) _ _ _ _ _ _ _ _ _ _ _ (by omega) (zx_H_ext H fun p => ?_)))
      rw [step, if_neg (fun w => by rw [← w.1] at w; omega)]
    · obtain ⟨f, hf, hf0⟩ := zx_room (m := n) (V := fun j => a_iPath (cb + j)) H.2.1 (by omega) (fun p hp => zf_im_some hp)
      refine br_f (by rw [zb_lt0]; exact c) (zx_load H (by omega) (by omega) (Im.1 _ (by omega) (by omega)) hf hf0 (fun f_nodes1 a_path1 a_data1 a_version1 a_childVersion1 a_created1 a_setAt1 a_owner1 a_firstChild1 a_sibling1 a_bucket1 H1 => nm_r (e' := nI (cb + (n + 1))) (nI_1 _) (ih (n + 1) _ _ _ _ _ _ _ _ _ _ _ (by omega) (zx_H_ext H1 fun p => ?_))))
      rw [step]
      unfold zr_set
      by_cases w : p = a_iPath (cb + n)
      · rw [if_pos w, if_pos ⟨w.symm, by rw [w]; omega⟩]
      · rw [if_neg w, if_neg (fun q => w q.1.symm)]
/-- sessions of the image -/
theorem zx_crash_s {post : Int32 → SX → Prop} {cb : Nat} {op0 qd0 : Nat → Int32} (hcb : cb = 0 ∨ cb = 21) (hc : f_complete = nI cb) (Im : ∀ j, j < 8 → 0 ≤ (a_iTimeout j).toInt ∧ (a_iTimeout j).toInt ≤ 20)
    (h : ∀ op1 tm1 qd1 : Nat → Int32, (∀ s, s < 4 → (op1 s, tm1 s) = zf_t (a_iTimeout (4 * (cb / 21) + s))) → (∀ s, s < 4 → qd1 s = 0) → (∀ s, 4 ≤ s → op1 s = op0 s ∧ qd1 s = qd0 s) → ∃ n102 : Nat, wX_crash_102 post n102 f_complete f_nodes f_time f_latest f_entries f_logged f_complete f_taken f_sinceEntry f_sinceCount f_parts f_wrongPart f_watches a_path a_data a_version a_childVersion a_created a_setAt a_owner a_firstChild a_sibling a_bucket op1 tm1 a_deadline a_eKind a_ePath a_eData a_eOwner a_eVersion a_eNumber a_iPath a_iData a_iVersion a_iChildVersion a_iCreated a_iSet a_iOwner a_iTimeout a_iLatest a_pKind a_pPath a_pA a_pB a_uEntry a_uSlot a_uData a_uVersion a_uSet a_uChildVersion a_uCreated a_uOwner a_wSession a_wKind a_wPath a_queue qd1) :
    ∀ (d i : Nat) (op tm qd : Nat → Int32), i + d = 4 → (∀ s, s < i → (op s, tm s) = zf_t (a_iTimeout (4 * (cb / 21) + s))) → (∀ s, s < i → qd s = 0) → (∀ s, 4 ≤ s → op s = op0 s ∧ qd s = qd0 s) → wX_crash_37 post f_nodes f_time f_latest f_entries f_logged f_complete f_taken f_sinceEntry f_sinceCount f_parts f_wrongPart f_watches (d + 1) (nI i) a_path a_data a_version a_childVersion a_created a_setAt a_owner a_firstChild a_sibling a_bucket op tm a_deadline a_eKind a_ePath a_eData a_eOwner a_eVersion a_eNumber a_iPath a_iData a_iVersion a_iChildVersion a_iCreated a_iSet a_iOwner a_iTimeout a_iLatest a_pKind a_pPath a_pA a_pB a_uEntry a_uSlot a_uData a_uVersion a_uSet a_uChildVersion a_uCreated a_uOwner a_wSession a_wKind a_wPath a_queue qd := by
  subst hc
  have ix : ∀ i, i < 4 → (4 * (nI cb / 21)) + nI i = nI (4 * (cb / 21) + i) := fun i hi => by
    rw [show (21 : Int32) = nI 21 from rfl, pk_div (by omega) (by decide) (by decide), show (4 : Int32) = nI 4 from rfl, pk_mul, nI_add]
  intro d
  induction d with
  | zero =>
    intro i op tm qd hi h1 h2 h3
    have : i = 4 := by omega
    subst this
    exact br_t (by decide) (h op tm qd h1 h2 h3)
  | succ d ih =>
    intro i op tm qd hi h1 h2 h3
    have hc := nI_clamp (n := i) (by omega)
    have hr := Im (4 * (cb / 21) + i) (by omega)
    have nar : vp_nar .byte (a_iTimeout ((4 * (nI cb / 21)) + nI i).toNatClampNeg) = a_iTimeout (4 * (cb / 21) + i) := by
      rw [ix i (by omega), nI_clamp (by omega)]; exact zb_nar (by omega) (by omega)
    have nxt : ∀ o : Int32, (o, a_iTimeout (4 * (cb / 21) + i)) = zf_t (a_iTimeout (4 * (cb / 21) + i)) → wX_crash_37 post f_nodes f_time f_latest f_entries f_logged (nI cb) f_taken f_sinceEntry f_sinceCount f_parts f_wrongPart f_watches (d + 1) (nI (i + 1)) a_path a_data a_version a_childVersion a_created a_setAt a_owner a_firstChild a_sibling a_bucket (upd op i o) (upd tm i (a_iTimeout (4 * (cb / 21) + i))) a_deadline a_eKind a_ePath a_eData a_eOwner a_eVersion a_eNumber a_iPath a_iData a_iVersion a_iChildVersion a_iCreated a_iSet a_iOwner a_iTimeout a_iLatest a_pKind a_pPath a_pA a_pB a_uEntry a_uSlot a_uData a_uVersion a_uSet a_uChildVersion a_uCreated a_uOwner a_wSession a_wKind a_wPath a_queue (upd qd i 0) := fun o ho => by
      refine ih (i + 1) _ _ _ (by omega) (fun s hs => ?_) (fun s hs => ?_) (fun s hs => by rw [pk_un (by omega), pk_un (by omega)]; exact h3 s hs)
      · by_cases z : s = i
        · rw [z, pk_us, pk_us]; exact ho
        · rw [pk_un z, pk_un z]; exact h1 s (by omega)
      · by_cases z : s = i
        · rw [z, pk_us]
        · rw [pk_un z]; exact h2 s (by omega)
    refine br_f (nI_ge (b := 4) (by omega) (by decide)) (zz_st rfl (by omega) (by decide) zb_nar0 (And.intro zb_21n (zz_in (ix i (by omega)) (by omega) (by decide) (zz_st rfl (by omega) (by decide) nar (zz_in rfl (by omega) (by decide) ?_)))))
    rw [hc, pk_us]
    by_cases c : (a_iTimeout (4 * (cb / 21) + i)).toInt ≤ 0
    · refine br_t (by rw [zb_le, zb_t0]; exact c) (zz_sv rfl (by omega) (by decide) zb_b0 (nm_r (nI_1 i) (nxt 0 ?_)))
      unfold zf_t
      rw [if_neg (by omega)]
    · refine br_f (by rw [zb_le, zb_t0]; exact c) (zz_sv rfl (by omega) (by decide) zb_b1 (nm_r (nI_1 i) (nxt 1 ?_)))
      unfold zf_t
      rw [if_pos (by omega)]
theorem zx_crash {post : Int32 → SX → Prop} {C : zn_Mp} {b N cb : Nat} {sn : Option (Nat × Nat)} (hcb : cb = 0 ∨ cb = 21) (hc : f_complete = nI cb) (he : f_entries = nI N) (hN : N ≤ 400) (M : zi_M b N C f_nodes a_path a_data a_version a_childVersion a_created a_setAt a_owner a_firstChild a_sibling a_bucket a_eKind a_ePath a_eData a_eOwner a_eVersion a_eNumber a_iPath a_iData a_iVersion a_iChildVersion a_iCreated a_iSet a_iOwner a_iTimeout cb sn a_open a_timeout)
    (Im : zi_Img a_iPath a_iOwner a_iTimeout) (la : zi_Lat N 0 a_eNumber (a_iLatest (cb / 21)) f_latest)
    (h : ∀ (f_nodes1 : Int32) (a_path1 a_data1 a_version1 a_childVersion1 a_created1 a_setAt1 a_owner1 a_firstChild1 a_sibling1 a_bucket1 : Nat → Int32) (tm1 dl1 qd1 : Nat → Int32), zx_T f_nodes1 a_path1 a_data1 a_version1 a_childVersion1 a_created1 a_setAt1 a_owner1 a_firstChild1 a_sibling1 a_bucket1 C → zr_n a_path1 48 = zr_n a_path 48 → (∀ s, s < 4 → a_open s = 1 → tm1 s = a_timeout s) → (∀ s, s < 4 → dl1 s = f_time + tm1 s) → (∀ s, s < 4 → qd1 s = 0) → (∀ s, 4 ≤ s → qd1 s = a_queued s) →
      post f_logged (f_nodes1, f_time, f_latest, f_entries, f_logged, f_complete, -1, f_sinceEntry, f_sinceCount, 0, f_wrongPart, 0, a_path1, a_data1, a_version1, a_childVersion1, a_created1, a_setAt1, a_owner1, a_firstChild1, a_sibling1, a_bucket1, a_open, tm1, dl1, a_eKind, a_ePath, a_eData, a_eOwner, a_eVersion, a_eNumber, a_iPath, a_iData, a_iVersion, a_iChildVersion, a_iCreated, a_iSet, a_iOwner, a_iTimeout, a_iLatest, a_pKind, a_pPath, a_pA, a_pB, a_uEntry, a_uSlot, a_uData, a_uVersion, a_uSet, a_uChildVersion, a_uCreated, a_uOwner, a_wSession, a_wKind, a_wPath, a_queue, qd1)) : wpX_crash post (f_nodes, f_time, f_latest, f_entries, f_logged, f_complete, f_taken, f_sinceEntry, f_sinceCount, f_parts, f_wrongPart, f_watches, a_path, a_data, a_version, a_childVersion, a_created, a_setAt, a_owner, a_firstChild, a_sibling, a_bucket, a_open, a_timeout, a_deadline, a_eKind, a_ePath, a_eData, a_eOwner, a_eVersion, a_eNumber, a_iPath, a_iData, a_iVersion, a_iChildVersion, a_iCreated, a_iSet, a_iOwner, a_iTimeout, a_iLatest, a_pKind, a_pPath, a_pA, a_pB, a_uEntry, a_uSlot, a_uData, a_uVersion, a_uSet, a_uChildVersion, a_uCreated, a_uOwner, a_wSession, a_wKind, a_wPath, a_queue, a_queued) := by
  have hd : nI cb / 21 = nI (cb / 21) := pk_div (d := 21) (by omega) (by decide) (by decide)
  unfold wpX_crash
  refine zx_empty (fun p1 fc1 bk1 h1 h2 h3 => ?_)
  rw [hc]
  refine And.intro zb_21n (zz_in hd (by omega) (by decide) (nm_r (e' := a_iLatest (cb / 21)) (by rw [hd, nI_clamp (by omega)]) ?_))
  refine Exists.intro 5 (zx_crash_s (op0 := a_open) (qd0 := a_queued) hcb rfl Im.2 (fun op1 tm1 qd1 s1 s2 s3 => ?_) 4 0 _ _ _ rfl (fun s hs => by omega) (fun s hs => by omega) (fun _ _ => ⟨rfl, rfl⟩))
  have H0 := zx_H0 (a_data := a_data) (a_version := a_version) (a_childVersion := a_childVersion) (a_created := a_created) (a_setAt := a_setAt) (a_owner := a_owner) h1 h3
  refine Exists.intro 22 (zx_crash_i hcb rfl Im (fun f_nodes1 a_path1 a_data1 a_version1 a_childVersion1 a_created1 a_setAt1 a_owner1 a_firstChild1 a_sibling1 a_bucket1 H1 => ?_) 21 0 _ _ _ _ _ _ _ _ _ _ _ rfl (zx_H_ext H0 fun p => rfl))
  rw [he]
  obtain ⟨m1, m2, m3, m4, _⟩ := M
  refine Exists.intro (N + 1) (zx_crash_l (I0 := fun s => zf_t (a_iTimeout (4 * (cb / 21) + s))) (op0 := a_open) hN hcb m3 m4.2.1 (fun lat f_nodes2 a_path2 a_data2 a_version2 a_childVersion2 a_created2 a_setAt2 a_owner2 a_firstChild2 a_sibling2 a_bucket2 op2 tm2 H2 t1 t2 hl => ?_) N 0 _ _ _ _ _ _ _ _ _ _ _ _ _ _ (by omega) H1 s1 (fun s hs => (s3 s hs).1) ⟨fun _ => rfl, fun z => by omega⟩)
  have H3 := zx_H_ext H2 (C' := C) (fun p => (m4.1 p).symm)
  have hn2 : zr_n a_path2 48 = zr_n a_path 48 := zr_cnt H3.2.1 m1.1.2.1 (fun _ => true)
  have hn21 := zx_n_le m1
  have el : lat = f_latest := by
    rcases Nat.eq_zero_or_pos N with z | z
    · rw [hl.1 z]; exact la.1 z
    · rw [hl.2 z]; exact la.2 z
  have eo : op2 = a_open := by
    funext s
    rcases Nat.lt_or_ge s 4 with z | z
    · have q := m4.2.2 s z
      rw [← t1 s z] at q
      exact q.1
    · exact t2 s z
  subst el eo
  refine Exists.intro 5 (zx_crash_d H3 m2 (by omega) (fun dl f_nodes3 a_path3 a_data3 a_version3 a_childVersion3 a_created3 a_setAt3 a_owner3 a_firstChild3 a_sibling3 a_bucket3 d1 H4 n4 => ?_) 4 0 _ rfl (fun s hs => by omega))
  rw [← he, ← hc]
  refine h _ _ _ _ _ _ _ _ _ _ _ tm2 dl qd1 H4 (by omega) (fun s hs o => ?_) d1 s2 (fun s hs => (s3 s hs).2)
  have q := m4.2.2 s hs
  rw [← t1 s hs] at q
  exact q.2 o
end
section
variable {g_time g_last g_watchCount g_partCount g_wrong g_changes g_log g_since g_placesLeft : Int32} {b_paths b_values b_open b_timeouts b_deadlines b_events b_eventCounts b_watchers b_watchKinds b_watchPaths b_parts b_happened b_how : Nat → Int32}
theorem zy_crash {post : Int32 → SY → Prop} (h : ∀ ec dl : Nat → Int32, (∀ s, s < 4 → ec s = 0) → (∀ s, 4 ≤ s → ec s = b_eventCounts s) → (∀ s, s < 4 → dl s = g_time + b_timeouts s) → post g_log (g_time, g_last, 0, 0, g_wrong, g_changes, g_log, g_since, 0, b_paths, b_values, b_open, b_timeouts, dl, b_events, ec, b_watchers, b_watchKinds, b_watchPaths, b_parts, b_happened, b_how)) : wpY_crash post (g_time, g_last, g_watchCount, g_partCount, g_wrong, g_changes, g_log, g_since, g_placesLeft, b_paths, b_values, b_open, b_timeouts, b_deadlines, b_events, b_eventCounts, b_watchers, b_watchKinds, b_watchPaths, b_parts, b_happened, b_how) := by
  have lp : ∀ (d i : Nat) (ec dl : Nat → Int32), i + d = 4 → (∀ s, s < i → ec s = 0) → (∀ s, 4 ≤ s → ec s = b_eventCounts s) → (∀ s, s < i → dl s = g_time + b_timeouts s) → wY_crash_17 post g_time g_last 0 0 g_wrong g_changes g_log g_since 0 (d + 1) (nI i) b_paths b_values b_open b_timeouts dl b_events ec b_watchers b_watchKinds b_watchPaths b_parts b_happened b_how := by
    intro d
    induction d with
    | zero =>
      intro i ec dl hi h1 h2 h3
      have : i = 4 := by omega
      subst this
      exact br_t (by decide) (h ec dl h1 h2 h3)
    | succ d ih =>
      intro i ec dl hi h1 h2 h3
      have hc := nI_clamp (n := i) (by omega)
      refine br_f (nI_ge (b := 4) (by omega) (by decide)) (zz_st rfl (by omega) (by decide) rfl (zz_in rfl (by omega) (by decide) (zz_st rfl (by omega) (by decide) (v' := g_time + b_timeouts i) (by rw [hc]) (nm_r (nI_1 i) (ih (i + 1) _ _ (by omega) (fun s hs => ?_) (fun s hs => by rw [pk_un (by omega)]; exact h2 s hs) (fun s hs => ?_))))))
      · by_cases z : s = i
        · rw [z, pk_us]
        · rw [pk_un z]; exact h1 s (by omega)
      · by_cases z : s = i
        · rw [z, pk_us]
        · rw [pk_un z]; exact h3 s (by omega)
  exact Exists.intro 5 (lp 4 0 _ _ rfl (fun s hs => by omega) (fun _ _ => rfl) (fun s hs => by omega))
end
theorem i_vc_crash {k : Nat} {u : SX} {v : SY} (I : i_Rel k u v) (hk : k + 5 ≤ 2560) : wpX_crash (fun r u' => wpY_crash (fun r' v' => r' = r ∧ i_Rel (k + 5) u' v') v) u := by
  refine zi_el (P := fun u v => wpX_crash (fun r u' => wpY_crash (fun r' v' => r' = r ∧ i_Rel (k + 5) u' v') v) u) ?_ I
  intro f_nodes f_time f_latest f_entries f_logged f_complete f_taken f_sinceEntry f_sinceCount f_parts f_wrongPart f_watches a_path a_data a_version a_childVersion a_created a_setAt a_owner a_firstChild a_sibling a_bucket a_open a_timeout a_deadline a_eKind a_ePath a_eData a_eOwner a_eVersion a_eNumber a_iPath a_iData a_iVersion a_iChildVersion a_iCreated a_iSet a_iOwner a_iTimeout a_iLatest a_pKind a_pPath a_pA a_pB a_uEntry a_uSlot a_uData a_uVersion a_uSet a_uChildVersion a_uCreated a_uOwner a_wSession a_wKind a_wPath a_queue a_queued g_time g_last g_watchCount g_partCount g_wrong g_changes g_log g_since g_placesLeft b_paths b_values b_open b_timeouts b_deadlines b_events b_eventCounts b_watchers b_watchKinds b_watchPaths b_parts b_happened b_how R
  obtain ⟨C, ⟨W, q, qd⟩, N, lg, pc, cb, sn, M, T, Q⟩ := R
  have lim := zi_N_lt Q
  obtain ⟨⟨q1, q2, q3, q4, q5, q6, q7, q8, q9, q10⟩, ⟨p1, p2, p3, p4⟩, ses, pk, ⟨w1, w2, w3, w4⟩, ⟨x1, x2, x3, x4⟩, im, la, sp⟩ := Q
  dsimp only at w1 w2 w3 w4 x1 x2 x3 x4
  refine zx_crash p1 q10 q1 (by omega) M im la (fun f_nodes1 a_path1 a_data1 a_version1 a_childVersion1 a_created1 a_setAt1 a_owner1 a_firstChild1 a_sibling1 a_bucket1 tm1 dl1 qd1 H1 n1 t1 d1 e1 e2 => ?_)
  refine zy_crash (fun ec dl c1 c2 c3 => And.intro (by rw [q2, q3]) ?_)
  have eec : ec = qd1 := by
    funext s
    rcases Nat.lt_or_ge s 4 with z | z
    · rw [c1 s z, e1 s z]
    · rw [c2 s z, e2 s z, w3, x3]
  have ok : zw_qok qd1 := fun s hs => by rw [e1 s hs, zb_t0]; omega
  have ses1 : zi_Ses a_open tm1 dl1 b_timeouts dl := fun s hs => by
    obtain ⟨o1, o2⟩ := ses s hs
    refine ⟨o1, fun o => ?_⟩
    obtain ⟨a1, a2, a3, a4⟩ := o2 o
    have := t1 s hs o
    exact ⟨by rw [a1, this], by rw [c3 s hs, d1 s hs, a1, this, q5], by rw [this]; exact a3, by rw [this]; exact a4⟩
  have M1 : zi_M (20 * k) N C f_nodes1 a_path1 a_data1 a_version1 a_childVersion1 a_created1 a_setAt1 a_owner1 a_firstChild1 a_sibling1 a_bucket1 a_eKind a_ePath a_eData a_eOwner a_eVersion a_eNumber a_iPath a_iData a_iVersion a_iChildVersion a_iCreated a_iSet a_iOwner a_iTimeout cb none a_open tm1 := by
    obtain ⟨_, m2, m3, m4, _⟩ := M
    exact ⟨H1, m2, m3, zi_Full_cg m4 (fun _ _ => rfl) (fun _ _ => rfl) (fun _ _ => rfl) (fun _ _ => rfl) (fun _ => rfl) (fun _ _ => rfl) t1, fun _ _ z => nomatch z⟩
  have hw : ∀ ws wk wp : Nat → Int32, zw_R 0 ws wk wp [] := fun ws wk wp => ⟨rfl, by decide, trivial, fun e he => by simp at he⟩
  exact zi_mk (pc := 0) (S := ([], q, qd1)) (zi_M_up M1) T ⟨⟨q1, q2, q3, q4, q5, q6, rfl, rfl, q9, q10⟩, ⟨p1, by omega, by rw [n1]; exact p3, p4⟩, ses1, fun j hj => by omega, ⟨hw _ _ _, w2, rfl, ok⟩, ⟨hw _ _ _, x2, eec, ok⟩, im, la, Or.inl ⟨rfl, rfl, rfl⟩⟩
end
section
/-! the beginning -/
def z0_C : zn_Mp := fun p => if p = 0 then some (0, 0, 0, 0, 0, -1) else none
theorem z0_im {ip : Nat → Int32} {nd : Nat → zn_Nd} (h0 : ip 0 = 0) (h1 : ∀ j, 1 ≤ j → j < 21 → ip j = -1) (hn : nd 0 = (0, 0, 0, 0, 0, -1)) (p : Int32) : ∀ n, n < 21 → zf_im ip nd 0 p (n + 1) = z0_C p
  | 0, _ => by
    show (if ip (0 + 0) = p ∧ 0 ≤ p.toInt then some (nd (0 + 0)) else none) = z0_C p
    rw [Nat.zero_add, h0, hn]
    unfold z0_C
    by_cases z : p = 0
    · rw [if_pos z, if_pos ⟨z.symm, by rw [z]; decide⟩]
    · rw [if_neg z, if_neg (fun w => z w.1.symm)]
  | n + 1, hl => by
    have ih := z0_im h0 h1 hn p n (by omega)
    show (if ip (0 + (n + 1)) = p ∧ 0 ≤ p.toInt then some (nd (0 + (n + 1))) else zf_im ip nd 0 p (n + 1)) = z0_C p
    rw [Nat.zero_add, h1 (n + 1) (by omega) hl, if_neg (fun w => by have := w.2; rw [← w.1, zb_tm1] at this; omega), ih]
theorem z0_ok : zi_C 0 z0_C := by
  have c0 : z0_C 0 = some (0, 0, 0, 0, 0, -1) := if_pos rfl
  refine ⟨⟨_, c0, rfl⟩, fun p x e => ?_⟩
  by_cases z : p = 0
  · subst z
    rw [c0] at e
    have e := (Option.some.inj e).symm
    subst e
    refine ⟨zp_0, ?_, ?_, ?_, ?_, ?_, ?_, fun w => absurd rfl w⟩
    · show 0 ≤ (0 : Int32).toInt; decide
    · show (0 : Int32).toInt ≤ (0 : Nat); decide
    · show 0 ≤ (0 : Int32).toInt; decide
    · show (0 : Int32).toInt ≤ (0 : Nat); decide
    · show -1 ≤ (-1 : Int32).toInt; decide
    · show (-1 : Int32).toInt ≤ 3; decide
  · have : z0_C p = none := if_neg z
    rw [this] at e; exact nomatch e
theorem zx_init395 {post : SX → Prop} {f_nodes1 : Int32} {a_path1 a_data1 a_version1 a_childVersion1 a_created1 a_setAt1 a_owner1 a_firstChild1 a_sibling1 a_bucket1 : Nat → Int32} (h : ∀ ip io : Nat → Int32, (∀ j, j < 42 → ip j = if j = 0 then 0 else -1) → io 0 = -1 → (∀ j, 1 ≤ j → io j = 0) → post (f_nodes1, 0, 0, 0, 0, 0, (-1), 0, 0, 0, (-1), 0, a_path1, a_data1, a_version1, a_childVersion1, a_created1, a_setAt1, a_owner1, a_firstChild1, a_sibling1, a_bucket1, (fun _ => 0), (fun _ => 0), (fun _ => 0), (fun _ => 0), (fun _ => 0), (fun _ => 0), (fun _ => 0), (fun _ => 0), (fun _ => 0), ip, (fun _ => 0), (fun _ => 0), (fun _ => 0), (fun _ => 0), (fun _ => 0), io, (fun _ => 0), (fun _ => 0), (fun _ => 0), (fun _ => 0), (fun _ => 0), (fun _ => 0), (fun _ => 0), (fun _ => 0), (fun _ => 0), (fun _ => 0), (fun _ => 0), (fun _ => 0), (fun _ => 0), (fun _ => 0), (fun _ => 0), (fun _ => 0), (fun _ => 0), (fun _ => 0), (fun _ => 0))) :
    ∀ (d i : Nat) (ip : Nat → Int32), i + d = 42 → (∀ j, j < i → ip j = -1) → wX_init_395 post f_nodes1 0 0 0 0 0 (-1) 0 0 0 (-1) 0 (d + 1) (nI i) a_path1 a_data1 a_version1 a_childVersion1 a_created1 a_setAt1 a_owner1 a_firstChild1 a_sibling1 a_bucket1 (fun _ => 0) (fun _ => 0) (fun _ => 0) (fun _ => 0) (fun _ => 0) (fun _ => 0) (fun _ => 0) (fun _ => 0) (fun _ => 0) ip (fun _ => 0) (fun _ => 0) (fun _ => 0) (fun _ => 0) (fun _ => 0) (fun _ => 0) (fun _ => 0) (fun _ => 0) (fun _ => 0) (fun _ => 0) (fun _ => 0) (fun _ => 0) (fun _ => 0) (fun _ => 0) (fun _ => 0) (fun _ => 0) (fun _ => 0) (fun _ => 0) (fun _ => 0) (fun _ => 0) (fun _ => 0) (fun _ => 0) (fun _ => 0) (fun _ => 0) (fun _ => 0) := by
  intro d
  induction d with
  | zero =>
    intro i ip hi h1
    have : i = 42 := by omega
    subst this
    refine br_t (by decide) (nm_e (nm_r (congrArg (upd _ 0) zb_narM) (h _ _ (fun j hj => ?_) pk_us (fun j hj => by rw [pk_un (by omega)]))))
    by_cases z : j = 0
    · rw [z, pk_us]; rfl
    · rw [pk_un z, if_neg z]; exact h1 j hj
  | succ d ih =>
    intro i ip hi h1
    refine br_f (nI_ge (b := 42) (by omega) (by decide)) (zz_st rfl (by omega) (by decide) rfl (nm_r (nI_1 i) (ih (i + 1) _ (by omega) (fun j hj => ?_))))
    by_cases z : j = i
    · rw [z, pk_us]
    · rw [pk_un z]; exact h1 j (by omega)
theorem zx_init {post : SX → Prop} (h : ∀ (f_nodes1 : Int32) (a_path1 a_data1 a_version1 a_childVersion1 a_created1 a_setAt1 a_owner1 a_firstChild1 a_sibling1 a_bucket1 : Nat → Int32) (ip io : Nat → Int32), zx_T f_nodes1 a_path1 a_data1 a_version1 a_childVersion1 a_created1 a_setAt1 a_owner1 a_firstChild1 a_sibling1 a_bucket1 z0_C → (∀ j, j < 42 → ip j = if j = 0 then 0 else -1) → io 0 = -1 → (∀ j, 1 ≤ j → io j = 0) → post (f_nodes1, 0, 0, 0, 0, 0, (-1), 0, 0, 0, (-1), 0, a_path1, a_data1, a_version1, a_childVersion1, a_created1, a_setAt1, a_owner1, a_firstChild1, a_sibling1, a_bucket1, (fun _ => 0), (fun _ => 0), (fun _ => 0), (fun _ => 0), (fun _ => 0), (fun _ => 0), (fun _ => 0), (fun _ => 0), (fun _ => 0), ip, (fun _ => 0), (fun _ => 0), (fun _ => 0), (fun _ => 0), (fun _ => 0), io, (fun _ => 0), (fun _ => 0), (fun _ => 0), (fun _ => 0), (fun _ => 0), (fun _ => 0), (fun _ => 0), (fun _ => 0), (fun _ => 0), (fun _ => 0), (fun _ => 0), (fun _ => 0), (fun _ => 0), (fun _ => 0), (fun _ => 0), (fun _ => 0), (fun _ => 0), (fun _ => 0), (fun _ => 0))) : wpX_init post := by
  unfold wpX_init
  refine zx_empty (fun p1 fc1 bk1 h1 h2 h3 => ?_)
  have H0 := zx_H0 (a_data := fun _ => 0) (a_version := fun _ => 0) (a_childVersion := fun _ => 0) (a_created := fun _ => 0) (a_setAt := fun _ => 0) (a_owner := fun _ => 0) h1 h3
  have t0 : (0 : Int32).toInt = 0 := zb_t0
  refine zx_place (s := 0) H0 (by decide) (by rw [h1 0 (by decide), zb_tm1]; omega) (by rw [t0]; omega) rfl (fun bk H1 => ?_)
  refine nm_r (congrArg (upd _ 0) zb_narM) ?_
  have nd0 : ∀ j, zn_nd (upd (fun _ => 0) 0 0) (upd (fun _ => 0) 0 0) (upd (fun _ => 0) 0 0) (fun _ => 0) (fun _ => 0) (upd (fun _ => 0) 0 (-1)) j = if j = 0 then (0, 0, 0, 0, 0, -1) else (0, 0, 0, 0, 0, 0) := fun j => by
    by_cases z : j = 0
    · rw [z]; rfl
    · simp only [zn_nd, pk_un z, if_neg z]
  have pj : ∀ j, j < 48 → 0 ≤ (upd p1 0 0 j).toInt → j = 0 := fun j hj h0 => by
    by_cases z : j = 0
    · exact z
    · rw [pk_un z, h1 j hj, zb_tm1] at h0; omega
  have HT : zx_T (0 + 1) (upd p1 0 0) (upd (fun _ => 0) 0 0) (upd (fun _ => 0) 0 0) (upd (fun _ => 0) 0 0) (fun _ => 0) (fun _ => 0) (upd (fun _ => 0) 0 (-1)) (upd fc1 0 (-1)) (upd (fun _ => 0) 0 (-1)) bk z0_C := by
    refine ⟨⟨H1.1, ⟨fun s hs h0 => ?_, fun p x e => ?_, fun s s' hs hs' h0 e => ?_⟩, H1.2.2⟩, ⟨fun q hq h0 => ?_, fun s hs d => ?_⟩, fun s a b => ?_, pk_us⟩
    · have := pj s hs h0
      subst this
      rw [pk_us, nd0]; rfl
    · by_cases z : p = 0
      · exact ⟨by rw [z, t0]; omega, 0, by decide, by rw [z, pk_us]⟩
      · have : z0_C p = none := if_neg z
        rw [this] at e; exact nomatch e
    · have z := pj s hs h0
      rw [e] at h0
      have z' := pj s' hs' h0
      omega
    · have := pj q hq h0
      subst this
      rw [pk_us, pk_us]
      refine Or.inl ⟨rfl, fun s hs d _ => ?_⟩
      have := pj s hs (by omega)
      subst this
      rw [pk_us, t0]; omega
    · exfalso
      have := pj s hs (by omega)
      subst this
      rw [pk_us, t0] at d; omega
    · rw [pk_un (by omega)]; exact h1 s b
  exact Exists.intro 43 (zx_init395 (fun ip io i1 i2 i3 => h _ _ _ _ _ _ _ _ _ _ _ ip io HT i1 i2 i3) 42 0 _ rfl (fun j hj => by omega))
theorem zy_init {post : SY → Prop} (h : ∀ pth vals : Nat → Int32, (∀ j, j < 42 → pth j = if j = 0 then 0 else -1) → (∀ j, vals j = if j = 5 then -1 else 0) → post (0, 0, 0, 0, (-1), 0, 0, 0, 0, pth, vals, (fun _ => 0), (fun _ => 0), (fun _ => 0), (fun _ => 0), (fun _ => 0), (fun _ => 0), (fun _ => 0), (fun _ => 0), (fun _ => 0), (fun _ => 0), (fun _ => 0))) : wpY_init post := by
  have lp : ∀ (d i : Nat) (pth : Nat → Int32), i + d = 42 → (∀ j, j < i → pth j = -1) → wY_init_112 post 0 0 0 0 (-1) 0 0 0 0 (d + 1) (nI i) pth (fun _ => 0) (fun _ => 0) (fun _ => 0) (fun _ => 0) (fun _ => 0) (fun _ => 0) (fun _ => 0) (fun _ => 0) (fun _ => 0) (fun _ => 0) (fun _ => 0) (fun _ => 0) := by
    intro d
    induction d with
    | zero =>
      intro i pth hi h1
      have : i = 42 := by omega
      subst this
      refine br_t (by decide) (nm_e (nm_e (h _ _ (fun j hj => ?_) (fun j => ?_))))
      · by_cases z : j = 0
        · rw [z, pk_us]; rfl
        · rw [pk_un z, if_neg z]; exact h1 j hj
      · by_cases z : j = 5
        · rw [z, pk_us]; rfl
        · rw [pk_un z, if_neg z]
    | succ d ih =>
      intro i pth hi h1
      refine br_f (nI_ge (b := 42) (by omega) (by decide)) (zz_st rfl (by omega) (by decide) rfl (nm_r (nI_1 i) (ih (i + 1) _ (by omega) (fun j hj => ?_))))
      by_cases z : j = i
      · rw [z, pk_us]
      · rw [pk_un z]; exact h1 j (by omega)
  exact Exists.intro 43 (lp 42 0 _ rfl (fun j hj => by omega))
theorem i_vc0 : wpX_init (fun u => wpY_init (fun v => i_Rel 0 u v)) := by
  refine zx_init (fun f_nodes1 a_path1 a_data1 a_version1 a_childVersion1 a_created1 a_setAt1 a_owner1 a_firstChild1 a_sibling1 a_bucket1 ip io H i1 i2 i3 => zy_init (fun pth vals p1 v1 => ?_))
  have t0 : (0 : Int32).toInt = 0 := zb_t0
  have hn := zx_n_le H
  have hS : zi_S (fun _ => 0) ≤ 4 := zc_leN _ _
  have T : zy_T pth vals z0_C := by
    have pj : ∀ j, j < 21 → 0 ≤ (pth j).toInt → j = 0 := fun j hj h0 => by
      by_cases z : j = 0
      · exact z
      · rw [p1 j (by omega), if_neg z, zb_tm1] at h0; omega
    have p0 : pth 0 = 0 := by rw [p1 0 (by decide), if_pos rfl]
    refine ⟨⟨fun s hs h0 => ?_, fun p x e => ?_, fun s s' hs hs' h0 e => ?_⟩, p0⟩
    · have := pj s hs h0
      subst this
      rw [p0]
      unfold zy_nd
      rw [v1, v1, v1, v1, v1, v1]
      rfl
    · by_cases z : p = 0
      · exact ⟨by rw [z, t0]; omega, 0, by decide, by rw [z, p0]⟩
      · have : z0_C p = none := if_neg z
        rw [this] at e; exact nomatch e
    · have z := pj s hs h0
      rw [e] at h0
      have z' := pj s' hs' h0
      omega
  have hw : ∀ ws wk wp : Nat → Int32, zw_R 0 ws wk wp [] := fun ws wk wp => ⟨rfl, by decide, trivial, fun e he => by simp at he⟩
  have ok : zw_qok (fun _ => 0) := fun s _ => by rw [t0]; omega
  have M : zi_M (20 * 0) 0 z0_C f_nodes1 a_path1 a_data1 a_version1 a_childVersion1 a_created1 a_setAt1 a_owner1 a_firstChild1 a_sibling1 a_bucket1 (fun _ => 0) (fun _ => 0) (fun _ => 0) (fun _ => 0) (fun _ => 0) (fun _ => 0) ip (fun _ => 0) (fun _ => 0) (fun _ => 0) (fun _ => 0) (fun _ => 0) io (fun _ => 0) 0 none (fun _ => 0) (fun _ => 0) := by
    refine ⟨H, z0_ok, fun j hj => by omega, ⟨fun p => ?_, fun j hj => ?_, fun s _ => ?_⟩, fun _ _ z => nomatch z⟩
    · show zf_im ip _ 0 p 21 = z0_C p
      refine z0_im (by rw [i1 0 (by decide), if_pos rfl]) (fun j a b => by rw [i1 j (by omega), if_neg (by omega)]) ?_ p 20 (by decide)
      simp only [zn_nd, i2]
    · have : j = 0 := by omega
      subst this
      exact ⟨fun _ => 0, fun p hp => by exact absurd hp (by simp [zf_F])⟩
    · show zf_q (zf_t 0) 0 0
      exact ⟨by unfold zf_t; rw [t0]; rfl, fun w => absurd w (by decide)⟩
  refine zi_mk (k := 0) (S := ([], (fun _ => 0), (fun _ => 0))) (N := 0) (lg := 0) (pc := 0) (cb := 0) (sn := none) M T ⟨⟨rfl, rfl, rfl, rfl, rfl, rfl, rfl, rfl, rfl, rfl⟩, ⟨Or.inl rfl, by omega, by unfold zi_Pot; omega, by omega⟩, fun s _ => ⟨Or.inl rfl, fun w => absurd (show (0 : Int32) = 1 from w) (by decide)⟩, fun j hj => by omega, ⟨hw _ _ _, rfl, rfl, ok⟩, ⟨hw _ _ _, rfl, rfl, ok⟩, ⟨fun j hj h0 => ?_, fun j _ => by rw [t0]; omega⟩, ⟨fun _ => rfl, fun z => by omega⟩, Or.inl ⟨rfl, rfl, rfl⟩⟩
  by_cases z : j = 0
  · rw [z, i2, zb_tm1]; omega
  · rw [i1 j hj, if_neg z, zb_tm1] at h0; omega
end
