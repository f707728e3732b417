section
/-! pure rows to paste: stores, nI and lN arithmetic, masks, shifts, narrowing, branches by naturals (pk_le, pk_lt, pk_eq), loops (lp1 .. lp16: the measure of the state; rp1 ..: recursion), negatives. Take what you need -/
theorem pk_us {f : Nat → Int32} {k : Nat} {x : Int32} : upd f k x k = x := if_pos rfl
theorem pk_un {f : Nat → Int32} {k j : Nat} {x : Int32} (h : j ≠ k) : upd f k x j = f j := if_neg h
theorem pk_uLs {f : Nat → Int64} {k : Nat} {x : Int64} : vp_updL f k x k = x := if_pos rfl
theorem pk_uLn {f : Nat → Int64} {k j : Nat} {x : Int64} (h : j ≠ k) : vp_updL f k x j = f j := if_neg h
theorem pk_sub {a b : Nat} (h : b ≤ a) : nI a - nI b = nI (a - b) := by
  obtain ⟨c, rfl⟩ : ∃ c, a = c + b := ⟨a - b, by omega⟩
  rw [← nI_add, Int32.add_sub_cancel, Nat.add_sub_cancel]
theorem pk_m1 (n : Nat) : nI (n + 1) + (-1) = nI n := by
  rw [← nI_1, Int32.add_assoc, show (1 : Int32) + (-1) = 0 from rfl, Int32.add_zero]
theorem pk_mul (a b : Nat) : nI a * nI b = nI (a * b) := (Int32.ofNat_mul a b).symm
theorem pk_div {a d : Nat} (ha : a < 2 ^ 31) (h0 : 0 < d) (hd : d < 2 ^ 31) : nI a / nI d = nI (a / d) := by
  apply Int32.toInt_inj.mp
  rw [lg_idiv_nonneg (by rw [nI_toInt ha]; omega) (by rw [nI_toInt hd]; omega), nI_toInt ha, nI_toInt hd, nI_toInt (Nat.lt_of_le_of_lt (Nat.div_le_self a d) ha)]
  first | rfl | exact (Int.natCast_ediv _ _).symm
theorem pk_rem {a d : Nat} (ha : a < 2 ^ 31) (h0 : 0 < d) (hd : d < 2 ^ 31) : nI a - nI a / nI d * nI d = nI (a % d) := by
  rw [pk_div ha h0 hd, pk_mul, pk_sub (Nat.div_mul_le_self a d)]
  exact congrArg nI (by have := Nat.div_add_mod' a d; omega)
theorem pk_sub_toInt {a b : Nat} (ha : a < 2 ^ 30) (hb : b < 2 ^ 30) : (nI a - nI b).toInt = (a : Int) - b := by
  rw [Int32.toInt_sub, nI_toInt (by omega), nI_toInt (by omega)]
  exact Int.bmod_eq_of_le (by omega) (by omega)
theorem pk_sneg {a b : Nat} (hb : b < 2 ^ 30) (h : a < b) : nI a - nI b < 0 := by
  rw [Int32.lt_iff_toInt_lt, pk_sub_toInt (by omega) hb, show (0 : Int32).toInt = 0 from by decide]
  omega
theorem pk_ix (x : Int32) {n : Nat} (hn : n < 2 ^ 31) : x < 0 ∨ nI n ≤ x ∨ ∃ j : Nat, j < n ∧ x = nI j := by
  by_cases h : x < 0
  · exact Or.inl h
  · obtain ⟨j, hj, rfl⟩ := nI_of h
    by_cases h2 : j < n
    · exact Or.inr (Or.inr ⟨j, h2, rfl⟩)
    · exact Or.inr (Or.inl (nI_le (by omega) hj))
theorem pk_le {x y : Int32} {A B : Prop} (a b : Nat) (f : a ≤ b → A) (g : b < a → B) (hx : x = nI a := by rfl) (hy : y = nI b := by rfl) (ha : a < 2 ^ 31 := by omega) (hb : b < 2 ^ 31 := by omega) : (x ≤ y → A) ∧ (¬ x ≤ y → B) := by
  subst hx hy
  rw [nI_leI ha hb]
  exact ⟨f, fun z => g (by omega)⟩
theorem pk_lt {x y : Int32} {A B : Prop} (a b : Nat) (f : a < b → A) (g : b ≤ a → B) (hx : x = nI a := by rfl) (hy : y = nI b := by rfl) (ha : a < 2 ^ 31 := by omega) (hb : b < 2 ^ 31 := by omega) : (x < y → A) ∧ (¬ x < y → B) := by
  subst hx hy
  rw [nI_ltI ha hb]
  exact ⟨f, fun z => g (by omega)⟩
theorem pk_eq {x y : Int32} {A B : Prop} (a b : Nat) (f : a = b → A) (g : a ≠ b → B) (hx : x = nI a := by rfl) (hy : y = nI b := by rfl) (ha : a < 2 ^ 31 := by omega) (hb : b < 2 ^ 31 := by omega) : (x = y → A) ∧ (¬ x = y → B) := by
  subst hx hy
  rw [nI_eq ha hb]
  exact ⟨f, g⟩
theorem pk_in {x : Int32} (n N : Nat) (h : n < N) (hx : x = nI n := by rfl) (hN : N < 2 ^ 31 := by omega) : vp_in x N := by
  subst hx
  exact vp_in_nI h hN
theorem pk_cl {x : Int32} (n : Nat) (hx : x = nI n := by rfl) (h : n < 2 ^ 31 := by omega) : x.toNatClampNeg = n := by
  subst hx
  exact nI_clamp h
theorem pk_tn {n : Nat} (h : n < 2 ^ 32) : (nI n).toBitVec.toNat = n := Nat.mod_eq_of_lt h
theorem pk_and (x : Int32) {m : Int32} (k : Nat) (hm : m.toBitVec.toNat = 2 ^ k - 1) : x &&& m = nI (x.toBitVec.toNat % 2 ^ k) := by
  apply Int32.toBitVec_inj.mp
  apply BitVec.eq_of_toNat_eq
  rw [Int32.toBitVec_and, BitVec.toNat_and, hm, Nat.and_two_pow_sub_one_eq_mod]
  show _ = (BitVec.ofNat 32 _).toNat
  rw [BitVec.toNat_ofNat]
  exact (Nat.mod_eq_of_lt (Nat.lt_of_le_of_lt (Nat.mod_le _ _) x.toBitVec.isLt)).symm
theorem pk_andN {n : Nat} (h : n < 2 ^ 32) {m : Int32} (k : Nat) (hm : m.toBitVec.toNat = 2 ^ k - 1) : nI n &&& m = nI (n % 2 ^ k) := by
  rw [pk_and _ k hm, pk_tn h]
theorem pk_andE (x : Int32) {m : Int32} (k : Nat) (hm : m.toBitVec.toNat = 2 ^ k - 1) : ∃ j : Nat, j < 2 ^ k ∧ x &&& m = nI j := ⟨_, Nat.mod_lt _ (Nat.two_pow_pos k), pk_and x k hm⟩
theorem pk_andIn (x : Int32) {m : Int32} (k : Nat) (hm : m.toBitVec.toNat = 2 ^ k - 1) (hk : k ≤ 30) : vp_in (x &&& m) (2 ^ k) := by
  obtain ⟨j, hj, e⟩ := pk_andE x k hm
  rw [e]
  exact vp_in_nI hj (Nat.lt_of_le_of_lt (Nat.pow_le_pow_right (by decide) hk) (by decide))
theorem pk_shl (a s : Int32) (k : Nat) (hs : (s.toBitVec.smod 32).toNat = k) : (a <<< s).toBitVec.toNat = a.toBitVec.toNat * 2 ^ k % 2 ^ 32 := by
  show (a.toBitVec <<< (s.toBitVec.smod 32).toNat).toNat = _
  rw [hs, BitVec.toNat_shiftLeft, Nat.shiftLeft_eq]
theorem pk_shlN {n : Nat} (s : Int32) (k : Nat) (hs : (s.toBitVec.smod 32).toNat = k) (h : n * 2 ^ k < 2 ^ 32) : nI n <<< s = nI (n * 2 ^ k) := by
  apply Int32.toBitVec_inj.mp
  apply BitVec.eq_of_toNat_eq
  have hn : n < 2 ^ 32 := Nat.lt_of_le_of_lt (Nat.le_mul_of_pos_right n (Nat.two_pow_pos k)) h
  rw [pk_shl _ _ k hs, pk_tn hn, pk_tn h, Nat.mod_eq_of_lt h]
theorem pk_shr (a s : Int32) (k : Nat) (hs : (s.toBitVec.smod 32).toNat = k) : (a >>> s).toInt = a.toInt >>> k := by
  show (a.toBitVec.sshiftRight (s.toBitVec.smod 32).toNat).toInt = _
  rw [hs, BitVec.toInt_sshiftRight]
  rfl
theorem pk_shrN {n : Nat} (h : n < 2 ^ 31) (s : Int32) (k : Nat) (hs : (s.toBitVec.smod 32).toNat = k) : nI n >>> s = nI (n / 2 ^ k) := by
  apply Int32.toInt_inj.mp
  have h2 : n / 2 ^ k ≤ n := Nat.div_le_self _ _
  rw [pk_shr _ _ k hs, nI_toInt h, nI_toInt (by omega), Int.shiftRight_eq_div_pow]
  rfl
theorem pk_ushr (x s : Int32) (k : Nat) (hs : ((s.toUInt32 &&& Int32.toUInt32 31).toBitVec % 32).toNat = k) : (x.toUInt32 >>> (s.toUInt32 &&& Int32.toUInt32 31)).toInt32.toBitVec.toNat = x.toBitVec.toNat / 2 ^ k := by
  have e : (x.toUInt32 >>> (s.toUInt32 &&& Int32.toUInt32 31)).toInt32.toBitVec = x.toBitVec >>> k := by
    rw [← hs]
    exact UInt32.toBitVec_shiftRight _ _
  rw [e, BitVec.toNat_ushiftRight, Nat.shiftRight_eq_div_pow]
theorem pk_ushrN {n : Nat} (hn : n < 2 ^ 32) (s : Int32) (k : Nat) (hs : ((s.toUInt32 &&& Int32.toUInt32 31).toBitVec % 32).toNat = k) : ((nI n).toUInt32 >>> (s.toUInt32 &&& Int32.toUInt32 31)).toInt32 = nI (n / 2 ^ k) := by
  apply Int32.toBitVec_inj.mp
  apply BitVec.eq_of_toNat_eq
  rw [pk_ushr _ s k hs, pk_tn hn, pk_tn (Nat.lt_of_le_of_lt (Nat.div_le_self _ _) hn)]
theorem pk_nb (z : Int32) : narrow .byte (.int z.toInt8.toInt32) = .int z.toInt8.toInt32 := congrArg Value.int (by simp)
theorem pk_ns (z : Int32) : narrow .short (.int z.toInt16.toInt32) = .int z.toInt16.toInt32 := congrArg Value.int (by simp)
theorem pk_fb (r : Int32) : fits .byte (.int r.toInt8.toInt32) = true := by
  have ⟨a, b⟩ := lg_i2b_range r
  have h1 : (-128 : Int32).toInt = -128 := by decide
  have h2 : (127 : Int32).toInt = 127 := by decide
  simp only [fits, Bool.and_eq_true, decide_eq_true_eq, Int32.le_iff_toInt_le, h1, h2]
  omega
theorem pk_fs (r : Int32) : fits .short (.int r.toInt16.toInt32) = true := by
  have ⟨a, b⟩ := lg_i2s_range r
  have h1 : (-32768 : Int32).toInt = -32768 := by decide
  have h2 : (32767 : Int32).toInt = 32767 := by decide
  simp only [fits, Bool.and_eq_true, decide_eq_true_eq, Int32.le_iff_toInt_le, h1, h2]
  omega
theorem pk_charN {q : Nat} (hq : q < 65536) : narrow .char (.int (nI q)) = .int (nI q) ∧ fits .char (.int (nI q)) = true := by
  constructor
  · have e : (nI q).toUInt32.toUInt16.toUInt32.toInt32 = nI q := by
      apply Int32.toBitVec_inj.mp
      apply BitVec.eq_of_toNat_eq
      show (nI q).toUInt32.toUInt16.toUInt32.toNat = q % 2 ^ 32
      rw [UInt16.toNat_toUInt32, UInt32.toNat_toUInt16, show (nI q).toUInt32.toNat = q % 2 ^ 32 from rfl]
      omega
    exact congrArg Value.int e
  · have a : (0 : Int32) ≤ nI q := nI_pos' (by omega)
    have b : nI q ≤ 65535 := nI_le (b := 65535) (by omega) (by decide)
    show (decide ((0 : Int32) ≤ nI q) && decide (nI q ≤ 65535)) = true
    rw [decide_eq_true a, decide_eq_true b]
    rfl
theorem pk_char (x : Int32) : (x.toUInt32 % 65536).toInt32 = nI (x.toBitVec.toNat % 65536) := by
  apply Int32.toBitVec_inj.mp
  apply BitVec.eq_of_toNat_eq
  rw [pk_tn (by omega)]
  show (x.toUInt32 % 65536).toNat = _
  rw [UInt32.toNat_mod]
  rfl
theorem pk_nc (x : Int32) : narrow .char (.int (x.toUInt32 % 65536).toInt32) = .int (x.toUInt32 % 65536).toInt32 := by
  rw [pk_char]
  exact (pk_charN (Nat.mod_lt _ (by decide))).1
theorem pk_fc (x : Int32) : fits .char (.int (x.toUInt32 % 65536).toInt32) = true := by
  rw [pk_char]
  exact (pk_charN (Nat.mod_lt _ (by decide))).2
theorem pk_vb (z : Int32) : vp_nar .byte z.toInt8.toInt32 = z.toInt8.toInt32 := by rw [vp_nar_byte]; simp
theorem pk_vs (z : Int32) : vp_nar .short z.toInt16.toInt32 = z.toInt16.toInt32 := by rw [vp_nar_short]; simp
theorem pk_vc (z : Int32) : vp_nar .char (z.toUInt32 % 65536).toInt32 = (z.toUInt32 % 65536).toInt32 := Value.int.inj (pk_nc z)
theorem pk_lT {n : Nat} (h : n < 2 ^ 63) : (lN n).toInt = (n : Int) := lg_ofNat_toInt h
theorem pk_lLT {a b : Nat} (ha : a < 2 ^ 63) (hb : b < 2 ^ 63) : lN a < lN b ↔ a < b := by
  rw [Int64.lt_iff_toInt_lt, pk_lT ha, pk_lT hb]; omega
theorem pk_lLE {a b : Nat} (ha : a < 2 ^ 63) (hb : b < 2 ^ 63) : lN a ≤ lN b ↔ a ≤ b := by
  rw [Int64.le_iff_toInt_le, pk_lT ha, pk_lT hb]; omega
theorem pk_lEQ {a b : Nat} (ha : a < 2 ^ 63) (hb : b < 2 ^ 63) : lN a = lN b ↔ a = b := by
  rw [← Int64.toInt_inj, pk_lT ha, pk_lT hb]; omega
theorem pk_lOf {x : Int64} (h : ¬ x < 0) : ∃ k : Nat, k < 2 ^ 63 ∧ x = lN k := by
  rw [Int64.lt_iff_toInt_lt] at h
  have h0 : (0 : Int64).toInt = 0 := by decide
  have hx := Int64.toInt_lt x
  refine ⟨x.toInt.toNat, by omega, Int64.toInt_inj.mp ?_⟩
  rw [pk_lT (by omega)]
  omega
theorem pk_lDiv {a b : Nat} (ha : a < 2 ^ 63) (h0 : 0 < b) (hb : b < 2 ^ 63) : lN a / lN b = lN (a / b) := by
  apply Int64.toInt_inj.mp
  rw [lg_ldiv_nonneg (by rw [pk_lT ha]; omega) (by rw [pk_lT hb]; omega), pk_lT ha, pk_lT hb, pk_lT (Nat.lt_of_le_of_lt (Nat.div_le_self a b) ha)]
  rfl
theorem pk_lRem {a b : Nat} (ha : a < 2 ^ 63) (h0 : 0 < b) (hb : b < 2 ^ 63) : lN a - lN a / lN b * lN b = lN (a % b) := by
  rw [pk_lDiv ha h0 hb, lN_mul, lN_sub (Nat.div_mul_le_self a b)]
  exact congrArg lN (by have := Nat.div_add_mod' a b; omega)
theorem pk_loop {σ : Type} (W : Nat → Nat → σ → Prop) (I : Nat → σ → Prop) (e i0 : Nat) (s : σ) (hi : i0 ≤ e) (h0 : I i0 s) (hx : ∀ n s, I e s → W (n + 1) e s)
    (hs : ∀ n i s, i < e → I i s → (∀ s', I (i + 1) s' → W n (i + 1) s') → W (n + 1) i s) : ∃ n, W n i0 s :=
  ⟨e + 1, loop_i W I e hx hs (e + 1) i0 s hi (by omega) h0⟩
theorem pk_loopD {σ : Type} (W : Nat → Nat → σ → Prop) (I : Nat → σ → Prop) (hx : ∀ n s, I 0 s → W (n + 1) 0 s)
    (hs : ∀ n i s, I (i + 1) s → (∀ s', I i s' → W n i s') → W (n + 1) (i + 1) s) : ∀ (e : Nat) (s : σ), I e s → W (e + 1) e s := by
  intro e
  induction e with
  | zero => exact fun s h => hx 0 s h
  | succ e ih => exact fun s h => hs (e + 1) e s h (fun s' h' => ih s' h')
theorem lp1 {A1 : Type} (W : Nat → A1 → Prop) (I : A1 → Prop) (μ : A1 → Nat) (hs : ∀ (n : Nat) (a1 : A1), I a1 → (∀ (b1 : A1), I b1 → μ b1 < μ a1 → W n b1) → W (n + 1) a1) (a1 : A1) (h : I a1) : ∃ n, W n a1 :=
  loop_m (σ := A1) (fun n s => W n s) (fun s => I s) (fun s => μ s) (fun n s hI hk => hs n s hI (fun b1 h9 hm => hk b1 h9 hm)) a1 h
theorem lp2 {A1 A2 : Type} (W : Nat → A1 → A2 → Prop) (I : A1 → A2 → Prop) (μ : A1 → A2 → Nat) (hs : ∀ (n : Nat) (a1 : A1) (a2 : A2), I a1 a2 → (∀ (b1 : A1) (b2 : A2), I b1 b2 → μ b1 b2 < μ a1 a2 → W n b1 b2) → W (n + 1) a1 a2) (a1 : A1) (a2 : A2) (h : I a1 a2) : ∃ n, W n a1 a2 :=
  loop_m (σ := A1 × A2) (fun n s => W n s.1 s.2) (fun s => I s.1 s.2) (fun s => μ s.1 s.2) (fun n s hI hk => hs n s.1 s.2 hI (fun b1 b2 h9 hm => hk (b1, b2) h9 hm)) (a1, a2) h
theorem lp3 {A1 A2 A3 : Type} (W : Nat → A1 → A2 → A3 → Prop) (I : A1 → A2 → A3 → Prop) (μ : A1 → A2 → A3 → Nat) (hs : ∀ (n : Nat) (a1 : A1) (a2 : A2) (a3 : A3), I a1 a2 a3 → (∀ (b1 : A1) (b2 : A2) (b3 : A3), I b1 b2 b3 → μ b1 b2 b3 < μ a1 a2 a3 → W n b1 b2 b3) → W (n + 1) a1 a2 a3) (a1 : A1) (a2 : A2) (a3 : A3) (h : I a1 a2 a3) : ∃ n, W n a1 a2 a3 :=
  loop_m (σ := A1 × A2 × A3) (fun n s => W n s.1 s.2.1 s.2.2) (fun s => I s.1 s.2.1 s.2.2) (fun s => μ s.1 s.2.1 s.2.2) (fun n s hI hk => hs n s.1 s.2.1 s.2.2 hI (fun b1 b2 b3 h9 hm => hk (b1, b2, b3) h9 hm)) (a1, a2, a3) h
theorem lp4 {A1 A2 A3 A4 : Type} (W : Nat → A1 → A2 → A3 → A4 → Prop) (I : A1 → A2 → A3 → A4 → Prop) (μ : A1 → A2 → A3 → A4 → Nat) (hs : ∀ (n : Nat) (a1 : A1) (a2 : A2) (a3 : A3) (a4 : A4), I a1 a2 a3 a4 → (∀ (b1 : A1) (b2 : A2) (b3 : A3) (b4 : A4), I b1 b2 b3 b4 → μ b1 b2 b3 b4 < μ a1 a2 a3 a4 → W n b1 b2 b3 b4) → W (n + 1) a1 a2 a3 a4) (a1 : A1) (a2 : A2) (a3 : A3) (a4 : A4) (h : I a1 a2 a3 a4) : ∃ n, W n a1 a2 a3 a4 :=
  loop_m (σ := A1 × A2 × A3 × A4) (fun n s => W n s.1 s.2.1 s.2.2.1 s.2.2.2) (fun s => I s.1 s.2.1 s.2.2.1 s.2.2.2) (fun s => μ s.1 s.2.1 s.2.2.1 s.2.2.2) (fun n s hI hk => hs n s.1 s.2.1 s.2.2.1 s.2.2.2 hI (fun b1 b2 b3 b4 h9 hm => hk (b1, b2, b3, b4) h9 hm)) (a1, a2, a3, a4) h
theorem lp5 {A1 A2 A3 A4 A5 : Type} (W : Nat → A1 → A2 → A3 → A4 → A5 → Prop) (I : A1 → A2 → A3 → A4 → A5 → Prop) (μ : A1 → A2 → A3 → A4 → A5 → Nat) (hs : ∀ (n : Nat) (a1 : A1) (a2 : A2) (a3 : A3) (a4 : A4) (a5 : A5), I a1 a2 a3 a4 a5 → (∀ (b1 : A1) (b2 : A2) (b3 : A3) (b4 : A4) (b5 : A5), I b1 b2 b3 b4 b5 → μ b1 b2 b3 b4 b5 < μ a1 a2 a3 a4 a5 → W n b1 b2 b3 b4 b5) → W (n + 1) a1 a2 a3 a4 a5) (a1 : A1) (a2 : A2) (a3 : A3) (a4 : A4) (a5 : A5) (h : I a1 a2 a3 a4 a5) : ∃ n, W n a1 a2 a3 a4 a5 :=
  loop_m (σ := A1 × A2 × A3 × A4 × A5) (fun n s => W n s.1 s.2.1 s.2.2.1 s.2.2.2.1 s.2.2.2.2) (fun s => I s.1 s.2.1 s.2.2.1 s.2.2.2.1 s.2.2.2.2) (fun s => μ s.1 s.2.1 s.2.2.1 s.2.2.2.1 s.2.2.2.2) (fun n s hI hk => hs n s.1 s.2.1 s.2.2.1 s.2.2.2.1 s.2.2.2.2 hI (fun b1 b2 b3 b4 b5 h9 hm => hk (b1, b2, b3, b4, b5) h9 hm)) (a1, a2, a3, a4, a5) h
theorem lp6 {A1 A2 A3 A4 A5 A6 : Type} (W : Nat → A1 → A2 → A3 → A4 → A5 → A6 → Prop) (I : A1 → A2 → A3 → A4 → A5 → A6 → Prop) (μ : A1 → A2 → A3 → A4 → A5 → A6 → Nat) (hs : ∀ (n : Nat) (a1 : A1) (a2 : A2) (a3 : A3) (a4 : A4) (a5 : A5) (a6 : A6), I a1 a2 a3 a4 a5 a6 → (∀ (b1 : A1) (b2 : A2) (b3 : A3) (b4 : A4) (b5 : A5) (b6 : A6), I b1 b2 b3 b4 b5 b6 → μ b1 b2 b3 b4 b5 b6 < μ a1 a2 a3 a4 a5 a6 → W n b1 b2 b3 b4 b5 b6) → W (n + 1) a1 a2 a3 a4 a5 a6) (a1 : A1) (a2 : A2) (a3 : A3) (a4 : A4) (a5 : A5) (a6 : A6) (h : I a1 a2 a3 a4 a5 a6) : ∃ n, W n a1 a2 a3 a4 a5 a6 :=
  loop_m (σ := A1 × A2 × A3 × A4 × A5 × A6) (fun n s => W n s.1 s.2.1 s.2.2.1 s.2.2.2.1 s.2.2.2.2.1 s.2.2.2.2.2) (fun s => I s.1 s.2.1 s.2.2.1 s.2.2.2.1 s.2.2.2.2.1 s.2.2.2.2.2) (fun s => μ s.1 s.2.1 s.2.2.1 s.2.2.2.1 s.2.2.2.2.1 s.2.2.2.2.2) (fun n s hI hk => hs n s.1 s.2.1 s.2.2.1 s.2.2.2.1 s.2.2.2.2.1 s.2.2.2.2.2 hI (fun b1 b2 b3 b4 b5 b6 h9 hm => hk (b1, b2, b3, b4, b5, b6) h9 hm)) (a1, a2, a3, a4, a5, a6) h
theorem lp7 {A1 A2 A3 A4 A5 A6 A7 : Type} (W : Nat → A1 → A2 → A3 → A4 → A5 → A6 → A7 → Prop) (I : A1 → A2 → A3 → A4 → A5 → A6 → A7 → Prop) (μ : A1 → A2 → A3 → A4 → A5 → A6 → A7 → Nat) (hs : ∀ (n : Nat) (a1 : A1) (a2 : A2) (a3 : A3) (a4 : A4) (a5 : A5) (a6 : A6) (a7 : A7), I a1 a2 a3 a4 a5 a6 a7 → (∀ (b1 : A1) (b2 : A2) (b3 : A3) (b4 : A4) (b5 : A5) (b6 : A6) (b7 : A7), I b1 b2 b3 b4 b5 b6 b7 → μ b1 b2 b3 b4 b5 b6 b7 < μ a1 a2 a3 a4 a5 a6 a7 → W n b1 b2 b3 b4 b5 b6 b7) → W (n + 1) a1 a2 a3 a4 a5 a6 a7) (a1 : A1) (a2 : A2) (a3 : A3) (a4 : A4) (a5 : A5) (a6 : A6) (a7 : A7) (h : I a1 a2 a3 a4 a5 a6 a7) : ∃ n, W n a1 a2 a3 a4 a5 a6 a7 :=
  loop_m (σ := A1 × A2 × A3 × A4 × A5 × A6 × A7) (fun n s => W n s.1 s.2.1 s.2.2.1 s.2.2.2.1 s.2.2.2.2.1 s.2.2.2.2.2.1 s.2.2.2.2.2.2) (fun s => I s.1 s.2.1 s.2.2.1 s.2.2.2.1 s.2.2.2.2.1 s.2.2.2.2.2.1 s.2.2.2.2.2.2) (fun s => μ s.1 s.2.1 s.2.2.1 s.2.2.2.1 s.2.2.2.2.1 s.2.2.2.2.2.1 s.2.2.2.2.2.2) (fun n s hI hk => hs n s.1 s.2.1 s.2.2.1 s.2.2.2.1 s.2.2.2.2.1 s.2.2.2.2.2.1 s.2.2.2.2.2.2 hI (fun b1 b2 b3 b4 b5 b6 b7 h9 hm => hk (b1, b2, b3, b4, b5, b6, b7) h9 hm)) (a1, a2, a3, a4, a5, a6, a7) h
theorem lp8 {A1 A2 A3 A4 A5 A6 A7 A8 : Type} (W : Nat → A1 → A2 → A3 → A4 → A5 → A6 → A7 → A8 → Prop) (I : A1 → A2 → A3 → A4 → A5 → A6 → A7 → A8 → Prop) (μ : A1 → A2 → A3 → A4 → A5 → A6 → A7 → A8 → Nat) (hs : ∀ (n : Nat) (a1 : A1) (a2 : A2) (a3 : A3) (a4 : A4) (a5 : A5) (a6 : A6) (a7 : A7) (a8 : A8), I a1 a2 a3 a4 a5 a6 a7 a8 → (∀ (b1 : A1) (b2 : A2) (b3 : A3) (b4 : A4) (b5 : A5) (b6 : A6) (b7 : A7) (b8 : A8), I b1 b2 b3 b4 b5 b6 b7 b8 → μ b1 b2 b3 b4 b5 b6 b7 b8 < μ a1 a2 a3 a4 a5 a6 a7 a8 → W n b1 b2 b3 b4 b5 b6 b7 b8) → W (n + 1) a1 a2 a3 a4 a5 a6 a7 a8) (a1 : A1) (a2 : A2) (a3 : A3) (a4 : A4) (a5 : A5) (a6 : A6) (a7 : A7) (a8 : A8) (h : I a1 a2 a3 a4 a5 a6 a7 a8) : ∃ n, W n a1 a2 a3 a4 a5 a6 a7 a8 :=
  loop_m (σ := A1 × A2 × A3 × A4 × A5 × A6 × A7 × A8) (fun n s => W n s.1 s.2.1 s.2.2.1 s.2.2.2.1 s.2.2.2.2.1 s.2.2.2.2.2.1 s.2.2.2.2.2.2.1 s.2.2.2.2.2.2.2) (fun s => I s.1 s.2.1 s.2.2.1 s.2.2.2.1 s.2.2.2.2.1 s.2.2.2.2.2.1 s.2.2.2.2.2.2.1 s.2.2.2.2.2.2.2) (fun s => μ s.1 s.2.1 s.2.2.1 s.2.2.2.1 s.2.2.2.2.1 s.2.2.2.2.2.1 s.2.2.2.2.2.2.1 s.2.2.2.2.2.2.2) (fun n s hI hk => hs n s.1 s.2.1 s.2.2.1 s.2.2.2.1 s.2.2.2.2.1 s.2.2.2.2.2.1 s.2.2.2.2.2.2.1 s.2.2.2.2.2.2.2 hI (fun b1 b2 b3 b4 b5 b6 b7 b8 h9 hm => hk (b1, b2, b3, b4, b5, b6, b7, b8) h9 hm)) (a1, a2, a3, a4, a5, a6, a7, a8) h
theorem lp9 {A1 A2 A3 A4 A5 A6 A7 A8 A9 : Type} (W : Nat → A1 → A2 → A3 → A4 → A5 → A6 → A7 → A8 → A9 → Prop) (I : A1 → A2 → A3 → A4 → A5 → A6 → A7 → A8 → A9 → Prop) (μ : A1 → A2 → A3 → A4 → A5 → A6 → A7 → A8 → A9 → Nat) (hs : ∀ (n : Nat) (a1 : A1) (a2 : A2) (a3 : A3) (a4 : A4) (a5 : A5) (a6 : A6) (a7 : A7) (a8 : A8) (a9 : A9), I a1 a2 a3 a4 a5 a6 a7 a8 a9 → (∀ (b1 : A1) (b2 : A2) (b3 : A3) (b4 : A4) (b5 : A5) (b6 : A6) (b7 : A7) (b8 : A8) (b9 : A9), I b1 b2 b3 b4 b5 b6 b7 b8 b9 → μ b1 b2 b3 b4 b5 b6 b7 b8 b9 < μ a1 a2 a3 a4 a5 a6 a7 a8 a9 → W n b1 b2 b3 b4 b5 b6 b7 b8 b9) → W (n + 1) a1 a2 a3 a4 a5 a6 a7 a8 a9) (a1 : A1) (a2 : A2) (a3 : A3) (a4 : A4) (a5 : A5) (a6 : A6) (a7 : A7) (a8 : A8) (a9 : A9) (h : I a1 a2 a3 a4 a5 a6 a7 a8 a9) : ∃ n, W n a1 a2 a3 a4 a5 a6 a7 a8 a9 :=
  loop_m (σ := A1 × A2 × A3 × A4 × A5 × A6 × A7 × A8 × A9) (fun n s => W n s.1 s.2.1 s.2.2.1 s.2.2.2.1 s.2.2.2.2.1 s.2.2.2.2.2.1 s.2.2.2.2.2.2.1 s.2.2.2.2.2.2.2.1 s.2.2.2.2.2.2.2.2) (fun s => I s.1 s.2.1 s.2.2.1 s.2.2.2.1 s.2.2.2.2.1 s.2.2.2.2.2.1 s.2.2.2.2.2.2.1 s.2.2.2.2.2.2.2.1 s.2.2.2.2.2.2.2.2) (fun s => μ s.1 s.2.1 s.2.2.1 s.2.2.2.1 s.2.2.2.2.1 s.2.2.2.2.2.1 s.2.2.2.2.2.2.1 s.2.2.2.2.2.2.2.1 s.2.2.2.2.2.2.2.2) (fun n s hI hk => hs n s.1 s.2.1 s.2.2.1 s.2.2.2.1 s.2.2.2.2.1 s.2.2.2.2.2.1 s.2.2.2.2.2.2.1 s.2.2.2.2.2.2.2.1 s.2.2.2.2.2.2.2.2 hI (fun b1 b2 b3 b4 b5 b6 b7 b8 b9 h9 hm => hk (b1, b2, b3, b4, b5, b6, b7, b8, b9) h9 hm)) (a1, a2, a3, a4, a5, a6, a7, a8, a9) h
theorem lp10 {A1 A2 A3 A4 A5 A6 A7 A8 A9 A10 : Type} (W : Nat → A1 → A2 → A3 → A4 → A5 → A6 → A7 → A8 → A9 → A10 → Prop) (I : A1 → A2 → A3 → A4 → A5 → A6 → A7 → A8 → A9 → A10 → Prop) (μ : A1 → A2 → A3 → A4 → A5 → A6 → A7 → A8 → A9 → A10 → Nat) (hs : ∀ (n : Nat) (a1 : A1) (a2 : A2) (a3 : A3) (a4 : A4) (a5 : A5) (a6 : A6) (a7 : A7) (a8 : A8) (a9 : A9) (a10 : A10), I a1 a2 a3 a4 a5 a6 a7 a8 a9 a10 → (∀ (b1 : A1) (b2 : A2) (b3 : A3) (b4 : A4) (b5 : A5) (b6 : A6) (b7 : A7) (b8 : A8) (b9 : A9) (b10 : A10), I b1 b2 b3 b4 b5 b6 b7 b8 b9 b10 → μ b1 b2 b3 b4 b5 b6 b7 b8 b9 b10 < μ a1 a2 a3 a4 a5 a6 a7 a8 a9 a10 → W n b1 b2 b3 b4 b5 b6 b7 b8 b9 b10) → W (n + 1) a1 a2 a3 a4 a5 a6 a7 a8 a9 a10) (a1 : A1) (a2 : A2) (a3 : A3) (a4 : A4) (a5 : A5) (a6 : A6) (a7 : A7) (a8 : A8) (a9 : A9) (a10 : A10) (h : I a1 a2 a3 a4 a5 a6 a7 a8 a9 a10) : ∃ n, W n a1 a2 a3 a4 a5 a6 a7 a8 a9 a10 :=
  loop_m (σ := A1 × A2 × A3 × A4 × A5 × A6 × A7 × A8 × A9 × A10) (fun n s => W n s.1 s.2.1 s.2.2.1 s.2.2.2.1 s.2.2.2.2.1 s.2.2.2.2.2.1 s.2.2.2.2.2.2.1 s.2.2.2.2.2.2.2.1 s.2.2.2.2.2.2.2.2.1 s.2.2.2.2.2.2.2.2.2) (fun s => I s.1 s.2.1 s.2.2.1 s.2.2.2.1 s.2.2.2.2.1 s.2.2.2.2.2.1 s.2.2.2.2.2.2.1 s.2.2.2.2.2.2.2.1 s.2.2.2.2.2.2.2.2.1 s.2.2.2.2.2.2.2.2.2) (fun s => μ s.1 s.2.1 s.2.2.1 s.2.2.2.1 s.2.2.2.2.1 s.2.2.2.2.2.1 s.2.2.2.2.2.2.1 s.2.2.2.2.2.2.2.1 s.2.2.2.2.2.2.2.2.1 s.2.2.2.2.2.2.2.2.2) (fun n s hI hk => hs n s.1 s.2.1 s.2.2.1 s.2.2.2.1 s.2.2.2.2.1 s.2.2.2.2.2.1 s.2.2.2.2.2.2.1 s.2.2.2.2.2.2.2.1 s.2.2.2.2.2.2.2.2.1 s.2.2.2.2.2.2.2.2.2 hI (fun b1 b2 b3 b4 b5 b6 b7 b8 b9 b10 h9 hm => hk (b1, b2, b3, b4, b5, b6, b7, b8, b9, b10) h9 hm)) (a1, a2, a3, a4, a5, a6, a7, a8, a9, a10) h
theorem lp11 {A1 A2 A3 A4 A5 A6 A7 A8 A9 A10 A11 : Type} (W : Nat → A1 → A2 → A3 → A4 → A5 → A6 → A7 → A8 → A9 → A10 → A11 → Prop) (I : A1 → A2 → A3 → A4 → A5 → A6 → A7 → A8 → A9 → A10 → A11 → Prop) (μ : A1 → A2 → A3 → A4 → A5 → A6 → A7 → A8 → A9 → A10 → A11 → Nat) (hs : ∀ (n : Nat) (a1 : A1) (a2 : A2) (a3 : A3) (a4 : A4) (a5 : A5) (a6 : A6) (a7 : A7) (a8 : A8) (a9 : A9) (a10 : A10) (a11 : A11), I a1 a2 a3 a4 a5 a6 a7 a8 a9 a10 a11 → (∀ (b1 : A1) (b2 : A2) (b3 : A3) (b4 : A4) (b5 : A5) (b6 : A6) (b7 : A7) (b8 : A8) (b9 : A9) (b10 : A10) (b11 : A11), I b1 b2 b3 b4 b5 b6 b7 b8 b9 b10 b11 → μ b1 b2 b3 b4 b5 b6 b7 b8 b9 b10 b11 < μ a1 a2 a3 a4 a5 a6 a7 a8 a9 a10 a11 → W n b1 b2 b3 b4 b5 b6 b7 b8 b9 b10 b11) → W (n + 1) a1 a2 a3 a4 a5 a6 a7 a8 a9 a10 a11) (a1 : A1) (a2 : A2) (a3 : A3) (a4 : A4) (a5 : A5) (a6 : A6) (a7 : A7) (a8 : A8) (a9 : A9) (a10 : A10) (a11 : A11) (h : I a1 a2 a3 a4 a5 a6 a7 a8 a9 a10 a11) : ∃ n, W n a1 a2 a3 a4 a5 a6 a7 a8 a9 a10 a11 :=
  loop_m (σ := A1 × A2 × A3 × A4 × A5 × A6 × A7 × A8 × A9 × A10 × A11) (fun n s => W n s.1 s.2.1 s.2.2.1 s.2.2.2.1 s.2.2.2.2.1 s.2.2.2.2.2.1 s.2.2.2.2.2.2.1 s.2.2.2.2.2.2.2.1 s.2.2.2.2.2.2.2.2.1 s.2.2.2.2.2.2.2.2.2.1 s.2.2.2.2.2.2.2.2.2.2) (fun s => I s.1 s.2.1 s.2.2.1 s.2.2.2.1 s.2.2.2.2.1 s.2.2.2.2.2.1 s.2.2.2.2.2.2.1 s.2.2.2.2.2.2.2.1 s.2.2.2.2.2.2.2.2.1 s.2.2.2.2.2.2.2.2.2.1 s.2.2.2.2.2.2.2.2.2.2) (fun s => μ s.1 s.2.1 s.2.2.1 s.2.2.2.1 s.2.2.2.2.1 s.2.2.2.2.2.1 s.2.2.2.2.2.2.1 s.2.2.2.2.2.2.2.1 s.2.2.2.2.2.2.2.2.1 s.2.2.2.2.2.2.2.2.2.1 s.2.2.2.2.2.2.2.2.2.2) (fun n s hI hk => hs n s.1 s.2.1 s.2.2.1 s.2.2.2.1 s.2.2.2.2.1 s.2.2.2.2.2.1 s.2.2.2.2.2.2.1 s.2.2.2.2.2.2.2.1 s.2.2.2.2.2.2.2.2.1 s.2.2.2.2.2.2.2.2.2.1 s.2.2.2.2.2.2.2.2.2.2 hI (fun b1 b2 b3 b4 b5 b6 b7 b8 b9 b10 b11 h9 hm => hk (b1, b2, b3, b4, b5, b6, b7, b8, b9, b10, b11) h9 hm)) (a1, a2, a3, a4, a5, a6, a7, a8, a9, a10, a11) h
theorem lp12 {A1 A2 A3 A4 A5 A6 A7 A8 A9 A10 A11 A12 : Type} (W : Nat → A1 → A2 → A3 → A4 → A5 → A6 → A7 → A8 → A9 → A10 → A11 → A12 → Prop) (I : A1 → A2 → A3 → A4 → A5 → A6 → A7 → A8 → A9 → A10 → A11 → A12 → Prop) (μ : A1 → A2 → A3 → A4 → A5 → A6 → A7 → A8 → A9 → A10 → A11 → A12 → Nat) (hs : ∀ (n : Nat) (a1 : A1) (a2 : A2) (a3 : A3) (a4 : A4) (a5 : A5) (a6 : A6) (a7 : A7) (a8 : A8) (a9 : A9) (a10 : A10) (a11 : A11) (a12 : A12), I a1 a2 a3 a4 a5 a6 a7 a8 a9 a10 a11 a12 → (∀ (b1 : A1) (b2 : A2) (b3 : A3) (b4 : A4) (b5 : A5) (b6 : A6) (b7 : A7) (b8 : A8) (b9 : A9) (b10 : A10) (b11 : A11) (b12 : A12), I b1 b2 b3 b4 b5 b6 b7 b8 b9 b10 b11 b12 → μ b1 b2 b3 b4 b5 b6 b7 b8 b9 b10 b11 b12 < μ a1 a2 a3 a4 a5 a6 a7 a8 a9 a10 a11 a12 → W n b1 b2 b3 b4 b5 b6 b7 b8 b9 b10 b11 b12) → W (n + 1) a1 a2 a3 a4 a5 a6 a7 a8 a9 a10 a11 a12) (a1 : A1) (a2 : A2) (a3 : A3) (a4 : A4) (a5 : A5) (a6 : A6) (a7 : A7) (a8 : A8) (a9 : A9) (a10 : A10) (a11 : A11) (a12 : A12) (h : I a1 a2 a3 a4 a5 a6 a7 a8 a9 a10 a11 a12) : ∃ n, W n a1 a2 a3 a4 a5 a6 a7 a8 a9 a10 a11 a12 :=
  loop_m (σ := A1 × A2 × A3 × A4 × A5 × A6 × A7 × A8 × A9 × A10 × A11 × A12) (fun n s => W n s.1 s.2.1 s.2.2.1 s.2.2.2.1 s.2.2.2.2.1 s.2.2.2.2.2.1 s.2.2.2.2.2.2.1 s.2.2.2.2.2.2.2.1 s.2.2.2.2.2.2.2.2.1 s.2.2.2.2.2.2.2.2.2.1 s.2.2.2.2.2.2.2.2.2.2.1 s.2.2.2.2.2.2.2.2.2.2.2) (fun s => I s.1 s.2.1 s.2.2.1 s.2.2.2.1 s.2.2.2.2.1 s.2.2.2.2.2.1 s.2.2.2.2.2.2.1 s.2.2.2.2.2.2.2.1 s.2.2.2.2.2.2.2.2.1 s.2.2.2.2.2.2.2.2.2.1 s.2.2.2.2.2.2.2.2.2.2.1 s.2.2.2.2.2.2.2.2.2.2.2) (fun s => μ s.1 s.2.1 s.2.2.1 s.2.2.2.1 s.2.2.2.2.1 s.2.2.2.2.2.1 s.2.2.2.2.2.2.1 s.2.2.2.2.2.2.2.1 s.2.2.2.2.2.2.2.2.1 s.2.2.2.2.2.2.2.2.2.1 s.2.2.2.2.2.2.2.2.2.2.1 s.2.2.2.2.2.2.2.2.2.2.2) (fun n s hI hk => hs n s.1 s.2.1 s.2.2.1 s.2.2.2.1 s.2.2.2.2.1 s.2.2.2.2.2.1 s.2.2.2.2.2.2.1 s.2.2.2.2.2.2.2.1 s.2.2.2.2.2.2.2.2.1 s.2.2.2.2.2.2.2.2.2.1 s.2.2.2.2.2.2.2.2.2.2.1 s.2.2.2.2.2.2.2.2.2.2.2 hI (fun b1 b2 b3 b4 b5 b6 b7 b8 b9 b10 b11 b12 h9 hm => hk (b1, b2, b3, b4, b5, b6, b7, b8, b9, b10, b11, b12) h9 hm)) (a1, a2, a3, a4, a5, a6, a7, a8, a9, a10, a11, a12) h
theorem lp13 {A1 A2 A3 A4 A5 A6 A7 A8 A9 A10 A11 A12 A13 : Type} (W : Nat → A1 → A2 → A3 → A4 → A5 → A6 → A7 → A8 → A9 → A10 → A11 → A12 → A13 → Prop) (I : A1 → A2 → A3 → A4 → A5 → A6 → A7 → A8 → A9 → A10 → A11 → A12 → A13 → Prop) (μ : A1 → A2 → A3 → A4 → A5 → A6 → A7 → A8 → A9 → A10 → A11 → A12 → A13 → Nat) (hs : ∀ (n : Nat) (a1 : A1) (a2 : A2) (a3 : A3) (a4 : A4) (a5 : A5) (a6 : A6) (a7 : A7) (a8 : A8) (a9 : A9) (a10 : A10) (a11 : A11) (a12 : A12) (a13 : A13), I a1 a2 a3 a4 a5 a6 a7 a8 a9 a10 a11 a12 a13 → (∀ (b1 : A1) (b2 : A2) (b3 : A3) (b4 : A4) (b5 : A5) (b6 : A6) (b7 : A7) (b8 : A8) (b9 : A9) (b10 : A10) (b11 : A11) (b12 : A12) (b13 : A13), I b1 b2 b3 b4 b5 b6 b7 b8 b9 b10 b11 b12 b13 → μ b1 b2 b3 b4 b5 b6 b7 b8 b9 b10 b11 b12 b13 < μ a1 a2 a3 a4 a5 a6 a7 a8 a9 a10 a11 a12 a13 → W n b1 b2 b3 b4 b5 b6 b7 b8 b9 b10 b11 b12 b13) → W (n + 1) a1 a2 a3 a4 a5 a6 a7 a8 a9 a10 a11 a12 a13) (a1 : A1) (a2 : A2) (a3 : A3) (a4 : A4) (a5 : A5) (a6 : A6) (a7 : A7) (a8 : A8) (a9 : A9) (a10 : A10) (a11 : A11) (a12 : A12) (a13 : A13) (h : I a1 a2 a3 a4 a5 a6 a7 a8 a9 a10 a11 a12 a13) : ∃ n, W n a1 a2 a3 a4 a5 a6 a7 a8 a9 a10 a11 a12 a13 :=
  loop_m (σ := A1 × A2 × A3 × A4 × A5 × A6 × A7 × A8 × A9 × A10 × A11 × A12 × A13) (fun n s => W n s.1 s.2.1 s.2.2.1 s.2.2.2.1 s.2.2.2.2.1 s.2.2.2.2.2.1 s.2.2.2.2.2.2.1 s.2.2.2.2.2.2.2.1 s.2.2.2.2.2.2.2.2.1 s.2.2.2.2.2.2.2.2.2.1 s.2.2.2.2.2.2.2.2.2.2.1 s.2.2.2.2.2.2.2.2.2.2.2.1 s.2.2.2.2.2.2.2.2.2.2.2.2) (fun s => I s.1 s.2.1 s.2.2.1 s.2.2.2.1 s.2.2.2.2.1 s.2.2.2.2.2.1 s.2.2.2.2.2.2.1 s.2.2.2.2.2.2.2.1 s.2.2.2.2.2.2.2.2.1 s.2.2.2.2.2.2.2.2.2.1 s.2.2.2.2.2.2.2.2.2.2.1 s.2.2.2.2.2.2.2.2.2.2.2.1 s.2.2.2.2.2.2.2.2.2.2.2.2) (fun s => μ s.1 s.2.1 s.2.2.1 s.2.2.2.1 s.2.2.2.2.1 s.2.2.2.2.2.1 s.2.2.2.2.2.2.1 s.2.2.2.2.2.2.2.1 s.2.2.2.2.2.2.2.2.1 s.2.2.2.2.2.2.2.2.2.1 s.2.2.2.2.2.2.2.2.2.2.1 s.2.2.2.2.2.2.2.2.2.2.2.1 s.2.2.2.2.2.2.2.2.2.2.2.2) (fun n s hI hk => hs n s.1 s.2.1 s.2.2.1 s.2.2.2.1 s.2.2.2.2.1 s.2.2.2.2.2.1 s.2.2.2.2.2.2.1 s.2.2.2.2.2.2.2.1 s.2.2.2.2.2.2.2.2.1 s.2.2.2.2.2.2.2.2.2.1 s.2.2.2.2.2.2.2.2.2.2.1 s.2.2.2.2.2.2.2.2.2.2.2.1 s.2.2.2.2.2.2.2.2.2.2.2.2 hI (fun b1 b2 b3 b4 b5 b6 b7 b8 b9 b10 b11 b12 b13 h9 hm => hk (b1, b2, b3, b4, b5, b6, b7, b8, b9, b10, b11, b12, b13) h9 hm)) (a1, a2, a3, a4, a5, a6, a7, a8, a9, a10, a11, a12, a13) h
theorem lp14 {A1 A2 A3 A4 A5 A6 A7 A8 A9 A10 A11 A12 A13 A14 : Type} (W : Nat → A1 → A2 → A3 → A4 → A5 → A6 → A7 → A8 → A9 → A10 → A11 → A12 → A13 → A14 → Prop) (I : A1 → A2 → A3 → A4 → A5 → A6 → A7 → A8 → A9 → A10 → A11 → A12 → A13 → A14 → Prop) (μ : A1 → A2 → A3 → A4 → A5 → A6 → A7 → A8 → A9 → A10 → A11 → A12 → A13 → A14 → Nat) (hs : ∀ (n : Nat) (a1 : A1) (a2 : A2) (a3 : A3) (a4 : A4) (a5 : A5) (a6 : A6) (a7 : A7) (a8 : A8) (a9 : A9) (a10 : A10) (a11 : A11) (a12 : A12) (a13 : A13) (a14 : A14), I a1 a2 a3 a4 a5 a6 a7 a8 a9 a10 a11 a12 a13 a14 → (∀ (b1 : A1) (b2 : A2) (b3 : A3) (b4 : A4) (b5 : A5) (b6 : A6) (b7 : A7) (b8 : A8) (b9 : A9) (b10 : A10) (b11 : A11) (b12 : A12) (b13 : A13) (b14 : A14), I b1 b2 b3 b4 b5 b6 b7 b8 b9 b10 b11 b12 b13 b14 → μ b1 b2 b3 b4 b5 b6 b7 b8 b9 b10 b11 b12 b13 b14 < μ a1 a2 a3 a4 a5 a6 a7 a8 a9 a10 a11 a12 a13 a14 → W n b1 b2 b3 b4 b5 b6 b7 b8 b9 b10 b11 b12 b13 b14) → W (n + 1) a1 a2 a3 a4 a5 a6 a7 a8 a9 a10 a11 a12 a13 a14) (a1 : A1) (a2 : A2) (a3 : A3) (a4 : A4) (a5 : A5) (a6 : A6) (a7 : A7) (a8 : A8) (a9 : A9) (a10 : A10) (a11 : A11) (a12 : A12) (a13 : A13) (a14 : A14) (h : I a1 a2 a3 a4 a5 a6 a7 a8 a9 a10 a11 a12 a13 a14) : ∃ n, W n a1 a2 a3 a4 a5 a6 a7 a8 a9 a10 a11 a12 a13 a14 :=
  loop_m (σ := A1 × A2 × A3 × A4 × A5 × A6 × A7 × A8 × A9 × A10 × A11 × A12 × A13 × A14) (fun n s => W n s.1 s.2.1 s.2.2.1 s.2.2.2.1 s.2.2.2.2.1 s.2.2.2.2.2.1 s.2.2.2.2.2.2.1 s.2.2.2.2.2.2.2.1 s.2.2.2.2.2.2.2.2.1 s.2.2.2.2.2.2.2.2.2.1 s.2.2.2.2.2.2.2.2.2.2.1 s.2.2.2.2.2.2.2.2.2.2.2.1 s.2.2.2.2.2.2.2.2.2.2.2.2.1 s.2.2.2.2.2.2.2.2.2.2.2.2.2) (fun s => I s.1 s.2.1 s.2.2.1 s.2.2.2.1 s.2.2.2.2.1 s.2.2.2.2.2.1 s.2.2.2.2.2.2.1 s.2.2.2.2.2.2.2.1 s.2.2.2.2.2.2.2.2.1 s.2.2.2.2.2.2.2.2.2.1 s.2.2.2.2.2.2.2.2.2.2.1 s.2.2.2.2.2.2.2.2.2.2.2.1 s.2.2.2.2.2.2.2.2.2.2.2.2.1 s.2.2.2.2.2.2.2.2.2.2.2.2.2) (fun s => μ s.1 s.2.1 s.2.2.1 s.2.2.2.1 s.2.2.2.2.1 s.2.2.2.2.2.1 s.2.2.2.2.2.2.1 s.2.2.2.2.2.2.2.1 s.2.2.2.2.2.2.2.2.1 s.2.2.2.2.2.2.2.2.2.1 s.2.2.2.2.2.2.2.2.2.2.1 s.2.2.2.2.2.2.2.2.2.2.2.1 s.2.2.2.2.2.2.2.2.2.2.2.2.1 s.2.2.2.2.2.2.2.2.2.2.2.2.2) (fun n s hI hk => hs n s.1 s.2.1 s.2.2.1 s.2.2.2.1 s.2.2.2.2.1 s.2.2.2.2.2.1 s.2.2.2.2.2.2.1 s.2.2.2.2.2.2.2.1 s.2.2.2.2.2.2.2.2.1 s.2.2.2.2.2.2.2.2.2.1 s.2.2.2.2.2.2.2.2.2.2.1 s.2.2.2.2.2.2.2.2.2.2.2.1 s.2.2.2.2.2.2.2.2.2.2.2.2.1 s.2.2.2.2.2.2.2.2.2.2.2.2.2 hI (fun b1 b2 b3 b4 b5 b6 b7 b8 b9 b10 b11 b12 b13 b14 h9 hm => hk (b1, b2, b3, b4, b5, b6, b7, b8, b9, b10, b11, b12, b13, b14) h9 hm)) (a1, a2, a3, a4, a5, a6, a7, a8, a9, a10, a11, a12, a13, a14) h
theorem lp15 {A1 A2 A3 A4 A5 A6 A7 A8 A9 A10 A11 A12 A13 A14 A15 : Type} (W : Nat → A1 → A2 → A3 → A4 → A5 → A6 → A7 → A8 → A9 → A10 → A11 → A12 → A13 → A14 → A15 → Prop) (I : A1 → A2 → A3 → A4 → A5 → A6 → A7 → A8 → A9 → A10 → A11 → A12 → A13 → A14 → A15 → Prop) (μ : A1 → A2 → A3 → A4 → A5 → A6 → A7 → A8 → A9 → A10 → A11 → A12 → A13 → A14 → A15 → Nat) (hs : ∀ (n : Nat) (a1 : A1) (a2 : A2) (a3 : A3) (a4 : A4) (a5 : A5) (a6 : A6) (a7 : A7) (a8 : A8) (a9 : A9) (a10 : A10) (a11 : A11) (a12 : A12) (a13 : A13) (a14 : A14) (a15 : A15), I a1 a2 a3 a4 a5 a6 a7 a8 a9 a10 a11 a12 a13 a14 a15 → (∀ (b1 : A1) (b2 : A2) (b3 : A3) (b4 : A4) (b5 : A5) (b6 : A6) (b7 : A7) (b8 : A8) (b9 : A9) (b10 : A10) (b11 : A11) (b12 : A12) (b13 : A13) (b14 : A14) (b15 : A15), I b1 b2 b3 b4 b5 b6 b7 b8 b9 b10 b11 b12 b13 b14 b15 → μ b1 b2 b3 b4 b5 b6 b7 b8 b9 b10 b11 b12 b13 b14 b15 < μ a1 a2 a3 a4 a5 a6 a7 a8 a9 a10 a11 a12 a13 a14 a15 → W n b1 b2 b3 b4 b5 b6 b7 b8 b9 b10 b11 b12 b13 b14 b15) → W (n + 1) a1 a2 a3 a4 a5 a6 a7 a8 a9 a10 a11 a12 a13 a14 a15) (a1 : A1) (a2 : A2) (a3 : A3) (a4 : A4) (a5 : A5) (a6 : A6) (a7 : A7) (a8 : A8) (a9 : A9) (a10 : A10) (a11 : A11) (a12 : A12) (a13 : A13) (a14 : A14) (a15 : A15) (h : I a1 a2 a3 a4 a5 a6 a7 a8 a9 a10 a11 a12 a13 a14 a15) : ∃ n, W n a1 a2 a3 a4 a5 a6 a7 a8 a9 a10 a11 a12 a13 a14 a15 :=
  loop_m (σ := A1 × A2 × A3 × A4 × A5 × A6 × A7 × A8 × A9 × A10 × A11 × A12 × A13 × A14 × A15) (fun n s => W n s.1 s.2.1 s.2.2.1 s.2.2.2.1 s.2.2.2.2.1 s.2.2.2.2.2.1 s.2.2.2.2.2.2.1 s.2.2.2.2.2.2.2.1 s.2.2.2.2.2.2.2.2.1 s.2.2.2.2.2.2.2.2.2.1 s.2.2.2.2.2.2.2.2.2.2.1 s.2.2.2.2.2.2.2.2.2.2.2.1 s.2.2.2.2.2.2.2.2.2.2.2.2.1 s.2.2.2.2.2.2.2.2.2.2.2.2.2.1 s.2.2.2.2.2.2.2.2.2.2.2.2.2.2) (fun s => I s.1 s.2.1 s.2.2.1 s.2.2.2.1 s.2.2.2.2.1 s.2.2.2.2.2.1 s.2.2.2.2.2.2.1 s.2.2.2.2.2.2.2.1 s.2.2.2.2.2.2.2.2.1 s.2.2.2.2.2.2.2.2.2.1 s.2.2.2.2.2.2.2.2.2.2.1 s.2.2.2.2.2.2.2.2.2.2.2.1 s.2.2.2.2.2.2.2.2.2.2.2.2.1 s.2.2.2.2.2.2.2.2.2.2.2.2.2.1 s.2.2.2.2.2.2.2.2.2.2.2.2.2.2) (fun s => μ s.1 s.2.1 s.2.2.1 s.2.2.2.1 s.2.2.2.2.1 s.2.2.2.2.2.1 s.2.2.2.2.2.2.1 s.2.2.2.2.2.2.2.1 s.2.2.2.2.2.2.2.2.1 s.2.2.2.2.2.2.2.2.2.1 s.2.2.2.2.2.2.2.2.2.2.1 s.2.2.2.2.2.2.2.2.2.2.2.1 s.2.2.2.2.2.2.2.2.2.2.2.2.1 s.2.2.2.2.2.2.2.2.2.2.2.2.2.1 s.2.2.2.2.2.2.2.2.2.2.2.2.2.2) (fun n s hI hk => hs n s.1 s.2.1 s.2.2.1 s.2.2.2.1 s.2.2.2.2.1 s.2.2.2.2.2.1 s.2.2.2.2.2.2.1 s.2.2.2.2.2.2.2.1 s.2.2.2.2.2.2.2.2.1 s.2.2.2.2.2.2.2.2.2.1 s.2.2.2.2.2.2.2.2.2.2.1 s.2.2.2.2.2.2.2.2.2.2.2.1 s.2.2.2.2.2.2.2.2.2.2.2.2.1 s.2.2.2.2.2.2.2.2.2.2.2.2.2.1 s.2.2.2.2.2.2.2.2.2.2.2.2.2.2 hI (fun b1 b2 b3 b4 b5 b6 b7 b8 b9 b10 b11 b12 b13 b14 b15 h9 hm => hk (b1, b2, b3, b4, b5, b6, b7, b8, b9, b10, b11, b12, b13, b14, b15) h9 hm)) (a1, a2, a3, a4, a5, a6, a7, a8, a9, a10, a11, a12, a13, a14, a15) h
theorem lp16 {A1 A2 A3 A4 A5 A6 A7 A8 A9 A10 A11 A12 A13 A14 A15 A16 : Type} (W : Nat → A1 → A2 → A3 → A4 → A5 → A6 → A7 → A8 → A9 → A10 → A11 → A12 → A13 → A14 → A15 → A16 → Prop) (I : A1 → A2 → A3 → A4 → A5 → A6 → A7 → A8 → A9 → A10 → A11 → A12 → A13 → A14 → A15 → A16 → Prop) (μ : A1 → A2 → A3 → A4 → A5 → A6 → A7 → A8 → A9 → A10 → A11 → A12 → A13 → A14 → A15 → A16 → Nat) (hs : ∀ (n : Nat) (a1 : A1) (a2 : A2) (a3 : A3) (a4 : A4) (a5 : A5) (a6 : A6) (a7 : A7) (a8 : A8) (a9 : A9) (a10 : A10) (a11 : A11) (a12 : A12) (a13 : A13) (a14 : A14) (a15 : A15) (a16 : A16), I a1 a2 a3 a4 a5 a6 a7 a8 a9 a10 a11 a12 a13 a14 a15 a16 → (∀ (b1 : A1) (b2 : A2) (b3 : A3) (b4 : A4) (b5 : A5) (b6 : A6) (b7 : A7) (b8 : A8) (b9 : A9) (b10 : A10) (b11 : A11) (b12 : A12) (b13 : A13) (b14 : A14) (b15 : A15) (b16 : A16), I b1 b2 b3 b4 b5 b6 b7 b8 b9 b10 b11 b12 b13 b14 b15 b16 → μ b1 b2 b3 b4 b5 b6 b7 b8 b9 b10 b11 b12 b13 b14 b15 b16 < μ a1 a2 a3 a4 a5 a6 a7 a8 a9 a10 a11 a12 a13 a14 a15 a16 → W n b1 b2 b3 b4 b5 b6 b7 b8 b9 b10 b11 b12 b13 b14 b15 b16) → W (n + 1) a1 a2 a3 a4 a5 a6 a7 a8 a9 a10 a11 a12 a13 a14 a15 a16) (a1 : A1) (a2 : A2) (a3 : A3) (a4 : A4) (a5 : A5) (a6 : A6) (a7 : A7) (a8 : A8) (a9 : A9) (a10 : A10) (a11 : A11) (a12 : A12) (a13 : A13) (a14 : A14) (a15 : A15) (a16 : A16) (h : I a1 a2 a3 a4 a5 a6 a7 a8 a9 a10 a11 a12 a13 a14 a15 a16) : ∃ n, W n a1 a2 a3 a4 a5 a6 a7 a8 a9 a10 a11 a12 a13 a14 a15 a16 :=
  loop_m (σ := A1 × A2 × A3 × A4 × A5 × A6 × A7 × A8 × A9 × A10 × A11 × A12 × A13 × A14 × A15 × A16) (fun n s => W n s.1 s.2.1 s.2.2.1 s.2.2.2.1 s.2.2.2.2.1 s.2.2.2.2.2.1 s.2.2.2.2.2.2.1 s.2.2.2.2.2.2.2.1 s.2.2.2.2.2.2.2.2.1 s.2.2.2.2.2.2.2.2.2.1 s.2.2.2.2.2.2.2.2.2.2.1 s.2.2.2.2.2.2.2.2.2.2.2.1 s.2.2.2.2.2.2.2.2.2.2.2.2.1 s.2.2.2.2.2.2.2.2.2.2.2.2.2.1 s.2.2.2.2.2.2.2.2.2.2.2.2.2.2.1 s.2.2.2.2.2.2.2.2.2.2.2.2.2.2.2) (fun s => I s.1 s.2.1 s.2.2.1 s.2.2.2.1 s.2.2.2.2.1 s.2.2.2.2.2.1 s.2.2.2.2.2.2.1 s.2.2.2.2.2.2.2.1 s.2.2.2.2.2.2.2.2.1 s.2.2.2.2.2.2.2.2.2.1 s.2.2.2.2.2.2.2.2.2.2.1 s.2.2.2.2.2.2.2.2.2.2.2.1 s.2.2.2.2.2.2.2.2.2.2.2.2.1 s.2.2.2.2.2.2.2.2.2.2.2.2.2.1 s.2.2.2.2.2.2.2.2.2.2.2.2.2.2.1 s.2.2.2.2.2.2.2.2.2.2.2.2.2.2.2) (fun s => μ s.1 s.2.1 s.2.2.1 s.2.2.2.1 s.2.2.2.2.1 s.2.2.2.2.2.1 s.2.2.2.2.2.2.1 s.2.2.2.2.2.2.2.1 s.2.2.2.2.2.2.2.2.1 s.2.2.2.2.2.2.2.2.2.1 s.2.2.2.2.2.2.2.2.2.2.1 s.2.2.2.2.2.2.2.2.2.2.2.1 s.2.2.2.2.2.2.2.2.2.2.2.2.1 s.2.2.2.2.2.2.2.2.2.2.2.2.2.1 s.2.2.2.2.2.2.2.2.2.2.2.2.2.2.1 s.2.2.2.2.2.2.2.2.2.2.2.2.2.2.2) (fun n s hI hk => hs n s.1 s.2.1 s.2.2.1 s.2.2.2.1 s.2.2.2.2.1 s.2.2.2.2.2.1 s.2.2.2.2.2.2.1 s.2.2.2.2.2.2.2.1 s.2.2.2.2.2.2.2.2.1 s.2.2.2.2.2.2.2.2.2.1 s.2.2.2.2.2.2.2.2.2.2.1 s.2.2.2.2.2.2.2.2.2.2.2.1 s.2.2.2.2.2.2.2.2.2.2.2.2.1 s.2.2.2.2.2.2.2.2.2.2.2.2.2.1 s.2.2.2.2.2.2.2.2.2.2.2.2.2.2.1 s.2.2.2.2.2.2.2.2.2.2.2.2.2.2.2 hI (fun b1 b2 b3 b4 b5 b6 b7 b8 b9 b10 b11 b12 b13 b14 b15 b16 h9 hm => hk (b1, b2, b3, b4, b5, b6, b7, b8, b9, b10, b11, b12, b13, b14, b15, b16) h9 hm)) (a1, a2, a3, a4, a5, a6, a7, a8, a9, a10, a11, a12, a13, a14, a15, a16) h
theorem pk_least (P : Nat → Prop) (h : ∃ k, P k) : ∃ k, P k ∧ ∀ j, j < k → ¬ P j := by
  obtain ⟨k, hk⟩ := h
  induction k using Nat.strongRecOn with
  | ind k ih =>
    by_cases e : ∃ j, j < k ∧ P j
    · obtain ⟨j, hj, pj⟩ := e
      exact ih j hj pj
    · exact ⟨k, hk, fun j hj pj => e ⟨j, hj, pj⟩⟩
theorem rp1 {ρ A1 : Type} (W : Nat → (ρ → Prop) → A1 → Prop) (ok : A1 → Prop) (μ : A1 → Nat) (val : A1 → ρ)
    (hs : ∀ (d : Nat) (post : ρ → Prop) (a1 : A1), ok a1 → post (val a1) → (∀ (post' : ρ → Prop) (b1 : A1), ok b1 → μ b1 < μ a1 → post' (val b1) → W d post' b1) → W (d + 1) post a1) :
    ∀ (d : Nat) (post : ρ → Prop) (a1 : A1), ok a1 → μ a1 < d → post (val a1) → W d post a1 := by
  intro d
  induction d with
  | zero => intro post a1 _ h; omega
  | succ d ih =>
    intro post a1 ho hm hp
    exact hs d post a1 ho hp (fun post' b1 ho' hm' hp' => ih post' b1 ho' (by omega) hp')
theorem rp2 {ρ A1 A2 : Type} (W : Nat → (ρ → Prop) → A1 → A2 → Prop) (ok : A1 → A2 → Prop) (μ : A1 → A2 → Nat) (val : A1 → A2 → ρ)
    (hs : ∀ (d : Nat) (post : ρ → Prop) (a1 : A1) (a2 : A2), ok a1 a2 → post (val a1 a2) → (∀ (post' : ρ → Prop) (b1 : A1) (b2 : A2), ok b1 b2 → μ b1 b2 < μ a1 a2 → post' (val b1 b2) → W d post' b1 b2) → W (d + 1) post a1 a2) :
    ∀ (d : Nat) (post : ρ → Prop) (a1 : A1) (a2 : A2), ok a1 a2 → μ a1 a2 < d → post (val a1 a2) → W d post a1 a2 := by
  intro d
  induction d with
  | zero => intro post a1 a2 _ h; omega
  | succ d ih =>
    intro post a1 a2 ho hm hp
    exact hs d post a1 a2 ho hp (fun post' b1 b2 ho' hm' hp' => ih post' b1 b2 ho' (by omega) hp')
theorem rp3 {ρ A1 A2 A3 : Type} (W : Nat → (ρ → Prop) → A1 → A2 → A3 → Prop) (ok : A1 → A2 → A3 → Prop) (μ : A1 → A2 → A3 → Nat) (val : A1 → A2 → A3 → ρ)
    (hs : ∀ (d : Nat) (post : ρ → Prop) (a1 : A1) (a2 : A2) (a3 : A3), ok a1 a2 a3 → post (val a1 a2 a3) → (∀ (post' : ρ → Prop) (b1 : A1) (b2 : A2) (b3 : A3), ok b1 b2 b3 → μ b1 b2 b3 < μ a1 a2 a3 → post' (val b1 b2 b3) → W d post' b1 b2 b3) → W (d + 1) post a1 a2 a3) :
    ∀ (d : Nat) (post : ρ → Prop) (a1 : A1) (a2 : A2) (a3 : A3), ok a1 a2 a3 → μ a1 a2 a3 < d → post (val a1 a2 a3) → W d post a1 a2 a3 := by
  intro d
  induction d with
  | zero => intro post a1 a2 a3 _ h; omega
  | succ d ih =>
    intro post a1 a2 a3 ho hm hp
    exact hs d post a1 a2 a3 ho hp (fun post' b1 b2 b3 ho' hm' hp' => ih post' b1 b2 b3 ho' (by omega) hp')
theorem rp4 {ρ A1 A2 A3 A4 : Type} (W : Nat → (ρ → Prop) → A1 → A2 → A3 → A4 → Prop) (ok : A1 → A2 → A3 → A4 → Prop) (μ : A1 → A2 → A3 → A4 → Nat) (val : A1 → A2 → A3 → A4 → ρ)
    (hs : ∀ (d : Nat) (post : ρ → Prop) (a1 : A1) (a2 : A2) (a3 : A3) (a4 : A4), ok a1 a2 a3 a4 → post (val a1 a2 a3 a4) → (∀ (post' : ρ → Prop) (b1 : A1) (b2 : A2) (b3 : A3) (b4 : A4), ok b1 b2 b3 b4 → μ b1 b2 b3 b4 < μ a1 a2 a3 a4 → post' (val b1 b2 b3 b4) → W d post' b1 b2 b3 b4) → W (d + 1) post a1 a2 a3 a4) :
    ∀ (d : Nat) (post : ρ → Prop) (a1 : A1) (a2 : A2) (a3 : A3) (a4 : A4), ok a1 a2 a3 a4 → μ a1 a2 a3 a4 < d → post (val a1 a2 a3 a4) → W d post a1 a2 a3 a4 := by
  intro d
  induction d with
  | zero => intro post a1 a2 a3 a4 _ h; omega
  | succ d ih =>
    intro post a1 a2 a3 a4 ho hm hp
    exact hs d post a1 a2 a3 a4 ho hp (fun post' b1 b2 b3 b4 ho' hm' hp' => ih post' b1 b2 b3 b4 ho' (by omega) hp')
theorem rp5 {ρ A1 A2 A3 A4 A5 : Type} (W : Nat → (ρ → Prop) → A1 → A2 → A3 → A4 → A5 → Prop) (ok : A1 → A2 → A3 → A4 → A5 → Prop) (μ : A1 → A2 → A3 → A4 → A5 → Nat) (val : A1 → A2 → A3 → A4 → A5 → ρ)
    (hs : ∀ (d : Nat) (post : ρ → Prop) (a1 : A1) (a2 : A2) (a3 : A3) (a4 : A4) (a5 : A5), ok a1 a2 a3 a4 a5 → post (val a1 a2 a3 a4 a5) → (∀ (post' : ρ → Prop) (b1 : A1) (b2 : A2) (b3 : A3) (b4 : A4) (b5 : A5), ok b1 b2 b3 b4 b5 → μ b1 b2 b3 b4 b5 < μ a1 a2 a3 a4 a5 → post' (val b1 b2 b3 b4 b5) → W d post' b1 b2 b3 b4 b5) → W (d + 1) post a1 a2 a3 a4 a5) :
    ∀ (d : Nat) (post : ρ → Prop) (a1 : A1) (a2 : A2) (a3 : A3) (a4 : A4) (a5 : A5), ok a1 a2 a3 a4 a5 → μ a1 a2 a3 a4 a5 < d → post (val a1 a2 a3 a4 a5) → W d post a1 a2 a3 a4 a5 := by
  intro d
  induction d with
  | zero => intro post a1 a2 a3 a4 a5 _ h; omega
  | succ d ih =>
    intro post a1 a2 a3 a4 a5 ho hm hp
    exact hs d post a1 a2 a3 a4 a5 ho hp (fun post' b1 b2 b3 b4 b5 ho' hm' hp' => ih post' b1 b2 b3 b4 b5 ho' (by omega) hp')
theorem rp6 {ρ A1 A2 A3 A4 A5 A6 : Type} (W : Nat → (ρ → Prop) → A1 → A2 → A3 → A4 → A5 → A6 → Prop) (ok : A1 → A2 → A3 → A4 → A5 → A6 → Prop) (μ : A1 → A2 → A3 → A4 → A5 → A6 → Nat) (val : A1 → A2 → A3 → A4 → A5 → A6 → ρ)
    (hs : ∀ (d : Nat) (post : ρ → Prop) (a1 : A1) (a2 : A2) (a3 : A3) (a4 : A4) (a5 : A5) (a6 : A6), ok a1 a2 a3 a4 a5 a6 → post (val a1 a2 a3 a4 a5 a6) → (∀ (post' : ρ → Prop) (b1 : A1) (b2 : A2) (b3 : A3) (b4 : A4) (b5 : A5) (b6 : A6), ok b1 b2 b3 b4 b5 b6 → μ b1 b2 b3 b4 b5 b6 < μ a1 a2 a3 a4 a5 a6 → post' (val b1 b2 b3 b4 b5 b6) → W d post' b1 b2 b3 b4 b5 b6) → W (d + 1) post a1 a2 a3 a4 a5 a6) :
    ∀ (d : Nat) (post : ρ → Prop) (a1 : A1) (a2 : A2) (a3 : A3) (a4 : A4) (a5 : A5) (a6 : A6), ok a1 a2 a3 a4 a5 a6 → μ a1 a2 a3 a4 a5 a6 < d → post (val a1 a2 a3 a4 a5 a6) → W d post a1 a2 a3 a4 a5 a6 := by
  intro d
  induction d with
  | zero => intro post a1 a2 a3 a4 a5 a6 _ h; omega
  | succ d ih =>
    intro post a1 a2 a3 a4 a5 a6 ho hm hp
    exact hs d post a1 a2 a3 a4 a5 a6 ho hp (fun post' b1 b2 b3 b4 b5 b6 ho' hm' hp' => ih post' b1 b2 b3 b4 b5 b6 ho' (by omega) hp')
theorem rec_p {σ ρ : Type} (W : Nat → (ρ → Prop) → σ → Prop) (ok : σ → Prop) (μ : σ → Nat) (val : σ → ρ)
    (hs : ∀ d s post, ok s → post (val s) → (∀ s' post', ok s' → μ s' < μ s → post' (val s') → W d post' s') → W (d + 1) post s) :
    ∀ d s post, ok s → μ s < d → post (val s) → W d post s := by
  intro d
  induction d with
  | zero => intro s post _ h; omega
  | succ d ih =>
    intro s post ho hm hp
    exact hs d s post ho hp (fun s' post' ho' hm' hp' => ih s' post' ho' (by omega) hp')
theorem rec_q {σ ρ : Type} (W : Nat → (ρ → Prop) → σ → Prop) (ok : σ → Prop) (μ : σ → Nat) (Q : σ → ρ → Prop)
    (hs : ∀ d s post, ok s → (∀ r, Q s r → post r) → (∀ s' post', ok s' → μ s' < μ s → (∀ r, Q s' r → post' r) → W d post' s') → W (d + 1) post s) :
    ∀ d s post, ok s → μ s < d → (∀ r, Q s r → post r) → W d post s := by
  intro d
  induction d with
  | zero => intro s post _ h; omega
  | succ d ih =>
    intro s post ho hm hp
    exact hs d s post ho hp (fun s' post' ho' hm' hp' => ih s' post' ho' (by omega) hp')
def bx_sum (f : Nat → Int32) : Nat → Int32
  | 0 => 0
  | n + 1 => bx_sum f n + f n
theorem ek_u {A : Prop} {B : Nat → Prop} {k N : Nat} (hk : k < N) (h : B k) : (some k = none → A) ∧ (∀ y : Nat, some k = some y → (y < N ∧ B y)) :=
  ⟨fun z => absurd z (Option.some_ne_none k), fun _ e => (by cases e; exact ⟨hk, h⟩)⟩
theorem ek_nu {A : Prop} {B : Nat → Prop} (h : A) : ((none : Option Nat) = none → A) ∧ (∀ y : Nat, (none : Option Nat) = some y → B y) :=
  ⟨fun _ => h, fun _ e => (by cases e)⟩
theorem ek_if {c d A B : Prop} (e : c ↔ d) (f : d → A) (g : ¬ d → B) : (c → A) ∧ (¬ c → B) :=
  ⟨fun z => f (e.mp z), fun z => g (fun y => z (e.mpr y))⟩
theorem ek_v {α : Sort _} {P : α → Prop} {a b : α} (e : a = b) (h : P b) : P a := e ▸ h
theorem co_some {x : Option Nat} {A : Prop} {B : Nat → Prop} (i : Nat) (h : B i) (hx : x = some i := by rfl) : (x = none → A) ∧ (∀ y : Nat, x = some y → B y) := by
  subst hx
  exact ⟨fun e => (nomatch e), fun y e => Option.some.inj e ▸ h⟩
theorem co_none {x : Option Nat} {A : Prop} {B : Nat → Prop} (h : A) (hx : x = none := by rfl) : (x = none → A) ∧ (∀ y : Nat, x = some y → B y) := by
  subst hx
  exact ⟨fun _ => h, fun y e => (nomatch e)⟩
theorem co_any {x : Option Nat} {A : Prop} {B : Nat → Prop} (hn : x = none → A) (hs : ∀ i : Nat, x = some i → B i) : (x = none → A) ∧ (∀ y : Nat, x = some y → B y) := ⟨hn, hs⟩
theorem co_2 {P : Nat → Prop} (h0 : P 0) (h1 : P 1) {i : Nat} (hi : i < 2) : P i :=
  match i, hi with
  | 0, _ => h0
  | 1, _ => h1
theorem co_3 {P : Nat → Prop} (h0 : P 0) (h1 : P 1) (h2 : P 2) {i : Nat} (hi : i < 3) : P i :=
  match i, hi with
  | 0, _ => h0
  | 1, _ => h1
  | 2, _ => h2
theorem co_4 {P : Nat → Prop} (h0 : P 0) (h1 : P 1) (h2 : P 2) (h3 : P 3) {i : Nat} (hi : i < 4) : P i :=
  match i, hi with
  | 0, _ => h0
  | 1, _ => h1
  | 2, _ => h2
  | 3, _ => h3
theorem co_dec {N : Nat} {P : Nat → Prop} [DecidablePred P] (h : (List.range N).all (fun i => decide (P i)) = true) {i : Nat} (hi : i < N) : P i := by
  have := List.all_eq_true.mp h i (List.mem_range.mpr hi)
  exact of_decide_eq_true this
theorem co_tab {α : Type} {l : List α} {d : α} {P : α → Prop} (h : ∀ a, a ∈ l → P a) {i : Nat} (hi : i < l.length) : P (l.getD i d) := by
  rw [List.getD_eq_getElem?_getD, List.getElem?_eq_getElem hi]
  exact h _ (List.getElem_mem hi)
theorem pk_mu {x : Int32} {L : Nat} (h0 : ¬ x < 0) (h : ¬ nI L ≤ x) (hL : L < 2 ^ 31) : ∃ j : Nat, j < L ∧ x = nI j ∧ x + 1 = nI (j + 1) ∧ x.toNatClampNeg = j ∧ L - (x + 1).toNatClampNeg < L - x.toNatClampNeg := by
  obtain ⟨j, hj, rfl⟩ := nI_of h0
  have hl : j < L := Nat.not_le.mp fun q => h (nI_le q hj)
  refine ⟨j, hl, rfl, nI_1 j, nI_clamp hj, ?_⟩
  rw [nI_1, nI_clamp (by omega), nI_clamp hj]
  omega
theorem op_s {α : Type} {r : Option α} {A : Prop} {B : α → Prop} {y : α} (h : r = some y) (b : B y) : (r = none → A) ∧ ∀ z, r = some z → B z :=
  ⟨fun e => (by rw [h] at e; cases e), fun z e => (by rw [h] at e; cases e; exact b)⟩
def l_holds {α : Type} (a : Nat → Option Nat) (LP : List Nat) (p : Nat → α) (c : Nat) (b : Nat → α) : Prop :=
  ∀ j, j < c → ∃ y, a j = some y ∧ y ∈ LP ∧ p y = b j
theorem l_holds_0 {α : Type} {a : Nat → Option Nat} {LP : List Nat} {p b : Nat → α} : l_holds a LP p 0 b := fun j h => absurd h (Nat.not_lt_zero j)
theorem l_in_new (LP : List Nat) (q : Nat) : q ∈ LP ++ [q] := List.mem_append.mpr (Or.inr (List.mem_singleton.mpr rfl))
def l_sum (b : Nat → Int32) : Nat → Int32
  | 0 => 0
  | k + 1 => l_sum b k + b k
theorem sb_shr0 (x : Int32) : x >>> ((0 : Int32) &&& 31) = x := by
  rw [show ((0 : Int32) &&& 31) = 0 by decide]
  simp
theorem sb_shl0 (x : Int32) : x <<< ((0 : Int32) &&& 31) = x := by
  rw [show ((0 : Int32) &&& 31) = 0 by decide]
  simp
theorem sb_cl0 : (0 : Int32).toNatClampNeg = 0 := by decide
theorem sb_m1 {p : Nat} (h : 0 < p) : nI p + (-1) = nI (p - 1) := by
  obtain ⟨q, rfl⟩ : ∃ q, p = q + 1 := ⟨p - 1, by omega⟩
  exact pk_m1 q
def sb_b (c : Nat) : Int32 := (nI c).toInt8.toInt32
theorem sb_byte : ∀ c, c < 256 → sb_b c &&& 255 = nI c ∧ ((nI c).toUInt32 % 65536).toInt32 = nI c ∧ nI c ≤ 255 := by decide +kernel
def sb_Fit (a : Nat → Int32) : Prop := ∀ j, fits .byte (.int (a j)) = true
def sb_Lat (t : Nat → Nat) (n : Nat) (a : Nat → Int32) : Prop := ∀ j, j < n → t j < 256 ∧ a j = sb_b (t j)
theorem sb_fitB (c : Nat) : fits .byte (.int (sb_b c)) = true := pk_fb _
theorem sb_fit0 : sb_Fit (fun _ => 0) := fun _ => by
  show fits .byte (.int 0) = true
  decide
theorem sb_fitU {a : Nat → Int32} {k : Nat} {x : Int32} (h : sb_Fit a) (hx : fits .byte (.int x) = true) : sb_Fit (upd a k x) := by
  intro j
  by_cases e : j = k
  · subst e
    rw [pk_us]
    exact hx
  · rw [pk_un e]
    exact h j
def sb_cat (t : Nat → Nat) (n : Nat) (s : Nat → Nat) : Nat → Nat := fun j => if j < n then t j else s (j - n)
theorem sb_cat_lo {t s : Nat → Nat} {n j : Nat} (h : j < n) : sb_cat t n s j = t j := if_pos h
theorem sb_cat_hi {t s : Nat → Nat} {n j : Nat} : sb_cat t n s (n + j) = s j := by
  show (if n + j < n then t (n + j) else s (n + j - n)) = s j
  rw [if_neg (by omega), Nat.add_sub_cancel_left]
theorem sb_latPut {t s : Nat → Nat} {n w : Nat} {a a' : Nat → Int32} (h : sb_Lat t n a) (hk : ∀ j, j < n → a' j = a j) (hs : ∀ i, i < w → s i < 256 ∧ a' (n + i) = sb_b (s i)) : sb_Lat (sb_cat t n s) (n + w) a' := by
  intro j hj
  by_cases e : j < n
  · rw [sb_cat_lo e, hk j e]
    exact h j e
  · obtain ⟨i, rfl⟩ : ∃ i, j = n + i := ⟨j - n, by omega⟩
    rw [sb_cat_hi]
    exact hs i (by omega)
theorem sb_latKeep {t : Nat → Nat} {n : Nat} {a a' : Nat → Int32} (h : sb_Lat t n a) (hk : ∀ j, j < n → a' j = a j) : sb_Lat t n a' := fun j hj => by
  rw [hk j hj]
  exact h j hj
def sb_cap (q m : Nat) : Nat := if q ≤ m then m else if 2 * m + 2 < q then q else 2 * m + 2
def sb_Room (q m mc ms : Nat) : Prop := q ≤ m ∨ (1 ≤ mc ∧ sb_cap q m ≤ ms ∧ sb_cap q m ≤ 65536)
theorem sb_cap_ge (q m : Nat) : q ≤ sb_cap q m := by
  unfold sb_cap
  split
  · omega
  · split <;> omega
theorem sb_cap_gem (q m : Nat) : m ≤ sb_cap q m := by
  unfold sb_cap
  split
  · omega
  · split <;> omega
theorem sb_cap_le {q m mc ms : Nat} (hm : m ≤ 65536) (hr : sb_Room q m mc ms) : sb_cap q m ≤ 65536 := by
  rcases hr with h | h
  · rw [sb_cap, if_pos h]
    exact hm
  · exact h.2.2
theorem sb_at {P : Int32 → Prop} {x y : Int32} (e : x = y) (h : P y) : P x := e ▸ h
def sb_dg (w : Nat) : Nat := if w < 10 then 1 else if w < 100 then 2 else if w < 1000 then 3 else if w < 10000 then 4 else if w < 100000 then 5 else if w < 1000000 then 6 else if w < 10000000 then 7 else if w < 100000000 then 8 else if w < 1000000000 then 9 else 10
def sb_dec (v : Nat) : Nat → Nat := fun i => 48 + v / 10 ^ (sb_dg v - 1 - i) % 10
theorem sb_dg_in (w : Nat) : 1 ≤ sb_dg w ∧ sb_dg w ≤ 10 := by
  unfold sb_dg
  constructor <;> (repeat' split) <;> omega
theorem sb_dg100 {w : Nat} (h : 100 ≤ w) (hw : w < 2 ^ 31) : sb_dg w = sb_dg (w / 100) + 2 := by
  rw [sb_dg, sb_dg, if_neg (show ¬ w < 10 by omega), if_neg (show ¬ w < 100 by omega)]
  by_cases h3 : w < 1000
  · rw [if_pos h3, if_pos (show w / 100 < 10 by omega)]
  rw [if_neg h3, if_neg (show ¬ w / 100 < 10 by omega)]
  by_cases h4 : w < 10000
  · rw [if_pos h4, if_pos (show w / 100 < 100 by omega)]
  rw [if_neg h4, if_neg (show ¬ w / 100 < 100 by omega)]
  by_cases h5 : w < 100000
  · rw [if_pos h5, if_pos (show w / 100 < 1000 by omega)]
  rw [if_neg h5, if_neg (show ¬ w / 100 < 1000 by omega)]
  by_cases h6 : w < 1000000
  · rw [if_pos h6, if_pos (show w / 100 < 10000 by omega)]
  rw [if_neg h6, if_neg (show ¬ w / 100 < 10000 by omega)]
  by_cases h7 : w < 10000000
  · rw [if_pos h7, if_pos (show w / 100 < 100000 by omega)]
  rw [if_neg h7, if_neg (show ¬ w / 100 < 100000 by omega)]
  by_cases h8 : w < 100000000
  · rw [if_pos h8, if_pos (show w / 100 < 1000000 by omega)]
  rw [if_neg h8, if_neg (show ¬ w / 100 < 1000000 by omega)]
  by_cases h9 : w < 1000000000
  · rw [if_pos h9, if_pos (show w / 100 < 10000000 by omega)]
  rw [if_neg h9, if_neg (show ¬ w / 100 < 10000000 by omega)]
  rw [if_pos (show w / 100 < 100000000 by omega)]
theorem sb_negT {w : Nat} (h : w < 2 ^ 31) : (-nI w).toInt = -(w : Int) := by
  rw [Int32.toInt_neg, nI_toInt h]
  exact Int.bmod_eq_of_le (by omega) (by omega)
theorem sb_nle {a b : Nat} (ha : a < 2 ^ 31) (hb : b < 2 ^ 31) : -nI a ≤ -nI b ↔ b ≤ a := by
  rw [Int32.le_iff_toInt_le, sb_negT ha, sb_negT hb]
  omega
theorem sb_nlt {a b : Nat} (ha : a < 2 ^ 31) (hb : b < 2 ^ 31) : -nI a < -nI b ↔ b < a := by
  rw [Int32.lt_iff_toInt_lt, sb_negT ha, sb_negT hb]
  omega
theorem sb_cmp {A B : Prop} {x : Int32} (v c : Nat) (f : c ≤ v → A) (g : v < c → B) (hv : v < 2 ^ 31) (hx : x = -nI c := by rfl) (hc : c < 2 ^ 31 := by omega) : (-nI v ≤ x → A) ∧ (¬ -nI v ≤ x → B) := by
  subst hx
  rw [sb_nle hv hc]
  exact ⟨f, fun z => g (by omega)⟩
theorem sb_ndiv {w : Nat} (hw : w < 2 ^ 31) : (-nI w) / 100 = -nI (w / 100) := by
  apply Int32.toInt_inj.mp
  have h100 : (100 : Int32).toInt = 100 := by decide
  rw [Int32.toInt_div, sb_negT hw, h100, sb_negT (by omega), Int.neg_tdiv, Int.tdiv_eq_ediv_of_nonneg (by omega), Int.bmod_eq_of_le (by omega) (by omega)]
  omega
theorem sb_nrem {w : Nat} (hw : w < 2 ^ 31) : (-nI (w / 100)) * 100 - (-nI w) = nI (w % 100) := by
  have h := pk_rem (a := w) (d := 100) hw (by decide) (by decide)
  rw [pk_div hw (by decide) (by decide)] at h
  rw [← h]
  show (-nI (w / 100)) * nI 100 - (-nI w) = nI w - nI (w / 100) * nI 100
  rw [Int32.neg_mul, Int32.sub_neg, Int32.add_comm, ← Int32.sub_eq_add_neg]
end
section
/-! rows on bits, shifts and unsigned numbers, to paste: each family out of a closed proof of our own, whole with what it rests on; each by itself clean at Lean in its own claim (generation 39, form 5). Take a family whole -/
/-! ===== Int32 by its bits: bt x i ===== -/
def bt (x : Int32) (i : Nat) : Bool := x.toBitVec.getLsbD i
theorem b_ext {x y : Int32} (h : ∀ i, i < 32 → bt x i = bt y i) : x = y := Int32.toBitVec_inj.mp (BitVec.eq_of_getLsbD_eq (fun i hi => h i hi))
theorem b_or (x y : Int32) (i : Nat) : bt (x ||| y) i = (bt x i || bt y i) := by unfold bt; rw [Int32.toBitVec_or, BitVec.getLsbD_or]
theorem b_and (x y : Int32) (i : Nat) : bt (x &&& y) i = (bt x i && bt y i) := by unfold bt; rw [Int32.toBitVec_and, BitVec.getLsbD_and]
theorem b_xor (x y : Int32) (i : Nat) : bt (x ^^^ y) i = (bt x i ^^ bt y i) := by unfold bt; rw [Int32.toBitVec_xor, BitVec.getLsbD_xor]
theorem b_big {x : Int32} {i : Nat} (h : 32 ≤ i) : bt x i = false := BitVec.getLsbD_of_ge _ _ h
theorem b_255 (i : Nat) : bt 255 i = decide (i < 8) := by
  rcases Nat.lt_or_ge i 32 with h | h
  · exact (by decide +kernel : ∀ i, i < 32 → bt 255 i = decide (i < 8)) i h
  · rw [b_big h, decide_eq_false (by omega)]
theorem b_65535 (i : Nat) : bt 65535 i = decide (i < 16) := by
  rcases Nat.lt_or_ge i 32 with h | h
  · exact (by decide +kernel : ∀ i, i < 32 → bt 65535 i = decide (i < 16)) i h
  · rw [b_big h, decide_eq_false (by omega)]
theorem b_m1 : ∀ i, i < 32 → bt (-1) i = true := by decide +kernel
theorem b_0 (i : Nat) : bt 0 i = false := BitVec.getLsbD_zero
theorem s_l : ∀ n, n < 32 → ((nI n &&& 31).toBitVec.smod 32).toNat = n := by decide +kernel
theorem s_u : ∀ n, n < 32 → (((nI n).toUInt32 &&& Int32.toUInt32 31).toBitVec % 32).toNat = n := by decide +kernel
theorem b_shl (n : Nat) (hn : n < 32) (x : Int32) {i : Nat} (hi : i < 32) : bt (x <<< (nI n &&& 31)) i = (decide (n ≤ i) && bt x (i - n)) := by
  unfold bt
  rw [Int32.toBitVec_shiftLeft]
  show (x.toBitVec <<< ((nI n &&& 31).toBitVec.smod 32).toNat).getLsbD i = _
  rw [s_l n hn, BitVec.getLsbD_shiftLeft]
  rcases Nat.lt_or_ge i n with h | h
  · simp [h, Nat.not_le.mpr h]
  · simp [hi, h, Nat.not_lt.mpr h]
theorem b_ushr (n : Nat) (hn : n < 32) (x : Int32) (i : Nat) : bt ((x.toUInt32 >>> ((nI n).toUInt32 &&& Int32.toUInt32 31)).toInt32) i = bt x (n + i) := by
  show (x.toUInt32 >>> ((nI n).toUInt32 &&& Int32.toUInt32 31)).toBitVec.getLsbD i = x.toUInt32.toBitVec.getLsbD (n + i)
  rw [UInt32.toBitVec_shiftRight]
  show (x.toUInt32.toBitVec >>> (((nI n).toUInt32 &&& Int32.toUInt32 31).toBitVec % 32).toNat).getLsbD i = _
  rw [s_u n hn, BitVec.getLsbD_ushiftRight]
theorem b_sshr (n : Nat) (hn : n < 32) (x : Int32) {i : Nat} (hi : i < 32) : bt (x >>> (nI n &&& 31)) i = if n + i < 32 then bt x (n + i) else bt x 31 := by
  unfold bt
  rw [Int32.toBitVec_shiftRight]
  show (x.toBitVec.sshiftRight ((nI n &&& 31).toBitVec.smod 32).toNat).getLsbD i = _
  rw [s_l n hn, BitVec.getLsbD_sshiftRight, BitVec.msb_eq_getLsbD_last]
  simp [hi]
theorem b_shl8 (x : Int32) {i : Nat} (hi : i < 32) : bt (x <<< ((8 : Int32) &&& 31)) i = (decide (8 ≤ i) && bt x (i - 8)) := b_shl 8 (by omega) x hi
theorem b_shl16 (x : Int32) {i : Nat} (hi : i < 32) : bt (x <<< ((16 : Int32) &&& 31)) i = (decide (16 ≤ i) && bt x (i - 16)) := b_shl 16 (by omega) x hi
theorem b_shl24 (x : Int32) {i : Nat} (hi : i < 32) : bt (x <<< ((24 : Int32) &&& 31)) i = (decide (24 ≤ i) && bt x (i - 24)) := b_shl 24 (by omega) x hi
theorem b_sshr8 (x : Int32) {i : Nat} (hi : i < 32) : bt (x >>> ((8 : Int32) &&& 31)) i = if 8 + i < 32 then bt x (8 + i) else bt x 31 := b_sshr 8 (by omega) x hi
/-! ===== nI under and, xor, >>>, one bit, 65535 ===== -/
theorem nx_and (a b : Nat) : nI a &&& nI b = nI (a &&& b) := by
  apply Int32.toBitVec_inj.1
  show BitVec.ofNat 32 a &&& BitVec.ofNat 32 b = BitVec.ofNat 32 (a &&& b)
  apply BitVec.eq_of_getLsbD_eq
  intro i hi
  simp [hi]
theorem nx_xor (a b : Nat) : nI a ^^^ nI b = nI (a ^^^ b) := by
  apply Int32.toBitVec_inj.1
  show BitVec.ofNat 32 a ^^^ BitVec.ofNat 32 b = BitVec.ofNat 32 (a ^^^ b)
  apply BitVec.eq_of_getLsbD_eq
  intro i hi
  simp [hi]
theorem nx_cnt : ∀ j : Fin 32, (UInt32.ofNat j.val &&& Int32.toUInt32 31).toNat % 32 = j.val := by decide +kernel
theorem nx_ush {k j : Nat} (hk : k < 65536) (hj : j < 32) : ((nI k).toUInt32 >>> ((nI j).toUInt32 &&& Int32.toUInt32 31)).toInt32 = nI (k >>> j) := by
  have hs : k >>> j ≤ k := by
    rw [Nat.shiftRight_eq_div_pow]
    exact Nat.div_le_self _ _
  have e2 : UInt32.ofNat k >>> (UInt32.ofNat j &&& Int32.toUInt32 31) = UInt32.ofNat (k >>> j) := by
    apply UInt32.toNat_inj.1
    have h1 : (UInt32.ofNat k).toNat = k := Nat.mod_eq_of_lt (by omega)
    have h2 : (UInt32.ofNat (k >>> j)).toNat = k >>> j := Nat.mod_eq_of_lt (by omega)
    rw [UInt32.toNat_shiftRight, nx_cnt ⟨j, hj⟩, h1, h2]
  show (UInt32.ofNat k >>> (UInt32.ofNat j &&& Int32.toUInt32 31)).toInt32 = _
  rw [e2]
  rfl
theorem nx_bit {k j : Nat} (hk : k < 65536) (hj : j < 16) : (((nI k).toUInt32 >>> ((nI j).toUInt32 &&& Int32.toUInt32 31)).toInt32 &&& 1) = 0 ↔ k.testBit j = false := by
  rw [nx_ush hk (by omega)]
  show nI (k >>> j) &&& nI 1 = 0 ↔ _
  rw [nx_and, Nat.and_one_is_mod, ← nI_0, nI_eq (by omega) (by omega), Nat.testBit_eq_decide_div_mod_eq, Nat.shiftRight_eq_div_pow, decide_eq_false_iff_not]
  generalize k / 2 ^ j = z
  omega
theorem nx_mod (k : Nat) : nI k &&& 65535 = nI (k % 65536) := by
  show nI k &&& nI 65535 = _
  rw [nx_and, show (65535 : Nat) = 2 ^ 16 - 1 from rfl, Nat.and_two_pow_sub_one_eq_mod]
theorem nx_m16 {k : Nat} (h : k < 65536) : nI k &&& 65535 = nI k := by rw [nx_mod, Nat.mod_eq_of_lt h]
theorem nx_mask (x : Int32) : ∃ k, k < 65536 ∧ x &&& 65535 = nI k := by
  have e : x = nI x.toBitVec.toNat := by
    apply Int32.toBitVec_inj.1
    show x.toBitVec = BitVec.ofNat 32 x.toBitVec.toNat
    simp
  refine ⟨x.toBitVec.toNat % 65536, Nat.mod_lt _ (by omega), ?_⟩
  rw [← nx_mod, ← e]
/-! ===== Int32 as a set of bits: test, set ===== -/
def nf_M (m : Int32) : Nat := 4294967296 - m.toBitVec.toNat
theorem nf_sh : ∀ l, l < 32 → ((1 : Int32) <<< (nI l &&& 31)).toBitVec = BitVec.twoPow 32 l := by decide +kernel
theorem nf_sl : ∀ l, l < 32 → (((nI l).toUInt32 &&& Int32.toUInt32 31).toBitVec % 32).toNat = l := by decide +kernel
theorem nf_tp : ∀ l, l < 32 → BitVec.twoPow 32 l ≠ 0#32 := by decide +kernel
theorem nf_bit (m : Int32) (l : Nat) (hl : l < 32) : ((m.toUInt32 >>> ((nI l).toUInt32 &&& Int32.toUInt32 31)).toInt32 &&& 1) = 0 ↔ (m &&& ((1 : Int32) <<< (nI l &&& 31))) = 0 := by
  have e : ((m.toUInt32 >>> ((nI l).toUInt32 &&& Int32.toUInt32 31)).toInt32).toBitVec = m.toBitVec >>> l := by
    show m.toBitVec >>> (((nI l).toUInt32 &&& Int32.toUInt32 31).toBitVec % 32) = m.toBitVec >>> l
    rw [BitVec.ushiftRight_eq', nf_sl l hl]
  rw [← Int32.toBitVec_inj, ← Int32.toBitVec_inj, Int32.toBitVec_and, Int32.toBitVec_and, nf_sh l hl, e, BitVec.and_twoPow]
  show (m.toBitVec >>> l &&& 1#32) = 0#32 ↔ _ = 0#32
  rw [BitVec.and_one_eq_setWidth_ofBool_getLsbD, BitVec.getLsbD_ushiftRight, Nat.add_zero]
  cases hb : m.toBitVec.getLsbD l
  · exact ⟨fun _ => by simp, fun _ => by decide⟩
  · exact ⟨fun z => absurd z (by decide), fun z => absurd ((if_pos rfl).symm.trans z) (nf_tp l hl)⟩
theorem nf_gr (m k : Int32) (h : m &&& k = 0) (hk : k ≠ 0) : nf_M (m ||| k) < nf_M m := by
  have hm := m.toBitVec.isLt
  have hm' := (m ||| k).toBitVec.isLt
  have h1 : m.toBitVec.toNat ≤ (m ||| k).toBitVec.toNat := by
    rw [Int32.toBitVec_or, BitVec.toNat_or]
    exact Nat.left_le_or
  have h2 : m.toBitVec.toNat ≠ (m ||| k).toBitVec.toNat := by
    intro e
    have e2 : m = m ||| k := Int32.toBitVec_inj.mp (BitVec.eq_of_toNat_eq e)
    apply hk
    apply Int32.toBitVec_inj.mp
    show k.toBitVec = 0#32
    apply BitVec.eq_of_getLsbD_eq
    intro i hi
    have a : m.toBitVec.getLsbD i = (m.toBitVec.getLsbD i || k.toBitVec.getLsbD i) := by rw [← BitVec.getLsbD_or, ← Int32.toBitVec_or, ← e2]
    have b : (m.toBitVec.getLsbD i && k.toBitVec.getLsbD i) = false := by
      rw [← BitVec.getLsbD_and, ← Int32.toBitVec_and, h]
      exact BitVec.getLsbD_zero
    rw [BitVec.getLsbD_zero]
    revert a b
    cases m.toBitVec.getLsbD i <;> cases k.toBitVec.getLsbD i <;> simp
  unfold nf_M
  omega
/-! ===== a byte read unsigned ===== -/
theorem bp_b (x : Int32) : x.toInt8.toInt32 &&& 255 = x &&& 255 := by
  apply Int32.toBitVec_inj.mp
  rw [Int32.toBitVec_and, Int32.toBitVec_and, Int8.toBitVec_toInt32, Int32.toBitVec_toInt8]
  apply BitVec.eq_of_getLsbD_eq
  intro i hi
  rw [BitVec.getLsbD_and, BitVec.getLsbD_and]
  have hm : ∀ i < 32, 8 ≤ i → (255 : Int32).toBitVec.getLsbD i = false := by decide
  rcases Nat.lt_or_ge i 8 with z | z
  · rw [BitVec.getLsbD_signExtend, BitVec.getLsbD_signExtend, if_pos z, if_pos hi]
    simp only [z, hi, decide_true, Bool.true_and]
  · rw [hm i hi z]; simp
/-! ===== the char cast and 65535 ===== -/
theorem em_w (v : Int32) : ∃ w : Nat, w < 65536 ∧ (v.toUInt32 % 65536).toInt32 = nI w ∧ v &&& 65535 = nI w := by
  have hr := lw_u16_r v
  have h0 : (0 : Int32).toInt = 0 := by decide
  obtain ⟨w, h1, h2⟩ := nI_of (x := lw_u16 v) (by rw [Int32.lt_iff_toInt_lt]; omega)
  have h3 : (v.toUInt32 % 65536).toInt32 = nI w := h2
  rw [h2, nI_toInt h1] at hr
  exact ⟨w, by omega, h3, by rw [← lg_i2c_mask, ← lg_i2c_nf, h3]⟩
/-! ===== Int64 as a set of bits: test, set, clear ===== -/
theorem ts_nf {x : Bool} (h : ¬ x = false) : x = true := by cases x <;> first | rfl | exact absurd rfl h
theorem ts_nt {x : Bool} (h : ¬ x = true) : x = false := by cases x <;> first | rfl | exact absurd rfl h
theorem ts_bit {w : Int64} {s : UInt64} {j : Nat} (hj : j < 64) (hs : s.toNat = j) : ((w.toUInt64 >>> s).toInt64 &&& 1) = 0 ↔ w.toBitVec.getLsbD j = false := by
  have e : (w.toUInt64 >>> s).toInt64.toBitVec = w.toBitVec >>> j := by
    apply BitVec.eq_of_toNat_eq
    show (w.toUInt64 >>> s).toNat = _
    rw [UInt64.toNat_shiftRight, hs, Nat.mod_eq_of_lt hj, BitVec.toNat_ushiftRight]
    rfl
  rw [← Int64.toBitVec_inj, Int64.toBitVec_and, e]
  show w.toBitVec >>> j &&& 1#64 = 0#64 ↔ _
  constructor
  · intro h
    have t := congrArg (fun x => x.getLsbD 0) h
    simpa using t
  · intro h
    apply BitVec.eq_of_getLsbD_eq
    intro i hi
    cases i with
    | zero => simp [h]
    | succ i => simp
theorem ts_or {w m : Int64} {j : Nat} (hj : j < 64) (hm : m.toBitVec = BitVec.twoPow 64 j) : (w ||| m) = w ↔ w.toBitVec.getLsbD j = true := by
  rw [← Int64.toBitVec_inj, Int64.toBitVec_or, hm]
  constructor
  · intro h
    have t := congrArg (fun x => x.getLsbD j) h
    simp only [BitVec.getLsbD_or, BitVec.getLsbD_twoPow] at t
    simpa [hj] using t.symm
  · intro h
    apply BitVec.eq_of_getLsbD_eq
    intro i hi
    rw [BitVec.getLsbD_or, BitVec.getLsbD_twoPow]
    by_cases e : j = i
    · subst e; rw [h, Bool.true_or]
    · simp [e]
theorem ts_and {w m : Int64} {j : Nat} (hj : j < 64) (hm : m.toBitVec = BitVec.twoPow 64 j) : (w &&& (m ^^^ (-1))) = w ↔ w.toBitVec.getLsbD j = false := by
  have ha : (-1 : Int64).toBitVec = BitVec.allOnes 64 := by decide
  rw [← Int64.toBitVec_inj, Int64.toBitVec_and, Int64.toBitVec_xor, hm, ha]
  constructor
  · intro h
    have t := congrArg (fun x => x.getLsbD j) h
    simp only [BitVec.getLsbD_and, BitVec.getLsbD_xor, BitVec.getLsbD_twoPow, BitVec.getLsbD_allOnes] at t
    simpa [hj] using t.symm
  · intro h
    apply BitVec.eq_of_getLsbD_eq
    intro i hi
    rw [BitVec.getLsbD_and, BitVec.getLsbD_xor, BitVec.getLsbD_twoPow, BitVec.getLsbD_allOnes]
    by_cases e : j = i
    · subst e; rw [h, Bool.false_and]
    · simp [e, hi]
/-! ===== lN n to 2^64: shifts, and, or, masks, one bit ===== -/
theorem wb_tb (n : Nat) : (lN n).toBitVec = BitVec.ofNat 64 n := rfl
theorem wb_inj {a b : Int64} (h : a.toBitVec = b.toBitVec) : a = b := Int64.toBitVec_inj.mp h
theorem wb_tn {n : Nat} (h : n < 2 ^ 64) : (lN n).toBitVec.toNat = n := by rw [wb_tb, BitVec.toNat_ofNat, Nat.mod_eq_of_lt h]
theorem wb_of (x : Int64) : ∃ n, n < 2 ^ 64 ∧ x = lN n := ⟨x.toBitVec.toNat, x.toBitVec.isLt, wb_inj (by rw [wb_tb]; simp)⟩
theorem wb_of32 (x : Int32) : ∃ n, n < 2 ^ 32 ∧ x = nI n := ⟨x.toBitVec.toNat, x.toBitVec.isLt, Int32.toBitVec_inj.mp (by show _ = BitVec.ofNat 32 _; simp)⟩
theorem wb_c : ∀ k, k < 64 → ((nI k).toInt64 &&& 63) = lN k := by decide +kernel
theorem wb_cu : ∀ k, k < 64 → ((nI k).toInt64.toUInt64 &&& Int64.toUInt64 63) = UInt64.ofNat k := by decide +kernel
theorem wb_sm : ∀ k, k < 64 → (BitVec.ofNat 64 k).smod 64 = BitVec.ofNat 64 k := by decide +kernel
theorem wb_pw {a b : Nat} (h : a ≤ b) : 2 ^ b = 2 ^ a * 2 ^ (b - a) := by rw [← Nat.pow_add]; congr 1; omega
theorem wb_lt2 {a b : Nat} (h : a < b) : 2 ^ a < 2 ^ b := Nat.pow_lt_pow_right (by decide) h
theorem wb_mod (n : Nat) : lN n = lN (n % 2 ^ 64) := wb_inj (by rw [wb_tb, wb_tb]; apply BitVec.eq_of_toNat_eq; rw [BitVec.toNat_ofNat, BitVec.toNat_ofNat, Nat.mod_mod])
theorem wb_shr {n k : Nat} (hn : n < 2 ^ 64) (hk : k < 64) : ((lN n).toUInt64 >>> ((nI k).toInt64.toUInt64 &&& Int64.toUInt64 63)).toInt64 = lN (n / 2 ^ k) := by
  rw [wb_cu k hk]
  apply wb_inj
  apply BitVec.eq_of_toNat_eq
  show ((lN n).toUInt64 >>> UInt64.ofNat k).toNat = (BitVec.ofNat 64 _).toNat
  have h1 : (UInt64.ofNat k).toNat = k := by
    show (BitVec.ofNat 64 k).toNat = k
    rw [BitVec.toNat_ofNat, Nat.mod_eq_of_lt (by omega)]
  have h2 : (lN n).toUInt64.toNat = n := wb_tn hn
  rw [UInt64.toNat_shiftRight, h1, h2, Nat.mod_eq_of_lt hk, Nat.shiftRight_eq_div_pow, BitVec.toNat_ofNat, Nat.mod_eq_of_lt (Nat.lt_of_le_of_lt (Nat.div_le_self _ _) hn)]
theorem wb_shl (n : Nat) {k : Nat} (hk : k < 64) : lN n <<< ((nI k).toInt64 &&& 63) = lN (n * 2 ^ k) := by
  rw [wb_c k hk]
  apply wb_inj
  rw [Int64.toBitVec_shiftLeft, wb_tb, wb_tb, wb_tb, wb_sm k hk]
  apply BitVec.eq_of_toNat_eq
  rw [BitVec.shiftLeft_eq', BitVec.toNat_shiftLeft, BitVec.toNat_ofNat, BitVec.toNat_ofNat, BitVec.toNat_ofNat, Nat.mod_eq_of_lt (show k < 2 ^ 64 by omega), Nat.shiftLeft_eq, Nat.mul_mod, Nat.mod_mod, ← Nat.mul_mod]
theorem wb_and {a b : Nat} (ha : a < 2 ^ 64) (hb : b < 2 ^ 64) : lN a &&& lN b = lN (a &&& b) := by
  apply wb_inj
  rw [Int64.toBitVec_and, wb_tb, wb_tb, wb_tb]
  apply BitVec.eq_of_toNat_eq
  rw [BitVec.toNat_and, BitVec.toNat_ofNat, BitVec.toNat_ofNat, BitVec.toNat_ofNat, Nat.mod_eq_of_lt ha, Nat.mod_eq_of_lt hb, Nat.mod_eq_of_lt (Nat.and_lt_two_pow _ hb)]
theorem wb_or {a b : Nat} (ha : a < 2 ^ 64) (hb : b < 2 ^ 64) : lN a ||| lN b = lN (a ||| b) := by
  apply wb_inj
  rw [Int64.toBitVec_or, wb_tb, wb_tb, wb_tb]
  apply BitVec.eq_of_toNat_eq
  rw [BitVec.toNat_or, BitVec.toNat_ofNat, BitVec.toNat_ofNat, BitVec.toNat_ofNat, Nat.mod_eq_of_lt ha, Nat.mod_eq_of_lt hb, Nat.mod_eq_of_lt (Nat.or_lt_two_pow ha hb)]
theorem wb_mask {n k : Nat} (hn : n < 2 ^ 64) (hk : k < 64) : lN n &&& lN (2 ^ k - 1) = lN (n % 2 ^ k) := by
  rw [wb_and hn (by have := wb_lt2 hk; omega), Nat.and_two_pow_sub_one_eq_mod]
theorem wb_a1 {n : Nat} (hn : n < 2 ^ 64) : lN n &&& 1 = lN (n % 2) := wb_mask (k := 1) hn (by decide)
theorem wb_bit {n k : Nat} (hn : n < 2 ^ 64) (hk : k < 64) : ((lN n).toUInt64 >>> ((nI k).toInt64.toUInt64 &&& Int64.toUInt64 63)).toInt64 &&& 1 = lN (n / 2 ^ k % 2) := by
  rw [wb_shr hn hk, wb_a1 (Nat.lt_of_le_of_lt (Nat.div_le_self _ _) hn)]
theorem wb_xor {q k : Nat} (hk : k < 63) (h : 2 ^ k ≤ q) (h2 : q < 2 ^ (k + 1)) : lN q ^^^ lN (2 ^ k) = lN (q - 2 ^ k) := by
  obtain ⟨r, rfl⟩ : ∃ r, q = 2 ^ k + r := ⟨q - 2 ^ k, by omega⟩
  have hr : r < 2 ^ k := by rw [Nat.pow_succ] at h2; omega
  have hx : (2 ^ k + r) ^^^ 2 ^ k = r := by
    apply Nat.eq_of_testBit_eq
    intro i
    rw [Nat.testBit_xor, Nat.testBit_two_pow]
    rcases Nat.lt_trichotomy i k with h | h | h
    · rw [Nat.testBit_two_pow_add_gt h]
      simp [show ¬ k = i by omega]
    · subst h
      rw [Nat.testBit_two_pow_add_eq]
      simp
    · have a1 : 2 ^ (k + 1) ≤ 2 ^ i := Nat.pow_le_pow_right (by decide) h
      rw [Nat.testBit_lt_two_pow (show 2 ^ k + r < 2 ^ i by omega), Nat.testBit_lt_two_pow (show r < 2 ^ i by omega)]
      simp [show ¬ k = i by omega]
  have b1 := wb_lt2 (show k + 1 < 64 by omega)
  have b2 := wb_lt2 (show k < 64 by omega)
  apply wb_inj
  rw [Int64.toBitVec_xor, wb_tb, wb_tb, wb_tb]
  apply BitVec.eq_of_toNat_eq
  rw [BitVec.toNat_xor, BitVec.toNat_ofNat, BitVec.toNat_ofNat, BitVec.toNat_ofNat, Nat.mod_eq_of_lt (by omega : 2 ^ k + r < 2 ^ 64), Nat.mod_eq_of_lt b2, hx, Nat.add_sub_cancel_left, Nat.mod_eq_of_lt (by omega)]
/-! ===== lN: masks, 'or' of parts that don't overlap is a sum ===== -/
theorem u_tn {n : Nat} (h : n < 2 ^ 64) : (UInt64.ofNat n).toNat = n := Nat.mod_eq_of_lt h
theorem g_and {a b c : Nat} (ha : a < 2 ^ 64) (hb : b < 2 ^ 64) (hc : a &&& b = c) : lN a &&& lN b = lN c := by
  subst hc
  have h : UInt64.ofNat a &&& UInt64.ofNat b = UInt64.ofNat (a &&& b) := UInt64.toNat_inj.mp (by rw [UInt64.toNat_and, u_tn ha, u_tn hb, u_tn (Nat.and_lt_two_pow a hb)])
  have h2 := congrArg UInt64.toInt64 h
  exact h2
theorem g_and1 {a : Nat} (ha : a < 2 ^ 64) : lN a &&& 1 = lN (a % 2) := g_and (b := 1) ha (by decide) (Nat.and_two_pow_sub_one_eq_mod a 1)
theorem g_mask {a s p : Nat} (hp : 2 ^ s = p) (hs : s < 64) (ha : a < 2 ^ 64) : lN a &&& lN (p - 1) = lN (a % p) := by
  subst hp
  have := Nat.pow_lt_pow_right (show 1 < 2 by decide) hs
  exact g_and ha (by omega) (Nat.and_two_pow_sub_one_eq_mod a s)
theorem g_or {k p a b : Nat} (hp : 2 ^ k = p) (ha : a < p) (h : b * p + a < 2 ^ 64) : lN (b * p) ||| lN a = lN (b * p + a) := by
  subst hp
  have h1 : b * 2 ^ k ||| a = b * 2 ^ k + a := by rw [← Nat.shiftLeft_eq, Nat.shiftLeft_add_eq_or_of_lt ha]
  have h3 : UInt64.ofNat (b * 2 ^ k) ||| UInt64.ofNat a = UInt64.ofNat (b * 2 ^ k + a) := UInt64.toNat_inj.mp (by rw [UInt64.toNat_or, u_tn (by omega), u_tn (by omega), u_tn h, h1])
  have h2 := congrArg UInt64.toInt64 h3
  exact h2
theorem g_or' {k p a b : Nat} (hp : 2 ^ k = p) (ha : a < p) (h : a + b * p < 2 ^ 64) : lN a ||| lN (b * p) = lN (a + b * p) := by
  rw [Int64.or_comm, g_or hp ha (by omega), Nat.add_comm]
theorem g_ushr {a k p : Nat} {y : UInt64} (hy : y = UInt64.ofNat k) (hk : k < 64) (hp : 2 ^ k = p) (ha : a < 2 ^ 64) : ((lN a).toUInt64 >>> y).toInt64 = lN (a / p) := by
  subst hy hp
  have h : UInt64.ofNat a >>> UInt64.ofNat k = UInt64.ofNat (a / 2 ^ k) := UInt64.toNat_inj.mp (by rw [UInt64.toNat_shiftRight, u_tn ha, u_tn (by omega), u_tn (Nat.lt_of_le_of_lt (Nat.div_le_self _ _) ha), Nat.mod_eq_of_lt hk, Nat.shiftRight_eq_div_pow])
  have h2 := congrArg UInt64.toInt64 h
  exact h2
theorem g_shl {a k p : Nat} {y : Int64} (hy : y.toBitVec.smod 64 = BitVec.ofNat 64 k) (hk : k < 64) (hp : 2 ^ k = p) (ha : a < 2 ^ 64) : lN a <<< y = lN (a * p) := by
  subst hp
  apply Int64.toBitVec_inj.mp
  rw [Int64.toBitVec_shiftLeft, hy]
  apply BitVec.eq_of_toNat_eq
  have hb : (lN a).toBitVec.toNat = a := Nat.mod_eq_of_lt ha
  have hk' : (BitVec.ofNat 64 k).toNat = k := Nat.mod_eq_of_lt (by omega)
  have h : ((lN a).toBitVec <<< BitVec.ofNat 64 k).toNat = (a * 2 ^ k) % 2 ^ 64 := by simp only [BitVec.shiftLeft_eq', BitVec.toNat_shiftLeft, hb, hk', Nat.shiftLeft_eq]
  exact h
/-! ===== lN to 2^62 under >> and >>> ===== -/
theorem pf_lI {a : Nat} (h : a < 2 ^ 63) : (lN a).toInt = (a : Int) := lg_ofNat_toInt h
theorem pf_shr {a d : Nat} {D : Int64} (hD : (D.toBitVec.smod 64).toNat = d) (h : a < 2 ^ 62) : lN a >>> D = lN (a / 2 ^ d) := by
  have hd : a / 2 ^ d ≤ a := Nat.div_le_self _ _
  apply Int64.toInt_inj.mp
  have e : (lN a >>> D).toInt = (lN a).toInt >>> d := by
    rw [← hD]
    exact BitVec.toInt_sshiftRight ..
  rw [e, Int.shiftRight_eq_div_pow, pf_lI (by omega), pf_lI (by omega)]
  rfl
theorem pf_ushr {a d : Nat} {D : UInt64} (hD : D.toNat % 64 = d) (h : a < 2 ^ 62) : ((lN a).toUInt64 >>> D).toInt64 = lN (a / 2 ^ d) := by
  have hd : a / 2 ^ d ≤ a := Nat.div_le_self _ _
  have e : (lN a).toUInt64 >>> D = UInt64.ofNat (a / 2 ^ d) := UInt64.toNat_inj.mp (by
    rw [UInt64.toNat_shiftRight, hD, Nat.shiftRight_eq_div_pow, UInt64.toNat_ofNat']
    show (UInt64.ofNat a).toNat / 2 ^ d = _
    rw [UInt64.toNat_ofNat', Nat.mod_eq_of_lt (by omega), Nat.mod_eq_of_lt (by omega)])
  rw [e]
  rfl
theorem pf_andw (x : Int64) : ∃ m, m < 2 ^ 32 ∧ x &&& 4294967295 = lN m := ⟨x.toBitVec.toNat % 2 ^ 32, Nat.mod_lt _ (by decide), Int64.toBitVec_inj.mp (BitVec.eq_of_toNat_eq (by
  show (x.toBitVec &&& 4294967295#64).toNat = (BitVec.ofNat 64 (x.toBitVec.toNat % 2 ^ 32)).toNat
  rw [BitVec.toNat_and, show (4294967295#64).toNat = 2 ^ 32 - 1 from by decide, Nat.and_two_pow_sub_one_eq_mod, BitVec.toNat_ofNat]
  omega))⟩
/-! ===== Int64 as an unsigned number: uN x ===== -/
def uN (x : Int64) : Nat := x.toUInt64.toNat
theorem uN_lt (x : Int64) : uN x < 18446744073709551616 := x.toUInt64.toNat_lt
theorem uN_inj {x y : Int64} (h : uN x = uN y) : x = y := congrArg UInt64.toInt64 (UInt64.toNat_inj.mp h)
theorem uN_add (x y : Int64) : uN (x + y) = (uN x + uN y) % 18446744073709551616 := by
  show (x.toUInt64 + y.toUInt64).toNat = _
  exact UInt64.toNat_add _ _
theorem uN_mul (x y : Int64) : uN (x * y) = (uN x * uN y) % 18446744073709551616 := by
  show (x.toUInt64 * y.toUInt64).toNat = _
  exact UInt64.toNat_mul _ _
theorem uN_shl (x : Int64) : uN (x <<< ((1 : Int32).toInt64 &&& 63)) = (2 * uN x) % 18446744073709551616 := by
  have h : (((1 : Int32).toInt64 &&& 63).toBitVec.smod 64).toNat = 1 := by decide
  show (x.toBitVec <<< (((1 : Int32).toInt64 &&& 63).toBitVec.smod 64).toNat).toNat = _
  rw [h, BitVec.toNat_shiftLeft, Nat.shiftLeft_eq, Nat.mul_comm]
  rfl
theorem uN_shr (x : Int64) (s : UInt64) : uN (x.toUInt64 >>> s).toInt64 = uN x / 2 ^ (s.toNat % 64) := by
  show (x.toUInt64 >>> s).toNat = _
  rw [UInt64.toNat_shiftRight, Nat.shiftRight_eq_div_pow]
  rfl
theorem uN_s32 (x : Int64) : uN (x.toUInt64 >>> ((32 : Int32).toInt64.toUInt64 &&& Int64.toUInt64 63)).toInt64 = uN x / 4294967296 := by
  have h : ((32 : Int32).toInt64.toUInt64 &&& Int64.toUInt64 63).toNat % 64 = 32 := by decide
  rw [uN_shr, h]
theorem uN_s63 (x : Int64) : uN (x.toUInt64 >>> ((63 : Int32).toInt64.toUInt64 &&& Int64.toUInt64 63)).toInt64 = uN x / 9223372036854775808 := by
  have h : ((63 : Int32).toInt64.toUInt64 &&& Int64.toUInt64 63).toNat % 64 = 63 := by decide
  rw [uN_shr, h]
theorem uN_lo (x : Int64) : uN (x &&& 4294967295) = uN x % 4294967296 := by
  show (x.toUInt64 &&& Int64.toUInt64 4294967295).toNat = _
  rw [UInt64.toNat_and]
  exact Nat.and_two_pow_sub_one_eq_mod _ 32
theorem uN_bit (x : Int64) : (x &&& 1) = 0 ↔ uN x % 2 = 0 := by
  have h : uN (x &&& 1) = uN x % 2 := by
    show (x.toUInt64 &&& Int64.toUInt64 1).toNat = _
    rw [UInt64.toNat_and]
    exact Nat.and_two_pow_sub_one_eq_mod _ 1
  rw [← h]
  exact ⟨fun z => by rw [z]; rfl, fun z => uN_inj (z.trans rfl)⟩
theorem uN_or {x y : Int64} (hy : uN y < 2) : uN ((x <<< ((1 : Int32).toInt64 &&& 63)) ||| y) = (2 * uN x) % 18446744073709551616 + uN y := by
  have h1 : uN ((x <<< ((1 : Int32).toInt64 &&& 63)) ||| y) = uN (x <<< ((1 : Int32).toInt64 &&& 63)) ||| uN y := UInt64.toNat_or _ _
  have h2 : (2 * uN x) % 18446744073709551616 = 2 ^ 1 * (uN x % 9223372036854775808) := by omega
  rw [h1, uN_shl, h2]
  exact (Nat.two_pow_add_eq_or_of_lt (i := 1) hy _).symm
theorem nat_xor {a : Nat} (h : a < 18446744073709551616) : a ^^^ 2 ^ 63 = (a + 9223372036854775808) % 18446744073709551616 := by
  have h1 : (a ^^^ 2 ^ 63) % 2 ^ 63 = a % 2 ^ 63 := by rw [Nat.xor_mod_two_pow, Nat.mod_self, Nat.xor_zero]
  have h2 : (a ^^^ 2 ^ 63) / 2 ^ 63 = (a / 2 ^ 63) ^^^ 1 := by rw [Nat.xor_div_two_pow, Nat.div_self (Nat.two_pow_pos 63)]
  have h3 : a / 2 ^ 63 = 0 ∨ a / 2 ^ 63 = 1 := by omega
  generalize a ^^^ 2 ^ 63 = t at h1 h2
  rcases h3 with h3 | h3
  · rw [h3] at h2
    have h2 : t / 2 ^ 63 = 1 := h2
    omega
  · rw [h3] at h2
    have h2 : t / 2 ^ 63 = 0 := h2
    omega
theorem uN_xor (x : Int64) : uN (x ^^^ (-9223372036854775808)) = (uN x + 9223372036854775808) % 18446744073709551616 := by
  rw [← nat_xor (uN_lt x)]
  exact UInt64.toNat_xor _ _
theorem uN_int (x : Int64) : x.toInt = if 2 * uN x < 18446744073709551616 then (uN x : Int) else (uN x : Int) - 18446744073709551616 := BitVec.toInt_eq_toNat_cond _
theorem uN_le (x y : Int64) : (x ^^^ (-9223372036854775808)) ≤ (y ^^^ (-9223372036854775808)) ↔ uN x ≤ uN y := by
  have hx := uN_lt x
  have hy := uN_lt y
  rw [Int64.le_iff_toInt_le, uN_int, uN_int, uN_xor, uN_xor]
  omega
theorem uN_sk (x : Int64) {k : Nat} (hk : k < 64) : uN (x.toUInt64 >>> ((nI k).toInt64.toUInt64 &&& Int64.toUInt64 63)).toInt64 = uN x / 2 ^ k := by
  have h : ((nI k).toInt64.toUInt64 &&& Int64.toUInt64 63).toNat % 64 = k := by
    rw [nI_l (by omega), UInt64.toNat_and]
    have e : (lN k).toUInt64.toNat = k % 2 ^ 64 := rfl
    have e2 : (Int64.toUInt64 63).toNat = 2 ^ 6 - 1 := by decide
    rw [e, e2, Nat.and_two_pow_sub_one_eq_mod]
    omega
  rw [uN_shr, h]
/-! ===== unsigned comparison by xor with the least ===== -/
theorem lN_bv (n : Nat) : (lN n).toBitVec = BitVec.ofNat 64 n := rfl
theorem lN_nat {n : Nat} (h : n < 2 ^ 64) : (lN n).toBitVec.toNat = n := by rw [lN_bv, BitVec.toNat_ofNat]; exact Nat.mod_eq_of_lt h
theorem lN_xor (a b : Nat) : lN a ^^^ lN b = lN (a ^^^ b) := by
  apply Int64.toBitVec_inj.mp; rw [Int64.toBitVec_xor, lN_bv, lN_bv, lN_bv]; apply BitVec.eq_of_getLsbD_eq; intro i hi; simp [BitVec.getLsbD_ofNat, Nat.testBit_xor, hi]
theorem lN_ti {m : Nat} (h : m < 2 ^ 64) : (lN m).toInt = if m < 2 ^ 63 then (m : Int) else (m : Int) - 2 ^ 64 := by
  have c := BitVec.toInt_eq_toNat_cond (lN m).toBitVec
  rw [lN_nat h] at c
  show (lN m).toBitVec.toInt = _
  rw [c]
  split <;> split <;> omega
theorem xor63 {x : Nat} (h : x < 2 ^ 63) : x ^^^ 2 ^ 63 = 2 ^ 63 + x := by
  apply Nat.eq_of_testBit_eq
  intro i
  rw [Nat.testBit_xor, Nat.testBit_two_pow]
  rcases Nat.lt_trichotomy i 63 with z | z | z
  · rw [Nat.testBit_two_pow_add_gt z, decide_eq_false (by omega)]; simp
  · subst z; rw [Nat.testBit_two_pow_add_eq]; simp
  · have hp : 2 ^ 64 ≤ 2 ^ i := Nat.pow_le_pow_right (by decide) z
    rw [Nat.testBit_lt_two_pow (show x < 2 ^ i by omega), Nat.testBit_lt_two_pow (show 2 ^ 63 + x < 2 ^ i by omega), decide_eq_false (by omega)]; rfl
theorem xorS {a : Nat} (h : a < 2 ^ 64) : (lN a ^^^ (-9223372036854775808)).toInt = (a : Int) - 2 ^ 63 := by
  rw [show (-9223372036854775808 : Int64) = lN (2 ^ 63) from by decide +kernel, lN_xor]
  rcases Nat.lt_or_ge a (2 ^ 63) with z | z
  · rw [xor63 z, lN_ti (by omega), if_neg (by omega)]; omega
  · obtain ⟨x, rfl⟩ : ∃ x, a = 2 ^ 63 + x := ⟨a - 2 ^ 63, by omega⟩
    rw [← xor63 (by omega), Nat.xor_assoc, Nat.xor_self, Nat.xor_zero, lN_ti (by omega), if_pos (by omega), xor63 (by omega)]; omega
theorem ultL {a b : Nat} (ha : a < 2 ^ 64) (hb : b < 2 ^ 64) : ((lN b ^^^ (-9223372036854775808)) ≤ (lN a ^^^ (-9223372036854775808))) ↔ b ≤ a := by
  rw [Int64.le_iff_toInt_le, xorS ha, xorS hb]; omega
/-! ===== Int64 masks of n low bits ===== -/
theorem cr_bits (W U M : BitVec 64) : ((W &&& U) &&& (U &&& (M ^^^ BitVec.allOnes 64))) = 0#64 ↔ (W &&& U) &&& M = W &&& U := by
  constructor
  · intro h
    apply BitVec.eq_of_getLsbD_eq
    intro i hi
    have e := congrArg (fun x => BitVec.getLsbD x i) h
    simp only [BitVec.getLsbD_and, BitVec.getLsbD_xor, BitVec.getLsbD_allOnes, BitVec.getLsbD_zero, hi, decide_true] at e ⊢
    revert e
    cases W.getLsbD i <;> cases U.getLsbD i <;> cases M.getLsbD i <;> decide
  · intro h
    apply BitVec.eq_of_getLsbD_eq
    intro i hi
    have e := congrArg (fun x => BitVec.getLsbD x i) h
    simp only [BitVec.getLsbD_and, BitVec.getLsbD_xor, BitVec.getLsbD_allOnes, BitVec.getLsbD_zero, hi, decide_true] at e ⊢
    revert e
    cases W.getLsbD i <;> cases U.getLsbD i <;> cases M.getLsbD i <;> decide
theorem cr_mask (w U m : Int64) (n : Nat) (hm : m.toBitVec.toNat = 2 ^ n - 1) : ((w &&& U) &&& (U &&& (m ^^^ (-1)))) = 0 ↔ (w &&& U).toBitVec.toNat < 2 ^ n := by
  have e0 : (-1 : Int64).toBitVec = BitVec.allOnes 64 := by decide
  have z0 : (0 : Int64).toBitVec = 0#64 := by decide
  rw [← Int64.toBitVec_inj, z0, Int64.toBitVec_and, Int64.toBitVec_and, Int64.toBitVec_and, Int64.toBitVec_xor, e0, cr_bits]
  generalize w.toBitVec &&& U.toBitVec = T
  rw [← BitVec.toNat_inj, BitVec.toNat_and, hm, Nat.and_two_pow_sub_one_eq_mod]
  constructor
  · intro h
    have t := Nat.mod_lt T.toNat (Nat.two_pow_pos n)
    rw [h] at t
    exact t
  · exact Nat.mod_eq_of_lt
theorem cr_shr (t : Int64) (x : UInt64) (n : Nat) (hx : x.toNat % 64 = n) : (t.toUInt64 >>> x).toInt64 = 0 ↔ t.toBitVec.toNat < 2 ^ n := by
  rw [← Int64.toBitVec_inj, ← BitVec.toNat_inj]
  show (t.toUInt64 >>> x).toNat = 0 ↔ t.toUInt64.toNat < 2 ^ n
  rw [UInt64.toNat_shiftRight, hx, Nat.shiftRight_eq_div_pow]
  constructor
  · intro h
    have d : t.toUInt64.toNat / 2 ^ n < 1 := by
      rw [h]
      decide
    have e := (Nat.div_lt_iff_lt_mul (Nat.two_pow_pos n)).mp d
    rw [Nat.one_mul] at e
    exact e
  · exact Nat.div_eq_of_lt
theorem cr_amt (s : Int64) : ∃ n, n < 64 ∧ s &&& 63 = lN n ∧ (s.toUInt64 &&& Int64.toUInt64 63).toNat % 64 = n := by
  have e : (s.toUInt64 &&& Int64.toUInt64 63).toNat = s.toUInt64.toNat % 2 ^ 6 := by
    rw [UInt64.toNat_and, show (Int64.toUInt64 63).toNat = 2 ^ 6 - 1 from by decide, Nat.and_two_pow_sub_one_eq_mod]
  refine ⟨s.toUInt64.toNat % 2 ^ 6, by omega, ?_, by omega⟩
  rw [← Int64.toBitVec_inj, ← BitVec.toNat_inj]
  show (s.toUInt64 &&& Int64.toUInt64 63).toNat = (BitVec.ofNat 64 (s.toUInt64.toNat % 2 ^ 6)).toNat
  rw [e, BitVec.toNat_ofNat]
  omega
end
section
/-! The mathematics, without the program: trees by cell numbers, residuals, runs. Sets are Nat → Bool. -/
def sd_e : Nat → Bool := fun _ => false
def sd_set (s : Nat → Bool) (i : Nat) : Nat → Bool := fun j => if j = i then true else s j
def sd_off (s : Nat → Bool) (i : Nat) : Nat → Bool := fun j => if j = i then false else s j
def sd_clr (s : Nat → Bool) (a w : Nat) : Nat → Bool := fun j => if a ≤ j ∧ j < a + w then false else s j
def sd_or (s t : Nat → Bool) : Nat → Bool := fun j => s j || t j
/-- only inside the range -/
def sd_in (a w : Nat) (s : Nat → Bool) : Prop := ∀ i, s i = true → a ≤ i ∧ i < a + w
/-- nothing inside the range -/
def sd_un (a w : Nat) (s : Nat → Bool) : Prop := ∀ i, a ≤ i → i < a + w → s i = false
def sd_ag (a w : Nat) (s t : Nat → Bool) : Prop := ∀ i, a ≤ i → i < a + w → s i = t i

theorem sd_nf {b : Bool} (h : ¬ b = true) : b = false := by cases b <;> simp_all
theorem sd_set_s {s : Nat → Bool} {i : Nat} : sd_set s i i = true := by simp [sd_set]
theorem sd_set_n {s : Nat → Bool} {i j : Nat} (h : j ≠ i) : sd_set s i j = s j := by simp [sd_set, h]
theorem sd_off_s {s : Nat → Bool} {i : Nat} : sd_off s i i = false := by simp [sd_off]
theorem sd_off_n {s : Nat → Bool} {i j : Nat} (h : j ≠ i) : sd_off s i j = s j := by simp [sd_off, h]
theorem sd_clr_i {s : Nat → Bool} {a w j : Nat} (h1 : a ≤ j) (h2 : j < a + w) : sd_clr s a w j = false := by
  simp [sd_clr, h1, h2]
theorem sd_clr_o {s : Nat → Bool} {a w j : Nat} (h : ¬ (a ≤ j ∧ j < a + w)) : sd_clr s a w j = s j := by
  simp only [sd_clr, if_neg h]
theorem sd_orC (s t : Nat → Bool) : sd_or s t = sd_or t s := by
  funext j; exact Bool.or_comm _ _
theorem sd_orE : sd_or sd_e sd_e = sd_e := rfl
theorem sd_unL {a w : Nat} {s t : Nat → Bool} (h : sd_ag a w s t) : sd_un a w s ↔ sd_un a w t :=
  ⟨fun u i h1 h2 => (h i h1 h2).symm.trans (u i h1 h2), fun u i h1 h2 => (h i h1 h2).trans (u i h1 h2)⟩
theorem sd_unE {a w : Nat} : sd_un a w sd_e := fun _ _ _ => rfl
theorem sd_inE {a w : Nat} : sd_in a w sd_e := fun _ h => by simp [sd_e] at h
theorem sd_agS {a w : Nat} {s t : Nat → Bool} (h : sd_ag a w s t) : sd_ag a w t s := fun i h1 h2 => (h i h1 h2).symm

/-- the tree -/
def sd_tr (kd pp qq pl wd : Nat → Nat) (O : Nat → Prop) : Prop :=
  ∀ c, O c → kd c ≤ 7 ∧ (kd c = 0 → wd c = 0) ∧ (kd c ≠ 0 → kd c < 4 → wd c = 1) ∧
    (4 ≤ kd c → O (pp c) ∧ pp c < c ∧ pl (pp c) = pl c) ∧
    (kd c = 7 → wd c = wd (pp c)) ∧
    (4 ≤ kd c → kd c ≠ 7 → O (qq c) ∧ qq c < c ∧ pl (qq c) = pl c + wd (pp c) ∧ wd c = wd (pp c) + wd (qq c))

section
variable {kd pp qq pl wd : Nat → Nat} {O : Nat → Prop}
theorem sd_ind (h : sd_tr kd pp qq pl wd O) {P : Nat → Prop}
    (hl : ∀ c, O c → kd c < 4 → P c)
    (h4 : ∀ c, O c → kd c = 4 → P (pp c) → P (qq c) → P c)
    (h5 : ∀ c, O c → kd c = 5 → P (pp c) → P (qq c) → P c)
    (h6 : ∀ c, O c → kd c = 6 → P (pp c) → P (qq c) → P c)
    (h7 : ∀ c, O c → kd c = 7 → P (pp c) → P c) : ∀ c, O c → P c := by
  intro c
  induction c using Nat.strongRecOn with
  | ind c ih =>
    intro hc
    obtain ⟨hk, _, _, hp, _, hq⟩ := h c hc
    by_cases k : kd c < 4
    · exact hl c hc k
    · obtain ⟨op, lp, _⟩ := hp (by omega)
      have Pp := ih _ lp op
      by_cases k7 : kd c = 7
      · exact h7 c hc k7 Pp
      · obtain ⟨oq, lq, _⟩ := hq (by omega) k7
        have Pq := ih _ lq oq
        by_cases k4 : kd c = 4
        · exact h4 c hc k4 Pp Pq
        · by_cases k5 : kd c = 5
          · exact h5 c hc k5 Pp Pq
          · exact h6 c hc (by omega) Pp Pq
theorem sd_tp (h : sd_tr kd pp qq pl wd O) {c : Nat} (hc : O c) (k : 4 ≤ kd c) :
    O (pp c) ∧ pp c < c ∧ pl (pp c) = pl c ∧ wd (pp c) ≤ wd c := by
  obtain ⟨_, _, _, hp, h7, hq⟩ := h c hc
  obtain ⟨a, b, e⟩ := hp k
  refine ⟨a, b, e, ?_⟩
  by_cases k7 : kd c = 7
  · have := h7 k7; omega
  · obtain ⟨_, _, e2, e3⟩ := hq k k7; omega
theorem sd_tq (h : sd_tr kd pp qq pl wd O) {c : Nat} (hc : O c) (k : 4 ≤ kd c) (k7 : kd c ≠ 7) :
    O (qq c) ∧ qq c < c ∧ pl (qq c) = pl c + wd (pp c) ∧ wd c = wd (pp c) + wd (qq c) ∧ pl (pp c) = pl c := by
  obtain ⟨_, _, _, hp, h7, hq⟩ := h c hc
  obtain ⟨a, b, e⟩ := hp k
  obtain ⟨o, l, e2, e3⟩ := hq k k7
  exact ⟨o, l, e2, e3, e⟩
theorem sd_agp (h : sd_tr kd pp qq pl wd O) {c : Nat} (hc : O c) (k : 4 ≤ kd c) {s t : Nat → Bool}
    (a : sd_ag (pl c) (wd c) s t) : sd_ag (pl (pp c)) (wd (pp c)) s t := by
  obtain ⟨_, _, e, l⟩ := sd_tp h hc k
  exact fun i h1 h2 => a i (by omega) (by omega)
theorem sd_agq (h : sd_tr kd pp qq pl wd O) {c : Nat} (hc : O c) (k : 4 ≤ kd c) (k7 : kd c ≠ 7) {s t : Nat → Bool}
    (a : sd_ag (pl c) (wd c) s t) : sd_ag (pl (qq c)) (wd (qq c)) s t := by
  obtain ⟨_, _, e, e2, e3⟩ := sd_tq h hc k k7
  exact fun i h1 h2 => a i (by omega) (by omega)
end

/-- childless -/
def sd_clE (kd pp qq pl : Nat → Nat) (O : Nat → Prop) (cl : Nat → (Nat → Bool) → Prop) : Prop :=
  ∀ c, O c → ∀ s, (kd c = 0 → cl c s) ∧ (kd c = 2 → cl c s) ∧ (kd c = 1 → (cl c s ↔ s (pl c) = false)) ∧
    (kd c = 3 → (cl c s ↔ s (pl c) = false)) ∧ (kd c = 7 → (cl c s ↔ cl (pp c) s)) ∧
    (4 ≤ kd c → kd c ≠ 7 → (cl c s ↔ cl (pp c) s ∧ cl (qq c) s))
/-- nullable -/
def sd_nuE (kd pp qq pl wd : Nat → Nat) (O : Nat → Prop) (nu : Nat → (Nat → Bool) → Prop) : Prop :=
  ∀ c, O c → ∀ s, (kd c = 0 → nu c s) ∧ (kd c = 1 → nu c s) ∧ (kd c = 2 → (nu c s ↔ s (pl c) = true)) ∧
    (kd c = 3 → (nu c s ↔ s (pl c) = true)) ∧ (kd c = 7 → (nu c s ↔ nu (pp c) s)) ∧
    (kd c = 4 → (nu c s ↔ (nu (pp c) s ∧ sd_un (pl (qq c)) (wd (qq c)) s) ∨ (nu (qq c) s ∧ sd_un (pl (pp c)) (wd (pp c)) s))) ∧
    (kd c = 5 → (nu c s ↔ nu (pp c) s ∧ nu (qq c) s)) ∧ (kd c = 6 → (nu c s ↔ nu (pp c) s ∧ nu (qq c) s))
/-- can grow; fil: the leaf can still be filled -/
def sd_grE (kd pp qq pl wd : Nat → Nat) (O fil : Nat → Prop) (gr : Nat → (Nat → Bool) → Prop) : Prop :=
  ∀ c, O c → ∀ s, (kd c < 4 → (gr c s ↔ fil c ∨ ¬ sd_un (pl c) (wd c) s)) ∧ (kd c = 7 → (gr c s ↔ gr (pp c) s)) ∧
    (kd c = 4 → (gr c s ↔ (gr (pp c) s ∧ sd_un (pl (qq c)) (wd (qq c)) s) ∨ (gr (qq c) s ∧ sd_un (pl (pp c)) (wd (pp c)) s))) ∧
    (kd c = 5 → (gr c s ↔ gr (pp c) s ∧ gr (qq c) s)) ∧ (kd c = 6 → (gr c s ↔ gr (pp c) s ∧ gr (qq c) s))
/-- item e taken below c -/
def sd_avE (kd pp qq pl wd : Nat → Nat) (O : Nat → Prop) (cl nu : Nat → (Nat → Bool) → Prop) (T : Nat → Nat → Prop)
    (kid : Nat → Bool) (Av : Nat → Nat → (Nat → Bool) → (Nat → Bool) → Prop) : Prop :=
  ∀ c, O c → ∀ e s t,
    (kd c < 4 → (Av c e s t ↔ T c e ∧ (kd c = 1 ∨ s (pl c) = false) ∧ t = sd_set s (pl c))) ∧
    (kd c = 4 → (Av c e s t ↔ (sd_un (pl (qq c)) (wd (qq c)) s ∧ Av (pp c) e s t) ∨ (sd_un (pl (pp c)) (wd (pp c)) s ∧ Av (qq c) e s t))) ∧
    (kd c = 5 → (Av c e s t ↔ ((kid e = true → cl (qq c) s) ∧ Av (pp c) e s t) ∨ ((kid e = true → nu (pp c) s) ∧ Av (qq c) e s t))) ∧
    (kd c = 6 → (Av c e s t ↔ Av (pp c) e s t ∨ Av (qq c) e s t)) ∧
    (kd c = 7 → (Av c e s t ↔ Av (pp c) e s t ∨ (nu c s ∧ Av (pp c) e (sd_clr s (pl c) (wd c)) t)))
/-- attributes below -/
def sd_abE (kd pp qq : Nat → Nat) (O ab : Nat → Prop) : Prop :=
  ∀ c, O c → (kd c = 2 → ab c) ∧ (4 ≤ kd c → kd c ≠ 7 → ab (pp c) ∨ ab (qq c) → ab c) ∧ (kd c = 7 → ¬ ab (pp c))
def sd_Env (kd pp qq pl wd : Nat → Nat) (O : Nat → Prop) (cl nu : Nat → (Nat → Bool) → Prop) (ab : Nat → Prop)
    (T : Nat → Nat → Prop) (kid : Nat → Bool) (Av : Nat → Nat → (Nat → Bool) → (Nat → Bool) → Prop) : Prop :=
  sd_tr kd pp qq pl wd O ∧ sd_clE kd pp qq pl O cl ∧ sd_nuE kd pp qq pl wd O nu ∧
  sd_avE kd pp qq pl wd O cl nu T kid Av ∧ sd_abE kd pp qq O ab ∧
  (∀ c e, O c → T c e → (kd c = 1 ∨ kd c = 2 ∨ kd c = 3) ∧ (kid e = true ↔ kd c ≠ 2))

section
variable {kd pp qq pl wd : Nat → Nat} {O fil : Nat → Prop} {cl nu gr : Nat → (Nat → Bool) → Prop} {ab : Nat → Prop}
variable {T : Nat → Nat → Prop} {kid : Nat → Bool} {Av : Nat → Nat → (Nat → Bool) → (Nat → Bool) → Prop}

theorem sd_clL (ht : sd_tr kd pp qq pl wd O) (hc : sd_clE kd pp qq pl O cl) :
    ∀ c, O c → ∀ s t, sd_ag (pl c) (wd c) s t → (cl c s ↔ cl c t) := by
  have hp : ∀ c, O c → 4 ≤ kd c → kd c ≠ 7 →
      (∀ s t, sd_ag (pl (pp c)) (wd (pp c)) s t → (cl (pp c) s ↔ cl (pp c) t)) →
      (∀ s t, sd_ag (pl (qq c)) (wd (qq c)) s t → (cl (qq c) s ↔ cl (qq c) t)) →
      ∀ s t, sd_ag (pl c) (wd c) s t → (cl c s ↔ cl c t) := by
    intro c oc k4 k7 ip iq s t a
    rw [(hc c oc s).2.2.2.2.2 k4 k7, (hc c oc t).2.2.2.2.2 k4 k7, ip s t (sd_agp ht oc k4 a), iq s t (sd_agq ht oc k4 k7 a)]
  refine sd_ind ht ?_ (fun c oc k ip iq => hp c oc (by omega) (by omega) ip iq)
    (fun c oc k ip iq => hp c oc (by omega) (by omega) ip iq) (fun c oc k ip iq => hp c oc (by omega) (by omega) ip iq) ?_
  · intro c oc k s t a
    obtain ⟨h0, h2, h1, h3, _, _⟩ := hc c oc s
    obtain ⟨g0, g2, g1, g3, _, _⟩ := hc c oc t
    by_cases k0 : kd c = 0
    · exact ⟨fun _ => g0 k0, fun _ => h0 k0⟩
    · have w1 := (ht c oc).2.2.1 k0 k
      have e := a (pl c) (by omega) (by omega)
      by_cases k2 : kd c = 2
      · exact ⟨fun _ => g2 k2, fun _ => h2 k2⟩
      · by_cases k1 : kd c = 1
        · rw [h1 k1, g1 k1, e]
        · rw [h3 (by omega), g3 (by omega), e]
  · intro c oc k ip s t a
    rw [(hc c oc s).2.2.2.2.1 k, (hc c oc t).2.2.2.2.1 k, ip s t (sd_agp ht oc (by omega) a)]

theorem sd_nuL (ht : sd_tr kd pp qq pl wd O) (hn : sd_nuE kd pp qq pl wd O nu) :
    ∀ c, O c → ∀ s t, sd_ag (pl c) (wd c) s t → (nu c s ↔ nu c t) := by
  refine sd_ind ht ?_ ?_ ?_ ?_ ?_
  · intro c oc k s t a
    obtain ⟨h0, h1, h2, h3, _⟩ := hn c oc s
    obtain ⟨g0, g1, g2, g3, _⟩ := hn c oc t
    by_cases k0 : kd c = 0
    · exact ⟨fun _ => g0 k0, fun _ => h0 k0⟩
    · have w1 := (ht c oc).2.2.1 k0 k
      have e := a (pl c) (by omega) (by omega)
      by_cases k1 : kd c = 1
      · exact ⟨fun _ => g1 k1, fun _ => h1 k1⟩
      · by_cases k2 : kd c = 2
        · rw [h2 k2, g2 k2, e]
        · rw [h3 (by omega), g3 (by omega), e]
  · intro c oc k ip iq s t a
    rw [(hn c oc s).2.2.2.2.2.1 k, (hn c oc t).2.2.2.2.2.1 k, ip s t (sd_agp ht oc (by omega) a),
      iq s t (sd_agq ht oc (by omega) (by omega) a), sd_unL (sd_agp ht oc (by omega) a), sd_unL (sd_agq ht oc (by omega) (by omega) a)]
  · intro c oc k ip iq s t a
    rw [(hn c oc s).2.2.2.2.2.2.1 k, (hn c oc t).2.2.2.2.2.2.1 k, ip s t (sd_agp ht oc (by omega) a),
      iq s t (sd_agq ht oc (by omega) (by omega) a)]
  · intro c oc k ip iq s t a
    rw [(hn c oc s).2.2.2.2.2.2.2 k, (hn c oc t).2.2.2.2.2.2.2 k, ip s t (sd_agp ht oc (by omega) a),
      iq s t (sd_agq ht oc (by omega) (by omega) a)]
  · intro c oc k ip s t a
    rw [(hn c oc s).2.2.2.2.1 k, (hn c oc t).2.2.2.2.1 k, ip s t (sd_agp ht oc (by omega) a)]

theorem sd_grL (ht : sd_tr kd pp qq pl wd O) (hg : sd_grE kd pp qq pl wd O fil gr) :
    ∀ c, O c → ∀ s t, sd_ag (pl c) (wd c) s t → (gr c s ↔ gr c t) := by
  refine sd_ind ht ?_ ?_ ?_ ?_ ?_
  · intro c oc k s t a
    rw [(hg c oc s).1 k, (hg c oc t).1 k, sd_unL a]
  · intro c oc k ip iq s t a
    rw [(hg c oc s).2.2.1 k, (hg c oc t).2.2.1 k, ip s t (sd_agp ht oc (by omega) a),
      iq s t (sd_agq ht oc (by omega) (by omega) a), sd_unL (sd_agp ht oc (by omega) a), sd_unL (sd_agq ht oc (by omega) (by omega) a)]
  · intro c oc k ip iq s t a
    rw [(hg c oc s).2.2.2.1 k, (hg c oc t).2.2.2.1 k, ip s t (sd_agp ht oc (by omega) a),
      iq s t (sd_agq ht oc (by omega) (by omega) a)]
  · intro c oc k ip iq s t a
    rw [(hg c oc s).2.2.2.2 k, (hg c oc t).2.2.2.2 k, ip s t (sd_agp ht oc (by omega) a),
      iq s t (sd_agq ht oc (by omega) (by omega) a)]
  · intro c oc k ip s t a
    rw [(hg c oc s).2.1 k, (hg c oc t).2.1 k, ip s t (sd_agp ht oc (by omega) a)]

theorem sd_nuG (ht : sd_tr kd pp qq pl wd O) (hn : sd_nuE kd pp qq pl wd O nu) (hg : sd_grE kd pp qq pl wd O fil gr)
    (hf : ∀ c, O c → kd c = 0 ∨ kd c = 1 → fil c) : ∀ c, O c → ∀ s, nu c s → gr c s := by
  refine sd_ind ht ?_ ?_ ?_ ?_ ?_
  · intro c oc k s n
    rw [(hg c oc s).1 k]
    by_cases k1 : kd c = 0 ∨ kd c = 1
    · exact Or.inl (hf c oc k1)
    · refine Or.inr (fun u => ?_)
      have w1 := (ht c oc).2.2.1 (by omega) k
      have e := u (pl c) (by omega) (by omega)
      by_cases k2 : kd c = 2
      · rw [(hn c oc s).2.2.1 k2, e] at n; cases n
      · rw [(hn c oc s).2.2.2.1 (by omega), e] at n; cases n
  · intro c oc k ip iq s n
    rw [(hg c oc s).2.2.1 k]
    rw [(hn c oc s).2.2.2.2.2.1 k] at n
    rcases n with ⟨a, b⟩ | ⟨a, b⟩
    · exact Or.inl ⟨ip s a, b⟩
    · exact Or.inr ⟨iq s a, b⟩
  · intro c oc k ip iq s n
    rw [(hg c oc s).2.2.2.1 k]
    rw [(hn c oc s).2.2.2.2.2.2.1 k] at n
    exact ⟨ip s n.1, iq s n.2⟩
  · intro c oc k ip iq s n
    rw [(hg c oc s).2.2.2.2 k]
    rw [(hn c oc s).2.2.2.2.2.2.2 k] at n
    exact ⟨ip s n.1, iq s n.2⟩
  · intro c oc k ip s n
    rw [(hg c oc s).2.1 k]
    rw [(hn c oc s).2.2.2.2.1 k] at n
    exact ip s n

theorem sd_grM {fil' : Nat → Prop} {gr' : Nat → (Nat → Bool) → Prop} (ht : sd_tr kd pp qq pl wd O)
    (hg : sd_grE kd pp qq pl wd O fil gr) (hg' : sd_grE kd pp qq pl wd O fil' gr')
    (hf : ∀ c, O c → kd c < 4 → fil c → fil' c) : ∀ c, O c → ∀ s, gr c s → gr' c s := by
  refine sd_ind ht ?_ ?_ ?_ ?_ ?_
  · intro c oc k s n
    rw [(hg' c oc s).1 k]
    rw [(hg c oc s).1 k] at n
    exact n.imp (hf c oc k) id
  · intro c oc k ip iq s n
    rw [(hg' c oc s).2.2.1 k]
    rw [(hg c oc s).2.2.1 k] at n
    exact n.imp (fun a => ⟨ip s a.1, a.2⟩) (fun a => ⟨iq s a.1, a.2⟩)
  · intro c oc k ip iq s n
    rw [(hg' c oc s).2.2.2.1 k]
    rw [(hg c oc s).2.2.2.1 k] at n
    exact ⟨ip s n.1, iq s n.2⟩
  · intro c oc k ip iq s n
    rw [(hg' c oc s).2.2.2.2 k]
    rw [(hg c oc s).2.2.2.2 k] at n
    exact ⟨ip s n.1, iq s n.2⟩
  · intro c oc k ip s n
    rw [(hg' c oc s).2.1 k]
    rw [(hg c oc s).2.1 k] at n
    exact ip s n
end
end
section
/-! Av: locality; runs and their decompositions -/
section
variable {kd pp qq pl wd : Nat → Nat} {O fil : Nat → Prop} {cl nu gr : Nat → (Nat → Bool) → Prop} {ab : Nat → Prop}
variable {T : Nat → Nat → Prop} {kid : Nat → Bool} {Av : Nat → Nat → (Nat → Bool) → (Nat → Bool) → Prop}

/-- the case law of Av at a composite cell: below p or below q -/
theorem sd_avC (H : sd_Env kd pp qq pl wd O cl nu ab T kid Av) {c : Nat} (oc : O c) (k4 : 4 ≤ kd c) {e : Nat} {s t : Nat → Bool}
    (h : Av c e s t) : (kd c ≠ 7 ∧ (Av (pp c) e s t ∨ Av (qq c) e s t)) ∨
      (kd c = 7 ∧ (Av (pp c) e s t ∨ (nu c s ∧ Av (pp c) e (sd_clr s (pl c) (wd c)) t))) := by
  obtain ⟨ht, _, _, hv, _, _⟩ := H
  obtain ⟨_, v4, v5, v6, v7⟩ := hv c oc e s t
  have k7 := (ht c oc).1
  by_cases j4 : kd c = 4
  · rcases (v4 j4).1 h with h | h
    · exact Or.inl ⟨by omega, Or.inl h.2⟩
    · exact Or.inl ⟨by omega, Or.inr h.2⟩
  · by_cases j5 : kd c = 5
    · rcases (v5 j5).1 h with h | h
      · exact Or.inl ⟨by omega, Or.inl h.2⟩
      · exact Or.inl ⟨by omega, Or.inr h.2⟩
    · by_cases j6 : kd c = 6
      · exact Or.inl ⟨by omega, (v6 j6).1 h⟩
      · exact Or.inr ⟨by omega, (v7 (by omega)).1 h⟩

theorem sd_avOut (H : sd_Env kd pp qq pl wd O cl nu ab T kid Av) :
    ∀ c, O c → ∀ e s t, Av c e s t → ∀ i, ¬ (pl c ≤ i ∧ i < pl c + wd c) → t i = s i := by
  have ht := H.1
  have hp : ∀ c, O c → 4 ≤ kd c → kd c ≠ 7 →
      (∀ e s t, Av (pp c) e s t → ∀ i, ¬ (pl (pp c) ≤ i ∧ i < pl (pp c) + wd (pp c)) → t i = s i) →
      (∀ e s t, Av (qq c) e s t → ∀ i, ¬ (pl (qq c) ≤ i ∧ i < pl (qq c) + wd (qq c)) → t i = s i) →
      ∀ e s t, Av c e s t → ∀ i, ¬ (pl c ≤ i ∧ i < pl c + wd c) → t i = s i := by
    intro c oc k4 k7 ip iq e s t h i hi
    obtain ⟨_, _, e1, l1⟩ := sd_tp ht oc k4
    obtain ⟨_, _, e2, e3, _⟩ := sd_tq ht oc k4 k7
    rcases sd_avC H oc k4 h with ⟨_, h⟩ | ⟨h7, _⟩
    · rcases h with h | h
      · exact ip e s t h i (by omega)
      · exact iq e s t h i (by omega)
    · exact absurd h7 k7
  refine sd_ind ht ?_ (fun c oc k ip iq => hp c oc (by omega) (by omega) ip iq)
    (fun c oc k ip iq => hp c oc (by omega) (by omega) ip iq) (fun c oc k ip iq => hp c oc (by omega) (by omega) ip iq) ?_
  · intro c oc k e s t h i hi
    obtain ⟨t1, _, t3⟩ := ((H.2.2.2.1 c oc e s t).1 k).1 h
    have k1 := (H.2.2.2.2.2 c e oc t1).1
    have w1 := (ht c oc).2.2.1 (by omega) k
    rw [t3, sd_set_n (by omega)]
  · intro c oc k ip e s t h i hi
    obtain ⟨_, _, e1, l1⟩ := sd_tp ht oc (by omega)
    have e7 := (ht c oc).2.2.2.2.1 k
    rcases ((H.2.2.2.1 c oc e s t).2.2.2.2 k).1 h with h | ⟨_, h⟩
    · exact ip e s t h i (by omega)
    · rw [ip e _ t h i (by omega), sd_clr_o hi]

theorem sd_avMem (H : sd_Env kd pp qq pl wd O cl nu ab T kid Av) :
    ∀ c, O c → ∀ e s t, Av c e s t → ¬ sd_un (pl c) (wd c) t := by
  have ht := H.1
  have hp : ∀ c, O c → 4 ≤ kd c → kd c ≠ 7 →
      (∀ e s t, Av (pp c) e s t → ¬ sd_un (pl (pp c)) (wd (pp c)) t) →
      (∀ e s t, Av (qq c) e s t → ¬ sd_un (pl (qq c)) (wd (qq c)) t) →
      ∀ e s t, Av c e s t → ¬ sd_un (pl c) (wd c) t := by
    intro c oc k4 k7 ip iq e s t h u
    obtain ⟨_, _, e1, l1⟩ := sd_tp ht oc k4
    obtain ⟨_, _, e2, e3, _⟩ := sd_tq ht oc k4 k7
    rcases sd_avC H oc k4 h with ⟨_, h⟩ | ⟨h7, _⟩
    · rcases h with h | h
      · exact ip e s t h (fun i h1 h2 => u i (by omega) (by omega))
      · exact iq e s t h (fun i h1 h2 => u i (by omega) (by omega))
    · exact absurd h7 k7
  refine sd_ind ht ?_ (fun c oc k ip iq => hp c oc (by omega) (by omega) ip iq)
    (fun c oc k ip iq => hp c oc (by omega) (by omega) ip iq) (fun c oc k ip iq => hp c oc (by omega) (by omega) ip iq) ?_
  · intro c oc k e s t h u
    obtain ⟨t1, _, t3⟩ := ((H.2.2.2.1 c oc e s t).1 k).1 h
    have k1 := (H.2.2.2.2.2 c e oc t1).1
    have w1 := (ht c oc).2.2.1 (by omega) k
    have := u (pl c) (by omega) (by omega)
    rw [t3, sd_set_s] at this
    cases this
  · intro c oc k ip e s t h u
    obtain ⟨_, _, e1, l1⟩ := sd_tp ht oc (by omega)
    have u' : sd_un (pl (pp c)) (wd (pp c)) t := fun i h1 h2 => u i (by omega) (by omega)
    rcases ((H.2.2.2.1 c oc e s t).2.2.2.2 k).1 h with h | ⟨_, h⟩
    · exact ip e s t h u'
    · exact ip e _ t h u'

theorem sd_avKid (H : sd_Env kd pp qq pl wd O cl nu ab T kid Av) :
    ∀ c, O c → ∀ e s t, Av c e s t → kid e = true → ¬ cl c t := by
  have ht := H.1
  have hp : ∀ c, O c → 4 ≤ kd c → kd c ≠ 7 →
      (∀ e s t, Av (pp c) e s t → kid e = true → ¬ cl (pp c) t) →
      (∀ e s t, Av (qq c) e s t → kid e = true → ¬ cl (qq c) t) →
      ∀ e s t, Av c e s t → kid e = true → ¬ cl c t := by
    intro c oc k4 k7 ip iq e s t h ke u
    rw [(H.2.1 c oc t).2.2.2.2.2 k4 k7] at u
    rcases sd_avC H oc k4 h with ⟨_, h⟩ | ⟨h7, _⟩
    · rcases h with h | h
      · exact ip e s t h ke u.1
      · exact iq e s t h ke u.2
    · exact absurd h7 k7
  refine sd_ind ht ?_ (fun c oc k ip iq => hp c oc (by omega) (by omega) ip iq)
    (fun c oc k ip iq => hp c oc (by omega) (by omega) ip iq) (fun c oc k ip iq => hp c oc (by omega) (by omega) ip iq) ?_
  · intro c oc k e s t h ke u
    obtain ⟨t1, _, t3⟩ := ((H.2.2.2.1 c oc e s t).1 k).1 h
    obtain ⟨k1, k2⟩ := H.2.2.2.2.2 c e oc t1
    have k3 := k2.1 ke
    by_cases j : kd c = 1
    · rw [(H.2.1 c oc t).2.2.1 j, t3, sd_set_s] at u; cases u
    · rw [(H.2.1 c oc t).2.2.2.1 (by omega), t3, sd_set_s] at u; cases u
  · intro c oc k ip e s t h ke u
    rw [(H.2.1 c oc t).2.2.2.2.1 k] at u
    rcases ((H.2.2.2.1 c oc e s t).2.2.2.2 k).1 h with h | ⟨_, h⟩
    · exact ip e s t h ke u
    · exact ip e _ t h ke u

theorem sd_avAb (H : sd_Env kd pp qq pl wd O cl nu ab T kid Av) :
    ∀ c, O c → ∀ e s t, Av c e s t → kid e = false → ab c := by
  have ht := H.1
  have hp : ∀ c, O c → 4 ≤ kd c → kd c ≠ 7 →
      (∀ e s t, Av (pp c) e s t → kid e = false → ab (pp c)) →
      (∀ e s t, Av (qq c) e s t → kid e = false → ab (qq c)) →
      ∀ e s t, Av c e s t → kid e = false → ab c := by
    intro c oc k4 k7 ip iq e s t h ke
    rcases sd_avC H oc k4 h with ⟨_, h⟩ | ⟨h7, _⟩
    · rcases h with h | h
      · exact (H.2.2.2.2.1 c oc).2.1 k4 k7 (Or.inl (ip e s t h ke))
      · exact (H.2.2.2.2.1 c oc).2.1 k4 k7 (Or.inr (iq e s t h ke))
    · exact absurd h7 k7
  refine sd_ind ht ?_ (fun c oc k ip iq => hp c oc (by omega) (by omega) ip iq)
    (fun c oc k ip iq => hp c oc (by omega) (by omega) ip iq) (fun c oc k ip iq => hp c oc (by omega) (by omega) ip iq) ?_
  · intro c oc k e s t h ke
    obtain ⟨t1, _, t3⟩ := ((H.2.2.2.1 c oc e s t).1 k).1 h
    obtain ⟨k1, k2⟩ := H.2.2.2.2.2 c e oc t1
    refine (H.2.2.2.2.1 c oc).1 ?_
    refine Classical.byContradiction (fun n => ?_)
    rw [k2.2 n] at ke; cases ke
  · intro c oc k ip e s t h ke
    refine absurd ?_ ((H.2.2.2.2.1 c oc).2.2 k)
    rcases ((H.2.2.2.1 c oc e s t).2.2.2.2 k).1 h with h | ⟨_, h⟩
    · exact ip e s t h ke
    · exact ip e _ t h ke

/-- an attribute leaves childless as it is -/
theorem sd_avNk (H : sd_Env kd pp qq pl wd O cl nu ab T kid Av) :
    ∀ c, O c → ∀ e s t, Av c e s t → kid e = false → (cl c t ↔ cl c s) := by
  have ht := H.1
  have hp : ∀ c, O c → 4 ≤ kd c → kd c ≠ 7 →
      (∀ e s t, Av (pp c) e s t → kid e = false → (cl (pp c) t ↔ cl (pp c) s)) →
      (∀ e s t, Av (qq c) e s t → kid e = false → (cl (qq c) t ↔ cl (qq c) s)) →
      ∀ e s t, Av c e s t → kid e = false → (cl c t ↔ cl c s) := by
    intro c oc k4 k7 ip iq e s t h ke
    obtain ⟨op, _, e1, l1⟩ := sd_tp ht oc k4
    obtain ⟨oq, _, e2, e3, _⟩ := sd_tq ht oc k4 k7
    rw [(H.2.1 c oc t).2.2.2.2.2 k4 k7, (H.2.1 c oc s).2.2.2.2.2 k4 k7]
    rcases sd_avC H oc k4 h with ⟨_, h⟩ | ⟨h7, _⟩
    · rcases h with h | h
      · rw [ip e s t h ke, sd_clL ht H.2.1 (qq c) oq t s (fun i h1 h2 => sd_avOut H (pp c) op e s t h i (by omega))]
      · rw [iq e s t h ke, sd_clL ht H.2.1 (pp c) op t s (fun i h1 h2 => sd_avOut H (qq c) oq e s t h i (by omega))]
    · exact absurd h7 k7
  refine sd_ind ht ?_ (fun c oc k ip iq => hp c oc (by omega) (by omega) ip iq)
    (fun c oc k ip iq => hp c oc (by omega) (by omega) ip iq) (fun c oc k ip iq => hp c oc (by omega) (by omega) ip iq) ?_
  · intro c oc k e s t h ke
    obtain ⟨t1, _, t3⟩ := ((H.2.2.2.1 c oc e s t).1 k).1 h
    obtain ⟨k1, k2⟩ := H.2.2.2.2.2 c e oc t1
    have k3 : kd c = 2 := Classical.byContradiction (fun n => by rw [k2.2 n] at ke; cases ke)
    exact ⟨fun _ => (H.2.1 c oc s).2.1 k3, fun _ => (H.2.1 c oc t).2.1 k3⟩
  · intro c oc k ip e s t h ke
    refine absurd ?_ ((H.2.2.2.2.1 c oc).2.2 k)
    have op := (sd_tp ht oc (by omega)).1
    rcases ((H.2.2.2.1 c oc e s t).2.2.2.2 k).1 h with h | ⟨_, h⟩
    · exact sd_avAb H (pp c) op e s t h ke
    · exact sd_avAb H (pp c) op e _ t h ke

/-- t inside the range, r outside -/
def sd_mix (a w : Nat) (t r : Nat → Bool) : Nat → Bool := fun i => if a ≤ i ∧ i < a + w then t i else r i
theorem sd_mix_i {a w : Nat} {t r : Nat → Bool} {i : Nat} (h1 : a ≤ i) (h2 : i < a + w) : sd_mix a w t r i = t i := by
  simp [sd_mix, h1, h2]
theorem sd_mix_o {a w : Nat} {t r : Nat → Bool} {i : Nat} (h : ¬ (a ≤ i ∧ i < a + w)) : sd_mix a w t r i = r i := by
  simp only [sd_mix, if_neg h]

/-- Av sees the range alone -/
theorem sd_avLoc (H : sd_Env kd pp qq pl wd O cl nu ab T kid Av) :
    ∀ c, O c → ∀ e s t r, Av c e s t → sd_ag (pl c) (wd c) s r → Av c e r (sd_mix (pl c) (wd c) t r) := by
  have ht := H.1
  -- a step below p, seen at c
  have mp : ∀ c, O c → 4 ≤ kd c → ∀ e s t r, Av (pp c) e s t → sd_ag (pl c) (wd c) s r →
      sd_mix (pl c) (wd c) t r = sd_mix (pl (pp c)) (wd (pp c)) t r := by
    intro c oc k4 e s t r h a
    obtain ⟨op, _, e1, l1⟩ := sd_tp ht oc k4
    funext i
    by_cases hi : pl c ≤ i ∧ i < pl c + wd c
    · rw [sd_mix_i hi.1 hi.2]
      by_cases hj : pl (pp c) ≤ i ∧ i < pl (pp c) + wd (pp c)
      · rw [sd_mix_i hj.1 hj.2]
      · rw [sd_mix_o hj, sd_avOut H (pp c) op e s t h i hj, a i hi.1 hi.2]
    · rw [sd_mix_o hi, sd_mix_o (by omega)]
  have mq : ∀ c, O c → 4 ≤ kd c → kd c ≠ 7 → ∀ e s t r, Av (qq c) e s t → sd_ag (pl c) (wd c) s r →
      sd_mix (pl c) (wd c) t r = sd_mix (pl (qq c)) (wd (qq c)) t r := by
    intro c oc k4 k7 e s t r h a
    obtain ⟨oq, _, e1, e2, e3⟩ := sd_tq ht oc k4 k7
    funext i
    by_cases hi : pl c ≤ i ∧ i < pl c + wd c
    · rw [sd_mix_i hi.1 hi.2]
      by_cases hj : pl (qq c) ≤ i ∧ i < pl (qq c) + wd (qq c)
      · rw [sd_mix_i hj.1 hj.2]
      · rw [sd_mix_o hj, sd_avOut H (qq c) oq e s t h i hj, a i hi.1 hi.2]
    · rw [sd_mix_o hi, sd_mix_o (by omega)]
  refine sd_ind ht ?_ ?_ ?_ ?_ ?_
  · intro c oc k e s t r h a
    obtain ⟨t1, t2, t3⟩ := ((H.2.2.2.1 c oc e s t).1 k).1 h
    have k1 := (H.2.2.2.2.2 c e oc t1).1
    have w1 := (ht c oc).2.2.1 (by omega) k
    rw [(H.2.2.2.1 c oc e r _).1 k]
    refine ⟨t1, ?_, ?_⟩
    · rw [← a (pl c) (by omega) (by omega)]; exact t2
    · funext i
      by_cases hi : i = pl c
      · rw [hi, sd_mix_i (by omega) (by omega), t3, sd_set_s, sd_set_s]
      · rw [sd_mix_o (by omega), sd_set_n hi]
  · intro c oc k ip iq e s t r h a
    have ap := sd_agp ht oc (by omega) a
    have aq := sd_agq ht oc (by omega) (by omega) a
    rw [(H.2.2.2.1 c oc e r _).2.1 k]
    rcases ((H.2.2.2.1 c oc e s t).2.1 k).1 h with ⟨u, h⟩ | ⟨u, h⟩
    · rw [mp c oc (by omega) e s t r h a]
      exact Or.inl ⟨(sd_unL aq).1 u, ip e s t r h ap⟩
    · rw [mq c oc (by omega) (by omega) e s t r h a]
      exact Or.inr ⟨(sd_unL ap).1 u, iq e s t r h aq⟩
  · intro c oc k ip iq e s t r h a
    have ap := sd_agp ht oc (by omega) a
    have aq := sd_agq ht oc (by omega) (by omega) a
    have op := (sd_tp ht oc (by omega)).1
    have oq := (sd_tq ht oc (by omega) (by omega)).1
    rw [(H.2.2.2.1 c oc e r _).2.2.1 k]
    rcases ((H.2.2.2.1 c oc e s t).2.2.1 k).1 h with ⟨u, h⟩ | ⟨u, h⟩
    · rw [mp c oc (by omega) e s t r h a]
      exact Or.inl ⟨fun ke => (sd_clL ht H.2.1 _ oq s r aq).1 (u ke), ip e s t r h ap⟩
    · rw [mq c oc (by omega) (by omega) e s t r h a]
      exact Or.inr ⟨fun ke => (sd_nuL ht H.2.2.1 _ op s r ap).1 (u ke), iq e s t r h aq⟩
  · intro c oc k ip iq e s t r h a
    have ap := sd_agp ht oc (by omega) a
    have aq := sd_agq ht oc (by omega) (by omega) a
    rw [(H.2.2.2.1 c oc e r _).2.2.2.1 k]
    rcases ((H.2.2.2.1 c oc e s t).2.2.2.1 k).1 h with h | h
    · rw [mp c oc (by omega) e s t r h a]
      exact Or.inl (ip e s t r h ap)
    · rw [mq c oc (by omega) (by omega) e s t r h a]
      exact Or.inr (iq e s t r h aq)
  · intro c oc k ip e s t r h a
    have ap := sd_agp ht oc (by omega) a
    obtain ⟨op, _, e1, _⟩ := sd_tp ht oc (by omega)
    have e7 := (ht c oc).2.2.2.2.1 k
    rw [(H.2.2.2.1 c oc e r _).2.2.2.2 k]
    rcases ((H.2.2.2.1 c oc e s t).2.2.2.2 k).1 h with h | ⟨u, h⟩
    · rw [mp c oc (by omega) e s t r h a]
      exact Or.inl (ip e s t r h ap)
    · refine Or.inr ⟨(sd_nuL ht H.2.2.1 c oc s r a).1 u, ?_⟩
      have q := ip e _ t (sd_clr r (pl c) (wd c)) h (fun i h1 h2 => by
        rw [sd_clr_i (by omega) (by omega), sd_clr_i (by omega) (by omega)])
      have eq : sd_mix (pl c) (wd c) t r = sd_mix (pl (pp c)) (wd (pp c)) t (sd_clr r (pl c) (wd c)) := by
        funext i
        by_cases hi : pl c ≤ i ∧ i < pl c + wd c
        · rw [sd_mix_i hi.1 hi.2, sd_mix_i (by omega) (by omega)]
        · rw [sd_mix_o hi, sd_mix_o (by omega), sd_clr_o hi]
      rw [eq]; exact q

theorem sd_avOr (H : sd_Env kd pp qq pl wd O cl nu ab T kid Av) {p : Nat} (op : O p) {e : Nat} {a b t : Nat → Bool}
    (ia : sd_in (pl p) (wd p) a) (ub : sd_un (pl p) (wd p) b) :
    Av p e (sd_or a b) t ↔ ∃ a', Av p e a a' ∧ t = sd_or a' b := by
  have ag : sd_ag (pl p) (wd p) (sd_or a b) a := fun i h1 h2 => by
    show (a i || b i) = a i
    rw [ub i h1 h2, Bool.or_false]
  have ao : ∀ i, ¬ (pl p ≤ i ∧ i < pl p + wd p) → a i = false := fun i hi => sd_nf (fun h => hi (ia i h))
  constructor
  · intro h
    refine ⟨_, sd_avLoc H p op e _ t a h ag, ?_⟩
    funext i
    show t i = (sd_mix (pl p) (wd p) t a i || b i)
    by_cases hi : pl p ≤ i ∧ i < pl p + wd p
    · rw [sd_mix_i hi.1 hi.2, ub i hi.1 hi.2, Bool.or_false]
    · rw [sd_mix_o hi, sd_avOut H p op e _ t h i hi]; rfl
  · rintro ⟨a', h, rfl⟩
    have q := sd_avLoc H p op e a a' (sd_or a b) h (sd_agS ag)
    have eq : sd_or a' b = sd_mix (pl p) (wd p) a' (sd_or a b) := by
      funext i
      show (a' i || b i) = _
      by_cases hi : pl p ≤ i ∧ i < pl p + wd p
      · rw [sd_mix_i hi.1 hi.2, ub i hi.1 hi.2, Bool.or_false]
      · rw [sd_mix_o hi, sd_avOut H p op e a a' h i hi]; rfl
    rw [eq]; exact q
end
end
section
/-! Runs over a set of items, and their decompositions by the kind of the cell -/
def sd_run (Av : Nat → Nat → (Nat → Bool) → (Nat → Bool) → Prop) (c : Nat) (x : Nat → Bool) : Nat → (Nat → Bool) → Prop
  | 0 => fun s => s = sd_e
  | n + 1 => fun t => (x n = true ∧ ∃ s, sd_run Av c x n s ∧ Av c n s t) ∨ (x n = false ∧ sd_run Av c x n t)
/-- y and z split x -/
def sd_sp (n : Nat) (x y z : Nat → Bool) : Prop := ∀ i, i < n → x i = (y i || z i) ∧ (y i && z i) = false
/-- the children in y come before those in z -/
def sd_ct (n : Nat) (kid y z : Nat → Bool) : Prop :=
  ∀ i j, i < n → j < n → y i = true → kid i = true → z j = true → kid j = true → i < j
def sd_em (n : Nat) (x : Nat → Bool) : Prop := ∀ i, i < n → x i = false
def sd_mo (kid : Nat → Bool) : Prop := ∀ i j, i ≤ j → kid i = true → kid j = true

section
variable {kd pp qq pl wd : Nat → Nat} {O fil : Nat → Prop} {cl nu gr : Nat → (Nat → Bool) → Prop} {ab : Nat → Prop}
variable {T : Nat → Nat → Prop} {kid : Nat → Bool} {Av : Nat → Nat → (Nat → Bool) → (Nat → Bool) → Prop}

theorem sd_ru {c n : Nat} {x s t : Nat → Bool} (hx : x n = true) (h : sd_run Av c x n s) (a : Av c n s t) :
    sd_run Av c x (n + 1) t := Or.inl ⟨hx, s, h, a⟩
theorem sd_rk {c n : Nat} {x t : Nat → Bool} (hx : x n = false) (h : sd_run Av c x n t) : sd_run Av c x (n + 1) t :=
  Or.inr ⟨hx, h⟩
theorem sd_rd {c n : Nat} {x t : Nat → Bool} (h : sd_run Av c x (n + 1) t) (hx : x n = true) :
    ∃ s, sd_run Av c x n s ∧ Av c n s t := by
  rcases h with h | h
  · exact h.2
  · rw [hx] at h; cases h.1
theorem sd_rn {c n : Nat} {x t : Nat → Bool} (h : sd_run Av c x (n + 1) t) (hx : x n = false) : sd_run Av c x n t := by
  rcases h with h | h
  · rw [hx] at h; cases h.1
  · exact h.2
theorem sd_rx {c : Nat} {x y : Nat → Bool} : ∀ (n : Nat) (s : Nat → Bool), (∀ i, i < n → x i = y i) →
    sd_run Av c x n s → sd_run Av c y n s := by
  intro n
  induction n with
  | zero => exact fun s _ h => h
  | succ n ih =>
    intro s e h
    have en := e n (by omega)
    rcases h with ⟨hx, r, hr, ha⟩ | ⟨hx, hr⟩
    · exact sd_ru (by rw [← en]; exact hx) (ih r (fun i hi => e i (by omega)) hr) ha
    · exact sd_rk (by rw [← en]; exact hx) (ih s (fun i hi => e i (by omega)) hr)
theorem sd_r0 {c : Nat} {x : Nat → Bool} : ∀ (n : Nat) (s : Nat → Bool), sd_em n x → (sd_run Av c x n s ↔ s = sd_e) := by
  intro n
  induction n with
  | zero => exact fun s _ => Iff.rfl
  | succ n ih =>
    intro s e
    have en := e n (by omega)
    rw [← ih s (fun i hi => e i (by omega))]
    exact ⟨fun h => sd_rn h en, fun h => sd_rk en h⟩
/-- adding item n to the set -/
theorem sd_rset {c n : Nat} {x s t : Nat → Bool} (h : sd_run Av c x n s) (a : Av c n s t) : sd_run Av c (sd_set x n) (n + 1) t :=
  sd_ru sd_set_s (sd_rx n s (fun i hi => (sd_set_n (by omega)).symm) h) a
theorem sd_roff {c n : Nat} {x t : Nat → Bool} (h : sd_run Av c x n t) : sd_run Av c (sd_off x n) (n + 1) t :=
  sd_rk sd_off_s (sd_rx n t (fun i hi => (sd_off_n (by omega)).symm) h)

theorem sd_rin (H : sd_Env kd pp qq pl wd O cl nu ab T kid Av) {c : Nat} (oc : O c) {x : Nat → Bool} :
    ∀ (n : Nat) (s : Nat → Bool), sd_run Av c x n s → sd_in (pl c) (wd c) s := by
  intro n
  induction n with
  | zero => intro s h; rw [show s = sd_e from h]; exact sd_inE
  | succ n ih =>
    intro s h
    rcases h with ⟨_, r, hr, ha⟩ | ⟨_, hr⟩
    · intro i hi
      refine Classical.byContradiction (fun q => ?_)
      rw [sd_avOut H c oc n r s ha i q] at hi
      exact q (ih r hr i hi)
    · exact ih s hr
theorem sd_rclr (H : sd_Env kd pp qq pl wd O cl nu ab T kid Av) {c : Nat} (oc : O c) {x : Nat → Bool} {n : Nat} {s : Nat → Bool}
    (h : sd_run Av c x n s) : sd_clr s (pl c) (wd c) = sd_e := by
  funext i
  by_cases hi : pl c ≤ i ∧ i < pl c + wd c
  · exact sd_clr_i hi.1 hi.2
  · rw [sd_clr_o hi]
    exact sd_nf (fun q => hi (sd_rin H oc n s h i q))
theorem sd_run_un (H : sd_Env kd pp qq pl wd O cl nu ab T kid Av) {c : Nat} (oc : O c) {x : Nat → Bool} :
    ∀ (n : Nat) (s : Nat → Bool), sd_run Av c x n s → sd_un (pl c) (wd c) s → sd_em n x := by
  intro n
  induction n with
  | zero => intro s h u i hi; omega
  | succ n ih =>
    intro s h u
    rcases h with ⟨_, r, hr, ha⟩ | ⟨hx, hr⟩
    · exact absurd u (sd_avMem H c oc n r s ha)
    · intro i hi
      by_cases q : i = n
      · rw [q]; exact hx
      · exact ih s hr u i (by omega)
theorem sd_clE0 (H : sd_Env kd pp qq pl wd O cl nu ab T kid Av) : ∀ c, O c → cl c sd_e := by
  have ht := H.1
  have hc := H.2.1
  refine sd_ind ht ?_ ?_ ?_ ?_ ?_
  · intro c oc k
    obtain ⟨h0, h2, h1, h3, _⟩ := hc c oc sd_e
    by_cases k0 : kd c = 0
    · exact h0 k0
    · by_cases k1 : kd c = 1
      · exact (h1 k1).2 rfl
      · by_cases k2 : kd c = 2
        · exact h2 k2
        · exact (h3 (by omega)).2 rfl
  · exact fun c oc k ip iq => ((hc c oc sd_e).2.2.2.2.2 (by omega) (by omega)).2 ⟨ip, iq⟩
  · exact fun c oc k ip iq => ((hc c oc sd_e).2.2.2.2.2 (by omega) (by omega)).2 ⟨ip, iq⟩
  · exact fun c oc k ip iq => ((hc c oc sd_e).2.2.2.2.2 (by omega) (by omega)).2 ⟨ip, iq⟩
  · exact fun c oc k ip => ((hc c oc sd_e).2.2.2.2.1 k).2 ip
theorem sd_rcl (H : sd_Env kd pp qq pl wd O cl nu ab T kid Av) {c : Nat} (oc : O c) {x : Nat → Bool} :
    ∀ (n : Nat) (s : Nat → Bool), sd_run Av c x n s → (cl c s ↔ ∀ i, i < n → x i = true → kid i = false) := by
  intro n
  induction n with
  | zero =>
    intro s h
    rw [show s = sd_e from h]
    exact ⟨fun _ i hi => by omega, fun _ => sd_clE0 H c oc⟩
  | succ n ih =>
    intro s h
    rcases h with ⟨hx, r, hr, ha⟩ | ⟨hx, hr⟩
    · by_cases kn : kid n = true
      · constructor
        · intro q; exact absurd q (sd_avKid H c oc n r s ha kn)
        · intro q; have := q n (by omega) hx; rw [kn] at this; cases this
      · have kf := sd_nf kn
        rw [sd_avNk H c oc n r s ha kf, ih r hr]
        constructor
        · intro q i hi xi
          by_cases e : i = n
          · rw [e]; exact kf
          · exact q i (by omega) xi
        · exact fun q i hi xi => q i (by omega) xi
    · rw [ih s hr]
      constructor
      · intro q i hi xi
        by_cases e : i = n
        · rw [e, hx] at xi; cases xi
        · exact q i (by omega) xi
      · exact fun q i hi xi => q i (by omega) xi

/-- CHOICE -/
theorem sd_run4 (H : sd_Env kd pp qq pl wd O cl nu ab T kid Av) {c : Nat} (oc : O c) (k : kd c = 4) {x : Nat → Bool} :
    ∀ (n : Nat) (s : Nat → Bool), sd_run Av c x n s ↔ sd_run Av (pp c) x n s ∨ sd_run Av (qq c) x n s := by
  obtain ⟨op, _, e1, l1⟩ := sd_tp H.1 oc (by omega)
  obtain ⟨oq, _, e2, e3, _⟩ := sd_tq H.1 oc (by omega) (by omega)
  have up : ∀ n s, sd_run Av (pp c) x n s → sd_un (pl (qq c)) (wd (qq c)) s := fun n s h i h1 h2 =>
    sd_nf (fun q => by have := sd_rin H op n s h i q; omega)
  have uq : ∀ n s, sd_run Av (qq c) x n s → sd_un (pl (pp c)) (wd (pp c)) s := fun n s h i h1 h2 =>
    sd_nf (fun q => by have := sd_rin H oq n s h i q; omega)
  intro n
  induction n with
  | zero => exact fun s => ⟨fun h => Or.inl h, fun h => h.elim id id⟩
  | succ n ih =>
    intro t
    constructor
    · intro h
      rcases h with ⟨hx, s, hr, ha⟩ | ⟨hx, hr⟩
      · rw [(H.2.2.2.1 c oc n s t).2.1 k] at ha
        rcases ha with ⟨u, ha⟩ | ⟨u, ha⟩
        · rcases (ih s).1 hr with h | h
          · exact Or.inl (sd_ru hx h ha)
          · have em := sd_run_un H oq n s h u
            rw [sd_r0 n s em] at h
            exact Or.inl (sd_ru hx ((sd_r0 n s em).2 h) ha)
        · rcases (ih s).1 hr with h | h
          · have em := sd_run_un H op n s h u
            rw [sd_r0 n s em] at h
            exact Or.inr (sd_ru hx ((sd_r0 n s em).2 h) ha)
          · exact Or.inr (sd_ru hx h ha)
      · exact ((ih t).1 hr).imp (sd_rk hx) (sd_rk hx)
    · intro h
      rcases h with h | h
      · rcases h with ⟨hx, s, hr, ha⟩ | ⟨hx, hr⟩
        · exact sd_ru hx ((ih s).2 (Or.inl hr)) (((H.2.2.2.1 c oc n s t).2.1 k).2 (Or.inl ⟨up n s hr, ha⟩))
        · exact sd_rk hx ((ih t).2 (Or.inl hr))
      · rcases h with ⟨hx, s, hr, ha⟩ | ⟨hx, hr⟩
        · exact sd_ru hx ((ih s).2 (Or.inr hr)) (((H.2.2.2.1 c oc n s t).2.1 k).2 (Or.inr ⟨uq n s hr, ha⟩))
        · exact sd_rk hx ((ih t).2 (Or.inr hr))

theorem sd_sp_y {n : Nat} {x y z : Nat → Bool} (h : sd_sp n x y z) (hx : x n = true) : sd_sp (n + 1) x (sd_set y n) (sd_off z n) := by
  intro i hi
  by_cases e : i = n
  · rw [e, sd_set_s, sd_off_s, hx]; exact ⟨rfl, rfl⟩
  · rw [sd_set_n e, sd_off_n e]; exact h i (by omega)
theorem sd_sp_z {n : Nat} {x y z : Nat → Bool} (h : sd_sp n x y z) (hx : x n = true) : sd_sp (n + 1) x (sd_off y n) (sd_set z n) := by
  intro i hi
  by_cases e : i = n
  · rw [e, sd_set_s, sd_off_s, hx]; exact ⟨rfl, rfl⟩
  · rw [sd_set_n e, sd_off_n e]; exact h i (by omega)
theorem sd_sp_n {n : Nat} {x y z : Nat → Bool} (h : sd_sp n x y z) (hx : x n = false) : sd_sp (n + 1) x (sd_off y n) (sd_off z n) := by
  intro i hi
  by_cases e : i = n
  · rw [e, sd_off_s, sd_off_s, hx]; exact ⟨rfl, rfl⟩
  · rw [sd_off_n e, sd_off_n e]; exact h i (by omega)
theorem sd_sp_d {n : Nat} {x y z : Nat → Bool} (h : sd_sp (n + 1) x y z) : sd_sp n x y z := fun i hi => h i (by omega)
/-- where item n goes -/
theorem sd_sp_c {n : Nat} {x y z : Nat → Bool} (h : sd_sp (n + 1) x y z) :
    (x n = true ∧ y n = true ∧ z n = false) ∨ (x n = true ∧ y n = false ∧ z n = true) ∨ (x n = false ∧ y n = false ∧ z n = false) := by
  obtain ⟨a, b⟩ := h n (by omega)
  revert a b
  cases x n <;> cases y n <;> cases z n <;> simp

/-- INTERLEAVE -/
theorem sd_run6 (H : sd_Env kd pp qq pl wd O cl nu ab T kid Av) {c : Nat} (oc : O c) (k : kd c = 6) {x : Nat → Bool} :
    ∀ (n : Nat) (s : Nat → Bool), sd_run Av c x n s ↔
      ∃ y z a b, sd_sp n x y z ∧ sd_run Av (pp c) y n a ∧ sd_run Av (qq c) z n b ∧ s = sd_or a b := by
  obtain ⟨op, _, e1, l1⟩ := sd_tp H.1 oc (by omega)
  obtain ⟨oq, _, e2, e3, _⟩ := sd_tq H.1 oc (by omega) (by omega)
  have up : ∀ y n s, sd_run Av (pp c) y n s → sd_un (pl (qq c)) (wd (qq c)) s := fun y n s h i h1 h2 =>
    sd_nf (fun q => by have := sd_rin H op n s h i q; omega)
  have uq : ∀ y n s, sd_run Av (qq c) y n s → sd_un (pl (pp c)) (wd (pp c)) s := fun y n s h i h1 h2 =>
    sd_nf (fun q => by have := sd_rin H oq n s h i q; omega)
  intro n
  induction n with
  | zero =>
    intro s
    constructor
    · exact fun h => ⟨sd_e, sd_e, sd_e, sd_e, fun i hi => by omega, rfl, rfl, h⟩
    · rintro ⟨y, z, a, b, _, ha, hb, hs⟩
      rw [hs, show a = sd_e from ha, show b = sd_e from hb]; rfl
  | succ n ih =>
    intro t
    constructor
    · intro h
      rcases h with ⟨hx, s, hr, ha⟩ | ⟨hx, hr⟩
      · obtain ⟨y, z, a, b, sp, ra, rb, rfl⟩ := (ih s).1 hr
        rw [(H.2.2.2.1 c oc n _ t).2.2.2.1 k] at ha
        rcases ha with ha | ha
        · obtain ⟨a', ha', rfl⟩ := (sd_avOr H op (sd_rin H op n a ra) (uq z n b rb)).1 ha
          exact ⟨sd_set y n, sd_off z n, a', b, sd_sp_y sp hx, sd_rset ra ha', sd_roff rb, rfl⟩
        · rw [sd_orC] at ha
          obtain ⟨b', hb', rfl⟩ := (sd_avOr H oq (sd_rin H oq n b rb) (up y n a ra)).1 ha
          exact ⟨sd_off y n, sd_set z n, a, b', sd_sp_z sp hx, sd_roff ra, sd_rset rb hb', sd_orC _ _⟩
      · obtain ⟨y, z, a, b, sp, ra, rb, rfl⟩ := (ih t).1 hr
        exact ⟨sd_off y n, sd_off z n, a, b, sd_sp_n sp hx, sd_roff ra, sd_roff rb, rfl⟩
    · rintro ⟨y, z, a, b, sp, ra, rb, rfl⟩
      rcases sd_sp_c sp with ⟨hx, hy, hz⟩ | ⟨hx, hy, hz⟩ | ⟨hx, hy, hz⟩
      · obtain ⟨a0, ra0, va⟩ := sd_rd ra hy
        have rb0 := sd_rn rb hz
        refine sd_ru hx ((ih (sd_or a0 b)).2 ⟨y, z, a0, b, sd_sp_d sp, ra0, rb0, rfl⟩) ?_
        rw [(H.2.2.2.1 c oc n _ _).2.2.2.1 k]
        exact Or.inl ((sd_avOr H op (sd_rin H op n a0 ra0) (uq z n b rb0)).2 ⟨a, va, rfl⟩)
      · obtain ⟨b0, rb0, vb⟩ := sd_rd rb hz
        have ra0 := sd_rn ra hy
        refine sd_ru hx ((ih (sd_or a b0)).2 ⟨y, z, a, b0, sd_sp_d sp, ra0, rb0, rfl⟩) ?_
        rw [(H.2.2.2.1 c oc n _ _).2.2.2.1 k, sd_orC a b0, sd_orC a b]
        exact Or.inr ((sd_avOr H oq (sd_rin H oq n b0 rb0) (up y n a ra0)).2 ⟨b, vb, rfl⟩)
      · exact sd_rk hx ((ih _).2 ⟨y, z, a, b, sd_sp_d sp, sd_rn ra hy, sd_rn rb hz, rfl⟩)

/-- GROUP -/
theorem sd_run5 (H : sd_Env kd pp qq pl wd O cl nu ab T kid Av) (mo : sd_mo kid) {c : Nat} (oc : O c) (k : kd c = 5) {x : Nat → Bool} :
    ∀ (n : Nat) (s : Nat → Bool), sd_run Av c x n s ↔
      ∃ y z a b, sd_sp n x y z ∧ sd_ct n kid y z ∧ sd_run Av (pp c) y n a ∧ sd_run Av (qq c) z n b ∧
        ((∃ j, j < n ∧ z j = true ∧ kid j = true) → nu (pp c) a) ∧ s = sd_or a b := by
  obtain ⟨op, _, e1, l1⟩ := sd_tp H.1 oc (by omega)
  obtain ⟨oq, _, e2, e3, _⟩ := sd_tq H.1 oc (by omega) (by omega)
  have up : ∀ y n s, sd_run Av (pp c) y n s → sd_un (pl (qq c)) (wd (qq c)) s := fun y n s h i h1 h2 =>
    sd_nf (fun q => by have := sd_rin H op n s h i q; omega)
  have uq : ∀ y n s, sd_run Av (qq c) y n s → sd_un (pl (pp c)) (wd (pp c)) s := fun y n s h i h1 h2 =>
    sd_nf (fun q => by have := sd_rin H oq n s h i q; omega)
  -- the tables see their own range
  have nuo : ∀ y z n a b, sd_run Av (pp c) y n a → sd_run Av (qq c) z n b → (nu (pp c) (sd_or a b) ↔ nu (pp c) a) :=
    fun y z n a b _ rb => sd_nuL H.1 H.2.2.1 _ op _ _ (fun i h1 h2 => by
      show (a i || b i) = a i
      rw [uq z n b rb i h1 h2, Bool.or_false])
  have clo : ∀ y z n a b, sd_run Av (pp c) y n a → sd_run Av (qq c) z n b → (cl (qq c) (sd_or a b) ↔ cl (qq c) b) :=
    fun y z n a b ra _ => sd_clL H.1 H.2.1 _ oq _ _ (fun i h1 h2 => by
      show (a i || b i) = b i
      rw [up y n a ra i h1 h2, Bool.false_or])
  intro n
  induction n with
  | zero =>
    intro s
    constructor
    · exact fun h => ⟨sd_e, sd_e, sd_e, sd_e, fun i hi => by omega, fun i j hi => by omega, rfl, rfl, fun ⟨j, hj, _⟩ => by omega, h⟩
    · rintro ⟨y, z, a, b, _, _, ha, hb, _, hs⟩
      rw [hs, show a = sd_e from ha, show b = sd_e from hb]; rfl
  | succ n ih =>
    intro t
    constructor
    · intro h
      rcases h with ⟨hx, s, hr, ha⟩ | ⟨hx, hr⟩
      · obtain ⟨y, z, a, b, sp, ct, ra, rb, ln, rfl⟩ := (ih s).1 hr
        rw [(H.2.2.2.1 c oc n _ t).2.2.1 k] at ha
        rcases ha with ⟨ck, ha⟩ | ⟨nk, ha⟩
        · obtain ⟨a', ha', rfl⟩ := (sd_avOr H op (sd_rin H op n a ra) (uq z n b rb)).1 ha
          have zk : ∀ j, j < n → z j = true → kid j = false := by
            by_cases kn : kid n = true
            · exact (sd_rcl H oq n b rb).1 ((clo y z n a b ra rb).1 (ck kn))
            · exact fun j hj _ => sd_nf (fun q => kn (mo j n (by omega) q))
          refine ⟨sd_set y n, sd_off z n, a', b, sd_sp_y sp hx, ?_, sd_rset ra ha', sd_roff rb, ?_, rfl⟩
          · intro i j hi hj _ _ zj kj
            by_cases e : j = n
            · rw [e, sd_off_s] at zj; cases zj
            · rw [sd_off_n e] at zj
              rw [zk j (by omega) zj] at kj; cases kj
          · rintro ⟨j, hj, zj, kj⟩
            by_cases e : j = n
            · rw [e, sd_off_s] at zj; cases zj
            · rw [sd_off_n e] at zj
              rw [zk j (by omega) zj] at kj; cases kj
        · rw [sd_orC] at ha
          obtain ⟨b', hb', rfl⟩ := (sd_avOr H oq (sd_rin H oq n b rb) (up y n a ra)).1 ha
          refine ⟨sd_off y n, sd_set z n, a, b', sd_sp_z sp hx, ?_, sd_roff ra, sd_rset rb hb', ?_, sd_orC _ _⟩
          · intro i j hi hj yi ki zj kj
            by_cases e : i = n
            · rw [e, sd_off_s] at yi; cases yi
            · rw [sd_off_n e] at yi
              by_cases f : j = n
              · omega
              · rw [sd_set_n f] at zj
                exact ct i j (by omega) (by omega) yi ki zj kj
          · rintro ⟨j, hj, zj, kj⟩
            exact (nuo y z n a b ra rb).1 (nk (mo j n (by omega) kj))
      · obtain ⟨y, z, a, b, sp, ct, ra, rb, ln, rfl⟩ := (ih t).1 hr
        refine ⟨sd_off y n, sd_off z n, a, b, sd_sp_n sp hx, ?_, sd_roff ra, sd_roff rb, ?_, rfl⟩
        · intro i j hi hj yi ki zj kj
          by_cases e : i = n
          · rw [e, sd_off_s] at yi; cases yi
          · by_cases f : j = n
            · rw [f, sd_off_s] at zj; cases zj
            · rw [sd_off_n e] at yi
              rw [sd_off_n f] at zj
              exact ct i j (by omega) (by omega) yi ki zj kj
        · rintro ⟨j, hj, zj, kj⟩
          by_cases f : j = n
          · rw [f, sd_off_s] at zj; cases zj
          · rw [sd_off_n f] at zj
            exact ln ⟨j, by omega, zj, kj⟩
    · rintro ⟨y, z, a, b, sp, ct, ra, rb, ln, rfl⟩
      have ct' : sd_ct n kid y z := fun i j hi hj => ct i j (by omega) (by omega)
      rcases sd_sp_c sp with ⟨hx, hy, hz⟩ | ⟨hx, hy, hz⟩ | ⟨hx, hy, hz⟩
      · obtain ⟨a0, ra0, va⟩ := sd_rd ra hy
        have rb0 := sd_rn rb hz
        have zk : ∀ j, j < n → z j = true → kid j = false := fun j hj zj => sd_nf (fun q => by
          by_cases kn : kid n = true
          · have := ct n j (by omega) (by omega) hy kn zj q; omega
          · exact kn (mo j n (by omega) q))
        refine sd_ru hx ((ih (sd_or a0 b)).2 ⟨y, z, a0, b, sd_sp_d sp, ct', ra0, rb0, ?_, rfl⟩) ?_
        · rintro ⟨j, hj, zj, kj⟩
          rw [zk j hj zj] at kj; cases kj
        · rw [(H.2.2.2.1 c oc n _ _).2.2.1 k]
          refine Or.inl ⟨fun _ => (clo y z n a0 b ra0 rb0).2 ((sd_rcl H oq n b rb0).2 zk), ?_⟩
          exact (sd_avOr H op (sd_rin H op n a0 ra0) (uq z n b rb0)).2 ⟨a, va, rfl⟩
      · obtain ⟨b0, rb0, vb⟩ := sd_rd rb hz
        have ra0 := sd_rn ra hy
        refine sd_ru hx ((ih (sd_or a b0)).2 ⟨y, z, a, b0, sd_sp_d sp, ct', ra0, rb0, ?_, rfl⟩) ?_
        · rintro ⟨j, hj, zj, kj⟩
          exact ln ⟨j, by omega, zj, kj⟩
        · rw [(H.2.2.2.1 c oc n _ _).2.2.1 k]
          refine Or.inr ⟨fun kn => (nuo y z n a b0 ra0 rb0).2 (ln ⟨n, by omega, hz, kn⟩), ?_⟩
          rw [sd_orC a b0, sd_orC a b]
          exact (sd_avOr H oq (sd_rin H oq n b0 rb0) (up y n a ra0)).2 ⟨b, vb, rfl⟩
      · refine sd_rk hx ((ih _).2 ⟨y, z, a, b, sd_sp_d sp, ct', sd_rn ra hy, sd_rn rb hz, ?_, rfl⟩)
        rintro ⟨j, hj, zj, kj⟩
        exact ln ⟨j, by omega, zj, kj⟩

/-- under a loop there are no attributes -/
theorem sd_rkid (H : sd_Env kd pp qq pl wd O cl nu ab T kid Av) {c : Nat} (oc : O c) (na : ¬ ab c) {x : Nat → Bool} :
    ∀ (n : Nat) (s : Nat → Bool), sd_run Av c x n s → ∀ i, i < n → x i = true → kid i = true := by
  intro n
  induction n with
  | zero => intro s h i hi; omega
  | succ n ih =>
    intro s h i hi xi
    rcases h with ⟨hx, r, hr, ha⟩ | ⟨hx, hr⟩
    · by_cases e : i = n
      · refine Classical.byContradiction (fun q => na ?_)
        exact sd_avAb H c oc n r s ha (sd_nf (by rw [← e]; exact q))
      · exact ih r hr i (by omega) xi
    · by_cases e : i = n
      · rw [e, hx] at xi; cases xi
      · exact ih s hr i (by omega) xi

/-- ONE_OR_MORE: a single run, or a first run and more -/
theorem sd_run7 (H : sd_Env kd pp qq pl wd O cl nu ab T kid Av) {c : Nat} (oc : O c) (k : kd c = 7) :
    ∀ (n : Nat) (x s : Nat → Bool), sd_run Av c x n s ↔ sd_run Av (pp c) x n s ∨
      ∃ y z, sd_sp n x y z ∧ (∀ i j, i < n → j < n → y i = true → z j = true → i < j) ∧ ¬ sd_em n y ∧ ¬ sd_em n z ∧
        (∃ a, sd_run Av (pp c) y n a ∧ nu (pp c) a) ∧ sd_run Av c z n s := by
  obtain ⟨op, _, e1, l1⟩ := sd_tp H.1 oc (by omega)
  have e7 := (H.1 c oc).2.2.2.2.1 k
  have nuc : ∀ s, nu c s ↔ nu (pp c) s := fun s => (H.2.2.1 c oc s).2.2.2.2.1 k
  have clp : ∀ x n s, sd_run Av (pp c) x n s → sd_clr s (pl c) (wd c) = sd_e := fun x n s h => by
    have := sd_rclr H op h
    rw [e1, ← e7] at this; exact this
  have cle : sd_clr sd_e (pl c) (wd c) = sd_e := by
    funext i; simp [sd_clr, sd_e]
  intro n
  induction n with
  | zero =>
    intro x s
    constructor
    · exact fun h => Or.inl h
    · rintro (h | ⟨y, z, _, _, hy, _⟩)
      · exact h
      · exact absurd (fun i hi => by omega) hy
  | succ n ih =>
    intro x t
    constructor
    · intro h
      rcases h with ⟨hx, s, hr, ha⟩ | ⟨hx, hr⟩
      · have ha0 := ha
        rw [(H.2.2.2.1 c oc n s t).2.2.2.2 k] at ha
        rcases (ih x s).1 hr with hp | ⟨y, z, sp, lt, ny, nz, ⟨a, ra, na⟩, rc⟩
        · rcases ha with ha | ⟨nu0, ha⟩
          · exact Or.inl (sd_ru hx hp ha)
          · rw [clp x n s hp] at ha
            by_cases em : sd_em n x
            · rw [sd_r0 n s em] at hp
              exact Or.inl (sd_ru hx ((sd_r0 n sd_e em).2 rfl) ha)
            · refine Or.inr ⟨sd_off x n, sd_set sd_e n, ?_, ?_, ?_, ?_, ⟨s, sd_roff hp, (nuc s).1 nu0⟩, ?_⟩
              · intro i hi
                by_cases e : i = n
                · rw [e, sd_off_s, sd_set_s, hx]; exact ⟨rfl, rfl⟩
                · rw [sd_off_n e, sd_set_n e]
                  show x i = (x i || false) ∧ (x i && false) = false
                  rw [Bool.or_false, Bool.and_false]; exact ⟨rfl, rfl⟩
              · intro i j hi hj yi zj
                by_cases e : i = n
                · rw [e, sd_off_s] at yi; cases yi
                · by_cases f : j = n
                  · omega
                  · rw [sd_set_n f] at zj; cases zj
              · intro q
                refine em (fun i hi => ?_)
                have := q i (by omega)
                rw [sd_off_n (by omega)] at this; exact this
              · intro q
                have := q n (by omega)
                rw [sd_set_s] at this; cases this
              · refine sd_rset (s := sd_e) ((sd_r0 n sd_e (fun i _ => rfl)).2 rfl) ?_
                rw [(H.2.2.2.1 c oc n sd_e t).2.2.2.2 k]
                exact Or.inl ha
        · refine Or.inr ⟨sd_off y n, sd_set z n, sd_sp_z sp hx, ?_, ?_, ?_, ⟨a, sd_roff ra, na⟩, sd_rset rc ha0⟩
          · intro i j hi hj yi zj
            by_cases e : i = n
            · rw [e, sd_off_s] at yi; cases yi
            · rw [sd_off_n e] at yi
              by_cases f : j = n
              · omega
              · rw [sd_set_n f] at zj
                exact lt i j (by omega) (by omega) yi zj
          · intro q
            refine ny (fun i hi => ?_)
            have := q i (by omega)
            rw [sd_off_n (by omega)] at this; exact this
          · intro q
            have := q n (by omega)
            rw [sd_set_s] at this; cases this
      · rcases (ih x t).1 hr with hp | ⟨y, z, sp, lt, ny, nz, ⟨a, ra, na⟩, rc⟩
        · exact Or.inl (sd_rk hx hp)
        · refine Or.inr ⟨sd_off y n, sd_off z n, sd_sp_n sp hx, ?_, ?_, ?_, ⟨a, sd_roff ra, na⟩, sd_roff rc⟩
          · intro i j hi hj yi zj
            by_cases e : i = n
            · rw [e, sd_off_s] at yi; cases yi
            · by_cases f : j = n
              · rw [f, sd_off_s] at zj; cases zj
              · rw [sd_off_n e] at yi
                rw [sd_off_n f] at zj
                exact lt i j (by omega) (by omega) yi zj
          · intro q
            refine ny (fun i hi => ?_)
            have := q i (by omega)
            rw [sd_off_n (by omega)] at this; exact this
          · intro q
            refine nz (fun i hi => ?_)
            have := q i (by omega)
            rw [sd_off_n (by omega)] at this; exact this
    · rintro (h | ⟨y, z, sp, lt, ny, nz, ⟨a, ra, na⟩, rc⟩)
      · rcases h with ⟨hx, s, hr, ha⟩ | ⟨hx, hr⟩
        · refine sd_ru hx ((ih x s).2 (Or.inl hr)) ?_
          rw [(H.2.2.2.1 c oc n s t).2.2.2.2 k]
          exact Or.inl ha
        · exact sd_rk hx ((ih x t).2 (Or.inl hr))
      · have lt' : ∀ i j, i < n → j < n → y i = true → z j = true → i < j := fun i j hi hj => lt i j (by omega) (by omega)
        rcases sd_sp_c sp with ⟨hx, hy, hz⟩ | ⟨hx, hy, hz⟩ | ⟨hx, hy, hz⟩
        · refine absurd (fun j hj => ?_) nz
          by_cases e : j = n
          · rw [e]; exact hz
          · exact sd_nf (fun q => by have := lt n j (by omega) hj hy q; omega)
        · have ny' : ¬ sd_em n y := fun q => ny (fun i hi => by
            by_cases e : i = n
            · rw [e]; exact hy
            · exact q i (by omega))
          obtain ⟨s, rs, vs⟩ := sd_rd rc hz
          have ra0 := sd_rn ra hy
          by_cases em : sd_em n z
          · rw [sd_r0 n s em] at rs
            rw [rs, (H.2.2.2.1 c oc n _ t).2.2.2.2 k, cle] at vs
            have vp : Av (pp c) n sd_e t := vs.elim id (fun q => q.2)
            have rx : sd_run Av (pp c) x n a := sd_rx n a (fun i hi => by
              obtain ⟨q, _⟩ := sp i (by omega)
              rw [em i hi, Bool.or_false] at q; exact q.symm) ra0
            refine sd_ru hx ((ih x a).2 (Or.inl rx)) ?_
            rw [(H.2.2.2.1 c oc n a t).2.2.2.2 k, clp x n a rx]
            exact Or.inr ⟨(nuc a).2 na, vp⟩
          · exact sd_ru hx ((ih x s).2 (Or.inr ⟨y, z, sd_sp_d sp, lt', ny', em, ⟨a, ra0, na⟩, rs⟩)) vs
        · have ny' : ¬ sd_em n y := fun q => ny (fun i hi => by
            by_cases e : i = n
            · rw [e]; exact hy
            · exact q i (by omega))
          have nz' : ¬ sd_em n z := fun q => nz (fun i hi => by
            by_cases e : i = n
            · rw [e]; exact hz
            · exact q i (by omega))
          exact sd_rk hx ((ih x t).2 (Or.inr ⟨y, z, sd_sp_d sp, lt', ny', nz', ⟨a, sd_rn ra hy, na⟩, sd_rn rc hz⟩))
end
end
section
/-! Tables over all splits (M, G) against runs -/
/-- below n, x holds i alone -/
def sd_on (n : Nat) (x : Nat → Bool) (i : Nat) : Prop := i < n ∧ ∀ j, j < n → (x j = true ↔ j = i)
/-- z holds a child -/
def sd_hk (n : Nat) (kid z : Nat → Bool) : Prop := ∃ j, j < n ∧ z j = true ∧ kid j = true
def sd_mgE (kd pp qq : Nat → Nat) (O fil : Nat → Prop) (T : Nat → Nat → Prop) (kid st : Nat → Bool) (n : Nat)
    (M G : Nat → (Nat → Bool) → Prop) : Prop :=
  ∀ c, O c → ∀ x : Nat → Bool,
    (kd c = 0 → (M c x ↔ sd_em n x) ∧ (G c x ↔ sd_em n x)) ∧
    (kd c = 1 → (M c x ↔ ∀ i, i < n → x i = true → T c i) ∧ (G c x ↔ ∀ i, i < n → x i = true → T c i)) ∧
    (kd c = 2 ∨ kd c = 3 → (M c x ↔ ∃ i, sd_on n x i ∧ T c i ∧ st i = false) ∧
      (G c x ↔ (∃ i, sd_on n x i ∧ T c i) ∨ (sd_em n x ∧ fil c))) ∧
    (kd c = 4 → (M c x ↔ M (pp c) x ∨ M (qq c) x) ∧ (G c x ↔ G (pp c) x ∨ G (qq c) x)) ∧
    (kd c = 5 → (M c x ↔ ∃ y z, sd_sp n x y z ∧ sd_ct n kid y z ∧ M (pp c) y ∧ M (qq c) z) ∧
      (G c x ↔ ∃ y z, sd_sp n x y z ∧ sd_ct n kid y z ∧ (sd_hk n kid z → M (pp c) y) ∧ (¬ sd_hk n kid z → G (pp c) y) ∧ G (qq c) z)) ∧
    (kd c = 6 → (M c x ↔ ∃ y z, sd_sp n x y z ∧ M (pp c) y ∧ M (qq c) z) ∧
      (G c x ↔ ∃ y z, sd_sp n x y z ∧ G (pp c) y ∧ G (qq c) z)) ∧
    (kd c = 7 → (M c x ↔ (∀ i, i < n → x i = true → kid i = true) ∧ (M (pp c) x ∨
        ∃ y z, sd_sp n x y z ∧ sd_ct n kid y z ∧ ¬ sd_em n y ∧ M (pp c) y ∧ M c z)) ∧
      (G c x ↔ (∀ i, i < n → x i = true → kid i = true) ∧ (G (pp c) x ∨
        ∃ y z, sd_sp n x y z ∧ sd_ct n kid y z ∧ ¬ sd_em n y ∧ M (pp c) y ∧ G c z)))
/-- no open element in x -/
def sd_ns (n : Nat) (st x : Nat → Bool) : Prop := ∀ i, i < n → x i = true → st i = false

section
variable {kd pp qq pl wd : Nat → Nat} {O fil : Nat → Prop} {cl nu gr : Nat → (Nat → Bool) → Prop} {ab : Nat → Prop}
variable {T : Nat → Nat → Prop} {kid st : Nat → Bool} {Av : Nat → Nat → (Nat → Bool) → (Nat → Bool) → Prop}
variable {n : Nat} {M G : Nat → (Nat → Bool) → Prop}

theorem sd_aga (H : sd_Env kd pp qq pl wd O cl nu ab T kid Av) {c : Nat} (oc : O c) (k4 : 4 ≤ kd c) (k7 : kd c ≠ 7)
    {y z a b : Nat → Bool} (ra : sd_run Av (pp c) y n a) (rb : sd_run Av (qq c) z n b) :
    sd_ag (pl (pp c)) (wd (pp c)) (sd_or a b) a ∧ sd_ag (pl (qq c)) (wd (qq c)) (sd_or a b) b := by
  obtain ⟨op, _, e1, l1⟩ := sd_tp H.1 oc k4
  obtain ⟨oq, _, e2, e3, _⟩ := sd_tq H.1 oc k4 k7
  constructor
  · intro i h1 h2
    show (a i || b i) = a i
    rw [sd_nf (fun q => by have := sd_rin H oq n b rb i q; omega : ¬ b i = true), Bool.or_false]
  · intro i h1 h2
    show (a i || b i) = b i
    rw [sd_nf (fun q => by have := sd_rin H op n a ra i q; omega : ¬ a i = true), Bool.false_or]

theorem sd_sp_l {x y z : Nat → Bool} (h : sd_sp n x y z) {i : Nat} (hi : i < n) (hy : y i = true) : x i = true := by
  rw [(h i hi).1, hy]; rfl
theorem sd_sp_r {x y z : Nat → Bool} (h : sd_sp n x y z) {i : Nat} (hi : i < n) (hz : z i = true) : x i = true := by
  rw [(h i hi).1, hz, Bool.or_true]
theorem sd_sp_o {x y z : Nat → Bool} (h : sd_sp n x y z) {i : Nat} (hi : i < n) (hx : x i = true) : y i = true ∨ z i = true := by
  have := (h i hi).1
  rw [hx] at this
  revert this
  cases y i <;> cases z i <;> simp
theorem sd_ns_j {x y z : Nat → Bool} (h : sd_sp n x y z) (a : sd_ns n st y) (b : sd_ns n st z) : sd_ns n st x :=
  fun i hi xi => (sd_sp_o h hi xi).elim (a i hi) (b i hi)
theorem sd_ns_l {x y z : Nat → Bool} (h : sd_sp n x y z) (a : sd_ns n st x) : sd_ns n st y := fun i hi yi => a i hi (sd_sp_l h hi yi)
theorem sd_ns_r {x y z : Nat → Bool} (h : sd_sp n x y z) (a : sd_ns n st x) : sd_ns n st z := fun i hi yi => a i hi (sd_sp_r h hi yi)

/-- EMPTY -/
theorem sd_run0 (H : sd_Env kd pp qq pl wd O cl nu ab T kid Av) {c : Nat} (oc : O c) (k : kd c = 0) {x : Nat → Bool} :
    ∀ (n : Nat) (s : Nat → Bool), sd_run Av c x n s ↔ sd_em n x ∧ s = sd_e := by
  intro n
  induction n with
  | zero => exact fun s => ⟨fun h => ⟨fun i hi => by omega, h⟩, fun h => h.2⟩
  | succ n ih =>
    intro t
    constructor
    · intro h
      rcases h with ⟨hx, s, hr, ha⟩ | ⟨hx, hr⟩
      · rw [(H.2.2.2.1 c oc n s t).1 (by omega)] at ha
        have := (H.2.2.2.2.2 c n oc ha.1).1
        omega
      · obtain ⟨a, b⟩ := (ih t).1 hr
        refine ⟨fun i hi => ?_, b⟩
        by_cases e : i = n
        · rw [e]; exact hx
        · exact a i (by omega)
    · rintro ⟨a, b⟩
      exact sd_rk (a n (by omega)) ((ih t).2 ⟨fun i hi => a i (by omega), b⟩)
/-- TEXT -/
theorem sd_run1 (H : sd_Env kd pp qq pl wd O cl nu ab T kid Av) {c : Nat} (oc : O c) (k : kd c = 1) {x : Nat → Bool} :
    ∀ (n : Nat), (∃ s, sd_run Av c x n s) ↔ ∀ i, i < n → x i = true → T c i := by
  intro n
  induction n with
  | zero => exact ⟨fun _ i hi => by omega, fun _ => ⟨sd_e, rfl⟩⟩
  | succ n ih =>
    constructor
    · rintro ⟨t, h⟩ i hi xi
      rcases h with ⟨hx, s, hr, ha⟩ | ⟨hx, hr⟩
      · by_cases e : i = n
        · rw [(H.2.2.2.1 c oc n s t).1 (by omega)] at ha
          rw [e]; exact ha.1
        · exact ih.1 ⟨s, hr⟩ i (by omega) xi
      · by_cases e : i = n
        · rw [e, hx] at xi; cases xi
        · exact ih.1 ⟨t, hr⟩ i (by omega) xi
    · intro h
      obtain ⟨s, hs⟩ := ih.2 (fun i hi => h i (by omega))
      by_cases hx : x n = true
      · refine ⟨sd_set s (pl c), sd_ru hx hs ?_⟩
        rw [(H.2.2.2.1 c oc n s _).1 (by omega)]
        exact ⟨h n (by omega) hx, Or.inl k, rfl⟩
      · exact ⟨s, sd_rk (sd_nf hx) hs⟩
/-- ATTRIBUTE, ELEMENT -/
theorem sd_run23 (H : sd_Env kd pp qq pl wd O cl nu ab T kid Av) {c : Nat} (oc : O c) (k : kd c = 2 ∨ kd c = 3) {x : Nat → Bool} :
    ∀ (n : Nat) (s : Nat → Bool), sd_run Av c x n s ↔ (sd_em n x ∧ s = sd_e) ∨ ∃ i, sd_on n x i ∧ T c i ∧ s = sd_set sd_e (pl c) := by
  intro n
  induction n with
  | zero =>
    intro s
    constructor
    · exact fun h => Or.inl ⟨fun i hi => by omega, h⟩
    · rintro (h | ⟨i, ⟨hi, _⟩, _⟩)
      · exact h.2
      · omega
  | succ n ih =>
    intro t
    constructor
    · intro h
      rcases h with ⟨hx, s, hr, ha⟩ | ⟨hx, hr⟩
      · rw [(H.2.2.2.1 c oc n s t).1 (by omega)] at ha
        obtain ⟨t1, t2, t3⟩ := ha
        have t2' : s (pl c) = false := t2.elim (fun q => by omega) id
        rcases (ih s).1 hr with ⟨em, rfl⟩ | ⟨i, _, _, rfl⟩
        · refine Or.inr ⟨n, ⟨by omega, fun j hj => ⟨fun xj => ?_, fun e => by rw [e]; exact hx⟩⟩, t1, t3⟩
          refine Classical.byContradiction (fun q => ?_)
          rw [em j (by omega)] at xj; cases xj
        · rw [sd_set_s] at t2'; cases t2'
      · rcases (ih t).1 hr with ⟨em, e⟩ | ⟨i, ⟨hi, on⟩, ti, e⟩
        · refine Or.inl ⟨fun i hi => ?_, e⟩
          by_cases q : i = n
          · rw [q]; exact hx
          · exact em i (by omega)
        · refine Or.inr ⟨i, ⟨by omega, fun j hj => ?_⟩, ti, e⟩
          by_cases q : j = n
          · rw [q, hx]
            exact ⟨fun h => (by cases h), fun h => (by omega)⟩
          · exact on j (by omega)
    · rintro (⟨em, e⟩ | ⟨i, ⟨hi, on⟩, ti, e⟩)
      · exact sd_rk (em n (by omega)) ((ih t).2 (Or.inl ⟨fun i hi => em i (by omega), e⟩))
      · by_cases q : i = n
        · refine sd_ru (s := sd_e) ((on n (by omega)).2 q.symm) ?_ ?_
          · refine (sd_r0 n sd_e (fun j hj => sd_nf (fun xj => ?_))).2 rfl
            have := (on j (by omega)).1 xj
            omega
          · rw [(H.2.2.2.1 c oc n _ t).1 (by omega)]
            exact ⟨by rw [← q]; exact ti, Or.inr rfl, e⟩
        · refine sd_rk (sd_nf (fun xn => q ((on n (by omega)).1 xn).symm)) ?_
          exact (ih t).2 (Or.inr ⟨i, ⟨by omega, fun j hj => on j (by omega)⟩, ti, e⟩)

/-- what the theorem says of a cell -/
def sd_P (Av : Nat → Nat → (Nat → Bool) → (Nat → Bool) → Prop) (nu gr : Nat → (Nat → Bool) → Prop) (st : Nat → Bool) (n : Nat)
    (M G : Nat → (Nat → Bool) → Prop) (c : Nat) : Prop :=
  (∀ x, M c x ↔ sd_ns n st x ∧ ∃ s, sd_run Av c x n s ∧ nu c s) ∧ (∀ x, G c x ↔ ∃ s, sd_run Av c x n s ∧ gr c s)

theorem sd_mg (H : sd_Env kd pp qq pl wd O cl nu ab T kid Av) (mo : sd_mo kid) (hg : sd_grE kd pp qq pl wd O fil gr)
    (hf : ∀ c, O c → kd c = 0 ∨ kd c = 1 → fil c) (hs : ∀ i, i < n → st i = true → kid i = true ∧ i + 1 = n)
    (h1 : ∀ c i, O c → kd c = 1 → T c i → st i = false)
    (hm : sd_mgE kd pp qq O fil T kid st n M G) : ∀ c, O c → sd_P Av nu gr st n M G c := by
  have ht := H.1
  have hn := H.2.2.1
  refine sd_ind ht ?_ ?_ ?_ ?_ ?_
  · intro c oc k
    by_cases k0 : kd c = 0
    · constructor
      · intro x
        rw [((hm c oc x).1 k0).1]
        constructor
        · exact fun em => ⟨fun i hi xi => (by rw [em i hi] at xi; cases xi), sd_e, (sd_run0 H oc k0 n sd_e).2 ⟨em, rfl⟩, (hn c oc sd_e).1 k0⟩
        · rintro ⟨_, s, rs, _⟩
          exact ((sd_run0 H oc k0 n s).1 rs).1
      · intro x
        rw [((hm c oc x).1 k0).2]
        constructor
        · refine fun em => ⟨sd_e, (sd_run0 H oc k0 n sd_e).2 ⟨em, rfl⟩, ?_⟩
          rw [(hg c oc sd_e).1 k]
          exact Or.inl (hf c oc (Or.inl k0))
        · rintro ⟨s, rs, _⟩
          exact ((sd_run0 H oc k0 n s).1 rs).1
    · by_cases k1 : kd c = 1
      · constructor
        · intro x
          rw [((hm c oc x).2.1 k1).1, ← sd_run1 H oc k1 n]
          constructor
          · rintro ⟨s, rs⟩
            refine ⟨fun i hi xi => h1 c i oc k1 ((sd_run1 H oc k1 n).1 ⟨s, rs⟩ i hi xi), s, rs, (hn c oc s).2.1 k1⟩
          · exact fun ⟨_, s, rs, _⟩ => ⟨s, rs⟩
        · intro x
          rw [((hm c oc x).2.1 k1).2, ← sd_run1 H oc k1 n]
          constructor
          · rintro ⟨s, rs⟩
            refine ⟨s, rs, ?_⟩
            rw [(hg c oc s).1 k]
            exact Or.inl (hf c oc (Or.inr k1))
          · exact fun ⟨s, rs, _⟩ => ⟨s, rs⟩
      · have k2 : kd c = 2 ∨ kd c = 3 := by omega
        have w1 := (ht c oc).2.2.1 k0 k
        have nuc : ∀ s, nu c s ↔ s (pl c) = true := fun s => by
          rcases k2 with k2 | k2
          · exact (hn c oc s).2.2.1 k2
          · exact (hn c oc s).2.2.2.1 k2
        constructor
        · intro x
          rw [((hm c oc x).2.2.1 k2).1]
          constructor
          · rintro ⟨i, on, ti, si⟩
            refine ⟨fun j hj xj => by rw [(on.2 j hj).1 xj]; exact si, sd_set sd_e (pl c), (sd_run23 H oc k2 n _).2 (Or.inr ⟨i, on, ti, rfl⟩), ?_⟩
            rw [nuc, sd_set_s]
          · rintro ⟨ns, s, rs, ns2⟩
            rw [nuc] at ns2
            rcases (sd_run23 H oc k2 n s).1 rs with ⟨_, rfl⟩ | ⟨i, on, ti, _⟩
            · cases ns2
            · exact ⟨i, on, ti, ns i on.1 ((on.2 i on.1).2 rfl)⟩
        · intro x
          rw [((hm c oc x).2.2.1 k2).2]
          constructor
          · rintro (⟨i, on, ti⟩ | ⟨em, fi⟩)
            · refine ⟨sd_set sd_e (pl c), (sd_run23 H oc k2 n _).2 (Or.inr ⟨i, on, ti, rfl⟩), ?_⟩
              rw [(hg c oc _).1 k]
              refine Or.inr (fun u => ?_)
              have := u (pl c) (by omega) (by omega)
              rw [sd_set_s] at this; cases this
            · refine ⟨sd_e, (sd_run23 H oc k2 n _).2 (Or.inl ⟨em, rfl⟩), ?_⟩
              rw [(hg c oc _).1 k]
              exact Or.inl fi
          · rintro ⟨s, rs, gs⟩
            rw [(hg c oc s).1 k] at gs
            rcases (sd_run23 H oc k2 n s).1 rs with ⟨em, rfl⟩ | ⟨i, on, ti, _⟩
            · exact Or.inr ⟨em, gs.elim id (fun q => absurd sd_unE q)⟩
            · exact Or.inl ⟨i, on, ti⟩
  · intro c oc k ip iq
    have op := (sd_tp ht oc (by omega)).1
    have oq := (sd_tq ht oc (by omega) (by omega)).1
    obtain ⟨_, _, e1, l1⟩ := sd_tp ht oc (by omega)
    obtain ⟨_, _, e2, e3, _⟩ := sd_tq ht oc (by omega) (by omega)
    have up : ∀ x s, sd_run Av (pp c) x n s → sd_un (pl (qq c)) (wd (qq c)) s := fun x s h i h1 h2 =>
      sd_nf (fun q => by have := sd_rin H op n s h i q; omega)
    have uq : ∀ x s, sd_run Av (qq c) x n s → sd_un (pl (pp c)) (wd (pp c)) s := fun x s h i h1 h2 =>
      sd_nf (fun q => by have := sd_rin H oq n s h i q; omega)
    -- a run below q that is unused is a run below p too
    have pq : ∀ x s, sd_run Av (pp c) x n s → sd_un (pl (pp c)) (wd (pp c)) s → sd_run Av (qq c) x n s := fun x s h u => by
      have em := sd_run_un H op n s h u
      exact (sd_r0 n s em).2 ((sd_r0 n s em).1 h)
    have qp : ∀ x s, sd_run Av (qq c) x n s → sd_un (pl (qq c)) (wd (qq c)) s → sd_run Av (pp c) x n s := fun x s h u => by
      have em := sd_run_un H oq n s h u
      exact (sd_r0 n s em).2 ((sd_r0 n s em).1 h)
    constructor
    · intro x
      rw [((hm c oc x).2.2.2.1 k).1, ip.1 x, iq.1 x]
      constructor
      · rintro (⟨ns, s, rs, us⟩ | ⟨ns, s, rs, us⟩)
        · refine ⟨ns, s, (sd_run4 H oc k n s).2 (Or.inl rs), ?_⟩
          rw [(hn c oc s).2.2.2.2.2.1 k]; exact Or.inl ⟨us, up x s rs⟩
        · refine ⟨ns, s, (sd_run4 H oc k n s).2 (Or.inr rs), ?_⟩
          rw [(hn c oc s).2.2.2.2.2.1 k]; exact Or.inr ⟨us, uq x s rs⟩
      · rintro ⟨ns, s, rs, us⟩
        rw [(hn c oc s).2.2.2.2.2.1 k] at us
        rw [sd_run4 H oc k n s] at rs
        rcases us with ⟨u1, u2⟩ | ⟨u1, u2⟩
        · exact Or.inl ⟨ns, s, rs.elim id (fun q => qp x s q u2), u1⟩
        · exact Or.inr ⟨ns, s, rs.elim (fun q => pq x s q u2) id, u1⟩
    · intro x
      rw [((hm c oc x).2.2.2.1 k).2, ip.2 x, iq.2 x]
      constructor
      · rintro (⟨s, rs, us⟩ | ⟨s, rs, us⟩)
        · refine ⟨s, (sd_run4 H oc k n s).2 (Or.inl rs), ?_⟩
          rw [(hg c oc s).2.2.1 k]; exact Or.inl ⟨us, up x s rs⟩
        · refine ⟨s, (sd_run4 H oc k n s).2 (Or.inr rs), ?_⟩
          rw [(hg c oc s).2.2.1 k]; exact Or.inr ⟨us, uq x s rs⟩
      · rintro ⟨s, rs, us⟩
        rw [(hg c oc s).2.2.1 k] at us
        rw [sd_run4 H oc k n s] at rs
        rcases us with ⟨u1, u2⟩ | ⟨u1, u2⟩
        · exact Or.inl ⟨s, rs.elim id (fun q => qp x s q u2), u1⟩
        · exact Or.inr ⟨s, rs.elim (fun q => pq x s q u2) id, u1⟩
  · intro c oc k ip iq
    have op := (sd_tp ht oc (by omega)).1
    have oq := (sd_tq ht oc (by omega) (by omega)).1
    -- an open element is the last item: none before a child of z
    have nsy : ∀ x y z, sd_sp n x y z → sd_ct n kid y z → sd_hk n kid z → sd_ns n st y := by
      rintro x y z sp ct ⟨j, hj, zj, kj⟩ i hi yi
      refine sd_nf (fun si => ?_)
      obtain ⟨ki, li⟩ := hs i hi si
      have := ct i j hi hj yi ki zj kj
      omega
    constructor
    · intro x
      rw [((hm c oc x).2.2.2.2.1 k).1]
      constructor
      · rintro ⟨y, z, sp, ct, my, mz⟩
        obtain ⟨nsa, a, ra, na⟩ := (ip.1 y).1 my
        obtain ⟨nsb, b, rb, nb⟩ := (iq.1 z).1 mz
        obtain ⟨ga, gb⟩ := sd_aga H oc (by omega) (by omega) ra rb
        refine ⟨sd_ns_j sp nsa nsb, sd_or a b, (sd_run5 H mo oc k n _).2 ⟨y, z, a, b, sp, ct, ra, rb, fun _ => na, rfl⟩, ?_⟩
        rw [(hn c oc _).2.2.2.2.2.2.1 k, sd_nuL ht hn _ op _ _ ga, sd_nuL ht hn _ oq _ _ gb]
        exact ⟨na, nb⟩
      · rintro ⟨ns, s, rs, us⟩
        obtain ⟨y, z, a, b, sp, ct, ra, rb, ln, rfl⟩ := (sd_run5 H mo oc k n s).1 rs
        obtain ⟨ga, gb⟩ := sd_aga H oc (by omega) (by omega) ra rb
        rw [(hn c oc _).2.2.2.2.2.2.1 k, sd_nuL ht hn _ op _ _ ga, sd_nuL ht hn _ oq _ _ gb] at us
        exact ⟨y, z, sp, ct, (ip.1 y).2 ⟨sd_ns_l sp ns, a, ra, us.1⟩, (iq.1 z).2 ⟨sd_ns_r sp ns, b, rb, us.2⟩⟩
    · intro x
      rw [((hm c oc x).2.2.2.2.1 k).2]
      constructor
      · rintro ⟨y, z, sp, ct, my, gy, gz⟩
        obtain ⟨b, rb, nb⟩ := (iq.2 z).1 gz
        by_cases hk : sd_hk n kid z
        · obtain ⟨_, a, ra, na⟩ := (ip.1 y).1 (my hk)
          obtain ⟨ga, gb⟩ := sd_aga H oc (by omega) (by omega) ra rb
          refine ⟨sd_or a b, (sd_run5 H mo oc k n _).2 ⟨y, z, a, b, sp, ct, ra, rb, fun _ => na, rfl⟩, ?_⟩
          rw [(hg c oc _).2.2.2.1 k, sd_grL ht hg _ op _ _ ga, sd_grL ht hg _ oq _ _ gb]
          exact ⟨sd_nuG ht hn hg hf _ op a na, nb⟩
        · obtain ⟨a, ra, na⟩ := (ip.2 y).1 (gy hk)
          obtain ⟨ga, gb⟩ := sd_aga H oc (by omega) (by omega) ra rb
          refine ⟨sd_or a b, (sd_run5 H mo oc k n _).2 ⟨y, z, a, b, sp, ct, ra, rb, fun q => absurd q hk, rfl⟩, ?_⟩
          rw [(hg c oc _).2.2.2.1 k, sd_grL ht hg _ op _ _ ga, sd_grL ht hg _ oq _ _ gb]
          exact ⟨na, nb⟩
      · rintro ⟨s, rs, us⟩
        obtain ⟨y, z, a, b, sp, ct, ra, rb, ln, rfl⟩ := (sd_run5 H mo oc k n s).1 rs
        obtain ⟨ga, gb⟩ := sd_aga H oc (by omega) (by omega) ra rb
        rw [(hg c oc _).2.2.2.1 k, sd_grL ht hg _ op _ _ ga, sd_grL ht hg _ oq _ _ gb] at us
        exact ⟨y, z, sp, ct, fun hk => (ip.1 y).2 ⟨nsy x y z sp ct hk, a, ra, ln hk⟩, fun _ => (ip.2 y).2 ⟨a, ra, us.1⟩, (iq.2 z).2 ⟨b, rb, us.2⟩⟩
  · intro c oc k ip iq
    have op := (sd_tp ht oc (by omega)).1
    have oq := (sd_tq ht oc (by omega) (by omega)).1
    constructor
    · intro x
      rw [((hm c oc x).2.2.2.2.2.1 k).1]
      constructor
      · rintro ⟨y, z, sp, my, mz⟩
        obtain ⟨nsa, a, ra, na⟩ := (ip.1 y).1 my
        obtain ⟨nsb, b, rb, nb⟩ := (iq.1 z).1 mz
        obtain ⟨ga, gb⟩ := sd_aga H oc (by omega) (by omega) ra rb
        refine ⟨sd_ns_j sp nsa nsb, sd_or a b, (sd_run6 H oc k n _).2 ⟨y, z, a, b, sp, ra, rb, rfl⟩, ?_⟩
        rw [(hn c oc _).2.2.2.2.2.2.2 k, sd_nuL ht hn _ op _ _ ga, sd_nuL ht hn _ oq _ _ gb]
        exact ⟨na, nb⟩
      · rintro ⟨ns, s, rs, us⟩
        obtain ⟨y, z, a, b, sp, ra, rb, rfl⟩ := (sd_run6 H oc k n s).1 rs
        obtain ⟨ga, gb⟩ := sd_aga H oc (by omega) (by omega) ra rb
        rw [(hn c oc _).2.2.2.2.2.2.2 k, sd_nuL ht hn _ op _ _ ga, sd_nuL ht hn _ oq _ _ gb] at us
        exact ⟨y, z, sp, (ip.1 y).2 ⟨sd_ns_l sp ns, a, ra, us.1⟩, (iq.1 z).2 ⟨sd_ns_r sp ns, b, rb, us.2⟩⟩
    · intro x
      rw [((hm c oc x).2.2.2.2.2.1 k).2]
      constructor
      · rintro ⟨y, z, sp, my, mz⟩
        obtain ⟨a, ra, na⟩ := (ip.2 y).1 my
        obtain ⟨b, rb, nb⟩ := (iq.2 z).1 mz
        obtain ⟨ga, gb⟩ := sd_aga H oc (by omega) (by omega) ra rb
        refine ⟨sd_or a b, (sd_run6 H oc k n _).2 ⟨y, z, a, b, sp, ra, rb, rfl⟩, ?_⟩
        rw [(hg c oc _).2.2.2.2 k, sd_grL ht hg _ op _ _ ga, sd_grL ht hg _ oq _ _ gb]
        exact ⟨na, nb⟩
      · rintro ⟨s, rs, us⟩
        obtain ⟨y, z, a, b, sp, ra, rb, rfl⟩ := (sd_run6 H oc k n s).1 rs
        obtain ⟨ga, gb⟩ := sd_aga H oc (by omega) (by omega) ra rb
        rw [(hg c oc _).2.2.2.2 k, sd_grL ht hg _ op _ _ ga, sd_grL ht hg _ oq _ _ gb] at us
        exact ⟨y, z, sp, (ip.2 y).2 ⟨a, ra, us.1⟩, (iq.2 z).2 ⟨b, rb, us.2⟩⟩
  · intro c oc k ip
    have op := (sd_tp ht oc (by omega)).1
    have nab : ¬ ab (pp c) := (H.2.2.2.2.1 c oc).2.2 k
    have nuc : ∀ s, nu c s ↔ nu (pp c) s := fun s => (hn c oc s).2.2.2.2.1 k
    have grc : ∀ s, gr c s ↔ gr (pp c) s := fun s => (hg c oc s).2.1 k
    have avk : ∀ e s t, Av c e s t → kid e = true := fun e s t h => by
      refine Classical.byContradiction (fun q => nab ?_)
      rcases ((H.2.2.2.1 c oc e s t).2.2.2.2 k).1 h with h | ⟨_, h⟩
      · exact sd_avAb H _ op e s t h (sd_nf q)
      · exact sd_avAb H _ op e _ t h (sd_nf q)
    have rkc : ∀ x s, ∀ m, sd_run Av c x m s → ∀ i, i < m → x i = true → kid i = true := by
      intro x s m
      induction m generalizing s with
      | zero => intro h i hi; omega
      | succ m ih =>
        intro h i hi xi
        rcases h with ⟨hx, r, hr, ha⟩ | ⟨hx, hr⟩
        · by_cases e : i = m
          · rw [e]; exact avk m r s ha
          · exact ih r hr i (by omega) xi
        · by_cases e : i = m
          · rw [e, hx] at xi; cases xi
          · exact ih s hr i (by omega) xi
    -- the order of the first run and the rest
    have lt1 : ∀ x y z, sd_sp n x y z → sd_ct n kid y z → (∀ i, i < n → x i = true → kid i = true) →
        ∀ i j, i < n → j < n → y i = true → z j = true → i < j := fun x y z sp ct xk i j hi hj yi zj =>
      ct i j hi hj yi (xk i hi (sd_sp_l sp hi yi)) zj (xk j hj (sd_sp_r sp hj zj))
    have nsy : ∀ x y z, sd_sp n x y z → (∀ i j, i < n → j < n → y i = true → z j = true → i < j) → ¬ sd_em n z → sd_ns n st y := by
      intro x y z sp lt nz i hi yi
      refine sd_nf (fun si => nz (fun j hj => sd_nf (fun zj => ?_)))
      obtain ⟨ki, li⟩ := hs i hi si
      have := lt i j hi hj yi zj
      omega
    have main : ∀ d x, (∀ i, i < n → x i = true → n ≤ i + d) →
        (M c x ↔ sd_ns n st x ∧ ∃ s, sd_run Av c x n s ∧ nu c s) ∧ (G c x ↔ ∃ s, sd_run Av c x n s ∧ gr c s) := by
      intro d
      induction d with
      | zero =>
        intro x hd
        have em : sd_em n x := fun i hi => sd_nf (fun q => by have := hd i hi q; omega)
        have xk : ∀ i, i < n → x i = true → kid i = true := fun i hi xi => by rw [em i hi] at xi; cases xi
        have no : ∀ y z, sd_sp n x y z → ¬ sd_em n y → False := fun y z sp ny => ny (fun i hi => sd_nf (fun yi => by
          have := sd_sp_l sp hi yi
          rw [em i hi] at this; cases this))
        have re : ∀ s, sd_run Av c x n s ↔ sd_run Av (pp c) x n s := fun s => by rw [sd_r0 n s em, sd_r0 n s em]
        constructor
        · rw [((hm c oc x).2.2.2.2.2.2 k).1, ip.1 x]
          constructor
          · rintro ⟨_, ⟨ns, s, rs, us⟩ | ⟨y, z, sp, _, ny, _⟩⟩
            · exact ⟨ns, s, (re s).2 rs, (nuc s).2 us⟩
            · exact absurd ny (fun q => no y z sp q)
          · rintro ⟨ns, s, rs, us⟩
            exact ⟨xk, Or.inl ⟨ns, s, (re s).1 rs, (nuc s).1 us⟩⟩
        · rw [((hm c oc x).2.2.2.2.2.2 k).2, ip.2 x]
          constructor
          · rintro ⟨_, ⟨s, rs, us⟩ | ⟨y, z, sp, _, ny, _⟩⟩
            · exact ⟨s, (re s).2 rs, (grc s).2 us⟩
            · exact absurd ny (fun q => no y z sp q)
          · rintro ⟨s, rs, us⟩
            exact ⟨xk, Or.inl ⟨s, (re s).1 rs, (grc s).1 us⟩⟩
      | succ d ih =>
        intro x hd
        -- the rest lies behind the first run
        have hz : ∀ y z, sd_sp n x y z → (∀ i j, i < n → j < n → y i = true → z j = true → i < j) → ¬ sd_em n y →
            ∀ i, i < n → z i = true → n ≤ i + d := by
          intro y z sp lt ny i hi zi
          refine Classical.byContradiction (fun q => ny (fun j hj => sd_nf (fun yj => ?_)))
          have a := hd j hj (sd_sp_l sp hj yj)
          have b := lt j i hj hi yj zi
          omega
        have ze : ∀ y z, sd_sp n x y z → sd_em n z → ∀ i, i < n → y i = x i := fun y z sp em i hi => by
          have := (sp i hi).1
          rw [em i hi, Bool.or_false] at this; exact this.symm
        constructor
        · rw [((hm c oc x).2.2.2.2.2.2 k).1, ip.1 x]
          constructor
          · rintro ⟨xk, ⟨ns, s, rs, us⟩ | ⟨y, z, sp, ct, ny, my, mz⟩⟩
            · exact ⟨ns, s, (sd_run7 H oc k n x s).2 (Or.inl rs), (nuc s).2 us⟩
            · have lt := lt1 x y z sp ct xk
              obtain ⟨nsa, a, ra, na⟩ := (ip.1 y).1 my
              obtain ⟨nsb, b, rb, nb⟩ := (ih z (hz y z sp lt ny)).1.1 mz
              refine ⟨sd_ns_j sp nsa nsb, ?_⟩
              by_cases em : sd_em n z
              · exact ⟨a, (sd_run7 H oc k n x a).2 (Or.inl (sd_rx n a (ze y z sp em) ra)), (nuc a).2 na⟩
              · exact ⟨b, (sd_run7 H oc k n x b).2 (Or.inr ⟨y, z, sp, lt, ny, em, ⟨a, ra, na⟩, rb⟩), nb⟩
          · rintro ⟨ns, s, rs, us⟩
            refine ⟨rkc x s n rs, ?_⟩
            rcases (sd_run7 H oc k n x s).1 rs with h | ⟨y, z, sp, lt, ny, nz, ⟨a, ra, na⟩, rc⟩
            · exact Or.inl ⟨ns, s, h, (nuc s).1 us⟩
            · refine Or.inr ⟨y, z, sp, fun i j hi hj yi _ zj _ => lt i j hi hj yi zj, ny, ?_, ?_⟩
              · exact (ip.1 y).2 ⟨sd_ns_l sp ns, a, ra, na⟩
              · exact (ih z (hz y z sp lt ny)).1.2 ⟨sd_ns_r sp ns, s, rc, us⟩
        · rw [((hm c oc x).2.2.2.2.2.2 k).2, ip.2 x]
          constructor
          · rintro ⟨xk, ⟨s, rs, us⟩ | ⟨y, z, sp, ct, ny, my, mz⟩⟩
            · exact ⟨s, (sd_run7 H oc k n x s).2 (Or.inl rs), (grc s).2 us⟩
            · have lt := lt1 x y z sp ct xk
              obtain ⟨nsa, a, ra, na⟩ := (ip.1 y).1 my
              obtain ⟨b, rb, nb⟩ := (ih z (hz y z sp lt ny)).2.1 mz
              by_cases em : sd_em n z
              · refine ⟨a, (sd_run7 H oc k n x a).2 (Or.inl (sd_rx n a (ze y z sp em) ra)), (grc a).2 ?_⟩
                exact sd_nuG ht hn hg hf _ op a na
              · exact ⟨b, (sd_run7 H oc k n x b).2 (Or.inr ⟨y, z, sp, lt, ny, em, ⟨a, ra, na⟩, rb⟩), nb⟩
          · rintro ⟨s, rs, us⟩
            refine ⟨rkc x s n rs, ?_⟩
            rcases (sd_run7 H oc k n x s).1 rs with h | ⟨y, z, sp, lt, ny, nz, ⟨a, ra, na⟩, rc⟩
            · exact Or.inl ⟨s, h, (grc s).1 us⟩
            · refine Or.inr ⟨y, z, sp, fun i j hi hj yi _ zj _ => lt i j hi hj yi zj, ny, ?_, ?_⟩
              · exact (ip.1 y).2 ⟨nsy x y z sp lt nz, a, ra, na⟩
              · exact (ih z (hz y z sp lt ny)).2.2 ⟨s, rc, us⟩
    exact ⟨fun x => (main n x (fun i hi _ => by omega)).1, fun x => (main n x (fun i hi _ => by omega)).2⟩

/-- a step from what cannot grow leads to what cannot grow -/
theorem sd_pr (H : sd_Env kd pp qq pl wd O cl nu ab T kid Av) (hg : sd_grE kd pp qq pl wd O fil gr)
    (hf : ∀ c, O c → kd c = 0 ∨ kd c = 1 → fil c) {e : Nat} (he : ∀ c, O c → T c e → fil c) :
    ∀ c, O c → ∀ s t, Av c e s t → gr c t → gr c s := by
  have ht := H.1
  refine sd_ind ht ?_ ?_ ?_ ?_ ?_
  · intro c oc k s t h _
    rw [(H.2.2.2.1 c oc e s t).1 k] at h
    rw [(hg c oc s).1 k]
    exact Or.inl (he c oc h.1)
  · intro c oc k ip iq s t h g
    obtain ⟨op, _, e1, l1⟩ := sd_tp ht oc (by omega)
    obtain ⟨oq, _, e2, e3, _⟩ := sd_tq ht oc (by omega) (by omega)
    rw [(H.2.2.2.1 c oc e s t).2.1 k] at h
    rw [(hg c oc t).2.2.1 k] at g
    rw [(hg c oc s).2.2.1 k]
    rcases h with ⟨u, h⟩ | ⟨u, h⟩
    · rcases g with ⟨g, _⟩ | ⟨_, g⟩
      · exact Or.inl ⟨ip s t h g, u⟩
      · exact absurd g (sd_avMem H _ op e s t h)
    · rcases g with ⟨_, g⟩ | ⟨g, _⟩
      · exact absurd g (sd_avMem H _ oq e s t h)
      · exact Or.inr ⟨iq s t h g, u⟩
  · intro c oc k ip iq s t h g
    obtain ⟨op, _, e1, l1⟩ := sd_tp ht oc (by omega)
    obtain ⟨oq, _, e2, e3, _⟩ := sd_tq ht oc (by omega) (by omega)
    rw [(H.2.2.2.1 c oc e s t).2.2.1 k] at h
    rw [(hg c oc t).2.2.2.1 k] at g
    rw [(hg c oc s).2.2.2.1 k]
    rcases h with ⟨_, h⟩ | ⟨_, h⟩
    · exact ⟨ip s t h g.1, (sd_grL ht hg _ oq t s (fun i h1 h2 => sd_avOut H _ op e s t h i (by omega))).1 g.2⟩
    · exact ⟨(sd_grL ht hg _ op t s (fun i h1 h2 => sd_avOut H _ oq e s t h i (by omega))).1 g.1, iq s t h g.2⟩
  · intro c oc k ip iq s t h g
    obtain ⟨op, _, e1, l1⟩ := sd_tp ht oc (by omega)
    obtain ⟨oq, _, e2, e3, _⟩ := sd_tq ht oc (by omega) (by omega)
    rw [(H.2.2.2.1 c oc e s t).2.2.2.1 k] at h
    rw [(hg c oc t).2.2.2.2 k] at g
    rw [(hg c oc s).2.2.2.2 k]
    rcases h with h | h
    · exact ⟨ip s t h g.1, (sd_grL ht hg _ oq t s (fun i h1 h2 => sd_avOut H _ op e s t h i (by omega))).1 g.2⟩
    · exact ⟨(sd_grL ht hg _ op t s (fun i h1 h2 => sd_avOut H _ oq e s t h i (by omega))).1 g.1, iq s t h g.2⟩
  · intro c oc k ip s t h g
    rw [(H.2.2.2.1 c oc e s t).2.2.2.2 k] at h
    rcases h with h | ⟨u, _⟩
    · rw [(hg c oc t).2.1 k] at g
      rw [(hg c oc s).2.1 k]
      exact ip s t h g
    · exact sd_nuG ht H.2.2.1 hg hf c oc s u
end
end
section
/-! Av by climbing from a leaf -/
/-- d is an operand of c -/
def sd_ch (kd pp qq : Nat → Nat) (c d : Nat) : Prop := 4 ≤ kd c ∧ (d = pp c ∨ (kd c ≠ 7 ∧ d = qq c))
/-- the way from d up to c is free at s -/
def sd_ps (kd pp qq pl wd : Nat → Nat) (cl nu : Nat → (Nat → Bool) → Prop) (k : Bool) (c d : Nat) (s : Nat → Bool) : Prop :=
  (kd c = 4 → (d = pp c → sd_un (pl (qq c)) (wd (qq c)) s) ∧ (d ≠ pp c → sd_un (pl (pp c)) (wd (pp c)) s)) ∧
  (kd c = 5 → k = true → (d = pp c → cl (qq c) s) ∧ (d ≠ pp c → nu (pp c) s))
def sd_ap (kd pp qq pl wd : Nat → Nat) (cl nu : Nat → (Nat → Bool) → Prop) (O : Nat → Prop) (k : Bool) (l : Nat) :
    Nat → Nat → (Nat → Bool) → (Nat → Bool) → Prop
  | 0 => fun c s t => c = l ∧ (kd l = 1 ∨ s (pl l) = false) ∧ t = sd_set s (pl l)
  | j + 1 => fun c s t => ∃ d, O c ∧ sd_ch kd pp qq c d ∧ ((sd_ps kd pp qq pl wd cl nu k c d s ∧ sd_ap kd pp qq pl wd cl nu O k l j d s t) ∨
      (kd c = 7 ∧ nu c s ∧ sd_ap kd pp qq pl wd cl nu O k l j d (sd_clr s (pl c) (wd c)) t))
def sd_Av (kd pp qq pl wd : Nat → Nat) (cl nu : Nat → (Nat → Bool) → Prop) (O : Nat → Prop) (T : Nat → Nat → Prop) (kid : Nat → Bool)
    (c e : Nat) (s t : Nat → Bool) : Prop :=
  ∃ l j, O l ∧ kd l < 4 ∧ T l e ∧ sd_ap kd pp qq pl wd cl nu O (kid e) l j c s t
def sd_up (par : Nat → Nat) (l : Nat) : Nat → Nat
  | 0 => l
  | j + 1 => par (sd_up par l j)

section
variable {kd pp qq pl wd par : Nat → Nat} {O : Nat → Prop} {cl nu : Nat → (Nat → Bool) → Prop}
variable {T : Nat → Nat → Prop} {kid : Nat → Bool} {k : Bool} {l : Nat}

theorem sd_Av_E (hd : ∀ c, O c → 4 ≤ kd c → kd c ≠ 7 → pp c ≠ qq c) :
    sd_avE kd pp qq pl wd O cl nu T kid (sd_Av kd pp qq pl wd cl nu O T kid) := by
  intro c oc e s t
  -- a composite cell is reached from an operand
  have red : 4 ≤ kd c → (sd_Av kd pp qq pl wd cl nu O T kid c e s t ↔ ∃ d, sd_ch kd pp qq c d ∧
      ((sd_ps kd pp qq pl wd cl nu (kid e) c d s ∧ sd_Av kd pp qq pl wd cl nu O T kid d e s t) ∨
       (kd c = 7 ∧ nu c s ∧ sd_Av kd pp qq pl wd cl nu O T kid d e (sd_clr s (pl c) (wd c)) t))) := by
    intro k4
    constructor
    · rintro ⟨l, j, ol, kl, tl, h⟩
      cases j with
      | zero => have := h.1; rw [this] at k4; omega
      | succ j =>
        obtain ⟨d, _, ch, h⟩ := h
        refine ⟨d, ch, ?_⟩
        rcases h with ⟨p, h⟩ | ⟨k7, n, h⟩
        · exact Or.inl ⟨p, l, j, ol, kl, tl, h⟩
        · exact Or.inr ⟨k7, n, l, j, ol, kl, tl, h⟩
    · rintro ⟨d, ch, h⟩
      rcases h with ⟨p, l, j, ol, kl, tl, h⟩ | ⟨k7, n, l, j, ol, kl, tl, h⟩
      · exact ⟨l, j + 1, ol, kl, tl, d, oc, ch, Or.inl ⟨p, h⟩⟩
      · exact ⟨l, j + 1, ol, kl, tl, d, oc, ch, Or.inr ⟨k7, n, h⟩⟩
  refine ⟨?_, ?_, ?_, ?_, ?_⟩
  · intro kc
    constructor
    · rintro ⟨l, j, ol, kl, tl, h⟩
      cases j with
      | zero =>
        obtain ⟨h1, h2, h3⟩ := h
        subst h1
        exact ⟨tl, h2, h3⟩
      | succ j =>
        obtain ⟨d, _, ch, _⟩ := h
        have := ch.1
        omega
    · rintro ⟨tl, h2, h3⟩
      exact ⟨c, 0, oc, kc, tl, rfl, h2, h3⟩
  · intro k4
    have ne := hd c oc (by omega) (by omega)
    rw [red (by omega)]
    constructor
    · rintro ⟨d, ch, ⟨p, h⟩ | ⟨k7, _⟩⟩
      · rcases ch.2 with rfl | ⟨_, rfl⟩
        · exact Or.inl ⟨(p.1 k4).1 rfl, h⟩
        · exact Or.inr ⟨(p.1 k4).2 (fun q => ne q.symm), h⟩
      · omega
    · rintro (⟨u, h⟩ | ⟨u, h⟩)
      · exact ⟨pp c, ⟨by omega, Or.inl rfl⟩, Or.inl ⟨⟨fun _ => ⟨fun _ => u, fun q => absurd rfl q⟩, fun q => by omega⟩, h⟩⟩
      · exact ⟨qq c, ⟨by omega, Or.inr ⟨by omega, rfl⟩⟩, Or.inl ⟨⟨fun _ => ⟨fun q => absurd q.symm ne, fun _ => u⟩, fun q => by omega⟩, h⟩⟩
  · intro k5
    have ne := hd c oc (by omega) (by omega)
    rw [red (by omega)]
    constructor
    · rintro ⟨d, ch, ⟨p, h⟩ | ⟨k7, _⟩⟩
      · rcases ch.2 with rfl | ⟨_, rfl⟩
        · exact Or.inl ⟨fun ke => (p.2 k5 ke).1 rfl, h⟩
        · exact Or.inr ⟨fun ke => (p.2 k5 ke).2 (fun q => ne q.symm), h⟩
      · omega
    · rintro (⟨u, h⟩ | ⟨u, h⟩)
      · exact ⟨pp c, ⟨by omega, Or.inl rfl⟩, Or.inl ⟨⟨fun q => by omega, fun _ ke => ⟨fun _ => u ke, fun q => absurd rfl q⟩⟩, h⟩⟩
      · exact ⟨qq c, ⟨by omega, Or.inr ⟨by omega, rfl⟩⟩, Or.inl ⟨⟨fun q => by omega, fun _ ke => ⟨fun q => absurd q.symm ne, fun _ => u ke⟩⟩, h⟩⟩
  · intro k6
    have pst : ∀ d, sd_ps kd pp qq pl wd cl nu (kid e) c d s := fun d => ⟨fun q => by omega, fun q => by omega⟩
    rw [red (by omega)]
    constructor
    · rintro ⟨d, ch, ⟨p, h⟩ | ⟨k7, _⟩⟩
      · rcases ch.2 with rfl | ⟨_, rfl⟩
        · exact Or.inl h
        · exact Or.inr h
      · omega
    · rintro (h | h)
      · exact ⟨pp c, ⟨by omega, Or.inl rfl⟩, Or.inl ⟨pst _, h⟩⟩
      · exact ⟨qq c, ⟨by omega, Or.inr ⟨by omega, rfl⟩⟩, Or.inl ⟨pst _, h⟩⟩
  · intro k7
    have pst : ∀ d, sd_ps kd pp qq pl wd cl nu (kid e) c d s := fun d => ⟨fun q => by omega, fun q => by omega⟩
    rw [red (by omega)]
    constructor
    · rintro ⟨d, ch, h⟩
      have ed : d = pp c := ch.2.elim id (fun q => absurd k7 q.1)
      subst ed
      rcases h with ⟨p, h⟩ | ⟨_, n, h⟩
      · exact Or.inl h
      · exact Or.inr ⟨n, h⟩
    · rintro (h | ⟨n, h⟩)
      · exact ⟨pp c, ⟨by omega, Or.inl rfl⟩, Or.inl ⟨pst _, h⟩⟩
      · exact ⟨pp c, ⟨by omega, Or.inl rfl⟩, Or.inr ⟨k7, n, h⟩⟩

/-- the guard of leaf l over j steps -/
def sd_gd (kd pp qq pl wd : Nat → Nat) (cl nu : Nat → (Nat → Bool) → Prop) (par : Nat → Nat) (k : Bool) (l j : Nat) (s : Nat → Bool) : Prop :=
  (kd l = 1 ∨ s (pl l) = false) ∧ ∀ i, i < j → sd_ps kd pp qq pl wd cl nu k (sd_up par l (i + 1)) (sd_up par l i) s

theorem sd_ap_up (hp : ∀ c d, O c → sd_ch kd pp qq c d → par d = c) : ∀ (j c : Nat) (s t : Nat → Bool),
    sd_ap kd pp qq pl wd cl nu O k l j c s t → c = sd_up par l j := by
  intro j
  induction j with
  | zero => exact fun c s t h => h.1
  | succ j ih =>
    rintro c s t ⟨d, oc, ch, h⟩
    have e : d = sd_up par l j := by
      rcases h with ⟨_, h⟩ | ⟨_, _, h⟩
      · exact ih d s t h
      · exact ih d _ t h
    show c = par (sd_up par l j)
    rw [← e]
    exact (hp c d oc ch).symm

/-- the way stays inside -/
theorem sd_up_rg (ht : sd_tr kd pp qq pl wd O) {j : Nat}
    (hv : ∀ i, i < j → O (sd_up par l (i + 1)) ∧ sd_ch kd pp qq (sd_up par l (i + 1)) (sd_up par l i)) :
    ∀ i m, i + m ≤ j → pl (sd_up par l (i + m)) ≤ pl (sd_up par l i) ∧
      pl (sd_up par l i) + wd (sd_up par l i) ≤ pl (sd_up par l (i + m)) + wd (sd_up par l (i + m)) := by
  intro i m
  induction m with
  | zero => exact fun _ => ⟨Nat.le_refl _, Nat.le_refl _⟩
  | succ m ih =>
    intro h
    obtain ⟨a, b⟩ := ih (by omega)
    obtain ⟨oc, k4, ch⟩ := hv (i + m) (by omega)
    obtain ⟨_, _, e1, l1⟩ := sd_tp ht oc k4
    show pl (sd_up par l (i + m + 1)) ≤ _ ∧ _ ≤ pl (sd_up par l (i + m + 1)) + wd (sd_up par l (i + m + 1))
    rcases ch with e | ⟨k7, e⟩
    · rw [e] at a b; omega
    · obtain ⟨_, _, e2, e3, _⟩ := sd_tq ht oc k4 k7
      rw [e] at a b; omega

theorem sd_psL (ht : sd_tr kd pp qq pl wd O) (hc : sd_clE kd pp qq pl O cl) (hn : sd_nuE kd pp qq pl wd O nu)
    (hd : ∀ c, O c → 4 ≤ kd c → kd c ≠ 7 → pp c ≠ qq c) {c d : Nat} (oc : O c)
    (ch : sd_ch kd pp qq c d) {s t : Nat → Bool} (h : ∀ i, ¬ (pl d ≤ i ∧ i < pl d + wd d) → s i = t i) :
    sd_ps kd pp qq pl wd cl nu k c d s ↔ sd_ps kd pp qq pl wd cl nu k c d t := by
  by_cases k45 : kd c = 4 ∨ kd c = 5
  · obtain ⟨op, _, e1, l1⟩ := sd_tp ht oc ch.1
    obtain ⟨oq, _, e2, e3, _⟩ := sd_tq ht oc ch.1 (by omega)
    have ne := hd c oc ch.1 (by omega)
    rcases ch.2 with rfl | ⟨_, rfl⟩
    · have a : sd_ag (pl (qq c)) (wd (qq c)) s t := fun i h1 h2 => h i (by omega)
      unfold sd_ps
      rw [sd_unL a, sd_clL ht hc _ oq s t a]
      constructor
      · exact fun q => ⟨fun k => ⟨(q.1 k).1, fun z => absurd rfl z⟩, fun k k' => ⟨(q.2 k k').1, fun z => absurd rfl z⟩⟩
      · exact fun q => ⟨fun k => ⟨(q.1 k).1, fun z => absurd rfl z⟩, fun k k' => ⟨(q.2 k k').1, fun z => absurd rfl z⟩⟩
    · have a : sd_ag (pl (pp c)) (wd (pp c)) s t := fun i h1 h2 => h i (by omega)
      unfold sd_ps
      rw [sd_unL a, sd_nuL ht hn _ op s t a]
      constructor
      · exact fun q => ⟨fun k => ⟨fun z => absurd z.symm ne, (q.1 k).2⟩, fun k k' => ⟨fun z => absurd z.symm ne, (q.2 k k').2⟩⟩
      · exact fun q => ⟨fun k => ⟨fun z => absurd z.symm ne, (q.1 k).2⟩, fun k k' => ⟨fun z => absurd z.symm ne, (q.2 k k').2⟩⟩
  · exact ⟨fun _ => ⟨fun q => by omega, fun q => by omega⟩, fun _ => ⟨fun q => by omega, fun q => by omega⟩⟩

theorem sd_clr2 {s : Nat → Bool} {a w b v : Nat} (h1 : a ≤ b) (h2 : b + v ≤ a + w) : sd_clr (sd_clr s a w) b v = sd_clr s a w := by
  funext i
  by_cases hi : b ≤ i ∧ i < b + v
  · rw [sd_clr_i hi.1 hi.2, sd_clr_i (by omega) (by omega)]
  · rw [sd_clr_o hi]

/-- the climb: in the runs as they are, or one loop on the way starts anew -/
theorem sd_apX (ht : sd_tr kd pp qq pl wd O) (hc : sd_clE kd pp qq pl O cl) (hn : sd_nuE kd pp qq pl wd O nu)
    (hd : ∀ c, O c → 4 ≤ kd c → kd c ≠ 7 → pp c ≠ qq c) (hp : ∀ c d, O c → sd_ch kd pp qq c d → par d = c) :
    ∀ (j : Nat), (∀ i, i < j → O (sd_up par l (i + 1)) ∧ sd_ch kd pp qq (sd_up par l (i + 1)) (sd_up par l i)) →
    ∀ s t, (sd_ap kd pp qq pl wd cl nu O k l j (sd_up par l j) s t ↔
      (sd_gd kd pp qq pl wd cl nu par k l j s ∧ t = sd_set s (pl l)) ∨
      ∃ i, 1 ≤ i ∧ i ≤ j ∧ kd (sd_up par l i) = 7 ∧ nu (sd_up par l i) s ∧
        sd_gd kd pp qq pl wd cl nu par k l j (sd_clr s (pl (sd_up par l i)) (wd (sd_up par l i))) ∧
        t = sd_set (sd_clr s (pl (sd_up par l i)) (wd (sd_up par l i))) (pl l)) := by
  intro j
  induction j with
  | zero =>
    intro _ s t
    constructor
    · exact fun h => Or.inl ⟨⟨h.2.1, fun i hi => by omega⟩, h.2.2⟩
    · rintro (⟨h, e⟩ | ⟨i, h1, h2, _⟩)
      · exact ⟨rfl, h.1, e⟩
      · omega
  | succ j ih =>
    intro hv s t
    have hv' : ∀ i, i < j → O (sd_up par l (i + 1)) ∧ sd_ch kd pp qq (sd_up par l (i + 1)) (sd_up par l i) := fun i hi => hv i (by omega)
    obtain ⟨oc, ch⟩ := hv j (by omega)
    have rg := sd_up_rg ht hv
    -- one more step of a guard
    have gs : ∀ r, sd_gd kd pp qq pl wd cl nu par k l (j + 1) r ↔
        sd_ps kd pp qq pl wd cl nu k (sd_up par l (j + 1)) (sd_up par l j) r ∧ sd_gd kd pp qq pl wd cl nu par k l j r := by
      intro r
      constructor
      · exact fun h => ⟨h.2 j (by omega), h.1, fun i hi => h.2 i (by omega)⟩
      · rintro ⟨a, b, c⟩
        refine ⟨b, fun i hi => ?_⟩
        by_cases e : i = j
        · rw [e]; exact a
        · exact c i (by omega)
    -- the step up doesn't see what lies below
    have pc : ∀ i, i ≤ j → (sd_ps kd pp qq pl wd cl nu k (sd_up par l (j + 1)) (sd_up par l j) (sd_clr s (pl (sd_up par l i)) (wd (sd_up par l i))) ↔
        sd_ps kd pp qq pl wd cl nu k (sd_up par l (j + 1)) (sd_up par l j) s) := by
      intro i hi
      refine sd_psL ht hc hn hd oc ch (fun m hm => sd_clr_o ?_)
      have := rg i (j - i) (by omega)
      rw [show i + (j - i) = j by omega] at this
      omega
    constructor
    · rintro ⟨d, _, chd, h⟩
      have ed : d = sd_up par l j := by
        rcases h with ⟨_, h⟩ | ⟨_, _, h⟩
        · exact sd_ap_up hp j d s t h
        · exact sd_ap_up hp j d _ t h
      subst ed
      rcases h with ⟨p, h⟩ | ⟨k7, n7, h⟩
      · rcases (ih hv' s t).1 h with ⟨g, e⟩ | ⟨i, h1, h2, h3, h4, h5, h6⟩
        · exact Or.inl ⟨(gs s).2 ⟨p, g⟩, e⟩
        · exact Or.inr ⟨i, h1, by omega, h3, h4, (gs _).2 ⟨(pc i h2).2 p, h5⟩, h6⟩
      · have p7 : ∀ r, sd_ps kd pp qq pl wd cl nu k (sd_up par l (j + 1)) (sd_up par l j) r := fun r => ⟨fun q => by omega, fun q => by omega⟩
        refine Or.inr ⟨j + 1, by omega, by omega, k7, n7, ?_⟩
        rcases (ih hv' _ t).1 h with ⟨g, e⟩ | ⟨i, h1, h2, h3, h4, h5, h6⟩
        · exact ⟨(gs _).2 ⟨p7 _, g⟩, e⟩
        · have := rg i (j + 1 - i) (by omega)
          rw [show i + (j + 1 - i) = j + 1 by omega] at this
          rw [sd_clr2 this.1 this.2] at h5 h6
          exact ⟨(gs _).2 ⟨p7 _, h5⟩, h6⟩
    · rintro (⟨g, e⟩ | ⟨i, h1, h2, h3, h4, h5, h6⟩)
      · obtain ⟨p, g⟩ := (gs s).1 g
        exact ⟨_, oc, ch, Or.inl ⟨p, (ih hv' s t).2 (Or.inl ⟨g, e⟩)⟩⟩
      · obtain ⟨p, g⟩ := (gs _).1 h5
        by_cases e : i = j + 1
        · subst e
          exact ⟨_, oc, ch, Or.inr ⟨h3, h4, (ih hv' _ t).2 (Or.inl ⟨g, h6⟩)⟩⟩
        · exact ⟨_, oc, ch, Or.inl ⟨(pc i (by omega)).1 p, (ih hv' s t).2 (Or.inr ⟨i, h1, by omega, h3, h4, g, h6⟩)⟩⟩
end
end
section
/-! Sets of residuals as longs -/
def sd_mk (s : Nat → Bool) : Nat → Nat
  | 0 => 0
  | n + 1 => sd_mk s n ||| (if s n then 2 ^ n else 0)
theorem sd_mk_t (s : Nat → Bool) : ∀ n i, (sd_mk s n).testBit i = (decide (i < n) && s i) := by
  intro n
  induction n with
  | zero => intro i; simp [sd_mk]
  | succ n ih =>
    intro i
    rw [sd_mk, Nat.testBit_or, ih i]
    by_cases e : i = n
    · subst e
      cases s i <;> simp
    · have : decide (i < n + 1) = decide (i < n) := by
        by_cases h : i < n
        · simp [h]; omega
        · simp [h]; omega
      rw [this]
      cases s n <;> simp [Nat.testBit_two_pow]
      intro h; omega
theorem sd_mk_lt (s : Nat → Bool) : ∀ n, sd_mk s n < 2 ^ n := by
  intro n
  refine Nat.lt_pow_two_of_testBit _ (fun i hi => ?_)
  rw [sd_mk_t, decide_eq_false (by omega)]; rfl
theorem sd_mk_of {r n : Nat} (h : r < 2 ^ n) : sd_mk (fun i => r.testBit i) n = r := by
  refine Nat.eq_of_testBit_eq (fun i => ?_)
  rw [sd_mk_t]
  by_cases hi : i < n
  · rw [decide_eq_true hi]; rfl
  · rw [decide_eq_false hi, Nat.testBit_lt_two_pow (Nat.lt_of_lt_of_le h (Nat.pow_le_pow_right (by decide) (by omega)))]; rfl
theorem sd_mk_cg {s t : Nat → Bool} {n : Nat} (h : ∀ i, i < n → s i = t i) : sd_mk s n = sd_mk t n := by
  refine Nat.eq_of_testBit_eq (fun i => ?_)
  rw [sd_mk_t, sd_mk_t]
  by_cases hi : i < n
  · rw [h i hi]
  · rw [decide_eq_false hi]; rfl
theorem sd_mk_eq {s : Nat → Bool} {n r : Nat} (h1 : r < 2 ^ n) (h : ∀ i, i < n → r.testBit i = s i) : sd_mk s n = r := by
  rw [← sd_mk_of h1]
  exact sd_mk_cg (fun i hi => (h i hi).symm)
def sd_S6 (s : Nat → Bool) : Prop := ∀ i, 6 ≤ i → s i = false
theorem sd_S6_x {s t : Nat → Bool} (hs : sd_S6 s) (ht : sd_S6 t) (h : ∀ i, i < 6 → s i = t i) : s = t := by
  funext i
  by_cases hi : i < 6
  · exact h i hi
  · rw [hs i (by omega), ht i (by omega)]
theorem sd_S6_of (r : Nat) (h : r < 64) : sd_S6 (fun i => r.testBit i) := fun i hi =>
  Nat.testBit_lt_two_pow (Nat.lt_of_lt_of_le (show r < 2 ^ 6 from h) (Nat.pow_le_pow_right (by decide) hi))
theorem sd_S6_set {s : Nat → Bool} {i : Nat} (h : sd_S6 s) (hi : i < 6) : sd_S6 (sd_set s i) := fun j hj => by
  rw [sd_set_n (by omega)]; exact h j hj
theorem sd_S6_off {s : Nat → Bool} {i : Nat} (h : sd_S6 s) : sd_S6 (sd_off s i) := fun j hj => by
  by_cases e : j = i
  · rw [e, sd_off_s]
  · rw [sd_off_n e]; exact h j hj
theorem sd_S6_e : sd_S6 sd_e := fun _ _ => rfl
def sd_lb (w : Int64) (s : Nat → Bool) : Prop := w.toBitVec.getLsbD (sd_mk s 6) = true
theorem sd_mk6 (s : Nat → Bool) : sd_mk s 6 < 64 := sd_mk_lt s 6
theorem sd_lb_cg {w : Int64} {s t : Nat → Bool} (h : ∀ i, i < 6 → s i = t i) : sd_lb w s ↔ sd_lb w t := by
  unfold sd_lb; rw [sd_mk_cg h]
theorem sd_lb_and (a b : Int64) (s : Nat → Bool) : sd_lb (a &&& b) s ↔ sd_lb a s ∧ sd_lb b s := by
  unfold sd_lb; rw [Int64.toBitVec_and, BitVec.getLsbD_and, Bool.and_eq_true]
theorem sd_lb_or (a b : Int64) (s : Nat → Bool) : sd_lb (a ||| b) s ↔ sd_lb a s ∨ sd_lb b s := by
  unfold sd_lb; rw [Int64.toBitVec_or, BitVec.getLsbD_or, Bool.or_eq_true]
theorem sd_lb_m1 (s : Nat → Bool) : sd_lb (-1) s := by
  unfold sd_lb
  exact (by decide +kernel : ∀ r, r < 64 → (-1 : Int64).toBitVec.getLsbD r = true) _ (sd_mk6 s)
theorem sd_lb_0 (s : Nat → Bool) : ¬ sd_lb 0 s := by
  unfold sd_lb
  rw [show (0 : Int64).toBitVec = 0#64 from rfl, BitVec.getLsbD_zero]
  exact fun h => by cases h
theorem sd_lb_not (a : Int64) (s : Nat → Bool) : sd_lb (a ^^^ (-1)) s ↔ ¬ sd_lb a s := by
  have h := sd_lb_m1 s
  unfold sd_lb at h ⊢
  rw [Int64.toBitVec_xor, BitVec.getLsbD_xor, h]
  cases a.toBitVec.getLsbD (sd_mk s 6) <;> simp
theorem sd_lb_1 (s : Nat → Bool) : sd_lb 1 s ↔ ∀ i, i < 6 → s i = false := by
  unfold sd_lb
  have e := (by decide +kernel : ∀ r, r < 64 → (1 : Int64).toBitVec.getLsbD r = decide (r = 0)) _ (sd_mk6 s)
  rw [e, decide_eq_true_eq]
  constructor
  · intro h i hi
    have := sd_mk_t s 6 i
    rw [h, Nat.zero_testBit, decide_eq_true hi] at this
    exact this.symm
  · intro h
    refine sd_mk_eq (by decide) (fun i hi => ?_)
    rw [Nat.zero_testBit, h i hi]
theorem sd_ext {a b : Int64} (h : ∀ s, sd_S6 s → (sd_lb a s ↔ sd_lb b s)) : a = b := by
  refine Int64.toBitVec_inj.mp (BitVec.eq_of_getLsbD_eq (fun r hr => ?_))
  have := h (fun i => r.testBit i) (sd_S6_of r hr)
  unfold sd_lb at this
  rw [sd_mk_of (show r < 2 ^ 6 from hr)] at this
  revert this
  cases a.toBitVec.getLsbD r <;> cases b.toBitVec.getLsbD r <;> simp
theorem sd_ne0 (w : Int64) : ¬ w = 0 ↔ ∃ s, sd_S6 s ∧ sd_lb w s := by
  constructor
  · intro h
    refine Classical.byContradiction (fun q => h (sd_ext (fun s hs => ?_)))
    exact ⟨fun z => absurd ⟨s, hs, z⟩ q, fun z => absurd z (sd_lb_0 s)⟩
  · rintro ⟨s, _, h⟩ e
    rw [e] at h
    exact sd_lb_0 s h
theorem sd_eq0 (w : Int64) : w = 0 ↔ ∀ s, sd_S6 s → ¬ sd_lb w s := by
  constructor
  · rintro rfl s _ h
    exact sd_lb_0 s h
  · intro h
    refine Classical.byContradiction (fun q => ?_)
    obtain ⟨s, hs, hw⟩ := (sd_ne0 w).1 q
    exact h s hs hw
/-- column i: the residuals in which leaf i is used -/
def sd_colE (col : Nat → Int64) : Prop := ∀ i, i < 6 → ∀ s, sd_lb (col i) s ↔ s i = true
theorem sd_sh_i : ∀ i, i < 6 → ((1 : Int32) <<< (nI i &&& 31)).toInt64 &&& 63 = lN (2 ^ i) := by decide +kernel
theorem sd_sh_u : ∀ i, i < 6 → (((1 : Int32) <<< (nI i &&& 31)).toInt64.toUInt64 &&& Int64.toUInt64 63) = UInt64.ofNat (2 ^ i) := by decide +kernel
theorem sd_sh_s : ∀ i, i < 6 → ((lN (2 ^ i)).toBitVec.smod 64).toNat = 2 ^ i := by decide +kernel
theorem sd_d1 : ∀ i, i < 6 → ∀ r, r < 64 → r.testBit i = true → 2 ^ i ≤ r ∧ ∀ j, j < 6 → (r - 2 ^ i).testBit j = (if j = i then false else r.testBit j) := by decide +kernel
theorem sd_d2 : ∀ i, i < 6 → ∀ r, r < 64 → r.testBit i = false → 2 ^ i ≤ r → (r - 2 ^ i).testBit i = true := by decide +kernel
theorem sd_d3 : ∀ i, i < 6 → ∀ r, r < 64 → r.testBit i = false → r + 2 ^ i < 64 ∧ ∀ j, j < 6 → (r + 2 ^ i).testBit j = (if j = i then true else r.testBit j) := by decide +kernel
theorem sd_d4 : ∀ i, i < 6 → ∀ r, r < 64 → r.testBit i = true → (r + 2 ^ i).testBit i = false := by decide +kernel
theorem sd_shl_g {w : Int64} {i r : Nat} (hi : i < 6) (hr : r < 64) :
    (w <<< (((1 : Int32) <<< (nI i &&& 31)).toInt64 &&& 63)).toBitVec.getLsbD r = (decide (2 ^ i ≤ r) && w.toBitVec.getLsbD (r - 2 ^ i)) := by
  rw [sd_sh_i i hi, Int64.toBitVec_shiftLeft]
  show (w.toBitVec <<< ((lN (2 ^ i)).toBitVec.smod 64).toNat).getLsbD r = _
  rw [sd_sh_s i hi, BitVec.getLsbD_shiftLeft]
  rcases Nat.lt_or_ge r (2 ^ i) with h | h
  · simp [h, Nat.not_le.mpr h]
  · simp [hr, h, Nat.not_lt.mpr h]
theorem sd_p64 : ∀ i, i < 6 → 2 ^ i < 64 := by decide +kernel
theorem sd_shr_g {w : Int64} {i r : Nat} (hi : i < 6) :
    (w.toUInt64 >>> (((1 : Int32) <<< (nI i &&& 31)).toInt64.toUInt64 &&& Int64.toUInt64 63)).toInt64.toBitVec.getLsbD r = w.toBitVec.getLsbD (2 ^ i + r) := by
  have p := sd_p64 i hi
  have e : (w.toUInt64 >>> UInt64.ofNat (2 ^ i)).toInt64.toBitVec = w.toBitVec >>> (2 ^ i) := by
    apply BitVec.eq_of_toNat_eq
    show (w.toUInt64 >>> UInt64.ofNat (2 ^ i)).toNat = _
    rw [UInt64.toNat_shiftRight, u_tn (by omega), Nat.mod_eq_of_lt p, BitVec.toNat_ushiftRight]
    rfl
  rw [sd_sh_u i hi, e, BitVec.getLsbD_ushiftRight]
theorem sd_gl {w : Int64} {r : Nat} (hr : r < 64) : w.toBitVec.getLsbD r = true ↔ sd_lb w (fun i => r.testBit i) := by
  unfold sd_lb; rw [sd_mk_of (show r < 2 ^ 6 from hr)]

/-- taking an item at leaf i -/
theorem sd_con {col : Nat → Int64} (hc : sd_colE col) (w : Int64) {i : Nat} (hi : i < 6) {t : Nat → Bool} (ht : sd_S6 t) :
    sd_lb ((w &&& col i) ||| ((w &&& (col i ^^^ (-1))) <<< (((1 : Int32) <<< (nI i &&& 31)).toInt64 &&& 63))) t ↔
      ∃ s, sd_S6 s ∧ sd_lb w s ∧ t = sd_set s i := by
  have hr := sd_mk6 t
  have tb : ∀ j, j < 6 → (sd_mk t 6).testBit j = t j := fun j hj => by rw [sd_mk_t, decide_eq_true hj]; rfl
  rw [sd_lb_or, sd_lb_and, hc i hi t]
  have hs : sd_lb ((w &&& (col i ^^^ (-1))) <<< (((1 : Int32) <<< (nI i &&& 31)).toInt64 &&& 63)) t ↔ t i = true ∧ sd_lb w (sd_off t i) := by
    unfold sd_lb
    rw [sd_shl_g hi hr, Bool.and_eq_true, decide_eq_true_eq]
    have lt : sd_mk t 6 - 2 ^ i < 64 := Nat.lt_of_le_of_lt (Nat.sub_le _ _) hr
    rw [sd_gl lt, sd_lb_and, sd_lb_not, hc i hi]
    by_cases ti : t i = true
    · obtain ⟨d, dj⟩ := sd_d1 i hi _ hr (by rw [tb i hi]; exact ti)
      have cg : ∀ j, j < 6 → (fun i_1 => (sd_mk t 6 - 2 ^ i).testBit i_1) j = sd_off t i j := fun j hj => by
        show (sd_mk t 6 - 2 ^ i).testBit j = _
        rw [dj j hj, tb j hj]; rfl
      rw [sd_lb_cg cg]
      have z : (sd_mk t 6 - 2 ^ i).testBit i = false := (cg i hi).trans sd_off_s
      rw [z]
      exact ⟨fun q => ⟨ti, q.2.1⟩, fun q => ⟨d, q.2, fun e => by cases e⟩⟩
    · have tf := sd_nf ti
      constructor
      · rintro ⟨q1, q2, q3⟩
        exact absurd (sd_d2 i hi _ hr (by rw [tb i hi]; exact tf) q1) q3
      · exact fun q => absurd q.1 ti
  rw [hs]
  constructor
  · rintro (⟨a, b⟩ | ⟨a, b⟩)
    · exact ⟨t, ht, a, by funext j; by_cases e : j = i; rw [e, sd_set_s]; exact b; rw [sd_set_n e]⟩
    · refine ⟨sd_off t i, sd_S6_off ht, b, ?_⟩
      funext j
      by_cases e : j = i
      · rw [e, sd_set_s]; exact a
      · rw [sd_set_n e, sd_off_n e]
  · rintro ⟨s, hs6, hw, rfl⟩
    by_cases si : s i = true
    · refine Or.inl ⟨?_, sd_set_s⟩
      have : sd_set s i = s := by
        funext j
        by_cases e : j = i
        · rw [e, sd_set_s]; exact si.symm
        · rw [sd_set_n e]
      rw [this]; exact hw
    · refine Or.inr ⟨sd_set_s, ?_⟩
      have : sd_off (sd_set s i) i = s := by
        funext j
        by_cases e : j = i
        · rw [e, sd_off_s]; exact (sd_nf si).symm
        · rw [sd_off_n e, sd_set_n e]
      rw [this]; exact hw
/-- clearing leaf i -/
theorem sd_cle {col : Nat → Int64} (hc : sd_colE col) (w : Int64) {i : Nat} (hi : i < 6) {t : Nat → Bool} (ht : sd_S6 t) :
    sd_lb ((w &&& (col i ^^^ (-1))) ||| (((w &&& col i).toUInt64 >>> (((1 : Int32) <<< (nI i &&& 31)).toInt64.toUInt64 &&& Int64.toUInt64 63)).toInt64)) t ↔
      ∃ s, sd_S6 s ∧ sd_lb w s ∧ t = sd_off s i := by
  have hr := sd_mk6 t
  have tb : ∀ j, j < 6 → (sd_mk t 6).testBit j = t j := fun j hj => by rw [sd_mk_t, decide_eq_true hj]; rfl
  rw [sd_lb_or, sd_lb_and, sd_lb_not, hc i hi t]
  have hs : sd_lb (((w &&& col i).toUInt64 >>> (((1 : Int32) <<< (nI i &&& 31)).toInt64.toUInt64 &&& Int64.toUInt64 63)).toInt64) t ↔ t i = false ∧ sd_lb w (sd_set t i) := by
    unfold sd_lb
    rw [sd_shr_g hi, Nat.add_comm]
    by_cases ti : t i = true
    · constructor
      · intro q
        by_cases lt : sd_mk t 6 + 2 ^ i < 64
        · rw [sd_gl lt, sd_lb_and, hc i hi] at q
          have := sd_d4 i hi _ hr (by rw [tb i hi]; exact ti)
          rw [this] at q
          cases q.2
        · rw [BitVec.getLsbD_of_ge _ _ (by omega)] at q
          cases q
      · intro q; rw [ti] at q; cases q.1
    · have tf := sd_nf ti
      obtain ⟨lt, dj⟩ := sd_d3 i hi _ hr (by rw [tb i hi]; exact tf)
      have cg : ∀ j, j < 6 → (fun i_1 => (sd_mk t 6 + 2 ^ i).testBit i_1) j = sd_set t i j := fun j hj => by
        show (sd_mk t 6 + 2 ^ i).testBit j = _
        rw [dj j hj, tb j hj]; rfl
      rw [sd_gl lt, sd_lb_and, hc i hi, sd_lb_cg cg]
      have z : (sd_mk t 6 + 2 ^ i).testBit i = true := (cg i hi).trans sd_set_s
      rw [z]
      exact ⟨fun q => ⟨tf, q.1⟩, fun q => ⟨q.2, rfl⟩⟩
  rw [hs]
  constructor
  · rintro (⟨a, b⟩ | ⟨a, b⟩)
    · refine ⟨t, ht, a, ?_⟩
      funext j
      by_cases e : j = i
      · rw [e, sd_off_s]; exact sd_nf b
      · rw [sd_off_n e]
    · refine ⟨sd_set t i, sd_S6_set ht hi, b, ?_⟩
      funext j
      by_cases e : j = i
      · rw [e, sd_off_s]; exact a
      · rw [sd_off_n e, sd_set_n e]
  · rintro ⟨s, hs6, hw, rfl⟩
    by_cases si : s i = true
    · refine Or.inr ⟨sd_off_s, ?_⟩
      have : sd_set (sd_off s i) i = s := by
        funext j
        by_cases e : j = i
        · rw [e, sd_set_s]; exact si.symm
        · rw [sd_set_n e, sd_off_n e]
      rw [this]; exact hw
    · refine Or.inl ⟨?_, fun q => by rw [sd_off_s] at q; cases q⟩
      have : sd_off s i = s := by
        funext j
        by_cases e : j = i
        · rw [e, sd_off_s]; exact (sd_nf si).symm
        · rw [sd_off_n e]
      rw [this]; exact hw
end
section
/-! X: the methods that read: consume, restart, advance, passage, guardOf -/
/-- a leaf at place i takes an item -/
def sx_cv (c w : Int64) (i : Nat) : Int64 := (w &&& c) ||| ((w &&& (c ^^^ (-1))) <<< (((1 : Int32) <<< (nI i &&& 31)).toInt64 &&& 63))
def sx_rv (c w : Int64) (i : Nat) : Int64 := (w &&& (c ^^^ (-1))) ||| (((w &&& c).toUInt64 >>> (((1 : Int32) <<< (nI i &&& 31)).toInt64.toUInt64 &&& Int64.toUInt64 63)).toInt64)
theorem sx_b31 {i N : Nat} (h : i < N) (hN : N ≤ 2 ^ 31 := by decide) : i < 2 ^ 31 := Nat.lt_of_lt_of_le h hN
theorem sx_cl {i : Nat} (N : Nat) (h : i < N) (hN : N ≤ 2 ^ 31 := by decide) : (nI i).toNatClampNeg = i := nI_clamp (Nat.lt_of_lt_of_le h hN)
theorem sx_clr0 (s : Nat → Bool) (a : Nat) : sd_clr s a 0 = s := by
  funext j; exact sd_clr_o (by omega)
theorem sx_clrS (s : Nat → Bool) (a d : Nat) : sd_clr (sd_off s a) (a + 1) d = sd_clr s a (d + 1) := by
  funext j
  by_cases h : a + 1 ≤ j ∧ j < a + 1 + d
  · rw [sd_clr_i h.1 h.2, sd_clr_i (by omega) (by omega)]
  · rw [sd_clr_o h]
    by_cases e : j = a
    · rw [e, sd_off_s, sd_clr_i (by omega) (by omega)]
    · rw [sd_off_n e, sd_clr_o (by omega)]
theorem sx_S6clr {s : Nat → Bool} {a w : Nat} (h : sd_S6 s) : sd_S6 (sd_clr s a w) := fun j hj => by
  by_cases e : a ≤ j ∧ j < a + w
  · exact sd_clr_i e.1 e.2
  · rw [sd_clr_o e]; exact h j hj
section
variable {f_cellLimit f_definitionLimit f_depthLimit f_itemLimit f_cellCount f_definedCount f_live f_state f_depth : Int32}
variable {a_kinds a_firsts a_seconds a_widths a_uses a_parents a_attributed a_owners a_places a_contents a_items a_names a_late : Nat → Int32} {a_columns a_unused a_childless a_nullable a_growEarly a_growLate a_guards a_residuals a_next : Nat → Int64}
theorem sx_consume {post : Int64 → Prop} {w : Int64} {x : Int32} {i : Nat} (hx : vp_in x 24) (hp : a_places x.toNatClampNeg = nI i) (hi : i < 6)
    (h : post (sx_cv (a_columns i) (w &&& a_guards x.toNatClampNeg) i)) : wpX_consume post (f_cellLimit, f_definitionLimit, f_depthLimit, f_itemLimit, f_cellCount, f_definedCount, f_live, f_state, f_depth, a_kinds, a_firsts, a_seconds, a_widths, a_uses, a_parents, a_attributed, a_owners, a_places, a_contents, a_columns, a_unused, a_childless, a_nullable, a_growEarly, a_growLate, a_guards, a_items, a_names, a_late, a_residuals, a_next) w x := by
  unfold wpX_consume
  refine And.intro hx (nm_r hp (And.intro hx (nm_e ?_)))
  rw [sx_cl 6 hi]
  exact ⟨vp_in_nI hi (by decide), vp_in_nI hi (by decide), h⟩

theorem sx_restartL (hc : sd_colE a_columns) : ∀ (d i : Nat) (w : Int64), i + d ≤ 6 → ∃ r, (∀ t, sd_S6 t → (sd_lb r t ↔ ∃ s, sd_S6 s ∧ sd_lb w s ∧ t = sd_clr s i d)) ∧
    ∀ n, d < n → ∀ post : Int64 → Prop, post r → wX_restart_33 post (nI (i + d)) f_cellLimit f_definitionLimit f_depthLimit f_itemLimit f_cellCount f_definedCount f_live f_state f_depth a_kinds a_firsts a_seconds a_widths a_uses a_parents a_attributed a_owners a_places a_contents a_columns a_unused a_childless a_nullable a_growEarly a_growLate a_guards a_items a_names a_late a_residuals a_next n w (nI i) := by
  intro d
  induction d with
  | zero =>
    intro i w hi
    refine ⟨w, fun t ht => ⟨fun h => ⟨t, ht, h, (sx_clr0 t i).symm⟩, ?_⟩, ?_⟩
    · rintro ⟨s, _, h, e⟩
      rw [sx_clr0] at e
      rw [e]; exact h
    · intro n hn post hp
      cases n with
      | zero => omega
      | succ n => exact br_t (nI_le (by omega) (by omega)) hp
  | succ d ih =>
    intro i w hi
    obtain ⟨r, hr, hw⟩ := ih (i + 1) (sx_rv (a_columns i) w i) (by omega)
    refine ⟨r, fun t ht => ?_, ?_⟩
    · rw [hr t ht]
      constructor
      · rintro ⟨s, hs, h, e⟩
        obtain ⟨s', h1, h2, h3⟩ := (sd_cle hc w (by omega) hs).1 h
        exact ⟨s', h1, h2, by rw [e, h3, sx_clrS]⟩
      · rintro ⟨s, hs, h, e⟩
        exact ⟨sd_off s i, sd_S6_off hs, (sd_cle hc w (by omega) (sd_S6_off hs)).2 ⟨s, hs, h, rfl⟩, by rw [e, sx_clrS]⟩
    · intro n hn post hp
      cases n with
      | zero => omega
      | succ n =>
        have e1 : ¬ nI (i + (d + 1)) ≤ nI i := nI_ge (by omega) (by omega)
        have e2 : ¬ (6 : Int32) ≤ nI i := nI_ge (b := 6) (by omega) (by decide)
        have hv : vp_in (nI i) 6 := vp_in_nI (by omega) (by decide)
        refine br_f e1 (br_f e2 (And.intro hv (And.intro hv (nm_e ?_))))
        rw [sx_cl 6 (show i < 6 by omega)]
        refine nm_r (nI_1 i) ?_
        have := hw n (by omega) post hp
        rw [show i + 1 + d = i + (d + 1) by omega] at this
        exact this
theorem sx_restart (hc : sd_colE a_columns) {w : Int64} {x : Int32} {a m : Nat} (hx : vp_in x 24) (hp : a_places x.toNatClampNeg = nI a)
    (hw : a_widths x.toNatClampNeg = nI m) (h6 : a + m ≤ 6) :
    ∃ r, (∀ t, sd_S6 t → (sd_lb r t ↔ ∃ s, sd_S6 s ∧ sd_lb w s ∧ sd_lb (a_nullable x.toNatClampNeg) s ∧ t = sd_clr s a m)) ∧
      ∀ post : Int64 → Prop, post r → wpX_restart post (f_cellLimit, f_definitionLimit, f_depthLimit, f_itemLimit, f_cellCount, f_definedCount, f_live, f_state, f_depth, a_kinds, a_firsts, a_seconds, a_widths, a_uses, a_parents, a_attributed, a_owners, a_places, a_contents, a_columns, a_unused, a_childless, a_nullable, a_growEarly, a_growLate, a_guards, a_items, a_names, a_late, a_residuals, a_next) w x := by
  obtain ⟨r, hr, hk⟩ := sx_restartL (f_cellLimit := f_cellLimit) (f_definitionLimit := f_definitionLimit) (f_depthLimit := f_depthLimit) (f_itemLimit := f_itemLimit) (f_cellCount := f_cellCount) (f_definedCount := f_definedCount) (f_live := f_live) (f_state := f_state) (f_depth := f_depth) (a_kinds := a_kinds) (a_firsts := a_firsts) (a_seconds := a_seconds) (a_widths := a_widths) (a_uses := a_uses) (a_parents := a_parents) (a_attributed := a_attributed) (a_owners := a_owners) (a_places := a_places) (a_contents := a_contents) (a_columns := a_columns) (a_unused := a_unused) (a_childless := a_childless) (a_nullable := a_nullable) (a_growEarly := a_growEarly) (a_growLate := a_growLate) (a_guards := a_guards) (a_items := a_items) (a_names := a_names) (a_late := a_late) (a_residuals := a_residuals) (a_next := a_next) hc m a (w &&& a_nullable x.toNatClampNeg) h6
  refine ⟨r, fun t ht => ?_, fun post h => ?_⟩
  · rw [hr t ht]
    constructor
    · rintro ⟨s, h1, h2, h3⟩
      rw [sd_lb_and] at h2
      exact ⟨s, h1, h2.1, h2.2, h3⟩
    · rintro ⟨s, h1, h2, h4, h3⟩
      exact ⟨s, h1, (sd_lb_and _ _ _).2 ⟨h2, h4⟩, h3⟩
  · unfold wpX_restart
    refine And.intro hx (nm_e (And.intro hx (And.intro hx (nm_r (e' := nI (a + m)) (by rw [hp, hw, nI_add]) (And.intro hx (nm_r hp ?_))))))
    exact ⟨m + 1, hk (m + 1) (by omega) post h⟩

/-- the way up from a leaf: J steps, then no parent -/
def sx_way (par : Nat → Int32) (c : Nat → Nat) (J : Nat) : Prop :=
  J < 24 ∧ (∀ i, i ≤ J → c i < 24) ∧ (∀ i, i < J → par (c i) = nI (c (i + 1))) ∧ par (c J) = -1
/-- what loops on the way give -/
def sx_adv (nul gd : Nat → Int64) (kd pl wd : Nat → Nat) (c : Nat → Nat) (i : Nat) (w : Int64) (t : Nat → Bool) : Prop :=
  kd (c i) = 7 ∧ ∃ s, sd_S6 s ∧ sd_lb w s ∧ sd_lb (nul (c i)) s ∧ sd_lb (gd (c 0)) (sd_clr s (pl (c i)) (wd (c i))) ∧
    t = sd_set (sd_clr s (pl (c i)) (wd (c i))) (pl (c 0))
theorem sx_conB (hc : sd_colE a_columns) {w g : Int64} {i : Nat} (hi : i < 6) {t : Nat → Bool} (ht : sd_S6 t) :
    sd_lb (sx_cv (a_columns i) (w &&& g) i) t ↔ ∃ s, sd_S6 s ∧ sd_lb w s ∧ sd_lb g s ∧ t = sd_set s i := by
  refine (sd_con hc (w &&& g) hi ht).trans ?_
  constructor
  · rintro ⟨s, h1, h2, h3⟩
    rw [sd_lb_and] at h2
    exact ⟨s, h1, h2.1, h2.2, h3⟩
  · rintro ⟨s, h1, h2, h4, h3⟩
    exact ⟨s, h1, (sd_lb_and _ _ _).2 ⟨h2, h4⟩, h3⟩
theorem sx_advL (hc : sd_colE a_columns) {c : Nat → Nat} {J : Nat} (hy : sx_way a_parents c J) {kd pl wd : Nat → Nat}
    (hk : ∀ i, i ≤ J → kd (c i) < 8 ∧ a_kinds (c i) = nI (kd (c i)) ∧ a_places (c i) = nI (pl (c i)) ∧ a_widths (c i) = nI (wd (c i)) ∧ pl (c i) + wd (c i) ≤ 6)
    (h0 : pl (c 0) < 6) {w : Int64} : ∀ (d i : Nat) (acc : Int64), i + d = J → ∃ r,
      (∀ t, sd_S6 t → (sd_lb r t ↔ sd_lb acc t ∨ ∃ m, i < m ∧ m ≤ J ∧ sx_adv a_nullable a_guards kd pl wd c m w t)) ∧
      ∀ n, d + 1 < n → ∀ post : Int64 → Prop, post r → wX_advance_19 post w (nI (c 0)) f_cellLimit f_definitionLimit f_depthLimit f_itemLimit f_cellCount f_definedCount f_live f_state f_depth a_kinds a_firsts a_seconds a_widths a_uses a_parents a_attributed a_owners a_places a_contents a_columns a_unused a_childless a_nullable a_growEarly a_growLate a_guards a_items a_names a_late a_residuals a_next n acc (a_parents (c i)) (nI i) := by
  obtain ⟨hJ, hl, hP, hR⟩ := hy
  intro d
  induction d with
  | zero =>
    intro i acc hi
    have e : i = J := by omega
    subst e
    refine ⟨acc, fun t ht => ⟨fun h => Or.inl h, fun h => h.elim id (fun ⟨m, h1, h2, _⟩ => by omega)⟩, ?_⟩
    intro n hn post hp
    cases n with
    | zero => omega
    | succ n =>
      rw [hR]
      exact br_f (nI_ge (b := 24) (by omega) (by decide)) (br_t (by decide) hp)
  | succ d ih =>
    intro i acc hi
    have hP' := hP i (by omega)
    have hl' := hl (i + 1) (by omega)
    obtain ⟨k8, hkk, hkp, hkw, h6⟩ := hk (i + 1) (by omega)
    have ec : (nI (c (i + 1))).toNatClampNeg = c (i + 1) := sx_cl 24 hl'
    have hv : vp_in (nI (c (i + 1))) 24 := vp_in_nI hl' (by decide)
    have hv0 : vp_in (nI (c 0)) 24 := vp_in_nI (hl 0 (by omega)) (by decide)
    have ec0 : (nI (c 0)).toNatClampNeg = c 0 := sx_cl 24 (hl 0 (by omega))
    have e1 : ¬ (24 : Int32) ≤ nI i := nI_ge (b := 24) (by omega) (by decide)
    have e2 : ¬ nI (c (i + 1)) < 0 := nI_pos (by omega)
    by_cases k7 : kd (c (i + 1)) = 7
    · obtain ⟨r1, hr1, hw1⟩ := sx_restart (f_cellLimit := f_cellLimit) (f_definitionLimit := f_definitionLimit) (f_depthLimit := f_depthLimit) (f_itemLimit := f_itemLimit) (f_cellCount := f_cellCount) (f_definedCount := f_definedCount) (f_live := f_live) (f_state := f_state) (f_depth := f_depth) (a_kinds := a_kinds) (a_firsts := a_firsts) (a_seconds := a_seconds) (a_widths := a_widths) (a_uses := a_uses) (a_parents := a_parents) (a_attributed := a_attributed) (a_owners := a_owners) (a_places := a_places) (a_contents := a_contents) (a_columns := a_columns) (a_unused := a_unused) (a_childless := a_childless) (a_nullable := a_nullable) (a_growEarly := a_growEarly) (a_growLate := a_growLate) (a_guards := a_guards) (a_items := a_items) (a_names := a_names) (a_late := a_late) (a_residuals := a_residuals) (a_next := a_next) hc (w := w) (x := nI (c (i + 1))) hv (by rw [ec]; exact hkp) (by rw [ec]; exact hkw) h6
      obtain ⟨r, hr, hw⟩ := ih (i + 1) (acc ||| sx_cv (a_columns (pl (c 0))) (r1 &&& a_guards (c 0)) (pl (c 0))) (by omega)
      refine ⟨r, fun t ht => ?_, ?_⟩
      · rw [hr t ht, sd_lb_or, sx_conB hc h0 ht]
        constructor
        · rintro ((h | ⟨s, h1, h2, h3, h4⟩) | ⟨m, h1, h2, h3⟩)
          · exact Or.inl h
          · obtain ⟨s', g1, g2, g3, g4⟩ := (hr1 s h1).1 h2
            rw [ec] at g3
            refine Or.inr ⟨i + 1, by omega, by omega, k7, s', g1, g2, g3, ?_, ?_⟩
            · rw [← g4]; exact h3
            · rw [← g4]; exact h4
          · exact Or.inr ⟨m, by omega, h2, h3⟩
        · rintro (h | ⟨m, h1, h2, h3⟩)
          · exact Or.inl (Or.inl h)
          · by_cases e : m = i + 1
            · subst e
              obtain ⟨_, s, g1, g2, g3, g4, g5⟩ := h3
              refine Or.inl (Or.inr ⟨_, sx_S6clr g1, (hr1 _ (sx_S6clr g1)).2 ⟨s, g1, g2, by rw [ec]; exact g3, rfl⟩, g4, g5⟩)
            · exact Or.inr ⟨m, by omega, h2, h3⟩
      · intro n hn post hp
        cases n with
        | zero => omega
        | succ n =>
          rw [hP']
          refine br_f e1 (br_f e2 (And.intro hv (br_t (by rw [ec, hkk, k7]; rfl) (hw1 _ ?_))))
          refine sx_consume hv0 (i := pl (c 0)) (by rw [ec0]; exact (hk 0 (by omega)).2.2.1) h0 ?_
          refine nm_e (And.intro hv (nm_r (by rw [ec]) (nm_r (nI_1 i) ?_)))
          rw [ec0]
          exact hw n (by omega) post hp
    · obtain ⟨r, hr, hw⟩ := ih (i + 1) acc (by omega)
      refine ⟨r, fun t ht => ?_, ?_⟩
      · rw [hr t ht]
        constructor
        · rintro (h | ⟨m, h1, h2, h3⟩)
          · exact Or.inl h
          · exact Or.inr ⟨m, by omega, h2, h3⟩
        · rintro (h | ⟨m, h1, h2, h3⟩)
          · exact Or.inl h
          · by_cases e : m = i + 1
            · subst e; exact absurd h3.1 k7
            · exact Or.inr ⟨m, by omega, h2, h3⟩
      · intro n hn post hp
        cases n with
        | zero => omega
        | succ n =>
          rw [hP']
          have e7 : ¬ a_kinds (nI (c (i + 1))).toNatClampNeg = 7 := by
            rw [ec, hkk]
            exact fun q => k7 ((nI_eq (b := 7) (by omega) (by decide)).1 q)
          refine br_f e1 (br_f e2 (And.intro hv (br_f e7 (And.intro hv (nm_r (by rw [ec]) (nm_r (nI_1 i) ?_))))))
          exact hw n (by omega) post hp
theorem sx_advance (hc : sd_colE a_columns) {c : Nat → Nat} {J : Nat} (hy : sx_way a_parents c J) {kd pl wd : Nat → Nat}
    (hk : ∀ i, i ≤ J → kd (c i) < 8 ∧ a_kinds (c i) = nI (kd (c i)) ∧ a_places (c i) = nI (pl (c i)) ∧ a_widths (c i) = nI (wd (c i)) ∧ pl (c i) + wd (c i) ≤ 6)
    (h0 : pl (c 0) < 6) {w : Int64} : ∃ r,
      (∀ t, sd_S6 t → (sd_lb r t ↔ (∃ s, sd_S6 s ∧ sd_lb w s ∧ sd_lb (a_guards (c 0)) s ∧ t = sd_set s (pl (c 0))) ∨
        ∃ m, 1 ≤ m ∧ m ≤ J ∧ sx_adv a_nullable a_guards kd pl wd c m w t)) ∧
      ∀ post : Int64 → Prop, post r → wpX_advance post (f_cellLimit, f_definitionLimit, f_depthLimit, f_itemLimit, f_cellCount, f_definedCount, f_live, f_state, f_depth, a_kinds, a_firsts, a_seconds, a_widths, a_uses, a_parents, a_attributed, a_owners, a_places, a_contents, a_columns, a_unused, a_childless, a_nullable, a_growEarly, a_growLate, a_guards, a_items, a_names, a_late, a_residuals, a_next) w (nI (c 0)) := by
  have l0 := hy.2.1 0 (by omega)
  have ec0 : (nI (c 0)).toNatClampNeg = c 0 := sx_cl 24 l0
  have hv0 : vp_in (nI (c 0)) 24 := vp_in_nI l0 (by decide)
  obtain ⟨r, hr, hw⟩ := sx_advL (f_cellLimit := f_cellLimit) (f_definitionLimit := f_definitionLimit) (f_depthLimit := f_depthLimit) (f_itemLimit := f_itemLimit) (f_cellCount := f_cellCount) (f_definedCount := f_definedCount) (f_live := f_live) (f_state := f_state) (f_depth := f_depth) (a_kinds := a_kinds) (a_firsts := a_firsts) (a_seconds := a_seconds) (a_widths := a_widths) (a_uses := a_uses) (a_parents := a_parents) (a_attributed := a_attributed) (a_owners := a_owners) (a_places := a_places) (a_contents := a_contents) (a_columns := a_columns) (a_unused := a_unused) (a_childless := a_childless) (a_nullable := a_nullable) (a_growEarly := a_growEarly) (a_growLate := a_growLate) (a_guards := a_guards) (a_items := a_items) (a_names := a_names) (a_late := a_late) (a_residuals := a_residuals) (a_next := a_next) hc hy hk h0 (w := w) J 0 (sx_cv (a_columns (pl (c 0))) (w &&& a_guards (c 0)) (pl (c 0))) (by omega)
  refine ⟨r, fun t ht => ?_, fun post hp => ?_⟩
  · rw [hr t ht, sx_conB hc h0 ht]
    exact Iff.rfl
  · unfold wpX_advance
    refine sx_consume hv0 (i := pl (c 0)) (by rw [ec0]; exact (hk 0 (by omega)).2.2.1) h0 ?_
    refine And.intro hv0 (nm_r (by rw [ec0]) ⟨J + 2, ?_⟩)
    rw [ec0]
    exact hw (J + 2) (by omega) post hp
end
end
section
/-! X: passage, guardOf, takes, after, verdict and the masks of definitions -/
theorem sx_bor {x : Int32} {k j : Nat} (hk : k < 31) : bt (x ||| ((1 : Int32) <<< (nI k &&& 31))) j = true ↔ bt x j = true ∨ j = k := by
  rw [b_or, Bool.or_eq_true]
  have e : bt ((1 : Int32) <<< (nI k &&& 31)) j = true ↔ j = k := by
    by_cases hj : j < 32
    · exact (by decide +kernel : ∀ k, k < 31 → ∀ j, j < 32 → (bt ((1 : Int32) <<< (nI k &&& 31)) j = true ↔ j = k)) k hk j hj
    · rw [b_big (by omega)]
      exact ⟨fun h => (by cases h), fun h => (by omega)⟩
  rw [e]
theorem sx_b1 {x : Int32} : x &&& 1 = (if bt x 0 = true then 1 else 0) := by
  refine b_ext (fun i hi => ?_)
  rw [b_and]
  have h1 : ∀ i, i < 32 → bt 1 i = decide (i = 0) := by decide +kernel
  rw [h1 i hi]
  by_cases e : i = 0
  · subst e
    cases h : bt x 0
    · decide
    · decide
  · rw [decide_eq_false e, Bool.and_false]
    split
    · rw [h1 i hi, decide_eq_false e]
    · rw [b_0]
theorem sx_bit {x : Int32} {k : Nat} (hk : k < 32) : (x >>> (nI k &&& 31)) &&& 1 = (if bt x k = true then 1 else 0) := by
  rw [sx_b1, b_sshr k hk x (by decide), if_pos (show k + 0 < 32 from hk), Nat.add_zero]
theorem sx_bit0 {x : Int32} {k : Nat} (hk : k < 32) : (x >>> (nI k &&& 31)) &&& 1 = 0 ↔ ¬ bt x k = true := by
  rw [sx_bit hk]
  split
  · exact ⟨fun h => absurd h (by decide), fun h => absurd (by assumption) h⟩
  · exact ⟨fun _ => by assumption, fun _ => rfl⟩
theorem sx_bit1 {x : Int32} {k : Nat} (hk : k < 32) : (x >>> (nI k &&& 31)) &&& 1 = 1 ↔ bt x k = true := by
  rw [sx_bit hk]
  split
  · exact ⟨fun _ => by assumption, fun _ => rfl⟩
  · exact ⟨fun h => absurd h (by decide), fun h => absurd h (by assumption)⟩
/-- the way from d to c, by the tables -/
def sx_ps (kd pp qq : Nat → Nat) (Un Cl Nu : Nat → Int64) (b : Int32) (c d : Nat) (s : Nat → Bool) : Prop :=
  (kd c = 4 → (d = pp c → sd_lb (Un (qq c)) s) ∧ (d ≠ pp c → sd_lb (Un (pp c)) s)) ∧
  (kd c = 5 → b ≠ 0 → (d = pp c → sd_lb (Cl (qq c)) s) ∧ (d ≠ pp c → sd_lb (Nu (pp c)) s))
/-- the leaf takes the item -/
def sx_tk (K F S : Nat → Int32) (kind name extra : Int32) (c : Nat) : Prop :=
  K c = kind ∧ (kind = 1 ∨ (¬ kind = 1 ∧ (F c = -1 ∨ F c = name) ∧
    ((kind = 2 ∧ (S c = -1 ∨ S c = extra)) ∨ (¬ kind = 2 ∧ ¬ (extra >>> (S c &&& 31)) &&& 1 = 0))))
section
variable {f_cellLimit f_definitionLimit f_depthLimit f_itemLimit f_cellCount f_definedCount f_live f_state f_depth : Int32}
variable {a_kinds a_firsts a_seconds a_widths a_uses a_parents a_attributed a_owners a_places a_contents a_items a_names a_late : Nat → Int32} {a_columns a_unused a_childless a_nullable a_growEarly a_growLate a_guards a_residuals a_next : Nat → Int64}
theorem sx_passage {c d : Nat} {b : Int32} {kd pp qq : Nat → Nat} (hc : c < 24) (hd : d < 24) (hk : a_kinds c = nI (kd c)) (k8 : kd c < 8)
    (hp : a_firsts c = nI (pp c)) (p24 : pp c < 24) (hq : kd c ≠ 7 → a_seconds c = nI (qq c) ∧ qq c < 24) :
    ∃ r, (∀ s, sd_lb r s ↔ sx_ps kd pp qq a_unused a_childless a_nullable b c d s) ∧
      ∀ post : Int64 → Prop, post r → wpX_passage post (f_cellLimit, f_definitionLimit, f_depthLimit, f_itemLimit, f_cellCount, f_definedCount, f_live, f_state, f_depth, a_kinds, a_firsts, a_seconds, a_widths, a_uses, a_parents, a_attributed, a_owners, a_places, a_contents, a_columns, a_unused, a_childless, a_nullable, a_growEarly, a_growLate, a_guards, a_items, a_names, a_late, a_residuals, a_next) (nI c) (nI d) b := by
  have ec : (nI c).toNatClampNeg = c := sx_cl 24 hc
  have hv : vp_in (nI c) 24 := vp_in_nI hc (by decide)
  have ep : (nI (pp c)).toNatClampNeg = pp c := sx_cl 24 p24
  have vpp : vp_in (nI (pp c)) 24 := vp_in_nI p24 (by decide)
  have kq : ∀ m, m < 8 → (a_kinds (nI c).toNatClampNeg = nI m ↔ kd c = m) := fun m hm => by
    rw [ec, hk]; exact nI_eq (by omega) (by omega)
  have fq : a_firsts (nI c).toNatClampNeg = nI d ↔ pp c = d := by rw [ec, hp]; exact nI_eq (by omega) (by omega)
  -- the two sides
  have go : ∀ (z : Int32) (o : Nat) (r : Int64), (kd c = 4 → r = a_unused o) → (kd c = 5 → b ≠ 0 → z = 0 → r = a_nullable o) → (kd c = 5 → b ≠ 0 → z ≠ 0 → r = a_childless o) →
      (kd c = 5 → b = 0 → r = -1) → (kd c ≠ 4 → kd c ≠ 5 → r = -1) → ∀ (y : Int32), (kd c ≠ 7 → y = nI o ∧ o < 24) → ∀ post : Int64 → Prop, post r → wX_passage_37 post (nI c) b z y f_cellLimit f_definitionLimit f_depthLimit f_itemLimit f_cellCount f_definedCount f_live f_state f_depth a_kinds a_firsts a_seconds a_widths a_uses a_parents a_attributed a_owners a_places a_contents a_columns a_unused a_childless a_nullable a_growEarly a_growLate a_guards a_items a_names a_late a_residuals a_next := by
    intro z o r h4 h5 h5' h50 hx y hy post hpost
    unfold wX_passage_37
    refine And.intro hv (br_c (fun k => ?_) (fun k => And.intro hv (br_c (fun k' => br_c (fun e => ?_) (fun e => br_c (fun ez => ?_) (fun ez => ?_))) (fun k' => ?_))))
    · have k4 := (kq 4 (by decide)).1 k
      obtain ⟨e, l⟩ := hy (by omega)
      rw [e, sx_cl 24 l, ← h4 k4]
      exact ⟨vp_in_nI l (by decide), hpost⟩
    · rw [← h50 ((kq 5 (by decide)).1 k') e]; exact hpost
    · have k5 := (kq 5 (by decide)).1 k'
      obtain ⟨e', l⟩ := hy (by omega)
      rw [e', sx_cl 24 l, ← h5 k5 e ez]
      exact ⟨vp_in_nI l (by decide), hpost⟩
    · have k5 := (kq 5 (by decide)).1 k'
      obtain ⟨e', l⟩ := hy (by omega)
      rw [e', sx_cl 24 l, ← h5' k5 e ez]
      exact ⟨vp_in_nI l (by decide), hpost⟩
    · rw [← hx (fun q => k ((kq 4 (by decide)).2 q)) (fun q => k' ((kq 5 (by decide)).2 q))]; exact hpost
  by_cases e : pp c = d
  · refine ⟨if kd c = 4 then a_unused (qq c) else if kd c = 5 ∧ b ≠ 0 then a_childless (qq c) else -1, fun s => ?_, fun post h => ?_⟩
    · unfold sx_ps
      by_cases k4 : kd c = 4
      · rw [if_pos k4]
        exact ⟨fun h => ⟨fun _ => ⟨fun _ => h, fun q => absurd e.symm q⟩, fun q => by omega⟩, fun h => (h.1 k4).1 e.symm⟩
      · rw [if_neg k4]
        by_cases k5 : kd c = 5 ∧ b ≠ 0
        · rw [if_pos k5]
          exact ⟨fun h => ⟨fun q => absurd q k4, fun _ _ => ⟨fun _ => h, fun q => absurd e.symm q⟩⟩, fun h => (h.2 k5.1 k5.2).1 e.symm⟩
        · rw [if_neg k5]
          exact ⟨fun h => ⟨fun q => absurd q k4, fun q q' => absurd ⟨q, q'⟩ k5⟩, fun _ => sd_lb_m1 s⟩
    · unfold wpX_passage
      refine And.intro hv (br_t (fq.2 e) ?_)
      unfold wX_passage_15
      refine br_f (by decide) (And.intro hv ?_)
      refine go 1 (qq c) _ (fun k => if_pos k) (fun _ _ q => absurd q (by decide)) (fun k k' _ => ?_) (fun k k' => ?_) (fun k k' => ?_) _ (fun k => ?_) post h
      · rw [if_neg (by omega), if_pos ⟨k, k'⟩]
      · rw [if_neg (by omega), if_neg (fun q => q.2 k')]
      · rw [if_neg k, if_neg (fun q => k' q.1)]
      · rw [ec]; exact hq k
  · have e' : d ≠ pp c := fun q => e q.symm
    refine ⟨if kd c = 4 then a_unused (pp c) else if kd c = 5 ∧ b ≠ 0 then a_nullable (pp c) else -1, fun s => ?_, fun post h => ?_⟩
    · unfold sx_ps
      by_cases k4 : kd c = 4
      · rw [if_pos k4]
        exact ⟨fun h => ⟨fun _ => ⟨fun q => absurd q e', fun _ => h⟩, fun q => by omega⟩, fun h => (h.1 k4).2 e'⟩
      · rw [if_neg k4]
        by_cases k5 : kd c = 5 ∧ b ≠ 0
        · rw [if_pos k5]
          exact ⟨fun h => ⟨fun q => absurd q k4, fun _ _ => ⟨fun q => absurd q e', fun _ => h⟩⟩, fun h => (h.2 k5.1 k5.2).2 e'⟩
        · rw [if_neg k5]
          exact ⟨fun h => ⟨fun q => absurd q k4, fun q q' => absurd ⟨q, q'⟩ k5⟩, fun _ => sd_lb_m1 s⟩
    · unfold wpX_passage
      refine And.intro hv (br_f (fun q => e (fq.1 q)) ?_)
      unfold wX_passage_15
      refine br_t rfl (And.intro hv ?_)
      refine go 0 (pp c) _ (fun k => if_pos k) (fun k k' _ => ?_) (fun _ _ q => absurd rfl q) (fun k k' => ?_) (fun k k' => ?_) _ (fun k => ?_) post h
      · rw [if_neg (by omega), if_pos ⟨k, k'⟩]
      · rw [if_neg (by omega), if_neg (fun q => q.2 k')]
      · rw [if_neg k, if_neg (fun q => k' q.1)]
      · rw [ec]; exact ⟨hp, p24⟩

theorem sx_guardL {c : Nat → Nat} {J : Nat} (hy : sx_way a_parents c J) {kd pp qq : Nat → Nat}
    (hk : ∀ i, i < J → a_kinds (c (i + 1)) = nI (kd (c (i + 1))) ∧ kd (c (i + 1)) < 8 ∧ a_firsts (c (i + 1)) = nI (pp (c (i + 1))) ∧ pp (c (i + 1)) < 24 ∧
      (kd (c (i + 1)) ≠ 7 → a_seconds (c (i + 1)) = nI (qq (c (i + 1))) ∧ qq (c (i + 1)) < 24)) {b : Int32} : ∀ (d i : Nat) (acc : Int64), i + d = J → ∃ r,
      (∀ s, sd_lb r s ↔ sd_lb acc s ∧ ∀ m, i ≤ m → m < J → sx_ps kd pp qq a_unused a_childless a_nullable b (c (m + 1)) (c m) s) ∧
      ∀ n, d + 1 < n → ∀ post : Int64 → Prop, post r → wX_guardOf_45 post b f_cellLimit f_definitionLimit f_depthLimit f_itemLimit f_cellCount f_definedCount f_live f_state f_depth a_kinds a_firsts a_seconds a_widths a_uses a_parents a_attributed a_owners a_places a_contents a_columns a_unused a_childless a_nullable a_growEarly a_growLate a_guards a_items a_names a_late a_residuals a_next n acc (nI (c i)) (nI i) := by
  obtain ⟨hJ, hl, hP, hR⟩ := hy
  intro d
  induction d with
  | zero =>
    intro i acc hi
    have e : i = J := by omega
    subst e
    refine ⟨acc, fun s => ⟨fun h => ⟨h, fun m h1 h2 => by omega⟩, fun h => h.1⟩, ?_⟩
    intro n hn post hp
    have l := hl i (by omega)
    cases n with
    | zero => omega
    | succ n =>
      refine br_f (nI_ge (b := 24) (by omega) (by decide)) (And.intro (vp_in_nI l (by decide)) (br_t ?_ hp))
      rw [sx_cl 24 l, hR]; decide
  | succ d ih =>
    intro i acc hi
    have hP' := hP i (by omega)
    have l := hl i (by omega)
    have l1 := hl (i + 1) (by omega)
    obtain ⟨hkk, k8, hf, p24, hq⟩ := hk i (by omega)
    obtain ⟨r1, hr1, hw1⟩ := sx_passage (f_cellLimit := f_cellLimit) (f_definitionLimit := f_definitionLimit) (f_depthLimit := f_depthLimit) (f_itemLimit := f_itemLimit) (f_cellCount := f_cellCount) (f_definedCount := f_definedCount) (f_live := f_live) (f_state := f_state) (f_depth := f_depth) (a_kinds := a_kinds) (a_firsts := a_firsts) (a_seconds := a_seconds) (a_widths := a_widths) (a_uses := a_uses) (a_parents := a_parents) (a_attributed := a_attributed) (a_owners := a_owners) (a_places := a_places) (a_contents := a_contents) (a_columns := a_columns) (a_unused := a_unused) (a_childless := a_childless) (a_nullable := a_nullable) (a_growEarly := a_growEarly) (a_growLate := a_growLate) (a_guards := a_guards) (a_items := a_items) (a_names := a_names) (a_late := a_late) (a_residuals := a_residuals) (a_next := a_next) (b := b) l1 l hkk k8 hf p24 hq
    obtain ⟨r, hr, hw⟩ := ih (i + 1) (acc &&& r1) (by omega)
    have ec : (nI (c i)).toNatClampNeg = c i := sx_cl 24 l
    have hv : vp_in (nI (c i)) 24 := vp_in_nI l (by decide)
    refine ⟨r, fun s => ?_, ?_⟩
    · rw [hr s, sd_lb_and, hr1 s]
      constructor
      · rintro ⟨⟨h1, h2⟩, h3⟩
        refine ⟨h1, fun m g1 g2 => ?_⟩
        by_cases e : m = i
        · rw [e]; exact h2
        · exact h3 m (by omega) g2
      · rintro ⟨h1, h2⟩
        exact ⟨⟨h1, h2 i (by omega) (by omega)⟩, fun m g1 g2 => h2 m (by omega) g2⟩
    · intro n hn post hp
      cases n with
      | zero => omega
      | succ n =>
        refine br_f (nI_ge (b := 24) (by omega) (by decide)) (And.intro hv (br_f ?_ (And.intro hv ?_)))
        · rw [ec, hP']; exact nI_pos (by omega)
        · rw [ec, hP']
          refine hw1 _ (nm_e (And.intro hv (nm_r rfl (nm_r (nI_1 i) ?_))))
          exact hw n (by omega) post hp
theorem sx_guardOf {c : Nat → Nat} {J : Nat} (hy : sx_way a_parents c J) {kd pp qq : Nat → Nat}
    (hk : ∀ i, i < J → a_kinds (c (i + 1)) = nI (kd (c (i + 1))) ∧ kd (c (i + 1)) < 8 ∧ a_firsts (c (i + 1)) = nI (pp (c (i + 1))) ∧ pp (c (i + 1)) < 24 ∧
      (kd (c (i + 1)) ≠ 7 → a_seconds (c (i + 1)) = nI (qq (c (i + 1))) ∧ qq (c (i + 1)) < 24))
    (h0 : a_kinds (c 0) = nI (kd (c 0))) (k8 : kd (c 0) < 8) : ∃ r,
      (∀ s, sd_lb r s ↔ (kd (c 0) = 1 ∨ sd_lb (a_unused (c 0)) s) ∧ ∀ m, m < J → sx_ps kd pp qq a_unused a_childless a_nullable (if kd (c 0) = 2 then 0 else 1) (c (m + 1)) (c m) s) ∧
      ∀ post : Int64 → Prop, post r → wpX_guardOf post (f_cellLimit, f_definitionLimit, f_depthLimit, f_itemLimit, f_cellCount, f_definedCount, f_live, f_state, f_depth, a_kinds, a_firsts, a_seconds, a_widths, a_uses, a_parents, a_attributed, a_owners, a_places, a_contents, a_columns, a_unused, a_childless, a_nullable, a_growEarly, a_growLate, a_guards, a_items, a_names, a_late, a_residuals, a_next) (nI (c 0)) := by
  have l := hy.2.1 0 (by omega)
  have ec : (nI (c 0)).toNatClampNeg = c 0 := sx_cl 24 l
  have hv : vp_in (nI (c 0)) 24 := vp_in_nI l (by decide)
  have kq : ∀ m, m < 8 → (a_kinds (nI (c 0)).toNatClampNeg = nI m ↔ kd (c 0) = m) := fun m hm => by
    rw [ec, h0]; exact nI_eq (by omega) (by omega)
  have hb : ∀ (post : Int64 → Prop), (wX_guardOf_15 post (nI (c 0)) (if kd (c 0) = 2 then 0 else 1) f_cellLimit f_definitionLimit f_depthLimit f_itemLimit f_cellCount f_definedCount f_live f_state f_depth a_kinds a_firsts a_seconds a_widths a_uses a_parents a_attributed a_owners a_places a_contents a_columns a_unused a_childless a_nullable a_growEarly a_growLate a_guards a_items a_names a_late a_residuals a_next) → wpX_guardOf post (f_cellLimit, f_definitionLimit, f_depthLimit, f_itemLimit, f_cellCount, f_definedCount, f_live, f_state, f_depth, a_kinds, a_firsts, a_seconds, a_widths, a_uses, a_parents, a_attributed, a_owners, a_places, a_contents, a_columns, a_unused, a_childless, a_nullable, a_growEarly, a_growLate, a_guards, a_items, a_names, a_late, a_residuals, a_next) (nI (c 0)) := fun post h => by
    unfold wpX_guardOf
    refine And.intro hv (br_c (fun k => ?_) (fun k => ?_))
    · rw [if_pos ((kq 2 (by decide)).1 k)] at h; exact h
    · rw [if_neg (fun q => k ((kq 2 (by decide)).2 q))] at h; exact h
  by_cases k1 : kd (c 0) = 1
  · obtain ⟨r, hr, hw⟩ := sx_guardL (f_cellLimit := f_cellLimit) (f_definitionLimit := f_definitionLimit) (f_depthLimit := f_depthLimit) (f_itemLimit := f_itemLimit) (f_cellCount := f_cellCount) (f_definedCount := f_definedCount) (f_live := f_live) (f_state := f_state) (f_depth := f_depth) (a_kinds := a_kinds) (a_firsts := a_firsts) (a_seconds := a_seconds) (a_widths := a_widths) (a_uses := a_uses) (a_parents := a_parents) (a_attributed := a_attributed) (a_owners := a_owners) (a_places := a_places) (a_contents := a_contents) (a_columns := a_columns) (a_unused := a_unused) (a_childless := a_childless) (a_nullable := a_nullable) (a_growEarly := a_growEarly) (a_growLate := a_growLate) (a_guards := a_guards) (a_items := a_items) (a_names := a_names) (a_late := a_late) (a_residuals := a_residuals) (a_next := a_next) hy hk (b := if kd (c 0) = 2 then 0 else 1) J 0 (-1) (by omega)
    refine ⟨r, fun s => ?_, fun post h => hb post ?_⟩
    · rw [hr s]
      exact ⟨fun h => ⟨Or.inl k1, fun m hm => h.2 m (by omega) hm⟩, fun h => ⟨sd_lb_m1 s, fun m _ hm => h.2 m hm⟩⟩
    · unfold wX_guardOf_15
      exact And.intro hv (br_t ((kq 1 (by decide)).2 k1) ⟨J + 2, hw (J + 2) (by omega) post h⟩)
  · obtain ⟨r, hr, hw⟩ := sx_guardL (f_cellLimit := f_cellLimit) (f_definitionLimit := f_definitionLimit) (f_depthLimit := f_depthLimit) (f_itemLimit := f_itemLimit) (f_cellCount := f_cellCount) (f_definedCount := f_definedCount) (f_live := f_live) (f_state := f_state) (f_depth := f_depth) (a_kinds := a_kinds) (a_firsts := a_firsts) (a_seconds := a_seconds) (a_widths := a_widths) (a_uses := a_uses) (a_parents := a_parents) (a_attributed := a_attributed) (a_owners := a_owners) (a_places := a_places) (a_contents := a_contents) (a_columns := a_columns) (a_unused := a_unused) (a_childless := a_childless) (a_nullable := a_nullable) (a_growEarly := a_growEarly) (a_growLate := a_growLate) (a_guards := a_guards) (a_items := a_items) (a_names := a_names) (a_late := a_late) (a_residuals := a_residuals) (a_next := a_next) hy hk (b := if kd (c 0) = 2 then 0 else 1) J 0 (a_unused (c 0)) (by omega)
    refine ⟨r, fun s => ?_, fun post h => hb post ?_⟩
    · rw [hr s]
      exact ⟨fun h => ⟨Or.inr h.1, fun m hm => h.2 m (by omega) hm⟩, fun h => ⟨h.1.elim (fun q => absurd q k1) id, fun m _ hm => h.2 m hm⟩⟩
    · unfold wX_guardOf_15
      refine And.intro hv (br_f (fun q => k1 ((kq 1 (by decide)).1 q)) (And.intro hv (nm_r (by rw [ec]) ⟨J + 2, ?_⟩)))
      exact hw (J + 2) (by omega) post h

theorem sx_fits {post : Int32 → Prop} {p q : Int32} (h1 : p = -1 ∨ p = q → post 1) (h0 : ¬ (p = -1 ∨ p = q) → post 0) : wpX_fits post (f_cellLimit, f_definitionLimit, f_depthLimit, f_itemLimit, f_cellCount, f_definedCount, f_live, f_state, f_depth, a_kinds, a_firsts, a_seconds, a_widths, a_uses, a_parents, a_attributed, a_owners, a_places, a_contents, a_columns, a_unused, a_childless, a_nullable, a_growEarly, a_growLate, a_guards, a_items, a_names, a_late, a_residuals, a_next) p q := by
  unfold wpX_fits
  exact br_c (fun e => h1 (Or.inl e)) (fun e => br_c (fun e' => h1 (Or.inr e')) (fun e' => h0 (fun z => z.elim e e')))
theorem sx_takes {post : Int32 → Prop} {x kind name extra : Int32} (hx : vp_in x 24)
    (h1 : sx_tk a_kinds a_firsts a_seconds kind name extra x.toNatClampNeg → post 1)
    (h0 : ¬ sx_tk a_kinds a_firsts a_seconds kind name extra x.toNatClampNeg → post 0) : wpX_takes post (f_cellLimit, f_definitionLimit, f_depthLimit, f_itemLimit, f_cellCount, f_definedCount, f_live, f_state, f_depth, a_kinds, a_firsts, a_seconds, a_widths, a_uses, a_parents, a_attributed, a_owners, a_places, a_contents, a_columns, a_unused, a_childless, a_nullable, a_growEarly, a_growLate, a_guards, a_items, a_names, a_late, a_residuals, a_next) x kind name extra := by
  unfold wpX_takes
  refine And.intro hx (br_c (fun k => br_c (fun k1 => h1 ⟨k, Or.inl k1⟩) (fun k1 => And.intro hx (sx_fits (fun f => ?_) (fun f => ?_)))) (fun k => h0 (fun q => k q.1)))
  · refine br_f (by decide) (br_c (fun k2 => And.intro hx (sx_fits (fun g => ⟨narrow_b1, ?_⟩) (fun g => ⟨narrow_b0, ?_⟩))) (fun k2 => And.intro hx (br_c (fun g => ?_) (fun g => ?_))))
    · exact h1 ⟨k, Or.inr ⟨k1, f, Or.inl ⟨k2, g⟩⟩⟩
    · exact h0 (fun q => q.2.elim k1 (fun z => z.2.2.elim (fun y => g y.2) (fun y => y.1 k2)))
    · exact h0 (fun q => q.2.elim k1 (fun z => z.2.2.elim (fun y => k2 y.1) (fun y => y.2 g)))
    · exact h1 ⟨k, Or.inr ⟨k1, f, Or.inr ⟨k2, g⟩⟩⟩
  · exact br_t rfl (h0 (fun q => q.2.elim k1 (fun z => f z.2.1)))

/-- after: the residuals of one definition after one item; AD: what advance gives -/
theorem sx_afterL {k r : Nat} {kind name extra : Int32} {w : Int64} (r24 : r < 24) {AD : Nat → (Nat → Bool) → Prop}
    (hA : ∀ c, c ≤ r → a_owners c = nI k + 1 → sx_tk a_kinds a_firsts a_seconds kind name extra c → ∃ ra, (∀ t, sd_S6 t → (sd_lb ra t ↔ AD c t)) ∧
      ∀ post : Int64 → Prop, post ra → wpX_advance post (f_cellLimit, f_definitionLimit, f_depthLimit, f_itemLimit, f_cellCount, f_definedCount, f_live, f_state, f_depth, a_kinds, a_firsts, a_seconds, a_widths, a_uses, a_parents, a_attributed, a_owners, a_places, a_contents, a_columns, a_unused, a_childless, a_nullable, a_growEarly, a_growLate, a_guards, a_items, a_names, a_late, a_residuals, a_next) w (nI c)) : ∀ (d c : Nat) (acc : Int64), c + d = r + 1 → ∃ res,
      (∀ t, sd_S6 t → (sd_lb res t ↔ (sd_lb acc t ∨ ∃ m, c ≤ m ∧ m ≤ r ∧ a_owners m = nI k + 1 ∧ sx_tk a_kinds a_firsts a_seconds kind name extra m ∧ AD m t) ∧
        ((kind = 2 → sd_lb (a_growEarly r) t) ∧ (¬ kind = 2 → sd_lb (a_growLate r) t)))) ∧
      ∀ n, d < n → ∀ post : Int64 → Prop, post res → wX_after_41 post (nI k) kind name extra w (nI r) f_cellLimit f_definitionLimit f_depthLimit f_itemLimit f_cellCount f_definedCount f_live f_state f_depth a_kinds a_firsts a_seconds a_widths a_uses a_parents a_attributed a_owners a_places a_contents a_columns a_unused a_childless a_nullable a_growEarly a_growLate a_guards a_items a_names a_late a_residuals a_next n acc (nI c) := by
  have er : (nI r).toNatClampNeg = r := sx_cl 24 r24
  have vr : vp_in (nI r) 24 := vp_in_nI r24 (by decide)
  intro d
  induction d with
  | zero =>
    intro c acc hc
    by_cases k2 : kind = 2
    · refine ⟨acc &&& a_growEarly r, fun t ht => ?_, ?_⟩
      · rw [sd_lb_and]
        exact ⟨fun h => ⟨Or.inl h.1, fun _ => h.2, fun q => absurd k2 q⟩, fun h => ⟨h.1.elim id (fun ⟨m, h1, h2, _⟩ => by omega), h.2.1 k2⟩⟩
      · intro n hn post hp
        cases n with
        | zero => omega
        | succ n =>
          refine br_t (nI_lt (by omega) (by omega)) (br_t k2 (And.intro vr ?_))
          rw [er]; exact hp
    · refine ⟨acc &&& a_growLate r, fun t ht => ?_, ?_⟩
      · rw [sd_lb_and]
        exact ⟨fun h => ⟨Or.inl h.1, fun q => absurd q k2, fun _ => h.2⟩, fun h => ⟨h.1.elim id (fun ⟨m, h1, h2, _⟩ => by omega), h.2.2 k2⟩⟩
      · intro n hn post hp
        cases n with
        | zero => omega
        | succ n =>
          refine br_t (nI_lt (by omega) (by omega)) (br_f k2 (And.intro vr ?_))
          rw [er]; exact hp
  | succ d ih =>
    intro c acc hc
    have ec : (nI c).toNatClampNeg = c := sx_cl 24 (show c < 24 by omega)
    have hv : vp_in (nI c) 24 := vp_in_nI (by omega) (by decide)
    have e1 : ¬ nI r < nI c := nI_nlt (by omega) (by omega)
    by_cases hot : a_owners c = nI k + 1 ∧ sx_tk a_kinds a_firsts a_seconds kind name extra c
    · obtain ⟨ho, ht⟩ := hot
      obtain ⟨ra, hra, hwa⟩ := hA c (by omega) ho ht
      obtain ⟨res, hres, hw⟩ := ih (c + 1) (acc ||| ra) (by omega)
      refine ⟨res, fun t ht6 => ?_, ?_⟩
      · rw [hres t ht6, sd_lb_or, hra t ht6]
        refine and_congr ?_ Iff.rfl
        constructor
        · rintro ((h | h) | ⟨m, h1, h2, h3⟩)
          · exact Or.inl h
          · exact Or.inr ⟨c, by omega, by omega, ho, ht, h⟩
          · exact Or.inr ⟨m, by omega, h2, h3⟩
        · rintro (h | ⟨m, h1, h2, h3⟩)
          · exact Or.inl (Or.inl h)
          · by_cases e : m = c
            · subst e; exact Or.inl (Or.inr h3.2.2)
            · exact Or.inr ⟨m, by omega, h2, h3⟩
      · intro n hn post hp
        cases n with
        | zero => omega
        | succ n =>
          refine br_f e1 (And.intro hv (br_t (by rw [ec]; exact ho) (sx_takes hv (fun _ => ?_) (fun q => absurd (by rw [ec]; exact ht) q))))
          refine br_f (by decide) (hwa _ (nm_e (nm_r (nI_1 c) ?_)))
          exact hw n (by omega) post hp
    · obtain ⟨res, hres, hw⟩ := ih (c + 1) acc (by omega)
      refine ⟨res, fun t ht6 => ?_, ?_⟩
      · rw [hres t ht6]
        refine and_congr ?_ Iff.rfl
        constructor
        · rintro (h | ⟨m, h1, h2, h3⟩)
          · exact Or.inl h
          · exact Or.inr ⟨m, by omega, h2, h3⟩
        · rintro (h | ⟨m, h1, h2, h3⟩)
          · exact Or.inl h
          · by_cases e : m = c
            · subst e; exact absurd ⟨h3.1, h3.2.1⟩ hot
            · exact Or.inr ⟨m, by omega, h2, h3⟩
      · intro n hn post hp
        cases n with
        | zero => omega
        | succ n =>
          have go : wX_after_41 post (nI k) kind name extra w (nI r) f_cellLimit f_definitionLimit f_depthLimit f_itemLimit f_cellCount f_definedCount f_live f_state f_depth a_kinds a_firsts a_seconds a_widths a_uses a_parents a_attributed a_owners a_places a_contents a_columns a_unused a_childless a_nullable a_growEarly a_growLate a_guards a_items a_names a_late a_residuals a_next n acc (nI (c + 1)) := hw n (by omega) post hp
          refine br_f e1 (And.intro hv (br_c (fun ho => ?_) (fun ho => nm_r (nI_1 c) go)))
          rw [ec] at ho
          refine sx_takes hv (fun q => absurd ⟨ho, by rw [ec] at q; exact q⟩ hot) (fun _ => ?_)
          exact br_t rfl (nm_r (nI_1 c) go)
end
end
section
/-! X: after, mayBegin, verdict, step, judgeStart, matchedDefinitions, growing, keep, push -/
section
variable {f_cellLimit f_definitionLimit f_depthLimit f_itemLimit f_cellCount f_definedCount f_live f_state f_depth : Int32}
variable {a_kinds a_firsts a_seconds a_widths a_uses a_parents a_attributed a_owners a_places a_contents a_items a_names a_late : Nat → Int32} {a_columns a_unused a_childless a_nullable a_growEarly a_growLate a_guards a_residuals a_next : Nat → Int64}
/-- after, over what advance gives: B: the wanted set -/
theorem sx_after {l k : Nat} {kind name extra : Int32} (hl : l < 5) (hk : k < 8) {AD : Nat → Nat → (Nat → Bool) → Prop}
    (hC : a_contents k = -1 ∨ ∃ r, r < 24 ∧ a_contents k = nI r)
    (hA : ∀ r, r < 24 → a_contents k = nI r → ∀ c, c ≤ r → a_owners c = nI k + 1 → sx_tk a_kinds a_firsts a_seconds kind name extra c → ∃ ra, (∀ t, sd_S6 t → (sd_lb ra t ↔ AD r c t)) ∧
      ∀ post : Int64 → Prop, post ra → wpX_advance post (f_cellLimit, f_definitionLimit, f_depthLimit, f_itemLimit, f_cellCount, f_definedCount, f_live, f_state, f_depth, a_kinds, a_firsts, a_seconds, a_widths, a_uses, a_parents, a_attributed, a_owners, a_places, a_contents, a_columns, a_unused, a_childless, a_nullable, a_growEarly, a_growLate, a_guards, a_items, a_names, a_late, a_residuals, a_next) (a_residuals (l * 8 + k)) (nI c))
    (h0 : ∀ r c t, (∀ s, sd_S6 s → ¬ sd_lb (a_residuals (l * 8 + k)) s) → sd_S6 t → ¬ AD r c t) : ∃ res,
      (∀ t, sd_S6 t → (sd_lb res t ↔ ∃ r, r < 24 ∧ a_contents k = nI r ∧ (∃ m, m ≤ r ∧ a_owners m = nI k + 1 ∧ sx_tk a_kinds a_firsts a_seconds kind name extra m ∧ AD r m t) ∧
        ((kind = 2 → sd_lb (a_growEarly r) t) ∧ (¬ kind = 2 → sd_lb (a_growLate r) t)))) ∧
      ∀ post : Int64 → Prop, post res → wpX_after post (f_cellLimit, f_definitionLimit, f_depthLimit, f_itemLimit, f_cellCount, f_definedCount, f_live, f_state, f_depth, a_kinds, a_firsts, a_seconds, a_widths, a_uses, a_parents, a_attributed, a_owners, a_places, a_contents, a_columns, a_unused, a_childless, a_nullable, a_growEarly, a_growLate, a_guards, a_items, a_names, a_late, a_residuals, a_next) (nI l) (nI k) kind name extra := by
  have ei : nI l * 8 + nI k = nI (l * 8 + k) := by
    rw [show (8 : Int32) = nI 8 from rfl, pk_mul, nI_add]
  have vi : vp_in (nI (l * 8 + k)) 40 := vp_in_nI (by omega) (by decide)
  have ci : (nI (l * 8 + k)).toNatClampNeg = l * 8 + k := sx_cl 40 (by omega)
  have vk : vp_in (nI k) 8 := vp_in_nI hk (by decide)
  have ck : (nI k).toNatClampNeg = k := sx_cl 8 hk
  -- the head of the method
  have head : ∀ post : Int64 → Prop, ((a_residuals (l * 8 + k) = 0 → post 0) ∧ (¬ a_residuals (l * 8 + k) = 0 →
      ((0 ≤ a_contents k → ∃ n41 : Nat, wX_after_41 post (nI k) kind name extra (a_residuals (l * 8 + k)) (a_contents k) f_cellLimit f_definitionLimit f_depthLimit f_itemLimit f_cellCount f_definedCount f_live f_state f_depth a_kinds a_firsts a_seconds a_widths a_uses a_parents a_attributed a_owners a_places a_contents a_columns a_unused a_childless a_nullable a_growEarly a_growLate a_guards a_items a_names a_late a_residuals a_next n41 0 0) ∧ (¬ 0 ≤ a_contents k → post 0)))) →
      wpX_after post (f_cellLimit, f_definitionLimit, f_depthLimit, f_itemLimit, f_cellCount, f_definedCount, f_live, f_state, f_depth, a_kinds, a_firsts, a_seconds, a_widths, a_uses, a_parents, a_attributed, a_owners, a_places, a_contents, a_columns, a_unused, a_childless, a_nullable, a_growEarly, a_growLate, a_guards, a_items, a_names, a_late, a_residuals, a_next) (nI l) (nI k) kind name extra := by
    intro post h
    unfold wpX_after
    rw [ei]
    refine And.intro vi (nm_r (by rw [ci]) (And.intro vk (nm_r (by rw [ck]) ?_)))
    exact h
  by_cases z : a_residuals (l * 8 + k) = 0
  · refine ⟨0, fun t ht => ⟨fun h => absurd h (sd_lb_0 t), ?_⟩, fun post h => head post (br_t z h)⟩
    rintro ⟨r, _, _, ⟨m, _, _, _, h⟩, _⟩
    exact absurd h (h0 r m t ((sd_eq0 _).1 z) ht)
  · rcases hC with hC | ⟨r, r24, hC⟩
    · refine ⟨0, fun t ht => ⟨fun h => absurd h (sd_lb_0 t), ?_⟩, fun post h => head post (br_f z (br_f (by rw [hC]; decide) h))⟩
      rintro ⟨r, r24, e, _⟩
      rw [hC] at e
      exact absurd (show nI r < 0 by rw [← e]; decide) (nI_pos (by omega))
    · obtain ⟨res, hres, hw⟩ := sx_afterL (f_cellLimit := f_cellLimit) (f_definitionLimit := f_definitionLimit) (f_depthLimit := f_depthLimit) (f_itemLimit := f_itemLimit) (f_cellCount := f_cellCount) (f_definedCount := f_definedCount) (f_live := f_live) (f_state := f_state) (f_depth := f_depth) (a_kinds := a_kinds) (a_firsts := a_firsts) (a_seconds := a_seconds) (a_widths := a_widths) (a_uses := a_uses) (a_parents := a_parents) (a_attributed := a_attributed) (a_owners := a_owners) (a_places := a_places) (a_contents := a_contents) (a_columns := a_columns) (a_unused := a_unused) (a_childless := a_childless) (a_nullable := a_nullable) (a_growEarly := a_growEarly) (a_growLate := a_growLate) (a_guards := a_guards) (a_items := a_items) (a_names := a_names) (a_late := a_late) (a_residuals := a_residuals) (a_next := a_next) r24 (hA r r24 hC) (r + 1) 0 0 (by omega)
      refine ⟨res, fun t ht => ?_, fun post h => head post (br_f z (br_t (by rw [hC]; exact nI_pos' (by omega)) ?_))⟩
      · rw [hres t ht]
        constructor
        · rintro ⟨h1 | ⟨m, h1⟩, h2⟩
          · exact absurd h1 (sd_lb_0 t)
          · exact ⟨r, r24, hC, ⟨m, h1.2⟩, h2⟩
        · rintro ⟨r', r24', e, ⟨m, h1⟩, h2⟩
          rw [hC, nI_eq (by omega) (by omega)] at e
          subst e
          exact ⟨Or.inr ⟨m, by omega, h1⟩, h2⟩
      · rw [hC]
        exact ⟨r + 2, hw (r + 2) (by omega) post h⟩

theorem sx_mayL {j name : Int32} {B : Nat → (Nat → Bool) → Prop}
    (hB : ∀ k, k < 8 → ∃ ra, (∀ t, sd_S6 t → (sd_lb ra t ↔ B k t)) ∧
      ∀ post : Int64 → Prop, post ra → wpX_after post (f_cellLimit, f_definitionLimit, f_depthLimit, f_itemLimit, f_cellCount, f_definedCount, f_live, f_state, f_depth, a_kinds, a_firsts, a_seconds, a_widths, a_uses, a_parents, a_attributed, a_owners, a_places, a_contents, a_columns, a_unused, a_childless, a_nullable, a_growEarly, a_growLate, a_guards, a_items, a_names, a_late, a_residuals, a_next) (f_depth - 1) (nI k) 3 name ((1 : Int32) <<< (j &&& 31))) {post : Int32 → Prop} : ∀ (d k : Nat) (acc : Int64), k + d = 8 →
      (((∃ t, sd_S6 t ∧ sd_lb acc t) ∨ ∃ m t, k ≤ m ∧ m < 8 ∧ sd_S6 t ∧ B m t) → post 1) →
      (¬ ((∃ t, sd_S6 t ∧ sd_lb acc t) ∨ ∃ m t, k ≤ m ∧ m < 8 ∧ sd_S6 t ∧ B m t) → post 0) →
      ∀ n, d < n → wX_mayBegin_5 post j name f_cellLimit f_definitionLimit f_depthLimit f_itemLimit f_cellCount f_definedCount f_live f_state f_depth a_kinds a_firsts a_seconds a_widths a_uses a_parents a_attributed a_owners a_places a_contents a_columns a_unused a_childless a_nullable a_growEarly a_growLate a_guards a_items a_names a_late a_residuals a_next n acc (nI k) := by
  intro d
  induction d with
  | zero =>
    intro k acc hk h1 h0 n hn
    have e : k = 8 := by omega
    subst e
    cases n with
    | zero => omega
    | succ n =>
      refine br_t (nI_le (Nat.le_refl 8) (by decide)) (br_c (fun z => h0 ?_) (fun z => h1 (Or.inl ((sd_ne0 acc).1 z))))
      rintro (⟨t, ht, h⟩ | ⟨m, t, h1, h2, _⟩)
      · exact (sd_eq0 acc).1 z t ht h
      · omega
  | succ d ih =>
    intro k acc hk h1 h0 n hn
    cases n with
    | zero => omega
    | succ n =>
      obtain ⟨ra, hra, hw⟩ := hB k (by omega)
      refine br_f (nI_ge (b := 8) (by omega) (by decide)) (hw _ (nm_e (nm_r (nI_1 k) (ih (k + 1) (acc ||| ra) (by omega) ?_ ?_ n (by omega)))))
      · refine fun h => h1 ?_
        rcases h with ⟨t, ht, h⟩ | ⟨m, t, g1, g2, g3⟩
        · rw [sd_lb_or, hra t ht] at h
          rcases h with h | h
          · exact Or.inl ⟨t, ht, h⟩
          · exact Or.inr ⟨k, t, by omega, by omega, ht, h⟩
        · exact Or.inr ⟨m, t, by omega, g2, g3⟩
      · refine fun h => h0 (fun g => h ?_)
        rcases g with ⟨t, ht, g⟩ | ⟨m, t, g1, g2, g3, g4⟩
        · exact Or.inl ⟨t, ht, (sd_lb_or _ _ _).2 (Or.inl g)⟩
        · by_cases e : m = k
          · subst e
            exact Or.inl ⟨t, g3, (sd_lb_or _ _ _).2 (Or.inr ((hra t g3).2 g4))⟩
          · exact Or.inr ⟨m, t, by omega, g2, g3, g4⟩
theorem sx_mayBegin {j name : Int32} {B : Nat → (Nat → Bool) → Prop}
    (hB : ∀ k, k < 8 → ∃ ra, (∀ t, sd_S6 t → (sd_lb ra t ↔ B k t)) ∧
      ∀ post : Int64 → Prop, post ra → wpX_after post (f_cellLimit, f_definitionLimit, f_depthLimit, f_itemLimit, f_cellCount, f_definedCount, f_live, f_state, f_depth, a_kinds, a_firsts, a_seconds, a_widths, a_uses, a_parents, a_attributed, a_owners, a_places, a_contents, a_columns, a_unused, a_childless, a_nullable, a_growEarly, a_growLate, a_guards, a_items, a_names, a_late, a_residuals, a_next) (f_depth - 1) (nI k) 3 name ((1 : Int32) <<< (j &&& 31))) {post : Int32 → Prop}
    (h1 : (∃ k t, k < 8 ∧ sd_S6 t ∧ B k t) → post 1) (h0 : ¬ (∃ k t, k < 8 ∧ sd_S6 t ∧ B k t) → post 0) : wpX_mayBegin post (f_cellLimit, f_definitionLimit, f_depthLimit, f_itemLimit, f_cellCount, f_definedCount, f_live, f_state, f_depth, a_kinds, a_firsts, a_seconds, a_widths, a_uses, a_parents, a_attributed, a_owners, a_places, a_contents, a_columns, a_unused, a_childless, a_nullable, a_growEarly, a_growLate, a_guards, a_items, a_names, a_late, a_residuals, a_next) j name := by
  unfold wpX_mayBegin
  refine ⟨9, sx_mayL hB 8 0 0 (by omega) ?_ ?_ 9 (by omega)⟩
  · rintro (⟨t, _, h⟩ | ⟨m, t, _, h⟩)
    · exact absurd h (sd_lb_0 t)
    · exact h1 ⟨m, t, h⟩
  · exact fun h => h0 (fun ⟨m, t, g⟩ => h (Or.inr ⟨m, t, by omega, g⟩))

theorem sx_verL {post : Int32 → Prop} : ∀ (d k : Nat) (acc : Int64), k + d = 8 →
      (((∃ t, sd_S6 t ∧ sd_lb acc t) ∨ ∃ m t, k ≤ m ∧ m < 8 ∧ sd_S6 t ∧ sd_lb (a_next m) t) → post 0) →
      (¬ ((∃ t, sd_S6 t ∧ sd_lb acc t) ∨ ∃ m t, k ≤ m ∧ m < 8 ∧ sd_S6 t ∧ sd_lb (a_next m) t) → post (-8)) →
      ∀ n, d < n → wX_verdict_4 post f_cellLimit f_definitionLimit f_depthLimit f_itemLimit f_cellCount f_definedCount f_live f_state f_depth a_kinds a_firsts a_seconds a_widths a_uses a_parents a_attributed a_owners a_places a_contents a_columns a_unused a_childless a_nullable a_growEarly a_growLate a_guards a_items a_names a_late a_residuals a_next n acc (nI k) := by
  intro d
  induction d with
  | zero =>
    intro k acc hk h1 h0 n hn
    have e : k = 8 := by omega
    subst e
    cases n with
    | zero => omega
    | succ n =>
      refine br_t (nI_le (Nat.le_refl 8) (by decide)) (br_c (fun z => h0 ?_) (fun z => h1 (Or.inl ((sd_ne0 acc).1 z))))
      rintro (⟨t, ht, h⟩ | ⟨m, t, h1, h2, _⟩)
      · exact (sd_eq0 acc).1 z t ht h
      · omega
  | succ d ih =>
    intro k acc hk h1 h0 n hn
    have ck : (nI k).toNatClampNeg = k := sx_cl 8 (show k < 8 by omega)
    cases n with
    | zero => omega
    | succ n =>
      refine br_f (nI_ge (b := 8) (by omega) (by decide)) (And.intro (vp_in_nI (by omega) (by decide)) (nm_r (e' := acc ||| a_next k) (by rw [ck]) (nm_r (nI_1 k) (ih (k + 1) (acc ||| a_next k) (by omega) ?_ ?_ n (by omega)))))
      · refine fun h => h1 ?_
        rcases h with ⟨t, ht, h⟩ | ⟨m, t, g1, g2, g3⟩
        · rw [sd_lb_or] at h
          rcases h with h | h
          · exact Or.inl ⟨t, ht, h⟩
          · exact Or.inr ⟨k, t, by omega, by omega, ht, h⟩
        · exact Or.inr ⟨m, t, by omega, g2, g3⟩
      · refine fun h => h0 (fun g => h ?_)
        rcases g with ⟨t, ht, g⟩ | ⟨m, t, g1, g2, g3, g4⟩
        · exact Or.inl ⟨t, ht, (sd_lb_or _ _ _).2 (Or.inl g)⟩
        · by_cases e : m = k
          · subst e
            exact Or.inl ⟨t, g3, (sd_lb_or _ _ _).2 (Or.inr g4)⟩
          · exact Or.inr ⟨m, t, by omega, g2, g3, g4⟩
theorem sx_verdict {post : Int32 → Prop} (h1 : (∃ k t, k < 8 ∧ sd_S6 t ∧ sd_lb (a_next k) t) → post 0)
    (h0 : ¬ (∃ k t, k < 8 ∧ sd_S6 t ∧ sd_lb (a_next k) t) → post (-8)) : wpX_verdict post (f_cellLimit, f_definitionLimit, f_depthLimit, f_itemLimit, f_cellCount, f_definedCount, f_live, f_state, f_depth, a_kinds, a_firsts, a_seconds, a_widths, a_uses, a_parents, a_attributed, a_owners, a_places, a_contents, a_columns, a_unused, a_childless, a_nullable, a_growEarly, a_growLate, a_guards, a_items, a_names, a_late, a_residuals, a_next) := by
  unfold wpX_verdict
  refine ⟨9, sx_verL 8 0 0 (by omega) ?_ ?_ 9 (by omega)⟩
  · rintro (⟨t, _, h⟩ | ⟨m, t, _, h⟩)
    · exact absurd h (sd_lb_0 t)
    · exact h1 ⟨m, t, h⟩
  · exact fun h => h0 (fun ⟨m, t, g⟩ => h (Or.inr ⟨m, t, by omega, g⟩))

/-- step: next is filled, then the verdict -/
theorem sx_stepL {level kind name extra : Int32} {B : Nat → (Nat → Bool) → Prop}
    (hB : ∀ (nx : Nat → Int64) k, k < 8 → ∃ ra, (∀ t, sd_S6 t → (sd_lb ra t ↔ B k t)) ∧
      ∀ post : Int64 → Prop, post ra → wpX_after post (f_cellLimit, f_definitionLimit, f_depthLimit, f_itemLimit, f_cellCount, f_definedCount, f_live, f_state, f_depth, a_kinds, a_firsts, a_seconds, a_widths, a_uses, a_parents, a_attributed, a_owners, a_places, a_contents, a_columns, a_unused, a_childless, a_nullable, a_growEarly, a_growLate, a_guards, a_items, a_names, a_late, a_residuals, nx) level (nI k) kind name extra) {post : Int32 → SX → Prop}
    (h1 : ∀ nx : Nat → Int64, (∀ k t, k < 8 → sd_S6 t → (sd_lb (nx k) t ↔ B k t)) → (∃ k t, k < 8 ∧ sd_S6 t ∧ B k t) → post 0 (f_cellLimit, f_definitionLimit, f_depthLimit, f_itemLimit, f_cellCount, f_definedCount, f_live, f_state, f_depth, a_kinds, a_firsts, a_seconds, a_widths, a_uses, a_parents, a_attributed, a_owners, a_places, a_contents, a_columns, a_unused, a_childless, a_nullable, a_growEarly, a_growLate, a_guards, a_items, a_names, a_late, a_residuals, nx))
    (h0 : ∀ nx : Nat → Int64, (∀ k t, k < 8 → sd_S6 t → (sd_lb (nx k) t ↔ B k t)) → ¬ (∃ k t, k < 8 ∧ sd_S6 t ∧ B k t) → post (-8) (f_cellLimit, f_definitionLimit, f_depthLimit, f_itemLimit, f_cellCount, f_definedCount, f_live, f_state, f_depth, a_kinds, a_firsts, a_seconds, a_widths, a_uses, a_parents, a_attributed, a_owners, a_places, a_contents, a_columns, a_unused, a_childless, a_nullable, a_growEarly, a_growLate, a_guards, a_items, a_names, a_late, a_residuals, nx)) :
    ∀ (d k : Nat) (nx : Nat → Int64), k + d = 8 → (∀ m t, m < k → sd_S6 t → (sd_lb (nx m) t ↔ B m t)) →
      ∀ n, d < n → wX_step_3 post level kind name extra f_cellLimit f_definitionLimit f_depthLimit f_itemLimit f_cellCount f_definedCount f_live f_state f_depth n (nI k) a_kinds a_firsts a_seconds a_widths a_uses a_parents a_attributed a_owners a_places a_contents a_columns a_unused a_childless a_nullable a_growEarly a_growLate a_guards a_items a_names a_late a_residuals nx := by
  intro d
  induction d with
  | zero =>
    intro k nx hk hx n hn
    have e : k = 8 := by omega
    subst e
    cases n with
    | zero => omega
    | succ n =>
      refine br_t (nI_le (Nat.le_refl 8) (by decide)) (sx_verdict (fun h => h1 nx hx ?_) (fun h => h0 nx hx ?_))
      · obtain ⟨k, t, g1, g2, g3⟩ := h
        exact ⟨k, t, g1, g2, (hx k t g1 g2).1 g3⟩
      · rintro ⟨k, t, g1, g2, g3⟩
        exact h ⟨k, t, g1, g2, (hx k t g1 g2).2 g3⟩
  | succ d ih =>
    intro k nx hk hx n hn
    have ck : (nI k).toNatClampNeg = k := sx_cl 8 (show k < 8 by omega)
    cases n with
    | zero => omega
    | succ n =>
      obtain ⟨ra, hra, hw⟩ := hB nx k (by omega)
      refine br_f (nI_ge (b := 8) (by omega) (by decide)) (hw _ (And.intro (vp_in_nI (by omega) (by decide)) (nm_r (e' := vp_updL nx k ra) (by rw [ck]) (nm_r (nI_1 k) (ih (k + 1) _ (by omega) ?_ n (by omega))))))
      intro m t hm ht
      by_cases e : m = k
      · subst e; rw [pk_uLs]; exact hra t ht
      · rw [pk_uLn e]; exact hx m t (by omega) ht
theorem sx_step {level kind name extra : Int32} {B : Nat → (Nat → Bool) → Prop}
    (hB : ∀ (nx : Nat → Int64) k, k < 8 → ∃ ra, (∀ t, sd_S6 t → (sd_lb ra t ↔ B k t)) ∧
      ∀ post : Int64 → Prop, post ra → wpX_after post (f_cellLimit, f_definitionLimit, f_depthLimit, f_itemLimit, f_cellCount, f_definedCount, f_live, f_state, f_depth, a_kinds, a_firsts, a_seconds, a_widths, a_uses, a_parents, a_attributed, a_owners, a_places, a_contents, a_columns, a_unused, a_childless, a_nullable, a_growEarly, a_growLate, a_guards, a_items, a_names, a_late, a_residuals, nx) level (nI k) kind name extra) {post : Int32 → SX → Prop}
    (h1 : ∀ nx : Nat → Int64, (∀ k t, k < 8 → sd_S6 t → (sd_lb (nx k) t ↔ B k t)) → (∃ k t, k < 8 ∧ sd_S6 t ∧ B k t) → post 0 (f_cellLimit, f_definitionLimit, f_depthLimit, f_itemLimit, f_cellCount, f_definedCount, f_live, f_state, f_depth, a_kinds, a_firsts, a_seconds, a_widths, a_uses, a_parents, a_attributed, a_owners, a_places, a_contents, a_columns, a_unused, a_childless, a_nullable, a_growEarly, a_growLate, a_guards, a_items, a_names, a_late, a_residuals, nx))
    (h0 : ∀ nx : Nat → Int64, (∀ k t, k < 8 → sd_S6 t → (sd_lb (nx k) t ↔ B k t)) → ¬ (∃ k t, k < 8 ∧ sd_S6 t ∧ B k t) → post (-8) (f_cellLimit, f_definitionLimit, f_depthLimit, f_itemLimit, f_cellCount, f_definedCount, f_live, f_state, f_depth, a_kinds, a_firsts, a_seconds, a_widths, a_uses, a_parents, a_attributed, a_owners, a_places, a_contents, a_columns, a_unused, a_childless, a_nullable, a_growEarly, a_growLate, a_guards, a_items, a_names, a_late, a_residuals, nx)) :
    wpX_step post (f_cellLimit, f_definitionLimit, f_depthLimit, f_itemLimit, f_cellCount, f_definedCount, f_live, f_state, f_depth, a_kinds, a_firsts, a_seconds, a_widths, a_uses, a_parents, a_attributed, a_owners, a_places, a_contents, a_columns, a_unused, a_childless, a_nullable, a_growEarly, a_growLate, a_guards, a_items, a_names, a_late, a_residuals, a_next) level kind name extra := by
  unfold wpX_step
  exact ⟨9, sx_stepL hB h1 h0 8 0 a_next (by omega) (fun m t hm => by omega) 9 (by omega)⟩

/-- judgeStart's loop: next holds a fresh residual for each definition that may begin -/
theorem sx_jsL {name : Int32} {B : Nat → Nat → (Nat → Bool) → Prop}
    (hB : ∀ (nx : Nat → Int64) j, j < 8 → ∀ k, k < 8 → ∃ ra, (∀ t, sd_S6 t → (sd_lb ra t ↔ B j k t)) ∧
      ∀ post : Int64 → Prop, post ra → wpX_after post (f_cellLimit, f_definitionLimit, f_depthLimit, f_itemLimit, f_cellCount, f_definedCount, f_live, f_state, f_depth, a_kinds, a_firsts, a_seconds, a_widths, a_uses, a_parents, a_attributed, a_owners, a_places, a_contents, a_columns, a_unused, a_childless, a_nullable, a_growEarly, a_growLate, a_guards, a_items, a_names, a_late, a_residuals, nx) (f_depth - 1) (nI k) 3 name ((1 : Int32) <<< (nI j &&& 31))) {post : Int32 → SX → Prop}
    (h1 : ∀ nx : Nat → Int64, (∀ j, j < 8 → (bt f_live j = true ∧ (∃ k t, k < 8 ∧ sd_S6 t ∧ B j k t) → nx j = 1) ∧ (¬ (bt f_live j = true ∧ (∃ k t, k < 8 ∧ sd_S6 t ∧ B j k t)) → nx j = 0)) →
      (∃ j, j < 8 ∧ bt f_live j = true ∧ ∃ k t, k < 8 ∧ sd_S6 t ∧ B j k t) → post 0 (f_cellLimit, f_definitionLimit, f_depthLimit, f_itemLimit, f_cellCount, f_definedCount, f_live, f_state, f_depth, a_kinds, a_firsts, a_seconds, a_widths, a_uses, a_parents, a_attributed, a_owners, a_places, a_contents, a_columns, a_unused, a_childless, a_nullable, a_growEarly, a_growLate, a_guards, a_items, a_names, a_late, a_residuals, nx))
    (h0 : ∀ nx : Nat → Int64, ¬ (∃ j, j < 8 ∧ bt f_live j = true ∧ ∃ k t, k < 8 ∧ sd_S6 t ∧ B j k t) → post (-8) (f_cellLimit, f_definitionLimit, f_depthLimit, f_itemLimit, f_cellCount, f_definedCount, f_live, f_state, f_depth, a_kinds, a_firsts, a_seconds, a_widths, a_uses, a_parents, a_attributed, a_owners, a_places, a_contents, a_columns, a_unused, a_childless, a_nullable, a_growEarly, a_growLate, a_guards, a_items, a_names, a_late, a_residuals, nx)) :
    ∀ (d j : Nat) (nx : Nat → Int64), j + d = 8 →
      (∀ i, i < j → (bt f_live i = true ∧ (∃ k t, k < 8 ∧ sd_S6 t ∧ B i k t) → nx i = 1) ∧ (¬ (bt f_live i = true ∧ (∃ k t, k < 8 ∧ sd_S6 t ∧ B i k t)) → nx i = 0)) →
      ∀ n, d < n → wX_judgeStart_47 post name f_cellLimit f_definitionLimit f_depthLimit f_itemLimit f_cellCount f_definedCount f_live f_state f_depth n (nI j) a_kinds a_firsts a_seconds a_widths a_uses a_parents a_attributed a_owners a_places a_contents a_columns a_unused a_childless a_nullable a_growEarly a_growLate a_guards a_items a_names a_late a_residuals nx := by
  intro d
  induction d with
  | zero =>
    intro j nx hj hx n hn
    have e : j = 8 := by omega
    subst e
    cases n with
    | zero => omega
    | succ n =>
      refine br_t (nI_le (Nat.le_refl 8) (by decide)) (sx_verdict (fun h => h1 nx hx ?_) (fun h => h0 nx ?_))
      · obtain ⟨j, t, g1, g2, g3⟩ := h
        refine Classical.byContradiction (fun q => ?_)
        rw [(hx j g1).2 (fun z => q ⟨j, g1, z⟩)] at g3
        exact sd_lb_0 t g3
      · rintro ⟨j, g1, g2⟩
        refine h ⟨j, sd_e, g1, sd_S6_e, ?_⟩
        rw [(hx j g1).1 g2, sd_lb_1]
        exact fun i _ => rfl
  | succ d ih =>
    intro j nx hj hx n hn
    have cj : (nI j).toNatClampNeg = j := sx_cl 8 (show j < 8 by omega)
    have vj : vp_in (nI j) 8 := vp_in_nI (by omega) (by decide)
    cases n with
    | zero => omega
    | succ n =>
      have go : ∀ v : Int64, ((bt f_live j = true ∧ (∃ k t, k < 8 ∧ sd_S6 t ∧ B j k t) → v = 1) ∧ (¬ (bt f_live j = true ∧ (∃ k t, k < 8 ∧ sd_S6 t ∧ B j k t)) → v = 0)) →
          vp_in (nI j) 8 ∧ ∀ nx' : Nat → Int64, nx' = vp_updL nx (nI j).toNatClampNeg v → ∀ x2 : Int32, x2 = nI j + 1 → wX_judgeStart_47 post name f_cellLimit f_definitionLimit f_depthLimit f_itemLimit f_cellCount f_definedCount f_live f_state f_depth n x2 a_kinds a_firsts a_seconds a_widths a_uses a_parents a_attributed a_owners a_places a_contents a_columns a_unused a_childless a_nullable a_growEarly a_growLate a_guards a_items a_names a_late a_residuals nx' := by
        intro v hv
        refine And.intro vj (nm_r (e' := vp_updL nx j v) (by rw [cj]) (nm_r (nI_1 j) (ih (j + 1) _ (by omega) ?_ n (by omega))))
        intro i hi
        by_cases e : i = j
        · subst e; rw [pk_uLs]; exact hv
        · rw [pk_uLn e]; exact hx i (by omega)
      refine br_f (nI_ge (b := 8) (by omega) (by decide)) ?_
      unfold wpX_isLive
      refine br_c (fun z => br_t rfl (go 0 ⟨fun q => absurd q.1 ((sx_bit0 (by omega)).1 z), fun _ => rfl⟩)) (fun z => br_f (by decide) ?_)
      have lj : bt f_live j = true := Classical.byContradiction (fun q => z ((sx_bit0 (by omega)).2 q))
      refine sx_mayBegin (fun k hk => hB nx j (by omega) k hk) (fun h => br_f (by decide) ?_) (fun h => br_t rfl ?_)
      · exact go 1 ⟨fun _ => rfl, fun q => absurd ⟨lj, h⟩ q⟩
      · exact go 0 ⟨fun q => absurd q.2 h, fun _ => rfl⟩

/-- the definitions that match, as a mask -/
theorem sx_mdL {l : Nat} (hl : l < 5) (hd : f_depth - 1 = nI l) (hC : ∀ k, k < 8 → a_contents k = -1 ∨ ∃ r, r < 24 ∧ a_contents k = nI r) {post : Int32 → Prop} :
    ∀ (d k : Nat) (acc : Int32), k + d = 8 →
      (∀ m : Int32, (∀ j, bt m j = true ↔ bt acc j = true ∨ (k ≤ j ∧ j < 8 ∧ ∃ r, r < 24 ∧ a_contents j = nI r ∧ ∃ s, sd_S6 s ∧ sd_lb (a_residuals (l * 8 + j)) s ∧ sd_lb (a_nullable r) s)) → post m) →
      ∀ n, d < n → wX_matchedDefinitions_4 post f_cellLimit f_definitionLimit f_depthLimit f_itemLimit f_cellCount f_definedCount f_live f_state f_depth a_kinds a_firsts a_seconds a_widths a_uses a_parents a_attributed a_owners a_places a_contents a_columns a_unused a_childless a_nullable a_growEarly a_growLate a_guards a_items a_names a_late a_residuals a_next n acc (nI k) := by
  intro d
  induction d with
  | zero =>
    intro k acc hk h n hn
    have e : k = 8 := by omega
    subst e
    cases n with
    | zero => omega
    | succ n =>
      refine br_t (nI_le (Nat.le_refl 8) (by decide)) (h acc (fun j => ⟨fun q => Or.inl q, fun q => q.elim id (fun z => by omega)⟩))
  | succ d ih =>
    intro k acc hk h n hn
    have ck : (nI k).toNatClampNeg = k := sx_cl 8 (show k < 8 by omega)
    have ei : nI l * 8 + nI k = nI (l * 8 + k) := by
      rw [show (8 : Int32) = nI 8 from rfl, pk_mul, nI_add]
    have vi : vp_in (nI (l * 8 + k)) 40 := vp_in_nI (by omega) (by decide)
    have ci : (nI (l * 8 + k)).toNatClampNeg = l * 8 + k := sx_cl 40 (by omega)
    cases n with
    | zero => omega
    | succ n =>
      -- k doesn't match
      have no : ¬ (∃ r, r < 24 ∧ a_contents k = nI r ∧ ∃ s, sd_S6 s ∧ sd_lb (a_residuals (l * 8 + k)) s ∧ sd_lb (a_nullable r) s) →
          wX_matchedDefinitions_4 post f_cellLimit f_definitionLimit f_depthLimit f_itemLimit f_cellCount f_definedCount f_live f_state f_depth a_kinds a_firsts a_seconds a_widths a_uses a_parents a_attributed a_owners a_places a_contents a_columns a_unused a_childless a_nullable a_growEarly a_growLate a_guards a_items a_names a_late a_residuals a_next n acc (nI (k + 1)) := by
        intro q
        refine ih (k + 1) acc (by omega) (fun m hm => h m (fun j => ?_)) n (by omega)
        rw [hm j]
        constructor
        · rintro (z | ⟨z1, z2⟩)
          · exact Or.inl z
          · exact Or.inr ⟨by omega, z2⟩
        · rintro (z | ⟨z1, z2, z3⟩)
          · exact Or.inl z
          · by_cases e : j = k
            · subst e; exact absurd z3 q
            · exact Or.inr ⟨by omega, z2, z3⟩
      have yes : (∃ r, r < 24 ∧ a_contents k = nI r ∧ ∃ s, sd_S6 s ∧ sd_lb (a_residuals (l * 8 + k)) s ∧ sd_lb (a_nullable r) s) →
          wX_matchedDefinitions_4 post f_cellLimit f_definitionLimit f_depthLimit f_itemLimit f_cellCount f_definedCount f_live f_state f_depth a_kinds a_firsts a_seconds a_widths a_uses a_parents a_attributed a_owners a_places a_contents a_columns a_unused a_childless a_nullable a_growEarly a_growLate a_guards a_items a_names a_late a_residuals a_next n (acc ||| ((1 : Int32) <<< (nI k &&& 31))) (nI (k + 1)) := by
        intro q
        refine ih (k + 1) _ (by omega) (fun m hm => h m (fun j => ?_)) n (by omega)
        rw [hm j, sx_bor (by omega)]
        constructor
        · rintro ((z | z) | ⟨z1, z2⟩)
          · exact Or.inl z
          · subst z; exact Or.inr ⟨by omega, by omega, q⟩
          · exact Or.inr ⟨by omega, z2⟩
        · rintro (z | ⟨z1, z2, z3⟩)
          · exact Or.inl (Or.inl z)
          · by_cases e : j = k
            · exact Or.inl (Or.inr e)
            · exact Or.inr ⟨by omega, z2, z3⟩
      refine br_f (nI_ge (b := 8) (by omega) (by decide)) (And.intro (vp_in_nI (by omega) (by decide)) (nm_r (e' := a_contents k) (by rw [ck]) ?_))
      rw [hd, ei]
      refine And.intro vi (nm_r (e' := a_residuals (l * 8 + k)) (by rw [ci]) ?_)
      rcases hC k (by omega) with hc | ⟨r, r24, hc⟩
      · refine br_t (by rw [hc]; decide) (nm_r (nI_1 k) (no ?_))
        rintro ⟨r, r24, e, _⟩
        rw [hc] at e
        exact absurd (show nI r < 0 by rw [← e]; decide) (nI_pos (by omega))
      · have er : (nI r).toNatClampNeg = r := sx_cl 24 r24
        rw [hc]
        refine br_f (nI_pos (by omega)) (And.intro (vp_in_nI r24 (by decide)) (br_c (fun z => nm_r (nI_1 k) (no ?_)) (fun z => nm_e (nm_r (nI_1 k) (yes ?_)))))
        · rintro ⟨r', r24', e, s, g1, g2, g3⟩
          rw [hc, nI_eq (by omega) (by omega)] at e
          subst e
          rw [er] at z
          exact (sd_eq0 _).1 z s g1 ((sd_lb_and _ _ _).2 ⟨g2, g3⟩)
        · rw [er] at z
          obtain ⟨s, g1, g2⟩ := (sd_ne0 _).1 z
          rw [sd_lb_and] at g2
          exact ⟨r, r24, hc, s, g1, g2.1, g2.2⟩
theorem sx_md {l : Nat} (hl : l < 5) (hd : f_depth - 1 = nI l) (hC : ∀ k, k < 8 → a_contents k = -1 ∨ ∃ r, r < 24 ∧ a_contents k = nI r) {post : Int32 → Prop}
    (h : ∀ m : Int32, (∀ j, bt m j = true ↔ (j < 8 ∧ ∃ r, r < 24 ∧ a_contents j = nI r ∧ ∃ s, sd_S6 s ∧ sd_lb (a_residuals (l * 8 + j)) s ∧ sd_lb (a_nullable r) s)) → post m) :
    wpX_matchedDefinitions post (f_cellLimit, f_definitionLimit, f_depthLimit, f_itemLimit, f_cellCount, f_definedCount, f_live, f_state, f_depth, a_kinds, a_firsts, a_seconds, a_widths, a_uses, a_parents, a_attributed, a_owners, a_places, a_contents, a_columns, a_unused, a_childless, a_nullable, a_growEarly, a_growLate, a_guards, a_items, a_names, a_late, a_residuals, a_next) := by
  unfold wpX_matchedDefinitions
  refine ⟨9, sx_mdL hl hd hC 8 0 0 (by omega) (fun m hm => h m (fun j => ?_)) 9 (by omega)⟩
  rw [hm j, b_0]
  exact ⟨fun q => q.elim (fun z => by cases z) (fun z => z.2), fun q => Or.inr ⟨by omega, q⟩⟩

/-- the definitions that can grow from nothing -/
theorem sx_grL (hC : ∀ k, k < 8 → a_contents k = -1 ∨ ∃ r, r < 24 ∧ a_contents k = nI r) {post : Int32 → Prop} :
    ∀ (d k : Nat) (acc : Int32), k + d = 8 →
      (∀ m : Int32, (∀ j, bt m j = true ↔ bt acc j = true ∨ (k ≤ j ∧ j < 8 ∧ ∃ r, r < 24 ∧ a_contents j = nI r ∧ sd_lb (a_growEarly r) sd_e)) → post m) →
      ∀ n, d < n → wX_growing_4 post f_cellLimit f_definitionLimit f_depthLimit f_itemLimit f_cellCount f_definedCount f_live f_state f_depth a_kinds a_firsts a_seconds a_widths a_uses a_parents a_attributed a_owners a_places a_contents a_columns a_unused a_childless a_nullable a_growEarly a_growLate a_guards a_items a_names a_late a_residuals a_next n acc (nI k) := by
  have e1 : ∀ w : Int64, w &&& 1 = 0 ↔ ¬ sd_lb w sd_e := by
    intro w
    rw [sd_eq0]
    constructor
    · intro h q
      exact h sd_e sd_S6_e ((sd_lb_and _ _ _).2 ⟨q, (sd_lb_1 _).2 (fun i _ => rfl)⟩)
    · intro h s hs q
      rw [sd_lb_and, sd_lb_1] at q
      exact h ((sd_lb_cg (fun i hi => q.2 i hi)).1 q.1)
  intro d
  induction d with
  | zero =>
    intro k acc hk h n hn
    have e : k = 8 := by omega
    subst e
    cases n with
    | zero => omega
    | succ n =>
      refine br_t (nI_le (Nat.le_refl 8) (by decide)) (h acc (fun j => ⟨fun q => Or.inl q, fun q => q.elim id (fun z => by omega)⟩))
  | succ d ih =>
    intro k acc hk h n hn
    have ck : (nI k).toNatClampNeg = k := sx_cl 8 (show k < 8 by omega)
    cases n with
    | zero => omega
    | succ n =>
      have no : ¬ (∃ r, r < 24 ∧ a_contents k = nI r ∧ sd_lb (a_growEarly r) sd_e) → wX_growing_4 post f_cellLimit f_definitionLimit f_depthLimit f_itemLimit f_cellCount f_definedCount f_live f_state f_depth a_kinds a_firsts a_seconds a_widths a_uses a_parents a_attributed a_owners a_places a_contents a_columns a_unused a_childless a_nullable a_growEarly a_growLate a_guards a_items a_names a_late a_residuals a_next n acc (nI (k + 1)) := by
        intro q
        refine ih (k + 1) acc (by omega) (fun m hm => h m (fun j => ?_)) n (by omega)
        rw [hm j]
        constructor
        · rintro (z | ⟨z1, z2⟩)
          · exact Or.inl z
          · exact Or.inr ⟨by omega, z2⟩
        · rintro (z | ⟨z1, z2, z3⟩)
          · exact Or.inl z
          · by_cases e : j = k
            · subst e; exact absurd z3 q
            · exact Or.inr ⟨by omega, z2, z3⟩
      have yes : (∃ r, r < 24 ∧ a_contents k = nI r ∧ sd_lb (a_growEarly r) sd_e) →
          wX_growing_4 post f_cellLimit f_definitionLimit f_depthLimit f_itemLimit f_cellCount f_definedCount f_live f_state f_depth a_kinds a_firsts a_seconds a_widths a_uses a_parents a_attributed a_owners a_places a_contents a_columns a_unused a_childless a_nullable a_growEarly a_growLate a_guards a_items a_names a_late a_residuals a_next n (acc ||| ((1 : Int32) <<< (nI k &&& 31))) (nI (k + 1)) := by
        intro q
        refine ih (k + 1) _ (by omega) (fun m hm => h m (fun j => ?_)) n (by omega)
        rw [hm j, sx_bor (by omega)]
        constructor
        · rintro ((z | z) | ⟨z1, z2⟩)
          · exact Or.inl z
          · subst z; exact Or.inr ⟨by omega, by omega, q⟩
          · exact Or.inr ⟨by omega, z2⟩
        · rintro (z | ⟨z1, z2, z3⟩)
          · exact Or.inl (Or.inl z)
          · by_cases e : j = k
            · exact Or.inl (Or.inr e)
            · exact Or.inr ⟨by omega, z2, z3⟩
      refine br_f (nI_ge (b := 8) (by omega) (by decide)) (And.intro (vp_in_nI (by omega) (by decide)) (nm_r (e' := a_contents k) (by rw [ck]) ?_))
      rcases hC k (by omega) with hc | ⟨r, r24, hc⟩
      · refine br_t (by rw [hc]; decide) (nm_r (nI_1 k) (no ?_))
        rintro ⟨r, r24, e, _⟩
        rw [hc] at e
        exact absurd (show nI r < 0 by rw [← e]; decide) (nI_pos (by omega))
      · have er : (nI r).toNatClampNeg = r := sx_cl 24 r24
        rw [hc]
        refine br_f (nI_pos (by omega)) (And.intro (vp_in_nI r24 (by decide)) (br_c (fun z => nm_r (nI_1 k) (no ?_)) (fun z => nm_e (nm_r (nI_1 k) (yes ?_)))))
        · rintro ⟨r', r24', e, g⟩
          rw [hc, nI_eq (by omega) (by omega)] at e
          subst e
          rw [er, e1] at z
          exact z g
        · rw [er] at z
          exact ⟨r, r24, hc, Classical.byContradiction (fun q => z ((e1 _).2 q))⟩
theorem sx_growing (hC : ∀ k, k < 8 → a_contents k = -1 ∨ ∃ r, r < 24 ∧ a_contents k = nI r) {post : Int32 → Prop}
    (h : ∀ m : Int32, (∀ j, bt m j = true ↔ (j < 8 ∧ ∃ r, r < 24 ∧ a_contents j = nI r ∧ sd_lb (a_growEarly r) sd_e)) → post m) :
    wpX_growing post (f_cellLimit, f_definitionLimit, f_depthLimit, f_itemLimit, f_cellCount, f_definedCount, f_live, f_state, f_depth, a_kinds, a_firsts, a_seconds, a_widths, a_uses, a_parents, a_attributed, a_owners, a_places, a_contents, a_columns, a_unused, a_childless, a_nullable, a_growEarly, a_growLate, a_guards, a_items, a_names, a_late, a_residuals, a_next) := by
  unfold wpX_growing
  refine ⟨9, sx_grL hC 8 0 0 (by omega) (fun m hm => h m (fun j => ?_)) 9 (by omega)⟩
  rw [hm j, b_0]
  exact ⟨fun q => q.elim (fun z => by cases z) (fun z => z.2), fun q => Or.inr ⟨by omega, q⟩⟩

/-- keep: the row is stored -/
theorem sx_keepL {l : Nat} (hl : l < 5) {post : SX → Prop}
    (h : ∀ rs : Nat → Int64, (∀ k, k < 8 → rs (l * 8 + k) = a_next k) → (∀ i, ¬ (l * 8 ≤ i ∧ i < l * 8 + 8) → rs i = a_residuals i) → post (f_cellLimit, f_definitionLimit, f_depthLimit, f_itemLimit, f_cellCount, f_definedCount, f_live, f_state, f_depth, a_kinds, a_firsts, a_seconds, a_widths, a_uses, a_parents, a_attributed, a_owners, a_places, a_contents, a_columns, a_unused, a_childless, a_nullable, a_growEarly, a_growLate, a_guards, a_items, a_names, a_late, rs, a_next)) :
    ∀ (d k : Nat) (rs : Nat → Int64), k + d = 8 → (∀ j, j < k → rs (l * 8 + j) = a_next j) → (∀ i, ¬ (l * 8 ≤ i ∧ i < l * 8 + 8) → rs i = a_residuals i) →
      ∀ n, d < n → wX_keep_2 post (nI l) f_cellLimit f_definitionLimit f_depthLimit f_itemLimit f_cellCount f_definedCount f_live f_state f_depth n (nI k) a_kinds a_firsts a_seconds a_widths a_uses a_parents a_attributed a_owners a_places a_contents a_columns a_unused a_childless a_nullable a_growEarly a_growLate a_guards a_items a_names a_late rs a_next := by
  intro d
  induction d with
  | zero =>
    intro k rs hk h1 h2 n hn
    have e : k = 8 := by omega
    subst e
    cases n with
    | zero => omega
    | succ n => exact br_t (nI_le (Nat.le_refl 8) (by decide)) (h rs h1 h2)
  | succ d ih =>
    intro k rs hk h1 h2 n hn
    have ck : (nI k).toNatClampNeg = k := sx_cl 8 (show k < 8 by omega)
    have ei : nI l * 8 + nI k = nI (l * 8 + k) := by
      rw [show (8 : Int32) = nI 8 from rfl, pk_mul, nI_add]
    have vi : vp_in (nI (l * 8 + k)) 40 := vp_in_nI (by omega) (by decide)
    have ci : (nI (l * 8 + k)).toNatClampNeg = l * 8 + k := sx_cl 40 (by omega)
    cases n with
    | zero => omega
    | succ n =>
      refine br_f (nI_ge (b := 8) (by omega) (by decide)) (And.intro (vp_in_nI (by omega) (by decide)) ?_)
      rw [ei]
      refine And.intro vi (nm_r (e' := vp_updL rs (l * 8 + k) (a_next k)) (by rw [ci, ck]) (nm_r (nI_1 k) (ih (k + 1) _ (by omega) ?_ ?_ n (by omega))))
      · intro j hj
        by_cases e : j = k
        · subst e; rw [pk_uLs]
        · rw [pk_uLn (by omega)]; exact h1 j (by omega)
      · intro i hi
        rw [pk_uLn (by omega)]; exact h2 i hi
theorem sx_keep {l : Nat} (hl : l < 5) {post : SX → Prop}
    (h : ∀ rs : Nat → Int64, (∀ k, k < 8 → rs (l * 8 + k) = a_next k) → (∀ i, ¬ (l * 8 ≤ i ∧ i < l * 8 + 8) → rs i = a_residuals i) → post (f_cellLimit, f_definitionLimit, f_depthLimit, f_itemLimit, f_cellCount, f_definedCount, f_live, f_state, f_depth, a_kinds, a_firsts, a_seconds, a_widths, a_uses, a_parents, a_attributed, a_owners, a_places, a_contents, a_columns, a_unused, a_childless, a_nullable, a_growEarly, a_growLate, a_guards, a_items, a_names, a_late, rs, a_next)) :
    wpX_keep post (f_cellLimit, f_definitionLimit, f_depthLimit, f_itemLimit, f_cellCount, f_definedCount, f_live, f_state, f_depth, a_kinds, a_firsts, a_seconds, a_widths, a_uses, a_parents, a_attributed, a_owners, a_places, a_contents, a_columns, a_unused, a_childless, a_nullable, a_growEarly, a_growLate, a_guards, a_items, a_names, a_late, a_residuals, a_next) (nI l) := by
  unfold wpX_keep
  exact ⟨9, sx_keepL hl h 8 0 a_residuals (by omega) (fun j hj => by omega) (fun _ _ => rfl) 9 (by omega)⟩
theorem sx_vb0 : vp_nar .boolean 0 = 0 := by decide
theorem sx_vb1 : vp_nar .boolean 1 = 1 := by decide
theorem sx_push {l : Nat} (hl : l < 5) (hd : f_depth = nI l) {name : Int32} {post : SX → Prop}
    (h : ∀ rs : Nat → Int64, (∀ k, k < 8 → rs (l * 8 + k) = a_next k) → (∀ i, ¬ (l * 8 ≤ i ∧ i < l * 8 + 8) → rs i = a_residuals i) →
      post (f_cellLimit, f_definitionLimit, f_depthLimit, f_itemLimit, f_cellCount, f_definedCount, f_live, f_state, nI (l + 1), a_kinds, a_firsts, a_seconds, a_widths, a_uses, a_parents, a_attributed, a_owners, a_places, a_contents, a_columns, a_unused, a_childless, a_nullable, a_growEarly, a_growLate, a_guards, upd a_items l 0, upd a_names l name, upd a_late l 0, rs, a_next)) :
    wpX_push post (f_cellLimit, f_definitionLimit, f_depthLimit, f_itemLimit, f_cellCount, f_definedCount, f_live, f_state, f_depth, a_kinds, a_firsts, a_seconds, a_widths, a_uses, a_parents, a_attributed, a_owners, a_places, a_contents, a_columns, a_unused, a_childless, a_nullable, a_growEarly, a_growLate, a_guards, a_items, a_names, a_late, a_residuals, a_next) name := by
  have cl : (nI l).toNatClampNeg = l := sx_cl 5 hl
  have vl : vp_in (nI l) 5 := vp_in_nI hl (by decide)
  unfold wpX_push
  rw [hd]
  refine And.intro vl (nm_r (e' := upd a_names l name) (by rw [cl]) (And.intro vl (nm_r (e' := upd a_items l 0) (by rw [cl]) (And.intro vl (nm_r (e' := upd a_late l 0) (by rw [cl, sx_vb0]) ?_)))))
  refine sx_keep hl (fun rs h1 h2 => nm_r (nI_1 l) ?_)
  exact h rs h1 h2
end
end
section
/-! The schema in X's arrays -/
def sd_n (a : Nat → Int32) (c : Nat) : Nat := (a c).toNatClampNeg
theorem sd_n_of {a : Nat → Int32} {c m : Nat} (h : a c = nI m) (hm : m < 2 ^ 31) : sd_n a c = m := by
  unfold sd_n; rw [h, nI_clamp hm]
/-- a cell by itself -/
def sc_tree (K F S W U P A : Nat → Int32) (c : Nat) : Prop :=
  (K c = nI (sd_n K c) ∧ sd_n K c ≤ 7) ∧ (W c = nI (sd_n W c) ∧ sd_n W c ≤ 6) ∧
  (sd_n K c = 0 → sd_n W c = 0) ∧ (sd_n K c ≠ 0 → sd_n K c < 4 → sd_n W c = 1) ∧
  (A c = 0 ∨ A c = 1) ∧ (sd_n K c < 4 → (A c = 1 ↔ sd_n K c = 2)) ∧
  (sd_n K c = 3 → S c = nI (sd_n S c) ∧ sd_n S c < 8) ∧
  (4 ≤ sd_n K c → F c = nI (sd_n F c) ∧ sd_n F c < c ∧ U (sd_n F c) = 1 ∧ P (sd_n F c) = nI c) ∧
  (sd_n K c = 7 → sd_n W c = sd_n W (sd_n F c) ∧ A c = 0 ∧ A (sd_n F c) = 0) ∧
  (4 ≤ sd_n K c → sd_n K c ≠ 7 → S c = nI (sd_n S c) ∧ sd_n S c < c ∧ sd_n F c ≠ sd_n S c ∧ U (sd_n S c) = 1 ∧ P (sd_n S c) = nI c ∧
    sd_n W c = sd_n W (sd_n F c) + sd_n W (sd_n S c) ∧ (A c = 1 ↔ A (sd_n F c) = 1 ∨ A (sd_n S c) = 1))
/-- its use: free, an operand, a content -/
def sc_use (cnt : Nat) (K F S U P Ow Ct : Nat → Int32) (c : Nat) : Prop :=
  (U c = 0 ∧ P c = -1 ∧ Ow c = 0) ∨
  (U c = 1 ∧ ∃ d, d < cnt ∧ c < d ∧ P c = nI d ∧ 4 ≤ sd_n K d ∧ (c = sd_n F d ∨ (sd_n K d ≠ 7 ∧ c = sd_n S d)) ∧ Ow c = Ow d) ∨
  (∃ k, k < 8 ∧ U c = nI (2 + k) ∧ P c = -1 ∧ Ow c = nI (k + 1) ∧ Ct k = nI c)
/-- its place in the content -/
def sc_plc (K F S W Ow Pl : Nat → Int32) (c : Nat) : Prop :=
  ¬ Ow c = 0 → Pl c = nI (sd_n Pl c) ∧ sd_n Pl c + sd_n W c ≤ 6 ∧ (4 ≤ sd_n K c → Pl (sd_n F c) = Pl c) ∧
    (4 ≤ sd_n K c → sd_n K c ≠ 7 → Pl (sd_n S c) = Pl c + W (sd_n F c))
def sc_Sch (cnt dl : Nat) (K F S W U P A Ow Pl Ct : Nat → Int32) : Prop :=
  (cnt ≤ 24 ∧ dl ≤ 8) ∧ (∀ c, c < cnt → sc_tree K F S W U P A c) ∧ (∀ c, c < cnt → sc_use cnt K F S U P Ow Ct c) ∧
  (∀ c, c < cnt → sc_plc K F S W Ow Pl c) ∧
  (∀ k, k < 8 → Ct k = -1 ∨ ∃ r, r < cnt ∧ Ct k = nI r ∧ U r = nI (2 + k) ∧ k < dl) ∧
  (∀ c, cnt ≤ c → U c = 0 ∧ Ow c = 0)
/-- owned cells (V: of which definition) -/
def sc_O (cnt : Nat) (Ow : Nat → Int32) (V : Int32 → Prop) (c : Nat) : Prop := c < cnt ∧ V (Ow c)

theorem sx_nIne {a b : Nat} (ha : a < 2 ^ 31) (hb : b < 2 ^ 31) (h : nI a = nI b) : a = b := (nI_eq ha hb).1 h
theorem sx_01 : ¬ (0 : Int32) = 1 := by decide
theorem sx_nI1 : (1 : Int32) = nI 1 := rfl
theorem sx_nIm1 {a : Nat} (ha : a < 2 ^ 31) : ¬ nI a = -1 := fun h => absurd (show nI a < 0 by rw [h]; decide) (nI_pos ha)

section
variable {cnt dl : Nat} {K F S W U P A Ow Pl Ct : Nat → Int32} {V : Int32 → Prop}
/-- a cell that is used as an operand: its one parent -/
theorem sc_par (H : sc_Sch cnt dl K F S W U P A Ow Pl Ct) {c d : Nat} (hc : c < cnt) (hu : U c = 1) (hp : P c = nI d) (hd : d < 24) :
    d < cnt ∧ c < d ∧ 4 ≤ sd_n K d ∧ (c = sd_n F d ∨ (sd_n K d ≠ 7 ∧ c = sd_n S d)) ∧ Ow c = Ow d := by
  have h24 := H.1.1
  rcases H.2.2.1 c hc with ⟨h, _⟩ | ⟨_, d', h1, h2, h3, h4, h5, h6⟩ | ⟨k, hk, h, _⟩
  · rw [hu] at h; exact absurd h.symm sx_01
  · rw [hp] at h3
    have e := sx_nIne (by omega) (by omega) h3
    subst e
    exact ⟨h1, h2, h4, h5, h6⟩
  · rw [hu] at h
    have := sx_nIne (a := 1) (by decide) (by omega) h
    omega
theorem sc_opF (H : sc_Sch cnt dl K F S W U P A Ow Pl Ct) {c : Nat} (hc : c < cnt) (k : 4 ≤ sd_n K c) :
    F c = nI (sd_n F c) ∧ sd_n F c < c ∧ U (sd_n F c) = 1 ∧ P (sd_n F c) = nI c ∧ Ow (sd_n F c) = Ow c := by
  have h24 := H.1.1
  obtain ⟨a, b, u, p⟩ := (H.2.1 c hc).2.2.2.2.2.2.2.1 k
  exact ⟨a, b, u, p, (sc_par H (by omega) u p (by omega)).2.2.2.2⟩
theorem sc_opS (H : sc_Sch cnt dl K F S W U P A Ow Pl Ct) {c : Nat} (hc : c < cnt) (k : 4 ≤ sd_n K c) (k7 : sd_n K c ≠ 7) :
    S c = nI (sd_n S c) ∧ sd_n S c < c ∧ sd_n F c ≠ sd_n S c ∧ U (sd_n S c) = 1 ∧ P (sd_n S c) = nI c ∧ Ow (sd_n S c) = Ow c := by
  have h24 := H.1.1
  obtain ⟨a, b, ne, u, p, _⟩ := (H.2.1 c hc).2.2.2.2.2.2.2.2.2 k k7
  exact ⟨a, b, ne, u, p, (sc_par H (by omega) u p (by omega)).2.2.2.2⟩
theorem sc_tr (H : sc_Sch cnt dl K F S W U P A Ow Pl Ct) (v0 : ¬ V 0) :
    sd_tr (sd_n K) (sd_n F) (sd_n S) (sd_n Pl) (sd_n W) (sc_O cnt Ow V) := by
  rintro c ⟨hc, hv⟩
  have ho : ¬ Ow c = 0 := fun e => v0 (by rw [← e]; exact hv)
  obtain ⟨p1, p2, p3, p4⟩ := H.2.2.2.1 c hc ho
  have hT := H.2.1 c hc
  refine ⟨hT.1.2, hT.2.2.1, hT.2.2.2.1, fun k => ?_, fun k => (hT.2.2.2.2.2.2.2.2.1 k).1, fun k k7 => ?_⟩
  · obtain ⟨_, b, _, _, o⟩ := sc_opF H hc k
    refine ⟨⟨by omega, by rw [o]; exact hv⟩, b, ?_⟩
    show (Pl (sd_n F c)).toNatClampNeg = _
    rw [p3 k]; rfl
  · obtain ⟨_, b, _, _, _, o⟩ := sc_opS H hc k k7
    have w := hT.2.2.2.2.2.2.2.2.2 k k7
    obtain ⟨_, fb, _⟩ := sc_opF H hc k
    have wp := (H.2.1 (sd_n F c) (by omega)).2.1
    refine ⟨⟨by omega, by rw [o]; exact hv⟩, b, ?_, w.2.2.2.2.2.1⟩
    show (Pl (sd_n S c)).toNatClampNeg = _
    rw [p4 k k7, p1, wp.1, nI_add]
    rw [nI_clamp (by omega), sd_n_of (a := Pl) p1 (by omega), sd_n_of (a := W) wp.1 (by omega)]
theorem sc_ne (H : sc_Sch cnt dl K F S W U P A Ow Pl Ct) : ∀ c, sc_O cnt Ow V c → 4 ≤ sd_n K c → sd_n K c ≠ 7 → sd_n F c ≠ sd_n S c :=
  fun c hc k k7 => (sc_opS H hc.1 k k7).2.2.1
theorem sc_chp (H : sc_Sch cnt dl K F S W U P A Ow Pl Ct) : ∀ c d, sc_O cnt Ow V c → sd_ch (sd_n K) (sd_n F) (sd_n S) c d → sd_n P d = c := by
  rintro c d ⟨hc, _⟩ ⟨k, h⟩
  have h24 := H.1.1
  rcases h with rfl | ⟨k7, rfl⟩
  · exact sd_n_of (sc_opF H hc k).2.2.2.1 (by omega)
  · exact sd_n_of (sc_opS H hc k k7).2.2.2.2.1 (by omega)
theorem sc_abE (H : sc_Sch cnt dl K F S W U P A Ow Pl Ct) : sd_abE (sd_n K) (sd_n F) (sd_n S) (sc_O cnt Ow V) (fun c => A c = 1) := by
  rintro c ⟨hc, _⟩
  have hT := H.2.1 c hc
  refine ⟨fun k => (hT.2.2.2.2.2.1 (by omega)).2 k, fun k k7 h => ((hT.2.2.2.2.2.2.2.2.2 k k7).2.2.2.2.2.2).2 h, fun k h => ?_⟩
  have := (hT.2.2.2.2.2.2.2.2.1 k).2.2
  rw [h] at this
  exact absurd this (by decide)
/-- the way up from an owned cell to its root -/
theorem sc_way (H : sc_Sch cnt dl K F S W U P A Ow Pl Ct) {k : Nat} (hk : k < 8) : ∀ (m l : Nat), l < cnt → cnt ≤ l + m → Ow l = nI (k + 1) → ∃ J,
    J + l < cnt ∧ Ct k = nI (sd_up (sd_n P) l J) ∧ P (sd_up (sd_n P) l J) = -1 ∧ sd_up (sd_n P) l J < cnt ∧ Ow (sd_up (sd_n P) l J) = nI (k + 1) ∧
    ∀ i, i < J → sd_up (sd_n P) l i < cnt ∧ Ow (sd_up (sd_n P) l i) = nI (k + 1) ∧ P (sd_up (sd_n P) l i) = nI (sd_up (sd_n P) l (i + 1)) ∧
      sd_up (sd_n P) l (i + 1) < cnt ∧ Ow (sd_up (sd_n P) l (i + 1)) = nI (k + 1) ∧ sd_ch (sd_n K) (sd_n F) (sd_n S) (sd_up (sd_n P) l (i + 1)) (sd_up (sd_n P) l i) := by
  have h24 := H.1.1
  have ups : ∀ l j, sd_up (sd_n P) (sd_n P l) j = sd_up (sd_n P) l (j + 1) := by
    intro l j
    induction j with
    | zero => rfl
    | succ j ih =>
      show sd_n P (sd_up (sd_n P) (sd_n P l) j) = _
      rw [ih]; rfl
  intro m
  induction m with
  | zero => intro l h1 h2; omega
  | succ m ih =>
    intro l h1 h2 ho
    rcases H.2.2.1 l h1 with ⟨_, _, h⟩ | ⟨hu, d, g1, g2, g3, g4, g5, g6⟩ | ⟨k', hk', _, g2, g3, g4⟩
    · rw [ho] at h
      exact absurd (sx_nIne (b := 0) (by omega) (by omega) h) (by omega)
    · have ed : sd_n P l = d := sd_n_of g3 (by omega)
      obtain ⟨J, j1, j2, j3, j4, j5, j6⟩ := ih d g1 (by omega) (by rw [← g6]; exact ho)
      rw [← ed] at j2 j3 j4 j5 j6
      rw [ups] at j2 j3 j4 j5
      refine ⟨J + 1, by omega, j2, j3, j4, j5, ?_⟩
      intro i hi
      cases i with
      | zero =>
        show l < cnt ∧ Ow l = _ ∧ P l = nI (sd_n P l) ∧ sd_n P l < cnt ∧ Ow (sd_n P l) = _ ∧ sd_ch (sd_n K) (sd_n F) (sd_n S) (sd_n P l) l
        rw [ed]
        exact ⟨h1, ho, g3, g1, by rw [← g6]; exact ho, g4, g5⟩
      | succ i =>
        have q := j6 i (by omega)
        rw [ups, ups] at q
        exact q
    · rw [ho] at g3
      have e := sx_nIne (by omega) (by omega) g3
      have e' : k' = k := by omega
      subst e'
      exact ⟨0, by omega, g4, g2, h1, ho, fun i hi => by omega⟩
/-- the whole way, as the walks and as the mathematics want it -/
theorem sc_wayX (H : sc_Sch cnt dl K F S W U P A Ow Pl Ct) {k l : Nat} (hk : k < 8) (hl : l < cnt) (ho : Ow l = nI (k + 1)) : ∃ J,
    sx_way P (sd_up (sd_n P) l) J ∧ Ct k = nI (sd_up (sd_n P) l J) ∧ (∀ i, i ≤ J → sc_O cnt Ow (fun v => v = nI (k + 1)) (sd_up (sd_n P) l i)) ∧
    (∀ i, i < J → sc_O cnt Ow (fun v => v = nI (k + 1)) (sd_up (sd_n P) l (i + 1)) ∧ sd_ch (sd_n K) (sd_n F) (sd_n S) (sd_up (sd_n P) l (i + 1)) (sd_up (sd_n P) l i)) := by
  have h24 := H.1.1
  obtain ⟨J, j1, j2, j3, j4, j5, j6⟩ := sc_way H hk (cnt - l) l hl (by omega) ho
  refine ⟨J, ⟨by omega, fun i hi => ?_, fun i hi => (j6 i hi).2.2.1, j3⟩, j2, fun i hi => ?_, fun i hi => ⟨⟨(j6 i hi).2.2.2.1, (j6 i hi).2.2.2.2.1⟩, (j6 i hi).2.2.2.2.2⟩⟩
  · by_cases e : i = J
    · rw [e]; omega
    · have := (j6 i (by omega)).1; omega
  · by_cases e : i = J
    · rw [e]; exact ⟨j4, j5⟩
    · exact ⟨(j6 i (by omega)).1, (j6 i (by omega)).2.1⟩
theorem sc_root (H : sc_Sch cnt dl K F S W U P A Ow Pl Ct) {k r : Nat} (hk : k < 8) (hr : Ct k = nI r) (hr' : r < 2 ^ 31) :
    r < cnt ∧ U r = nI (2 + k) ∧ k < dl ∧ Ow r = nI (k + 1) ∧ P r = -1 := by
  have h24 := H.1.1
  rcases H.2.2.2.2.1 k hk with h | ⟨r', h1, h2, h3, h4⟩
  · rw [hr] at h; exact absurd h (sx_nIm1 hr')
  · rw [hr] at h2
    have e := sx_nIne hr' (by omega) h2
    subst e
    rcases H.2.2.1 r h1 with ⟨g, _⟩ | ⟨g, _⟩ | ⟨k', hk', g1, g2, g3, g4⟩
    · rw [h3] at g
      exact absurd (sx_nIne (b := 0) (by omega) (by omega) g) (by omega)
    · rw [h3] at g
      exact absurd (sx_nIne (b := 1) (by omega) (by omega) g) (by omega)
    · rw [h3] at g1
      have e := sx_nIne (by omega) (by omega) g1
      have e' : k' = k := by omega
      subst e'
      exact ⟨h1, h3, h4, g3, g2⟩
/-- an owned cell lies at or below its root -/
theorem sc_le (H : sc_Sch cnt dl K F S W U P A Ow Pl Ct) {k l r : Nat} (hk : k < 8) (hl : l < cnt) (ho : Ow l = nI (k + 1)) (hr : Ct k = nI r) (hr' : r < 2 ^ 31) : l ≤ r := by
  have h24 := H.1.1
  obtain ⟨J, hw, hC, hO, hs⟩ := sc_wayX H hk hl ho
  have lJ := (hO J (Nat.le_refl _)).1
  rw [hr] at hC
  have e := sx_nIne hr' (by omega) hC
  rw [e]
  have : ∀ i, i ≤ J → l ≤ sd_up (sd_n P) l i := by
    intro i
    induction i with
    | zero => exact fun _ => Nat.le_refl _
    | succ i ih =>
      intro hi
      have a := ih (by omega)
      obtain ⟨o, ch⟩ := hs i (by omega)
      have : sd_up (sd_n P) l i < sd_up (sd_n P) l (i + 1) := by
        rcases ch.2 with q | ⟨k7, q⟩
        · rw [q]; exact (sc_opF H o.1 ch.1).2.1
        · rw [q]; exact (sc_opS H o.1 ch.1 k7).2.1
      omega
  exact this J (Nat.le_refl _)
end
end
section
/-! X: refresh -/
/-- the equations of the use tables at c -/
def sx_useE (K F S Pl : Nat → Int32) (col Un Cl Nu : Nat → Int64) (c : Nat) : Prop :=
  (sd_n K c = 0 → Un c = -1 ∧ Cl c = -1 ∧ Nu c = -1) ∧
  (sd_n K c ≠ 0 → sd_n K c < 4 → Un c = col (sd_n Pl c) ^^^ (-1) ∧ (sd_n K c = 2 → Cl c = -1) ∧ (sd_n K c ≠ 2 → Cl c = col (sd_n Pl c) ^^^ (-1)) ∧
    (sd_n K c = 1 → Nu c = -1) ∧ (sd_n K c ≠ 1 → Nu c = col (sd_n Pl c))) ∧
  (sd_n K c = 7 → Un c = Un (sd_n F c) ∧ Cl c = Cl (sd_n F c) ∧ Nu c = Nu (sd_n F c)) ∧
  (4 ≤ sd_n K c → sd_n K c ≠ 7 → Un c = Un (sd_n F c) &&& Un (sd_n S c) ∧ Cl c = Cl (sd_n F c) &&& Cl (sd_n S c) ∧
    (sd_n K c = 4 → Nu c = (Nu (sd_n F c) &&& Un (sd_n S c)) ||| (Nu (sd_n S c) &&& Un (sd_n F c))) ∧ (sd_n K c ≠ 4 → Nu c = Nu (sd_n F c) &&& Nu (sd_n S c)))
def sx_fil (K S : Nat → Int32) (live : Int32) (c : Nat) : Prop := sd_n K c ≠ 3 ∨ bt live (sd_n S c) = true
/-- the equations of the growth tables at c -/
def sx_groE (K F S : Nat → Int32) (live : Int32) (Un Ge Gl : Nat → Int64) (c : Nat) : Prop :=
  (sd_n K c < 4 → (sx_fil K S live c → Ge c = -1) ∧ (¬ sx_fil K S live c → Ge c = Un c ^^^ (-1)) ∧
    (sx_fil K S live c ∧ sd_n K c ≠ 2 → Gl c = -1) ∧ (¬ (sx_fil K S live c ∧ sd_n K c ≠ 2) → Gl c = Un c ^^^ (-1))) ∧
  (sd_n K c = 7 → Ge c = Ge (sd_n F c) ∧ Gl c = Gl (sd_n F c)) ∧
  (sd_n K c = 4 → Ge c = (Ge (sd_n F c) &&& Un (sd_n S c)) ||| (Ge (sd_n S c) &&& Un (sd_n F c)) ∧ Gl c = (Gl (sd_n F c) &&& Un (sd_n S c)) ||| (Gl (sd_n S c) &&& Un (sd_n F c))) ∧
  (4 < sd_n K c → sd_n K c ≠ 7 → Ge c = Ge (sd_n F c) &&& Ge (sd_n S c) ∧ Gl c = Gl (sd_n F c) &&& Gl (sd_n S c))
/-- what the walks need of an owned cell -/
def sx_ok (K F S Pl : Nat → Int32) (c : Nat) : Prop :=
  c < 24 ∧ K c = nI (sd_n K c) ∧ sd_n K c ≤ 7 ∧ (sd_n K c = 3 → S c = nI (sd_n S c) ∧ sd_n S c < 8) ∧
  (4 ≤ sd_n K c → F c = nI (sd_n F c) ∧ sd_n F c < c) ∧ (4 ≤ sd_n K c → sd_n K c ≠ 7 → S c = nI (sd_n S c) ∧ sd_n S c < c) ∧
  (sd_n K c ≠ 0 → sd_n K c < 4 → Pl c = nI (sd_n Pl c) ∧ sd_n Pl c < 6)
theorem sx_useE_up {K F S Pl : Nat → Int32} {col Un Cl Nu : Nat → Int64} {c e : Nat} {a b d : Int64} (ok : sx_ok K F S Pl e) (he : e < c)
    (h : sx_useE K F S Pl col Un Cl Nu e) : sx_useE K F S Pl col (vp_updL Un c a) (vp_updL Cl c b) (vp_updL Nu c d) e := by
  obtain ⟨h0, h1, h2, h3⟩ := h
  obtain ⟨_, _, _, _, o1, o2, _⟩ := ok
  have n1 : ∀ (f : Nat → Int64) (v : Int64), vp_updL f c v e = f e := fun f v => pk_uLn (by omega)
  refine ⟨fun k => ?_, fun k k' => ?_, fun k => ?_, fun k k7 => ?_⟩
  · rw [n1, n1, n1]; exact h0 k
  · rw [n1, n1, n1]; exact h1 k k'
  · have l := (o1 (by omega)).2
    have n2 : ∀ (f : Nat → Int64) (v : Int64), vp_updL f c v (sd_n F e) = f (sd_n F e) := fun f v => pk_uLn (by omega)
    rw [n1, n1, n1, n2, n2, n2]; exact h2 k
  · have l := (o1 k).2
    have l' := (o2 k k7).2
    have n2 : ∀ (f : Nat → Int64) (v : Int64), vp_updL f c v (sd_n F e) = f (sd_n F e) := fun f v => pk_uLn (by omega)
    have n3 : ∀ (f : Nat → Int64) (v : Int64), vp_updL f c v (sd_n S e) = f (sd_n S e) := fun f v => pk_uLn (by omega)
    rw [n1, n1, n1, n2, n2, n2, n3, n3, n3]; exact h3 k k7
theorem sx_groE_up {K F S Pl : Nat → Int32} {live : Int32} {Un Ge Gl : Nat → Int64} {c e : Nat} {a b : Int64} (ok : sx_ok K F S Pl e) (he : e < c)
    (h : sx_groE K F S live Un Ge Gl e) : sx_groE K F S live Un (vp_updL Ge c a) (vp_updL Gl c b) e := by
  obtain ⟨h0, h1, h2, h3⟩ := h
  obtain ⟨_, _, _, _, o1, o2, _⟩ := ok
  have n1 : ∀ (f : Nat → Int64) (v : Int64), vp_updL f c v e = f e := fun f v => pk_uLn (by omega)
  refine ⟨fun k => ?_, fun k => ?_, fun k => ?_, fun k k7 => ?_⟩
  · rw [n1, n1]; exact h0 k
  · have l := (o1 (by omega)).2
    have n2 : ∀ (f : Nat → Int64) (v : Int64), vp_updL f c v (sd_n F e) = f (sd_n F e) := fun f v => pk_uLn (by omega)
    rw [n1, n1, n2, n2]; exact h1 k
  · have l := (o1 (by omega)).2
    have l' := (o2 (by omega) (by omega)).2
    have n2 : ∀ (f : Nat → Int64) (v : Int64), vp_updL f c v (sd_n F e) = f (sd_n F e) := fun f v => pk_uLn (by omega)
    have n3 : ∀ (f : Nat → Int64) (v : Int64), vp_updL f c v (sd_n S e) = f (sd_n S e) := fun f v => pk_uLn (by omega)
    rw [n1, n1, n2, n2, n3, n3]; exact h2 k
  · have l := (o1 (by omega)).2
    have l' := (o2 (by omega) k7).2
    have n2 : ∀ (f : Nat → Int64) (v : Int64), vp_updL f c v (sd_n F e) = f (sd_n F e) := fun f v => pk_uLn (by omega)
    have n3 : ∀ (f : Nat → Int64) (v : Int64), vp_updL f c v (sd_n S e) = f (sd_n S e) := fun f v => pk_uLn (by omega)
    rw [n1, n1, n2, n2, n3, n3]; exact h3 k k7
section
variable {f_cellLimit f_definitionLimit f_depthLimit f_itemLimit f_cellCount f_definedCount f_live f_state f_depth : Int32}
variable {a_kinds a_firsts a_seconds a_widths a_uses a_parents a_attributed a_owners a_places a_contents a_items a_names a_late : Nat → Int32} {a_columns a_unused a_childless a_nullable a_growEarly a_growLate a_guards a_residuals a_next : Nat → Int64}
theorem sx_setUse {c : Nat} {a b d : Int64} (hc : c < 24) {post : SX → Prop}
    (h : post (f_cellLimit, f_definitionLimit, f_depthLimit, f_itemLimit, f_cellCount, f_definedCount, f_live, f_state, f_depth, a_kinds, a_firsts, a_seconds, a_widths, a_uses, a_parents, a_attributed, a_owners, a_places, a_contents, a_columns, vp_updL a_unused c a, vp_updL a_childless c b, vp_updL a_nullable c d, a_growEarly, a_growLate, a_guards, a_items, a_names, a_late, a_residuals, a_next)) : wpX_setUse post (f_cellLimit, f_definitionLimit, f_depthLimit, f_itemLimit, f_cellCount, f_definedCount, f_live, f_state, f_depth, a_kinds, a_firsts, a_seconds, a_widths, a_uses, a_parents, a_attributed, a_owners, a_places, a_contents, a_columns, a_unused, a_childless, a_nullable, a_growEarly, a_growLate, a_guards, a_items, a_names, a_late, a_residuals, a_next) (nI c) a b d := by
  have ec : (nI c).toNatClampNeg = c := sx_cl 24 hc
  have hv : vp_in (nI c) 24 := vp_in_nI hc (by decide)
  unfold wpX_setUse
  refine And.intro hv (nm_r (e' := vp_updL a_unused c a) (by rw [ec]) (And.intro hv (nm_r (e' := vp_updL a_childless c b) (by rw [ec]) (And.intro hv (nm_r (e' := vp_updL a_nullable c d) (by rw [ec]) h)))))
theorem sx_buildUse {c : Nat} (ok : sx_ok a_kinds a_firsts a_seconds a_places c) {post : SX → Prop}
    (h : ∀ a b d : Int64, sx_useE a_kinds a_firsts a_seconds a_places a_columns (vp_updL a_unused c a) (vp_updL a_childless c b) (vp_updL a_nullable c d) c →
      post (f_cellLimit, f_definitionLimit, f_depthLimit, f_itemLimit, f_cellCount, f_definedCount, f_live, f_state, f_depth, a_kinds, a_firsts, a_seconds, a_widths, a_uses, a_parents, a_attributed, a_owners, a_places, a_contents, a_columns, vp_updL a_unused c a, vp_updL a_childless c b, vp_updL a_nullable c d, a_growEarly, a_growLate, a_guards, a_items, a_names, a_late, a_residuals, a_next)) : wpX_buildUse post (f_cellLimit, f_definitionLimit, f_depthLimit, f_itemLimit, f_cellCount, f_definedCount, f_live, f_state, f_depth, a_kinds, a_firsts, a_seconds, a_widths, a_uses, a_parents, a_attributed, a_owners, a_places, a_contents, a_columns, a_unused, a_childless, a_nullable, a_growEarly, a_growLate, a_guards, a_items, a_names, a_late, a_residuals, a_next) (nI c) := by
  obtain ⟨hc, hk, k7, _, o1, o2, o3⟩ := ok
  have ec : (nI c).toNatClampNeg = c := sx_cl 24 hc
  have hv : vp_in (nI c) 24 := vp_in_nI hc (by decide)
  have kq : ∀ m, m < 8 → (a_kinds (nI c).toNatClampNeg = nI m ↔ sd_n a_kinds c = m) := fun m hm => by
    rw [ec, hk]; exact nI_eq (by omega) (by omega)
  have k4 : 4 ≤ a_kinds (nI c).toNatClampNeg ↔ 4 ≤ sd_n a_kinds c := by
    rw [ec, hk]; exact nI_leI (a := 4) (by decide) (by omega)
  unfold wpX_buildUse
  refine And.intro hv (nm_r (e' := a_firsts c) (by rw [ec]) (And.intro hv (br_c (fun e => ?_) (fun e => And.intro hv (br_c (fun e4 => And.intro hv (br_c (fun e7 => ?_) (fun e7 => And.intro hv ?_))) (fun e4 => ?_))))))
  · have e0 := (kq 0 (by decide)).1 e
    refine sx_setUse hc (h (-1) (-1) (-1) ⟨fun _ => ?_, fun q => absurd e0 q, fun q => by omega, fun q => by omega⟩)
    rw [pk_uLs, pk_uLs, pk_uLs]; exact ⟨rfl, rfl, rfl⟩
  · have q7 := (kq 7 (by decide)).1 e7
    obtain ⟨hf, lf⟩ := o1 (by omega)
    have ef : (nI (sd_n a_firsts c)).toNatClampNeg = sd_n a_firsts c := sx_cl 24 (by omega)
    have vf : vp_in (nI (sd_n a_firsts c)) 24 := vp_in_nI (by omega) (by decide)
    rw [hf, ef]
    refine And.intro vf (And.intro vf (And.intro vf (sx_setUse hc (h _ _ _ ⟨fun q => by omega, fun q => by omega, fun _ => ?_, fun _ q => absurd q7 q⟩))))
    rw [pk_uLs, pk_uLs, pk_uLs, pk_uLn (by omega), pk_uLn (by omega), pk_uLn (by omega)]; exact ⟨rfl, rfl, rfl⟩
  · have q7 : sd_n a_kinds c ≠ 7 := fun q => e7 ((kq 7 (by decide)).2 q)
    have q4 := k4.1 e4
    obtain ⟨hf, lf⟩ := o1 q4
    obtain ⟨hs, ls⟩ := o2 q4 q7
    have ef : (nI (sd_n a_firsts c)).toNatClampNeg = sd_n a_firsts c := sx_cl 24 (by omega)
    have vf : vp_in (nI (sd_n a_firsts c)) 24 := vp_in_nI (by omega) (by decide)
    have es : (nI (sd_n a_seconds c)).toNatClampNeg = sd_n a_seconds c := sx_cl 24 (by omega)
    have vs : vp_in (nI (sd_n a_seconds c)) 24 := vp_in_nI (by omega) (by decide)
    have fin : ∀ w : Int64, (sd_n a_kinds c = 4 → w = (a_nullable (sd_n a_firsts c) &&& a_unused (sd_n a_seconds c)) ||| (a_nullable (sd_n a_seconds c) &&& a_unused (sd_n a_firsts c))) →
        (sd_n a_kinds c ≠ 4 → w = a_nullable (sd_n a_firsts c) &&& a_nullable (sd_n a_seconds c)) →
        wX_buildPairUse_45 (fun u => match u with | (f_cellLimit, f_definitionLimit, f_depthLimit, f_itemLimit, f_cellCount, f_definedCount, f_live, f_state, f_depth, a_kinds, a_firsts, a_seconds, a_widths, a_uses, a_parents, a_attributed, a_owners, a_places, a_contents, a_columns, a_unused, a_childless, a_nullable, a_growEarly, a_growLate, a_guards, a_items, a_names, a_late, a_residuals, a_next) => post (f_cellLimit, f_definitionLimit, f_depthLimit, f_itemLimit, f_cellCount, f_definedCount, f_live, f_state, f_depth, a_kinds, a_firsts, a_seconds, a_widths, a_uses, a_parents, a_attributed, a_owners, a_places, a_contents, a_columns, a_unused, a_childless, a_nullable, a_growEarly, a_growLate, a_guards, a_items, a_names, a_late, a_residuals, a_next)) (nI c) (nI (sd_n a_firsts c)) (nI (sd_n a_seconds c)) w f_cellLimit f_definitionLimit f_depthLimit f_itemLimit f_cellCount f_definedCount f_live f_state f_depth a_kinds a_firsts a_seconds a_widths a_uses a_parents a_attributed a_owners a_places a_contents a_columns a_unused a_childless a_nullable a_growEarly a_growLate a_guards a_items a_names a_late a_residuals a_next := by
      intro w w4 w5
      unfold wX_buildPairUse_45
      rw [ef, es]
      refine And.intro vf (And.intro vs (And.intro vf (And.intro vs (sx_setUse hc (h _ _ _ ⟨fun q => by omega, fun q => by omega, fun q => absurd q q7, fun _ _ => ?_⟩)))))
      rw [pk_uLs, pk_uLs, pk_uLs, pk_uLn (by omega), pk_uLn (by omega), pk_uLn (by omega), pk_uLn (by omega), pk_uLn (by omega), pk_uLn (by omega)]
      exact ⟨rfl, rfl, w4, w5⟩
    unfold wpX_buildPairUse
    rw [ec, hf, hs, ef, es]
    refine And.intro vf (And.intro vs (nm_e (And.intro hv (br_c (fun k => And.intro vf (And.intro vs ?_)) (fun k => ?_)))))
    · unfold wpX_either
      rw [ef, es]
      refine And.intro vs (And.intro vf ?_)
      have k' : sd_n a_kinds c = 4 := (kq 4 (by decide)).1 (by rw [ec]; exact k)
      exact fin _ (fun _ => rfl) (fun q => absurd k' q)
    · have k' : sd_n a_kinds c ≠ 4 := fun q => k (by rw [← ec]; exact (kq 4 (by decide)).2 q)
      exact fin _ (fun q => absurd q k') (fun _ => rfl)
  · have q0 : sd_n a_kinds c ≠ 0 := fun q => e ((kq 0 (by decide)).2 q)
    have q4 : sd_n a_kinds c < 4 := by have := mt k4.2 e4; omega
    obtain ⟨hp, lp⟩ := o3 q0 q4
    have ep : (nI (sd_n a_places c)).toNatClampNeg = sd_n a_places c := sx_cl 6 lp
    have fin : ∀ b d : Int64, (sd_n a_kinds c = 2 → b = -1) → (sd_n a_kinds c ≠ 2 → b = a_columns (sd_n a_places c) ^^^ (-1)) →
        (sd_n a_kinds c = 1 → d = -1) → (sd_n a_kinds c ≠ 1 → d = a_columns (sd_n a_places c)) →
        wX_buildLeafUse_52 (fun u => match u with | (f_cellLimit, f_definitionLimit, f_depthLimit, f_itemLimit, f_cellCount, f_definedCount, f_live, f_state, f_depth, a_kinds, a_firsts, a_seconds, a_widths, a_uses, a_parents, a_attributed, a_owners, a_places, a_contents, a_columns, a_unused, a_childless, a_nullable, a_growEarly, a_growLate, a_guards, a_items, a_names, a_late, a_residuals, a_next) => post (f_cellLimit, f_definitionLimit, f_depthLimit, f_itemLimit, f_cellCount, f_definedCount, f_live, f_state, f_depth, a_kinds, a_firsts, a_seconds, a_widths, a_uses, a_parents, a_attributed, a_owners, a_places, a_contents, a_columns, a_unused, a_childless, a_nullable, a_growEarly, a_growLate, a_guards, a_items, a_names, a_late, a_residuals, a_next)) (nI c) (a_columns (sd_n a_places c)) b d f_cellLimit f_definitionLimit f_depthLimit f_itemLimit f_cellCount f_definedCount f_live f_state f_depth a_kinds a_firsts a_seconds a_widths a_uses a_parents a_attributed a_owners a_places a_contents a_columns a_unused a_childless a_nullable a_growEarly a_growLate a_guards a_items a_names a_late a_residuals a_next := by
      intro b d b1 b2 d1 d2
      unfold wX_buildLeafUse_52
      refine sx_setUse hc (h _ _ _ ⟨fun q => absurd q q0, fun _ _ => ?_, fun q => by omega, fun q => by omega⟩)
      rw [pk_uLs, pk_uLs, pk_uLs]
      exact ⟨rfl, b1, b2, d1, d2⟩
    have mid : ∀ b : Int64, (sd_n a_kinds c = 2 → b = -1) → (sd_n a_kinds c ≠ 2 → b = a_columns (sd_n a_places c) ^^^ (-1)) →
        wX_buildLeafUse_33 (fun u => match u with | (f_cellLimit, f_definitionLimit, f_depthLimit, f_itemLimit, f_cellCount, f_definedCount, f_live, f_state, f_depth, a_kinds, a_firsts, a_seconds, a_widths, a_uses, a_parents, a_attributed, a_owners, a_places, a_contents, a_columns, a_unused, a_childless, a_nullable, a_growEarly, a_growLate, a_guards, a_items, a_names, a_late, a_residuals, a_next) => post (f_cellLimit, f_definitionLimit, f_depthLimit, f_itemLimit, f_cellCount, f_definedCount, f_live, f_state, f_depth, a_kinds, a_firsts, a_seconds, a_widths, a_uses, a_parents, a_attributed, a_owners, a_places, a_contents, a_columns, a_unused, a_childless, a_nullable, a_growEarly, a_growLate, a_guards, a_items, a_names, a_late, a_residuals, a_next)) (nI c) (a_columns (sd_n a_places c)) b f_cellLimit f_definitionLimit f_depthLimit f_itemLimit f_cellCount f_definedCount f_live f_state f_depth a_kinds a_firsts a_seconds a_widths a_uses a_parents a_attributed a_owners a_places a_contents a_columns a_unused a_childless a_nullable a_growEarly a_growLate a_guards a_items a_names a_late a_residuals a_next := by
      intro b b1 b2
      unfold wX_buildLeafUse_33
      refine And.intro hv (br_c (fun k => ?_) (fun k => ?_))
      · have k' := (kq 1 (by decide)).1 k
        exact fin b _ b1 b2 (fun _ => rfl) (fun q => absurd k' q)
      · have k' : sd_n a_kinds c ≠ 1 := fun q => k ((kq 1 (by decide)).2 q)
        exact fin b _ b1 b2 (fun q => absurd q k') (fun _ => rfl)
    unfold wpX_buildLeafUse
    dsimp only
    rw [ec, hp, ep]
    refine And.intro hv (And.intro (vp_in_nI lp (by decide)) (nm_e (And.intro hv (br_c (fun k => ?_) (fun k => ?_)))))
    · have k' : sd_n a_kinds c = 2 := (kq 2 (by decide)).1 (by rw [ec]; exact k)
      exact mid _ (fun _ => rfl) (fun q => absurd k' q)
    · have k' : sd_n a_kinds c ≠ 2 := fun q => k (by rw [← ec]; exact (kq 2 (by decide)).2 q)
      exact mid _ (fun q => absurd q k') (fun _ => rfl)
end
end
section
/-! X: buildGrowth and the loops of refresh -/
section
variable {f_cellLimit f_definitionLimit f_depthLimit f_itemLimit f_cellCount f_definedCount f_live f_state f_depth : Int32}
variable {a_kinds a_firsts a_seconds a_widths a_uses a_parents a_attributed a_owners a_places a_contents a_items a_names a_late : Nat → Int32} {a_columns a_unused a_childless a_nullable a_growEarly a_growLate a_guards a_residuals a_next : Nat → Int64}
theorem sx_buildGrowth {c : Nat} (ok : sx_ok a_kinds a_firsts a_seconds a_places c) {post : SX → Prop}
    (h : ∀ a b : Int64, sx_groE a_kinds a_firsts a_seconds f_live a_unused (vp_updL a_growEarly c a) (vp_updL a_growLate c b) c →
      post (f_cellLimit, f_definitionLimit, f_depthLimit, f_itemLimit, f_cellCount, f_definedCount, f_live, f_state, f_depth, a_kinds, a_firsts, a_seconds, a_widths, a_uses, a_parents, a_attributed, a_owners, a_places, a_contents, a_columns, a_unused, a_childless, a_nullable, vp_updL a_growEarly c a, vp_updL a_growLate c b, a_guards, a_items, a_names, a_late, a_residuals, a_next)) : wpX_buildGrowth post (f_cellLimit, f_definitionLimit, f_depthLimit, f_itemLimit, f_cellCount, f_definedCount, f_live, f_state, f_depth, a_kinds, a_firsts, a_seconds, a_widths, a_uses, a_parents, a_attributed, a_owners, a_places, a_contents, a_columns, a_unused, a_childless, a_nullable, a_growEarly, a_growLate, a_guards, a_items, a_names, a_late, a_residuals, a_next) (nI c) := by
  obtain ⟨hc, hk, k7, o0, o1, o2, o3⟩ := ok
  have ec : (nI c).toNatClampNeg = c := sx_cl 24 hc
  have hv : vp_in (nI c) 24 := vp_in_nI hc (by decide)
  have kq : ∀ m, m < 8 → (a_kinds (nI c).toNatClampNeg = nI m ↔ sd_n a_kinds c = m) := fun m hm => by
    rw [ec, hk]; exact nI_eq (by omega) (by omega)
  have k4 : 4 ≤ a_kinds (nI c).toNatClampNeg ↔ 4 ≤ sd_n a_kinds c := by
    rw [ec, hk]; exact nI_leI (a := 4) (by decide) (by omega)
  unfold wpX_buildGrowth
  refine And.intro hv (nm_r (e' := a_firsts c) (by rw [ec]) (And.intro hv (nm_r (e' := a_seconds c) (by rw [ec]) (And.intro hv (br_c (fun e4 => And.intro hv (br_c (fun e7 => ?_) (fun e7 => And.intro hv ?_))) (fun e4 => ?_))))))
  · have q7 := (kq 7 (by decide)).1 e7
    obtain ⟨hf, lf⟩ := o1 (by omega)
    have ef : (nI (sd_n a_firsts c)).toNatClampNeg = sd_n a_firsts c := sx_cl 24 (by omega)
    have vf : vp_in (nI (sd_n a_firsts c)) 24 := vp_in_nI (by omega) (by decide)
    rw [hf, ef]
    refine And.intro vf (And.intro hv (nm_r (e' := vp_updL a_growEarly c _) (by rw [ec]) (And.intro vf (And.intro hv (nm_r (e' := vp_updL a_growLate c _) (by rw [ec]) (h _ _ ⟨fun q => by omega, fun _ => ?_, fun q => by omega, fun _ q => absurd q7 q⟩))))))
    rw [pk_uLs, pk_uLs, pk_uLn (by omega), pk_uLn (by omega)]; exact ⟨rfl, rfl⟩
  · have q7 : sd_n a_kinds c ≠ 7 := fun q => e7 ((kq 7 (by decide)).2 q)
    have q4 := k4.1 e4
    obtain ⟨hf, lf⟩ := o1 q4
    obtain ⟨hs, ls⟩ := o2 q4 q7
    have ef : (nI (sd_n a_firsts c)).toNatClampNeg = sd_n a_firsts c := sx_cl 24 (by omega)
    have vf : vp_in (nI (sd_n a_firsts c)) 24 := vp_in_nI (by omega) (by decide)
    have es : (nI (sd_n a_seconds c)).toNatClampNeg = sd_n a_seconds c := sx_cl 24 (by omega)
    have vs : vp_in (nI (sd_n a_seconds c)) 24 := vp_in_nI (by omega) (by decide)
    rw [hf, hs, ef, es]
    refine br_c (fun k => ?_) (fun k => ?_)
    · have k' := (kq 4 (by decide)).1 k
      refine And.intro vf (And.intro vs ?_)
      unfold wpX_either
      rw [ef, es]
      refine And.intro vs (And.intro vf (And.intro hv (nm_r (e' := vp_updL a_growEarly c _) (by rw [ec]) (And.intro vf (And.intro vs ?_)))))
      refine And.intro vs (And.intro vf (And.intro hv (nm_r (e' := vp_updL a_growLate c _) (by rw [ec]) (h _ _ ⟨fun q => by omega, fun q => by omega, fun _ => ?_, fun q => by omega⟩))))
      rw [pk_uLs, pk_uLs, pk_uLn (by omega), pk_uLn (by omega), pk_uLn (by omega), pk_uLn (by omega)]; exact ⟨rfl, rfl⟩
    · have k' : sd_n a_kinds c ≠ 4 := fun q => k ((kq 4 (by decide)).2 q)
      refine And.intro vf (And.intro vs (And.intro hv (nm_r (e' := vp_updL a_growEarly c _) (by rw [ec]) (And.intro vf (And.intro vs (And.intro hv (nm_r (e' := vp_updL a_growLate c _) (by rw [ec]) (h _ _ ⟨fun q => by omega, fun q => absurd q q7, fun q => absurd q k', fun _ _ => ?_⟩))))))))
      rw [pk_uLs, pk_uLs, pk_uLn (by omega), pk_uLn (by omega), pk_uLn (by omega), pk_uLn (by omega)]; exact ⟨rfl, rfl⟩
  · have q4 : sd_n a_kinds c < 4 := by have := mt k4.2 e4; omega
    have g80 : ∀ a : Int64, (sx_fil a_kinds a_seconds f_live c → a = -1) → (¬ sx_fil a_kinds a_seconds f_live c → a = a_unused c ^^^ (-1)) →
        ¬ (sx_fil a_kinds a_seconds f_live c ∧ sd_n a_kinds c ≠ 2) →
        wX_buildLeafGrowth_80 (fun u => match u with | (f_cellLimit, f_definitionLimit, f_depthLimit, f_itemLimit, f_cellCount, f_definedCount, f_live, f_state, f_depth, a_kinds, a_firsts, a_seconds, a_widths, a_uses, a_parents, a_attributed, a_owners, a_places, a_contents, a_columns, a_unused, a_childless, a_nullable, a_growEarly, a_growLate, a_guards, a_items, a_names, a_late, a_residuals, a_next) => post (f_cellLimit, f_definitionLimit, f_depthLimit, f_itemLimit, f_cellCount, f_definedCount, f_live, f_state, f_depth, a_kinds, a_firsts, a_seconds, a_widths, a_uses, a_parents, a_attributed, a_owners, a_places, a_contents, a_columns, a_unused, a_childless, a_nullable, a_growEarly, a_growLate, a_guards, a_items, a_names, a_late, a_residuals, a_next)) (nI c) (nI c) f_cellLimit f_definitionLimit f_depthLimit f_itemLimit f_cellCount f_definedCount f_live f_state f_depth a_kinds a_firsts a_seconds a_widths a_uses a_parents a_attributed a_owners a_places a_contents a_columns a_unused a_childless a_nullable (vp_updL a_growEarly c a) a_growLate a_guards a_items a_names a_late a_residuals a_next := by
      intro a a1 a2 n
      unfold wX_buildLeafGrowth_80
      rw [ec]
      refine And.intro hv (And.intro hv (nm_e (h _ _ ⟨fun _ => ?_, fun q => by omega, fun q => by omega, fun q => by omega⟩)))
      rw [pk_uLs, pk_uLs]
      exact ⟨a1, a2, fun q => absurd q n, fun _ => rfl⟩
    have g28 : ∀ z : Int32, (z = 0 ↔ ¬ sx_fil a_kinds a_seconds f_live c) → wX_buildLeafGrowth_28 (fun u => match u with | (f_cellLimit, f_definitionLimit, f_depthLimit, f_itemLimit, f_cellCount, f_definedCount, f_live, f_state, f_depth, a_kinds, a_firsts, a_seconds, a_widths, a_uses, a_parents, a_attributed, a_owners, a_places, a_contents, a_columns, a_unused, a_childless, a_nullable, a_growEarly, a_growLate, a_guards, a_items, a_names, a_late, a_residuals, a_next) => post (f_cellLimit, f_definitionLimit, f_depthLimit, f_itemLimit, f_cellCount, f_definedCount, f_live, f_state, f_depth, a_kinds, a_firsts, a_seconds, a_widths, a_uses, a_parents, a_attributed, a_owners, a_places, a_contents, a_columns, a_unused, a_childless, a_nullable, a_growEarly, a_growLate, a_guards, a_items, a_names, a_late, a_residuals, a_next)) (nI c) z f_cellLimit f_definitionLimit f_depthLimit f_itemLimit f_cellCount f_definedCount f_live f_state f_depth a_kinds a_firsts a_seconds a_widths a_uses a_parents a_attributed a_owners a_places a_contents a_columns a_unused a_childless a_nullable a_growEarly a_growLate a_guards a_items a_names a_late a_residuals a_next := by
      intro z hz
      unfold wX_buildLeafGrowth_28
      rw [ec]
      refine br_c (fun e => And.intro hv ?_) (fun e => ?_)
      · unfold wX_buildLeafGrowth_54
        refine And.intro hv (nm_r (e' := vp_updL a_growEarly c _) (by rw [ec]) (br_t e (g80 _ (fun q => absurd q (hz.1 e)) (fun _ => rfl) (fun q => hz.1 e q.1))))
      · have fi : sx_fil a_kinds a_seconds f_live c := Classical.byContradiction (fun q => e (hz.2 q))
        unfold wX_buildLeafGrowth_54
        refine And.intro hv (nm_r (e' := vp_updL a_growEarly c _) (by rw [ec]) (br_f e (And.intro hv (br_c (fun k => ?_) (fun k => And.intro hv (nm_r (e' := vp_updL a_growLate c _) (by rw [ec]) ?_))))))
        · have k' := (kq 2 (by decide)).1 k
          exact g80 _ (fun _ => rfl) (fun q => absurd fi q) (fun q => q.2 k')
        · have k' : sd_n a_kinds c ≠ 2 := fun q => k ((kq 2 (by decide)).2 q)
          refine h _ _ ⟨fun _ => ?_, fun q => by omega, fun q => by omega, fun q => by omega⟩
          rw [pk_uLs, pk_uLs]
          exact ⟨fun _ => rfl, fun q => absurd fi q, fun _ => rfl, fun q => absurd ⟨fi, k'⟩ q⟩
    unfold wpX_buildLeafGrowth
    dsimp only
    refine And.intro hv (br_c (fun k => And.intro hv ?_) (fun k => ?_))
    · have k' := (kq 3 (by decide)).1 k
      obtain ⟨hs, ls⟩ := o0 k'
      unfold wpX_isLive
      rw [ec, hs]
      refine br_c (fun z => br_t rfl (g28 0 ⟨fun _ q => ?_, fun _ => rfl⟩)) (fun z => br_f (by decide) ?_)
      · rcases q with q | q
        · exact q k'
        · exact (sx_bit0 (by omega)).1 z q
      · have : bt f_live (sd_n a_seconds c) = true := Classical.byContradiction (fun q => z ((sx_bit0 (by omega)).2 q))
        unfold wX_buildLeafGrowth_23
        exact g28 1 ⟨fun q => absurd q (by decide), fun q => absurd (Or.inr this) q⟩
    · have k' : sd_n a_kinds c ≠ 3 := fun q => k ((kq 3 (by decide)).2 q)
      unfold wX_buildLeafGrowth_23
      exact g28 1 ⟨fun q => absurd q (by decide), fun q => absurd (Or.inl k') q⟩

/-- first pass -/
theorem sx_ref1 {cnt : Nat} (hn : f_cellCount = nI cnt) (h24 : cnt ≤ 24) (ok : ∀ c, c < cnt → ¬ a_owners c = 0 → sx_ok a_kinds a_firsts a_seconds a_places c) {post : SX → Prop}
    (h : ∀ Un Cl Nu : Nat → Int64, (∀ c, c < cnt → ¬ a_owners c = 0 → sx_useE a_kinds a_firsts a_seconds a_places a_columns Un Cl Nu c) →
      ∃ n32 : Nat, wX_refresh_32 post f_cellLimit f_definitionLimit f_depthLimit f_itemLimit f_cellCount f_definedCount f_live f_state f_depth n32 0 a_kinds a_firsts a_seconds a_widths a_uses a_parents a_attributed a_owners a_places a_contents a_columns Un Cl Nu a_growEarly a_growLate a_guards a_items a_names a_late a_residuals a_next) :
    ∀ (d c : Nat) (Un Cl Nu : Nat → Int64), c + d = cnt → (∀ e, e < c → ¬ a_owners e = 0 → sx_useE a_kinds a_firsts a_seconds a_places a_columns Un Cl Nu e) →
      ∀ n, d < n → wX_refresh_2 post n (nI c) f_cellLimit f_definitionLimit f_depthLimit f_itemLimit f_cellCount f_definedCount f_live f_state f_depth a_kinds a_firsts a_seconds a_widths a_uses a_parents a_attributed a_owners a_places a_contents a_columns Un Cl Nu a_growEarly a_growLate a_guards a_items a_names a_late a_residuals a_next := by
  intro d
  induction d with
  | zero =>
    intro c Un Cl Nu hc hu n hn'
    cases n with
    | zero => omega
    | succ n =>
      refine br_t (by rw [hn]; exact nI_le (by omega) (by omega)) (h Un Cl Nu (fun e he => hu e (by omega)))
  | succ d ih =>
    intro c Un Cl Nu hc hu n hn'
    have ec : (nI c).toNatClampNeg = c := sx_cl 24 (show c < 24 by omega)
    cases n with
    | zero => omega
    | succ n =>
      refine br_f (by rw [hn]; exact nI_ge (by omega) (by omega)) (And.intro (vp_in_nI (by omega) (by decide)) (br_c (fun o => nm_r (nI_1 c) ?_) (fun o => ?_)))
      · rw [ec] at o
        refine ih (c + 1) Un Cl Nu (by omega) (fun e he oe => ?_) n (by omega)
        by_cases q : e = c
        · subst q; exact absurd o oe
        · exact hu e (by omega) oe
      · rw [ec] at o
        refine sx_buildUse (ok c (by omega) o) (fun a b d he => nm_r (nI_1 c) (ih (c + 1) _ _ _ (by omega) (fun e he' oe => ?_) n (by omega)))
        by_cases q : e = c
        · subst q; exact he
        · exact sx_useE_up (ok e (by omega) oe) (by omega) (hu e (by omega) oe)
/-- second pass -/
theorem sx_ref2 {cnt : Nat} (hn : f_cellCount = nI cnt) (h24 : cnt ≤ 24) (ok : ∀ c, c < cnt → ¬ a_owners c = 0 → a_kinds c = nI (sd_n a_kinds c) ∧ sd_n a_kinds c ≤ 7) {GP : Nat → Int64 → Prop}
    (hG : ∀ (Gd : Nat → Int64) c, c < cnt → ¬ a_owners c = 0 → sd_n a_kinds c < 4 → ∃ r, GP c r ∧ ∀ post : Int64 → Prop, post r → wpX_guardOf post (f_cellLimit, f_definitionLimit, f_depthLimit, f_itemLimit, f_cellCount, f_definedCount, f_live, f_state, f_depth, a_kinds, a_firsts, a_seconds, a_widths, a_uses, a_parents, a_attributed, a_owners, a_places, a_contents, a_columns, a_unused, a_childless, a_nullable, a_growEarly, a_growLate, Gd, a_items, a_names, a_late, a_residuals, a_next) (nI c)) {post : SX → Prop}
    (h : ∀ Gd : Nat → Int64, (∀ c, c < cnt → ¬ a_owners c = 0 → sd_n a_kinds c < 4 → GP c (Gd c)) → ∃ n83 : Nat, wX_refresh_83 post n83 0 f_cellLimit f_definitionLimit f_depthLimit f_itemLimit f_cellCount f_definedCount 0 f_state f_depth a_kinds a_firsts a_seconds a_widths a_uses a_parents a_attributed a_owners a_places a_contents a_columns a_unused a_childless a_nullable a_growEarly a_growLate Gd a_items a_names a_late a_residuals a_next) :
    ∀ (d c : Nat) (Gd : Nat → Int64), c + d = cnt → (∀ e, e < c → ¬ a_owners e = 0 → sd_n a_kinds e < 4 → GP e (Gd e)) →
      ∀ n, d < n → wX_refresh_32 post f_cellLimit f_definitionLimit f_depthLimit f_itemLimit f_cellCount f_definedCount f_live f_state f_depth n (nI c) a_kinds a_firsts a_seconds a_widths a_uses a_parents a_attributed a_owners a_places a_contents a_columns a_unused a_childless a_nullable a_growEarly a_growLate Gd a_items a_names a_late a_residuals a_next := by
  intro d
  induction d with
  | zero =>
    intro c Gd hc hu n hn'
    cases n with
    | zero => omega
    | succ n =>
      refine br_t (by rw [hn]; exact nI_le (by omega) (by omega)) (h Gd (fun e he => hu e (by omega)))
  | succ d ih =>
    intro c Gd hc hu n hn'
    have ec : (nI c).toNatClampNeg = c := sx_cl 24 (show c < 24 by omega)
    have hv : vp_in (nI c) 24 := vp_in_nI (by omega) (by decide)
    cases n with
    | zero => omega
    | succ n =>
      refine br_f (by rw [hn]; exact nI_ge (by omega) (by omega)) (And.intro hv (br_c (fun o => nm_r (nI_1 c) ?_) (fun o => And.intro hv (br_c (fun k => nm_r (nI_1 c) ?_) (fun k => ?_)))))
      · rw [ec] at o
        refine ih (c + 1) Gd (by omega) (fun e he oe => ?_) n (by omega)
        by_cases q : e = c
        · subst q; exact absurd o oe
        · exact hu e (by omega) oe
      · rw [ec] at o k
        obtain ⟨hk, k7⟩ := ok c (by omega) o
        have k4 : 4 ≤ sd_n a_kinds c := (nI_leI (a := 4) (by decide) (by omega)).1 (by rw [← hk]; exact k)
        refine ih (c + 1) Gd (by omega) (fun e he oe => ?_) n (by omega)
        by_cases q : e = c
        · subst q; intro z; omega
        · exact hu e (by omega) oe
      · rw [ec] at o k
        obtain ⟨hk, k7⟩ := ok c (by omega) o
        have k4 : sd_n a_kinds c < 4 := by
          have : ¬ 4 ≤ sd_n a_kinds c := fun q => k (by rw [hk]; exact nI_le q (by omega))
          omega
        obtain ⟨r, hr, hw⟩ := hG Gd c (by omega) o k4
        refine hw _ (And.intro hv (nm_r (e' := vp_updL Gd c r) (by rw [ec]) (nm_r (nI_1 c) (ih (c + 1) _ (by omega) (fun e he oe ke => ?_) n (by omega)))))
        by_cases q : e = c
        · subst q; rw [pk_uLs]; exact hr
        · rw [pk_uLn q]; exact hu e (by omega) oe ke
/-- growth for one set of live definitions -/
theorem sx_ref3 {cnt : Nat} (hn : f_cellCount = nI cnt) (h24 : cnt ≤ 24) (ok : ∀ c, c < cnt → ¬ a_owners c = 0 → sx_ok a_kinds a_firsts a_seconds a_places c)
    (hC : ∀ k, k < 8 → a_contents k = -1 ∨ ∃ r, r < 24 ∧ a_contents k = nI r) {post : SX → Prop} {x1 : Int32}
    {J83 : Int32 → Int32 → Int32 → Int32 → Int32 → Int32 → Int32 → Int32 → Int32 → Int32 → (Nat → Int32) → (Nat → Int32) → (Nat → Int32) → (Nat → Int32) → (Nat → Int32) → (Nat → Int32) → (Nat → Int32) → (Nat → Int32) → (Nat → Int32) → (Nat → Int32) → (Nat → Int64) → (Nat → Int64) → (Nat → Int64) → (Nat → Int64) → (Nat → Int64) → (Nat → Int64) → (Nat → Int64) → (Nat → Int32) → (Nat → Int32) → (Nat → Int32) → (Nat → Int64) → (Nat → Int64) → Prop}
    (h : ∀ (Ge Gl : Nat → Int64) (m : Int32), (∀ c, c < cnt → ¬ a_owners c = 0 → sx_groE a_kinds a_firsts a_seconds f_live a_unused Ge Gl c) →
      (∀ j, bt m j = true ↔ (j < 8 ∧ ∃ r, r < 24 ∧ a_contents j = nI r ∧ sd_lb (Ge r) sd_e)) → J83 (x1 + 1) f_cellLimit f_definitionLimit f_depthLimit f_itemLimit f_cellCount f_definedCount m f_state f_depth a_kinds a_firsts a_seconds a_widths a_uses a_parents a_attributed a_owners a_places a_contents a_columns a_unused a_childless a_nullable Ge Gl a_guards a_items a_names a_late a_residuals a_next) :
    ∀ (d c : Nat) (Ge Gl : Nat → Int64), c + d = cnt → (∀ e, e < c → ¬ a_owners e = 0 → sx_groE a_kinds a_firsts a_seconds f_live a_unused Ge Gl e) →
      ∀ n, d < n → wX_refresh_91 post J83 x1 n (nI c) f_cellLimit f_definitionLimit f_depthLimit f_itemLimit f_cellCount f_definedCount f_live f_state f_depth a_kinds a_firsts a_seconds a_widths a_uses a_parents a_attributed a_owners a_places a_contents a_columns a_unused a_childless a_nullable Ge Gl a_guards a_items a_names a_late a_residuals a_next := by
  intro d
  induction d with
  | zero =>
    intro c Ge Gl hc hu n hn'
    cases n with
    | zero => omega
    | succ n =>
      refine br_t (by rw [hn]; exact nI_le (by omega) (by omega)) (sx_growing hC (fun m hm => nm_e (h Ge Gl m (fun e he => hu e (by omega)) hm)))
  | succ d ih =>
    intro c Ge Gl hc hu n hn'
    have ec : (nI c).toNatClampNeg = c := sx_cl 24 (show c < 24 by omega)
    cases n with
    | zero => omega
    | succ n =>
      refine br_f (by rw [hn]; exact nI_ge (by omega) (by omega)) (And.intro (vp_in_nI (by omega) (by decide)) (br_c (fun o => nm_r (nI_1 c) ?_) (fun o => ?_)))
      · rw [ec] at o
        refine ih (c + 1) Ge Gl (by omega) (fun e he oe => ?_) n (by omega)
        by_cases q : e = c
        · subst q; exact absurd o oe
        · exact hu e (by omega) oe
      · rw [ec] at o
        refine sx_buildGrowth (ok c (by omega) o) (fun a b he => nm_r (nI_1 c) (ih (c + 1) _ _ (by omega) (fun e he' oe => ?_) n (by omega)))
        by_cases q : e = c
        · subst q; exact he
        · exact sx_groE_up (ok e (by omega) oe) (by omega) (hu e (by omega) oe)
end
/-- L' is what grows when L is live -/
def sx_nx (cnt : Nat) (K F S Ow Ct : Nat → Int32) (Un : Nat → Int64) (L L' : Int32) : Prop :=
  ∃ Ge Gl : Nat → Int64, (∀ c, c < cnt → ¬ Ow c = 0 → sx_groE K F S L Un Ge Gl c) ∧ (∀ j, bt L' j = true ↔ (j < 8 ∧ ∃ r, r < 24 ∧ Ct j = nI r ∧ sd_lb (Ge r) sd_e))
section
variable {f_cellLimit f_definitionLimit f_depthLimit f_itemLimit f_cellCount f_definedCount f_live f_state f_depth : Int32}
variable {a_kinds a_firsts a_seconds a_widths a_uses a_parents a_attributed a_owners a_places a_contents a_items a_names a_late : Nat → Int32} {a_columns a_unused a_childless a_nullable a_growEarly a_growLate a_guards a_residuals a_next : Nat → Int64}
/-- nine rounds -/
theorem sx_ref4 {cnt : Nat} (hn : f_cellCount = nI cnt) (h24 : cnt ≤ 24) (ok : ∀ c, c < cnt → ¬ a_owners c = 0 → sx_ok a_kinds a_firsts a_seconds a_places c)
    (hC : ∀ k, k < 8 → a_contents k = -1 ∨ ∃ r, r < 24 ∧ a_contents k = nI r) {post : SX → Prop}
    (h : ∀ (L : Nat → Int32) (Ge Gl : Nat → Int64), L 0 = 0 → (∀ i, i < 9 → sx_nx cnt a_kinds a_firsts a_seconds a_owners a_contents a_unused (L i) (L (i + 1))) →
      (∀ c, c < cnt → ¬ a_owners c = 0 → sx_groE a_kinds a_firsts a_seconds (L 8) a_unused Ge Gl c) → post (f_cellLimit, f_definitionLimit, f_depthLimit, f_itemLimit, f_cellCount, f_definedCount, L 9, f_state, f_depth, a_kinds, a_firsts, a_seconds, a_widths, a_uses, a_parents, a_attributed, a_owners, a_places, a_contents, a_columns, a_unused, a_childless, a_nullable, Ge, Gl, a_guards, a_items, a_names, a_late, a_residuals, a_next)) :
    ∀ (d i : Nat) (L : Nat → Int32) (Ge Gl : Nat → Int64), i + d = 9 → L 0 = 0 → (∀ m, m < i → sx_nx cnt a_kinds a_firsts a_seconds a_owners a_contents a_unused (L m) (L (m + 1))) →
      (i = 9 → ∀ c, c < cnt → ¬ a_owners c = 0 → sx_groE a_kinds a_firsts a_seconds (L 8) a_unused Ge Gl c) →
      ∀ n, d < n → wX_refresh_83 post n (nI i) f_cellLimit f_definitionLimit f_depthLimit f_itemLimit f_cellCount f_definedCount (L i) f_state f_depth a_kinds a_firsts a_seconds a_widths a_uses a_parents a_attributed a_owners a_places a_contents a_columns a_unused a_childless a_nullable Ge Gl a_guards a_items a_names a_late a_residuals a_next := by
  intro d
  induction d with
  | zero =>
    intro i L Ge Gl hi h0 hL hg n hn'
    have e : i = 9 := by omega
    subst e
    cases n with
    | zero => omega
    | succ n => exact br_t (nI_lt (a := 8) (by decide) (by decide)) (h L Ge Gl h0 hL (hg rfl))
  | succ d ih =>
    intro i L Ge Gl hi h0 hL hg n hn'
    cases n with
    | zero => omega
    | succ n =>
      refine br_f (nI_nlt (a := 8) (by omega) (by decide)) ⟨cnt + 1, ?_⟩
      refine sx_ref3 hn h24 ok hC ?_ cnt 0 Ge Gl (by omega) (fun e he => by omega) (cnt + 1) (by omega)
      intro Ge' Gl' m h1 h2
      rw [nI_1]
      have e1 : (if i + 1 = i + 1 then m else L (i + 1)) = m := if_pos rfl
      have q := ih (i + 1) (fun j => if j = i + 1 then m else L j) Ge' Gl' (by omega) h0 (fun t ht => ?_) (fun e9 => ?_) n (by omega)
      · rw [e1] at q; exact q
      · show sx_nx cnt a_kinds a_firsts a_seconds a_owners a_contents a_unused (if t = i + 1 then m else L t) (if t + 1 = i + 1 then m else L (t + 1))
        rw [if_neg (by omega)]
        by_cases e : t = i
        · subst e
          rw [if_pos rfl]
          exact ⟨Ge', Gl', h1, h2⟩
        · rw [if_neg (by omega)]
          exact hL t (by omega)
      · have : i = 8 := by omega
        subst this
        exact h1
theorem sx_refresh {cnt : Nat} (hn : f_cellCount = nI cnt) (h24 : cnt ≤ 24) (ok : ∀ c, c < cnt → ¬ a_owners c = 0 → sx_ok a_kinds a_firsts a_seconds a_places c)
    (hC : ∀ k, k < 8 → a_contents k = -1 ∨ ∃ r, r < 24 ∧ a_contents k = nI r) {GP : (Nat → Int64) → (Nat → Int64) → (Nat → Int64) → Nat → Int64 → Prop}
    (hG : ∀ (Un Cl Nu Gd : Nat → Int64) c, c < cnt → ¬ a_owners c = 0 → sd_n a_kinds c < 4 → ∃ r, GP Un Cl Nu c r ∧
      ∀ post : Int64 → Prop, post r → wpX_guardOf post (f_cellLimit, f_definitionLimit, f_depthLimit, f_itemLimit, f_cellCount, f_definedCount, f_live, f_state, f_depth, a_kinds, a_firsts, a_seconds, a_widths, a_uses, a_parents, a_attributed, a_owners, a_places, a_contents, a_columns, Un, Cl, Nu, a_growEarly, a_growLate, Gd, a_items, a_names, a_late, a_residuals, a_next) (nI c)) {post : SX → Prop}
    (h : ∀ (Un Cl Nu Gd Ge Gl : Nat → Int64) (L : Nat → Int32), (∀ c, c < cnt → ¬ a_owners c = 0 → sx_useE a_kinds a_firsts a_seconds a_places a_columns Un Cl Nu c) →
      (∀ c, c < cnt → ¬ a_owners c = 0 → sd_n a_kinds c < 4 → GP Un Cl Nu c (Gd c)) →
      L 0 = 0 → (∀ i, i < 9 → sx_nx cnt a_kinds a_firsts a_seconds a_owners a_contents Un (L i) (L (i + 1))) →
      (∀ c, c < cnt → ¬ a_owners c = 0 → sx_groE a_kinds a_firsts a_seconds (L 8) Un Ge Gl c) →
      post (f_cellLimit, f_definitionLimit, f_depthLimit, f_itemLimit, f_cellCount, f_definedCount, L 9, f_state, f_depth, a_kinds, a_firsts, a_seconds, a_widths, a_uses, a_parents, a_attributed, a_owners, a_places, a_contents, a_columns, Un, Cl, Nu, Ge, Gl, Gd, a_items, a_names, a_late, a_residuals, a_next)) : wpX_refresh post (f_cellLimit, f_definitionLimit, f_depthLimit, f_itemLimit, f_cellCount, f_definedCount, f_live, f_state, f_depth, a_kinds, a_firsts, a_seconds, a_widths, a_uses, a_parents, a_attributed, a_owners, a_places, a_contents, a_columns, a_unused, a_childless, a_nullable, a_growEarly, a_growLate, a_guards, a_items, a_names, a_late, a_residuals, a_next) := by
  unfold wpX_refresh
  refine ⟨cnt + 1, sx_ref1 hn h24 ok ?_ cnt 0 a_unused a_childless a_nullable (by omega) (fun e he => by omega) (cnt + 1) (by omega)⟩
  intro Un Cl Nu h1
  refine ⟨cnt + 1, sx_ref2 hn h24 (fun c hc ho => ⟨(ok c hc ho).2.1, (ok c hc ho).2.2.1⟩) (hG Un Cl Nu) ?_ cnt 0 a_guards (by omega) (fun e he => by omega) (cnt + 1) (by omega)⟩
  intro Gd h2
  refine ⟨10, ?_⟩
  exact sx_ref4 hn h24 ok hC (fun L Ge Gl l0 l1 l2 => h Un Cl Nu Gd Ge Gl L h1 h2 l0 l1 l2) 9 0 (fun _ => 0) a_growEarly a_growLate (by omega) rfl (fun m hm => by omega) (fun q => by omega) 10 (by omega)
end
end
section
/-! X: placeContent, make, adopt -/
/-- cells at d and above are done -/
def sx_plI (cnt k r d : Nat) (K F S W U P Ow0 Pl0 Ow Pl : Nat → Int32) : Prop :=
  (∀ e, e < cnt → (Ow e = nI (k + 1) ↔ e = r ∨ (U e = 1 ∧ ∃ f, f < cnt ∧ d ≤ f ∧ P e = nI f ∧ Ow f = nI (k + 1)))) ∧
  (∀ e, ¬ Ow e = nI (k + 1) → Ow e = Ow0 e ∧ Pl e = Pl0 e) ∧
  (∀ e, e < cnt → Ow e = nI (k + 1) → ∃ x, Pl e = nI x ∧ x + sd_n W e ≤ 6) ∧
  (∀ f, f < cnt → d ≤ f → Ow f = nI (k + 1) → (4 ≤ sd_n K f → Pl (sd_n F f) = Pl f) ∧ (4 ≤ sd_n K f → sd_n K f ≠ 7 → Pl (sd_n S f) = Pl f + W (sd_n F f))) ∧
  (∀ e, cnt ≤ e → Ow e = Ow0 e) ∧ Pl r = 0
/-- what placeContent needs -/
def sx_plH (cnt r : Nat) (K F S W U P A : Nat → Int32) : Prop :=
  cnt ≤ 24 ∧ (∀ c, c < cnt → sc_tree K F S W U P A c) ∧
  (∀ c d, c < cnt → U c = 1 → P c = nI d → d < 24 → d < cnt ∧ c < d ∧ 4 ≤ sd_n K d ∧ (c = sd_n F d ∨ (sd_n K d ≠ 7 ∧ c = sd_n S d))) ∧ r < cnt ∧ ¬ U r = 1
theorem sx_plN {cnt k r d : Nat} {K F S W U P A Ow0 Pl0 Ow Pl : Nat → Int32} (H : sx_plH cnt r K F S W U P A) (hd : d < cnt)
    (I : sx_plI cnt k r (d + 1) K F S W U P Ow0 Pl0 Ow Pl) (n : ¬ (Ow d = nI (k + 1) ∧ 4 ≤ sd_n K d)) : sx_plI cnt k r d K F S W U P Ow0 Pl0 Ow Pl := by
  obtain ⟨i1, i2, i3, i4, i5, i6⟩ := I
  obtain ⟨h24, ht, hp, hr, hu⟩ := H
  refine ⟨fun e he => ?_, i2, i3, fun f hf hdf ho => ?_, i5, i6⟩
  · rw [i1 e he]
    constructor
    · rintro (h | ⟨h1, f, h2, h3, h4⟩)
      · exact Or.inl h
      · exact Or.inr ⟨h1, f, h2, by omega, h4⟩
    · rintro (h | ⟨h1, f, h2, h3, h4, h5⟩)
      · exact Or.inl h
      · refine Or.inr ⟨h1, f, h2, ?_, h4, h5⟩
        refine Classical.byContradiction (fun q => ?_)
        have ef : f = d := by omega
        subst ef
        exact n ⟨h5, (hp e f he h1 h4 (by omega)).2.2.1⟩
  · by_cases e : f = d
    · subst e
      exact ⟨fun q => absurd ⟨ho, q⟩ n, fun q => absurd ⟨ho, q⟩ n⟩
    · exact i4 f hf (by omega) ho
/-- one operand -/
theorem sx_pl7 {cnt k r d : Nat} {K F S W U P A Ow0 Pl0 Ow Pl : Nat → Int32} (H : sx_plH cnt r K F S W U P A) (hd : d < cnt)
    (I : sx_plI cnt k r (d + 1) K F S W U P Ow0 Pl0 Ow Pl) (ho : Ow d = nI (k + 1)) (k7 : sd_n K d = 7) :
    sx_plI cnt k r d K F S W U P Ow0 Pl0 (upd Ow (sd_n F d) (Ow d)) (upd Pl (sd_n F d) (Pl d)) := by
  obtain ⟨i1, i2, i3, i4, i5, i6⟩ := I
  obtain ⟨h24, ht, hp, hr, hu⟩ := H
  obtain ⟨pf, pl, pu, pp⟩ := (ht d hd).2.2.2.2.2.2.2.1 (by omega)
  have w7 := ((ht d hd).2.2.2.2.2.2.2.2.1 k7).1
  generalize hp' : sd_n F d = p at *
  have nr : r ≠ p := fun q => hu (by rw [q]; exact pu)
  have od : upd Ow p (Ow d) d = Ow d := pk_un (by omega)
  have ohi : ∀ f, d ≤ f → upd Ow p (Ow d) f = Ow f := fun f hf => pk_un (by omega)
  have phi : ∀ f, d ≤ f → upd Pl p (Pl d) f = Pl f := fun f hf => pk_un (by omega)
  refine ⟨fun e he => ?_, fun e he => ?_, fun e he h => ?_, fun f hf hdf h => ?_, fun e he => ?_, ?_⟩
  · by_cases q : e = p
    · subst q
      rw [pk_us]
      exact ⟨fun _ => Or.inr ⟨pu, d, hd, by omega, pp, by rw [od]; exact ho⟩, fun _ => ho⟩
    · rw [pk_un q, i1 e he]
      constructor
      · rintro (h | ⟨h1, f, h2, h3, h4, h5⟩)
        · exact Or.inl h
        · exact Or.inr ⟨h1, f, h2, by omega, h4, by rw [ohi f (by omega)]; exact h5⟩
      · rintro (h | ⟨h1, f, h2, h3, h4, h5⟩)
        · exact Or.inl h
        · rw [ohi f h3] at h5
          refine Or.inr ⟨h1, f, h2, ?_, h4, h5⟩
          refine Classical.byContradiction (fun z => ?_)
          have ef : f = d := by omega
          subst ef
          rcases (hp e f he h1 h4 (by omega)).2.2.2 with y | ⟨y, _⟩
          · exact q (y.trans hp')
          · exact y k7
  · by_cases q : e = p
    · subst q; rw [pk_us] at he; exact absurd ho he
    · rw [pk_un q] at he ⊢
      rw [pk_un q]
      exact i2 e he
  · by_cases q : e = p
    · subst q
      rw [pk_us]
      obtain ⟨x, hx, h6⟩ := i3 d hd ho
      exact ⟨x, hx, by omega⟩
    · rw [pk_un q] at h ⊢
      exact i3 e he h
  · rw [ohi f hdf] at h
    by_cases e : f = d
    · subst e
      refine ⟨fun _ => ?_, fun _ q => absurd k7 q⟩
      rw [hp', pk_us, phi f (by omega)]
    · rw [phi f (by omega)]
      refine ⟨fun q4 => ?_, fun q4 q7 => ?_⟩
      · have ne : sd_n F f ≠ p := fun z => by
          have := ((ht f hf).2.2.2.2.2.2.2.1 q4).2.2.2
          rw [z, pp] at this
          exact e (sx_nIne (by omega) (by omega) this).symm
        rw [pk_un ne]
        exact (i4 f hf (by omega) h).1 q4
      · have ne : sd_n S f ≠ p := fun z => by
          have := ((ht f hf).2.2.2.2.2.2.2.2.2 q4 q7).2.2.2.2.1
          rw [z, pp] at this
          exact e (sx_nIne (by omega) (by omega) this).symm
        rw [pk_un ne]
        exact (i4 f hf (by omega) h).2 q4 q7
  · rw [pk_un (by omega)]; exact i5 e he
  · rw [pk_un nr]; exact i6
/-- two operands -/
theorem sx_pl2 {cnt k r d : Nat} {K F S W U P A Ow0 Pl0 Ow Pl : Nat → Int32} (H : sx_plH cnt r K F S W U P A) (hd : d < cnt)
    (I : sx_plI cnt k r (d + 1) K F S W U P Ow0 Pl0 Ow Pl) (ho : Ow d = nI (k + 1)) (k4 : 4 ≤ sd_n K d) (k7 : sd_n K d ≠ 7) :
    sx_plI cnt k r d K F S W U P Ow0 Pl0 (upd (upd Ow (sd_n F d) (Ow d)) (sd_n S d) (Ow d)) (upd (upd Pl (sd_n F d) (Pl d)) (sd_n S d) (Pl d + W (sd_n F d))) := by
  obtain ⟨i1, i2, i3, i4, i5, i6⟩ := I
  obtain ⟨h24, ht, hp, hr, hu⟩ := H
  obtain ⟨pf, pl, pu, pp⟩ := (ht d hd).2.2.2.2.2.2.2.1 (by omega)
  obtain ⟨qf, ql, qn, qu, qp, qw, _⟩ := (ht d hd).2.2.2.2.2.2.2.2.2 k4 k7
  have wp := (ht (sd_n F d) (by omega)).2.1.1
  generalize hp' : sd_n F d = p at *
  generalize hq' : sd_n S d = q at *
  have nr : r ≠ p := fun z => hu (by rw [z]; exact pu)
  have nr' : r ≠ q := fun z => hu (by rw [z]; exact qu)
  have ohi : ∀ f, d ≤ f → upd (upd Ow p (Ow d)) q (Ow d) f = Ow f := fun f hf => by rw [pk_un (by omega), pk_un (by omega)]
  have phi : ∀ f, d ≤ f → upd (upd Pl p (Pl d)) q (Pl d + W p) f = Pl f := fun f hf => by rw [pk_un (by omega), pk_un (by omega)]
  refine ⟨fun e he => ?_, fun e he => ?_, fun e he h => ?_, fun f hf hdf h => ?_, fun e he => ?_, ?_⟩
  · by_cases z : e = p ∨ e = q
    · have e1 : upd (upd Ow p (Ow d)) q (Ow d) e = Ow d := by
        by_cases zq : e = q
        · rw [zq, pk_us]
        · rw [pk_un zq, z.resolve_right zq, pk_us]
      rw [e1]
      refine ⟨fun _ => Or.inr ⟨?_, d, hd, by omega, ?_, by rw [ohi d (by omega)]; exact ho⟩, fun _ => ho⟩
      · rcases z with z | z
        · rw [z]; exact pu
        · rw [z]; exact qu
      · rcases z with z | z
        · rw [z]; exact pp
        · rw [z]; exact qp
    · have zp : e ≠ p := fun y => z (Or.inl y)
      have zq : e ≠ q := fun y => z (Or.inr y)
      rw [pk_un zq, pk_un zp, i1 e he]
      constructor
      · rintro (h | ⟨h1, f, h2, h3, h4, h5⟩)
        · exact Or.inl h
        · exact Or.inr ⟨h1, f, h2, by omega, h4, by rw [ohi f (by omega)]; exact h5⟩
      · rintro (h | ⟨h1, f, h2, h3, h4, h5⟩)
        · exact Or.inl h
        · rw [ohi f h3] at h5
          refine Or.inr ⟨h1, f, h2, ?_, h4, h5⟩
          refine Classical.byContradiction (fun w => ?_)
          have ef : f = d := by omega
          subst ef
          rcases (hp e f he h1 h4 (by omega)).2.2.2 with y | ⟨_, y⟩
          · exact zp (y.trans hp')
          · exact zq (y.trans hq')
  · by_cases zq : e = q
    · subst zq; rw [pk_us] at he; exact absurd ho he
    · by_cases zp : e = p
      · subst zp; rw [pk_un zq, pk_us] at he; exact absurd ho he
      · rw [pk_un zq, pk_un zp] at he ⊢
        rw [pk_un zq, pk_un zp]
        exact i2 e he
  · obtain ⟨x, hx, h6⟩ := i3 d hd ho
    by_cases zq : e = q
    · subst zq
      rw [pk_us]
      exact ⟨x + sd_n W p, by rw [hx, wp, nI_add], by omega⟩
    · by_cases zp : e = p
      · subst zp
        rw [pk_un zq, pk_us]
        exact ⟨x, hx, by omega⟩
      · rw [pk_un zq, pk_un zp] at h ⊢
        exact i3 e he h
  · rw [ohi f hdf] at h
    by_cases e : f = d
    · subst e
      rw [hp', hq', phi f (by omega), pk_us, pk_un (show p ≠ q from qn), pk_us]
      exact ⟨fun _ => rfl, fun _ _ => rfl⟩
    · rw [phi f (by omega)]
      have ne : ∀ g, P g = nI f → g ≠ p ∧ g ≠ q := fun g hg => by
        constructor
        · intro z
          rw [z, pp] at hg
          exact e (sx_nIne (by omega) (by omega) hg).symm
        · intro z
          rw [z, qp] at hg
          exact e (sx_nIne (by omega) (by omega) hg).symm
      refine ⟨fun q4 => ?_, fun q4 q7 => ?_⟩
      · obtain ⟨n1, n2⟩ := ne _ ((ht f hf).2.2.2.2.2.2.2.1 q4).2.2.2
        rw [pk_un n2, pk_un n1]
        exact (i4 f hf (by omega) h).1 q4
      · obtain ⟨n1, n2⟩ := ne _ ((ht f hf).2.2.2.2.2.2.2.2.2 q4 q7).2.2.2.2.1
        rw [pk_un n2, pk_un n1]
        exact (i4 f hf (by omega) h).2 q4 q7
  · rw [pk_un (by omega), pk_un (by omega)]; exact i5 e he
  · rw [pk_un nr', pk_un nr]; exact i6
def sx_dn : Nat → Int32
  | 0 => -1
  | d + 1 => nI d
theorem sx_dnS (d : Nat) : nI d + (-1) = sx_dn d := by
  cases d with
  | zero => rfl
  | succ d => exact pk_m1 d
section
variable {f_cellLimit f_definitionLimit f_depthLimit f_itemLimit f_cellCount f_definedCount f_live f_state f_depth : Int32}
variable {a_kinds a_firsts a_seconds a_widths a_uses a_parents a_attributed a_owners a_places a_contents a_items a_names a_late : Nat → Int32} {a_columns a_unused a_childless a_nullable a_growEarly a_growLate a_guards a_residuals a_next : Nat → Int64}
theorem sx_placeL {cnt k r : Nat} (H : sx_plH cnt r a_kinds a_firsts a_seconds a_widths a_uses a_parents a_attributed) (hk : k < 8) {Ow0 Pl0 : Nat → Int32} {post : SX → Prop}
    (h : ∀ Ow Pl : Nat → Int32, sx_plI cnt k r 0 a_kinds a_firsts a_seconds a_widths a_uses a_parents Ow0 Pl0 Ow Pl → post (f_cellLimit, f_definitionLimit, f_depthLimit, f_itemLimit, f_cellCount, f_definedCount, f_live, f_state, f_depth, a_kinds, a_firsts, a_seconds, a_widths, a_uses, a_parents, a_attributed, Ow, Pl, a_contents, a_columns, a_unused, a_childless, a_nullable, a_growEarly, a_growLate, a_guards, a_items, a_names, a_late, a_residuals, a_next)) :
    ∀ (d : Nat) (Ow Pl : Nat → Int32), d ≤ cnt → sx_plI cnt k r d a_kinds a_firsts a_seconds a_widths a_uses a_parents Ow0 Pl0 Ow Pl →
      ∀ n, d < n → wX_placeContent_18 post (nI k) n (sx_dn d) f_cellLimit f_definitionLimit f_depthLimit f_itemLimit f_cellCount f_definedCount f_live f_state f_depth a_kinds a_firsts a_seconds a_widths a_uses a_parents a_attributed Ow Pl a_contents a_columns a_unused a_childless a_nullable a_growEarly a_growLate a_guards a_items a_names a_late a_residuals a_next := by
  intro d
  induction d with
  | zero =>
    intro Ow Pl _ I n hn
    cases n with
    | zero => omega
    | succ n => exact br_t (by decide) (h Ow Pl I)
  | succ d ih =>
    intro Ow Pl hd I n hn
    have h24 := H.1
    have ec : (nI d).toNatClampNeg = d := sx_cl 24 (show d < 24 by omega)
    have hv : vp_in (nI d) 24 := vp_in_nI (by omega) (by decide)
    have ek : nI k + 1 = nI (k + 1) := nI_1 k
    obtain ⟨hK, k7⟩ := (H.2.1 d (by omega)).1
    have k4 : a_kinds d < 4 ↔ sd_n a_kinds d < 4 := by rw [hK]; exact nI_ltI (b := 4) (by omega) (by decide)
    cases n with
    | zero => omega
    | succ n =>
      show wX_placeContent_18 post (nI k) (n + 1) (nI d) f_cellLimit f_definitionLimit f_depthLimit f_itemLimit f_cellCount f_definedCount f_live f_state f_depth a_kinds a_firsts a_seconds a_widths a_uses a_parents a_attributed Ow Pl a_contents a_columns a_unused a_childless a_nullable a_growEarly a_growLate a_guards a_items a_names a_late a_residuals a_next
      refine br_f (nI_pos (by omega)) (And.intro hv (br_c (fun o => And.intro hv (br_c (fun q4 => ?_) (fun q4 => ?_))) (fun o => ?_)))
      · rw [ec] at q4
        exact nm_r (sx_dnS d) (ih Ow Pl (by omega) (sx_plN H (by omega) I (fun z => by have := k4.1 q4; omega)) n (by omega))
      · rw [ec] at o q4
        rw [ek] at o
        have q4' : 4 ≤ sd_n a_kinds d := by have := mt k4.2 q4; omega
        obtain ⟨pf, pl, pu, pp⟩ := (H.2.1 d (by omega)).2.2.2.2.2.2.2.1 q4'
        have ef : (nI (sd_n a_firsts d)).toNatClampNeg = sd_n a_firsts d := sx_cl 24 (by omega)
        have vf : vp_in (nI (sd_n a_firsts d)) 24 := vp_in_nI (by omega) (by decide)
        unfold wpX_placeOperands
        dsimp only
        rw [ec, pf]
        refine And.intro hv (nm_e (And.intro hv (And.intro vf (nm_r (e' := upd Ow (sd_n a_firsts d) (Ow d)) (by rw [ef]) (And.intro hv (And.intro vf (nm_r (e' := upd Pl (sd_n a_firsts d) (Pl d)) (by rw [ef]) (And.intro hv ?_))))))))
        rw [hK]
        refine br_c (fun e7 => ?_) (fun e7 => ?_)
        · have z7 := (nI_eq (b := 7) (by omega) (by decide)).1 e7
          exact nm_r (sx_dnS d) (ih _ _ (by omega) (sx_pl7 H (by omega) I o z7) n (by omega))
        · have z7 : sd_n a_kinds d ≠ 7 := fun z => e7 (by rw [z]; rfl)
          obtain ⟨qf, ql, qn, qu, qp, qw, _⟩ := (H.2.1 d (by omega)).2.2.2.2.2.2.2.2.2 q4' z7
          have es : (nI (sd_n a_seconds d)).toNatClampNeg = sd_n a_seconds d := sx_cl 24 (by omega)
          have vs : vp_in (nI (sd_n a_seconds d)) 24 := vp_in_nI (by omega) (by decide)
          rw [qf, ef]
          refine And.intro hv (nm_e (And.intro hv (And.intro vs (nm_r (e' := upd (upd Ow (sd_n a_firsts d) (Ow d)) (sd_n a_seconds d) (Ow d)) (by rw [es, pk_un (by omega)]) (And.intro hv (And.intro vf (And.intro vs (nm_r (e' := upd (upd Pl (sd_n a_firsts d) (Pl d)) (sd_n a_seconds d) (Pl d + a_widths (sd_n a_firsts d))) (by rw [es, pk_un (show d ≠ sd_n a_firsts d by omega)]) ?_))))))))
          exact nm_r (sx_dnS d) (ih _ _ (by omega) (sx_pl2 H (by omega) I o q4' z7) n (by omega))
      · rw [ec, ek] at o
        exact nm_r (sx_dnS d) (ih Ow Pl (by omega) (sx_plN H (by omega) I (fun z => o z.1)) n (by omega))
theorem sx_place {cnt k r : Nat} (H : sx_plH cnt r a_kinds a_firsts a_seconds a_widths a_uses a_parents a_attributed) (hk : k < 8)
    (h0 : ∀ e, e < cnt → ¬ a_owners e = nI (k + 1)) {post : SX → Prop}
    (h : ∀ Ow Pl : Nat → Int32, sx_plI cnt k r 0 a_kinds a_firsts a_seconds a_widths a_uses a_parents a_owners a_places Ow Pl → post (f_cellLimit, f_definitionLimit, f_depthLimit, f_itemLimit, f_cellCount, f_definedCount, f_live, f_state, f_depth, a_kinds, a_firsts, a_seconds, a_widths, a_uses, a_parents, a_attributed, Ow, Pl, a_contents, a_columns, a_unused, a_childless, a_nullable, a_growEarly, a_growLate, a_guards, a_items, a_names, a_late, a_residuals, a_next)) :
    wpX_placeContent post (f_cellLimit, f_definitionLimit, f_depthLimit, f_itemLimit, f_cellCount, f_definedCount, f_live, f_state, f_depth, a_kinds, a_firsts, a_seconds, a_widths, a_uses, a_parents, a_attributed, a_owners, a_places, a_contents, a_columns, a_unused, a_childless, a_nullable, a_growEarly, a_growLate, a_guards, a_items, a_names, a_late, a_residuals, a_next) (nI k) (nI r) := by
  have h24 := H.1
  have hr := H.2.2.2.1
  have er : (nI r).toNatClampNeg = r := sx_cl 24 (by omega)
  have vr : vp_in (nI r) 24 := vp_in_nI (by omega) (by decide)
  unfold wpX_placeContent
  refine And.intro vr (nm_r (e' := upd a_owners r (nI (k + 1))) (by rw [er, nI_1]) (And.intro vr (nm_r (e' := upd a_places r 0) (by rw [er]) ⟨r + 2, ?_⟩)))
  refine sx_placeL H hk h (r + 1) _ _ (by omega) ⟨fun e he => ?_, fun e he => ?_, fun e he ho => ?_, fun f hf hrf ho => ?_, fun e he => ?_, pk_us⟩ (r + 2) (by omega)
  · by_cases q : e = r
    · subst q; rw [pk_us]; exact ⟨fun _ => Or.inl rfl, fun _ => rfl⟩
    · rw [pk_un q]
      refine ⟨fun z => absurd z (h0 e he), fun z => ?_⟩
      rcases z with z | ⟨_, f, f1, f2, _, f3⟩
      · exact absurd z q
      · rw [pk_un (by omega)] at f3
        exact absurd f3 (h0 f f1)
  · by_cases q : e = r
    · subst q; rw [pk_us] at he; exact absurd rfl he
    · rw [pk_un q, pk_un q]; exact ⟨rfl, rfl⟩
  · by_cases q : e = r
    · subst q
      exact ⟨0, pk_us, by have := (H.2.1 e he).2.1.2; omega⟩
    · rw [pk_un q] at ho
      exact absurd ho (h0 e he)
  · rw [pk_un (by omega)] at ho
    exact absurd ho (h0 f hf)
  · exact pk_un (by omega)
theorem sx_make {cnt : Nat} (hn : f_cellCount = nI cnt) (h24 : cnt < 24) {kind a b w q : Int32} {post : Int32 → SX → Prop}
    (h : post (nI cnt) (f_cellLimit, f_definitionLimit, f_depthLimit, f_itemLimit, nI (cnt + 1), f_definedCount, f_live, f_state, f_depth, upd a_kinds cnt kind, upd a_firsts cnt a, upd a_seconds cnt b, upd a_widths cnt w, a_uses, upd a_parents cnt (-1), upd a_attributed cnt (vp_nar .boolean q), a_owners, a_places, a_contents, a_columns, a_unused, a_childless, a_nullable, a_growEarly, a_growLate, a_guards, a_items, a_names, a_late, a_residuals, a_next)) :
    wpX_make post (f_cellLimit, f_definitionLimit, f_depthLimit, f_itemLimit, f_cellCount, f_definedCount, f_live, f_state, f_depth, a_kinds, a_firsts, a_seconds, a_widths, a_uses, a_parents, a_attributed, a_owners, a_places, a_contents, a_columns, a_unused, a_childless, a_nullable, a_growEarly, a_growLate, a_guards, a_items, a_names, a_late, a_residuals, a_next) kind a b w q := by
  have ec : (nI cnt).toNatClampNeg = cnt := sx_cl 24 h24
  have hv : vp_in (nI cnt) 24 := vp_in_nI h24 (by decide)
  unfold wpX_make
  rw [hn]
  refine And.intro hv (nm_r (e' := upd a_kinds cnt kind) (by rw [ec]) (And.intro hv (nm_r (e' := upd a_firsts cnt a) (by rw [ec]) (And.intro hv (nm_r (e' := upd a_seconds cnt b) (by rw [ec]) (And.intro hv (nm_r (e' := upd a_widths cnt w) (by rw [ec]) (And.intro hv (nm_r (e' := upd a_attributed cnt (vp_nar .boolean q)) (by rw [ec]) (And.intro hv (nm_r (e' := upd a_parents cnt (-1)) (by rw [ec]) (nm_r (nI_1 cnt) h))))))))))))
theorem sx_adopt {d p : Nat} (hp : p < 24) {post : SX → Prop} (h : post (f_cellLimit, f_definitionLimit, f_depthLimit, f_itemLimit, f_cellCount, f_definedCount, f_live, f_state, f_depth, a_kinds, a_firsts, a_seconds, a_widths, upd a_uses p 1, upd a_parents p (nI d), a_attributed, a_owners, a_places, a_contents, a_columns, a_unused, a_childless, a_nullable, a_growEarly, a_growLate, a_guards, a_items, a_names, a_late, a_residuals, a_next)) : wpX_adopt post (f_cellLimit, f_definitionLimit, f_depthLimit, f_itemLimit, f_cellCount, f_definedCount, f_live, f_state, f_depth, a_kinds, a_firsts, a_seconds, a_widths, a_uses, a_parents, a_attributed, a_owners, a_places, a_contents, a_columns, a_unused, a_childless, a_nullable, a_growEarly, a_growLate, a_guards, a_items, a_names, a_late, a_residuals, a_next) (nI d) (nI p) := by
  have ec : (nI p).toNatClampNeg = p := sx_cl 24 hp
  have hv : vp_in (nI p) 24 := vp_in_nI hp (by decide)
  unfold wpX_adopt
  exact And.intro hv (nm_r (e' := upd a_uses p 1) (by rw [ec]) (And.intro hv (nm_r (e' := upd a_parents p (nI d)) (by rw [ec]) h)))
end
end
section
/-! Y: evaluate, one entry -/
def sy_B (v : Int32) : Prop := v = 0 ∨ v = 1
theorem sy_B0 : sy_B 0 := Or.inl rfl
theorem sy_B1 : sy_B 1 := Or.inr rfl
theorem sy_10 : ¬ (1 : Int32) = 0 := by decide
theorem sy_00 {c : Prop} (h : ¬ c) : ¬ (0 : Int32) = 0 ↔ c := ⟨fun q => absurd rfl q, fun q => absurd q h⟩
theorem sy_11 {c : Prop} (h : c) : ¬ (1 : Int32) = 0 ↔ c := ⟨fun _ => h, fun _ => sy_10⟩
section
variable {f_cellLimit f_definitionLimit f_depthLimit f_itemLimit f_made f_state f_depth f_rootDefinition : Int32}
variable {a_kind a_first a_second a_width a_use a_items a_itemKind a_itemName a_itemValue a_itemFit a_matches a_grows : Nat → Int32}
variable {post : SY → Prop} {J74 J86 : Int32 → (Nat → Int32) → (Nat → Int32) → (Nat → Int32) → (Nat → Int32) → (Nat → Int32) → (Nat → Int32) → (Nat → Int32) → (Nat → Int32) → (Nat → Int32) → (Nat → Int32) → (Nat → Int32) → (Nat → Int32) → Prop} {J571 : Int32 → Int32 → Int32 → Prop}
variable {x1 x2 x3 x4 x5 x6 x7 x8 x9 x10 x11 x12 x13 x14 x15 x16 x17 x18 x19 x20 x21 z0 : Int32}
/-- the loop's g -/
theorem sy_827 (hb : sy_B z0) (v1 : vp_in (x10 + x17) 1536) (v2 : vp_in (x7 * 64 + x18) 1536)
    (hJ : ∀ g, sy_B g → (¬ g = 0 ↔ ¬ x14 = 0 ∨ (¬ a_matches (x10 + x17).toNatClampNeg = 0 ∧ ¬ a_grows (x7 * 64 + x18).toNatClampNeg = 0)) → J571 z0 g (x17 + 1)) :
    wY_evaluate_827 post J74 J86 J571 x1 x2 x3 x4 x5 x6 x7 x8 x9 x10 x11 x14 x16 x17 x18 z0 f_cellLimit f_definitionLimit f_depthLimit f_itemLimit f_made f_state f_depth f_rootDefinition a_kind a_first a_second a_width a_use a_items a_itemKind a_itemName a_itemValue a_itemFit a_matches a_grows := by
  unfold wY_evaluate_827
  refine br_c (fun e => And.intro v1 (br_c (fun m => ?_) (fun m => And.intro v2 (br_c (fun g => ?_) (fun g => ?_))))) (fun e => ?_)
  · exact nm_e (hJ 0 sy_B0 (sy_00 (fun q => q.elim (fun z => z e) (fun z => z.1 m))))
  · exact nm_e (hJ 0 sy_B0 (sy_00 (fun q => q.elim (fun z => z e) (fun z => z.2 g))))
  · exact nm_e (hJ 1 sy_B1 (sy_11 (Or.inr ⟨m, g⟩)))
  · exact nm_e (hJ 1 sy_B1 (sy_11 (Or.inl e)))
/-- the loop -/
theorem sy_773 (h3 : sy_B x13) (h4 : sy_B x14) (v1 : ¬ x16 = 0 → ¬ x21 = 0 → ¬ x17 ≤ 0 → vp_in (x10 + x17) 1536 ∧ vp_in (x7 * 64 + x18) 1536)
    (hJ : ∀ m g, sy_B m → sy_B g →
      (¬ m = 0 ↔ ¬ x13 = 0 ∨ (¬ x16 = 0 ∧ ¬ x21 = 0 ∧ ¬ x17 ≤ 0 ∧ ¬ a_matches (x10 + x17).toNatClampNeg = 0 ∧ ¬ a_matches (x7 * 64 + x18).toNatClampNeg = 0)) →
      (¬ g = 0 ↔ ¬ x14 = 0 ∨ (¬ x16 = 0 ∧ ¬ x21 = 0 ∧ ¬ x17 ≤ 0 ∧ ¬ a_matches (x10 + x17).toNatClampNeg = 0 ∧ ¬ a_grows (x7 * 64 + x18).toNatClampNeg = 0)) → J571 m g (x17 + 1)) :
    wY_evaluate_773 post J74 J86 J571 x1 x2 x3 x4 x5 x6 x7 x8 x9 x10 x11 x13 x14 x16 x17 x18 x21 f_cellLimit f_definitionLimit f_depthLimit f_itemLimit f_made f_state f_depth f_rootDefinition a_kind a_first a_second a_width a_use a_items a_itemKind a_itemName a_itemValue a_itemFit a_matches a_grows := by
  unfold wY_evaluate_773
  refine br_c (fun e => ?_) (fun e => br_c (fun e1 => ?_) (fun e1 => br_c (fun e2 => ?_) (fun e2 => ?_)))
  · exact nm_e (hJ x13 x14 h3 h4 ⟨fun q => Or.inl q, fun q => q.elim id (fun z => absurd e z.1)⟩ ⟨fun q => Or.inl q, fun q => q.elim id (fun z => absurd e z.1)⟩)
  · exact nm_e (hJ x13 x14 h3 h4 ⟨fun q => Or.inl q, fun q => q.elim id (fun z => absurd e1 z.2.1)⟩ ⟨fun q => Or.inl q, fun q => q.elim id (fun z => absurd e1 z.2.1)⟩)
  · exact nm_e (hJ x13 x14 h3 h4 ⟨fun q => Or.inl q, fun q => q.elim id (fun z => absurd e2 z.2.2.1)⟩ ⟨fun q => Or.inl q, fun q => q.elim id (fun z => absurd e2 z.2.2.1)⟩)
  · obtain ⟨va, vb⟩ := v1 e e1 e2
    have fin : ∀ m, sy_B m → (¬ m = 0 ↔ ¬ x13 = 0 ∨ (¬ a_matches (x10 + x17).toNatClampNeg = 0 ∧ ¬ a_matches (x7 * 64 + x18).toNatClampNeg = 0)) →
        wY_evaluate_827 post J74 J86 J571 x1 x2 x3 x4 x5 x6 x7 x8 x9 x10 x11 x14 x16 x17 x18 m f_cellLimit f_definitionLimit f_depthLimit f_itemLimit f_made f_state f_depth f_rootDefinition a_kind a_first a_second a_width a_use a_items a_itemKind a_itemName a_itemValue a_itemFit a_matches a_grows := by
      intro m bm hm
      refine sy_827 bm va vb (fun g bg hg => hJ m g bm bg ?_ ?_)
      · rw [hm]
        exact ⟨fun q => q.imp id (fun z => ⟨e, e1, e2, z⟩), fun q => q.imp id (fun z => z.2.2.2)⟩
      · rw [hg]
        exact ⟨fun q => q.imp id (fun z => ⟨e, e1, e2, z⟩), fun q => q.imp id (fun z => z.2.2.2)⟩
    refine br_c (fun m0 => And.intro va (br_c (fun m1 => ?_) (fun m1 => And.intro vb (br_c (fun m2 => ?_) (fun m2 => ?_))))) (fun m0 => ?_)
    · exact fin 0 sy_B0 (sy_00 (fun q => q.elim (fun z => z m0) (fun z => z.1 m1)))
    · exact fin 0 sy_B0 (sy_00 (fun q => q.elim (fun z => z m0) (fun z => z.2 m2)))
    · exact fin 1 sy_B1 (sy_11 (Or.inr ⟨m1, m2⟩))
    · exact fin 1 sy_B1 (sy_11 (Or.inl m0))
/-- what a pair gives to m and g -/
theorem sy_669 (h3 : sy_B x13) (h4 : sy_B x14) (x16z : x16 = 0) (v1 : vp_in (x10 + x17) 1536) (v2 : vp_in (x11 + x18) 1536)
    (hJ : ∀ m g, sy_B m → sy_B g →
      (¬ m = 0 ↔ ¬ x13 = 0 ∨ (¬ a_matches (x10 + x17).toNatClampNeg = 0 ∧ ¬ a_matches (x11 + x18).toNatClampNeg = 0)) →
      (¬ g = 0 ↔ ¬ x14 = 0 ∨ ((x9 = 5 ∧ ¬ x19 = 0 → ¬ a_matches (x10 + x17).toNatClampNeg = 0) ∧ (¬ (x9 = 5 ∧ ¬ x19 = 0) → ¬ a_grows (x10 + x17).toNatClampNeg = 0) ∧
        ¬ a_grows (x11 + x18).toNatClampNeg = 0)) → J571 m g (x17 + 1)) :
    wY_evaluate_669 post J74 J86 J571 x1 x2 x3 x4 x5 x6 x7 x8 x9 x10 x11 x13 x14 x16 x17 x18 x19 x21 f_cellLimit f_definitionLimit f_depthLimit f_itemLimit f_made f_state f_depth f_rootDefinition a_kind a_first a_second a_width a_use a_items a_itemKind a_itemName a_itemValue a_itemFit a_matches a_grows := by
  have f773 : ∀ m g, sy_B m → sy_B g → J571 m g (x17 + 1) → wY_evaluate_773 post J74 J86 J571 x1 x2 x3 x4 x5 x6 x7 x8 x9 x10 x11 m g x16 x17 x18 x21 f_cellLimit f_definitionLimit f_depthLimit f_itemLimit f_made f_state f_depth f_rootDefinition a_kind a_first a_second a_width a_use a_items a_itemKind a_itemName a_itemValue a_itemFit a_matches a_grows := by
    intro m g bm bg h
    unfold wY_evaluate_773
    exact br_t x16z (nm_e h)
  have f741 : ∀ m z : Int32, sy_B m → (¬ m = 0 ↔ ¬ x13 = 0 ∨ (¬ a_matches (x10 + x17).toNatClampNeg = 0 ∧ ¬ a_matches (x11 + x18).toNatClampNeg = 0)) →
      (x9 = 5 ∧ ¬ x19 = 0 → z = a_matches (x10 + x17).toNatClampNeg) → (¬ (x9 = 5 ∧ ¬ x19 = 0) → z = a_grows (x10 + x17).toNatClampNeg) →
      wY_evaluate_741 post J74 J86 J571 x1 x2 x3 x4 x5 x6 x7 x8 x9 x10 x11 m x14 x16 x17 x18 x21 z f_cellLimit f_definitionLimit f_depthLimit f_itemLimit f_made f_state f_depth f_rootDefinition a_kind a_first a_second a_width a_use a_items a_itemKind a_itemName a_itemValue a_itemFit a_matches a_grows := by
    intro m z bm hm z1 z2
    have hz : ¬ z = 0 ↔ (x9 = 5 ∧ ¬ x19 = 0 → ¬ a_matches (x10 + x17).toNatClampNeg = 0) ∧ (¬ (x9 = 5 ∧ ¬ x19 = 0) → ¬ a_grows (x10 + x17).toNatClampNeg = 0) := by
      by_cases c : x9 = 5 ∧ ¬ x19 = 0
      · rw [z1 c]
        exact ⟨fun q => ⟨fun _ => q, fun q' => absurd c q'⟩, fun q => q.1 c⟩
      · rw [z2 c]
        exact ⟨fun q => ⟨fun q' => absurd q' c, fun _ => q⟩, fun q => q.2 c⟩
    have fin : ∀ g, sy_B g → (¬ g = 0 ↔ ¬ x14 = 0 ∨ (¬ z = 0 ∧ ¬ a_grows (x11 + x18).toNatClampNeg = 0)) → wY_evaluate_773 post J74 J86 J571 x1 x2 x3 x4 x5 x6 x7 x8 x9 x10 x11 m g x16 x17 x18 x21 f_cellLimit f_definitionLimit f_depthLimit f_itemLimit f_made f_state f_depth f_rootDefinition a_kind a_first a_second a_width a_use a_items a_itemKind a_itemName a_itemValue a_itemFit a_matches a_grows := by
      intro g bg hg
      refine f773 m g bm bg (hJ m g bm bg hm ?_)
      rw [hg, hz, and_assoc]
    unfold wY_evaluate_741
    refine br_c (fun g0 => br_c (fun g1 => ?_) (fun g1 => And.intro v2 (br_c (fun g2 => ?_) (fun g2 => ?_)))) (fun g0 => ?_)
    · exact fin 0 sy_B0 (sy_00 (fun q => q.elim (fun y => y g0) (fun y => y.1 g1)))
    · exact fin 0 sy_B0 (sy_00 (fun q => q.elim (fun y => y g0) (fun y => y.2 g2)))
    · exact fin 1 sy_B1 (sy_11 (Or.inr ⟨g1, g2⟩))
    · exact fin 1 sy_B1 (sy_11 (Or.inl g0))
  have f705 : ∀ m : Int32, sy_B m → (¬ m = 0 ↔ ¬ x13 = 0 ∨ (¬ a_matches (x10 + x17).toNatClampNeg = 0 ∧ ¬ a_matches (x11 + x18).toNatClampNeg = 0)) →
      wY_evaluate_705 post J74 J86 J571 x1 x2 x3 x4 x5 x6 x7 x8 x9 x10 x11 x14 x16 x17 x18 x19 x21 m f_cellLimit f_definitionLimit f_depthLimit f_itemLimit f_made f_state f_depth f_rootDefinition a_kind a_first a_second a_width a_use a_items a_itemKind a_itemName a_itemValue a_itemFit a_matches a_grows := by
    intro m bm hm
    unfold wY_evaluate_705 wY_evaluate_731
    refine br_c (fun e => br_c (fun e1 => And.intro v1 ?_) (fun e1 => And.intro v1 ?_)) (fun e => And.intro v1 ?_)
    · exact f741 m _ bm hm (fun q => absurd e1 q.2) (fun _ => rfl)
    · exact f741 m _ bm hm (fun _ => rfl) (fun q => absurd ⟨e, e1⟩ q)
    · exact f741 m _ bm hm (fun q => absurd q.1 e) (fun _ => rfl)
  unfold wY_evaluate_669
  refine br_c (fun m0 => And.intro v1 (br_c (fun m1 => ?_) (fun m1 => And.intro v2 (br_c (fun m2 => ?_) (fun m2 => ?_))))) (fun m0 => ?_)
  · exact f705 0 sy_B0 (sy_00 (fun q => q.elim (fun z => z m0) (fun z => z.1 m1)))
  · exact f705 0 sy_B0 (sy_00 (fun q => q.elim (fun z => z m0) (fun z => z.2 m2)))
  · exact f705 1 sy_B1 (sy_11 (Or.inr ⟨m1, m2⟩))
  · exact f705 1 sy_B1 (sy_11 (Or.inl m0))
/-- the cut: all children in y before the first in z -/
def sy_cutI (x5 x17 x19 z0 : Int32) : Prop := ¬ z0 = 0 ∧ (x19 = 0 ∨ ¬ (x19 &&& (-x19)) ≤ (x17 &&& x5))
theorem sy_613g (h : ∀ v : Int32, (¬ v = 0 ↔ sy_cutI x5 x17 x19 z0) → wY_evaluate_644 post J74 J86 J571 x1 x2 x3 x4 x5 x6 x7 x8 x9 x10 x11 x13 x14 x16 x17 x18 x19 z0 v f_cellLimit f_definitionLimit f_depthLimit f_itemLimit f_made f_state f_depth f_rootDefinition a_kind a_first a_second a_width a_use a_items a_itemKind a_itemName a_itemValue a_itemFit a_matches a_grows) :
    wY_evaluate_613 post J74 J86 J571 x1 x2 x3 x4 x5 x6 x7 x8 x9 x10 x11 x13 x14 x16 x17 x18 x19 z0 f_cellLimit f_definitionLimit f_depthLimit f_itemLimit f_made f_state f_depth f_rootDefinition a_kind a_first a_second a_width a_use a_items a_itemKind a_itemName a_itemValue a_itemFit a_matches a_grows := by
  unfold wY_evaluate_613
  refine br_c (fun e => ?_) (fun e => br_c (fun e1 => ?_) (fun e1 => br_c (fun e2 => ?_) (fun e2 => ?_)))
  · exact h 0 (sy_00 (fun q => q.1 e))
  · exact h 1 (sy_11 ⟨e, Or.inl e1⟩)
  · exact h 0 (sy_00 (fun q => q.2.elim e1 (fun z => z e2)))
  · exact h 1 (sy_11 ⟨e, Or.inr e2⟩)
/-- GROUP -/
theorem sy_613_5 (h3 : sy_B x13) (h4 : sy_B x14) (v : sy_cutI x5 x17 x19 z0 → vp_in (x10 + x17) 1536 ∧ vp_in (x11 + x18) 1536)
    (hJ : ∀ m g, sy_B m → sy_B g →
      (¬ m = 0 ↔ ¬ x13 = 0 ∨ (sy_cutI x5 x17 x19 z0 ∧ ¬ a_matches (x10 + x17).toNatClampNeg = 0 ∧ ¬ a_matches (x11 + x18).toNatClampNeg = 0)) →
      (¬ g = 0 ↔ ¬ x14 = 0 ∨ (sy_cutI x5 x17 x19 z0 ∧ (¬ x19 = 0 → ¬ a_matches (x10 + x17).toNatClampNeg = 0) ∧ (x19 = 0 → ¬ a_grows (x10 + x17).toNatClampNeg = 0) ∧
        ¬ a_grows (x11 + x18).toNatClampNeg = 0)) → J571 m g (x17 + 1)) :
    wY_evaluate_613 post J74 J86 J571 x1 x2 x3 x4 x5 x6 x7 x8 5 x10 x11 x13 x14 0 x17 x18 x19 z0 f_cellLimit f_definitionLimit f_depthLimit f_itemLimit f_made f_state f_depth f_rootDefinition a_kind a_first a_second a_width a_use a_items a_itemKind a_itemName a_itemValue a_itemFit a_matches a_grows := by
  refine sy_613g (fun w hw => ?_)
  unfold wY_evaluate_644
  refine br_t rfl (br_c (fun e => ?_) (fun e => ?_))
  · have nc : ¬ sy_cutI x5 x17 x19 z0 := fun q => (hw.2 q) e
    unfold wY_evaluate_657
    refine br_f (by decide) ?_
    unfold wY_evaluate_773
    exact br_t rfl (nm_e (hJ x13 x14 h3 h4 ⟨fun q => Or.inl q, fun q => q.elim id (fun z => absurd z.1 nc)⟩ ⟨fun q => Or.inl q, fun q => q.elim id (fun z => absurd z.1 nc)⟩))
  · have c := hw.1 e
    obtain ⟨va, vb⟩ := v c
    refine sy_669 h3 h4 rfl va vb (fun m g bm bg hm hg => hJ m g bm bg ?_ ?_)
    · rw [hm]; exact ⟨fun q => q.imp id (fun z => ⟨c, z⟩), fun q => q.imp id (fun z => z.2)⟩
    · rw [hg]
      refine ⟨fun q => q.imp id (fun z => ⟨c, fun y => z.1 ⟨rfl, y⟩, fun y => z.2.1 (fun w => w.2 y), z.2.2⟩), fun q => q.imp id (fun z => ⟨fun y => z.2.1 y.2, fun y => z.2.2.1 ?_, z.2.2.2⟩)⟩
      exact Classical.byContradiction (fun w => y ⟨rfl, w⟩)
/-- INTERLEAVE -/
theorem sy_613_6 (h3 : sy_B x13) (h4 : sy_B x14) (v : ¬ z0 = 0 → vp_in (x10 + x17) 1536 ∧ vp_in (x11 + x18) 1536)
    (hJ : ∀ m g, sy_B m → sy_B g →
      (¬ m = 0 ↔ ¬ x13 = 0 ∨ (¬ z0 = 0 ∧ ¬ a_matches (x10 + x17).toNatClampNeg = 0 ∧ ¬ a_matches (x11 + x18).toNatClampNeg = 0)) →
      (¬ g = 0 ↔ ¬ x14 = 0 ∨ (¬ z0 = 0 ∧ ¬ a_grows (x10 + x17).toNatClampNeg = 0 ∧ ¬ a_grows (x11 + x18).toNatClampNeg = 0)) → J571 m g (x17 + 1)) :
    wY_evaluate_613 post J74 J86 J571 x1 x2 x3 x4 x5 x6 x7 x8 6 x10 x11 x13 x14 0 x17 x18 x19 z0 f_cellLimit f_definitionLimit f_depthLimit f_itemLimit f_made f_state f_depth f_rootDefinition a_kind a_first a_second a_width a_use a_items a_itemKind a_itemName a_itemValue a_itemFit a_matches a_grows := by
  refine sy_613g (fun w hw => ?_)
  unfold wY_evaluate_644
  refine br_f (by decide) ?_
  unfold wY_evaluate_657
  refine br_t rfl (br_c (fun e => ?_) (fun e => ?_))
  · unfold wY_evaluate_773
    exact br_t rfl (nm_e (hJ x13 x14 h3 h4 ⟨fun q => Or.inl q, fun q => q.elim id (fun z => absurd e z.1)⟩ ⟨fun q => Or.inl q, fun q => q.elim id (fun z => absurd e z.1)⟩))
  · obtain ⟨va, vb⟩ := v e
    refine sy_669 h3 h4 rfl va vb (fun m g bm bg hm hg => hJ m g bm bg ?_ ?_)
    · rw [hm]; exact ⟨fun q => q.imp id (fun z => ⟨e, z⟩), fun q => q.imp id (fun z => z.2)⟩
    · rw [hg]
      refine ⟨fun q => q.imp id (fun z => ⟨e, z.2.1 (fun w => absurd w.1 (by decide)), z.2.2⟩), fun q => q.imp id (fun z => ⟨fun y => absurd y.1 (by decide), fun _ => z.2.1, z.2.2⟩)⟩
/-- ONE_OR_MORE -/
theorem sy_613_7 (h3 : sy_B x13) (h4 : sy_B x14) (v1 : ¬ x16 = 0 → sy_cutI x5 x17 x19 z0 → ¬ x17 ≤ 0 → vp_in (x10 + x17) 1536 ∧ vp_in (x7 * 64 + x18) 1536)
    (hJ : ∀ m g, sy_B m → sy_B g →
      (¬ m = 0 ↔ ¬ x13 = 0 ∨ (¬ x16 = 0 ∧ sy_cutI x5 x17 x19 z0 ∧ ¬ x17 ≤ 0 ∧ ¬ a_matches (x10 + x17).toNatClampNeg = 0 ∧ ¬ a_matches (x7 * 64 + x18).toNatClampNeg = 0)) →
      (¬ g = 0 ↔ ¬ x14 = 0 ∨ (¬ x16 = 0 ∧ sy_cutI x5 x17 x19 z0 ∧ ¬ x17 ≤ 0 ∧ ¬ a_matches (x10 + x17).toNatClampNeg = 0 ∧ ¬ a_grows (x7 * 64 + x18).toNatClampNeg = 0)) → J571 m g (x17 + 1)) :
    wY_evaluate_613 post J74 J86 J571 x1 x2 x3 x4 x5 x6 x7 x8 7 x10 x11 x13 x14 x16 x17 x18 x19 z0 f_cellLimit f_definitionLimit f_depthLimit f_itemLimit f_made f_state f_depth f_rootDefinition a_kind a_first a_second a_width a_use a_items a_itemKind a_itemName a_itemValue a_itemFit a_matches a_grows := by
  refine sy_613g (fun w hw => ?_)
  unfold wY_evaluate_644
  refine br_f (by decide) ?_
  unfold wY_evaluate_657
  refine br_f (by decide) (sy_773 h3 h4 (fun a b c => v1 a (hw.1 b) c) (fun m g bm bg hm hg => hJ m g bm bg ?_ ?_))
  · rw [hm, hw]
  · rw [hg, hw]
end
end
section
/-! Y: evaluate, the value of one entry -/
def sy_fi (p v : Int32) : Prop := p = -1 ∨ p = v
def sy_sub (x t : Nat) : Prop := ∀ i, i < 6 → x.testBit i = true → t.testBit i = true
def sy_cut (kids x y : Nat) : Prop := x &&& y = y ∧ ∀ i j, i < 6 → j < 6 → y.testBit i = true → kids.testBit i = true → (x ^^^ y).testBit j = true → kids.testBit j = true → i < j
theorem sy_bn {x i : Nat} (hi : i < 32) : bt (nI x) i = x.testBit i := by
  show (BitVec.ofNat 32 x).getLsbD i = _
  rw [BitVec.getLsbD_ofNat, decide_eq_true hi, Bool.true_and]
theorem sy_sub_I {x t : Nat} (hx : x < 64) : nI x &&& (nI t ^^^ (-1)) = 0 ↔ sy_sub x t := by
  constructor
  · intro h i hi xi
    have := congrArg (fun v => bt v i) h
    simp only [b_and, b_xor, b_0, sy_bn (show i < 32 by omega), b_m1 i (by omega), xi] at this
    revert this
    cases t.testBit i <;> simp
  · intro h
    refine b_ext (fun i hi => ?_)
    rw [b_and, b_xor, b_0, sy_bn hi, sy_bn hi, b_m1 i hi]
    by_cases h6 : i < 6
    · have := h i h6
      revert this
      cases x.testBit i <;> cases t.testBit i <;> simp
    · rw [Nat.testBit_lt_two_pow (Nat.lt_of_lt_of_le (show x < 2 ^ 6 from hx) (Nat.pow_le_pow_right (by decide) (by omega)))]; rfl
theorem sy_low : ∀ w, w < 64 → w ≠ 0 → ∃ b, b < 6 ∧ (nI w &&& (-nI w)) = nI (2 ^ b) ∧ w.testBit b = true ∧ ∀ j, j < b → w.testBit j = false := by decide +kernel
theorem sy_low2 : ∀ b, b < 6 → ∀ w, w < 64 → (2 ^ b ≤ w ↔ ¬ ∀ i, i < 6 → w.testBit i = true → i < b) := by decide +kernel
theorem sy_and_lt {x y : Nat} (h : y < 64) : x &&& y < 64 := Nat.and_lt_two_pow x (show y < 2 ^ 6 from h)
theorem sy_xor_lt {x y : Nat} (hx : x < 64) (hy : y < 64) : x ^^^ y < 64 := Nat.xor_lt_two_pow (show x < 2 ^ 6 from hx) (show y < 2 ^ 6 from hy)
theorem sy_cut_I {kids x y : Nat} {z0 : Int32} (hx : x < 64) (hy : y < 64) (hk : kids < 64) (hz : ¬ z0 = 0 ↔ nI x &&& nI y = nI y) :
    sy_cutI (nI kids) (nI y) ((nI x ^^^ nI y) &&& nI kids) z0 ↔ sy_cut kids x y := by
  have xl := sy_xor_lt hx hy
  have ll : (x ^^^ y) &&& kids < 64 := sy_and_lt hk
  have yl : y &&& kids < 64 := sy_and_lt hk
  have e1 : nI x &&& nI y = nI y ↔ x &&& y = y := by
    rw [nx_and]; exact nI_eq (by have := sy_and_lt (x := x) hy; omega) (by omega)
  unfold sy_cutI sy_cut
  rw [hz, e1, nx_xor, nx_and, nx_and]
  refine and_congr Iff.rfl ?_
  have bits : ∀ i, ((x ^^^ y) &&& kids).testBit i = ((x ^^^ y).testBit i && kids.testBit i) := fun i => Nat.testBit_and _ _ _
  have bity : ∀ i, (y &&& kids).testBit i = (y.testBit i && kids.testBit i) := fun i => Nat.testBit_and _ _ _
  by_cases l0 : (x ^^^ y) &&& kids = 0
  · constructor
    · intro _ i j hi hj _ _ h3 h4
      have := bits j
      rw [l0, Nat.zero_testBit, h3, h4] at this
      cases this
    · intro _
      rw [l0]; exact Or.inl rfl
  · obtain ⟨b, b6, eb, tb, lb⟩ := sy_low _ ll l0
    have n0 : ¬ nI ((x ^^^ y) &&& kids) = 0 := fun q => l0 (sx_nIne (b := 0) (by omega) (by omega) q)
    have p := sd_p64 b b6
    rw [eb, nI_leI (by omega) (by omega), sy_low2 b b6 _ yl]
    constructor
    · rintro (h | h)
      · exact absurd h n0
      · have h' := Classical.not_not.1 h
        intro i j hi hj h1 h2 h3 h4
        have ib := h' i hi (by rw [bity, h1, h2]; rfl)
        have : ¬ j < b := fun q => by
          have := lb j q
          rw [bits, h3, h4] at this
          cases this
        omega
    · intro h
      refine Or.inr (Classical.not_not.2 (fun i hi ti => ?_))
      rw [bity, Bool.and_eq_true] at ti
      rw [bits, Bool.and_eq_true] at tb
      exact h i b hi b6 ti.1 ti.2 tb.1 tb.2
/-- what evaluate asks of the entry (c, x) -/
def sy_F (K F S iK iN iV iF : Nat → Int32) (lev n kids texts : Nat) (inh op : Int32) (M G : Nat → Int32) (c x : Nat) (m g : Int32) : Prop :=
  (sd_n K c = 0 → (¬ m = 0 ↔ x = 0) ∧ (¬ g = 0 ↔ x = 0)) ∧
  (sd_n K c = 1 → (¬ m = 0 ↔ sy_sub x texts) ∧ (¬ g = 0 ↔ sy_sub x texts)) ∧
  (sd_n K c = 2 → (¬ m = 0 ↔ ∃ i, i < n ∧ x = 2 ^ i ∧ sy_fi (F c) (iN (lev * 6 + i)) ∧ iK (lev * 6 + i) = 1 ∧ sy_fi (S c) (iV (lev * 6 + i))) ∧
    (¬ g = 0 ↔ (x = 0 ∧ kids = 0) ∨ ¬ m = 0)) ∧
  (sd_n K c = 3 → (¬ m = 0 ↔ ∃ i, i < n ∧ x = 2 ^ i ∧ sy_fi (F c) (iN (lev * 6 + i)) ∧ iK (lev * 6 + i) = 3 ∧ bt (iF (lev * 6 + i)) (sd_n S c) = true) ∧
    (¬ g = 0 ↔ (x = 0 ∧ bt inh (sd_n S c) = true) ∨ (∃ i, i < n ∧ x = 2 ^ i ∧ sy_fi (F c) (iN (lev * 6 + i)) ∧ iK (lev * 6 + i) = 0 ∧ bt op (sd_n S c) = true) ∨ ¬ m = 0)) ∧
  (sd_n K c = 4 → (¬ m = 0 ↔ ¬ M (sd_n F c * 64 + x) = 0 ∨ ¬ M (sd_n S c * 64 + x) = 0) ∧ (¬ g = 0 ↔ ¬ G (sd_n F c * 64 + x) = 0 ∨ ¬ G (sd_n S c * 64 + x) = 0)) ∧
  (sd_n K c = 5 → (¬ m = 0 ↔ ∃ y, y ≤ x ∧ sy_cut kids x y ∧ ¬ M (sd_n F c * 64 + y) = 0 ∧ ¬ M (sd_n S c * 64 + (x ^^^ y)) = 0) ∧
    (¬ g = 0 ↔ ∃ y, y ≤ x ∧ sy_cut kids x y ∧ (¬ (x ^^^ y) &&& kids = 0 → ¬ M (sd_n F c * 64 + y) = 0) ∧ ((x ^^^ y) &&& kids = 0 → ¬ G (sd_n F c * 64 + y) = 0) ∧ ¬ G (sd_n S c * 64 + (x ^^^ y)) = 0)) ∧
  (sd_n K c = 6 → (¬ m = 0 ↔ ∃ y, y ≤ x ∧ x &&& y = y ∧ ¬ M (sd_n F c * 64 + y) = 0 ∧ ¬ M (sd_n S c * 64 + (x ^^^ y)) = 0) ∧
    (¬ g = 0 ↔ ∃ y, y ≤ x ∧ x &&& y = y ∧ ¬ G (sd_n F c * 64 + y) = 0 ∧ ¬ G (sd_n S c * 64 + (x ^^^ y)) = 0)) ∧
  (sd_n K c = 7 → (¬ m = 0 ↔ sy_sub x kids ∧ (¬ M (sd_n F c * 64 + x) = 0 ∨ ∃ y, y ≤ x ∧ sy_cut kids x y ∧ 0 < y ∧ ¬ M (sd_n F c * 64 + y) = 0 ∧ ¬ M (c * 64 + (x ^^^ y)) = 0)) ∧
    (¬ g = 0 ↔ sy_sub x kids ∧ (¬ G (sd_n F c * 64 + x) = 0 ∨ ∃ y, y ≤ x ∧ sy_cut kids x y ∧ 0 < y ∧ ¬ M (sd_n F c * 64 + y) = 0 ∧ ¬ G (c * 64 + (x ^^^ y)) = 0)))
section
variable {f_cellLimit f_definitionLimit f_depthLimit f_itemLimit f_made f_state f_depth f_rootDefinition : Int32}
variable {a_kind a_first a_second a_width a_use a_items a_itemKind a_itemName a_itemValue a_itemFit a_matches a_grows : Nat → Int32}
variable {post : SY → Prop} {J74 J86 : Int32 → (Nat → Int32) → (Nat → Int32) → (Nat → Int32) → (Nat → Int32) → (Nat → Int32) → (Nat → Int32) → (Nat → Int32) → (Nat → Int32) → (Nat → Int32) → (Nat → Int32) → (Nat → Int32) → (Nat → Int32) → Prop} {J571 : Int32 → Int32 → Int32 → Prop}
variable {x1 x2 x3 x4 x5 x6 x7 x8 x9 x10 x11 x12 x13 x14 x15 x16 x17 x18 x19 x20 x21 z0 : Int32}
/-- the loop over y, whatever the kind -/
theorem sy_571L {x : Nat} (hx : x < 64) (hk : ¬ x9 < 5) {MT GT : Nat → Prop}
    (hS : ∀ y, y ≤ x → ∀ (J571 : Int32 → Int32 → Int32 → Prop) (m g z0 : Int32), sy_B m → sy_B g → (¬ z0 = 0 ↔ nI x &&& nI y = nI y) →
      (∀ m' g', sy_B m' → sy_B g' → (¬ m' = 0 ↔ ¬ m = 0 ∨ MT y) → (¬ g' = 0 ↔ ¬ g = 0 ∨ GT y) → J571 m' g' (nI y + 1)) →
      wY_evaluate_613 post J74 J86 J571 x1 x2 x3 x4 x5 x6 x7 (nI x) x9 x10 x11 m g x16 (nI y) (nI x ^^^ nI y) ((nI x ^^^ nI y) &&& x5) z0 f_cellLimit f_definitionLimit f_depthLimit f_itemLimit f_made f_state f_depth f_rootDefinition a_kind a_first a_second a_width a_use a_items a_itemKind a_itemName a_itemValue a_itemFit a_matches a_grows) :
    ∀ (d y : Nat) (m g : Int32), y + d = x + 1 → sy_B m → sy_B g →
      (∀ m' g', sy_B m' → sy_B g' → (¬ m' = 0 ↔ ¬ m = 0 ∨ ∃ t, y ≤ t ∧ t ≤ x ∧ MT t) → (¬ g' = 0 ↔ ¬ g = 0 ∨ ∃ t, y ≤ t ∧ t ≤ x ∧ GT t) →
        wY_evaluate_876 post J74 J86 x1 x2 x3 x4 x5 x6 x7 (nI x) m' g' f_cellLimit f_definitionLimit f_depthLimit f_itemLimit f_made f_state f_depth f_rootDefinition a_kind a_first a_second a_width a_use a_items a_itemKind a_itemName a_itemValue a_itemFit a_matches a_grows) →
      ∀ n, d < n → wY_evaluate_571 post J74 J86 x1 x2 x3 x4 x5 x6 x7 (nI x) x9 x10 x11 x16 f_cellLimit f_definitionLimit f_depthLimit f_itemLimit f_made f_state f_depth f_rootDefinition a_kind a_first a_second a_width a_use a_items a_itemKind a_itemName a_itemValue a_itemFit a_matches a_grows n m g (nI y) := by
  intro d
  induction d with
  | zero =>
    intro y m g hy bm bg hE n hn
    cases n with
    | zero => omega
    | succ n =>
      refine br_f hk (br_t (nI_lt (by omega) (by omega)) (hE m g bm bg ?_ ?_))
      · exact ⟨fun q => Or.inl q, fun q => q.elim id (fun ⟨t, t1, t2, _⟩ => by omega)⟩
      · exact ⟨fun q => Or.inl q, fun q => q.elim id (fun ⟨t, t1, t2, _⟩ => by omega)⟩
  | succ d ih =>
    intro y m g hy bm bg hE n hn
    cases n with
    | zero => omega
    | succ n =>
      refine br_f hk (br_f (nI_nlt (by omega) (by omega)) (nm_e (nm_e ?_)))
      have go : ∀ z0 : Int32, (¬ z0 = 0 ↔ nI x &&& nI y = nI y) →
          wY_evaluate_613 post J74 J86 (wY_evaluate_571 post J74 J86 x1 x2 x3 x4 x5 x6 x7 (nI x) x9 x10 x11 x16 f_cellLimit f_definitionLimit f_depthLimit f_itemLimit f_made f_state f_depth f_rootDefinition a_kind a_first a_second a_width a_use a_items a_itemKind a_itemName a_itemValue a_itemFit a_matches a_grows n) x1 x2 x3 x4 x5 x6 x7 (nI x) x9 x10 x11 m g x16 (nI y) (nI x ^^^ nI y) ((nI x ^^^ nI y) &&& x5) z0 f_cellLimit f_definitionLimit f_depthLimit f_itemLimit f_made f_state f_depth f_rootDefinition a_kind a_first a_second a_width a_use a_items a_itemKind a_itemName a_itemValue a_itemFit a_matches a_grows := by
        intro z0 hz
        refine hS y (by omega) _ m g z0 bm bg hz (fun m' g' bm' bg' hm hg => ?_)
        rw [nI_1]
        refine ih (y + 1) m' g' (by omega) bm' bg' (fun m2 g2 b2 b2' h2 h2' => hE m2 g2 b2 b2' ?_ ?_) n (by omega)
        · rw [h2, hm]
          constructor
          · rintro ((h | h) | ⟨t, t1, t2⟩)
            · exact Or.inl h
            · exact Or.inr ⟨y, by omega, by omega, h⟩
            · exact Or.inr ⟨t, by omega, t2⟩
          · rintro (h | ⟨t, t1, t2, t3⟩)
            · exact Or.inl (Or.inl h)
            · by_cases e : t = y
              · subst e; exact Or.inl (Or.inr t3)
              · exact Or.inr ⟨t, by omega, t2, t3⟩
        · rw [h2', hg]
          constructor
          · rintro ((h | h) | ⟨t, t1, t2⟩)
            · exact Or.inl h
            · exact Or.inr ⟨y, by omega, by omega, h⟩
            · exact Or.inr ⟨t, by omega, t2⟩
          · rintro (h | ⟨t, t1, t2, t3⟩)
            · exact Or.inl (Or.inl h)
            · by_cases e : t = y
              · subst e; exact Or.inl (Or.inr t3)
              · exact Or.inr ⟨t, by omega, t2, t3⟩
      exact br_c (fun e => go 1 (sy_11 e)) (fun e => go 0 (sy_00 e))
/-- leaves and choices have no loop over y -/
theorem sy_515s (k5 : x9 < 5) (k7 : ¬ x9 = 7) (h : wY_evaluate_876 post J74 J86 x1 x2 x3 x4 x5 x6 x7 x8 x13 x14 f_cellLimit f_definitionLimit f_depthLimit f_itemLimit f_made f_state f_depth f_rootDefinition a_kind a_first a_second a_width a_use a_items a_itemKind a_itemName a_itemValue a_itemFit a_matches a_grows) : wY_evaluate_515 post J74 J86 x1 x2 x3 x4 x5 x6 x7 x8 x9 x10 x11 x13 x14 f_cellLimit f_definitionLimit f_depthLimit f_itemLimit f_made f_state f_depth f_rootDefinition a_kind a_first a_second a_width a_use a_items a_itemKind a_itemName a_itemValue a_itemFit a_matches a_grows := by
  unfold wY_evaluate_515 wY_evaluate_536 wY_evaluate_537
  exact br_f k7 (br_t rfl ⟨1, br_t k5 h⟩)
/-- a leaf's end: g, or m -/
theorem sy_420s (k4 : x9 < 4) (bm : sy_B x13) (bg : sy_B x14)
    (h : ∀ g, sy_B g → (¬ g = 0 ↔ ¬ x14 = 0 ∨ ¬ x13 = 0) → wY_evaluate_876 post J74 J86 x1 x2 x3 x4 x5 x6 x7 x8 x13 g f_cellLimit f_definitionLimit f_depthLimit f_itemLimit f_made f_state f_depth f_rootDefinition a_kind a_first a_second a_width a_use a_items a_itemKind a_itemName a_itemValue a_itemFit a_matches a_grows) : wY_evaluate_420 post J74 J86 x1 x2 x3 x4 x5 x6 x7 x8 x9 x10 x11 x13 x14 f_cellLimit f_definitionLimit f_depthLimit f_itemLimit f_made f_state f_depth f_rootDefinition a_kind a_first a_second a_width a_use a_items a_itemKind a_itemName a_itemValue a_itemFit a_matches a_grows := by
  have k5 : x9 < 5 := Int32.lt_trans k4 (by decide)
  have k7 : ¬ x9 = 7 := fun e => by rw [e] at k4; exact absurd k4 (by decide)
  have kn : ¬ x9 = 4 := fun e => by rw [e] at k4; exact absurd k4 (by decide)
  have fin : ∀ g, sy_B g → (¬ g = 0 ↔ ¬ x14 = 0 ∨ ¬ x13 = 0) → wY_evaluate_443 post J74 J86 x1 x2 x3 x4 x5 x6 x7 x8 x9 x10 x11 x13 g f_cellLimit f_definitionLimit f_depthLimit f_itemLimit f_made f_state f_depth f_rootDefinition a_kind a_first a_second a_width a_use a_items a_itemKind a_itemName a_itemValue a_itemFit a_matches a_grows := by
    intro g b hg
    unfold wY_evaluate_443
    exact br_f kn (sy_515s k5 k7 (h g b hg))
  unfold wY_evaluate_420
  refine br_f (Int32.not_le.2 k4) (br_c (fun e => br_c (fun e1 => ?_) (fun e1 => ?_)) (fun e => ?_))
  · exact fin 0 sy_B0 (sy_00 (fun q => q.elim (fun z => z e) (fun z => z e1)))
  · exact fin 1 sy_B1 (sy_11 (Or.inr e1))
  · exact fin 1 sy_B1 (sy_11 (Or.inl e))
theorem sy_fits {post : Int32 → Prop} {p q : Int32} (h1 : sy_fi p q → post 1) (h0 : ¬ sy_fi p q → post 0) : wpY_fits post (f_cellLimit, f_definitionLimit, f_depthLimit, f_itemLimit, f_made, f_state, f_depth, f_rootDefinition, a_kind, a_first, a_second, a_width, a_use, a_items, a_itemKind, a_itemName, a_itemValue, a_itemFit, a_matches, a_grows) p q := by
  unfold wpY_fits
  exact br_c (fun e => h1 (Or.inl e)) (fun e => br_c (fun e' => h1 (Or.inr e')) (fun e' => h0 (fun z => z.elim e e')))
end
end
section
/-! Y: evaluate, by the kind of the cell -/
theorem sy_x0 {x : Nat} (hx : x < 64) : nI x = 0 ↔ x = 0 := nI_eq (b := 0) (by omega) (by decide)
section
variable {f_cellLimit f_definitionLimit f_depthLimit f_itemLimit f_made f_state f_depth f_rootDefinition : Int32}
variable {a_kind a_first a_second a_width a_use a_items a_itemKind a_itemName a_itemValue a_itemFit a_matches a_grows : Nat → Int32}
variable {post : SY → Prop} {J74 J86 : Int32 → (Nat → Int32) → (Nat → Int32) → (Nat → Int32) → (Nat → Int32) → (Nat → Int32) → (Nat → Int32) → (Nat → Int32) → (Nat → Int32) → (Nat → Int32) → (Nat → Int32) → (Nat → Int32) → (Nat → Int32) → Prop} {J571 : Int32 → Int32 → Int32 → Prop}
variable {x1 x2 x3 x4 x5 x6 x7 x8 x9 x10 x11 x12 x13 x14 x15 x16 x17 x18 x19 x20 x21 z0 : Int32}
variable {c x : Nat}
theorem sy_200_0 (hx : x < 64)
    (hE : ∀ m g, sy_B m → sy_B g → (¬ m = 0 ↔ x = 0) → (¬ g = 0 ↔ x = 0) → wY_evaluate_876 post J74 J86 x1 x2 x3 x4 x5 x6 x7 (nI x) m g f_cellLimit f_definitionLimit f_depthLimit f_itemLimit f_made f_state f_depth f_rootDefinition a_kind a_first a_second a_width a_use a_items a_itemKind a_itemName a_itemValue a_itemFit a_matches a_grows) :
    wY_evaluate_200 post J74 J86 x1 x2 x3 x4 x5 x6 x7 (nI x) 0 x10 x11 x12 0 0 z0 f_cellLimit f_definitionLimit f_depthLimit f_itemLimit f_made f_state f_depth f_rootDefinition a_kind a_first a_second a_width a_use a_items a_itemKind a_itemName a_itemValue a_itemFit a_matches a_grows := by
  have fin : ∀ m, sy_B m → (¬ m = 0 ↔ x = 0) → wY_evaluate_219 post J74 J86 x1 x2 x3 x4 x5 x6 x7 (nI x) 0 x10 x11 x12 m 0 z0 f_cellLimit f_definitionLimit f_depthLimit f_itemLimit f_made f_state f_depth f_rootDefinition a_kind a_first a_second a_width a_use a_items a_itemKind a_itemName a_itemValue a_itemFit a_matches a_grows := by
    intro m bm hm
    unfold wY_evaluate_219 wY_evaluate_242 wY_evaluate_309
    refine br_f (by decide) (br_f (by decide) (br_f (by decide) (sy_420s (by decide) bm sy_B0 (fun g bg hg => hE m g bm bg hm ?_))))
    rw [hg, hm]
    exact ⟨fun q => q.elim (fun z => absurd rfl z) id, fun q => Or.inr q⟩
  unfold wY_evaluate_200
  refine br_t rfl (br_c (fun e => ?_) (fun e => ?_))
  · exact fin 1 sy_B1 (sy_11 ((sy_x0 hx).1 e))
  · exact fin 0 sy_B0 (sy_00 (fun q => e ((sy_x0 hx).2 q)))
theorem sy_200_1 {texts : Nat} (hx : x < 64)
    (hE : ∀ m g, sy_B m → sy_B g → (¬ m = 0 ↔ sy_sub x texts) → (¬ g = 0 ↔ sy_sub x texts) → wY_evaluate_876 post J74 J86 x1 x2 x3 x4 x5 (nI texts) x7 (nI x) m g f_cellLimit f_definitionLimit f_depthLimit f_itemLimit f_made f_state f_depth f_rootDefinition a_kind a_first a_second a_width a_use a_items a_itemKind a_itemName a_itemValue a_itemFit a_matches a_grows) :
    wY_evaluate_200 post J74 J86 x1 x2 x3 x4 x5 (nI texts) x7 (nI x) 1 x10 x11 x12 0 0 z0 f_cellLimit f_definitionLimit f_depthLimit f_itemLimit f_made f_state f_depth f_rootDefinition a_kind a_first a_second a_width a_use a_items a_itemKind a_itemName a_itemValue a_itemFit a_matches a_grows := by
  have fin : ∀ m, sy_B m → (¬ m = 0 ↔ sy_sub x texts) → wY_evaluate_242 post J74 J86 x1 x2 x3 x4 x5 (nI texts) x7 (nI x) 1 x10 x11 x12 m 0 z0 f_cellLimit f_definitionLimit f_depthLimit f_itemLimit f_made f_state f_depth f_rootDefinition a_kind a_first a_second a_width a_use a_items a_itemKind a_itemName a_itemValue a_itemFit a_matches a_grows := by
    intro m bm hm
    unfold wY_evaluate_242 wY_evaluate_309
    refine br_f (by decide) (br_f (by decide) (sy_420s (by decide) bm sy_B0 (fun g bg hg => hE m g bm bg hm ?_)))
    rw [hg, hm]
    exact ⟨fun q => q.elim (fun z => absurd rfl z) id, fun q => Or.inr q⟩
  unfold wY_evaluate_200 wY_evaluate_219
  refine br_f (by decide) (br_t rfl (br_c (fun e => ?_) (fun e => ?_)))
  · exact fin 1 sy_B1 (sy_11 ((sy_sub_I hx).1 e))
  · exact fin 0 sy_B0 (sy_00 (fun q => e ((sy_sub_I hx).2 q)))
theorem sy_200_2 {kids : Nat} {A : Prop} (hx : x < 64) (hk : kids < 64) (v7 : vp_in x7 24) (v12 : ¬ z0 = 0 → vp_in x12 30)
    (hA : A ↔ ¬ z0 = 0 ∧ a_itemKind x12.toNatClampNeg = 1 ∧ sy_fi (a_second x7.toNatClampNeg) (a_itemValue x12.toNatClampNeg))
    (hE : ∀ m g, sy_B m → sy_B g → (¬ m = 0 ↔ A) → (¬ g = 0 ↔ (x = 0 ∧ kids = 0) ∨ ¬ m = 0) → wY_evaluate_876 post J74 J86 x1 x2 x3 x4 (nI kids) x6 x7 (nI x) m g f_cellLimit f_definitionLimit f_depthLimit f_itemLimit f_made f_state f_depth f_rootDefinition a_kind a_first a_second a_width a_use a_items a_itemKind a_itemName a_itemValue a_itemFit a_matches a_grows) :
    wY_evaluate_200 post J74 J86 x1 x2 x3 x4 (nI kids) x6 x7 (nI x) 2 x10 x11 x12 0 0 z0 f_cellLimit f_definitionLimit f_depthLimit f_itemLimit f_made f_state f_depth f_rootDefinition a_kind a_first a_second a_width a_use a_items a_itemKind a_itemName a_itemValue a_itemFit a_matches a_grows := by
  have fin : ∀ m g0, sy_B m → sy_B g0 → (¬ m = 0 ↔ A) → (¬ g0 = 0 ↔ (x = 0 ∧ kids = 0)) → wY_evaluate_309 post J74 J86 x1 x2 x3 x4 (nI kids) x6 x7 (nI x) 2 x10 x11 x12 m g0 z0 f_cellLimit f_definitionLimit f_depthLimit f_itemLimit f_made f_state f_depth f_rootDefinition a_kind a_first a_second a_width a_use a_items a_itemKind a_itemName a_itemValue a_itemFit a_matches a_grows := by
    intro m g0 bm bg0 hm hg0
    unfold wY_evaluate_309
    refine br_f (by decide) (sy_420s (by decide) bm bg0 (fun g bg hg => hE m g bm bg hm ?_))
    rw [hg, hg0]
  have mid : ∀ m, sy_B m → (¬ m = 0 ↔ A) → wY_evaluate_290 post J74 J86 x1 x2 x3 x4 (nI kids) x6 x7 (nI x) 2 x10 x11 x12 z0 m f_cellLimit f_definitionLimit f_depthLimit f_itemLimit f_made f_state f_depth f_rootDefinition a_kind a_first a_second a_width a_use a_items a_itemKind a_itemName a_itemValue a_itemFit a_matches a_grows := by
    intro m bm hm
    unfold wY_evaluate_290
    refine br_c (fun e => br_c (fun e1 => ?_) (fun e1 => ?_)) (fun e => ?_)
    · exact fin m 1 bm sy_B1 hm (sy_11 ⟨(sy_x0 hx).1 e, (sy_x0 hk).1 e1⟩)
    · exact fin m 0 bm sy_B0 hm (sy_00 (fun q => e1 ((sy_x0 hk).2 q.2)))
    · exact fin m 0 bm sy_B0 hm (sy_00 (fun q => e ((sy_x0 hx).2 q.1)))
  unfold wY_evaluate_200 wY_evaluate_219 wY_evaluate_242
  refine br_f (by decide) (br_f (by decide) (br_t rfl (br_c (fun e => ?_) (fun e => And.intro (v12 e) (br_c (fun e1 => And.intro v7 (And.intro (v12 e) (sy_fits (fun f => ?_) (fun f => ?_)))) (fun e1 => ?_))))))
  · exact mid 0 sy_B0 (sy_00 (fun q => (hA.1 q).1 e))
  · exact br_f (by decide) (mid 1 sy_B1 (sy_11 (hA.2 ⟨e, e1, f⟩)))
  · exact br_t rfl (mid 0 sy_B0 (sy_00 (fun q => f (hA.1 q).2.2)))
  · exact mid 0 sy_B0 (sy_00 (fun q => e1 (hA.1 q).2.1))
theorem sy_200_3 {j : Nat} {A C : Prop} (hx : x < 64) (v7 : vp_in x7 24) (v12 : ¬ z0 = 0 → vp_in x12 30) (hs : a_second x7.toNatClampNeg = nI j) (hj : j < 32)
    (hA : A ↔ ¬ z0 = 0 ∧ a_itemKind x12.toNatClampNeg = 3 ∧ bt (a_itemFit x12.toNatClampNeg) j = true)
    (hC : C ↔ ¬ z0 = 0 ∧ a_itemKind x12.toNatClampNeg = 0 ∧ bt x4 j = true)
    (hE : ∀ m g, sy_B m → sy_B g → (¬ m = 0 ↔ A) → (¬ g = 0 ↔ (x = 0 ∧ bt x3 j = true) ∨ C ∨ ¬ m = 0) → wY_evaluate_876 post J74 J86 x1 x2 x3 x4 x5 x6 x7 (nI x) m g f_cellLimit f_definitionLimit f_depthLimit f_itemLimit f_made f_state f_depth f_rootDefinition a_kind a_first a_second a_width a_use a_items a_itemKind a_itemName a_itemValue a_itemFit a_matches a_grows) :
    wY_evaluate_200 post J74 J86 x1 x2 x3 x4 x5 x6 x7 (nI x) 3 x10 x11 x12 0 0 z0 f_cellLimit f_definitionLimit f_depthLimit f_itemLimit f_made f_state f_depth f_rootDefinition a_kind a_first a_second a_width a_use a_items a_itemKind a_itemName a_itemValue a_itemFit a_matches a_grows := by
  have fin : ∀ m g0, sy_B m → sy_B g0 → (¬ m = 0 ↔ A) → (¬ g0 = 0 ↔ (x = 0 ∧ bt x3 j = true) ∨ C) → wY_evaluate_420 post J74 J86 x1 x2 x3 x4 x5 x6 x7 (nI x) 3 x10 x11 m g0 f_cellLimit f_definitionLimit f_depthLimit f_itemLimit f_made f_state f_depth f_rootDefinition a_kind a_first a_second a_width a_use a_items a_itemKind a_itemName a_itemValue a_itemFit a_matches a_grows := by
    intro m g0 bm bg0 hm hg0
    refine sy_420s (by decide) bm bg0 (fun g bg hg => hE m g bm bg hm ?_)
    rw [hg, hg0, or_assoc]
  have m384 : ∀ m g0, sy_B m → sy_B g0 → (¬ m = 0 ↔ A) → (¬ g0 = 0 ↔ (x = 0 ∧ bt x3 j = true)) → wY_evaluate_384 post J74 J86 x1 x2 x3 x4 x5 x6 x7 (nI x) 3 x10 x11 x12 m z0 g0 f_cellLimit f_definitionLimit f_depthLimit f_itemLimit f_made f_state f_depth f_rootDefinition a_kind a_first a_second a_width a_use a_items a_itemKind a_itemName a_itemValue a_itemFit a_matches a_grows := by
    intro m g0 bm bg0 hm hg0
    unfold wY_evaluate_384
    rw [hs]
    refine br_c (fun e => ?_) (fun e => And.intro (v12 e) (br_c (fun e1 => And.intro v7 (br_c (fun e2 => ?_) (fun e2 => ?_))) (fun e1 => ?_)))
    · refine fin m g0 bm bg0 hm ?_
      rw [hg0]
      exact ⟨fun q => Or.inl q, fun q => q.elim id (fun z => absurd e (hC.1 z).1)⟩
    · exact fin m 1 bm sy_B1 hm (sy_11 (Or.inr (hC.2 ⟨e, e1, (sx_bit1 hj).1 e2⟩)))
    · refine fin m g0 bm bg0 hm ?_
      rw [hg0]
      exact ⟨fun q => Or.inl q, fun q => q.elim id (fun z => absurd ((sx_bit1 hj).2 (hC.1 z).2.2) e2)⟩
    · refine fin m g0 bm bg0 hm ?_
      rw [hg0]
      exact ⟨fun q => Or.inl q, fun q => q.elim id (fun z => absurd (hC.1 z).2.1 e1)⟩
  have m357 : ∀ m, sy_B m → (¬ m = 0 ↔ A) → wY_evaluate_357 post J74 J86 x1 x2 x3 x4 x5 x6 x7 (nI x) 3 x10 x11 x12 z0 m f_cellLimit f_definitionLimit f_depthLimit f_itemLimit f_made f_state f_depth f_rootDefinition a_kind a_first a_second a_width a_use a_items a_itemKind a_itemName a_itemValue a_itemFit a_matches a_grows := by
    intro m bm hm
    unfold wY_evaluate_357
    rw [hs]
    refine br_c (fun e => And.intro v7 (br_c (fun e1 => ?_) (fun e1 => ?_))) (fun e => ?_)
    · exact m384 m 1 bm sy_B1 hm (sy_11 ⟨(sy_x0 hx).1 e, (sx_bit1 hj).1 e1⟩)
    · exact m384 m 0 bm sy_B0 hm (sy_00 (fun q => e1 ((sx_bit1 hj).2 q.2)))
    · exact m384 m 0 bm sy_B0 hm (sy_00 (fun q => e ((sy_x0 hx).2 q.1)))
  unfold wY_evaluate_200 wY_evaluate_219 wY_evaluate_242 wY_evaluate_309
  rw [hs]
  refine br_f (by decide) (br_f (by decide) (br_f (by decide) (br_t rfl (br_c (fun e => ?_) (fun e => And.intro (v12 e) (br_c (fun e1 => And.intro (v12 e) (And.intro v7 (br_c (fun e2 => ?_) (fun e2 => ?_)))) (fun e1 => ?_)))))))
  · exact m357 0 sy_B0 (sy_00 (fun q => (hA.1 q).1 e))
  · exact m357 1 sy_B1 (sy_11 (hA.2 ⟨e, e1, (sx_bit1 hj).1 e2⟩))
  · exact m357 0 sy_B0 (sy_00 (fun q => e2 ((sx_bit1 hj).2 (hA.1 q).2.2)))
  · exact m357 0 sy_B0 (sy_00 (fun q => e1 (hA.1 q).2.1))
/-- composite cells pass the leaves' rows -/
theorem sy_200_c (k0 : ¬ x9 = 0) (k1 : ¬ x9 = 1) (k2 : ¬ x9 = 2) (k3 : ¬ x9 = 3) (k4 : 4 ≤ x9) (h : wY_evaluate_443 post J74 J86 x1 x2 x3 x4 x5 x6 x7 x8 x9 x10 x11 x13 x14 f_cellLimit f_definitionLimit f_depthLimit f_itemLimit f_made f_state f_depth f_rootDefinition a_kind a_first a_second a_width a_use a_items a_itemKind a_itemName a_itemValue a_itemFit a_matches a_grows) :
    wY_evaluate_200 post J74 J86 x1 x2 x3 x4 x5 x6 x7 x8 x9 x10 x11 x12 x13 x14 z0 f_cellLimit f_definitionLimit f_depthLimit f_itemLimit f_made f_state f_depth f_rootDefinition a_kind a_first a_second a_width a_use a_items a_itemKind a_itemName a_itemValue a_itemFit a_matches a_grows := by
  unfold wY_evaluate_200 wY_evaluate_219 wY_evaluate_242 wY_evaluate_309 wY_evaluate_420
  exact br_f k0 (br_f k1 (br_f k2 (br_f k3 (br_t k4 h))))
theorem sy_200_4 (va : vp_in (x10 + x8) 1536) (vb : vp_in (x11 + x8) 1536)
    (hE : ∀ m g, sy_B m → sy_B g → (¬ m = 0 ↔ ¬ a_matches (x10 + x8).toNatClampNeg = 0 ∨ ¬ a_matches (x11 + x8).toNatClampNeg = 0) →
      (¬ g = 0 ↔ ¬ a_grows (x10 + x8).toNatClampNeg = 0 ∨ ¬ a_grows (x11 + x8).toNatClampNeg = 0) → wY_evaluate_876 post J74 J86 x1 x2 x3 x4 x5 x6 x7 x8 m g f_cellLimit f_definitionLimit f_depthLimit f_itemLimit f_made f_state f_depth f_rootDefinition a_kind a_first a_second a_width a_use a_items a_itemKind a_itemName a_itemValue a_itemFit a_matches a_grows) :
    wY_evaluate_200 post J74 J86 x1 x2 x3 x4 x5 x6 x7 x8 4 x10 x11 x12 0 0 z0 f_cellLimit f_definitionLimit f_depthLimit f_itemLimit f_made f_state f_depth f_rootDefinition a_kind a_first a_second a_width a_use a_items a_itemKind a_itemName a_itemValue a_itemFit a_matches a_grows := by
  refine sy_200_c (by decide) (by decide) (by decide) (by decide) (by decide) ?_
  have f480 : ∀ m, sy_B m → (¬ m = 0 ↔ ¬ a_matches (x10 + x8).toNatClampNeg = 0 ∨ ¬ a_matches (x11 + x8).toNatClampNeg = 0) → wY_evaluate_480 post J74 J86 x1 x2 x3 x4 x5 x6 x7 x8 4 x10 x11 m f_cellLimit f_definitionLimit f_depthLimit f_itemLimit f_made f_state f_depth f_rootDefinition a_kind a_first a_second a_width a_use a_items a_itemKind a_itemName a_itemValue a_itemFit a_matches a_grows := by
    intro m bm hm
    have fin : ∀ g, sy_B g → (¬ g = 0 ↔ ¬ a_grows (x10 + x8).toNatClampNeg = 0 ∨ ¬ a_grows (x11 + x8).toNatClampNeg = 0) → wY_evaluate_515 post J74 J86 x1 x2 x3 x4 x5 x6 x7 x8 4 x10 x11 m g f_cellLimit f_definitionLimit f_depthLimit f_itemLimit f_made f_state f_depth f_rootDefinition a_kind a_first a_second a_width a_use a_items a_itemKind a_itemName a_itemValue a_itemFit a_matches a_grows :=
      fun g bg hg => sy_515s (by decide) (by decide) (hE m g bm bg hm hg)
    unfold wY_evaluate_480
    refine And.intro va (br_c (fun e => And.intro vb (br_c (fun e1 => ?_) (fun e1 => ?_))) (fun e => ?_))
    · exact fin 0 sy_B0 (sy_00 (fun q => q.elim (fun z => z e) (fun z => z e1)))
    · exact fin 1 sy_B1 (sy_11 (Or.inr e1))
    · exact fin 1 sy_B1 (sy_11 (Or.inl e))
  unfold wY_evaluate_443
  refine br_t rfl (And.intro va (br_c (fun e => And.intro vb (br_c (fun e1 => ?_) (fun e1 => ?_))) (fun e => ?_)))
  · exact f480 0 sy_B0 (sy_00 (fun q => q.elim (fun z => z e) (fun z => z e1)))
  · exact f480 1 sy_B1 (sy_11 (Or.inr e1))
  · exact f480 1 sy_B1 (sy_11 (Or.inl e))
theorem sy_add {P y : Nat} (h : P + y < 1536) : vp_in (nI P + nI y) 1536 ∧ (nI P + nI y).toNatClampNeg = P + y := by
  rw [nI_add]
  exact ⟨vp_in_nI h (by decide), nI_clamp (by omega)⟩
theorem sy_or0 {v : Prop} {P : Prop} : (¬ (0 : Int32) = 0 ∨ P) ↔ P := ⟨fun q => q.elim (fun z => absurd rfl z) id, fun q => Or.inr q⟩
theorem sy_200_5 {P Q kids : Nat} (hx : x < 64) (hk : kids < 64) (hP : P + 64 ≤ 1536) (hQ : Q + 64 ≤ 1536)
    (hE : ∀ m g, sy_B m → sy_B g → (¬ m = 0 ↔ ∃ y, y ≤ x ∧ sy_cut kids x y ∧ ¬ a_matches (P + y) = 0 ∧ ¬ a_matches (Q + (x ^^^ y)) = 0) →
      (¬ g = 0 ↔ ∃ y, y ≤ x ∧ sy_cut kids x y ∧ (¬ (x ^^^ y) &&& kids = 0 → ¬ a_matches (P + y) = 0) ∧ ((x ^^^ y) &&& kids = 0 → ¬ a_grows (P + y) = 0) ∧ ¬ a_grows (Q + (x ^^^ y)) = 0) →
      wY_evaluate_876 post J74 J86 x1 x2 x3 x4 (nI kids) x6 x7 (nI x) m g f_cellLimit f_definitionLimit f_depthLimit f_itemLimit f_made f_state f_depth f_rootDefinition a_kind a_first a_second a_width a_use a_items a_itemKind a_itemName a_itemValue a_itemFit a_matches a_grows) :
    wY_evaluate_200 post J74 J86 x1 x2 x3 x4 (nI kids) x6 x7 (nI x) 5 (nI P) (nI Q) x12 0 0 z0 f_cellLimit f_definitionLimit f_depthLimit f_itemLimit f_made f_state f_depth f_rootDefinition a_kind a_first a_second a_width a_use a_items a_itemKind a_itemName a_itemValue a_itemFit a_matches a_grows := by
  refine sy_200_c (by decide) (by decide) (by decide) (by decide) (by decide) ?_
  unfold wY_evaluate_443 wY_evaluate_515 wY_evaluate_536 wY_evaluate_537
  refine br_f (by decide) (br_f (by decide) (br_t rfl ⟨x + 2, ?_⟩))
  refine sy_571L hx (by decide) (MT := fun y => sy_cut kids x y ∧ ¬ a_matches (P + y) = 0 ∧ ¬ a_matches (Q + (x ^^^ y)) = 0)
    (GT := fun y => sy_cut kids x y ∧ (¬ (x ^^^ y) &&& kids = 0 → ¬ a_matches (P + y) = 0) ∧ ((x ^^^ y) &&& kids = 0 → ¬ a_grows (P + y) = 0) ∧ ¬ a_grows (Q + (x ^^^ y)) = 0)
    ?_ (x + 1) 0 0 0 (by omega) sy_B0 sy_B0 (fun m g bm bg hm hg => hE m g bm bg ?_ ?_) (x + 2) (by omega)
  · intro y hy J m g z bm bg hz hJ
    have zl := sy_xor_lt hx (show y < 64 by omega)
    obtain ⟨va, ea⟩ := sy_add (P := P) (y := y) (by omega)
    obtain ⟨vb, eb⟩ := sy_add (P := Q) (y := x ^^^ y) (by omega)
    have cu := sy_cut_I (z0 := z) hx (show y < 64 by omega) hk hz
    have l0 : (nI x ^^^ nI y) &&& nI kids = 0 ↔ (x ^^^ y) &&& kids = 0 := by
      rw [nx_xor, nx_and]; exact sy_x0 (sy_and_lt hk)
    refine sy_613_5 bm bg (fun _ => ⟨va, by rw [nx_xor]; exact vb⟩) (fun m' g' bm' bg' h1 h2 => hJ m' g' bm' bg' ?_ ?_)
    · rw [h1, cu, nx_xor, ea, eb]
    · rw [h2, cu, l0, nx_xor, ea, eb]
  · rw [hm]
    exact ⟨fun q => q.elim (fun z => absurd rfl z) (fun ⟨y, _, h⟩ => ⟨y, h⟩), fun ⟨y, h⟩ => Or.inr ⟨y, by omega, h⟩⟩
  · rw [hg]
    exact ⟨fun q => q.elim (fun z => absurd rfl z) (fun ⟨y, _, h⟩ => ⟨y, h⟩), fun ⟨y, h⟩ => Or.inr ⟨y, by omega, h⟩⟩
theorem sy_200_6 {P Q kids : Nat} (hx : x < 64) (hP : P + 64 ≤ 1536) (hQ : Q + 64 ≤ 1536)
    (hE : ∀ m g, sy_B m → sy_B g → (¬ m = 0 ↔ ∃ y, y ≤ x ∧ x &&& y = y ∧ ¬ a_matches (P + y) = 0 ∧ ¬ a_matches (Q + (x ^^^ y)) = 0) →
      (¬ g = 0 ↔ ∃ y, y ≤ x ∧ x &&& y = y ∧ ¬ a_grows (P + y) = 0 ∧ ¬ a_grows (Q + (x ^^^ y)) = 0) →
      wY_evaluate_876 post J74 J86 x1 x2 x3 x4 (nI kids) x6 x7 (nI x) m g f_cellLimit f_definitionLimit f_depthLimit f_itemLimit f_made f_state f_depth f_rootDefinition a_kind a_first a_second a_width a_use a_items a_itemKind a_itemName a_itemValue a_itemFit a_matches a_grows) :
    wY_evaluate_200 post J74 J86 x1 x2 x3 x4 (nI kids) x6 x7 (nI x) 6 (nI P) (nI Q) x12 0 0 z0 f_cellLimit f_definitionLimit f_depthLimit f_itemLimit f_made f_state f_depth f_rootDefinition a_kind a_first a_second a_width a_use a_items a_itemKind a_itemName a_itemValue a_itemFit a_matches a_grows := by
  refine sy_200_c (by decide) (by decide) (by decide) (by decide) (by decide) ?_
  unfold wY_evaluate_443 wY_evaluate_515 wY_evaluate_536 wY_evaluate_537
  refine br_f (by decide) (br_f (by decide) (br_t rfl ⟨x + 2, ?_⟩))
  refine sy_571L hx (by decide) (MT := fun y => x &&& y = y ∧ ¬ a_matches (P + y) = 0 ∧ ¬ a_matches (Q + (x ^^^ y)) = 0)
    (GT := fun y => x &&& y = y ∧ ¬ a_grows (P + y) = 0 ∧ ¬ a_grows (Q + (x ^^^ y)) = 0)
    ?_ (x + 1) 0 0 0 (by omega) sy_B0 sy_B0 (fun m g bm bg hm hg => hE m g bm bg ?_ ?_) (x + 2) (by omega)
  · intro y hy J m g z bm bg hz hJ
    have zl := sy_xor_lt hx (show y < 64 by omega)
    obtain ⟨va, ea⟩ := sy_add (P := P) (y := y) (by omega)
    obtain ⟨vb, eb⟩ := sy_add (P := Q) (y := x ^^^ y) (by omega)
    have e1 : nI x &&& nI y = nI y ↔ x &&& y = y := by
      rw [nx_and]; exact nI_eq (by have := sy_and_lt (x := x) (show y < 64 by omega); omega) (by omega)
    refine sy_613_6 bm bg (fun _ => ⟨va, by rw [nx_xor]; exact vb⟩) (fun m' g' bm' bg' h1 h2 => hJ m' g' bm' bg' ?_ ?_)
    · rw [h1, hz, e1, nx_xor, ea, eb]
    · rw [h2, hz, e1, nx_xor, ea, eb]
  · rw [hm]
    exact ⟨fun q => q.elim (fun z => absurd rfl z) (fun ⟨y, _, h⟩ => ⟨y, h⟩), fun ⟨y, h⟩ => Or.inr ⟨y, by omega, h⟩⟩
  · rw [hg]
    exact ⟨fun q => q.elim (fun z => absurd rfl z) (fun ⟨y, _, h⟩ => ⟨y, h⟩), fun ⟨y, h⟩ => Or.inr ⟨y, by omega, h⟩⟩
theorem sy_200_7 {P kids : Nat} (hx : x < 64) (hk : kids < 64) (hP : P + 64 ≤ 1536) (hc : c < 24) (b1 : sy_B (a_matches (P + x))) (b2 : sy_B (a_grows (P + x)))
    (hE : ∀ m g, sy_B m → sy_B g → (¬ m = 0 ↔ sy_sub x kids ∧ (¬ a_matches (P + x) = 0 ∨ ∃ y, y ≤ x ∧ sy_cut kids x y ∧ 0 < y ∧ ¬ a_matches (P + y) = 0 ∧ ¬ a_matches (c * 64 + (x ^^^ y)) = 0)) →
      (¬ g = 0 ↔ sy_sub x kids ∧ (¬ a_grows (P + x) = 0 ∨ ∃ y, y ≤ x ∧ sy_cut kids x y ∧ 0 < y ∧ ¬ a_matches (P + y) = 0 ∧ ¬ a_grows (c * 64 + (x ^^^ y)) = 0)) →
      wY_evaluate_876 post J74 J86 x1 x2 x3 x4 (nI kids) x6 (nI c) (nI x) m g f_cellLimit f_definitionLimit f_depthLimit f_itemLimit f_made f_state f_depth f_rootDefinition a_kind a_first a_second a_width a_use a_items a_itemKind a_itemName a_itemValue a_itemFit a_matches a_grows) :
    wY_evaluate_200 post J74 J86 x1 x2 x3 x4 (nI kids) x6 (nI c) (nI x) 7 (nI P) x11 x12 0 0 z0 f_cellLimit f_definitionLimit f_depthLimit f_itemLimit f_made f_state f_depth f_rootDefinition a_kind a_first a_second a_width a_use a_items a_itemKind a_itemName a_itemValue a_itemFit a_matches a_grows := by
  refine sy_200_c (by decide) (by decide) (by decide) (by decide) (by decide) ?_
  unfold wY_evaluate_443 wY_evaluate_515
  obtain ⟨vx, ex⟩ := sy_add (P := P) (y := x) (by omega)
  have ec : nI c * 64 = nI (c * 64) := by rw [show (64 : Int32) = nI 64 from rfl, pk_mul]
  -- one turn
  have turn : ∀ (w : Int32), ∀ y, y ≤ x → ∀ (J571 : Int32 → Int32 → Int32 → Prop) (m g z : Int32), sy_B m → sy_B g → (¬ z = 0 ↔ nI x &&& nI y = nI y) →
      (∀ m' g', sy_B m' → sy_B g' →
        (¬ m' = 0 ↔ ¬ m = 0 ∨ (¬ w = 0 ∧ sy_cut kids x y ∧ 0 < y ∧ ¬ a_matches (P + y) = 0 ∧ ¬ a_matches (c * 64 + (x ^^^ y)) = 0)) →
        (¬ g' = 0 ↔ ¬ g = 0 ∨ (¬ w = 0 ∧ sy_cut kids x y ∧ 0 < y ∧ ¬ a_matches (P + y) = 0 ∧ ¬ a_grows (c * 64 + (x ^^^ y)) = 0)) → J571 m' g' (nI y + 1)) →
      wY_evaluate_613 post J74 J86 J571 x1 x2 x3 x4 (nI kids) x6 (nI c) (nI x) 7 (nI P) x11 m g w (nI y) (nI x ^^^ nI y) ((nI x ^^^ nI y) &&& nI kids) z f_cellLimit f_definitionLimit f_depthLimit f_itemLimit f_made f_state f_depth f_rootDefinition a_kind a_first a_second a_width a_use a_items a_itemKind a_itemName a_itemValue a_itemFit a_matches a_grows := by
    intro w y hy J m g z bm bg hz hJ
    have zl := sy_xor_lt hx (show y < 64 by omega)
    obtain ⟨va, ea⟩ := sy_add (P := P) (y := y) (by omega)
    obtain ⟨vb, eb⟩ := sy_add (P := c * 64) (y := x ^^^ y) (by omega)
    have cu := sy_cut_I (z0 := z) hx (show y < 64 by omega) hk hz
    have y0 : ¬ nI y ≤ 0 ↔ 0 < y := by
      rw [show (0 : Int32) = nI 0 from rfl, nI_leI (by omega) (by decide)]; omega
    refine sy_613_7 bm bg (fun _ _ _ => ⟨va, by rw [nx_xor, ec]; exact vb⟩) (fun m' g' bm' bg' h1 h2 => hJ m' g' bm' bg' ?_ ?_)
    · rw [h1, cu, y0, nx_xor, ec, ea, eb]
    · rw [h2, cu, y0, nx_xor, ec, ea, eb]
  refine br_f (by decide) (br_t rfl (br_c (fun e => ?_) (fun e => ?_)))
  · have su := (sy_sub_I hx).1 e
    unfold wY_evaluate_537
    rw [ex]
    refine br_f (by decide) (And.intro vx (nm_e (And.intro vx (nm_e ⟨x + 2, ?_⟩))))
    refine sy_571L hx (by decide) (MT := fun y => ¬ (1 : Int32) = 0 ∧ sy_cut kids x y ∧ 0 < y ∧ ¬ a_matches (P + y) = 0 ∧ ¬ a_matches (c * 64 + (x ^^^ y)) = 0)
      (GT := fun y => ¬ (1 : Int32) = 0 ∧ sy_cut kids x y ∧ 0 < y ∧ ¬ a_matches (P + y) = 0 ∧ ¬ a_grows (c * 64 + (x ^^^ y)) = 0)
      (turn 1) (x + 1) 0 _ _ (by omega) b1 b2 (fun m g bm bg hm hg => hE m g bm bg ?_ ?_) (x + 2) (by omega)
    · rw [hm]
      exact ⟨fun q => ⟨su, q.imp id (fun ⟨y, _, h1, _, h⟩ => ⟨y, h1, h⟩)⟩, fun q => q.2.imp id (fun ⟨y, h1, h⟩ => ⟨y, by omega, h1, sy_10, h⟩)⟩
    · rw [hg]
      exact ⟨fun q => ⟨su, q.imp id (fun ⟨y, _, h1, _, h⟩ => ⟨y, h1, h⟩)⟩, fun q => q.2.imp id (fun ⟨y, h1, h⟩ => ⟨y, by omega, h1, sy_10, h⟩)⟩
  · have su : ¬ sy_sub x kids := fun q => e ((sy_sub_I hx).2 q)
    unfold wY_evaluate_536 wY_evaluate_537
    refine br_t rfl ⟨x + 2, ?_⟩
    refine sy_571L hx (by decide) (MT := fun y => ¬ (0 : Int32) = 0 ∧ sy_cut kids x y ∧ 0 < y ∧ ¬ a_matches (P + y) = 0 ∧ ¬ a_matches (c * 64 + (x ^^^ y)) = 0)
      (GT := fun y => ¬ (0 : Int32) = 0 ∧ sy_cut kids x y ∧ 0 < y ∧ ¬ a_matches (P + y) = 0 ∧ ¬ a_grows (c * 64 + (x ^^^ y)) = 0)
      (turn 0) (x + 1) 0 0 0 (by omega) sy_B0 sy_B0 (fun m g bm bg hm hg => hE m g bm bg ?_ ?_) (x + 2) (by omega)
    · rw [hm]
      exact ⟨fun q => q.elim (fun z => absurd rfl z) (fun ⟨y, _, _, h, _⟩ => absurd rfl h), fun q => absurd q.1 su⟩
    · rw [hg]
      exact ⟨fun q => q.elim (fun z => absurd rfl z) (fun ⟨y, _, _, h, _⟩ => absurd rfl h), fun q => absurd q.1 su⟩
end
end
section
/-! Y: evaluate, the whole table -/
theorem sy_sh1 : ∀ i, i < 8 → (1 : Int32) <<< (nI i &&& 31) = nI (2 ^ i) := by decide +kernel
theorem sy_p2 : ∀ i, i < 7 → 2 ^ i ≤ 64 := by decide +kernel
theorem sy_pinj : ∀ i, i < 7 → ∀ j, j < 7 → 2 ^ i = 2 ^ j → i = j := by decide +kernel
theorem sy_xle : ∀ x, x < 64 → ∀ y, y < 64 → x &&& y = y → x ^^^ y ≤ x ∧ (0 < y → x ^^^ y < x) := by decide +kernel
theorem sy_or (a b : Nat) : nI a ||| nI b = nI (a ||| b) := by
  refine b_ext (fun i hi => ?_)
  rw [b_or, sy_bn hi, sy_bn hi, sy_bn hi, Nat.testBit_or]
/-- what evaluate needs of a cell -/
def sy_ok (K F S : Nat → Int32) (c : Nat) : Prop :=
  c < 24 ∧ K c = nI (sd_n K c) ∧ sd_n K c ≤ 7 ∧ (sd_n K c = 3 → S c = nI (sd_n S c) ∧ sd_n S c < 8) ∧
  (4 ≤ sd_n K c → F c = nI (sd_n F c) ∧ sd_n F c < c) ∧ (4 ≤ sd_n K c → sd_n K c ≠ 7 → S c = nI (sd_n S c) ∧ sd_n S c < c)
/-- the entry holds what is asked -/
def sy_E (K F S iK iN iV iF : Nat → Int32) (lev n kids texts : Nat) (inh op : Int32) (M G : Nat → Int32) (c x : Nat) : Prop :=
  sy_B (M (c * 64 + x)) ∧ sy_B (G (c * 64 + x)) ∧ sy_F K F S iK iN iV iF lev n kids texts inh op M G c x (M (c * 64 + x)) (G (c * 64 + x))
theorem sy_ex_cg {P Q : Nat → Prop} (h : ∀ y, P y ↔ Q y) : (∃ y, P y) ↔ ∃ y, Q y := ⟨fun ⟨y, a⟩ => ⟨y, (h y).1 a⟩, fun ⟨y, a⟩ => ⟨y, (h y).2 a⟩⟩
theorem sy_and_cg {a b c : Prop} (h : a → (b ↔ c)) : (a ∧ b) ↔ (a ∧ c) := ⟨fun q => ⟨q.1, (h q.1).1 q.2⟩, fun q => ⟨q.1, (h q.1).2 q.2⟩⟩
theorem sy_F_cg {K F S iK iN iV iF : Nat → Int32} {lev n kids texts : Nat} {inh op : Int32} {M G M' G' : Nat → Int32} {c x : Nat} {m g : Int32}
    (ok : sy_ok K F S c) (hx : x < 64) (hM : ∀ i, i < c * 64 + x → M' i = M i) (hG : ∀ i, i < c * 64 + x → G' i = G i)
    (h : sy_F K F S iK iN iV iF lev n kids texts inh op M G c x m g) : sy_F K F S iK iN iV iF lev n kids texts inh op M' G' c x m g := by
  obtain ⟨h0, h1, h2, h3, h4, h5, h6, h7⟩ := h
  obtain ⟨_, _, _, _, o1, o2⟩ := ok
  refine ⟨h0, h1, h2, h3, fun k => ?_, fun k => ?_, fun k => ?_, fun k => ?_⟩
  · have l := (o1 (by omega)).2
    have l' := (o2 (by omega) (by omega)).2
    rw [hM _ (by omega), hM _ (by omega), hG _ (by omega), hG _ (by omega)]
    exact h4 k
  · have l := (o1 (by omega)).2
    have l' := (o2 (by omega) (by omega)).2
    obtain ⟨a, b⟩ := h5 k
    refine ⟨a.trans (sy_ex_cg (fun y => sy_and_cg (fun hy => sy_and_cg (fun _ => ?_)))), b.trans (sy_ex_cg (fun y => sy_and_cg (fun hy => sy_and_cg (fun _ => ?_))))⟩
    · have zl := sy_xor_lt hx (show y < 64 by omega)
      rw [hM _ (by omega), hM _ (by omega)]
    · have zl := sy_xor_lt hx (show y < 64 by omega)
      rw [hM _ (by omega), hG _ (by omega), hG _ (by omega)]
  · have l := (o1 (by omega)).2
    have l' := (o2 (by omega) (by omega)).2
    obtain ⟨a, b⟩ := h6 k
    refine ⟨a.trans (sy_ex_cg (fun y => sy_and_cg (fun hy => sy_and_cg (fun _ => ?_)))), b.trans (sy_ex_cg (fun y => sy_and_cg (fun hy => sy_and_cg (fun _ => ?_))))⟩
    · have zl := sy_xor_lt hx (show y < 64 by omega)
      rw [hM _ (by omega), hM _ (by omega)]
    · have zl := sy_xor_lt hx (show y < 64 by omega)
      rw [hG _ (by omega), hG _ (by omega)]
  · have l := (o1 (by omega)).2
    obtain ⟨a, b⟩ := h7 k
    rw [hM (sd_n F c * 64 + x) (by omega), hG (sd_n F c * 64 + x) (by omega)]
    refine ⟨a.trans (and_congr Iff.rfl (or_congr Iff.rfl (sy_ex_cg (fun y => sy_and_cg (fun hy => sy_and_cg (fun cu => sy_and_cg (fun y0 => ?_))))))),
      b.trans (and_congr Iff.rfl (or_congr Iff.rfl (sy_ex_cg (fun y => sy_and_cg (fun hy => sy_and_cg (fun cu => sy_and_cg (fun y0 => ?_)))))))⟩
    · have zl := (sy_xle x hx y (by omega) cu.1).2 y0
      rw [hM _ (by omega), hM _ (by omega)]
    · have zl := (sy_xle x hx y (by omega) cu.1).2 y0
      rw [hM _ (by omega), hG _ (by omega)]
theorem sy_vn {m : Int32} (h : sy_B m) : vp_nar .boolean m = m := by
  rcases h with rfl | rfl
  · exact sx_vb0
  · exact sx_vb1
section
variable {f_cellLimit f_definitionLimit f_depthLimit f_itemLimit f_made f_state f_depth f_rootDefinition : Int32}
variable {a_kind a_first a_second a_width a_use a_items a_itemKind a_itemName a_itemValue a_itemFit a_matches a_grows : Nat → Int32}
variable {post : SY → Prop} {J74 J86 : Int32 → (Nat → Int32) → (Nat → Int32) → (Nat → Int32) → (Nat → Int32) → (Nat → Int32) → (Nat → Int32) → (Nat → Int32) → (Nat → Int32) → (Nat → Int32) → (Nat → Int32) → (Nat → Int32) → (Nat → Int32) → Prop} {J571 : Int32 → Int32 → Int32 → Prop}
variable {x1 x2 x3 x4 x5 x6 x7 x8 x9 x10 x11 x12 x13 x14 x15 x16 x17 x18 x19 x20 x21 z0 : Int32}
variable {c x lev n kids texts : Nat}
theorem sy_133L (hl : lev < 5) (hn : n ≤ 6) (hx : x < 64) (hc : c < 24)
    (h : ∀ x12 z0 : Int32, (¬ z0 = 0 ↔ ∃ i, i < n ∧ x = 2 ^ i ∧ sy_fi (a_first c) (a_itemName (lev * 6 + i))) → (¬ z0 = 0 → ∃ i, i < n ∧ x = 2 ^ i ∧ x12 = nI (lev * 6 + i)) →
      wY_evaluate_200 post J74 J86 (nI lev) (nI n) x3 x4 x5 x6 (nI c) (nI x) x9 x10 x11 x12 0 0 z0 f_cellLimit f_definitionLimit f_depthLimit f_itemLimit f_made f_state f_depth f_rootDefinition a_kind a_first a_second a_width a_use a_items a_itemKind a_itemName a_itemValue a_itemFit a_matches a_grows) :
    ∀ (d i : Nat) (o : Int32), i + d = n → ((∀ j, j < i → x ≠ 2 ^ j) → o = -1) → (∀ j, j < i → x = 2 ^ j → o = nI (lev * 6 + j)) →
      ∀ f, d < f → wY_evaluate_133 post J74 J86 (nI lev) (nI n) x3 x4 x5 x6 (nI c) (nI x) x9 x10 x11 f_cellLimit f_definitionLimit f_depthLimit f_itemLimit f_made f_state f_depth f_rootDefinition a_kind a_first a_second a_width a_use a_items a_itemKind a_itemName a_itemValue a_itemFit a_matches a_grows f o (nI i) := by
  have ec : (nI c).toNatClampNeg = c := sx_cl 24 hc
  have vc : vp_in (nI c) 24 := vp_in_nI hc (by decide)
  intro d
  induction d with
  | zero =>
    intro i o hi h1 h2 f hf
    have e : i = n := by omega
    subst e
    cases f with
    | zero => omega
    | succ f =>
      refine br_t (nI_le (Nat.le_refl _) (by omega)) ?_
      by_cases q : ∃ j, j < i ∧ x = 2 ^ j
      · obtain ⟨j, hj, ej⟩ := q
        have eo := h2 j hj ej
        have eoc : o.toNatClampNeg = lev * 6 + j := by rw [eo]; exact sx_cl 30 (by omega)
        refine br_f (by rw [eo]; exact nI_pos (by omega)) (And.intro vc (And.intro (by rw [eo]; exact vp_in_nI (by omega) (by decide)) ?_))
        rw [ec, eoc]
        have only : ∀ i', i' < i ∧ x = 2 ^ i' ∧ sy_fi (a_first c) (a_itemName (lev * 6 + i')) → sy_fi (a_first c) (a_itemName (lev * 6 + j)) := by
          rintro i' ⟨g1, g2, g3⟩
          have : i' = j := sy_pinj i' (by omega) j (by omega) (by rw [← g2, ← ej])
          rw [← this]; exact g3
        refine sy_fits (fun fi => ?_) (fun fi => ?_)
        · exact br_f (by decide) (h o 1 (sy_11 ⟨j, hj, ej, fi⟩) (fun _ => ⟨j, hj, ej, eo⟩))
        · exact br_t rfl (h o 0 (sy_00 (fun ⟨i', g⟩ => fi (only i' g))) (fun z => absurd rfl z))
      · have eo := h1 (fun j hj ej => q ⟨j, hj, ej⟩)
        refine br_t (by rw [eo]; decide) ?_
        exact h o 0 (sy_00 (fun ⟨i', g1, g2, _⟩ => q ⟨i', g1, g2⟩)) (fun z => absurd rfl z)
  | succ d ih =>
    intro i o hi h1 h2 f hf
    have e1 : nI x = (1 : Int32) <<< (nI i &&& 31) ↔ x = 2 ^ i := by
      rw [sy_sh1 i (by omega)]
      have := sy_p2 i (by omega)
      exact nI_eq (by omega) (by omega)
    cases f with
    | zero => omega
    | succ f =>
      refine br_f (nI_ge (by omega) (by omega)) (br_c (fun e => ?_) (fun e => ?_))
      · have ex := e1.1 e
        refine nm_r (e' := nI (lev * 6 + i)) (by rw [show (6 : Int32) = nI 6 from rfl, pk_mul, nI_add]) (nm_r (nI_1 i) (ih (i + 1) _ (by omega) (fun q => absurd ex (q i (by omega))) (fun j hj ej => ?_) f (by omega)))
        have : j = i := sy_pinj j (by omega) i (by omega) (by rw [← ej, ← ex])
        rw [this]
      · refine nm_r (nI_1 i) (ih (i + 1) o (by omega) (fun q => h1 (fun j hj => q j (by omega))) (fun j hj ej => ?_) f (by omega))
        by_cases z : j = i
        · subst z; exact absurd (e1.2 ej) e
        · exact h2 j (by omega) ej
/-- one entry, whatever its kind -/
theorem sy_entry (ok : sy_ok a_kind a_first a_second c) (hl : lev < 5) (hn : n ≤ 6) (hx : x < 64) (hk : kids < 64)
    (hB : sd_n a_kind c = 7 → sy_B (a_matches (sd_n a_first c * 64 + x)) ∧ sy_B (a_grows (sd_n a_first c * 64 + x)))
    (hE : ∀ m g, sy_B m → sy_B g → sy_F a_kind a_first a_second a_itemKind a_itemName a_itemValue a_itemFit lev n kids texts x3 x4 a_matches a_grows c x m g →
      wY_evaluate_876 post J74 J86 (nI lev) (nI n) x3 x4 (nI kids) (nI texts) (nI c) (nI x) m g f_cellLimit f_definitionLimit f_depthLimit f_itemLimit f_made f_state f_depth f_rootDefinition a_kind a_first a_second a_width a_use a_items a_itemKind a_itemName a_itemValue a_itemFit a_matches a_grows) :
    ∃ n133 : Nat, wY_evaluate_133 post J74 J86 (nI lev) (nI n) x3 x4 (nI kids) (nI texts) (nI c) (nI x) (a_kind c) (a_first c * 64) (a_second c * 64) f_cellLimit f_definitionLimit f_depthLimit f_itemLimit f_made f_state f_depth f_rootDefinition a_kind a_first a_second a_width a_use a_items a_itemKind a_itemName a_itemValue a_itemFit a_matches a_grows n133 (-1) 0 := by
  refine ⟨n + 1, sy_133L hl hn hx ok.1 ?_ n 0 (-1) (by omega) (fun _ => rfl) (fun j hj => by omega) (n + 1) (by omega)⟩
  intro x12 z0 hz hz'
  obtain ⟨hc, hK, k7, o0, o1, o2⟩ := ok
  have ec : (nI c).toNatClampNeg = c := sx_cl 24 hc
  have vc : vp_in (nI c) 24 := vp_in_nI hc (by decide)
  have v12 : ¬ z0 = 0 → vp_in x12 30 := fun q => by
    obtain ⟨i, g1, g2, g3⟩ := hz' q
    rw [g3]; exact vp_in_nI (by omega) (by decide)
  -- an item that the leaf names
  have nam : ∀ Q : Nat → Prop, (¬ z0 = 0 ∧ Q x12.toNatClampNeg) ↔ ∃ i, i < n ∧ x = 2 ^ i ∧ sy_fi (a_first c) (a_itemName (lev * 6 + i)) ∧ Q (lev * 6 + i) := by
    intro Q
    constructor
    · rintro ⟨q, g⟩
      obtain ⟨i, g1, g2, g3⟩ := hz.1 q
      obtain ⟨i', g1', g2', g3'⟩ := hz' q
      have : i' = i := sy_pinj i' (by omega) i (by omega) (by rw [← g2, ← g2'])
      rw [g3', sx_cl 30 (show lev * 6 + i' < 30 by omega), this] at g
      exact ⟨i, g1, g2, g3, g⟩
    · rintro ⟨i, g1, g2, g3, g⟩
      have q := hz.2 ⟨i, g1, g2, g3⟩
      obtain ⟨i', g1', g2', g3'⟩ := hz' q
      have : i' = i := sy_pinj i' (by omega) i (by omega) (by rw [← g2, ← g2'])
      refine ⟨q, ?_⟩
      rw [g3', sx_cl 30 (show lev * 6 + i' < 30 by omega), this]; exact g
  have m64 : ∀ a : Nat, nI a * 64 = nI (a * 64) := fun a => by rw [show (64 : Int32) = nI 64 from rfl, pk_mul]
  rcases (show sd_n a_kind c = 0 ∨ sd_n a_kind c = 1 ∨ sd_n a_kind c = 2 ∨ sd_n a_kind c = 3 ∨ sd_n a_kind c = 4 ∨ sd_n a_kind c = 5 ∨ sd_n a_kind c = 6 ∨ sd_n a_kind c = 7 by omega) with k | k | k | k | k | k | k | k
  · rw [hK, k]
    exact sy_200_0 hx (fun m g bm bg hm hg => hE m g bm bg ⟨fun _ => ⟨hm, hg⟩, fun q => by omega, fun q => by omega, fun q => by omega, fun q => by omega, fun q => by omega, fun q => by omega, fun q => by omega⟩)
  · rw [hK, k]
    exact sy_200_1 hx (fun m g bm bg hm hg => hE m g bm bg ⟨fun q => by omega, fun _ => ⟨hm, hg⟩, fun q => by omega, fun q => by omega, fun q => by omega, fun q => by omega, fun q => by omega, fun q => by omega⟩)
  · rw [hK, k]
    refine sy_200_2 (A := ∃ i, i < n ∧ x = 2 ^ i ∧ sy_fi (a_first c) (a_itemName (lev * 6 + i)) ∧ a_itemKind (lev * 6 + i) = 1 ∧ sy_fi (a_second c) (a_itemValue (lev * 6 + i))) hx hk vc v12 ?_ ?_
    · rw [ec]; exact (nam (fun w => a_itemKind w = 1 ∧ sy_fi (a_second c) (a_itemValue w))).symm
    · exact fun m g bm bg hm hg => hE m g bm bg ⟨fun q => by omega, fun q => by omega, fun _ => ⟨hm, hg⟩, fun q => by omega, fun q => by omega, fun q => by omega, fun q => by omega, fun q => by omega⟩
  · rw [hK, k]
    obtain ⟨hs, ls⟩ := o0 k
    refine sy_200_3 (j := sd_n a_second c) hx vc v12 (by rw [ec]; exact hs) (by omega) (nam (fun w => a_itemKind w = 3 ∧ bt (a_itemFit w) (sd_n a_second c) = true)).symm (nam (fun w => a_itemKind w = 0 ∧ bt x4 (sd_n a_second c) = true)).symm ?_
    exact fun m g bm bg hm hg => hE m g bm bg ⟨fun q => by omega, fun q => by omega, fun q => by omega, fun _ => ⟨hm, hg⟩, fun q => by omega, fun q => by omega, fun q => by omega, fun q => by omega⟩
  · obtain ⟨hf, lf⟩ := o1 (by omega)
    obtain ⟨hs, ls⟩ := o2 (by omega) (by omega)
    rw [hK, k, hf, hs, m64, m64]
    obtain ⟨va, ea⟩ := sy_add (P := sd_n a_first c * 64) (y := x) (by omega)
    obtain ⟨vb, eb⟩ := sy_add (P := sd_n a_second c * 64) (y := x) (by omega)
    refine sy_200_4 va vb (fun m g bm bg hm hg => hE m g bm bg ⟨fun q => by omega, fun q => by omega, fun q => by omega, fun q => by omega, fun _ => ?_, fun q => by omega, fun q => by omega, fun q => by omega⟩)
    rw [ea, eb] at hm hg
    exact ⟨hm, hg⟩
  · obtain ⟨hf, lf⟩ := o1 (by omega)
    obtain ⟨hs, ls⟩ := o2 (by omega) (by omega)
    rw [hK, k, hf, hs, m64, m64]
    exact sy_200_5 hx hk (by omega) (by omega) (fun m g bm bg hm hg => hE m g bm bg ⟨fun q => by omega, fun q => by omega, fun q => by omega, fun q => by omega, fun q => by omega, fun _ => ⟨hm, hg⟩, fun q => by omega, fun q => by omega⟩)
  · obtain ⟨hf, lf⟩ := o1 (by omega)
    obtain ⟨hs, ls⟩ := o2 (by omega) (by omega)
    rw [hK, k, hf, hs, m64, m64]
    exact sy_200_6 hx (by omega) (by omega) (fun m g bm bg hm hg => hE m g bm bg ⟨fun q => by omega, fun q => by omega, fun q => by omega, fun q => by omega, fun q => by omega, fun q => by omega, fun _ => ⟨hm, hg⟩, fun q => by omega⟩)
  · obtain ⟨hf, lf⟩ := o1 (by omega)
    obtain ⟨b1, b2⟩ := hB k
    rw [hK, k, hf, m64]
    exact sy_200_7 hx hk (by omega) hc b1 b2 (fun m g bm bg hm hg => hE m g bm bg ⟨fun q => by omega, fun q => by omega, fun q => by omega, fun q => by omega, fun q => by omega, fun q => by omega, fun q => by omega, fun _ => ⟨hm, hg⟩⟩)
end
end
section
/-! Y: evaluate's loops, definitionsFor, inhabitedSet, hopeful -/
/-- the table below B is filled -/
def sy_TB (K F S iK iN iV iF : Nat → Int32) (made lev n kids texts : Nat) (inh op : Int32) (M G : Nat → Int32) (B : Nat) : Prop :=
  ∀ c x, c < made → x < 2 ^ n → c * 64 + x < B → sy_E K F S iK iN iV iF lev n kids texts inh op M G c x
theorem sy_TB_up {K F S iK iN iV iF : Nat → Int32} {made lev n kids texts : Nat} {inh op : Int32} {M G : Nat → Int32} {c x : Nat} {m g : Int32}
    (ok : ∀ c, c < made → sy_ok K F S c) (hn : n ≤ 6) (hc : c < made) (hx : x < 2 ^ n) (bm : sy_B m) (bg : sy_B g)
    (hF : sy_F K F S iK iN iV iF lev n kids texts inh op M G c x m g)
    (h : sy_TB K F S iK iN iV iF made lev n kids texts inh op M G (c * 64 + x)) :
    sy_TB K F S iK iN iV iF made lev n kids texts inh op (upd M (c * 64 + x) m) (upd G (c * 64 + x) g) (c * 64 + x + 1) := by
  have p2 := sy_p2 n (by omega)
  intro c' x' hc' hx' hb
  by_cases e : c' * 64 + x' = c * 64 + x
  · have ec : c' = c := by omega
    have ex : x' = x := by omega
    subst ec; subst ex
    unfold sy_E
    rw [pk_us, pk_us]
    exact ⟨bm, bg, sy_F_cg (ok c' hc') (by omega) (fun i hi => pk_un (by omega)) (fun i hi => pk_un (by omega)) hF⟩
  · obtain ⟨b1, b2, b3⟩ := h c' x' hc' hx' (by omega)
    unfold sy_E
    rw [pk_un e, pk_un e]
    exact ⟨b1, b2, sy_F_cg (ok c' hc') (by omega) (fun i hi => pk_un (by omega)) (fun i hi => pk_un (by omega)) b3⟩
section
variable {f_cellLimit f_definitionLimit f_depthLimit f_itemLimit f_made f_state f_depth f_rootDefinition : Int32}
variable {a_kind a_first a_second a_width a_use a_items a_itemKind a_itemName a_itemValue a_itemFit a_matches a_grows : Nat → Int32}
variable {post : SY → Prop} {inh op : Int32} {c x lev n kids texts made : Nat}
theorem sy_86L (ok : ∀ c, c < made → sy_ok a_kind a_first a_second c) (hl : lev < 5) (hn : n ≤ 6) (hk : kids < 64) (hc : c < made) {J74 : Int32 → (Nat → Int32) → (Nat → Int32) → (Nat → Int32) → (Nat → Int32) → (Nat → Int32) → (Nat → Int32) → (Nat → Int32) → (Nat → Int32) → (Nat → Int32) → (Nat → Int32) → (Nat → Int32) → (Nat → Int32) → Prop}
    (hJ : ∀ M G : Nat → Int32, sy_TB a_kind a_first a_second a_itemKind a_itemName a_itemValue a_itemFit made lev n kids texts inh op M G ((c + 1) * 64) → J74 (nI (c + 1)) a_kind a_first a_second a_width a_use a_items a_itemKind a_itemName a_itemValue a_itemFit M G) :
    ∀ (d x : Nat) (M G : Nat → Int32), x + d = 2 ^ n → sy_TB a_kind a_first a_second a_itemKind a_itemName a_itemValue a_itemFit made lev n kids texts inh op M G (c * 64 + x) →
      ∀ f, d < f → wY_evaluate_86 post J74 (nI lev) (nI n) inh op (nI kids) (nI texts) (nI c) f_cellLimit f_definitionLimit f_depthLimit f_itemLimit f_made f_state f_depth f_rootDefinition f (nI x) a_kind a_first a_second a_width a_use a_items a_itemKind a_itemName a_itemValue a_itemFit M G := by
  have p2 := sy_p2 n (by omega)
  obtain ⟨c24, hK, k7, o0, o1, o2⟩ := ok c hc
  have ec : (nI c).toNatClampNeg = c := sx_cl 24 c24
  have vc : vp_in (nI c) 24 := vp_in_nI c24 (by decide)
  intro d
  induction d with
  | zero =>
    intro x M G hx h f hf
    cases f with
    | zero => omega
    | succ f =>
      refine br_t (by rw [sy_sh1 n (by omega)]; exact nI_le (by omega) (by omega)) (nm_r (nI_1 c) (hJ M G (fun c' x' h1 h2 h3 => h c' x' h1 h2 (by omega))))
  | succ d ih =>
    intro x M G hx h f hf
    cases f with
    | zero => omega
    | succ f =>
      refine br_f (by rw [sy_sh1 n (by omega)]; exact nI_ge (by omega) (by omega)) (And.intro vc (nm_r (e' := a_kind c) (by rw [ec]) (And.intro vc (nm_r (e' := a_first c * 64) (by rw [ec]) (And.intro vc (nm_r (e' := a_second c * 64) (by rw [ec]) ?_))))))
      refine sy_entry (ok c hc) hl hn (by omega) hk (fun k => ?_) (fun m g bm bg hF => ?_)
      · have lf := (o1 (by omega)).2
        obtain ⟨b1, b2, _⟩ := h (sd_n a_first c) x (by omega) (by omega) (by omega)
        exact ⟨b1, b2⟩
      · obtain ⟨va, ea⟩ := sy_add (P := c * 64) (y := x) (by omega)
        have e64 : nI c * 64 = nI (c * 64) := by rw [show (64 : Int32) = nI 64 from rfl, pk_mul]
        unfold wY_evaluate_876
        rw [e64, sy_vn bm, sy_vn bg, ea]
        refine And.intro va (nm_e (And.intro va (nm_e (nm_r (nI_1 x) (ih (x + 1) _ _ (by omega) ?_ f (by omega))))))
        exact sy_TB_up ok hn hc (by omega) bm bg hF h
theorem sy_74L (ok : ∀ c, c < made → sy_ok a_kind a_first a_second c) (hl : lev < 5) (hn : n ≤ 6) (hk : kids < 64) (hm : f_made = nI made) (h24 : made ≤ 24)
    (hP : ∀ M G : Nat → Int32, sy_TB a_kind a_first a_second a_itemKind a_itemName a_itemValue a_itemFit made lev n kids texts inh op M G (made * 64) → post (f_cellLimit, f_definitionLimit, f_depthLimit, f_itemLimit, f_made, f_state, f_depth, f_rootDefinition, a_kind, a_first, a_second, a_width, a_use, a_items, a_itemKind, a_itemName, a_itemValue, a_itemFit, M, G)) :
    ∀ (d c : Nat) (M G : Nat → Int32), c + d = made → sy_TB a_kind a_first a_second a_itemKind a_itemName a_itemValue a_itemFit made lev n kids texts inh op M G (c * 64) →
      ∀ f, d < f → wY_evaluate_74 post (nI lev) (nI n) inh op (nI kids) (nI texts) f_cellLimit f_definitionLimit f_depthLimit f_itemLimit f_made f_state f_depth f_rootDefinition f (nI c) a_kind a_first a_second a_width a_use a_items a_itemKind a_itemName a_itemValue a_itemFit M G := by
  intro d
  induction d with
  | zero =>
    intro c M G hc h f hf
    have e : c = made := by omega
    subst e
    cases f with
    | zero => omega
    | succ f => exact br_t (by rw [hm]; exact nI_le (Nat.le_refl _) (by omega)) (hP M G h)
  | succ d ih =>
    intro c M G hc h f hf
    cases f with
    | zero => omega
    | succ f =>
      refine br_f (by rw [hm]; exact nI_ge (by omega) (by omega)) ⟨2 ^ n + 1, ?_⟩
      exact sy_86L ok hl hn hk (by omega) (fun M' G' h' => ih (c + 1) M' G' (by omega) h' f (by omega)) (2 ^ n) 0 M G (by omega) h (2 ^ n + 1) (by omega)
/-- the masks of children and texts -/
def sy_mK (iK : Nat → Int32) (lev n kids texts : Nat) : Prop :=
  kids < 64 ∧ texts < 64 ∧ (∀ i, kids.testBit i = true ↔ i < n ∧ ¬ iK (lev * 6 + i) = 1) ∧ (∀ i, texts.testBit i = true ↔ i < n ∧ iK (lev * 6 + i) = 2)
theorem sy_tb_or {a i j : Nat} : (a ||| 2 ^ i).testBit j = true ↔ a.testBit j = true ∨ j = i := by
  rw [Nat.testBit_or, Nat.testBit_two_pow, Bool.or_eq_true, decide_eq_true_eq]
  exact ⟨fun q => q.imp id Eq.symm, fun q => q.imp id Eq.symm⟩
theorem sy_or64 {a i : Nat} (ha : a < 64) (hi : i < 6) : a ||| 2 ^ i < 64 := Nat.or_lt_two_pow (show a < 2 ^ 6 from ha) (sd_p64 i hi)
theorem sy_9L (ok : ∀ c, c < made → sy_ok a_kind a_first a_second c) (hl : lev < 5) (hn : n ≤ 6) (hm : f_made = nI made) (h24 : made ≤ 24)
    (hP : ∀ (kids texts : Nat) (M G : Nat → Int32), sy_mK a_itemKind lev n kids texts →
      sy_TB a_kind a_first a_second a_itemKind a_itemName a_itemValue a_itemFit made lev n kids texts inh op M G (made * 64) → post (f_cellLimit, f_definitionLimit, f_depthLimit, f_itemLimit, f_made, f_state, f_depth, f_rootDefinition, a_kind, a_first, a_second, a_width, a_use, a_items, a_itemKind, a_itemName, a_itemValue, a_itemFit, M, G)) :
    ∀ (d i kids texts : Nat), i + d = n → sy_mK a_itemKind lev i kids texts →
      ∀ f, d < f → wY_evaluate_9 post (nI lev) (nI n) inh op f_cellLimit f_definitionLimit f_depthLimit f_itemLimit f_made f_state f_depth f_rootDefinition a_kind a_first a_second a_width a_use a_items a_itemKind a_itemName a_itemValue a_itemFit a_matches a_grows f (nI kids) (nI texts) (nI i) := by
  intro d
  induction d with
  | zero =>
    intro i kids texts hi h f hf
    have e : i = n := by omega
    subst e
    cases f with
    | zero => omega
    | succ f =>
      refine br_t (nI_le (Nat.le_refl _) (by omega)) ⟨made + 1, ?_⟩
      exact sy_74L ok hl hn h.1 hm h24 (fun M G hT => hP kids texts M G h hT) made 0 a_matches a_grows (by omega) (fun c x h1 h2 h3 => by omega) (made + 1) (by omega)
  | succ d ih =>
    intro i kids texts hi h f hf
    have ei : nI lev * 6 + nI i = nI (lev * 6 + i) := by rw [show (6 : Int32) = nI 6 from rfl, pk_mul, nI_add]
    have vi : vp_in (nI (lev * 6 + i)) 30 := vp_in_nI (by omega) (by decide)
    have ci : (nI (lev * 6 + i)).toNatClampNeg = lev * 6 + i := sx_cl 30 (by omega)
    have es : ∀ a : Nat, nI a ||| ((1 : Int32) <<< (nI i &&& 31)) = nI (a ||| 2 ^ i) := fun a => by rw [sy_sh1 i (by omega), sy_or]
    obtain ⟨k64, t64, hk, ht⟩ := h
    cases f with
    | zero => omega
    | succ f =>
      have f40 : ∀ kids', kids' < 64 → (∀ j, kids'.testBit j = true ↔ j < i + 1 ∧ ¬ a_itemKind (lev * 6 + j) = 1) →
          wY_evaluate_40 post (wY_evaluate_9 post (nI lev) (nI n) inh op f_cellLimit f_definitionLimit f_depthLimit f_itemLimit f_made f_state f_depth f_rootDefinition a_kind a_first a_second a_width a_use a_items a_itemKind a_itemName a_itemValue a_itemFit a_matches a_grows f) (nI lev) (nI n) inh op (nI kids') (nI texts) (nI i) f_cellLimit f_definitionLimit f_depthLimit f_itemLimit f_made f_state f_depth f_rootDefinition a_kind a_first a_second a_width a_use a_items a_itemKind a_itemName a_itemValue a_itemFit a_matches a_grows := by
        intro kids' k64' hk'
        unfold wY_evaluate_40
        rw [ei, ci, es]
        refine And.intro vi (br_c (fun e => nm_e (nm_r (nI_1 i) (ih (i + 1) kids' _ (by omega) ⟨k64', sy_or64 t64 (by omega), hk', fun j => ?_⟩ f (by omega)))) (fun e => nm_r (nI_1 i) (ih (i + 1) kids' texts (by omega) ⟨k64', t64, hk', fun j => ?_⟩ f (by omega))))
        · rw [sy_tb_or, ht j]
          constructor
          · rintro (h | h)
            · exact ⟨by omega, h.2⟩
            · subst h; exact ⟨by omega, e⟩
          · rintro ⟨h1, h2⟩
            by_cases q : j = i
            · exact Or.inr q
            · exact Or.inl ⟨by omega, h2⟩
        · rw [ht j]
          constructor
          · exact fun h => ⟨by omega, h.2⟩
          · rintro ⟨h1, h2⟩
            refine ⟨?_, h2⟩
            by_cases q : j = i
            · subst q; exact absurd h2 e
            · omega
      refine br_f (nI_ge (by omega) (by omega)) ?_
      rw [ei, ci, es]
      refine And.intro vi (br_c (fun e => f40 kids k64 (fun j => ?_)) (fun e => nm_e (f40 _ (sy_or64 k64 (by omega)) (fun j => ?_))))
      · rw [hk j]
        constructor
        · exact fun h => ⟨by omega, h.2⟩
        · rintro ⟨h1, h2⟩
          refine ⟨?_, h2⟩
          by_cases q : j = i
          · subst q; exact absurd e h2
          · omega
      · rw [sy_tb_or, hk j]
        constructor
        · rintro (h | h)
          · exact ⟨by omega, h.2⟩
          · subst h; exact ⟨by omega, e⟩
        · rintro ⟨h1, h2⟩
          by_cases q : j = i
          · exact Or.inr q
          · exact Or.inl ⟨by omega, h2⟩
theorem sy_evaluate (ok : ∀ c, c < made → sy_ok a_kind a_first a_second c) (hl : lev < 5) (hn : n ≤ 6) (hm : f_made = nI made) (h24 : made ≤ 24)
    (hP : ∀ (kids texts : Nat) (M G : Nat → Int32), sy_mK a_itemKind lev n kids texts →
      sy_TB a_kind a_first a_second a_itemKind a_itemName a_itemValue a_itemFit made lev n kids texts inh op M G (made * 64) → post (f_cellLimit, f_definitionLimit, f_depthLimit, f_itemLimit, f_made, f_state, f_depth, f_rootDefinition, a_kind, a_first, a_second, a_width, a_use, a_items, a_itemKind, a_itemName, a_itemValue, a_itemFit, M, G)) :
    wpY_evaluate post (f_cellLimit, f_definitionLimit, f_depthLimit, f_itemLimit, f_made, f_state, f_depth, f_rootDefinition, a_kind, a_first, a_second, a_width, a_use, a_items, a_itemKind, a_itemName, a_itemValue, a_itemFit, a_matches, a_grows) (nI lev) (nI n) inh op := by
  unfold wpY_evaluate
  refine ⟨n + 1, sy_9L ok hl hn hm h24 hP n 0 0 0 (by omega) ⟨by decide, by decide, fun i => ?_, fun i => ?_⟩ (n + 1) (by omega)⟩
  · rw [Nat.zero_testBit]; exact ⟨fun q => (by cases q), fun q => (by omega)⟩
  · rw [Nat.zero_testBit]; exact ⟨fun q => (by cases q), fun q => (by omega)⟩
end
section
variable {f_cellLimit f_definitionLimit f_depthLimit f_itemLimit f_made f_state f_depth f_rootDefinition : Int32}
variable {a_kind a_first a_second a_width a_use a_items a_itemKind a_itemName a_itemValue a_itemFit a_matches a_grows : Nat → Int32}
variable {n made : Nat}
/-- the definitions whose content the table holds for -/
theorem sy_defsL (hU : ∀ c, c < made → ∃ u, u < 10 ∧ a_use c = nI u) (hn : n ≤ 6) (hm : f_made = nI made) (h24 : made ≤ 24) {gf : Int32} {post : Int32 → Prop} :
    ∀ (d c : Nat) (acc : Int32), c + d = made →
      (∀ m : Int32, (∀ j, bt m j = true ↔ bt acc j = true ∨ ∃ e, c ≤ e ∧ e < made ∧ a_use e = nI (2 + j) ∧ j < 8 ∧ (gf = 0 → ¬ a_matches (e * 64 + (2 ^ n - 1)) = 0) ∧ (¬ gf = 0 → ¬ a_grows (e * 64 + (2 ^ n - 1)) = 0)) → post m) →
      ∀ f, d < f → wY_definitionsFor_12 post gf (nI (2 ^ n - 1)) f_cellLimit f_definitionLimit f_depthLimit f_itemLimit f_made f_state f_depth f_rootDefinition a_kind a_first a_second a_width a_use a_items a_itemKind a_itemName a_itemValue a_itemFit a_matches a_grows f acc (nI c) := by
  have p2 := sy_p2 n (by omega)
  intro d
  induction d with
  | zero =>
    intro c acc hc h f hf
    cases f with
    | zero => omega
    | succ f =>
      exact br_t (by rw [hm]; exact nI_le (by omega) (by omega)) (h acc (fun j => ⟨fun q => Or.inl q, fun q => q.elim id (fun ⟨e, e1, e2, _⟩ => by omega)⟩))
  | succ d ih =>
    intro c acc hc h f hf
    have ec : (nI c).toNatClampNeg = c := sx_cl 24 (show c < 24 by omega)
    have vc : vp_in (nI c) 24 := vp_in_nI (by omega) (by decide)
    have e64 : nI c * 64 = nI (c * 64) := by rw [show (64 : Int32) = nI 64 from rfl, pk_mul]
    obtain ⟨va, ea⟩ := sy_add (P := c * 64) (y := 2 ^ n - 1) (by omega)
    obtain ⟨u, u10, hu⟩ := hU c (by omega)
    cases f with
    | zero => omega
    | succ f =>
      have no : ¬ (2 ≤ u ∧ (gf = 0 → ¬ a_matches (c * 64 + (2 ^ n - 1)) = 0) ∧ (¬ gf = 0 → ¬ a_grows (c * 64 + (2 ^ n - 1)) = 0)) →
          wY_definitionsFor_12 post gf (nI (2 ^ n - 1)) f_cellLimit f_definitionLimit f_depthLimit f_itemLimit f_made f_state f_depth f_rootDefinition a_kind a_first a_second a_width a_use a_items a_itemKind a_itemName a_itemValue a_itemFit a_matches a_grows f acc (nI (c + 1)) := by
        intro q
        refine ih (c + 1) acc (by omega) (fun m hm' => h m (fun j => ?_)) f (by omega)
        rw [hm' j]
        constructor
        · rintro (z | ⟨e, z1, z2⟩)
          · exact Or.inl z
          · exact Or.inr ⟨e, by omega, z2⟩
        · rintro (z | ⟨e, z1, z2, z3, z4, z5⟩)
          · exact Or.inl z
          · by_cases w : e = c
            · subst w
              rw [hu] at z3
              have := sx_nIne (by omega) (by omega) z3
              exact absurd ⟨by omega, z5⟩ q
            · exact Or.inr ⟨e, by omega, z2, z3, z4, z5⟩
      have yes : 2 ≤ u → (gf = 0 → ¬ a_matches (c * 64 + (2 ^ n - 1)) = 0) ∧ (¬ gf = 0 → ¬ a_grows (c * 64 + (2 ^ n - 1)) = 0) →
          wY_definitionsFor_71 post (wY_definitionsFor_12 post gf (nI (2 ^ n - 1)) f_cellLimit f_definitionLimit f_depthLimit f_itemLimit f_made f_state f_depth f_rootDefinition a_kind a_first a_second a_width a_use a_items a_itemKind a_itemName a_itemValue a_itemFit a_matches a_grows f) gf acc (nI (2 ^ n - 1)) (nI c) f_cellLimit f_definitionLimit f_depthLimit f_itemLimit f_made f_state f_depth f_rootDefinition a_kind a_first a_second a_width a_use a_items a_itemKind a_itemName a_itemValue a_itemFit a_matches a_grows := by
        intro u2 q
        unfold wY_definitionsFor_71
        rw [ec, hu]
        have es : nI u - 2 = nI (u - 2) := by rw [show (2 : Int32) = nI 2 from rfl, pk_sub u2]
        rw [es]
        refine And.intro vc (nm_e (nm_r (nI_1 c) (ih (c + 1) _ (by omega) (fun m hm' => h m (fun j => ?_)) f (by omega))))
        rw [hm' j, sx_bor (by omega)]
        constructor
        · rintro ((z | z) | ⟨e, z1, z2⟩)
          · exact Or.inl z
          · subst z
            refine Or.inr ⟨c, by omega, by omega, ?_, by omega, q⟩
            rw [hu]; congr 1; omega
          · exact Or.inr ⟨e, by omega, z2⟩
        · rintro (z | ⟨e, z1, z2, z3, z4, z5⟩)
          · exact Or.inl (Or.inl z)
          · by_cases w : e = c
            · subst w
              rw [hu] at z3
              have := sx_nIne (by omega) (by omega) z3
              exact Or.inl (Or.inr (by omega))
            · exact Or.inr ⟨e, by omega, z2, z3, z4, z5⟩
      have u2 : nI u < 2 ↔ u < 2 := nI_ltI (b := 2) (by omega) (by decide)
      refine br_f (by rw [hm]; exact nI_ge (by omega) (by omega)) (And.intro vc ?_)
      rw [ec, hu, e64, ea]
      refine br_c (fun e => nm_r (nI_1 c) (no (fun z => by have := u2.1 e; omega))) (fun e => ?_)
      have u2' : 2 ≤ u := by have := mt u2.2 e; omega
      refine br_c (fun g => And.intro va (br_c (fun t => nm_r (nI_1 c) (no (fun z => z.2.1 g t))) (fun t => yes u2' ⟨fun _ => t, fun z => absurd g z⟩))) (fun g => And.intro va (br_c (fun t => nm_r (nI_1 c) (no (fun z => z.2.2 g t))) (fun t => yes u2' ⟨fun z => absurd z g, fun _ => t⟩)))
theorem sy_defs (hU : ∀ c, c < made → ∃ u, u < 10 ∧ a_use c = nI u) (hn : n ≤ 6) (hm : f_made = nI made) (h24 : made ≤ 24) {gf : Int32} {post : Int32 → Prop}
    (h : ∀ m : Int32, (∀ j, bt m j = true ↔ ∃ e, e < made ∧ a_use e = nI (2 + j) ∧ j < 8 ∧ (gf = 0 → ¬ a_matches (e * 64 + (2 ^ n - 1)) = 0) ∧ (¬ gf = 0 → ¬ a_grows (e * 64 + (2 ^ n - 1)) = 0)) → post m) :
    wpY_definitionsFor post (f_cellLimit, f_definitionLimit, f_depthLimit, f_itemLimit, f_made, f_state, f_depth, f_rootDefinition, a_kind, a_first, a_second, a_width, a_use, a_items, a_itemKind, a_itemName, a_itemValue, a_itemFit, a_matches, a_grows) (nI n) gf := by
  have p2 := sy_p2 n (by omega)
  have p1 : 1 ≤ 2 ^ n := Nat.one_le_two_pow
  unfold wpY_definitionsFor
  refine nm_r (e' := nI (2 ^ n - 1)) (by rw [sy_sh1 n (by omega), show (1 : Int32) = nI 1 from rfl, pk_sub p1]) ⟨made + 1, ?_⟩
  refine sy_defsL hU hn hm h24 made 0 0 (by omega) (fun m hm' => h m (fun j => ?_)) (made + 1) (by omega)
  rw [hm' j, b_0]
  exact ⟨fun q => q.elim (fun z => by cases z) (fun ⟨e, _, z⟩ => ⟨e, z⟩), fun ⟨e, z⟩ => Or.inr ⟨e, by omega, z⟩⟩
end
end
section
/-! Y: inhabitedSet, hopeful -/
/-- res: the definitions that the items of a level can grow to; inh: inhabited, op: those of the open child -/
def sy_gres (K F S U iK iN iV iF : Nat → Int32) (made lev n : Nat) (inh op res : Int32) : Prop :=
  ∃ (kids texts : Nat) (M G : Nat → Int32), sy_mK iK lev n kids texts ∧ sy_TB K F S iK iN iV iF made lev n kids texts inh op M G (made * 64) ∧
    ∀ j, bt res j = true ↔ ∃ e, e < made ∧ U e = nI (2 + j) ∧ j < 8 ∧ ¬ G (e * 64 + (2 ^ n - 1)) = 0
/-- .. that they match -/
def sy_mres (K F S U iK iN iV iF : Nat → Int32) (made lev n : Nat) (inh op res : Int32) : Prop :=
  ∃ (kids texts : Nat) (M G : Nat → Int32), sy_mK iK lev n kids texts ∧ sy_TB K F S iK iN iV iF made lev n kids texts inh op M G (made * 64) ∧
    ∀ j, bt res j = true ↔ ∃ e, e < made ∧ U e = nI (2 + j) ∧ j < 8 ∧ ¬ M (e * 64 + (2 ^ n - 1)) = 0
section
variable {f_cellLimit f_definitionLimit f_depthLimit f_itemLimit f_made f_state f_depth f_rootDefinition : Int32}
variable {a_kind a_first a_second a_width a_use a_items a_itemKind a_itemName a_itemValue a_itemFit a_matches a_grows : Nat → Int32}
variable {made : Nat}
theorem sy_inhL (ok : ∀ c, c < made → sy_ok a_kind a_first a_second c) (hU : ∀ c, c < made → ∃ u, u < 10 ∧ a_use c = nI u) (hm : f_made = nI made) (h24 : made ≤ 24) {post : Int32 → SY → Prop}
    (h : ∀ (S : Nat → Int32) (M G : Nat → Int32), S 0 = 0 → (∀ i, i < 8 → sy_gres a_kind a_first a_second a_use a_itemKind a_itemName a_itemValue a_itemFit made 0 0 (S i) 0 (S (i + 1))) →
      post (S 8) (f_cellLimit, f_definitionLimit, f_depthLimit, f_itemLimit, f_made, f_state, f_depth, f_rootDefinition, a_kind, a_first, a_second, a_width, a_use, a_items, a_itemKind, a_itemName, a_itemValue, a_itemFit, M, G)) :
    ∀ (d i : Nat) (S : Nat → Int32) (M G : Nat → Int32), i + d = 8 → S 0 = 0 →
      (∀ t, t < i → sy_gres a_kind a_first a_second a_use a_itemKind a_itemName a_itemValue a_itemFit made 0 0 (S t) 0 (S (t + 1))) →
      ∀ f, d < f → wY_inhabitedSet_4 post f (S i) (nI i) f_cellLimit f_definitionLimit f_depthLimit f_itemLimit f_made f_state f_depth f_rootDefinition a_kind a_first a_second a_width a_use a_items a_itemKind a_itemName a_itemValue a_itemFit M G := by
  intro d
  induction d with
  | zero =>
    intro i S M G hi h0 hS f hf
    have e : i = 8 := by omega
    subst e
    cases f with
    | zero => omega
    | succ f => exact br_t (nI_le (Nat.le_refl 8) (by decide)) (h S M G h0 hS)
  | succ d ih =>
    intro i S M G hi h0 hS f hf
    cases f with
    | zero => omega
    | succ f =>
      refine br_f (nI_ge (b := 8) (by omega) (by decide)) ?_
      refine sy_evaluate (lev := 0) (n := 0) ok (by omega) (by omega) hm h24 (fun kids texts M' G' hk hT => ?_)
      refine sy_defs (n := 0) hU (by omega) hm h24 (fun m hm' => nm_r (nI_1 i) ?_)
      have e1 : (if i + 1 = i + 1 then m else S (i + 1)) = m := if_pos rfl
      have q := ih (i + 1) (fun j => if j = i + 1 then m else S j) M' G' (by omega) h0 (fun t ht => ?_) f (by omega)
      · rw [e1] at q; exact q
      · show sy_gres a_kind a_first a_second a_use a_itemKind a_itemName a_itemValue a_itemFit made 0 0 (if t = i + 1 then m else S t) 0 (if t + 1 = i + 1 then m else S (t + 1))
        rw [if_neg (by omega)]
        by_cases e : t = i
        · subst e
          rw [if_pos rfl]
          refine ⟨kids, texts, M', G', hk, hT, fun j => ?_⟩
          rw [hm' j]
          exact sy_ex_cg (fun e => and_congr Iff.rfl (and_congr Iff.rfl (and_congr Iff.rfl ⟨fun z => z.2 sy_10, fun z => ⟨fun y => absurd y sy_10, fun _ => z⟩⟩)))
        · rw [if_neg (by omega)]
          exact hS t (by omega)
theorem sy_inh (ok : ∀ c, c < made → sy_ok a_kind a_first a_second c) (hU : ∀ c, c < made → ∃ u, u < 10 ∧ a_use c = nI u) (hm : f_made = nI made) (h24 : made ≤ 24) {post : Int32 → SY → Prop}
    (h : ∀ (S : Nat → Int32) (M G : Nat → Int32), S 0 = 0 → (∀ i, i < 8 → sy_gres a_kind a_first a_second a_use a_itemKind a_itemName a_itemValue a_itemFit made 0 0 (S i) 0 (S (i + 1))) →
      post (S 8) (f_cellLimit, f_definitionLimit, f_depthLimit, f_itemLimit, f_made, f_state, f_depth, f_rootDefinition, a_kind, a_first, a_second, a_width, a_use, a_items, a_itemKind, a_itemName, a_itemValue, a_itemFit, M, G)) : wpY_inhabitedSet post (f_cellLimit, f_definitionLimit, f_depthLimit, f_itemLimit, f_made, f_state, f_depth, f_rootDefinition, a_kind, a_first, a_second, a_width, a_use, a_items, a_itemKind, a_itemName, a_itemValue, a_itemFit, a_matches, a_grows) := by
  unfold wpY_inhabitedSet
  exact ⟨9, sy_inhL ok hU hm h24 h 8 0 (fun _ => 0) a_matches a_grows (by omega) rfl (fun t ht => by omega) 9 (by omega)⟩
theorem sy_hopeL (ok : ∀ c, c < made → sy_ok a_kind a_first a_second c) (hU : ∀ c, c < made → ∃ u, u < 10 ∧ a_use c = nI u) (hm : f_made = nI made) (h24 : made ≤ 24)
    {D root : Nat} (hD : f_depth = nI D) (D1 : 1 ≤ D) (D5 : D ≤ 5) (hr : f_rootDefinition = nI root) (r8 : root < 8) {it : Nat → Nat} (hit : ∀ l, l < D → a_items l = nI (it l) ∧ it l ≤ 6)
    {only inh : Int32} {I : Nat → Int32 → Prop} {post : Int32 → SY → Prop}
    (hs : ∀ l op res, l < D → I (l + 1) op → sy_gres a_kind a_first a_second a_use a_itemKind a_itemName a_itemValue a_itemFit made l (it l) inh op res →
      (l + 1 = D → I l (res &&& only)) ∧ (l + 1 ≠ D → I l res))
    (hP : ∀ op (M G : Nat → Int32), I 0 op → (bt op root = true → post 1 (f_cellLimit, f_definitionLimit, f_depthLimit, f_itemLimit, f_made, f_state, f_depth, f_rootDefinition, a_kind, a_first, a_second, a_width, a_use, a_items, a_itemKind, a_itemName, a_itemValue, a_itemFit, M, G)) ∧ (¬ bt op root = true → post 0 (f_cellLimit, f_definitionLimit, f_depthLimit, f_itemLimit, f_made, f_state, f_depth, f_rootDefinition, a_kind, a_first, a_second, a_width, a_use, a_items, a_itemKind, a_itemName, a_itemValue, a_itemFit, M, G))) :
    ∀ (d : Nat) (op : Int32) (M G : Nat → Int32), d ≤ D → I d op → ∀ f, d < f → wY_hopeful_15 post only inh f op (sx_dn d) f_cellLimit f_definitionLimit f_depthLimit f_itemLimit f_made f_state f_depth f_rootDefinition a_kind a_first a_second a_width a_use a_items a_itemKind a_itemName a_itemValue a_itemFit M G := by
  intro d
  induction d with
  | zero =>
    intro op M G hd hI f hf
    cases f with
    | zero => omega
    | succ f =>
      refine br_t (by decide) ?_
      exact br_c (fun e => (hP op M G hI).1 ((sx_bit1 (by omega)).1 (by rw [hr] at e; exact e))) (fun e => (hP op M G hI).2 (fun q => e (by rw [hr]; exact (sx_bit1 (by omega)).2 q)))
  | succ d ih =>
    intro op M G hd hI f hf
    obtain ⟨hi, i6⟩ := hit d (by omega)
    have ed : (nI d).toNatClampNeg = d := sx_cl 5 (show d < 5 by omega)
    have vd : vp_in (nI d) 5 := vp_in_nI (by omega) (by decide)
    cases f with
    | zero => omega
    | succ f =>
      show wY_hopeful_15 post only inh (f + 1) op (nI d) f_cellLimit f_definitionLimit f_depthLimit f_itemLimit f_made f_state f_depth f_rootDefinition a_kind a_first a_second a_width a_use a_items a_itemKind a_itemName a_itemValue a_itemFit M G
      refine br_f (nI_pos (by omega)) (And.intro vd ?_)
      rw [ed, hi]
      refine sy_evaluate ok (by omega) i6 hm h24 (fun kids texts M' G' hk hT => And.intro vd ?_)
      rw [hi]
      refine sy_defs hU i6 hm h24 (fun m hm' => ?_)
      have hg : sy_gres a_kind a_first a_second a_use a_itemKind a_itemName a_itemValue a_itemFit made d (it d) inh op m := by
        refine ⟨kids, texts, M', G', hk, hT, fun j => ?_⟩
        rw [hm' j]
        exact sy_ex_cg (fun e => and_congr Iff.rfl (and_congr Iff.rfl (and_congr Iff.rfl ⟨fun z => z.2 sy_10, fun z => ⟨fun y => absurd y sy_10, fun _ => z⟩⟩)))
      obtain ⟨s1, s2⟩ := hs d op m (by omega) hI hg
      have eD : nI d = f_depth - 1 ↔ d + 1 = D := by
        rw [hD, show (1 : Int32) = nI 1 from rfl, pk_sub D1, nI_eq (by omega) (by omega)]
        omega
      refine br_c (fun e => nm_e (nm_r (sx_dnS d) (ih _ M' G' (by omega) (s1 (eD.1 e)) f (by omega)))) (fun e => nm_r (sx_dnS d) (ih _ M' G' (by omega) (s2 (fun q => e (eD.2 q))) f (by omega)))
theorem sy_hope (ok : ∀ c, c < made → sy_ok a_kind a_first a_second c) (hU : ∀ c, c < made → ∃ u, u < 10 ∧ a_use c = nI u) (hm : f_made = nI made) (h24 : made ≤ 24)
    {D root : Nat} (hD : f_depth = nI D) (D1 : 1 ≤ D) (D5 : D ≤ 5) (hr : f_rootDefinition = nI root) (r8 : root < 8) {it : Nat → Nat} (hit : ∀ l, l < D → a_items l = nI (it l) ∧ it l ≤ 6)
    {only : Int32} {post : Int32 → SY → Prop} {I : Int32 → Nat → Int32 → Prop}
    (h0 : ∀ (S : Nat → Int32), S 0 = 0 → (∀ i, i < 8 → sy_gres a_kind a_first a_second a_use a_itemKind a_itemName a_itemValue a_itemFit made 0 0 (S i) 0 (S (i + 1))) → I (S 8) D 0)
    (hs : ∀ inh l op res, l < D → I inh (l + 1) op → sy_gres a_kind a_first a_second a_use a_itemKind a_itemName a_itemValue a_itemFit made l (it l) inh op res →
      (l + 1 = D → I inh l (res &&& only)) ∧ (l + 1 ≠ D → I inh l res))
    (hP : ∀ inh op (M G : Nat → Int32), I inh 0 op → (bt op root = true → post 1 (f_cellLimit, f_definitionLimit, f_depthLimit, f_itemLimit, f_made, f_state, f_depth, f_rootDefinition, a_kind, a_first, a_second, a_width, a_use, a_items, a_itemKind, a_itemName, a_itemValue, a_itemFit, M, G)) ∧ (¬ bt op root = true → post 0 (f_cellLimit, f_definitionLimit, f_depthLimit, f_itemLimit, f_made, f_state, f_depth, f_rootDefinition, a_kind, a_first, a_second, a_width, a_use, a_items, a_itemKind, a_itemName, a_itemValue, a_itemFit, M, G))) :
    wpY_hopeful post (f_cellLimit, f_definitionLimit, f_depthLimit, f_itemLimit, f_made, f_state, f_depth, f_rootDefinition, a_kind, a_first, a_second, a_width, a_use, a_items, a_itemKind, a_itemName, a_itemValue, a_itemFit, a_matches, a_grows) only := by
  unfold wpY_hopeful
  refine sy_inh ok hU hm h24 (fun S M G s0 s1 => nm_r (e' := sx_dn D) ?_ ⟨D + 1, ?_⟩)
  · rw [hD]
    cases D with
    | zero => omega
    | succ D => exact nI_pred D
  · exact sy_hopeL ok hU hm h24 hD D1 D5 hr r8 hit (hs (S 8)) (hP (S 8)) D 0 M G (Nat.le_refl _) (h0 S s0 s1) (D + 1) (by omega)
end
end
section
/-! From the printed tables to the mathematics: Y -/
/-- leaf c may take item e of level lev -/
def sl_T (K F S iK iN iV iF : Nat → Int32) (lev n : Nat) (op : Int32) (c e : Nat) : Prop :=
  e < n ∧ ((iK (lev * 6 + e) = 1 ∧ sd_n K c = 2 ∧ sy_fi (F c) (iN (lev * 6 + e)) ∧ sy_fi (S c) (iV (lev * 6 + e))) ∨
    (iK (lev * 6 + e) = 2 ∧ sd_n K c = 1) ∨
    (iK (lev * 6 + e) = 3 ∧ sd_n K c = 3 ∧ sy_fi (F c) (iN (lev * 6 + e)) ∧ bt (iF (lev * 6 + e)) (sd_n S c) = true) ∨
    (iK (lev * 6 + e) = 0 ∧ sd_n K c = 3 ∧ sy_fi (F c) (iN (lev * 6 + e)) ∧ bt op (sd_n S c) = true))
def sl_kid (na : Nat) (e : Nat) : Bool := decide (na ≤ e)
def sl_st (iK : Nat → Int32) (lev e : Nat) : Bool := decide (iK (lev * 6 + e) = 0)
/-- the attributes come first -/
def sl_na (iK : Nat → Int32) (lev n na : Nat) : Prop := na ≤ n ∧ ∀ i, i < n → (iK (lev * 6 + i) = 1 ↔ i < na)
/-- the leaf can still be filled -/
def sl_fil (K S : Nat → Int32) (inh : Int32) (na n : Nat) (c : Nat) : Prop := sx_fil K S inh c ∧ (sd_n K c = 2 → na = n)
def sl_M (Mt : Nat → Int32) (n c : Nat) (x : Nat → Bool) : Prop := ¬ Mt (c * 64 + sd_mk x n) = 0

theorem sl_mo (na : Nat) : sd_mo (sl_kid na) := fun i j hij h => decide_eq_true (by have := of_decide_eq_true h; omega)
theorem sl_kt {na e : Nat} : sl_kid na e = true ↔ na ≤ e := decide_eq_true_iff
theorem sl_mb (x : Nat → Bool) {n i : Nat} (hi : i < n) : (sd_mk x n).testBit i = x i := by rw [sd_mk_t, decide_eq_true hi]; rfl
theorem sl_mo' (x : Nat → Bool) {n i : Nat} (hi : ¬ i < n) : (sd_mk x n).testBit i = false := by rw [sd_mk_t, decide_eq_false hi]; rfl
theorem sl_mk0 {x : Nat → Bool} {n : Nat} : sd_mk x n = 0 ↔ sd_em n x := by
  constructor
  · intro h i hi
    rw [← sl_mb x hi, h, Nat.zero_testBit]
  · intro h
    refine sd_mk_eq (Nat.two_pow_pos n) (fun i hi => ?_)
    rw [Nat.zero_testBit, h i hi]
theorem sl_mkp {x : Nat → Bool} {n i : Nat} (hi : i < n) : sd_mk x n = 2 ^ i ↔ sd_on n x i := by
  constructor
  · intro h
    refine ⟨hi, fun j hj => ?_⟩
    rw [← sl_mb x hj, h, Nat.testBit_two_pow, decide_eq_true_eq]
    exact ⟨Eq.symm, Eq.symm⟩
  · rintro ⟨_, h⟩
    refine sd_mk_eq (Nat.pow_lt_pow_right (by decide) hi) (fun j hj => ?_)
    have := h j hj
    rw [Nat.testBit_two_pow]
    by_cases e : i = j
    · rw [decide_eq_true e, this.2 e.symm]
    · rw [decide_eq_false e]
      exact (sd_nf (fun q => e (this.1 q).symm)).symm
theorem sl_m64 (x : Nat → Bool) {n : Nat} (hn : n ≤ 6) : sd_mk x n < 64 := Nat.lt_of_lt_of_le (sd_mk_lt x n) (sy_p2 n (by omega))
/-- a mask below the mask of x is a set below x -/
theorem sl_spl {x : Nat → Bool} {n y : Nat} (h : sd_mk x n &&& y = y) : y < 2 ^ n ∧ sd_sp n x (fun i => y.testBit i) (fun i => (sd_mk x n ^^^ y).testBit i) := by
  have yb : ∀ i, y.testBit i = ((sd_mk x n).testBit i && y.testBit i) := fun i => by rw [← Nat.testBit_and, h]
  refine ⟨Nat.lt_pow_two_of_testBit _ (fun i hi => ?_), fun i hi => ?_⟩
  · rw [yb i, sl_mo' x (by omega)]; rfl
  · have := yb i
    rw [sl_mb x hi] at this
    show x i = (y.testBit i || (sd_mk x n ^^^ y).testBit i) ∧ (y.testBit i && (sd_mk x n ^^^ y).testBit i) = false
    rw [Nat.testBit_xor, sl_mb x hi]
    revert this
    cases x i <;> cases y.testBit i <;> simp
theorem sl_spr {x y z : Nat → Bool} {n : Nat} (h : sd_sp n x y z) : sd_mk x n &&& sd_mk y n = sd_mk y n ∧ sd_mk x n ^^^ sd_mk y n = sd_mk z n := by
  constructor
  · refine Nat.eq_of_testBit_eq (fun i => ?_)
    rw [Nat.testBit_and]
    by_cases hi : i < n
    · obtain ⟨a, b⟩ := h i hi
      rw [sl_mb x hi, sl_mb y hi, a]
      cases y i <;> simp
    · rw [sl_mo' y hi, Bool.and_false]
  · refine Nat.eq_of_testBit_eq (fun i => ?_)
    rw [Nat.testBit_xor]
    by_cases hi : i < n
    · obtain ⟨a, b⟩ := h i hi
      rw [sl_mb x hi, sl_mb y hi, sl_mb z hi, a]
      revert b
      cases y i <;> cases z i <;> simp
    · rw [sl_mo' x hi, sl_mo' y hi, sl_mo' z hi]; rfl
theorem sl_tbn {y n : Nat} (h : y < 2 ^ n) : sd_mk (fun i => y.testBit i) n = y := sd_mk_of h
section
variable {K F S iK iN iV iF : Nat → Int32} {made lev n kids texts na : Nat} {inh op : Int32} {Mt Gt : Nat → Int32}
theorem sl_kb (hk : sy_mK iK lev n kids texts) (hna : sl_na iK lev n na) {i : Nat} (hi : i < n) : kids.testBit i = true ↔ sl_kid na i = true := by
  rw [hk.2.2.1 i, hna.2 i hi, sl_kt]
  exact ⟨fun q => by omega, fun q => ⟨hi, by omega⟩⟩
theorem sl_cut (hn : n ≤ 6) (hk : sy_mK iK lev n kids texts) (hna : sl_na iK lev n na) {x : Nat → Bool} {y : Nat} (hs : sd_mk x n &&& y = y) :
    sy_cut kids (sd_mk x n) y ↔ sd_ct n (sl_kid na) (fun i => y.testBit i) (fun i => (sd_mk x n ^^^ y).testBit i) := by
  have y2 := (sl_spl hs).1
  have z2 : sd_mk x n ^^^ y < 2 ^ n := Nat.xor_lt_two_pow (sd_mk_lt x n) y2
  constructor
  · intro h i j hi hj a b c d
    exact h.2 i j (by omega) (by omega) a ((sl_kb hk hna hi).2 b) c ((sl_kb hk hna hj).2 d)
  · intro h
    refine ⟨hs, fun i j hi hj a b c d => ?_⟩
    have i2 : i < n := Classical.byContradiction (fun q => by
      rw [Nat.testBit_lt_two_pow (Nat.lt_of_lt_of_le y2 (Nat.pow_le_pow_right (by decide) (by omega)))] at a; cases a)
    have j2 : j < n := Classical.byContradiction (fun q => by
      rw [Nat.testBit_lt_two_pow (Nat.lt_of_lt_of_le z2 (Nat.pow_le_pow_right (by decide) (by omega)))] at c; cases c)
    exact h i j i2 j2 a ((sl_kb hk hna i2).1 b) c ((sl_kb hk hna j2).1 d)
theorem sl_hk (hk : sy_mK iK lev n kids texts) (hna : sl_na iK lev n na) {z : Nat} : ¬ z &&& kids = 0 ↔ sd_hk n (sl_kid na) (fun i => z.testBit i) := by
  constructor
  · intro h
    refine Classical.byContradiction (fun q => h (Nat.eq_of_testBit_eq (fun i => ?_)))
    rw [Nat.zero_testBit, Nat.testBit_and]
    by_cases c : kids.testBit i = true
    · have hi := ((hk.2.2.1 i).1 c).1
      have : ¬ z.testBit i = true := fun w => q ⟨i, hi, w, (sl_kb hk hna hi).1 c⟩
      rw [sd_nf this]; rfl
    · rw [sd_nf c, Bool.and_false]
  · rintro ⟨j, hj, a, b⟩ e
    have := congrArg (fun v => v.testBit j) e
    simp only [Nat.testBit_and, Nat.zero_testBit] at this
    rw [show z.testBit j = true from a, (sl_kb hk hna hj).2 b] at this
    cases this
/-- the splits of x as masks and as sets -/
theorem sl_ex {x : Nat → Bool} {P : Nat → Nat → Prop} {Q : (Nat → Bool) → (Nat → Bool) → Prop}
    (h1 : ∀ y, sd_mk x n &&& y = y → y < 2 ^ n → (P y (sd_mk x n ^^^ y) ↔ Q (fun i => y.testBit i) (fun i => (sd_mk x n ^^^ y).testBit i)))
    (h2 : ∀ y z y' z' : Nat → Bool, (∀ i, i < n → y i = y' i) → (∀ i, i < n → z i = z' i) → Q y z → Q y' z') :
    (∃ y, y ≤ sd_mk x n ∧ sd_mk x n &&& y = y ∧ P y (sd_mk x n ^^^ y)) ↔ ∃ y z, sd_sp n x y z ∧ Q y z := by
  constructor
  · rintro ⟨y, _, hy, hp⟩
    obtain ⟨y2, sp⟩ := sl_spl hy
    exact ⟨_, _, sp, (h1 y hy y2).1 hp⟩
  · rintro ⟨y, z, sp, hq⟩
    obtain ⟨e1, e2⟩ := sl_spr sp
    have l : sd_mk y n ≤ sd_mk x n := by rw [← e1]; exact Nat.and_le_left
    refine ⟨sd_mk y n, l, e1, (h1 _ e1 (sd_mk_lt y n)).2 (h2 y z _ _ (fun i hi => (sl_mb y hi).symm) (fun i hi => ?_) hq)⟩
    rw [e2, sl_mb z hi]
theorem sl_Mc {M : Nat → Int32} {c : Nat} {x y : Nat → Bool} (h : ∀ i, i < n → x i = y i) : sl_M M n c x ↔ sl_M M n c y := by
  unfold sl_M; rw [sd_mk_cg h]
theorem sl_ctc {kid y z y' z' : Nat → Bool} (hy : ∀ i, i < n → y i = y' i) (hz : ∀ i, i < n → z i = z' i) (h : sd_ct n kid y z) : sd_ct n kid y' z' :=
  fun i j hi hj a b c d => h i j hi hj (by rw [hy i hi]; exact a) b (by rw [hz j hj]; exact c) d
theorem sl_hkc {kid z z' : Nat → Bool} (hz : ∀ i, i < n → z i = z' i) : sd_hk n kid z ↔ sd_hk n kid z' :=
  ⟨fun ⟨j, a, b, c⟩ => ⟨j, a, by rw [← hz j a]; exact b, c⟩, fun ⟨j, a, b, c⟩ => ⟨j, a, by rw [hz j a]; exact b, c⟩⟩
theorem sl_emc {z z' : Nat → Bool} (hz : ∀ i, i < n → z i = z' i) : sd_em n z ↔ sd_em n z' :=
  ⟨fun h i hi => by rw [← hz i hi]; exact h i hi, fun h i hi => by rw [hz i hi]; exact h i hi⟩
theorem sl_M_t {M : Nat → Int32} {c y : Nat} (h : y < 2 ^ n) : sl_M M n c (fun i => y.testBit i) ↔ ¬ M (c * 64 + y) = 0 := by
  unfold sl_M; rw [sl_tbn h]

theorem sl_mgE (ok : ∀ c, c < made → sy_ok K F S c) (hn : n ≤ 6) (hk : sy_mK iK lev n kids texts) (hna : sl_na iK lev n na)
    (hT : sy_TB K F S iK iN iV iF made lev n kids texts inh op Mt Gt (made * 64)) {O : Nat → Prop} (hO : ∀ c, O c → c < made) :
    sd_mgE (sd_n K) (sd_n F) (sd_n S) O (sl_fil K S inh na n) (sl_T K F S iK iN iV iF lev n op) (sl_kid na) (sl_st iK lev) n (sl_M Mt n) (sl_M Gt n) := by
  intro c oc x
  have hc := hO c oc
  have x64 := sl_m64 x hn
  have xn := sd_mk_lt x n
  obtain ⟨c24, _, k7, o0, o1, o2⟩ := ok c hc
  obtain ⟨_, _, f0, f1, f2, f3, f4, f5, f6, f7⟩ := hT c (sd_mk x n) hc xn (by omega)
  have z2 : ∀ y, y < 2 ^ n → sd_mk x n ^^^ y < 2 ^ n := fun y hy => Nat.xor_lt_two_pow xn hy
  have kids0 : kids = 0 ↔ na = n := by
    constructor
    · intro h
      refine Classical.byContradiction (fun q => ?_)
      have := (hk.2.2.1 na).2 ⟨by have := hna.1; omega, fun w => by have := (hna.2 na (by have := hna.1; omega)).1 w; omega⟩
      rw [h, Nat.zero_testBit] at this; cases this
    · intro h
      refine Nat.eq_of_testBit_eq (fun i => ?_)
      rw [Nat.zero_testBit]
      refine sd_nf (fun q => ?_)
      obtain ⟨a, b⟩ := (hk.2.2.1 i).1 q
      exact b ((hna.2 i a).2 (by omega))
  refine ⟨fun k => ?_, fun k => ?_, fun k => ?_, fun k => ?_, fun k => ?_, fun k => ?_, fun k => ?_⟩
  · exact ⟨(f0 k).1.trans sl_mk0, (f0 k).2.trans sl_mk0⟩
  · have e : sy_sub (sd_mk x n) texts ↔ ∀ i, i < n → x i = true → sl_T K F S iK iN iV iF lev n op c i := by
      constructor
      · intro h i hi xi
        have := (hk.2.2.2 i).1 (h i (by omega) (by rw [sl_mb x hi]; exact xi))
        exact ⟨hi, Or.inr (Or.inl ⟨this.2, k⟩)⟩
      · intro h i hi xi
        have i2 : i < n := Classical.byContradiction (fun q => by rw [sl_mo' x q] at xi; cases xi)
        rw [sl_mb x i2] at xi
        obtain ⟨_, q | q | q | q⟩ := h i i2 xi
        · have := q.2.1; omega
        · exact (hk.2.2.2 i).2 ⟨i2, q.1⟩
        · have := q.2.1; omega
        · have := q.2.1; omega
    exact ⟨(f1 k).1.trans e, (f1 k).2.trans e⟩
  · rcases k with k | k
    · have em : (∃ i, i < n ∧ sd_mk x n = 2 ^ i ∧ sy_fi (F c) (iN (lev * 6 + i)) ∧ iK (lev * 6 + i) = 1 ∧ sy_fi (S c) (iV (lev * 6 + i))) ↔ ∃ i, sd_on n x i ∧ sl_T K F S iK iN iV iF lev n op c i := by
        constructor
        · rintro ⟨i, hi, e, g1, g2, g3⟩
          exact ⟨i, (sl_mkp hi).1 e, hi, Or.inl ⟨g2, k, g1, g3⟩⟩
        · rintro ⟨i, on, hi, q | q | q | q⟩
          · exact ⟨i, hi, (sl_mkp hi).2 on, q.2.2.1, q.1, q.2.2.2⟩
          · have := q.2; omega
          · have := q.2.1; omega
          · have := q.2.1; omega
      have es : (∃ i, sd_on n x i ∧ sl_T K F S iK iN iV iF lev n op c i) ↔ ∃ i, sd_on n x i ∧ sl_T K F S iK iN iV iF lev n op c i ∧ sl_st iK lev i = false := by
        constructor
        · rintro ⟨i, on, t⟩
          refine ⟨i, on, t, decide_eq_false (fun z => ?_)⟩
          obtain ⟨_, q | q | q | q⟩ := t
          · rw [q.1] at z; exact absurd z (by decide)
          · have := q.2; omega
          · have := q.2.1; omega
          · have := q.2.1; omega
        · rintro ⟨i, on, t, _⟩; exact ⟨i, on, t⟩
      have m1 := (f2 k).1.trans (em.trans es)
      refine ⟨m1, (f2 k).2.trans ?_⟩
      rw [m1, ← es, sl_mk0, kids0]
      constructor
      · rintro (⟨a, b⟩ | a)
        · exact Or.inr ⟨a, Or.inl (by omega), fun _ => b⟩
        · exact Or.inl a
      · rintro (a | ⟨a, b⟩)
        · exact Or.inr a
        · exact Or.inl ⟨a, b.2 k⟩
    · have em : (∃ i, i < n ∧ sd_mk x n = 2 ^ i ∧ sy_fi (F c) (iN (lev * 6 + i)) ∧ iK (lev * 6 + i) = 3 ∧ bt (iF (lev * 6 + i)) (sd_n S c) = true) ↔
          ∃ i, sd_on n x i ∧ sl_T K F S iK iN iV iF lev n op c i ∧ sl_st iK lev i = false := by
        constructor
        · rintro ⟨i, hi, e, g1, g2, g3⟩
          exact ⟨i, (sl_mkp hi).1 e, ⟨hi, Or.inr (Or.inr (Or.inl ⟨g2, k, g1, g3⟩))⟩, decide_eq_false (by rw [g2]; decide)⟩
        · rintro ⟨i, on, ⟨hi, q | q | q | q⟩, s⟩
          · have := q.2.1; omega
          · have := q.2; omega
          · exact ⟨i, hi, (sl_mkp hi).2 on, q.2.2.1, q.1, q.2.2.2⟩
          · exact absurd q.1 (of_decide_eq_false s)
      have m1 := (f3 k).1.trans em
      refine ⟨m1, (f3 k).2.trans ?_⟩
      rw [m1, sl_mk0]
      constructor
      · rintro (⟨a, b⟩ | ⟨i, hi, e, g1, g2, g3⟩ | ⟨i, on, t, _⟩)
        · exact Or.inr ⟨a, Or.inr b, fun q => by omega⟩
        · exact Or.inl ⟨i, (sl_mkp hi).1 e, hi, Or.inr (Or.inr (Or.inr ⟨g2, k, g1, g3⟩))⟩
        · exact Or.inl ⟨i, on, t⟩
      · rintro (⟨i, on, t⟩ | ⟨a, b, _⟩)
        · by_cases s : sl_st iK lev i = true
          · have i0 := of_decide_eq_true s
            obtain ⟨hi, q | q | q | q⟩ := t
            · have := q.2.1; omega
            · have := q.2; omega
            · rw [q.1] at i0; exact absurd i0 (by decide)
            · exact Or.inr (Or.inl ⟨i, hi, (sl_mkp hi).2 on, q.2.2.1, q.1, q.2.2.2⟩)
          · exact Or.inr (Or.inr ⟨i, on, t, sd_nf s⟩)
        · exact Or.inl ⟨a, b.resolve_left (fun q => q k)⟩
  · exact f4 k
  · constructor
    · refine (f5 k).1.trans (Iff.trans ?_ (sl_ex (n := n) (x := x) (P := fun y z => sy_cut kids (sd_mk x n) y ∧ ¬ Mt (sd_n F c * 64 + y) = 0 ∧ ¬ Mt (sd_n S c * 64 + z) = 0)
        (Q := fun y z => sd_ct n (sl_kid na) y z ∧ sl_M Mt n (sd_n F c) y ∧ sl_M Mt n (sd_n S c) z) (fun y hy y2 => ?_) (fun y z y' z' ey ez q => ?_)))
      · exact sy_ex_cg (fun y => and_congr Iff.rfl ⟨fun q => ⟨q.1.1, q⟩, fun q => q.2⟩)
      · rw [sl_cut hn hk hna hy, sl_M_t y2, sl_M_t (z2 y y2)]
      · exact ⟨sl_ctc ey ez q.1, (sl_Mc ey).1 q.2.1, (sl_Mc ez).1 q.2.2⟩
    · refine (f5 k).2.trans (Iff.trans ?_ (sl_ex (n := n) (x := x) (P := fun y z => sy_cut kids (sd_mk x n) y ∧ (¬ z &&& kids = 0 → ¬ Mt (sd_n F c * 64 + y) = 0) ∧ (z &&& kids = 0 → ¬ Gt (sd_n F c * 64 + y) = 0) ∧ ¬ Gt (sd_n S c * 64 + z) = 0)
        (Q := fun y z => sd_ct n (sl_kid na) y z ∧ (sd_hk n (sl_kid na) z → sl_M Mt n (sd_n F c) y) ∧ (¬ sd_hk n (sl_kid na) z → sl_M Gt n (sd_n F c) y) ∧ sl_M Gt n (sd_n S c) z) (fun y hy y2 => ?_) (fun y z y' z' ey ez q => ?_)))
      · exact sy_ex_cg (fun y => and_congr Iff.rfl ⟨fun q => ⟨q.1.1, q⟩, fun q => q.2⟩)
      · rw [sl_cut hn hk hna hy, sl_M_t y2, sl_M_t y2, sl_M_t (z2 y y2), ← sl_hk hk hna, Classical.not_not]
      · exact ⟨sl_ctc ey ez q.1, fun w => (sl_Mc ey).1 (q.2.1 ((sl_hkc ez).2 w)), fun w => (sl_Mc ey).1 (q.2.2.1 (fun v => w ((sl_hkc ez).1 v))), (sl_Mc ez).1 q.2.2.2⟩
  · constructor
    · refine (f6 k).1.trans (sl_ex (n := n) (x := x) (P := fun y z => ¬ Mt (sd_n F c * 64 + y) = 0 ∧ ¬ Mt (sd_n S c * 64 + z) = 0)
        (Q := fun y z => sl_M Mt n (sd_n F c) y ∧ sl_M Mt n (sd_n S c) z) (fun y hy y2 => ?_) (fun y z y' z' ey ez q => ?_))
      · rw [sl_M_t y2, sl_M_t (z2 y y2)]
      · exact ⟨(sl_Mc ey).1 q.1, (sl_Mc ez).1 q.2⟩
    · refine (f6 k).2.trans (sl_ex (n := n) (x := x) (P := fun y z => ¬ Gt (sd_n F c * 64 + y) = 0 ∧ ¬ Gt (sd_n S c * 64 + z) = 0)
        (Q := fun y z => sl_M Gt n (sd_n F c) y ∧ sl_M Gt n (sd_n S c) z) (fun y hy y2 => ?_) (fun y z y' z' ey ez q => ?_))
      · rw [sl_M_t y2, sl_M_t (z2 y y2)]
      · exact ⟨(sl_Mc ey).1 q.1, (sl_Mc ez).1 q.2⟩
  · have su : sy_sub (sd_mk x n) kids ↔ ∀ i, i < n → x i = true → sl_kid na i = true := by
      constructor
      · intro h i hi xi
        exact (sl_kb hk hna hi).1 (h i (by omega) (by rw [sl_mb x hi]; exact xi))
      · intro h i hi xi
        have i2 : i < n := Classical.byContradiction (fun q => by rw [sl_mo' x q] at xi; cases xi)
        rw [sl_mb x i2] at xi
        exact (sl_kb hk hna i2).2 (h i i2 xi)
    have y0 : ∀ y, y < 2 ^ n → (0 < y ↔ ¬ sd_em n (fun i => y.testBit i)) := fun y hy => by
      rw [← sl_mk0, sl_tbn hy]; omega
    constructor
    · refine (f7 k).1.trans (and_congr su (or_congr Iff.rfl (Iff.trans ?_ (sl_ex (n := n) (x := x) (P := fun y z => sy_cut kids (sd_mk x n) y ∧ 0 < y ∧ ¬ Mt (sd_n F c * 64 + y) = 0 ∧ ¬ Mt (c * 64 + z) = 0)
        (Q := fun y z => sd_ct n (sl_kid na) y z ∧ ¬ sd_em n y ∧ sl_M Mt n (sd_n F c) y ∧ sl_M Mt n c z) (fun y hy y2 => ?_) (fun y z y' z' ey ez q => ?_)))))
      · exact sy_ex_cg (fun y => and_congr Iff.rfl ⟨fun q => ⟨q.1.1, q⟩, fun q => q.2⟩)
      · rw [sl_cut hn hk hna hy, sl_M_t y2, sl_M_t (z2 y y2), y0 y y2]
      · exact ⟨sl_ctc ey ez q.1, fun w => q.2.1 ((sl_emc ey).2 w), (sl_Mc ey).1 q.2.2.1, (sl_Mc ez).1 q.2.2.2⟩
    · refine (f7 k).2.trans (and_congr su (or_congr Iff.rfl (Iff.trans ?_ (sl_ex (n := n) (x := x) (P := fun y z => sy_cut kids (sd_mk x n) y ∧ 0 < y ∧ ¬ Mt (sd_n F c * 64 + y) = 0 ∧ ¬ Gt (c * 64 + z) = 0)
        (Q := fun y z => sd_ct n (sl_kid na) y z ∧ ¬ sd_em n y ∧ sl_M Mt n (sd_n F c) y ∧ sl_M Gt n c z) (fun y hy y2 => ?_) (fun y z y' z' ey ez q => ?_)))))
      · exact sy_ex_cg (fun y => and_congr Iff.rfl ⟨fun q => ⟨q.1.1, q⟩, fun q => q.2⟩)
      · rw [sl_cut hn hk hna hy, sl_M_t y2, sl_M_t (z2 y y2), y0 y y2]
      · exact ⟨sl_ctc ey ez q.1, fun w => q.2.1 ((sl_emc ey).2 w), (sl_Mc ey).1 q.2.2.1, (sl_Mc ez).1 q.2.2.2⟩
end
end
section
/-! From the printed tables to the mathematics: X -/
def sb_filL (K S : Nat → Int32) (live : Int32) (c : Nat) : Prop := sx_fil K S live c ∧ sd_n K c ≠ 2
def sb_own (v : Int32) : Prop := ¬ v = 0
/-- X's tables for the owned cells -/
def sb_tab (cnt : Nat) (K F S W P Ow Pl : Nat → Int32) (Un Cl Nu Ge Gl Gd : Nat → Int64) (live : Int32) : Prop :=
  (∀ c, sc_O cnt Ow sb_own c → ∀ s, sd_lb (Un c) s ↔ sd_un (sd_n Pl c) (sd_n W c) s) ∧
  sd_clE (sd_n K) (sd_n F) (sd_n S) (sd_n Pl) (sc_O cnt Ow sb_own) (fun c s => sd_lb (Cl c) s) ∧
  sd_nuE (sd_n K) (sd_n F) (sd_n S) (sd_n Pl) (sd_n W) (sc_O cnt Ow sb_own) (fun c s => sd_lb (Nu c) s) ∧
  sd_grE (sd_n K) (sd_n F) (sd_n S) (sd_n Pl) (sd_n W) (sc_O cnt Ow sb_own) (sx_fil K S live) (fun c s => sd_lb (Ge c) s) ∧
  sd_grE (sd_n K) (sd_n F) (sd_n S) (sd_n Pl) (sd_n W) (sc_O cnt Ow sb_own) (sb_filL K S live) (fun c s => sd_lb (Gl c) s) ∧
  (∀ l, sc_O cnt Ow sb_own l → sd_n K l ≠ 0 → sd_n K l < 4 → ∀ J, sx_way P (sd_up (sd_n P) l) J → ∀ s, sd_lb (Gd l) s ↔
    sd_gd (sd_n K) (sd_n F) (sd_n S) (sd_n Pl) (sd_n W) (fun c s => sd_lb (Cl c) s) (fun c s => sd_lb (Nu c) s) (sd_n P) (decide (sd_n K l ≠ 2)) l J s)
section
variable {cnt dl : Nat} {K F S W U P A Ow Pl Ct : Nat → Int32} {V : Int32 → Prop} {col Un Cl Nu Ge Gl Gd : Nat → Int64} {live : Int32}
theorem sb_pl6 (H : sc_Sch cnt dl K F S W U P A Ow Pl Ct) {c : Nat} (oc : sc_O cnt Ow sb_own c) : sd_n Pl c + sd_n W c ≤ 6 ∧ Pl c = nI (sd_n Pl c) :=
  ⟨(H.2.2.2.1 c oc.1 oc.2).2.1, (H.2.2.2.1 c oc.1 oc.2).1⟩
theorem sb_leaf (H : sc_Sch cnt dl K F S W U P A Ow Pl Ct) {c : Nat} (oc : sc_O cnt Ow sb_own c) (k0 : sd_n K c ≠ 0) (k4 : sd_n K c < 4) : sd_n W c = 1 ∧ sd_n Pl c < 6 := by
  have w := (H.2.1 c oc.1).2.2.2.1 k0 k4
  have := (sb_pl6 H oc).1
  omega
theorem sb_own0 : ¬ sb_own 0 := fun h => h rfl
theorem sb_un (H : sc_Sch cnt dl K F S W U P A Ow Pl Ct) (hc : sd_colE col) (hu : ∀ c, c < cnt → ¬ Ow c = 0 → sx_useE K F S Pl col Un Cl Nu c) :
    ∀ c, sc_O cnt Ow sb_own c → ∀ s, sd_lb (Un c) s ↔ sd_un (sd_n Pl c) (sd_n W c) s := by
  have ht := sc_tr (V := sb_own) H sb_own0
  have hp : ∀ c, sc_O cnt Ow sb_own c → 4 ≤ sd_n K c → sd_n K c ≠ 7 → (∀ s, sd_lb (Un (sd_n F c)) s ↔ sd_un (sd_n Pl (sd_n F c)) (sd_n W (sd_n F c)) s) →
      (∀ s, sd_lb (Un (sd_n S c)) s ↔ sd_un (sd_n Pl (sd_n S c)) (sd_n W (sd_n S c)) s) → ∀ s, sd_lb (Un c) s ↔ sd_un (sd_n Pl c) (sd_n W c) s := by
    intro c oc k4 k7 ip iq s
    obtain ⟨_, _, e1, l1⟩ := sd_tp ht oc k4
    obtain ⟨_, _, e2, e3, _⟩ := sd_tq ht oc k4 k7
    rw [((hu c oc.1 oc.2).2.2.2 k4 k7).1, sd_lb_and, ip s, iq s]
    constructor
    · rintro ⟨a, b⟩ i h1 h2
      by_cases q : i < sd_n Pl (sd_n F c) + sd_n W (sd_n F c)
      · exact a i (by omega) q
      · exact b i (by omega) (by omega)
    · exact fun a => ⟨fun i h1 h2 => a i (by omega) (by omega), fun i h1 h2 => a i (by omega) (by omega)⟩
  refine sd_ind ht ?_ (fun c oc k => hp c oc (by omega) (by omega)) (fun c oc k => hp c oc (by omega) (by omega)) (fun c oc k => hp c oc (by omega) (by omega)) ?_
  · intro c oc k s
    obtain ⟨u0, u1, _, _⟩ := hu c oc.1 oc.2
    by_cases k0 : sd_n K c = 0
    · rw [(u0 k0).1]
      have w := (ht c oc).2.1 k0
      exact ⟨fun _ i h1 h2 => by omega, fun _ => sd_lb_m1 s⟩
    · obtain ⟨w, p6⟩ := sb_leaf H oc k0 k
      rw [(u1 k0 k).1, sd_lb_not, hc _ p6]
      constructor
      · intro h i h1 h2
        have : i = sd_n Pl c := by omega
        rw [this]; exact sd_nf h
      · intro h q
        rw [h (sd_n Pl c) (by omega) (by omega)] at q; cases q
  · intro c oc k ip s
    obtain ⟨_, _, e1, l1⟩ := sd_tp ht oc (by omega)
    have e7 := (ht c oc).2.2.2.2.1 k
    rw [((hu c oc.1 oc.2).2.2.1 k).1, ip s, e1, e7]
theorem sb_clE (H : sc_Sch cnt dl K F S W U P A Ow Pl Ct) (hc : sd_colE col) (hu : ∀ c, c < cnt → ¬ Ow c = 0 → sx_useE K F S Pl col Un Cl Nu c) :
    sd_clE (sd_n K) (sd_n F) (sd_n S) (sd_n Pl) (sc_O cnt Ow sb_own) (fun c s => sd_lb (Cl c) s) := by
  intro c oc s
  obtain ⟨u0, u1, u2, u3⟩ := hu c oc.1 oc.2
  refine ⟨fun k => ?_, fun k => ?_, fun k => ?_, fun k => ?_, fun k => ?_, fun k k7 => ?_⟩
  · show sd_lb (Cl c) s
    rw [(u0 k).2.1]; exact sd_lb_m1 s
  · show sd_lb (Cl c) s
    rw [(u1 (by omega) (by omega)).2.1 k]; exact sd_lb_m1 s
  · show sd_lb (Cl c) s ↔ _
    rw [(u1 (by omega) (by omega)).2.2.1 (by omega), sd_lb_not, hc _ (sb_leaf H oc (by omega) (by omega)).2]
    exact ⟨sd_nf, fun q w => by rw [q] at w; cases w⟩
  · show sd_lb (Cl c) s ↔ _
    rw [(u1 (by omega) (by omega)).2.2.1 (by omega), sd_lb_not, hc _ (sb_leaf H oc (by omega) (by omega)).2]
    exact ⟨sd_nf, fun q w => by rw [q] at w; cases w⟩
  · show sd_lb (Cl c) s ↔ sd_lb (Cl (sd_n F c)) s
    rw [(u2 k).2.1]
  · show sd_lb (Cl c) s ↔ sd_lb (Cl (sd_n F c)) s ∧ sd_lb (Cl (sd_n S c)) s
    rw [(u3 k k7).2.1, sd_lb_and]
theorem sb_nuE (H : sc_Sch cnt dl K F S W U P A Ow Pl Ct) (hc : sd_colE col) (hu : ∀ c, c < cnt → ¬ Ow c = 0 → sx_useE K F S Pl col Un Cl Nu c) :
    sd_nuE (sd_n K) (sd_n F) (sd_n S) (sd_n Pl) (sd_n W) (sc_O cnt Ow sb_own) (fun c s => sd_lb (Nu c) s) := by
  have ht := sc_tr (V := sb_own) H sb_own0
  have un := sb_un H hc hu
  intro c oc s
  obtain ⟨u0, u1, u2, u3⟩ := hu c oc.1 oc.2
  refine ⟨fun k => ?_, fun k => ?_, fun k => ?_, fun k => ?_, fun k => ?_, fun k => ?_, fun k => ?_, fun k => ?_⟩
  · show sd_lb (Nu c) s
    rw [(u0 k).2.2]; exact sd_lb_m1 s
  · show sd_lb (Nu c) s
    rw [(u1 (by omega) (by omega)).2.2.2.1 k]; exact sd_lb_m1 s
  · show sd_lb (Nu c) s ↔ _
    rw [(u1 (by omega) (by omega)).2.2.2.2 (by omega), hc _ (sb_leaf H oc (by omega) (by omega)).2]
  · show sd_lb (Nu c) s ↔ _
    rw [(u1 (by omega) (by omega)).2.2.2.2 (by omega), hc _ (sb_leaf H oc (by omega) (by omega)).2]
  · show sd_lb (Nu c) s ↔ sd_lb (Nu (sd_n F c)) s
    rw [(u2 k).2.2]
  · show sd_lb (Nu c) s ↔ (sd_lb (Nu (sd_n F c)) s ∧ _) ∨ (sd_lb (Nu (sd_n S c)) s ∧ _)
    rw [(u3 (by omega) (by omega)).2.2.1 k, sd_lb_or, sd_lb_and, sd_lb_and, un _ (sd_tp ht oc (by omega)).1, un _ (sd_tq ht oc (by omega) (by omega)).1]
  · show sd_lb (Nu c) s ↔ sd_lb (Nu (sd_n F c)) s ∧ sd_lb (Nu (sd_n S c)) s
    rw [(u3 (by omega) (by omega)).2.2.2 (by omega), sd_lb_and]
  · show sd_lb (Nu c) s ↔ sd_lb (Nu (sd_n F c)) s ∧ sd_lb (Nu (sd_n S c)) s
    rw [(u3 (by omega) (by omega)).2.2.2 (by omega), sd_lb_and]
theorem sb_grE (H : sc_Sch cnt dl K F S W U P A Ow Pl Ct) (un : ∀ c, sc_O cnt Ow sb_own c → ∀ s, sd_lb (Un c) s ↔ sd_un (sd_n Pl c) (sd_n W c) s)
    (hg : ∀ c, c < cnt → ¬ Ow c = 0 → sx_groE K F S live Un Ge Gl c) :
    sd_grE (sd_n K) (sd_n F) (sd_n S) (sd_n Pl) (sd_n W) (sc_O cnt Ow sb_own) (sx_fil K S live) (fun c s => sd_lb (Ge c) s) ∧
    sd_grE (sd_n K) (sd_n F) (sd_n S) (sd_n Pl) (sd_n W) (sc_O cnt Ow sb_own) (sb_filL K S live) (fun c s => sd_lb (Gl c) s) := by
  have ht := sc_tr (V := sb_own) H sb_own0
  constructor
  · intro c oc s
    obtain ⟨g0, g1, g2, g3⟩ := hg c oc.1 oc.2
    refine ⟨fun k => ?_, fun k => ?_, fun k => ?_, fun k => ?_, fun k => ?_⟩
    · show sd_lb (Ge c) s ↔ _
      by_cases f : sx_fil K S live c
      · rw [(g0 k).1 f]
        exact ⟨fun _ => Or.inl f, fun _ => sd_lb_m1 s⟩
      · rw [(g0 k).2.1 f, sd_lb_not, un c oc s]
        exact ⟨fun q => Or.inr q, fun q => q.elim (fun z => absurd z f) id⟩
    · show sd_lb (Ge c) s ↔ sd_lb (Ge (sd_n F c)) s
      rw [(g1 k).1]
    · show sd_lb (Ge c) s ↔ (sd_lb (Ge (sd_n F c)) s ∧ _) ∨ (sd_lb (Ge (sd_n S c)) s ∧ _)
      rw [(g2 k).1, sd_lb_or, sd_lb_and, sd_lb_and, un _ (sd_tp ht oc (by omega)).1, un _ (sd_tq ht oc (by omega) (by omega)).1]
    · show sd_lb (Ge c) s ↔ sd_lb (Ge (sd_n F c)) s ∧ sd_lb (Ge (sd_n S c)) s
      rw [(g3 (by omega) (by omega)).1, sd_lb_and]
    · show sd_lb (Ge c) s ↔ sd_lb (Ge (sd_n F c)) s ∧ sd_lb (Ge (sd_n S c)) s
      rw [(g3 (by omega) (by omega)).1, sd_lb_and]
  · intro c oc s
    obtain ⟨g0, g1, g2, g3⟩ := hg c oc.1 oc.2
    refine ⟨fun k => ?_, fun k => ?_, fun k => ?_, fun k => ?_, fun k => ?_⟩
    · show sd_lb (Gl c) s ↔ _
      by_cases f : sb_filL K S live c
      · rw [(g0 k).2.2.1 f]
        exact ⟨fun _ => Or.inl f, fun _ => sd_lb_m1 s⟩
      · rw [(g0 k).2.2.2 f, sd_lb_not, un c oc s]
        exact ⟨fun q => Or.inr q, fun q => q.elim (fun z => absurd z f) id⟩
    · show sd_lb (Gl c) s ↔ sd_lb (Gl (sd_n F c)) s
      rw [(g1 k).2]
    · show sd_lb (Gl c) s ↔ (sd_lb (Gl (sd_n F c)) s ∧ _) ∨ (sd_lb (Gl (sd_n S c)) s ∧ _)
      rw [(g2 k).2, sd_lb_or, sd_lb_and, sd_lb_and, un _ (sd_tp ht oc (by omega)).1, un _ (sd_tq ht oc (by omega) (by omega)).1]
    · show sd_lb (Gl c) s ↔ sd_lb (Gl (sd_n F c)) s ∧ sd_lb (Gl (sd_n S c)) s
      rw [(g3 (by omega) (by omega)).2, sd_lb_and]
    · show sd_lb (Gl c) s ↔ sd_lb (Gl (sd_n F c)) s ∧ sd_lb (Gl (sd_n S c)) s
      rw [(g3 (by omega) (by omega)).2, sd_lb_and]
/-- a way up has one length -/
theorem sb_way1 {c : Nat → Nat} {J J' : Nat} (h : sx_way P c J) (h' : sx_way P c J') : J = J' := by
  obtain ⟨_, a1, a2, a3⟩ := h
  obtain ⟨_, b1, b2, b3⟩ := h'
  rcases Nat.lt_trichotomy J J' with q | q | q
  · have := b2 J q
    rw [a3] at this
    exact absurd this.symm (sx_nIm1 (by have := b1 (J + 1) (by omega); omega))
  · exact q
  · have := a2 J' q
    rw [b3] at this
    exact absurd this.symm (sx_nIm1 (by have := a1 (J' + 1) (by omega); omega))
/-- the owner of an owned cell is a definition -/
theorem sb_owk (H : sc_Sch cnt dl K F S W U P A Ow Pl Ct) : ∀ (m c : Nat), c < cnt → cnt ≤ c + m → ¬ Ow c = 0 → ∃ k, k < 8 ∧ Ow c = nI (k + 1) := by
  intro m
  induction m with
  | zero => intro c h1 h2; omega
  | succ m ih =>
    intro c h1 h2 ho
    rcases H.2.2.1 c h1 with ⟨_, _, h⟩ | ⟨_, d, g1, g2, _, _, _, g6⟩ | ⟨k, hk, _, _, g3, _⟩
    · exact absurd h ho
    · rw [g6] at ho ⊢
      exact ih d g1 (by omega) ho
    · exact ⟨k, hk, g3⟩
theorem sb_gd (H : sc_Sch cnt dl K F S W U P A Ow Pl Ct) (un : ∀ c, sc_O cnt Ow sb_own c → ∀ s, sd_lb (Un c) s ↔ sd_un (sd_n Pl c) (sd_n W c) s)
    {l : Nat} (ol : sc_O cnt Ow sb_own l) (k0 : sd_n K l ≠ 0) (k4 : sd_n K l < 4) {J : Nat} (hw : sx_way P (sd_up (sd_n P) l) J) (s : Nat → Bool) :
    ((sd_n K l = 1 ∨ sd_lb (Un l) s) ∧ ∀ m, m < J → sx_ps (sd_n K) (sd_n F) (sd_n S) Un Cl Nu (if sd_n K l = 2 then 0 else 1) (sd_up (sd_n P) l (m + 1)) (sd_up (sd_n P) l m) s) ↔
      sd_gd (sd_n K) (sd_n F) (sd_n S) (sd_n Pl) (sd_n W) (fun c s => sd_lb (Cl c) s) (fun c s => sd_lb (Nu c) s) (sd_n P) (decide (sd_n K l ≠ 2)) l J s := by
  have ht := sc_tr (V := sb_own) H sb_own0
  obtain ⟨k, hk, hok⟩ := sb_owk H (cnt - l) l ol.1 (by omega) ol.2
  obtain ⟨J', w', _, hO, hs⟩ := sc_wayX H hk ol.1 hok
  have eJ := sb_way1 hw w'
  subst eJ
  have w1 := (sb_leaf H ol k0 k4).1
  have hO' : ∀ i, i ≤ J → sc_O cnt Ow sb_own (sd_up (sd_n P) l i) := fun i hi => ⟨(hO i hi).1, fun q => by
    have := (hO i hi).2
    have this : Ow (sd_up (sd_n P) l i) = nI (k + 1) := this
    rw [q] at this
    exact absurd (sx_nIne (a := 0) (by omega) (by omega) this) (by omega)⟩
  have hb : (if sd_n K l = 2 then (0 : Int32) else 1) ≠ 0 ↔ decide (sd_n K l ≠ 2) = true := by
    rw [decide_eq_true_eq]
    by_cases q : sd_n K l = 2
    · rw [if_pos q]; exact ⟨fun z => absurd rfl z, fun z => absurd q z⟩
    · rw [if_neg q]; exact ⟨fun _ => q, fun _ => sy_10⟩
  unfold sd_gd
  refine and_congr (or_congr Iff.rfl ?_) ?_
  · rw [un l ol s]
    exact ⟨fun h => h _ (by omega) (by omega), fun h i h1 h2 => by rw [show i = sd_n Pl l by omega]; exact h⟩
  · have one : ∀ m, m < J → (sx_ps (sd_n K) (sd_n F) (sd_n S) Un Cl Nu (if sd_n K l = 2 then 0 else 1) (sd_up (sd_n P) l (m + 1)) (sd_up (sd_n P) l m) s ↔
        sd_ps (sd_n K) (sd_n F) (sd_n S) (sd_n Pl) (sd_n W) (fun c s => sd_lb (Cl c) s) (fun c s => sd_lb (Nu c) s) (decide (sd_n K l ≠ 2)) (sd_up (sd_n P) l (m + 1)) (sd_up (sd_n P) l m) s) := by
      intro m hm
      have oc := hO' (m + 1) (by omega)
      generalize sd_up (sd_n P) l (m + 1) = c at oc ⊢
      unfold sx_ps sd_ps
      rw [hb]
      refine and_congr ?_ Iff.rfl
      constructor
      · intro q k4
        rw [← un _ (sd_tq ht oc (by omega) (by omega)).1, ← un _ (sd_tp ht oc (by omega)).1]
        exact q k4
      · intro q k4
        rw [un _ (sd_tq ht oc (by omega) (by omega)).1, un _ (sd_tp ht oc (by omega)).1]
        exact q k4
    exact ⟨fun q m hm => (one m hm).1 (q m hm), fun q m hm => (one m hm).2 (q m hm)⟩
end
end
section
/-! One step of a residual of definition k, and X's after -/
def sb_V (k : Nat) (v : Int32) : Prop := v = nI (k + 1)
theorem sb_V0 {k : Nat} (hk : k < 8) : ¬ sb_V k 0 := fun h => absurd (sx_nIne (a := 0) (by omega) (by omega) h) (by omega)
/-- Av for definition k -/
def sl_AvT (cnt : Nat) (K F S W Ow Pl : Nat → Int32) (Cl Nu : Nat → Int64) (k : Nat) (T : Nat → Nat → Prop) (kid : Nat → Bool) : Nat → Nat → (Nat → Bool) → (Nat → Bool) → Prop :=
  sd_Av (sd_n K) (sd_n F) (sd_n S) (sd_n Pl) (sd_n W) (fun c s => sd_lb (Cl c) s) (fun c s => sd_lb (Nu c) s) (sc_O cnt Ow (sb_V k)) T kid
/-- one step: TT: the leaves that take the item; kb: it is a child -/
def sl_A (cnt : Nat) (K F S W Ow Pl : Nat → Int32) (Cl Nu : Nat → Int64) (k : Nat) (TT : Nat → Prop) (kb : Bool) (r : Nat) (s t : Nat → Bool) : Prop :=
  sl_AvT cnt K F S W Ow Pl Cl Nu k (fun c _ => TT c) (fun _ => kb) r 0 s t
section
variable {cnt dl : Nat} {K F S W U P A Ow Pl Ct : Nat → Int32} {col Un Cl Nu Ge Gl Gd : Nat → Int64} {live : Int32}
variable {k : Nat} {T : Nat → Nat → Prop} {kid : Nat → Bool}
theorem sl_AT {e r : Nat} {s t : Nat → Bool} : sl_AvT cnt K F S W Ow Pl Cl Nu k T kid r e s t ↔ sl_A cnt K F S W Ow Pl Cl Nu k (fun c => T c e) (kid e) r s t := Iff.rfl
theorem sl_A_cg {TT TT' : Nat → Prop} {kb : Bool} {r : Nat} {s t : Nat → Bool} (h : ∀ c, c < cnt → Ow c = nI (k + 1) → sd_n K c < 4 → (TT c ↔ TT' c)) :
    sl_A cnt K F S W Ow Pl Cl Nu k TT kb r s t ↔ sl_A cnt K F S W Ow Pl Cl Nu k TT' kb r s t := by
  constructor
  · rintro ⟨l, j, ol, kl, tl, h'⟩
    exact ⟨l, j, ol, kl, (h l ol.1 ol.2 kl).1 tl, h'⟩
  · rintro ⟨l, j, ol, kl, tl, h'⟩
    exact ⟨l, j, ol, kl, (h l ol.1 ol.2 kl).2 tl, h'⟩
/-- the leaf that takes it -/
theorem sl_A_or {TT : Nat → Prop} {kb : Bool} {r : Nat} {s t : Nat → Bool} : sl_A cnt K F S W Ow Pl Cl Nu k TT kb r s t ↔ ∃ l, TT l ∧ sl_A cnt K F S W Ow Pl Cl Nu k (fun c => c = l) kb r s t := by
  constructor
  · rintro ⟨l, j, ol, kl, tl, h'⟩
    exact ⟨l, tl, l, j, ol, kl, rfl, h'⟩
  · rintro ⟨l, tl, l', j, ol, kl, e, h'⟩
    exact ⟨l', j, ol, kl, (show TT l' by rw [show l' = l from e]; exact tl), h'⟩
theorem sb_sub {Q : Int32 → Prop} (h : ∀ v, Q v → ¬ v = 0) {c : Nat} (hc : sc_O cnt Ow Q c) : sc_O cnt Ow sb_own c := ⟨hc.1, h _ hc.2⟩
theorem sb_Vn (hk : k < 8) : ∀ v, sb_V k v → ¬ v = 0 := fun v h e => sb_V0 hk (by rw [← e]; exact h)
/-- the mathematics for definition k -/
theorem sb_env (H : sc_Sch cnt dl K F S W U P A Ow Pl Ct) (tb : sb_tab cnt K F S W P Ow Pl Un Cl Nu Ge Gl Gd live) (hk : k < 8) (hT : ∀ c e, sc_O cnt Ow (sb_V k) c → T c e → (sd_n K c = 1 ∨ sd_n K c = 2 ∨ sd_n K c = 3) ∧ (kid e = true ↔ sd_n K c ≠ 2)) :
    sd_Env (sd_n K) (sd_n F) (sd_n S) (sd_n Pl) (sd_n W) (sc_O cnt Ow (sb_V k)) (fun c s => sd_lb (Cl c) s) (fun c s => sd_lb (Nu c) s) (fun c => A c = 1) T kid (sl_AvT cnt K F S W Ow Pl Cl Nu k T kid) := by
  obtain ⟨t1, t2, t3, t4, t5, t6⟩ := tb
  exact ⟨sc_tr H (sb_V0 hk), fun c oc s => t2 c (sb_sub (sb_Vn hk) oc) s, fun c oc s => t3 c (sb_sub (sb_Vn hk) oc) s, sd_Av_E (sc_ne H), sc_abE H, hT⟩
theorem sb_ge (tb : sb_tab cnt K F S W P Ow Pl Un Cl Nu Ge Gl Gd live) (hk : k < 8) : sd_grE (sd_n K) (sd_n F) (sd_n S) (sd_n Pl) (sd_n W) (sc_O cnt Ow (sb_V k)) (sx_fil K S live) (fun c s => sd_lb (Ge c) s) :=
  fun c oc s => tb.2.2.2.1 c (sb_sub (sb_Vn hk) oc) s
theorem sb_gl (tb : sb_tab cnt K F S W P Ow Pl Un Cl Nu Ge Gl Gd live) (hk : k < 8) : sd_grE (sd_n K) (sd_n F) (sd_n S) (sd_n Pl) (sd_n W) (sc_O cnt Ow (sb_V k)) (sb_filL K S live) (fun c s => sd_lb (Gl c) s) :=
  fun c oc s => tb.2.2.2.2.1 c (sb_sub (sb_Vn hk) oc) s
/-- a step stays among the six leaves -/
theorem sb_wr (H : sc_Sch cnt dl K F S W U P A Ow Pl Ct) (hk : k < 8) {r : Nat} (hr : Ct k = nI r) (hr' : r < 2 ^ 31) : sc_O cnt Ow (sb_V k) r ∧ sd_n Pl r + sd_n W r ≤ 6 := by
  obtain ⟨h1, _, _, h4, _⟩ := sc_root H hk hr hr'
  have o : sc_O cnt Ow (sb_V k) r := ⟨h1, h4⟩
  exact ⟨o, (sb_pl6 H (sb_sub (sb_Vn hk) o)).1⟩
theorem sb_S6in {a w : Nat} {s : Nat → Bool} (h : a + w ≤ 6) (hs : sd_in a w s) : sd_S6 s := fun i hi => sd_nf (fun q => by have := hs i q; omega)
/-- X's climb is sd_ap -/
theorem sb_climb (H : sc_Sch cnt dl K F S W U P A Ow Pl Ct) (tb : sb_tab cnt K F S W P Ow Pl Un Cl Nu Ge Gl Gd live) (hk : k < 8) {l : Nat} (hl : l < cnt) (ho : Ow l = nI (k + 1)) (k0 : sd_n K l ≠ 0) (k4 : sd_n K l < 4)
    {J r : Nat} (hw : sx_way P (sd_up (sd_n P) l) J) (hr : Ct k = nI r) (hr' : r < 2 ^ 31) {w : Int64} {t : Nat → Bool} :
    ((∃ s, sd_S6 s ∧ sd_lb w s ∧ sd_lb (Gd l) s ∧ t = sd_set s (sd_n Pl l)) ∨ ∃ m, 1 ≤ m ∧ m ≤ J ∧ sx_adv Nu Gd (sd_n K) (sd_n Pl) (sd_n W) (sd_up (sd_n P) l) m w t) ↔
      ∃ s, sd_S6 s ∧ sd_lb w s ∧ sl_A cnt K F S W Ow Pl Cl Nu k (fun c => c = l) (decide (sd_n K l ≠ 2)) r s t := by
  have h24 := H.1.1
  obtain ⟨J', w', hC, hO, hs⟩ := sc_wayX H hk hl ho
  have eJ := sb_way1 hw w'
  subst eJ
  have lJ := (hO J (Nat.le_refl _)).1
  have er : r = sd_up (sd_n P) l J := by
    rw [hr] at hC
    exact sx_nIne hr' (by omega) hC
  have ol : sc_O cnt Ow (sb_V k) l := ⟨hl, ho⟩
  have ol' := sb_sub (sb_Vn hk) ol
  have ht := sc_tr (V := sb_V k) H (sb_V0 hk)
  have hcl : sd_clE (sd_n K) (sd_n F) (sd_n S) (sd_n Pl) (sc_O cnt Ow (sb_V k)) (fun c s => sd_lb (Cl c) s) := fun c oc s => tb.2.1 c (sb_sub (sb_Vn hk) oc) s
  have hnu : sd_nuE (sd_n K) (sd_n F) (sd_n S) (sd_n Pl) (sd_n W) (sc_O cnt Ow (sb_V k)) (fun c s => sd_lb (Nu c) s) := fun c oc s => tb.2.2.1 c (sb_sub (sb_Vn hk) oc) s
  have gdl := tb.2.2.2.2.2 l ol' k0 k4 J hw
  have ap := sd_apX (l := l) (k := decide (sd_n K l ≠ 2)) ht hcl hnu (sc_ne H) (sc_chp H) J hs
  have avj : ∀ s, sl_A cnt K F S W Ow Pl Cl Nu k (fun c => c = l) (decide (sd_n K l ≠ 2)) r s t ↔
      sd_ap (sd_n K) (sd_n F) (sd_n S) (sd_n Pl) (sd_n W) (fun c s => sd_lb (Cl c) s) (fun c s => sd_lb (Nu c) s) (sc_O cnt Ow (sb_V k)) (decide (sd_n K l ≠ 2)) l J (sd_up (sd_n P) l J) s t := by
    intro s
    constructor
    · rintro ⟨l', j, ol', kl, rfl, h'⟩
      have e1 := sd_ap_up (sc_chp H) j r s t h'
      -- the length is J
      have ej : j = J := by
        have inc : ∀ i, i < J → sd_up (sd_n P) l' i < sd_up (sd_n P) l' (i + 1) := fun i hi => by
          obtain ⟨o, ch⟩ := hs i hi
          rcases ch.2 with q | ⟨k7, q⟩
          · rw [q]; exact (sc_opF H o.1 ch.1).2.1
          · rw [q]; exact (sc_opS H o.1 ch.1 k7).2.1
        have mono : ∀ a i, i + a ≤ J → sd_up (sd_n P) l' i + a ≤ sd_up (sd_n P) l' (i + a) := by
          intro a
          induction a with
          | zero => intro i _; exact Nat.le_refl _
          | succ a ih =>
            intro i hi
            have := ih i (by omega)
            have := inc (i + a) (by omega)
            show _ ≤ sd_up (sd_n P) l' (i + a + 1)
            omega
        rcases Nat.lt_trichotomy j J with q | q | q
        · have := mono (J - j) j (by omega)
          rw [show j + (J - j) = J by omega, ← er, ← e1] at this
          omega
        · exact q
        · -- beyond the root there is no parent that is owned
          exfalso
          have hP1 := hw.2.2.2
          -- the path of length j passes J
          have path : ∀ (j c : Nat) (s t : Nat → Bool), sd_ap (sd_n K) (sd_n F) (sd_n S) (sd_n Pl) (sd_n W) (fun c s => sd_lb (Cl c) s) (fun c s => sd_lb (Nu c) s) (sc_O cnt Ow (sb_V k)) (decide (sd_n K l' ≠ 2)) l' j c s t →
              ∀ i, i < j → P (sd_up (sd_n P) l' i) ≠ -1 := by
            intro j
            induction j with
            | zero => intro c s t _ i hi; omega
            | succ j ih =>
              rintro c s t ⟨d, oc, ch, h⟩ i hi
              have ed : d = sd_up (sd_n P) l' j := by
                rcases h with ⟨_, h⟩ | ⟨_, _, h⟩
                · exact sd_ap_up (sc_chp H) j d s t h
                · exact sd_ap_up (sc_chp H) j d _ t h
              by_cases e : i = j
              · rw [e, ← ed]
                have c24 : c < 24 := by have := oc.1; omega
                rcases ch.2 with z | ⟨k7, z⟩
                · rw [z, (sc_opF H oc.1 ch.1).2.2.2.1]; exact sx_nIm1 (by omega)
                · rw [z, (sc_opS H oc.1 ch.1 k7).2.2.2.2.1]; exact sx_nIm1 (by omega)
              · rcases h with ⟨_, h⟩ | ⟨_, _, h⟩
                · exact ih d s t h i (by omega)
                · exact ih d _ t h i (by omega)
          exact path j r s t h' J q hP1
      rw [← er, ← ej]; exact h'
    · intro h'
      rw [← er] at h'
      exact ⟨l, J, ol, k4, rfl, h'⟩
  constructor
  · rintro (⟨s, h1, h2, h3, h4⟩ | ⟨m, m1, m2, k7, s, h1, h2, h3, h4, h5⟩)
    · exact ⟨s, h1, h2, (avj s).2 ((ap s t).2 (Or.inl ⟨(gdl s).1 h3, h4⟩))⟩
    · exact ⟨s, h1, h2, (avj s).2 ((ap s t).2 (Or.inr ⟨m, m1, m2, k7, h3, (gdl _).1 h4, h5⟩))⟩
  · rintro ⟨s, h1, h2, h3⟩
    rcases (ap s t).1 ((avj s).1 h3) with ⟨g, e⟩ | ⟨m, m1, m2, k7, h4, h5, h6⟩
    · exact Or.inl ⟨s, h1, h2, (gdl s).2 g, e⟩
    · exact Or.inr ⟨m, m1, m2, k7, s, h1, h2, h4, (gdl _).2 h5, h6⟩
end
end
section
/-! X's after; one level: runs, rows -/
section
variable {f_cellLimit f_definitionLimit f_depthLimit f_itemLimit f_cellCount f_definedCount f_live f_state f_depth : Int32}
variable {a_kinds a_firsts a_seconds a_widths a_uses a_parents a_attributed a_owners a_places a_contents a_items a_names a_late : Nat → Int32} {a_columns a_unused a_childless a_nullable a_growEarly a_growLate a_guards a_residuals a_next : Nat → Int64}
variable {cnt dl : Nat}
theorem sb_after (H : sc_Sch cnt dl a_kinds a_firsts a_seconds a_widths a_uses a_parents a_attributed a_owners a_places a_contents) (tb : sb_tab cnt a_kinds a_firsts a_seconds a_widths a_parents a_owners a_places a_unused a_childless a_nullable a_growEarly a_growLate a_guards f_live) (hc : sd_colE a_columns) {l k : Nat} (hl : l < 5) (hk : k < 8) {kind name extra : Int32} (kk : kind = 1 ∨ kind = 2 ∨ kind = 3) : ∃ res,
    (∀ t, sd_S6 t → (sd_lb res t ↔ ∃ r, r < 24 ∧ a_contents k = nI r ∧ (∃ s, sd_S6 s ∧ sd_lb (a_residuals (l * 8 + k)) s ∧
      sl_A cnt a_kinds a_firsts a_seconds a_widths a_owners a_places a_childless a_nullable k (sx_tk a_kinds a_firsts a_seconds kind name extra) (decide (¬ kind = 2)) r s t) ∧ ((kind = 2 → sd_lb (a_growEarly r) t) ∧ (¬ kind = 2 → sd_lb (a_growLate r) t)))) ∧
    ∀ post : Int64 → Prop, post res → wpX_after post (f_cellLimit, f_definitionLimit, f_depthLimit, f_itemLimit, f_cellCount, f_definedCount, f_live, f_state, f_depth, a_kinds, a_firsts, a_seconds, a_widths, a_uses, a_parents, a_attributed, a_owners, a_places, a_contents, a_columns, a_unused, a_childless, a_nullable, a_growEarly, a_growLate, a_guards, a_items, a_names, a_late, a_residuals, a_next) (nI l) (nI k) kind name extra := by
  have h24 := H.1.1
  have hC : a_contents k = -1 ∨ ∃ r, r < 24 ∧ a_contents k = nI r := by
    rcases H.2.2.2.2.1 k hk with h | ⟨r, h1, h2, _⟩
    · exact Or.inl h
    · exact Or.inr ⟨r, by omega, h2⟩
  -- the kind of a leaf that takes the item
  have kd : ∀ c, c < cnt → sx_tk a_kinds a_firsts a_seconds kind name extra c → sd_n a_kinds c ≠ 0 ∧ sd_n a_kinds c < 4 ∧ (sd_n a_kinds c = 2 ↔ kind = 2) := by
    intro c hc' tk
    have hK := tk.1
    rcases kk with q | q | q
    · rw [q] at hK
      have := sd_n_of (a := a_kinds) (m := 1) hK (by decide)
      rw [this, q]; decide
    · rw [q] at hK
      have := sd_n_of (a := a_kinds) (m := 2) hK (by decide)
      rw [this, q]; decide
    · rw [q] at hK
      have := sd_n_of (a := a_kinds) (m := 3) hK (by decide)
      rw [this, q]; decide
  obtain ⟨res, hres, hw⟩ := sx_after (f_cellLimit := f_cellLimit) (f_definitionLimit := f_definitionLimit) (f_depthLimit := f_depthLimit) (f_itemLimit := f_itemLimit) (f_cellCount := f_cellCount) (f_definedCount := f_definedCount) (f_live := f_live) (f_state := f_state) (f_depth := f_depth) (a_kinds := a_kinds) (a_firsts := a_firsts) (a_seconds := a_seconds) (a_widths := a_widths) (a_uses := a_uses) (a_parents := a_parents) (a_attributed := a_attributed) (a_owners := a_owners) (a_places := a_places) (a_contents := a_contents) (a_columns := a_columns) (a_unused := a_unused) (a_childless := a_childless) (a_nullable := a_nullable) (a_growEarly := a_growEarly) (a_growLate := a_growLate) (a_guards := a_guards) (a_items := a_items) (a_names := a_names) (a_late := a_late) (a_residuals := a_residuals) (a_next := a_next) hl hk (kind := kind) (name := name) (extra := extra)
    (AD := fun r c t => ∃ s, sd_S6 s ∧ sd_lb (a_residuals (l * 8 + k)) s ∧ sl_A cnt a_kinds a_firsts a_seconds a_widths a_owners a_places a_childless a_nullable k (fun x => x = c) (decide (sd_n a_kinds c ≠ 2)) r s t) hC
    (fun r r24 hr c hcr ho tk => by
      have rc := (sc_root H hk hr (by omega)).1
      rw [nI_1] at ho
      obtain ⟨k0, k4, _⟩ := kd c (by omega) tk
      obtain ⟨J, hy, _, hO, hs⟩ := sc_wayX H hk (show c < cnt by omega) ho
      have hO' : ∀ i, i ≤ J → sc_O cnt a_owners sb_own (sd_up (sd_n a_parents) c i) := fun i hi => sb_sub (sb_Vn hk) (hO i hi)
      obtain ⟨ra, h1, h2⟩ := sx_advance (f_cellLimit := f_cellLimit) (f_definitionLimit := f_definitionLimit) (f_depthLimit := f_depthLimit) (f_itemLimit := f_itemLimit) (f_cellCount := f_cellCount) (f_definedCount := f_definedCount) (f_live := f_live) (f_state := f_state) (f_depth := f_depth) (a_kinds := a_kinds) (a_firsts := a_firsts) (a_seconds := a_seconds) (a_widths := a_widths) (a_uses := a_uses) (a_parents := a_parents) (a_attributed := a_attributed) (a_owners := a_owners) (a_places := a_places) (a_contents := a_contents) (a_columns := a_columns) (a_unused := a_unused) (a_childless := a_childless) (a_nullable := a_nullable) (a_growEarly := a_growEarly) (a_growLate := a_growLate) (a_guards := a_guards) (a_items := a_items) (a_names := a_names) (a_late := a_late) (a_residuals := a_residuals) (a_next := a_next) hc hy (kd := sd_n a_kinds) (pl := sd_n a_places) (wd := sd_n a_widths) (w := a_residuals (l * 8 + k))
        (fun i hi => by
          have o := hO' i hi
          have tr := H.2.1 _ o.1
          have pl := sb_pl6 H o
          exact ⟨by have := tr.1.2; omega, tr.1.1, pl.2, tr.2.1.1, pl.1⟩)
        (by have := sb_leaf H (hO' 0 (by omega)) k0 k4; exact this.2)
      refine ⟨ra, fun t ht => ?_, h2⟩
      rw [h1 t ht]
      exact sb_climb H tb hk (show c < cnt by omega) ho k0 k4 hy hr (by omega))
    (fun r c t h0 _ => fun ⟨s, s6, hs, _⟩ => h0 s s6 hs)
  refine ⟨res, fun t ht => ?_, hw⟩
  rw [hres t ht]
  refine sy_ex_cg (fun r => sy_and_cg (fun r24 => sy_and_cg (fun hr => and_congr ?_ Iff.rfl)))
  have rc := (sc_root H hk hr (by omega)).1
  constructor
  · rintro ⟨m, m1, m2, m3, s, g1, g2, g3⟩
    refine ⟨s, g1, g2, (sl_A_or).2 ⟨m, m3, ?_⟩⟩
    have := (kd m (by omega) m3).2.2
    rw [show decide (¬ kind = 2) = decide (sd_n a_kinds m ≠ 2) by rw [decide_eq_decide, ← this]]
    exact g3
  · rintro ⟨s, g1, g2, g3⟩
    obtain ⟨m, m3, g4⟩ := (sl_A_or).1 g3
    have g5 := g4
    obtain ⟨l', j, ol, kl, e, _⟩ := g5
    have e : l' = m := e
    subst e
    have ho : a_owners l' = nI (k + 1) := ol.2
    refine ⟨l', sc_le H hk ol.1 ho hr (by omega), by rw [nI_1]; exact ho, m3, s, g1, g2, ?_⟩
    have := (kd l' ol.1 m3).2.2
    rw [show decide (¬ kind = 2) = decide (sd_n a_kinds l' ≠ 2) by rw [decide_eq_decide, ← this]] at g4
    exact g4
end

/-- a run of definition k over the items of a level, all of them -/
def sl_run (cnt : Nat) (K F S W Ow Pl : Nat → Int32) (Cl Nu : Nat → Int64) (iK iN iV iF : Nat → Int32) (lev n na : Nat) (op : Int32) (k r m : Nat) (s : Nat → Bool) : Prop :=
  sd_run (sl_AvT cnt K F S W Ow Pl Cl Nu k (sl_T K F S iK iN iV iF lev n op) (sl_kid na)) r (fun _ => true) m s
def sl_gr (Ge Gl : Nat → Int64) (b : Prop) (r : Nat) (s : Nat → Bool) : Prop := (b → sd_lb (Ge r) s) ∧ (¬ b → sd_lb (Gl r) s)
/-- the residuals of definition k that the items of a level lead to and that can grow -/
def sl_row (cnt : Nat) (K F S W Ow Pl Ct : Nat → Int32) (Cl Nu Ge Gl : Nat → Int64) (iK iN iV iF : Nat → Int32) (lev n na : Nat) (op : Int32) (k : Nat) (s : Nat → Bool) : Prop :=
  ∃ r, r < cnt ∧ Ct k = nI r ∧ sl_run cnt K F S W Ow Pl Cl Nu iK iN iV iF lev n na op k r n s ∧ sl_gr Ge Gl (na = n) r s
/-- the items of a level are in order -/
def sl_ok (live : Int32) (iK iN iV iF : Nat → Int32) (lev n na : Nat) (op : Int32) : Prop :=
  n ≤ 6 ∧ sl_na iK lev n na ∧ (∀ i, i < n → iK (lev * 6 + i) = 0 → i + 1 = n) ∧
  (∀ i, i < n → iK (lev * 6 + i) = 3 → ∀ j, bt (iF (lev * 6 + i)) j = true → bt live j = true) ∧ (∀ j, bt op j = true → bt live j = true)
section
variable {cnt dl : Nat} {K F S W U P A Ow Pl Ct : Nat → Int32} {col Un Cl Nu Ge Gl Gd : Nat → Int64} {live : Int32}
variable {iK iN iV iF iK' iN' iV' iF' : Nat → Int32} {lev n na n' na' k r m : Nat} {op op' inh res : Int32} {s t : Nat → Bool}
theorem sl_run_0 : sl_run cnt K F S W Ow Pl Cl Nu iK iN iV iF lev n na op k r 0 s ↔ s = sd_e := Iff.rfl
theorem sl_run_S : sl_run cnt K F S W Ow Pl Cl Nu iK iN iV iF lev n na op k r (m + 1) t ↔ ∃ s, sl_run cnt K F S W Ow Pl Cl Nu iK iN iV iF lev n na op k r m s ∧ sl_A cnt K F S W Ow Pl Cl Nu k (fun c => sl_T K F S iK iN iV iF lev n op c m) (sl_kid na m) r s t :=
  ⟨fun h => h.elim (fun q => q.2) (fun q => by cases q.1), fun h => Or.inl ⟨rfl, h⟩⟩
/-- the first items decide the run over them -/
theorem sl_run_cg (h1 : m ≤ n) (h2 : m ≤ n') (hi : ∀ i, i < m → iK' (lev * 6 + i) = iK (lev * 6 + i) ∧ iN' (lev * 6 + i) = iN (lev * 6 + i) ∧ iV' (lev * 6 + i) = iV (lev * 6 + i) ∧ iF' (lev * 6 + i) = iF (lev * 6 + i))
    (hk : ∀ i, i < m → sl_kid na' i = sl_kid na i) (ho : ∀ i, i < m → ¬ iK (lev * 6 + i) = 0) :
    sl_run cnt K F S W Ow Pl Cl Nu iK' iN' iV' iF' lev n' na' op' k r m s ↔ sl_run cnt K F S W Ow Pl Cl Nu iK iN iV iF lev n na op k r m s := by
  induction m generalizing s with
  | zero => exact Iff.rfl
  | succ m ih =>
    rw [sl_run_S, sl_run_S]
    have ih' := fun (s : Nat → Bool) => ih (s := s) (by omega) (by omega) (fun i hi' => hi i (by omega)) (fun i hi' => hk i (by omega)) (fun i hi' => ho i (by omega))
    obtain ⟨e1, e2, e3, e4⟩ := hi m (by omega)
    have o := ho m (by omega)
    have tt : ∀ c, sl_T K F S iK' iN' iV' iF' lev n' op' c m ↔ sl_T K F S iK iN iV iF lev n op c m := by
      intro c
      unfold sl_T
      rw [e1, e2, e3, e4]
      constructor
      · rintro ⟨_, q | q | q | q⟩
        · exact ⟨by omega, Or.inl q⟩
        · exact ⟨by omega, Or.inr (Or.inl q)⟩
        · exact ⟨by omega, Or.inr (Or.inr (Or.inl q))⟩
        · exact absurd q.1 o
      · rintro ⟨_, q | q | q | q⟩
        · exact ⟨by omega, Or.inl q⟩
        · exact ⟨by omega, Or.inr (Or.inl q)⟩
        · exact ⟨by omega, Or.inr (Or.inr (Or.inl q))⟩
        · exact absurd q.1 o
    rw [hk m (by omega)]
    constructor
    · rintro ⟨s, a, b⟩
      exact ⟨s, (ih' s).1 a, (sl_A_cg (fun c _ _ _ => tt c)).1 b⟩
    · rintro ⟨s, a, b⟩
      exact ⟨s, (ih' s).2 a, (sl_A_cg (fun c _ _ _ => tt c)).2 b⟩
theorem sl_Tc (hna : sl_na iK lev n na) {c e : Nat} (h : sl_T K F S iK iN iV iF lev n op c e) : (sd_n K c = 1 ∨ sd_n K c = 2 ∨ sd_n K c = 3) ∧ (sl_kid na e = true ↔ sd_n K c ≠ 2) := by
  obtain ⟨he, q⟩ := h
  rw [sl_kt]
  have e1 := hna.2 e he
  rcases q with q | q | q | q
  · have := e1.1 q.1
    exact ⟨Or.inr (Or.inl q.2.1), fun z => by omega, fun z => absurd q.2.1 z⟩
  · have : ¬ e < na := fun z => by have := e1.2 z; rw [q.1] at this; exact absurd this (by decide)
    exact ⟨Or.inl q.2, fun z => by omega, fun z => by omega⟩
  · have : ¬ e < na := fun z => by have := e1.2 z; rw [q.1] at this; exact absurd this (by decide)
    exact ⟨Or.inr (Or.inr q.2.1), fun z => by omega, fun z => by omega⟩
  · have : ¬ e < na := fun z => by have := e1.2 z; rw [q.1] at this; exact absurd this (by decide)
    exact ⟨Or.inr (Or.inr q.2.1), fun z => by omega, fun z => by omega⟩
theorem sl_env (H : sc_Sch cnt dl K F S W U P A Ow Pl Ct) (tb : sb_tab cnt K F S W P Ow Pl Un Cl Nu Ge Gl Gd live) (hk : k < 8) (hna : sl_na iK lev n na) :
    sd_Env (sd_n K) (sd_n F) (sd_n S) (sd_n Pl) (sd_n W) (sc_O cnt Ow (sb_V k)) (fun c s => sd_lb (Cl c) s) (fun c s => sd_lb (Nu c) s) (fun c => A c = 1)
      (sl_T K F S iK iN iV iF lev n op) (sl_kid na) (sl_AvT cnt K F S W Ow Pl Cl Nu k (sl_T K F S iK iN iV iF lev n op) (sl_kid na)) := sb_env H tb hk (fun c e _ h => sl_Tc hna h)
/-- runs stay among the six leaves -/
theorem sl_run_6 (H : sc_Sch cnt dl K F S W U P A Ow Pl Ct) (tb : sb_tab cnt K F S W P Ow Pl Un Cl Nu Ge Gl Gd live) (hk : k < 8) (hna : sl_na iK lev n na) (hr : Ct k = nI r) (hr' : r < cnt)
    (h : sl_run cnt K F S W Ow Pl Cl Nu iK iN iV iF lev n na op k r m s) : sd_S6 s := by
  have h24 := H.1.1
  obtain ⟨o, l6⟩ := sb_wr H hk hr (by omega)
  exact sb_S6in l6 (sd_rin (sl_env (op := op) (iN := iN) (iV := iV) (iF := iF) H tb hk hna) o m s h)
theorem sl_f01 {c : Nat} (h : sd_n K c = 0 ∨ sd_n K c = 1) : sx_fil K S live c ∧ sb_filL K S live c :=
  ⟨Or.inl (by omega), Or.inl (by omega), by omega⟩
/-- a leaf that takes an item could be filled -/
theorem sl_Tf (ok : sl_ok live iK iN iV iF lev n na op) {c e : Nat} (h : sl_T K F S iK iN iV iF lev n op c e) : (sl_kid na e = true → sb_filL K S live c) ∧ (sl_kid na e = false → sx_fil K S live c) := by
  obtain ⟨n6, hna, h0, h3, ho⟩ := ok
  have tc := (sl_Tc hna h).2
  obtain ⟨he, q⟩ := h
  refine ⟨fun z => ?_, fun z => ?_⟩
  · have k2 := tc.1 z
    refine ⟨?_, k2⟩
    rcases q with q | q | q | q
    · exact absurd q.2.1 k2
    · exact Or.inl (by omega)
    · exact Or.inr (h3 e he q.1 _ q.2.2.2)
    · exact Or.inr (ho _ q.2.2.2)
  · have k2 : sd_n K c = 2 := Classical.byContradiction (fun w => by rw [tc.2 w] at z; cases z)
    exact Or.inl (by omega)
/-- what can't grow leads to nothing that can -/
theorem sl_prune (H : sc_Sch cnt dl K F S W U P A Ow Pl Ct) (tb : sb_tab cnt K F S W P Ow Pl Un Cl Nu Ge Gl Gd live) (hk : k < 8) (ok : sl_ok live iK iN iV iF lev n na op) (hr : Ct k = nI r) (hr' : r < cnt)
    (h : sl_A cnt K F S W Ow Pl Cl Nu k (fun c => sl_T K F S iK iN iV iF lev n op c m) (sl_kid na m) r s t) (g : sl_gr Ge Gl (m + 1 ≤ na) r t) : sl_gr Ge Gl (m ≤ na) r s := by
  have h24 := H.1.1
  obtain ⟨o, _⟩ := sb_wr H hk hr (by omega)
  have E := sl_env (op := op) (iN := iN) (iV := iV) (iF := iF) H tb hk ok.2.1
  have h' : sl_AvT cnt K F S W Ow Pl Cl Nu k (sl_T K F S iK iN iV iF lev n op) (sl_kid na) r m s t := h
  by_cases q : m + 1 ≤ na
  · have kf : sl_kid na m = false := decide_eq_false (by omega)
    refine ⟨fun _ => ?_, fun z => by omega⟩
    exact sd_pr E (sb_ge tb hk) (fun c _ z => (sl_f01 z).1) (e := m) (fun c _ T => (sl_Tf ok T).2 kf) r o s t h' (g.1 q)
  · have kt : sl_kid na m = true := decide_eq_true (by omega)
    have gs := sd_pr E (sb_gl tb hk) (fun c _ z => (sl_f01 z).2) (e := m) (fun c _ T => (sl_Tf ok T).1 kt) r o s t h' (g.2 q)
    exact ⟨fun _ => sd_grM E.1 (sb_gl tb hk) (sb_ge tb hk) (fun c _ _ f => f.1) r o s gs, fun _ => gs⟩
/-- a level that can grow: so does its definition from nothing -/
theorem sl_run_live (H : sc_Sch cnt dl K F S W U P A Ow Pl Ct) (tb : sb_tab cnt K F S W P Ow Pl Un Cl Nu Ge Gl Gd live) (hk : k < 8) (ok : sl_ok live iK iN iV iF lev n na op) (hr : Ct k = nI r) (hr' : r < cnt) :
    ∀ (m : Nat) (s : Nat → Bool), m ≤ n → sl_run cnt K F S W Ow Pl Cl Nu iK iN iV iF lev n na op k r m s → sl_gr Ge Gl (m ≤ na) r s → sd_lb (Ge r) sd_e := by
  intro m
  induction m with
  | zero => intro s _ h g; rw [← show s = sd_e from h]; exact g.1 (by omega)
  | succ m ih =>
    intro t hm h g
    obtain ⟨s, a, b⟩ := sl_run_S.1 h
    exact ih s (by omega) a (sl_prune H tb hk ok hr hr' b g)
end
end
section
/-! A level against Y's tables; the inhabited definitions -/
theorem sl_all (n : Nat) : sd_mk (fun _ => true) n = 2 ^ n - 1 := by
  refine sd_mk_eq (by have := Nat.two_pow_pos n; omega) (fun i hi => ?_)
  rw [Nat.testBit_two_pow_sub_one, decide_eq_true hi]
section
variable {cnt dl : Nat} {K F S W U P A Ow Pl Ct : Nat → Int32} {col Un Cl Nu Ge Gl Gd : Nat → Int64} {live : Int32}
variable {iK iN iV iF iK' iN' iV' iF' : Nat → Int32} {lev n na n' na' k r m : Nat} {op op' inh res : Int32} {s t : Nat → Bool}
theorem sl_oky (H : sc_Sch cnt dl K F S W U P A Ow Pl Ct) : ∀ c, c < cnt → sy_ok K F S c := by
  intro c hc
  have h24 := H.1.1
  obtain ⟨t1, _, _, _, _, _, t7, t8, _, t10⟩ := H.2.1 c hc
  exact ⟨by omega, t1.1, t1.2, t7, fun k => ⟨(t8 k).1, (t8 k).2.1⟩, fun k k7 => ⟨(t10 k k7).1, (t10 k k7).2.1⟩⟩
theorem sl_okx (H : sc_Sch cnt dl K F S W U P A Ow Pl Ct) : ∀ c, c < cnt → ¬ Ow c = 0 → sx_ok K F S Pl c := by
  intro c hc ho
  have h24 := H.1.1
  obtain ⟨t1, _, _, _, _, _, t7, t8, _, t10⟩ := H.2.1 c hc
  refine ⟨by omega, t1.1, t1.2, t7, fun k => ⟨(t8 k).1, (t8 k).2.1⟩, fun k k7 => ⟨(t10 k k7).1, (t10 k k7).2.1⟩, fun k0 k4 => ⟨(sb_pl6 H ⟨hc, ho⟩).2, (sb_leaf H ⟨hc, ho⟩ k0 k4).2⟩⟩
theorem sl_useU (H : sc_Sch cnt dl K F S W U P A Ow Pl Ct) : ∀ c, c < cnt → ∃ u, u < 10 ∧ U c = nI u := by
  intro c hc
  rcases H.2.2.1 c hc with ⟨h, _⟩ | ⟨h, _⟩ | ⟨k, hk, h, _⟩
  · exact ⟨0, by omega, h⟩
  · exact ⟨1, by omega, h⟩
  · exact ⟨2 + k, by omega, h⟩
/-- contents by uses and by definitions -/
theorem sl_ct (H : sc_Sch cnt dl K F S W U P A Ow Pl Ct) {j e : Nat} (hj : j < 8) : (e < cnt ∧ U e = nI (2 + j)) ↔ (e < cnt ∧ Ct j = nI e) := by
  have h24 := H.1.1
  constructor
  · rintro ⟨he, hu⟩
    refine ⟨he, ?_⟩
    rcases H.2.2.1 e he with ⟨h, _⟩ | ⟨h, _⟩ | ⟨k, hk, h, _, _, h5⟩
    · rw [hu] at h; exact absurd (sx_nIne (b := 0) (by omega) (by omega) h) (by omega)
    · rw [hu] at h; exact absurd (sx_nIne (b := 1) (by omega) (by omega) h) (by omega)
    · rw [hu] at h
      have := sx_nIne (by omega) (by omega) h
      have e' : k = j := by omega
      rw [e'] at h5; exact h5
  · rintro ⟨he, hc⟩
    exact ⟨he, (sc_root H hj hc (by omega)).2.1⟩
/-- Y's tables against the runs, for any gr with the same fillable leaves -/
theorem sl_gresG (H : sc_Sch cnt dl K F S W U P A Ow Pl Ct) (tb : sb_tab cnt K F S W P Ow Pl Un Cl Nu Ge Gl Gd live) (n6 : n ≤ 6) (hna : sl_na iK lev n na) (h0 : ∀ i, i < n → iK (lev * 6 + i) = 0 → i + 1 = n)
    {kids texts : Nat} {Mt Gt : Nat → Int32} (hk : sy_mK iK lev n kids texts) (hT : sy_TB K F S iK iN iV iF cnt lev n kids texts inh op Mt Gt (cnt * 64))
    {j : Nat} (hj : j < 8) {gr : Nat → (Nat → Bool) → Prop} (hg : sd_grE (sd_n K) (sd_n F) (sd_n S) (sd_n Pl) (sd_n W) (sc_O cnt Ow (sb_V j)) (sl_fil K S inh na n) gr)
    {r : Nat} (hr : Ct j = nI r) (hr' : r < cnt) :
    (¬ Gt (r * 64 + (2 ^ n - 1)) = 0 ↔ ∃ s, sl_run cnt K F S W Ow Pl Cl Nu iK iN iV iF lev n na op j r n s ∧ gr r s) ∧
    (¬ Mt (r * 64 + (2 ^ n - 1)) = 0 ↔ (∀ i, i < n → ¬ iK (lev * 6 + i) = 0) ∧ ∃ s, sl_run cnt K F S W Ow Pl Cl Nu iK iN iV iF lev n na op j r n s ∧ sd_lb (Nu r) s) := by
  have h24 := H.1.1
  obtain ⟨o, _⟩ := sb_wr H hj hr (by omega)
  have E := sl_env (op := op) (iN := iN) (iV := iV) (iF := iF) H tb hj hna
  have mg := sl_mgE (sl_oky H) n6 hk hna hT (O := sc_O cnt Ow (sb_V j)) (fun c oc => oc.1)
  obtain ⟨p1, p2⟩ := sd_mg E (sl_mo na) hg (fun c _ q => ⟨Or.inl (by omega), fun z => by omega⟩) (st := sl_st iK lev)
    (fun i hi si => by
      have i0 := of_decide_eq_true si
      refine ⟨decide_eq_true ?_, h0 i hi i0⟩
      refine Classical.byContradiction (fun q => ?_)
      have := (hna.2 i hi).2 (by omega)
      rw [i0] at this; exact absurd this (by decide))
    (fun c i _ k1 T => by
      obtain ⟨_, q | q | q | q⟩ := T
      · have := q.2.1; omega
      · exact decide_eq_false (by rw [q.1]; decide)
      · have := q.2.1; omega
      · have := q.2.1; omega) mg r o
  have q1 := p1 (fun _ => true)
  have q2 := p2 (fun _ => true)
  unfold sl_M at q1 q2
  rw [sl_all] at q1 q2
  refine ⟨q2, q1.trans (and_congr ?_ Iff.rfl)⟩
  exact ⟨fun h i hi => of_decide_eq_false (h i hi rfl), fun h i hi _ => decide_eq_false (h i hi)⟩
theorem sl_grE (tb : sb_tab cnt K F S W P Ow Pl Un Cl Nu Ge Gl Gd live) {j : Nat} (hj : j < 8) (nn : na ≤ n) : sd_grE (sd_n K) (sd_n F) (sd_n S) (sd_n Pl) (sd_n W) (sc_O cnt Ow (sb_V j)) (sl_fil K S live na n) (sl_gr Ge Gl (na = n)) := by
  intro c oc s
  by_cases e : na = n
  · have g : ∀ c s, sl_gr Ge Gl (na = n) c s ↔ sd_lb (Ge c) s := fun c s => ⟨fun q => q.1 e, fun q => ⟨fun _ => q, fun z => absurd e z⟩⟩
    obtain ⟨a1, a2, a3, a4, a5⟩ := sb_ge tb hj c oc s
    refine ⟨fun k => ?_, fun k => ?_, fun k => ?_, fun k => ?_, fun k => ?_⟩
    · rw [g]
      exact (a1 k).trans (or_congr ⟨fun q => ⟨q, fun _ => e⟩, fun q => q.1⟩ Iff.rfl)
    · rw [g, g]; exact a2 k
    · rw [g, g, g]; exact a3 k
    · rw [g, g, g]; exact a4 k
    · rw [g, g, g]; exact a5 k
  · have g : ∀ c s, sl_gr Ge Gl (na = n) c s ↔ sd_lb (Gl c) s := fun c s => ⟨fun q => q.2 e, fun q => ⟨fun z => absurd z e, fun _ => q⟩⟩
    obtain ⟨a1, a2, a3, a4, a5⟩ := sb_gl tb hj c oc s
    refine ⟨fun k => ?_, fun k => ?_, fun k => ?_, fun k => ?_, fun k => ?_⟩
    · rw [g]
      exact (a1 k).trans (or_congr ⟨fun q => ⟨q.1, fun z => absurd z q.2⟩, fun q => ⟨q.1, fun z => e (q.2 z)⟩⟩ Iff.rfl)
    · rw [g, g]; exact a2 k
    · rw [g, g, g]; exact a3 k
    · rw [g, g, g]; exact a4 k
    · rw [g, g, g]; exact a5 k
/-- what Y finds at a level is what X's rows hold -/
theorem sl_gresR (H : sc_Sch cnt dl K F S W U P A Ow Pl Ct) (tb : sb_tab cnt K F S W P Ow Pl Un Cl Nu Ge Gl Gd live) (ok : sl_ok live iK iN iV iF lev n na op) (h : sy_gres K F S U iK iN iV iF cnt lev n live op res) (j : Nat) :
    bt res j = true ↔ j < 8 ∧ ∃ s, sl_row cnt K F S W Ow Pl Ct Cl Nu Ge Gl iK iN iV iF lev n na op j s := by
  obtain ⟨kids, texts, M, G, hk, hT, hb⟩ := h
  rw [hb j]
  constructor
  · rintro ⟨e, he, hu, hj, hG⟩
    obtain ⟨_, hc⟩ := (sl_ct H hj).1 ⟨he, hu⟩
    obtain ⟨s, h1, h2⟩ := (sl_gresG H tb ok.1 ok.2.1 ok.2.2.1 hk hT hj (sl_grE tb hj ok.2.1.1) hc he).1.1 hG
    exact ⟨hj, s, e, he, hc, h1, h2⟩
  · rintro ⟨hj, s, e, he, hc, h1, h2⟩
    exact ⟨e, he, ((sl_ct H hj).2 ⟨he, hc⟩).2, hj, (sl_gresG H tb ok.1 ok.2.1 ok.2.2.1 hk hT hj (sl_grE tb hj ok.2.1.1) hc he).1.2 ⟨s, h1, h2⟩⟩
theorem sl_mresR (H : sc_Sch cnt dl K F S W U P A Ow Pl Ct) (tb : sb_tab cnt K F S W P Ow Pl Un Cl Nu Ge Gl Gd live) (ok : sl_ok live iK iN iV iF lev n na op) (h0 : ∀ i, i < n → ¬ iK (lev * 6 + i) = 0) (h : sy_mres K F S U iK iN iV iF cnt lev n live op res) (j : Nat) :
    bt res j = true ↔ j < 8 ∧ ∃ r s, r < cnt ∧ Ct j = nI r ∧ sl_run cnt K F S W Ow Pl Cl Nu iK iN iV iF lev n na op j r n s ∧ sd_lb (Nu r) s := by
  obtain ⟨kids, texts, M, G, hk, hT, hb⟩ := h
  rw [hb j]
  constructor
  · rintro ⟨e, he, hu, hj, hG⟩
    obtain ⟨_, hc⟩ := (sl_ct H hj).1 ⟨he, hu⟩
    obtain ⟨_, s, h1, h2⟩ := (sl_gresG H tb ok.1 ok.2.1 ok.2.2.1 hk hT hj (sl_grE tb hj ok.2.1.1) hc he).2.1 hG
    exact ⟨hj, e, s, he, hc, h1, h2⟩
  · rintro ⟨hj, e, s, he, hc, h1, h2⟩
    exact ⟨e, he, ((sl_ct H hj).2 ⟨he, hc⟩).2, hj, (sl_gresG H tb ok.1 ok.2.1 ok.2.2.1 hk hT hj (sl_grE tb hj ok.2.1.1) hc he).2.2 ⟨h0, s, h1, h2⟩⟩

/-! the inhabited definitions -/
theorem sb_nxm (H : sc_Sch cnt dl K F S W U P A Ow Pl Ct) (un : ∀ c, sc_O cnt Ow sb_own c → ∀ s, sd_lb (Un c) s ↔ sd_un (sd_n Pl c) (sd_n W c) s) {L1 L1' L2 L2' : Int32}
    (h1 : sx_nx cnt K F S Ow Ct Un L1 L1') (h2 : sx_nx cnt K F S Ow Ct Un L2 L2') (hs : ∀ j, bt L1 j = true → bt L2 j = true) : ∀ j, bt L1' j = true → bt L2' j = true := by
  obtain ⟨Ge1, Gl1, g1, b1⟩ := h1
  obtain ⟨Ge2, Gl2, g2, b2⟩ := h2
  intro j hj
  obtain ⟨j8, r, r24, hr, hl⟩ := (b1 j).1 hj
  refine (b2 j).2 ⟨j8, r, r24, hr, ?_⟩
  obtain ⟨o, _⟩ := sb_wr H j8 hr (by omega)
  exact sd_grM (sc_tr (V := sb_own) H sb_own0) (sb_grE H un g1).1 (sb_grE H un g2).1 (fun c _ _ q => q.imp id (hs _)) r (sb_sub (sb_Vn j8) o) sd_e hl
theorem sb_nx1 (H : sc_Sch cnt dl K F S W U P A Ow Pl Ct) (un : ∀ c, sc_O cnt Ow sb_own c → ∀ s, sd_lb (Un c) s ↔ sd_un (sd_n Pl c) (sd_n W c) s) {L L' L'' : Int32}
    (h1 : sx_nx cnt K F S Ow Ct Un L L') (h2 : sx_nx cnt K F S Ow Ct Un L L'') : L' = L'' := by
  refine b_ext (fun i hi => ?_)
  have a := sb_nxm H un h1 h2 (fun _ q => q) i
  have b := sb_nxm H un h2 h1 (fun _ q => q) i
  revert a b
  cases bt L' i <;> cases bt L'' i <;> simp
/-- bits below n -/
def sb_c (L : Int32) : Nat → Nat
  | 0 => 0
  | n + 1 => sb_c L n + (if bt L n = true then 1 else 0)
theorem sb_c_le (L : Int32) : ∀ n, sb_c L n ≤ n := by
  intro n
  induction n with
  | zero => exact Nat.le_refl _
  | succ n ih => unfold sb_c; split <;> omega
theorem sb_c_mono {L L' : Int32} (h : ∀ j, bt L j = true → bt L' j = true) : ∀ n, sb_c L n ≤ sb_c L' n := by
  intro n
  induction n with
  | zero => exact Nat.le_refl _
  | succ n ih =>
    unfold sb_c
    by_cases q : bt L n = true
    · rw [if_pos q, if_pos (h n q)]; omega
    · rw [if_neg q]; omega
theorem sb_c_lt {L L' : Int32} (h : ∀ j, bt L j = true → bt L' j = true) {i : Nat} (h1 : ¬ bt L i = true) (h2 : bt L' i = true) : ∀ n, i < n → sb_c L n < sb_c L' n := by
  intro n
  induction n with
  | zero => intro q; omega
  | succ n ih =>
    intro hi
    unfold sb_c
    by_cases e : i = n
    · subst e
      rw [if_neg h1, if_pos h2]
      have := sb_c_mono h i
      omega
    · have := ih (by omega)
      by_cases q : bt L n = true
      · rw [if_pos q, if_pos (h n q)]; omega
      · rw [if_neg q]; omega
/-- eight rounds reach the fixed point -/
theorem sb_fix (H : sc_Sch cnt dl K F S W U P A Ow Pl Ct) (un : ∀ c, sc_O cnt Ow sb_own c → ∀ s, sd_lb (Un c) s ↔ sd_un (sd_n Pl c) (sd_n W c) s) {L : Nat → Int32}
    (l0 : L 0 = 0) (hL : ∀ i, i < 9 → sx_nx cnt K F S Ow Ct Un (L i) (L (i + 1))) : L 8 = L 9 := by
  have up : ∀ i, i < 9 → ∀ j, bt (L i) j = true → bt (L (i + 1)) j = true := by
    intro i
    induction i with
    | zero => intro _ j hj; rw [l0, b_0] at hj; cases hj
    | succ i ih => intro hi; exact sb_nxm H un (hL i (by omega)) (hL (i + 1) hi) (ih (by omega))
  have b8 : ∀ i, i ≤ 9 → ∀ j, bt (L i) j = true → j < 8 := by
    intro i hi j hj
    cases i with
    | zero => rw [l0, b_0] at hj; cases hj
    | succ i =>
      obtain ⟨_, _, _, b⟩ := hL i (by omega)
      exact ((b j).1 hj).1
  have gr : ∀ i, i ≤ 9 → (∃ m, m < i ∧ L m = L (m + 1)) ∨ i ≤ sb_c (L i) 8 := by
    intro i
    induction i with
    | zero => intro _; exact Or.inr (Nat.zero_le _)
    | succ i ih =>
      intro hi
      rcases ih (by omega) with ⟨m, h1, h2⟩ | h
      · exact Or.inl ⟨m, by omega, h2⟩
      · by_cases e : L i = L (i + 1)
        · exact Or.inl ⟨i, by omega, e⟩
        · refine Or.inr ?_
          have : ∃ j, j < 8 ∧ ¬ bt (L i) j = true ∧ bt (L (i + 1)) j = true := by
            refine Classical.byContradiction (fun q => e (b_ext (fun j hj => ?_)))
            have a := up i (by omega) j
            by_cases c : bt (L (i + 1)) j = true
            · by_cases d : bt (L i) j = true
              · rw [c, d]
              · exact absurd ⟨j, b8 (i + 1) hi j c, d, c⟩ q
            · have d : ¬ bt (L i) j = true := fun z => c (a z)
              rw [sd_nf c, sd_nf d]
          obtain ⟨j, j8, h1, h2⟩ := this
          have := sb_c_lt (up i (by omega)) h1 h2 8 j8
          omega
  have eq : ∃ m, m < 9 ∧ L m = L (m + 1) := by
    rcases gr 9 (by omega) with h | h
    · exact h
    · have := sb_c_le (L 9) 8; omega
  obtain ⟨m, m9, em⟩ := eq
  have pr : ∀ d, m + d < 9 → L (m + d) = L (m + d + 1) := by
    intro d
    induction d with
    | zero => intro _; exact em
    | succ d ih =>
      intro hd
      have e := ih (by omega)
      have h1 := hL (m + d) (by omega)
      have h2 := hL (m + d + 1) (by omega)
      rw [e] at h1
      exact sb_nx1 H un h1 h2
  have := pr (8 - m) (by omega)
  rw [show m + (8 - m) = 8 by omega] at this
  exact this
/-- the chain that leads to live -/
def sb_liv (cnt : Nat) (K F S Ow Ct : Nat → Int32) (Un : Nat → Int64) (live : Int32) : Prop :=
  ∃ L : Nat → Int32, L 0 = 0 ∧ (∀ i, i < 9 → sx_nx cnt K F S Ow Ct Un (L i) (L (i + 1))) ∧ L 9 = live
/-- Y's inhabited set is X's -/
theorem sb_inh (H : sc_Sch cnt dl K F S W U P A Ow Pl Ct) (tb : sb_tab cnt K F S W P Ow Pl Un Cl Nu Ge Gl Gd live) (lv : sb_liv cnt K F S Ow Ct Un live) {Q : Nat → Int32} (q0 : Q 0 = 0)
    (hQ : ∀ i, i < 8 → sy_gres K F S U iK iN iV iF cnt 0 0 (Q i) 0 (Q (i + 1))) : Q 8 = live := by
  obtain ⟨L, l0, hL, l9⟩ := lv
  have un := tb.1
  have same : ∀ i, i ≤ 8 → Q i = L i := by
    intro i
    induction i with
    | zero => intro _; rw [q0, l0]
    | succ i ih =>
      intro hi
      have e := ih (by omega)
      obtain ⟨kids, texts, M, G, hk, hT, hb⟩ := hQ i (by omega)
      obtain ⟨Ge', Gl', g, b⟩ := hL i (by omega)
      have hT' : sy_TB K F S iK iN iV iF cnt 0 0 kids texts (L i) 0 M G (cnt * 64) := by rw [← e]; exact hT
      have h24 := H.1.1
      have hna : sl_na iK 0 0 0 := ⟨Nat.le_refl _, fun i hi => by omega⟩
      have main : ∀ j r, j < 8 → r < cnt → Ct j = nI r → (¬ G (r * 64 + (2 ^ 0 - 1)) = 0 ↔ sd_lb (Ge' r) sd_e) := by
        intro j r j8 hr' hr
        have hg : sd_grE (sd_n K) (sd_n F) (sd_n S) (sd_n Pl) (sd_n W) (sc_O cnt Ow (sb_V j)) (sl_fil K S (L i) 0 0) (fun c s => sd_lb (Ge' c) s) := by
          intro c oc s
          obtain ⟨a1, a2, a3, a4, a5⟩ := (sb_grE H un g).1 c (sb_sub (sb_Vn j8) oc) s
          exact ⟨fun k => (a1 k).trans (or_congr ⟨fun q => ⟨q, fun _ => rfl⟩, fun q => q.1⟩ Iff.rfl), a2, a3, a4, a5⟩
        have z := (sl_gresG H tb (by omega) hna (fun i hi => by omega) hk hT' j8 hg hr hr').1
        rw [z]
        exact ⟨fun ⟨s, h1, h2⟩ => by rw [← show s = sd_e from h1]; exact h2, fun h => ⟨sd_e, rfl, h⟩⟩
      have bits : ∀ j, bt (Q (i + 1)) j = true ↔ bt (L (i + 1)) j = true := by
        intro j
        rw [hb j, b j]
        constructor
        · rintro ⟨c, hc, hu, j8, hG⟩
          obtain ⟨_, hct⟩ := (sl_ct H j8).1 ⟨hc, hu⟩
          exact ⟨j8, c, by omega, hct, (main j c j8 hc hct).1 hG⟩
        · rintro ⟨j8, r, r24, hct, hl⟩
          have hr := (sc_root H j8 hct (by omega)).1
          exact ⟨r, hr, ((sl_ct H j8).2 ⟨hr, hct⟩).2, j8, (main j r j8 hr hct).2 hl⟩
      refine b_ext (fun j _ => ?_)
      have := bits j
      revert this
      cases bt (Q (i + 1)) j <;> cases bt (L (i + 1)) j <;> simp
  rw [same 8 (by omega), sb_fix H un l0 hL, l9]
/-- live, by X's table -/
theorem sb_live (H : sc_Sch cnt dl K F S W U P A Ow Pl Ct) (tb : sb_tab cnt K F S W P Ow Pl Un Cl Nu Ge Gl Gd live) (lv : sb_liv cnt K F S Ow Ct Un live) (j : Nat) :
    bt live j = true ↔ j < 8 ∧ ∃ r, r < cnt ∧ Ct j = nI r ∧ sd_lb (Ge r) sd_e := by
  obtain ⟨L, l0, hL, l9⟩ := lv
  have un := tb.1
  have e89 := sb_fix H un l0 hL
  obtain ⟨Ge', Gl', g, b⟩ := hL 8 (by omega)
  rw [e89, l9] at g
  rw [l9] at b
  rw [b j]
  have same : ∀ r, sc_O cnt Ow sb_own r → (sd_lb (Ge' r) sd_e ↔ sd_lb (Ge r) sd_e) := fun r o =>
    ⟨sd_grM (sc_tr (V := sb_own) H sb_own0) (sb_grE H un g).1 tb.2.2.2.1 (fun c _ _ q => q) r o sd_e,
     sd_grM (sc_tr (V := sb_own) H sb_own0) tb.2.2.2.1 (sb_grE H un g).1 (fun c _ _ q => q) r o sd_e⟩
  constructor
  · rintro ⟨j8, r, r24, hr, hl⟩
    obtain ⟨o, _⟩ := sb_wr H j8 hr (by omega)
    exact ⟨j8, r, o.1, hr, (same r (sb_sub (sb_Vn j8) o)).1 hl⟩
  · rintro ⟨j8, r, r24, hr, hl⟩
    have h24 := H.1.1
    obtain ⟨o, _⟩ := sb_wr H j8 hr (by omega)
    exact ⟨j8, r, by omega, hr, (same r (sb_sub (sb_Vn j8) o)).2 hl⟩
end
end
section
/-! Levels: the open child, the chain of possible definitions -/
/-- leaves of definition j that take an element of this name -/
def sl_TS (K F S : Nat → Int32) (nm : Int32) (j c : Nat) : Prop := sd_n K c = 3 ∧ sy_fi (F c) nm ∧ sd_n S c = j
/-- definition k may go on with an open child of definition j -/
def sl_step (cnt : Nat) (K F S W Ow Pl Ct : Nat → Int32) (Cl Nu Ge Gl : Nat → Int64) (iK iN iV iF : Nat → Int32) (lev n na : Nat) (nm : Int32) (k j : Nat) : Prop :=
  ∃ s t r, sl_row cnt K F S W Ow Pl Ct Cl Nu Ge Gl iK iN iV iF lev n na 0 k s ∧ r < cnt ∧ Ct k = nI r ∧ sl_A cnt K F S W Ow Pl Cl Nu k (sl_TS K F S nm j) true r s t ∧ sd_lb (Gl r) t
/-- definition k is possible at a level -/
def sl_poss (cnt : Nat) (K F S W Ow Pl Ct : Nat → Int32) (Cl Nu Ge Gl : Nat → Int64) (live : Int32) (iK iN iV iF : Nat → Int32) (dn nas : Nat → Nat) (root : Nat) : Nat → Nat → Prop
  | 0 => fun k => k = root
  | l + 1 => fun j => bt live j = true ∧ ∃ k, k < 8 ∧ sl_poss cnt K F S W Ow Pl Ct Cl Nu Ge Gl live iK iN iV iF dn nas root l k ∧ sl_step cnt K F S W Ow Pl Ct Cl Nu Ge Gl iK iN iV iF l (dn l) (nas l) (iN (l * 6 + dn l)) k j
def sl_it (D : Nat) (dn : Nat → Nat) (l : Nat) : Nat := if l + 1 < D then dn l + 1 else dn l
/-- the open elements are in order -/
def sl_conf (live : Int32) (iK iN iV iF : Nat → Int32) (D : Nat) (dn nas : Nat → Nat) : Prop :=
  1 ≤ D ∧ D ≤ 5 ∧ (∀ l, l < D → sl_it D dn l ≤ 6 ∧ sl_na iK l (dn l) (nas l) ∧
    ∀ i, i < dn l → ¬ iK (l * 6 + i) = 0 ∧ (iK (l * 6 + i) = 3 → ∀ j, bt (iF (l * 6 + i)) j = true → bt live j = true)) ∧
  (∀ l, l + 1 < D → iK (l * 6 + dn l) = 0)
section
variable {cnt dl : Nat} {K F S W U P A Ow Pl Ct : Nat → Int32} {col Un Cl Nu Ge Gl Gd : Nat → Int64} {live : Int32}
variable {iK iN iV iF iK' iN' iV' iF' : Nat → Int32} {lev n na n' na' k r m : Nat} {op op' inh res : Int32} {s t : Nat → Bool}
theorem sl_A_mono {TT TT' : Nat → Prop} {kb : Bool} (h : ∀ c, TT c → TT' c) (a : sl_A cnt K F S W Ow Pl Cl Nu k TT kb r s t) : sl_A cnt K F S W Ow Pl Cl Nu k TT' kb r s t := by
  obtain ⟨l, tl, q⟩ := sl_A_or.1 a
  exact sl_A_or.2 ⟨l, h l tl, q⟩
theorem sl_ok0 (ok : sl_ok live iK iN iV iF lev n na op) (h0 : ∀ i, i < n → ¬ iK (lev * 6 + i) = 0) : sl_ok live iK iN iV iF lev n na 0 :=
  ⟨ok.1, ok.2.1, ok.2.2.1, ok.2.2.2.1, fun j hj => by rw [b_0] at hj; cases hj⟩
/-- rows grow item by item -/
theorem sl_rowS (H : sc_Sch cnt dl K F S W U P A Ow Pl Ct) (tb : sb_tab cnt K F S W P Ow Pl Un Cl Nu Ge Gl Gd live) (hk : k < 8) (ok : sl_ok live iK' iN' iV' iF' lev (n + 1) na' op') (nn : na ≤ n)
    (hi : ∀ i, i < n → iK' (lev * 6 + i) = iK (lev * 6 + i) ∧ iN' (lev * 6 + i) = iN (lev * 6 + i) ∧ iV' (lev * 6 + i) = iV (lev * 6 + i) ∧ iF' (lev * 6 + i) = iF (lev * 6 + i))
    (ho : ∀ i, i < n → ¬ iK (lev * 6 + i) = 0) (hn : ∀ i, i < n → (i < na' ↔ i < na)) :
    sl_row cnt K F S W Ow Pl Ct Cl Nu Ge Gl iK' iN' iV' iF' lev (n + 1) na' op' k t ↔ ∃ r, r < cnt ∧ Ct k = nI r ∧
      (∃ s, sl_row cnt K F S W Ow Pl Ct Cl Nu Ge Gl iK iN iV iF lev n na 0 k s ∧ sl_A cnt K F S W Ow Pl Cl Nu k (fun c => sl_T K F S iK' iN' iV' iF' lev (n + 1) op' c n) (sl_kid na' n) r s t) ∧ sl_gr Ge Gl (na' = n + 1) r t := by
  have h24 := H.1.1
  have hkid : ∀ i, i < n → sl_kid na' i = sl_kid na i := fun i hi' => by
    unfold sl_kid
    rw [decide_eq_decide]
    have := hn i hi'
    omega
  have cg : ∀ r s, sl_run cnt K F S W Ow Pl Cl Nu iK' iN' iV' iF' lev (n + 1) na' op' k r n s ↔ sl_run cnt K F S W Ow Pl Cl Nu iK iN iV iF lev n na 0 k r n s := fun r s => sl_run_cg (Nat.le_refl _) (by omega) hi hkid ho
  have n1 := ok.2.1.1
  have gr1 : ∀ r t, sl_gr Ge Gl (na' = n + 1) r t ↔ sl_gr Ge Gl (n + 1 ≤ na') r t := fun r t => by
    have : na' = n + 1 ↔ n + 1 ≤ na' := by omega
    unfold sl_gr; rw [this]
  have gr0 : ∀ r s, sl_gr Ge Gl (na = n) r s ↔ sl_gr Ge Gl (n ≤ na') r s := fun r t => by
    have : na = n ↔ n ≤ na' := by
      constructor
      · intro e
        refine Classical.byContradiction (fun q => ?_)
        have := (hn na' (by omega)).2 (by omega)
        omega
      · intro e
        refine Classical.byContradiction (fun q => ?_)
        have := (hn na (by omega)).1 (by omega)
        omega
    unfold sl_gr; rw [this]
  constructor
  · rintro ⟨r, r1, r2, ru, g⟩
    obtain ⟨s, a, b⟩ := sl_run_S.1 ru
    refine ⟨r, r1, r2, ⟨s, ⟨r, r1, r2, (cg r s).1 a, ?_⟩, b⟩, g⟩
    rw [gr0]
    exact sl_prune H tb hk ok r2 r1 b ((gr1 r t).1 g)
  · rintro ⟨r, r1, r2, ⟨s, ⟨r', r1', r2', a, _⟩, b⟩, g⟩
    rw [r2] at r2'
    have e := sx_nIne (by omega) (by omega) r2'
    subst e
    exact ⟨r, r1, r2, sl_run_S.2 ⟨s, (cg r s).2 a, b⟩, g⟩
/-- an open child -/
theorem sl_startR (H : sc_Sch cnt dl K F S W U P A Ow Pl Ct) (tb : sb_tab cnt K F S W P Ow Pl Un Cl Nu Ge Gl Gd live) (hk : k < 8) (ok : sl_ok live iK iN iV iF lev (n + 1) na op) (h0 : iK (lev * 6 + n) = 0) (ho : ∀ i, i < n → ¬ iK (lev * 6 + i) = 0) :
    (∃ t, sl_row cnt K F S W Ow Pl Ct Cl Nu Ge Gl iK iN iV iF lev (n + 1) na op k t) ↔ ∃ j, bt op j = true ∧ sl_step cnt K F S W Ow Pl Ct Cl Nu Ge Gl iK iN iV iF lev n na (iN (lev * 6 + n)) k j := by
  have nn : na ≤ n := by
    have := ok.2.1.1
    refine Classical.byContradiction (fun q => ?_)
    have := (ok.2.1.2 n (by omega)).2 (by omega)
    rw [h0] at this; exact absurd this (by decide)
  have kt : sl_kid na n = true := decide_eq_true nn
  have row := fun (t : Nat → Bool) => sl_rowS (op' := op) (t := t) H tb hk ok nn (fun i _ => ⟨rfl, rfl, rfl, rfl⟩) ho (fun i _ => Iff.rfl)
  have gr1 : ∀ r t, sl_gr Ge Gl (na = n + 1) r t ↔ sd_lb (Gl r) t := fun r t => ⟨fun q => q.2 (by omega), fun q => ⟨fun z => by omega, fun _ => q⟩⟩
  have tt : ∀ c, sl_T K F S iK iN iV iF lev (n + 1) op c n ↔ sd_n K c = 3 ∧ sy_fi (F c) (iN (lev * 6 + n)) ∧ bt op (sd_n S c) = true := by
    intro c
    constructor
    · rintro ⟨_, q | q | q | q⟩
      · rw [h0] at q; exact absurd q.1 (by decide)
      · rw [h0] at q; exact absurd q.1 (by decide)
      · rw [h0] at q; exact absurd q.1 (by decide)
      · exact q.2
    · exact fun q => ⟨by omega, Or.inr (Or.inr (Or.inr ⟨h0, q⟩))⟩
  constructor
  · rintro ⟨t, h⟩
    obtain ⟨r, r1, r2, ⟨s, rs, a⟩, g⟩ := (row t).1 h
    rw [kt] at a
    obtain ⟨l, tl, a'⟩ := sl_A_or.1 a
    obtain ⟨q1, q2, q3⟩ := (tt l).1 tl
    exact ⟨sd_n S l, q3, s, t, r, rs, r1, r2, sl_A_mono (fun c e => by rw [e]; exact ⟨q1, q2, rfl⟩) a', (gr1 r t).1 g⟩
  · rintro ⟨j, hj, s, t, r, rs, r1, r2, a, g⟩
    refine ⟨t, (row t).2 ⟨r, r1, r2, ⟨s, rs, ?_⟩, (gr1 r t).2 g⟩⟩
    rw [kt]
    exact sl_A_mono (fun c q => (tt c).2 ⟨q.1, q.2.1, by rw [q.2.2]; exact hj⟩) a
theorem sl_row_live (H : sc_Sch cnt dl K F S W U P A Ow Pl Ct) (tb : sb_tab cnt K F S W P Ow Pl Un Cl Nu Ge Gl Gd live) (lv : sb_liv cnt K F S Ow Ct Un live) (hk : k < 8) (ok : sl_ok live iK iN iV iF lev n na op)
    (h : sl_row cnt K F S W Ow Pl Ct Cl Nu Ge Gl iK iN iV iF lev n na op k s) : bt live k = true := by
  obtain ⟨r, r1, r2, ru, g⟩ := h
  refine (sb_live H tb lv k).2 ⟨hk, r, r1, r2, sl_run_live H tb hk ok r2 r1 n s (Nat.le_refl _) ru ?_⟩
  have e : na = n ↔ n ≤ na := by have := ok.2.1.1; omega
  unfold sl_gr at g ⊢
  rw [← e]; exact g
/-- the levels of a configuration -/
theorem sl_conf_ok {D : Nat} {dn nas : Nat → Nat} (cf : sl_conf live iK iN iV iF D dn nas) {l : Nat} (hl : l < D) {op : Int32} (ho : ∀ j, bt op j = true → bt live j = true) :
    sl_ok live iK iN iV iF l (sl_it D dn l) (nas l) op := by
  obtain ⟨_, _, c1, c2⟩ := cf
  obtain ⟨h6, hna, hi⟩ := c1 l hl
  unfold sl_it at h6 ⊢
  by_cases q : l + 1 < D
  · rw [if_pos q] at h6 ⊢
    have e0 := c2 l q
    refine ⟨h6, ⟨by have := hna.1; omega, fun i hi' => ?_⟩, fun i hi' i0 => ?_, fun i hi' i3 => ?_, ho⟩
    · by_cases e : i = dn l
      · subst e
        rw [e0]
        exact ⟨fun z => absurd z (by decide), fun z => by have := hna.1; omega⟩
      · exact hna.2 i (by omega)
    · by_cases e : i = dn l
      · rw [e]
      · exact absurd i0 (hi i (by omega)).1
    · by_cases e : i = dn l
      · subst e; rw [e0] at i3; exact absurd i3 (by decide)
      · exact (hi i (by omega)).2 i3
  · rw [if_neg q] at h6 ⊢
    exact ⟨h6, hna, fun i hi' i0 => absurd i0 (hi i hi').1, fun i hi' i3 => (hi i hi').2 i3, ho⟩
theorem sl_conf_ok0 {D : Nat} {dn nas : Nat → Nat} (cf : sl_conf live iK iN iV iF D dn nas) {l : Nat} (hl : l < D) : sl_ok live iK iN iV iF l (dn l) (nas l) 0 := by
  obtain ⟨_, _, c1, c2⟩ := cf
  obtain ⟨h6, hna, hi⟩ := c1 l hl
  refine ⟨?_, hna, fun i hi' i0 => absurd i0 (hi i hi').1, fun i hi' i3 => (hi i hi').2 i3, fun j hj => by rw [b_0] at hj; cases hj⟩
  unfold sl_it at h6
  by_cases q : l + 1 < D
  · rw [if_pos q] at h6; omega
  · rw [if_neg q] at h6; exact h6
/-- the turn of hopeful's loop -/
def sl_hI (cnt : Nat) (K F S W Ow Pl Ct : Nat → Int32) (Cl Nu Ge Gl : Nat → Int64) (live : Int32) (iK iN iV iF : Nat → Int32) (D : Nat) (dn nas : Nat → Nat) (root : Nat) (ANS : Prop) (inh : Int32) (l : Nat) (op : Int32) : Prop :=
  inh = live ∧ (∀ j, bt op j = true → bt live j = true) ∧ (l = D → op = 0) ∧ (l < D → ((∃ j, j < 8 ∧ bt op j = true ∧ sl_poss cnt K F S W Ow Pl Ct Cl Nu Ge Gl live iK iN iV iF dn nas root l j) ↔ ANS))
/-- what hopeful answers -/
def sl_ans (cnt : Nat) (K F S W Ow Pl Ct : Nat → Int32) (Cl Nu Ge Gl : Nat → Int64) (live : Int32) (iK iN iV iF : Nat → Int32) (D : Nat) (dn nas : Nat → Nat) (root : Nat) (only : Int32) : Prop :=
  ∃ j, j < 8 ∧ bt only j = true ∧ sl_poss cnt K F S W Ow Pl Ct Cl Nu Ge Gl live iK iN iV iF dn nas root (D - 1) j ∧ ∃ s, sl_row cnt K F S W Ow Pl Ct Cl Nu Ge Gl iK iN iV iF (D - 1) (dn (D - 1)) (nas (D - 1)) 0 j s
theorem sl_turn (H : sc_Sch cnt dl K F S W U P A Ow Pl Ct) (tb : sb_tab cnt K F S W P Ow Pl Un Cl Nu Ge Gl Gd live) (lv : sb_liv cnt K F S Ow Ct Un live) {D root : Nat} {dn nas : Nat → Nat} (cf : sl_conf live iK iN iV iF D dn nas) {only : Int32} {l : Nat} (hl : l < D)
    (I : sl_hI cnt K F S W Ow Pl Ct Cl Nu Ge Gl live iK iN iV iF D dn nas root (sl_ans cnt K F S W Ow Pl Ct Cl Nu Ge Gl live iK iN iV iF D dn nas root only) inh (l + 1) op) (hg : sy_gres K F S U iK iN iV iF cnt l (sl_it D dn l) inh op res) :
    (l + 1 = D → sl_hI cnt K F S W Ow Pl Ct Cl Nu Ge Gl live iK iN iV iF D dn nas root (sl_ans cnt K F S W Ow Pl Ct Cl Nu Ge Gl live iK iN iV iF D dn nas root only) inh l (res &&& only)) ∧
    (l + 1 ≠ D → sl_hI cnt K F S W Ow Pl Ct Cl Nu Ge Gl live iK iN iV iF D dn nas root (sl_ans cnt K F S W Ow Pl Ct Cl Nu Ge Gl live iK iN iV iF D dn nas root only) inh l res) := by
  obtain ⟨e, ho, hD, hA⟩ := I
  subst e
  have ok := sl_conf_ok cf hl ho
  have rb := sl_gresR H tb ok hg
  have rl : ∀ j, bt res j = true → bt inh j = true := fun j hj => by
    obtain ⟨j8, s, hs⟩ := (rb j).1 hj
    exact sl_row_live H tb lv j8 ok hs
  have hi := (cf.2.2.1 l hl).2.2
  constructor
  · intro e
    have o0 := hD e
    have ei : sl_it D dn l = dn l := if_neg (by omega)
    rw [ei, o0] at rb
    have eD : D - 1 = l := by omega
    refine ⟨rfl, fun j hj => ?_, fun z => by omega, fun _ => ?_⟩
    · rw [b_and, Bool.and_eq_true] at hj
      exact rl j hj.1
    · unfold sl_ans
      rw [eD]
      constructor
      · rintro ⟨j, j8, hj, hp⟩
        rw [b_and, Bool.and_eq_true] at hj
        exact ⟨j, j8, hj.2, hp, ((rb j).1 hj.1).2⟩
      · rintro ⟨j, j8, h1, hp, h2⟩
        refine ⟨j, j8, ?_, hp⟩
        rw [b_and, Bool.and_eq_true]
        exact ⟨(rb j).2 ⟨j8, h2⟩, h1⟩
  · intro e
    have lD : l + 1 < D := by omega
    have ei : sl_it D dn l = dn l + 1 := if_pos lD
    rw [ei] at rb ok
    have st : ∀ k, k < 8 → ((∃ t, sl_row cnt K F S W Ow Pl Ct Cl Nu Ge Gl iK iN iV iF l (dn l + 1) (nas l) op k t) ↔ ∃ j, bt op j = true ∧ sl_step cnt K F S W Ow Pl Ct Cl Nu Ge Gl iK iN iV iF l (dn l) (nas l) (iN (l * 6 + dn l)) k j) :=
      fun k hk => sl_startR H tb hk ok (cf.2.2.2 l lD) (fun i hi' => (hi i hi').1)
    refine ⟨rfl, rl, fun z => by omega, fun _ => ?_⟩
    rw [← hA lD]
    constructor
    · rintro ⟨k, k8, hk, hp⟩
      obtain ⟨j, hj, hs⟩ := (st k k8).1 ((rb k).1 hk).2
      have lj := ho j hj
      exact ⟨j, ((sb_live H tb lv j).1 lj).1, hj, lj, k, k8, hp, hs⟩
    · rintro ⟨j, j8, hj, lj, k, k8, hp, hs⟩
      exact ⟨k, k8, (rb k).2 ⟨k8, (st k k8).2 ⟨j, hj, hs⟩⟩, hp⟩
end
section
variable {f_cellLimit f_definitionLimit f_depthLimit f_itemLimit f_made f_state f_depth f_rootDefinition : Int32}
variable {a_kind a_first a_second a_width a_use a_items a_itemKind a_itemName a_itemValue a_itemFit a_matches a_grows : Nat → Int32}
variable {cnt dl : Nat} {K F S W U P A Ow Pl Ct : Nat → Int32} {col Un Cl Nu Ge Gl Gd : Nat → Int64} {live : Int32}
/-- hopeful answers whether some possible definition can grow -/
theorem sr_hope (H : sc_Sch cnt dl a_kind a_first a_second a_width a_use P A Ow Pl Ct) (tb : sb_tab cnt a_kind a_first a_second a_width P Ow Pl Un Cl Nu Ge Gl Gd live)
    (lv : sb_liv cnt a_kind a_first a_second Ow Ct Un live) (hm : f_made = nI cnt) {D root : Nat} {dn nas : Nat → Nat} (hD : f_depth = nI D) (hr : f_rootDefinition = nI root) (r8 : root < 8)
    (cf : sl_conf live a_itemKind a_itemName a_itemValue a_itemFit D dn nas) (hit : ∀ l, l < D → a_items l = nI (sl_it D dn l)) {only : Int32} {post : Int32 → SY → Prop}
    (h1 : sl_ans cnt a_kind a_first a_second a_width Ow Pl Ct Cl Nu Ge Gl live a_itemKind a_itemName a_itemValue a_itemFit D dn nas root only → ∀ M G : Nat → Int32, post 1 (f_cellLimit, f_definitionLimit, f_depthLimit, f_itemLimit, f_made, f_state, f_depth, f_rootDefinition, a_kind, a_first, a_second, a_width, a_use, a_items, a_itemKind, a_itemName, a_itemValue, a_itemFit, M, G))
    (h0 : ¬ sl_ans cnt a_kind a_first a_second a_width Ow Pl Ct Cl Nu Ge Gl live a_itemKind a_itemName a_itemValue a_itemFit D dn nas root only → ∀ M G : Nat → Int32, post 0 (f_cellLimit, f_definitionLimit, f_depthLimit, f_itemLimit, f_made, f_state, f_depth, f_rootDefinition, a_kind, a_first, a_second, a_width, a_use, a_items, a_itemKind, a_itemName, a_itemValue, a_itemFit, M, G)) :
    wpY_hopeful post (f_cellLimit, f_definitionLimit, f_depthLimit, f_itemLimit, f_made, f_state, f_depth, f_rootDefinition, a_kind, a_first, a_second, a_width, a_use, a_items, a_itemKind, a_itemName, a_itemValue, a_itemFit, a_matches, a_grows) only := by
  refine sy_hope (sl_oky H) (sl_useU H) hm H.1.1 hD cf.1 cf.2.1 hr r8 (it := sl_it D dn) (fun l hl => ⟨hit l hl, (cf.2.2.1 l hl).1⟩)
    (I := sl_hI cnt a_kind a_first a_second a_width Ow Pl Ct Cl Nu Ge Gl live a_itemKind a_itemName a_itemValue a_itemFit D dn nas root
      (sl_ans cnt a_kind a_first a_second a_width Ow Pl Ct Cl Nu Ge Gl live a_itemKind a_itemName a_itemValue a_itemFit D dn nas root only)) ?_ ?_ ?_
  · intro Q q0 hQ
    exact ⟨sb_inh H tb lv q0 hQ, fun j hj => (by rw [b_0] at hj; cases hj), fun _ => rfl, fun z => (by omega)⟩
  · intro inh l op res hl I hg
    exact sl_turn H tb lv cf hl I hg
  · intro inh op M G I
    have hA := I.2.2.2 (by have := cf.1; omega)
    have e : bt op root = true ↔ sl_ans cnt a_kind a_first a_second a_width Ow Pl Ct Cl Nu Ge Gl live a_itemKind a_itemName a_itemValue a_itemFit D dn nas root only := by
      rw [← hA]
      exact ⟨fun q => ⟨root, r8, q, rfl⟩, fun ⟨j, _, q, z⟩ => by rw [← show j = root from z]; exact q⟩
    exact ⟨fun q => h1 (e.1 q) M G, fun q => h0 (fun z => q (e.2 z)) M G⟩
/-- inhabitedSet answers live -/
theorem sr_inh (H : sc_Sch cnt dl a_kind a_first a_second a_width a_use P A Ow Pl Ct) (tb : sb_tab cnt a_kind a_first a_second a_width P Ow Pl Un Cl Nu Ge Gl Gd live)
    (lv : sb_liv cnt a_kind a_first a_second Ow Ct Un live) (hm : f_made = nI cnt) {post : Int32 → SY → Prop}
    (h : ∀ M G : Nat → Int32, post live (f_cellLimit, f_definitionLimit, f_depthLimit, f_itemLimit, f_made, f_state, f_depth, f_rootDefinition, a_kind, a_first, a_second, a_width, a_use, a_items, a_itemKind, a_itemName, a_itemValue, a_itemFit, M, G)) : wpY_inhabitedSet post (f_cellLimit, f_definitionLimit, f_depthLimit, f_itemLimit, f_made, f_state, f_depth, f_rootDefinition, a_kind, a_first, a_second, a_width, a_use, a_items, a_itemKind, a_itemName, a_itemValue, a_itemFit, a_matches, a_grows) := by
  refine sy_inh (sl_oky H) (sl_useU H) hm H.1.1 (fun Q M G q0 hQ => ?_)
  rw [sb_inh H tb lv q0 hQ]
  exact h M G
end
end
section
/-! The relation -/
/-- contents among the first n cells -/
def sr_cn (U : Nat → Int32) : Nat → Nat
  | 0 => 0
  | n + 1 => sr_cn U n + (if U n < 2 then 0 else 1)
def sr_St (f_cellLimit f_definitionLimit f_depthLimit f_itemLimit f_cellCount f_definedCount f_live : Int32) (a_kinds a_firsts a_seconds a_widths a_uses a_parents a_attributed a_owners a_places a_contents : Nat → Int32) (a_columns a_unused a_childless a_nullable a_growEarly a_growLate a_guards : Nat → Int64) (lim cnt dl dpl itl : Nat) : Prop :=
  (f_cellLimit = nI lim ∧ lim ≤ 24 ∧ cnt ≤ lim) ∧ f_definitionLimit = nI dl ∧ (f_depthLimit = nI dpl ∧ 1 ≤ dpl ∧ dpl ≤ 5) ∧ (f_itemLimit = nI itl ∧ itl ≤ 6) ∧
  f_cellCount = nI cnt ∧ f_definedCount = nI (sr_cn a_uses cnt) ∧ sc_Sch cnt dl a_kinds a_firsts a_seconds a_widths a_uses a_parents a_attributed a_owners a_places a_contents ∧ sb_tab cnt a_kinds a_firsts a_seconds a_widths a_parents a_owners a_places a_unused a_childless a_nullable a_growEarly a_growLate a_guards f_live ∧ sb_liv cnt a_kinds a_firsts a_seconds a_owners a_contents a_unused f_live ∧ sd_colE a_columns
/-- an open document -/
def sr_dy (cnt : Nat) (K F S W Ow Pl Ct : Nat → Int32) (Cl Nu Ge Gl : Nat → Int64) (live : Int32) (dpl itl : Nat) (dep : Int32) (xit nam lat : Nat → Int32) (rs : Nat → Int64)
    (rtD : Int32) (yit iK iN iV iF : Nat → Int32) (D root : Nat) (dn nas : Nat → Nat) : Prop :=
  dep = nI D ∧ rtD = nI root ∧ (root < 8 ∧ bt live root = true) ∧ D ≤ dpl ∧ sl_conf live iK iN iV iF D dn nas ∧
  (∀ l, l < D → xit l = nI (sl_it D dn l) ∧ yit l = nI (sl_it D dn l) ∧ sl_it D dn l ≤ itl) ∧
  (∀ l, l < D → (lat l = 0 ↔ nas l = sl_it D dn l)) ∧ (∀ l, l + 1 < D → nam (l + 1) = iN (l * 6 + dn l)) ∧
  (∀ l k, l < D → k < 8 → ∀ s, sd_S6 s → (sd_lb (rs (l * 8 + k)) s ↔ sl_poss cnt K F S W Ow Pl Ct Cl Nu Ge Gl live iK iN iV iF dn nas root l k ∧ sl_row cnt K F S W Ow Pl Ct Cl Nu Ge Gl iK iN iV iF l (dn l) (nas l) 0 k s)) ∧
  sl_ans cnt K F S W Ow Pl Ct Cl Nu Ge Gl live iK iN iV iF D dn nas root (-1)
def sr_Dy (cnt : Nat) (K F S W Ow Pl Ct : Nat → Int32) (Cl Nu Ge Gl : Nat → Int64) (live : Int32) (dpl itl : Nat) (sta dep : Int32) (xit nam lat : Nat → Int32) (rs : Nat → Int64)
    (rtD : Int32) (yit iK iN iV iF : Nat → Int32) : Prop :=
  ((sta = 0 ∨ sta = 2) ∧ dep = 0) ∨ (sta = 1 ∧ ∃ D root dn nas, sr_dy cnt K F S W Ow Pl Ct Cl Nu Ge Gl live dpl itl dep xit nam lat rs rtD yit iK iN iV iF D root dn nas)
section
variable {f_cellLimit f_definitionLimit f_depthLimit f_itemLimit f_cellCount f_definedCount f_live f_state f_depth : Int32}
variable {a_kinds a_firsts a_seconds a_widths a_uses a_parents a_attributed a_owners a_places a_contents a_items a_names a_late : Nat → Int32} {a_columns a_unused a_childless a_nullable a_growEarly a_growLate a_guards a_residuals a_next : Nat → Int64}
variable {f_rootDefinition : Int32} {b_items a_itemKind a_itemName a_itemValue a_itemFit a_matches a_grows : Nat → Int32}
/-- the relation, by names -/
def sr_R (f_cellLimit f_definitionLimit f_depthLimit f_itemLimit f_cellCount f_definedCount f_live f_state f_depth : Int32) (a_kinds a_firsts a_seconds a_widths a_uses a_parents a_attributed a_owners a_places a_contents : Nat → Int32)
    (a_columns a_unused a_childless a_nullable a_growEarly a_growLate a_guards : Nat → Int64) (a_items a_names a_late : Nat → Int32) (a_residuals a_next : Nat → Int64)
    (f_rootDefinition : Int32) (b_items a_itemKind a_itemName a_itemValue a_itemFit : Nat → Int32) : Prop :=
  ∃ lim cnt dl dpl itl, sr_St f_cellLimit f_definitionLimit f_depthLimit f_itemLimit f_cellCount f_definedCount f_live a_kinds a_firsts a_seconds a_widths a_uses a_parents a_attributed a_owners a_places a_contents a_columns a_unused a_childless a_nullable a_growEarly a_growLate a_guards lim cnt dl dpl itl ∧
    sr_Dy cnt a_kinds a_firsts a_seconds a_widths a_owners a_places a_contents a_childless a_nullable a_growEarly a_growLate f_live dpl itl f_state f_depth a_items a_names a_late a_residuals f_rootDefinition b_items a_itemKind a_itemName a_itemValue a_itemFit
end
def i_Rel (_ : Nat) (u : SX) (v : SY) : Prop :=
  ∃ (r : Int32) (it iK iN iV iF M G : Nat → Int32),
    v = (u.1, u.2.1, u.2.2.1, u.2.2.2.1, u.2.2.2.2.1, u.2.2.2.2.2.2.2.1, u.2.2.2.2.2.2.2.2.1, r, u.2.2.2.2.2.2.2.2.2.1, u.2.2.2.2.2.2.2.2.2.2.1, u.2.2.2.2.2.2.2.2.2.2.2.1, u.2.2.2.2.2.2.2.2.2.2.2.2.1, u.2.2.2.2.2.2.2.2.2.2.2.2.2.1, it, iK, iN, iV, iF, M, G) ∧
    (match u with | (f_cellLimit, f_definitionLimit, f_depthLimit, f_itemLimit, f_cellCount, f_definedCount, f_live, f_state, f_depth, a_kinds, a_firsts, a_seconds, a_widths, a_uses, a_parents, a_attributed, a_owners, a_places, a_contents, a_columns, a_unused, a_childless, a_nullable, a_growEarly, a_growLate, a_guards, a_items, a_names, a_late, a_residuals, a_next) => sr_R f_cellLimit f_definitionLimit f_depthLimit f_itemLimit f_cellCount f_definedCount f_live f_state f_depth a_kinds a_firsts a_seconds a_widths a_uses a_parents a_attributed a_owners a_places a_contents a_columns a_unused a_childless a_nullable a_growEarly a_growLate a_guards a_items a_names a_late a_residuals a_next r it iK iN iV iF)
theorem i_up {k : Nat} {u : SX} {v : SY} (h : i_Rel k u v) : i_Rel (k + 4) u v := h
section
variable {f_cellLimit f_definitionLimit f_depthLimit f_itemLimit f_cellCount f_definedCount f_live f_state f_depth : Int32}
variable {a_kinds a_firsts a_seconds a_widths a_uses a_parents a_attributed a_owners a_places a_contents a_items a_names a_late : Nat → Int32} {a_columns a_unused a_childless a_nullable a_growEarly a_growLate a_guards a_residuals a_next : Nat → Int64}
variable {f_rootDefinition : Int32} {b_items a_itemKind a_itemName a_itemValue a_itemFit a_matches a_grows : Nat → Int32}
/-- opening the relation -/
theorem zz_el {k : Nat} {Q : SX → SY → Prop}
    (h : ∀ (f_cellLimit f_definitionLimit f_depthLimit f_itemLimit f_cellCount f_definedCount f_live f_state f_depth : Int32) (a_kinds a_firsts a_seconds a_widths a_uses a_parents a_attributed a_owners a_places a_contents : Nat → Int32)
      (a_columns a_unused a_childless a_nullable a_growEarly a_growLate a_guards : Nat → Int64) (a_items a_names a_late : Nat → Int32) (a_residuals a_next : Nat → Int64)
      (f_rootDefinition : Int32) (b_items a_itemKind a_itemName a_itemValue a_itemFit a_matches a_grows : Nat → Int32),
      sr_R f_cellLimit f_definitionLimit f_depthLimit f_itemLimit f_cellCount f_definedCount f_live f_state f_depth a_kinds a_firsts a_seconds a_widths a_uses a_parents a_attributed a_owners a_places a_contents a_columns a_unused a_childless a_nullable a_growEarly a_growLate a_guards a_items a_names a_late a_residuals a_next f_rootDefinition b_items a_itemKind a_itemName a_itemValue a_itemFit →
      Q (f_cellLimit, f_definitionLimit, f_depthLimit, f_itemLimit, f_cellCount, f_definedCount, f_live, f_state, f_depth, a_kinds, a_firsts, a_seconds, a_widths, a_uses, a_parents, a_attributed, a_owners, a_places, a_contents, a_columns, a_unused, a_childless, a_nullable, a_growEarly, a_growLate, a_guards, a_items, a_names, a_late, a_residuals, a_next) (f_cellLimit, f_definitionLimit, f_depthLimit, f_itemLimit, f_cellCount, f_state, f_depth, f_rootDefinition, a_kinds, a_firsts, a_seconds, a_widths, a_uses, b_items, a_itemKind, a_itemName, a_itemValue, a_itemFit, a_matches, a_grows))
    {u : SX} {v : SY} (I : i_Rel k u v) : Q u v := by
  obtain ⟨r, it, iK, iN, iV, iF, M, G, e, hR⟩ := I
  subst e
  match u, hR with
  | (f_cellLimit, f_definitionLimit, f_depthLimit, f_itemLimit, f_cellCount, f_definedCount, f_live, f_state, f_depth, a_kinds, a_firsts, a_seconds, a_widths, a_uses, a_parents, a_attributed, a_owners, a_places, a_contents, a_columns, a_unused, a_childless, a_nullable, a_growEarly, a_growLate, a_guards, a_items, a_names, a_late, a_residuals, a_next), hR => exact h f_cellLimit f_definitionLimit f_depthLimit f_itemLimit f_cellCount f_definedCount f_live f_state f_depth a_kinds a_firsts a_seconds a_widths a_uses a_parents a_attributed a_owners a_places a_contents a_columns a_unused a_childless a_nullable a_growEarly a_growLate a_guards a_items a_names a_late a_residuals a_next r it iK iN iV iF M G hR
/-- closing it -/
theorem zz_in {k : Nat} (h : sr_R f_cellLimit f_definitionLimit f_depthLimit f_itemLimit f_cellCount f_definedCount f_live f_state f_depth a_kinds a_firsts a_seconds a_widths a_uses a_parents a_attributed a_owners a_places a_contents a_columns a_unused a_childless a_nullable a_growEarly a_growLate a_guards a_items a_names a_late a_residuals a_next f_rootDefinition b_items a_itemKind a_itemName a_itemValue a_itemFit) :
    i_Rel k (f_cellLimit, f_definitionLimit, f_depthLimit, f_itemLimit, f_cellCount, f_definedCount, f_live, f_state, f_depth, a_kinds, a_firsts, a_seconds, a_widths, a_uses, a_parents, a_attributed, a_owners, a_places, a_contents, a_columns, a_unused, a_childless, a_nullable, a_growEarly, a_growLate, a_guards, a_items, a_names, a_late, a_residuals, a_next) (f_cellLimit, f_definitionLimit, f_depthLimit, f_itemLimit, f_cellCount, f_state, f_depth, f_rootDefinition, a_kinds, a_firsts, a_seconds, a_widths, a_uses, b_items, a_itemKind, a_itemName, a_itemValue, a_itemFit, a_matches, a_grows) :=
  ⟨f_rootDefinition, b_items, a_itemKind, a_itemName, a_itemValue, a_itemFit, a_matches, a_grows, rfl, h⟩
end
end
section
/-! The calls that change little -/
theorem i_vc_state {k : Nat} {u : SX} {v : SY} (I : i_Rel k u v) (hk : k + 4 ≤ 2052) : wpX_state (fun r => wpY_state (fun r' => r' = r ∧ i_Rel (k + 4) u v) v) u := by
  refine zz_el (Q := fun u v => wpX_state (fun r => wpY_state (fun r' => r' = r ∧ i_Rel (k + 4) u v) v) u) ?_ I
  intro f_cellLimit f_definitionLimit f_depthLimit f_itemLimit f_cellCount f_definedCount f_live f_state f_depth a_kinds a_firsts a_seconds a_widths a_uses a_parents a_attributed a_owners a_places a_contents a_columns a_unused a_childless a_nullable a_growEarly a_growLate a_guards a_items a_names a_late a_residuals a_next f_rootDefinition b_items a_itemKind a_itemName a_itemValue a_itemFit a_matches a_grows hR
  exact ⟨rfl, zz_in hR⟩
theorem i_vc_cell {k : Nat} {u : SX} {v : SY} (I : i_Rel k u v) (hk : k + 4 ≤ 2052) (v1 : Int32) (v2 : Int32) : wpX_cell (fun r => wpY_cell (fun r' => r' = r ∧ i_Rel (k + 4) u v) v v1 v2) u v1 v2 := by
  refine zz_el (Q := fun u v => wpX_cell (fun r => wpY_cell (fun r' => r' = r ∧ i_Rel (k + 4) u v) v v1 v2) u v1 v2) ?_ I
  intro f_cellLimit f_definitionLimit f_depthLimit f_itemLimit f_cellCount f_definedCount f_live f_state f_depth a_kinds a_firsts a_seconds a_widths a_uses a_parents a_attributed a_owners a_places a_contents a_columns a_unused a_childless a_nullable a_growEarly a_growLate a_guards a_items a_names a_late a_residuals a_next f_rootDefinition b_items a_itemKind a_itemName a_itemValue a_itemFit a_matches a_grows hR
  have J : i_Rel (k + 4) (f_cellLimit, f_definitionLimit, f_depthLimit, f_itemLimit, f_cellCount, f_definedCount, f_live, f_state, f_depth, a_kinds, a_firsts, a_seconds, a_widths, a_uses, a_parents, a_attributed, a_owners, a_places, a_contents, a_columns, a_unused, a_childless, a_nullable, a_growEarly, a_growLate, a_guards, a_items, a_names, a_late, a_residuals, a_next) (f_cellLimit, f_definitionLimit, f_depthLimit, f_itemLimit, f_cellCount, f_state, f_depth, f_rootDefinition, a_kinds, a_firsts, a_seconds, a_widths, a_uses, b_items, a_itemKind, a_itemName, a_itemValue, a_itemFit, a_matches, a_grows) := zz_in hR
  obtain ⟨lim, cnt, dl, dpl, itl, st, _⟩ := hR
  have hn := st.2.2.2.2.1
  have h24 : cnt ≤ 24 := by have := st.1; omega
  unfold wpX_cell wpX_isCell wpY_cell
  dsimp only
  by_cases h0 : v1 < 0
  · exact br_t h0 (br_t rfl (br_t h0 ⟨rfl, J⟩))
  · by_cases h1 : f_cellCount ≤ v1
    · exact br_f h0 (br_t h1 (br_t rfl (br_f h0 (br_t h1 ⟨rfl, J⟩))))
    · have vi : vp_in v1 24 := by
        obtain ⟨j, hj, rfl⟩ := nI_of h0
        rw [hn, nI_leI (by omega) hj] at h1
        exact vp_in_nI (by omega) (by decide)
      refine br_f h0 (br_f h1 (br_f (by decide) (br_c (fun e => And.intro vi ?_) (fun e0 => br_c (fun e => And.intro vi ?_) (fun e1 => br_c (fun e => And.intro vi ?_) (fun e2 => br_c (fun e => And.intro vi ?_) (fun e3 => br_c (fun e => And.intro vi ?_) (fun e4 => ?_))))))))
      · subst e
        exact br_f h0 (br_f h1 (br_f (by decide) (br_t (by decide) (br_t rfl ⟨vi, rfl, J⟩))))
      · subst e
        exact br_f h0 (br_f h1 (br_f (by decide) (br_t (by decide) (br_f (by decide) (br_t rfl ⟨vi, rfl, J⟩)))))
      · subst e
        exact br_f h0 (br_f h1 (br_f (by decide) (br_t (by decide) (br_f (by decide) (br_f (by decide) (br_t rfl ⟨vi, rfl, J⟩))))))
      · subst e
        exact br_f h0 (br_f h1 (br_f (by decide) (br_t (by decide) (br_f (by decide) (br_f (by decide) (br_f (by decide) (br_t rfl ⟨vi, rfl, J⟩)))))))
      · subst e
        exact br_f h0 (br_f h1 (br_f (by decide) (br_t (by decide) (br_f (by decide) (br_f (by decide) (br_f (by decide) (br_f (by decide) ⟨vi, rfl, J⟩)))))))
      · refine br_f h0 (br_f h1 (br_c (fun _ => ⟨rfl, J⟩) (fun z => br_c (fun w => ?_) (fun _ => ⟨rfl, J⟩))))
        obtain ⟨j, hj, rfl⟩ := nI_of2 (M := 4) (n := 4) (by decide) z w
        exfalso
        have : j = 0 ∨ j = 1 ∨ j = 2 ∨ j = 3 ∨ j = 4 := by omega
        rcases this with rfl | rfl | rfl | rfl | rfl
        · exact e0 rfl
        · exact e1 rfl
        · exact e2 rfl
        · exact e3 rfl
        · exact e4 rfl
theorem i_vc_abandon {k : Nat} {u : SX} {v : SY} (I : i_Rel k u v) (hk : k + 4 ≤ 2052) : wpX_abandon (fun r u' => wpY_abandon (fun r' v' => r' = r ∧ i_Rel (k + 4) u' v') v) u := by
  refine zz_el (Q := fun u v => wpX_abandon (fun r u' => wpY_abandon (fun r' v' => r' = r ∧ i_Rel (k + 4) u' v') v) u) ?_ I
  intro f_cellLimit f_definitionLimit f_depthLimit f_itemLimit f_cellCount f_definedCount f_live f_state f_depth a_kinds a_firsts a_seconds a_widths a_uses a_parents a_attributed a_owners a_places a_contents a_columns a_unused a_childless a_nullable a_growEarly a_growLate a_guards a_items a_names a_late a_residuals a_next f_rootDefinition b_items a_itemKind a_itemName a_itemValue a_itemFit a_matches a_grows hR
  unfold wpX_abandon wpY_abandon
  refine br_c (fun e => br_t e ⟨rfl, ?_⟩) (fun e => br_f e ⟨rfl, zz_in hR⟩)
  obtain ⟨lim, cnt, dl, dpl, itl, st, _⟩ := hR
  exact zz_in ⟨lim, cnt, dl, dpl, itl, st, Or.inl ⟨Or.inl rfl, rfl⟩⟩
theorem i_vc_inhabited {k : Nat} {u : SX} {v : SY} (I : i_Rel k u v) (hk : k + 4 ≤ 2052) (v1 : Int32) : wpX_inhabited (fun r => wpY_inhabited (fun r' v' => r' = r ∧ i_Rel (k + 4) u v') v v1) u v1 := by
  refine zz_el (Q := fun u v => wpX_inhabited (fun r => wpY_inhabited (fun r' v' => r' = r ∧ i_Rel (k + 4) u v') v v1) u v1) ?_ I
  intro f_cellLimit f_definitionLimit f_depthLimit f_itemLimit f_cellCount f_definedCount f_live f_state f_depth a_kinds a_firsts a_seconds a_widths a_uses a_parents a_attributed a_owners a_places a_contents a_columns a_unused a_childless a_nullable a_growEarly a_growLate a_guards a_items a_names a_late a_residuals a_next f_rootDefinition b_items a_itemKind a_itemName a_itemValue a_itemFit a_matches a_grows hR
  have J : ∀ M G : Nat → Int32, i_Rel (k + 4) (f_cellLimit, f_definitionLimit, f_depthLimit, f_itemLimit, f_cellCount, f_definedCount, f_live, f_state, f_depth, a_kinds, a_firsts, a_seconds, a_widths, a_uses, a_parents, a_attributed, a_owners, a_places, a_contents, a_columns, a_unused, a_childless, a_nullable, a_growEarly, a_growLate, a_guards, a_items, a_names, a_late, a_residuals, a_next) (f_cellLimit, f_definitionLimit, f_depthLimit, f_itemLimit, f_cellCount, f_state, f_depth, f_rootDefinition, a_kinds, a_firsts, a_seconds, a_widths, a_uses, b_items, a_itemKind, a_itemName, a_itemValue, a_itemFit, M, G) := fun M G => zz_in hR
  obtain ⟨lim, cnt, dl, dpl, itl, st, _⟩ := hR
  obtain ⟨_, hd, _, _, hn, _, H, tb, lv, _⟩ := st
  have dl8 := H.1.2
  unfold wpX_inhabited wpX_isDefinition wpY_inhabited
  dsimp only
  by_cases h0 : v1 < 0
  · exact br_t h0 (br_t rfl (br_t h0 ⟨rfl, J _ _⟩))
  · by_cases h1 : f_definitionLimit ≤ v1
    · exact br_f h0 (br_t h1 (br_t rfl (br_f h0 (br_f (Int32.not_lt.2 h1) ⟨rfl, J _ _⟩))))
    · obtain ⟨j, hj, rfl⟩ := nI_of h0
      have j8 : j < dl := by rw [hd, nI_leI (by omega) hj] at h1; omega
      refine br_f h0 (br_f h1 (br_f (by decide) ?_))
      unfold wpX_isLive
      refine br_c (fun z => br_t rfl ?_) (fun z => br_f (by decide) ?_)
      · refine br_f h0 (br_t (Int32.not_le.1 h1) (sr_inh H tb lv hn (fun M G => br_f (fun w => ?_) ⟨rfl, J M G⟩)))
        exact (sx_bit0 (by omega)).1 z ((sx_bit1 (by omega)).1 w)
      · refine br_f h0 (br_t (Int32.not_le.1 h1) (sr_inh H tb lv hn (fun M G => br_t ?_ ⟨rfl, J M G⟩)))
        exact (sx_bit1 (by omega)).2 (Classical.byContradiction (fun q => z ((sx_bit0 (by omega)).2 q)))
section
variable {f_cellLimit f_definitionLimit f_depthLimit f_itemLimit f_made f_state f_depth f_rootDefinition : Int32}
variable {a_kind a_first a_second a_width a_use a_items a_itemKind a_itemName a_itemValue a_itemFit a_matches a_grows : Nat → Int32}
theorem sy_cnL {made : Nat} (hU : ∀ c, c < made → ∃ u, u < 10 ∧ a_use c = nI u) (hm : f_made = nI made) (h24 : made ≤ 24) {post : Int32 → Prop} (h : post (nI (sr_cn a_use made))) :
    ∀ (d c : Nat), c + d = made → ∀ f, d < f → wY_count_63 post f_cellLimit f_definitionLimit f_depthLimit f_itemLimit f_made f_state f_depth f_rootDefinition a_kind a_first a_second a_width a_use a_items a_itemKind a_itemName a_itemValue a_itemFit a_matches a_grows f (nI (sr_cn a_use c)) (nI c) := by
  intro d
  induction d with
  | zero =>
    intro c hc f hf
    have e : c = made := by omega
    subst e
    cases f with
    | zero => omega
    | succ f => exact br_t (by rw [hm]; exact nI_le (Nat.le_refl _) (by omega)) h
  | succ d ih =>
    intro c hc f hf
    have ec : (nI c).toNatClampNeg = c := sx_cl 24 (show c < 24 by omega)
    cases f with
    | zero => omega
    | succ f =>
      refine br_f (by rw [hm]; exact nI_ge (by omega) (by omega)) (And.intro (vp_in_nI (by omega) (by decide)) (br_c (fun e => nm_r (nI_1 c) ?_) (fun e => nm_r (e' := nI (sr_cn a_use (c + 1))) ?_ (nm_r (nI_1 c) (ih (c + 1) (by omega) f (by omega))))))
      · rw [ec] at e
        have : sr_cn a_use c = sr_cn a_use (c + 1) := by
          show _ = sr_cn a_use c + (if a_use c < 2 then 0 else 1)
          rw [if_pos e]; rfl
        rw [this]
        exact ih (c + 1) (by omega) f (by omega)
      · rw [ec] at e
        have : sr_cn a_use (c + 1) = sr_cn a_use c + 1 := by
          show sr_cn a_use c + (if a_use c < 2 then 0 else 1) = _
          rw [if_neg e]
        rw [this, nI_1]
end
theorem i_vc_count {k : Nat} {u : SX} {v : SY} (I : i_Rel k u v) (hk : k + 4 ≤ 2052) (v1 : Int32) : wpX_count (fun r => wpY_count (fun r' => r' = r ∧ i_Rel (k + 4) u v) v v1) u v1 := by
  refine zz_el (Q := fun u v => wpX_count (fun r => wpY_count (fun r' => r' = r ∧ i_Rel (k + 4) u v) v v1) u v1) ?_ I
  intro f_cellLimit f_definitionLimit f_depthLimit f_itemLimit f_cellCount f_definedCount f_live f_state f_depth a_kinds a_firsts a_seconds a_widths a_uses a_parents a_attributed a_owners a_places a_contents a_columns a_unused a_childless a_nullable a_growEarly a_growLate a_guards a_items a_names a_late a_residuals a_next f_rootDefinition b_items a_itemKind a_itemName a_itemValue a_itemFit a_matches a_grows hR
  have J : i_Rel (k + 4) (f_cellLimit, f_definitionLimit, f_depthLimit, f_itemLimit, f_cellCount, f_definedCount, f_live, f_state, f_depth, a_kinds, a_firsts, a_seconds, a_widths, a_uses, a_parents, a_attributed, a_owners, a_places, a_contents, a_columns, a_unused, a_childless, a_nullable, a_growEarly, a_growLate, a_guards, a_items, a_names, a_late, a_residuals, a_next) (f_cellLimit, f_definitionLimit, f_depthLimit, f_itemLimit, f_cellCount, f_state, f_depth, f_rootDefinition, a_kinds, a_firsts, a_seconds, a_widths, a_uses, b_items, a_itemKind, a_itemName, a_itemValue, a_itemFit, a_matches, a_grows) := zz_in hR
  obtain ⟨lim, cnt, dl, dpl, itl, st, dy⟩ := hR
  obtain ⟨_, hd, _, _, hn, hdc, H, tb, lv, _⟩ := st
  unfold wpX_count wpY_count
  dsimp only
  refine br_c (fun e => ?_) (fun e0 => br_c (fun e => ?_) (fun e1 => br_c (fun e => ?_) (fun e2 => br_c (fun e => ?_) (fun e3 => ?_))))
  · subst e
    exact br_f (by decide) (br_t (by decide) (br_t rfl ⟨rfl, J⟩))
  · subst e
    refine br_f (by decide) (br_t (by decide) (br_f (by decide) (br_f (by decide) (br_f (by decide) ⟨cnt + 1, ?_⟩))))
    exact sy_cnL (sl_useU H) hn H.1.1 ⟨hdc.symm, J⟩ cnt 0 (by omega) (cnt + 1) (by omega)
  · subst e
    exact br_f (by decide) (br_t (by decide) (br_f (by decide) (br_t rfl ⟨rfl, J⟩)))
  · subst e
    rcases dy with ⟨_, hd0⟩ | ⟨_, D, root, dn, nas, dy⟩
    · exact br_t hd0 (br_f (by decide) (br_t (by decide) (br_f (by decide) (br_f (by decide) (br_t rfl (br_t (by rw [hd0]; decide) ⟨rfl, J⟩))))))
    · obtain ⟨hD, _, _, _, cf, hit, _⟩ := dy
      have D1 := cf.1
      have D5 := cf.2.1
      have ed : f_depth - 1 = nI (D - 1) := by rw [hD, show (1 : Int32) = nI 1 from rfl, pk_sub D1]
      have ec : (nI (D - 1)).toNatClampNeg = D - 1 := sx_cl 5 (by omega)
      have vi : vp_in (f_depth - 1) 5 := by rw [ed]; exact vp_in_nI (by omega) (by decide)
      have n0 : ¬ f_depth = 0 := by rw [hD]; exact nI_ne0 (by omega) (by omega)
      have n0' : ¬ f_depth ≤ 0 := by rw [hD]; exact nI_nle (by omega) (by omega)
      refine br_f n0 (And.intro vi (br_f (by decide) (br_t (by decide) (br_f (by decide) (br_f (by decide) (br_t rfl (br_f n0' (And.intro vi ⟨?_, J⟩))))))))
      rw [ed, ec, (hit (D - 1) (by omega)).1, (hit (D - 1) (by omega)).2.1]
  · refine br_c (fun _ => ⟨rfl, J⟩) (fun z => br_c (fun w => ?_) (fun _ => ⟨rfl, J⟩))
    obtain ⟨j, hj, rfl⟩ := nI_of2 (M := 3) (n := 3) (by decide) z w
    exfalso
    have : j = 0 ∨ j = 1 ∨ j = 2 ∨ j = 3 := by omega
    rcases this with rfl | rfl | rfl | rfl
    · exact e0 rfl
    · exact e1 rfl
    · exact e2 rfl
    · exact e3 rfl
theorem sr_m1 (j : Nat) (h : j < 8) : bt (-1) j = true := b_m1 j (by omega)
theorem sr_1sh : ∀ k, k < 8 → ∀ j, j < 8 → (bt ((1 : Int32) <<< (nI k &&& 31)) j = true ↔ j = k) := by decide +kernel
theorem i_vc_possible {k : Nat} {u : SX} {v : SY} (I : i_Rel k u v) (hk : k + 4 ≤ 2052) (v1 : Int32) : wpX_possible (fun r => wpY_possible (fun r' v' => r' = r ∧ i_Rel (k + 4) u v') v v1) u v1 := by
  refine zz_el (Q := fun u v => wpX_possible (fun r => wpY_possible (fun r' v' => r' = r ∧ i_Rel (k + 4) u v') v v1) u v1) ?_ I
  intro f_cellLimit f_definitionLimit f_depthLimit f_itemLimit f_cellCount f_definedCount f_live f_state f_depth a_kinds a_firsts a_seconds a_widths a_uses a_parents a_attributed a_owners a_places a_contents a_columns a_unused a_childless a_nullable a_growEarly a_growLate a_guards a_items a_names a_late a_residuals a_next f_rootDefinition b_items a_itemKind a_itemName a_itemValue a_itemFit a_matches a_grows hR
  have J : ∀ M G : Nat → Int32, i_Rel (k + 4) (f_cellLimit, f_definitionLimit, f_depthLimit, f_itemLimit, f_cellCount, f_definedCount, f_live, f_state, f_depth, a_kinds, a_firsts, a_seconds, a_widths, a_uses, a_parents, a_attributed, a_owners, a_places, a_contents, a_columns, a_unused, a_childless, a_nullable, a_growEarly, a_growLate, a_guards, a_items, a_names, a_late, a_residuals, a_next) (f_cellLimit, f_definitionLimit, f_depthLimit, f_itemLimit, f_cellCount, f_state, f_depth, f_rootDefinition, a_kinds, a_firsts, a_seconds, a_widths, a_uses, b_items, a_itemKind, a_itemName, a_itemValue, a_itemFit, M, G) := fun M G => zz_in hR
  obtain ⟨lim, cnt, dl, dpl, itl, st, dy⟩ := hR
  obtain ⟨_, hd, _, _, hn, _, H, tb, lv, _⟩ := st
  have dl8 := H.1.2
  unfold wpX_possible wpX_isDefinition wpY_possible
  dsimp only
  rcases dy with ⟨hs, hd0⟩ | ⟨hs, D, root, dn, nas, dy⟩
  · have n1 : ¬ f_state = 1 := by
      rcases hs with h | h
      · rw [h]; decide
      · rw [h]; decide
    exact br_f n1 (br_f n1 ⟨rfl, J _ _⟩)
  · obtain ⟨hD, hr, ⟨r8, _⟩, Dd, cf, hit, _, _, hrow, hans⟩ := dy
    have D1 := cf.1
    have D5 := cf.2.1
    refine br_t hs ?_
    by_cases h0 : v1 < 0
    · exact br_t h0 (br_t rfl (br_t hs (br_t h0 ⟨rfl, J _ _⟩)))
    · by_cases h1 : f_definitionLimit ≤ v1
      · exact br_f h0 (br_t h1 (br_t rfl (br_t hs (br_f h0 (br_f (Int32.not_lt.2 h1) ⟨rfl, J _ _⟩)))))
      · obtain ⟨j, hj, rfl⟩ := nI_of h0
        have jd : j < dl := by rw [hd, nI_leI (by omega) hj] at h1; omega
        have ei : (f_depth - 1) * 8 + nI j = nI ((D - 1) * 8 + j) := by
          rw [hD, show (1 : Int32) = nI 1 from rfl, pk_sub D1, show (8 : Int32) = nI 8 from rfl, pk_mul, nI_add]
        have ec : (nI ((D - 1) * 8 + j)).toNatClampNeg = (D - 1) * 8 + j := sx_cl 40 (by omega)
        have vi : vp_in ((f_depth - 1) * 8 + nI j) 40 := by rw [ei]; exact vp_in_nI (by omega) (by decide)
        have d1 : f_depth = 1 ↔ D = 1 := by rw [hD]; exact nI_eq (b := 1) (by omega) (by decide)
        have hna := (cf.2.2.1 (D - 1) (by omega)).2.1
        -- the row holds something
        have hx : ¬ a_residuals ((D - 1) * 8 + j) = 0 ↔ sl_poss cnt a_kinds a_firsts a_seconds a_widths a_owners a_places a_contents a_childless a_nullable a_growEarly a_growLate f_live a_itemKind a_itemName a_itemValue a_itemFit dn nas root (D - 1) j ∧ ∃ s, sl_row cnt a_kinds a_firsts a_seconds a_widths a_owners a_places a_contents a_childless a_nullable a_growEarly a_growLate a_itemKind a_itemName a_itemValue a_itemFit (D - 1) (dn (D - 1)) (nas (D - 1)) 0 j s := by
          rw [sd_ne0]
          constructor
          · rintro ⟨s, s6, h⟩
            have := (hrow (D - 1) j (by omega) (by omega) s s6).1 h
            exact ⟨this.1, s, this.2⟩
          · rintro ⟨h2, s, h3⟩
            have s6 : sd_S6 s := by
              obtain ⟨r, r1, r2, ru, _⟩ := h3
              exact sl_run_6 H tb (by omega) hna r2 r1 ru
            exact ⟨s, s6, (hrow (D - 1) j (by omega) (by omega) s s6).2 ⟨h2, h3⟩⟩
        -- Y's answer
        have goY : ∀ (post : Int32 → SY → Prop), (¬ a_residuals ((D - 1) * 8 + j) = 0 → ∀ M G : Nat → Int32, post 1 (f_cellLimit, f_definitionLimit, f_depthLimit, f_itemLimit, f_cellCount, f_state, f_depth, f_rootDefinition, a_kinds, a_firsts, a_seconds, a_widths, a_uses, b_items, a_itemKind, a_itemName, a_itemValue, a_itemFit, M, G)) → (a_residuals ((D - 1) * 8 + j) = 0 → ∀ M G : Nat → Int32, post 0 (f_cellLimit, f_definitionLimit, f_depthLimit, f_itemLimit, f_cellCount, f_state, f_depth, f_rootDefinition, a_kinds, a_firsts, a_seconds, a_widths, a_uses, b_items, a_itemKind, a_itemName, a_itemValue, a_itemFit, M, G)) →
            ((f_depth = 1 → ((nI j = f_rootDefinition → post 1 (f_cellLimit, f_definitionLimit, f_depthLimit, f_itemLimit, f_cellCount, f_state, f_depth, f_rootDefinition, a_kinds, a_firsts, a_seconds, a_widths, a_uses, b_items, a_itemKind, a_itemName, a_itemValue, a_itemFit, a_matches, a_grows)) ∧ (¬ nI j = f_rootDefinition → post 0 (f_cellLimit, f_definitionLimit, f_depthLimit, f_itemLimit, f_cellCount, f_state, f_depth, f_rootDefinition, a_kinds, a_firsts, a_seconds, a_widths, a_uses, b_items, a_itemKind, a_itemName, a_itemValue, a_itemFit, a_matches, a_grows)))) ∧ (¬ f_depth = 1 → wpY_hopeful post (f_cellLimit, f_definitionLimit, f_depthLimit, f_itemLimit, f_cellCount, f_state, f_depth, f_rootDefinition, a_kinds, a_firsts, a_seconds, a_widths, a_uses, b_items, a_itemKind, a_itemName, a_itemValue, a_itemFit, a_matches, a_grows) ((1 : Int32) <<< (nI j &&& 31)))) := by
          intro post p1 p0
          refine br_c (fun e => ?_) (fun e => ?_)
          · have D1' := d1.1 e
            have eq : nI j = f_rootDefinition ↔ j = root := by rw [hr]; exact nI_eq hj (by omega)
            obtain ⟨j', j8', _, hp', hs'⟩ := hans
            rw [D1'] at hp' hs' hx
            have hx' : ¬ a_residuals ((1 - 1) * 8 + j) = 0 ↔ j = root := by
              rw [hx]
              constructor
              · exact fun q => q.1
              · intro q
                have : j' = j := (show j' = root from hp').trans q.symm
                rw [this] at hs'
                exact ⟨q, hs'⟩
            rw [D1'] at p1 p0
            exact br_c (fun z => p1 (hx'.2 (eq.1 z)) _ _) (fun z => p0 (Classical.byContradiction (fun w => z (eq.2 (hx'.1 w)))) _ _)
          · have ans : sl_ans cnt a_kinds a_firsts a_seconds a_widths a_owners a_places a_contents a_childless a_nullable a_growEarly a_growLate f_live a_itemKind a_itemName a_itemValue a_itemFit D dn nas root ((1 : Int32) <<< (nI j &&& 31)) ↔ ¬ a_residuals ((D - 1) * 8 + j) = 0 := by
              rw [hx]
              constructor
              · rintro ⟨j', j8, hb, h2, h3⟩
                have := (sr_1sh j (by omega) j' j8).1 hb
                subst this
                exact ⟨h2, h3⟩
              · rintro ⟨h2, h3⟩
                exact ⟨j, by omega, (sr_1sh j (by omega) j (by omega)).2 rfl, h2, h3⟩
            exact sr_hope H tb lv hn hD hr r8 cf (fun l hl => (hit l hl).2.1) (fun q M G => p1 (ans.1 q) M G) (fun q M G => p0 (Classical.byContradiction (fun w => q (ans.2 w))) M G)
        refine br_f h0 (br_f h1 (br_f (by decide) (And.intro vi ?_)))
        rw [ei, ec]
        refine br_c (fun z => ?_) (fun z => ?_)
        · refine br_t hs (br_f h0 (br_t (Int32.not_le.1 h1) ?_))
          have g1 := goY (fun r' v' => narrow .boolean (.int r') = .int r' ∧ r' = 0 ∧ i_Rel (k + 4) (f_cellLimit, f_definitionLimit, f_depthLimit, f_itemLimit, f_cellCount, f_definedCount, f_live, f_state, f_depth, a_kinds, a_firsts, a_seconds, a_widths, a_uses, a_parents, a_attributed, a_owners, a_places, a_contents, a_columns, a_unused, a_childless, a_nullable, a_growEarly, a_growLate, a_guards, a_items, a_names, a_late, a_residuals, a_next) v') (fun q => absurd z q) (fun _ M G => ⟨narrow_b0, rfl, J M G⟩)
          exact ⟨fun e => ⟨fun w => ((g1.1 e).1 w).2, fun w => ((g1.1 e).2 w).2⟩, g1.2⟩
        · refine br_t hs (br_f h0 (br_t (Int32.not_le.1 h1) ?_))
          have g1 := goY (fun r' v' => narrow .boolean (.int r') = .int r' ∧ r' = 1 ∧ i_Rel (k + 4) (f_cellLimit, f_definitionLimit, f_depthLimit, f_itemLimit, f_cellCount, f_definedCount, f_live, f_state, f_depth, a_kinds, a_firsts, a_seconds, a_widths, a_uses, a_parents, a_attributed, a_owners, a_places, a_contents, a_columns, a_unused, a_childless, a_nullable, a_growEarly, a_growLate, a_guards, a_items, a_names, a_late, a_residuals, a_next) v') (fun _ M G => ⟨narrow_b1, rfl, J M G⟩) (fun q => absurd q z)
          exact ⟨fun e => ⟨fun w => ((g1.1 e).1 w).2, fun w => ((g1.1 e).2 w).2⟩, g1.2⟩
end
section
/-! Adding a cell: what stays -/
section
variable {cnt dl : Nat} {K F S W U P A Ow Pl Ct : Nat → Int32} {col Un Cl Nu Ge Gl Gd : Nat → Int64} {live : Int32}
variable {cnt' : Nat} {K' F' S' W' U' P' A' Ow' : Nat → Int32}
theorem sf_n {a b : Nat → Int32} {c : Nat} (h : a c = b c) : sd_n a c = sd_n b c := by unfold sd_n; rw [h]
theorem sf_ps {a b : Nat → Int32} {c : Nat} (h : a c = b c) : sd_n a c = sd_n b c := sf_n h
/-- arrays that agree on the owned cells -/
def sb_ag (cnt : Nat) (Ow K F S W P K' F' S' W' P' : Nat → Int32) : Prop :=
  ∀ c, sc_O cnt Ow sb_own c → K' c = K c ∧ F' c = F c ∧ S' c = S c ∧ W' c = W c ∧ P' c = P c
theorem sb_agn (ag : sb_ag cnt Ow K F S W P K' F' S' W' P') {c : Nat} (o : sc_O cnt Ow sb_own c) :
    sd_n K' c = sd_n K c ∧ sd_n F' c = sd_n F c ∧ sd_n S' c = sd_n S c ∧ sd_n W' c = sd_n W c ∧ sd_n P' c = sd_n P c := by
  obtain ⟨a1, a2, a3, a4, a5⟩ := ag c o
  exact ⟨sf_n a1, sf_n a2, sf_n a3, sf_n a4, sf_n a5⟩
theorem sb_fr_gr (ht : sd_tr (sd_n K) (sd_n F) (sd_n S) (sd_n Pl) (sd_n W) (sc_O cnt Ow sb_own)) (hO : ∀ c, sc_O cnt' Ow sb_own c ↔ sc_O cnt Ow sb_own c) (ag : sb_ag cnt Ow K F S W P K' F' S' W' P')
    {fi fi' : Nat → Prop} {g : Nat → (Nat → Bool) → Prop} (hf : ∀ c, sc_O cnt Ow sb_own c → (fi' c ↔ fi c))
    (hg : sd_grE (sd_n K) (sd_n F) (sd_n S) (sd_n Pl) (sd_n W) (sc_O cnt Ow sb_own) fi g) : sd_grE (sd_n K') (sd_n F') (sd_n S') (sd_n Pl) (sd_n W') (sc_O cnt' Ow sb_own) fi' g := by
  intro c oc s
  have o := (hO c).1 oc
  obtain ⟨e1, e2, e3, e4, _⟩ := sb_agn ag o
  obtain ⟨a1, a2, a3, a4, a5⟩ := hg c o s
  rw [e1, e2, e3, e4]
  refine ⟨fun k => ?_, a2, fun k => ?_, a4, a5⟩
  · rw [hf c o]; exact a1 k
  · rw [(sb_agn ag (sd_tp ht o (by omega)).1).2.2.2.1, (sb_agn ag (sd_tq ht o (by omega) (by omega)).1).2.2.2.1]; exact a3 k
theorem sb_fr_cl (hO : ∀ c, sc_O cnt' Ow sb_own c ↔ sc_O cnt Ow sb_own c) (ag : sb_ag cnt Ow K F S W P K' F' S' W' P') {g : Nat → (Nat → Bool) → Prop}
    (hg : sd_clE (sd_n K) (sd_n F) (sd_n S) (sd_n Pl) (sc_O cnt Ow sb_own) g) : sd_clE (sd_n K') (sd_n F') (sd_n S') (sd_n Pl) (sc_O cnt' Ow sb_own) g := by
  intro c oc s
  have o := (hO c).1 oc
  obtain ⟨e1, e2, e3, e4, _⟩ := sb_agn ag o
  rw [e1, e2, e3]; exact hg c o s
theorem sb_fr_nu (ht : sd_tr (sd_n K) (sd_n F) (sd_n S) (sd_n Pl) (sd_n W) (sc_O cnt Ow sb_own)) (hO : ∀ c, sc_O cnt' Ow sb_own c ↔ sc_O cnt Ow sb_own c) (ag : sb_ag cnt Ow K F S W P K' F' S' W' P')
    {g : Nat → (Nat → Bool) → Prop} (hg : sd_nuE (sd_n K) (sd_n F) (sd_n S) (sd_n Pl) (sd_n W) (sc_O cnt Ow sb_own) g) : sd_nuE (sd_n K') (sd_n F') (sd_n S') (sd_n Pl) (sd_n W') (sc_O cnt' Ow sb_own) g := by
  intro c oc s
  have o := (hO c).1 oc
  obtain ⟨e1, e2, e3, e4, _⟩ := sb_agn ag o
  obtain ⟨a1, a2, a3, a4, a5, a6, a7, a8⟩ := hg c o s
  rw [e1, e2, e3]
  refine ⟨a1, a2, a3, a4, a5, fun k => ?_, a7, a8⟩
  rw [(sb_agn ag (sd_tp ht o (by omega)).1).2.2.2.1, (sb_agn ag (sd_tq ht o (by omega) (by omega)).1).2.2.2.1]; exact a6 k
theorem sb_fr_way (H : sc_Sch cnt dl K F S W U P A Ow Pl Ct) (ag : sb_ag cnt Ow K F S W P K' F' S' W' P') {l J : Nat} (o : sc_O cnt Ow sb_own l) (hw : sx_way P' (sd_up (sd_n P') l) J) :
    sx_way P (sd_up (sd_n P) l) J ∧ ∀ i, i ≤ J → sd_up (sd_n P') l i = sd_up (sd_n P) l i ∧ sc_O cnt Ow sb_own (sd_up (sd_n P) l i) := by
  obtain ⟨k, hk, hok⟩ := sb_owk H (cnt - l) l o.1 (by omega) o.2
  obtain ⟨J0, w0, _, hOk, _⟩ := sc_wayX H hk o.1 hok
  have hO0 : ∀ i, i ≤ J0 → sc_O cnt Ow sb_own (sd_up (sd_n P) l i) := fun i hi => sb_sub (sb_Vn hk) (hOk i hi)
  have ups : ∀ i, i ≤ J0 → sd_up (sd_n P') l i = sd_up (sd_n P) l i := by
    intro i
    induction i with
    | zero => intro _; show l = l; rfl
    | succ i ih =>
      intro hi
      show sd_n P' (sd_up (sd_n P') l i) = sd_n P (sd_up (sd_n P) l i)
      rw [ih (by omega)]
      exact (sb_agn ag (hO0 i (by omega))).2.2.2.2
  have w0' : sx_way P' (sd_up (sd_n P') l) J0 := by
    obtain ⟨x1, x2, x3, x4⟩ := w0
    refine ⟨x1, fun i hi => by rw [ups i hi]; exact x2 i hi, fun i hi => ?_, ?_⟩
    · rw [ups i (by omega), ups (i + 1) (by omega), (ag _ (hO0 i (by omega))).2.2.2.2]; exact x3 i hi
    · rw [ups J0 (Nat.le_refl _), (ag _ (hO0 J0 (Nat.le_refl _))).2.2.2.2]; exact x4
  have eJ := sb_way1 hw w0'
  subst eJ
  exact ⟨w0, fun i hi => ⟨ups i hi, hO0 i hi⟩⟩
theorem sb_fr_ps (ht : sd_tr (sd_n K) (sd_n F) (sd_n S) (sd_n Pl) (sd_n W) (sc_O cnt Ow sb_own)) (ag : sb_ag cnt Ow K F S W P K' F' S' W' P') {cl nu : Nat → (Nat → Bool) → Prop} {bb : Bool} {c d : Nat} {s : Nat → Bool} (oc : sc_O cnt Ow sb_own c) :
    sd_ps (sd_n K) (sd_n F) (sd_n S) (sd_n Pl) (sd_n W) cl nu bb c d s ↔ sd_ps (sd_n K') (sd_n F') (sd_n S') (sd_n Pl) (sd_n W') cl nu bb c d s := by
  obtain ⟨e1, e2, e3, e4, _⟩ := sb_agn ag oc
  unfold sd_ps
  rw [e1, e2, e3]
  refine and_congr ?_ Iff.rfl
  constructor
  · intro q k4
    rw [(sb_agn ag (sd_tp ht oc (by omega)).1).2.2.2.1, (sb_agn ag (sd_tq ht oc (by omega) (by omega)).1).2.2.2.1]; exact q k4
  · intro q k4
    have := q k4
    rw [(sb_agn ag (sd_tp ht oc (by omega)).1).2.2.2.1, (sb_agn ag (sd_tq ht oc (by omega) (by omega)).1).2.2.2.1] at this; exact this
theorem sb_fr_gd (H : sc_Sch cnt dl K F S W U P A Ow Pl Ct) (ag : sb_ag cnt Ow K F S W P K' F' S' W' P') {cl nu : Nat → (Nat → Bool) → Prop} {bb : Bool} {l J : Nat} {s : Nat → Bool} (o : sc_O cnt Ow sb_own l) (hw : sx_way P' (sd_up (sd_n P') l) J) :
    sd_gd (sd_n K) (sd_n F) (sd_n S) (sd_n Pl) (sd_n W) cl nu (sd_n P) bb l J s ↔ sd_gd (sd_n K') (sd_n F') (sd_n S') (sd_n Pl) (sd_n W') cl nu (sd_n P') bb l J s := by
  have ht := sc_tr (V := sb_own) H sb_own0
  obtain ⟨w0, hi⟩ := sb_fr_way H ag o hw
  unfold sd_gd
  refine and_congr (by rw [(sb_agn ag o).1]) ?_
  have one : ∀ i, i < J → (sd_ps (sd_n K) (sd_n F) (sd_n S) (sd_n Pl) (sd_n W) cl nu bb (sd_up (sd_n P) l (i + 1)) (sd_up (sd_n P) l i) s ↔
      sd_ps (sd_n K') (sd_n F') (sd_n S') (sd_n Pl) (sd_n W') cl nu bb (sd_up (sd_n P') l (i + 1)) (sd_up (sd_n P') l i) s) := by
    intro i hi'
    rw [(hi i (by omega)).1, (hi (i + 1) (by omega)).1]
    exact sb_fr_ps ht ag (hi (i + 1) (by omega)).2
  exact ⟨fun q i hi => (one i hi).1 (q i hi), fun q i hi => (one i hi).2 (q i hi)⟩
/-- the tables see the owned cells alone -/
theorem sb_tab_fr (H : sc_Sch cnt dl K F S W U P A Ow Pl Ct) (tb : sb_tab cnt K F S W P Ow Pl Un Cl Nu Ge Gl Gd live) (hO : ∀ c, sc_O cnt' Ow sb_own c ↔ sc_O cnt Ow sb_own c)
    (ag : sb_ag cnt Ow K F S W P K' F' S' W' P') : sb_tab cnt' K' F' S' W' P' Ow Pl Un Cl Nu Ge Gl Gd live := by
  obtain ⟨t1, t2, t3, t4, t5, t6⟩ := tb
  have ht := sc_tr (V := sb_own) H sb_own0
  have fil : ∀ c, sc_O cnt Ow sb_own c → (sx_fil K' S' live c ↔ sx_fil K S live c) := fun c o => by
    obtain ⟨e1, e2, e3, e4, _⟩ := sb_agn ag o
    unfold sx_fil; rw [e1, e3]
  have filL : ∀ c, sc_O cnt Ow sb_own c → (sb_filL K' S' live c ↔ sb_filL K S live c) := fun c o => by
    obtain ⟨e1, e2, e3, e4, _⟩ := sb_agn ag o
    unfold sb_filL; rw [e1, fil c o]
  refine ⟨fun c oc s => ?_, sb_fr_cl hO ag t2, sb_fr_nu ht hO ag t3, sb_fr_gr ht hO ag fil t4, sb_fr_gr ht hO ag filL t5, fun l ol k0 k4 J hw s => ?_⟩
  · have o := (hO c).1 oc
    rw [(sb_agn ag o).2.2.2.1]; exact t1 c o s
  · have o := (hO l).1 ol
    have e1 := (sb_agn ag o).1
    rw [e1] at k0 k4
    have eb : decide (sd_n K' l ≠ 2) = decide (sd_n K l ≠ 2) := decide_eq_decide.2 (by rw [e1])
    rw [eb]
    exact (t6 l o k0 k4 J (sb_fr_way H ag o hw).1 s).trans (sb_fr_gd H ag o hw)
theorem sb_liv_fr (lv : sb_liv cnt K F S Ow Ct Un live) (hO : ∀ c, sc_O cnt' Ow sb_own c ↔ sc_O cnt Ow sb_own c)
    (ag : ∀ c, sc_O cnt Ow sb_own c → K' c = K c ∧ F' c = F c ∧ S' c = S c) : sb_liv cnt' K' F' S' Ow Ct Un live := by
  obtain ⟨L, l0, hL, l9⟩ := lv
  refine ⟨L, l0, fun i hi => ?_, l9⟩
  obtain ⟨Ge', Gl', g, b⟩ := hL i hi
  refine ⟨Ge', Gl', fun c hc ho => ?_, b⟩
  have o := (hO c).1 ⟨hc, ho⟩
  have q := g c o.1 o.2
  obtain ⟨e1, e2, e3⟩ := ag c o
  unfold sx_groE sx_fil sd_n at q ⊢
  rw [e1, e2, e3]
  exact q
/-- a new cell; OP: its operands -/
theorem sc_ext (H : sc_Sch cnt dl K F S W U P A Ow Pl Ct) (h24 : cnt < 24) {OP : Nat → Prop}
    (ag : ∀ c, c < cnt → K' c = K c ∧ F' c = F c ∧ S' c = S c ∧ W' c = W c ∧ A' c = A c)
    (hU : ∀ c, ¬ OP c → U' c = U c) (hP : ∀ c, ¬ OP c → c ≠ cnt → P' c = P c) (hPn : P' cnt = -1)
    (hop : ∀ c, OP c → c < cnt ∧ U c = 0 ∧ U' c = 1 ∧ P' c = nI cnt ∧ 4 ≤ sd_n K' cnt ∧ (c = sd_n F' cnt ∨ (sd_n K' cnt ≠ 7 ∧ c = sd_n S' cnt)))
    (tn : sc_tree K' F' S' W' U' P' A' cnt) : sc_Sch (cnt + 1) dl K' F' S' W' U' P' A' Ow Pl Ct := by
  obtain ⟨⟨_, d8⟩, H1, H2, H3, H4, H5⟩ := H
  have eK : ∀ c, c < cnt → sd_n K' c = sd_n K c := fun c o => sf_n (ag c o).1
  have eF : ∀ c, c < cnt → sd_n F' c = sd_n F c := fun c o => sf_n (ag c o).2.1
  have eS : ∀ c, c < cnt → sd_n S' c = sd_n S c := fun c o => sf_n (ag c o).2.2.1
  have eW : ∀ c, c < cnt → sd_n W' c = sd_n W c := fun c o => sf_n (ag c o).2.2.2.1
  have n1 : ∀ c, U c = 1 → ¬ OP c := fun c h q => by have := (hop c q).2.1; rw [h] at this; exact absurd this (by decide)
  have ncnt : ¬ OP cnt := fun q => by have := (hop cnt q).1; omega
  refine ⟨⟨by omega, d8⟩, fun c hc => ?_, fun c hc => ?_, fun c hc => ?_, fun k hk => ?_, fun c hc => ?_⟩
  · by_cases e : c = cnt
    · rw [e]; exact tn
    · have c' : c < cnt := by omega
      obtain ⟨t1, t2, t3, t4, t5, t6, t7, t8, t9, t10⟩ := H1 c c'
      obtain ⟨a1, a2, a3, a4, a5⟩ := ag c c'
      unfold sc_tree
      rw [eK c c', eF c c', eS c c', eW c c', a1, a2, a3, a4, a5]
      refine ⟨t1, t2, t3, t4, t5, t6, t7, fun k => ?_, fun k => ?_, fun k k7 => ?_⟩
      · obtain ⟨g1, g2, g3, g4⟩ := t8 k
        have no := n1 _ g3
        exact ⟨g1, g2, by rw [hU _ no]; exact g3, by rw [hP _ no (by omega)]; exact g4⟩
      · obtain ⟨g1, g2, g3⟩ := t9 k
        have l := (t8 (by omega)).2.1
        rw [eW _ (by omega), (ag _ (show sd_n F c < cnt by omega)).2.2.2.2]
        exact ⟨g1, g2, g3⟩
      · obtain ⟨g1, g2, g3, g4, g5, g6, g7⟩ := t10 k k7
        have l := (t8 k).2.1
        have no := n1 _ g4
        rw [eW _ (show sd_n F c < cnt by omega), eW _ (show sd_n S c < cnt by omega), (ag _ (show sd_n F c < cnt by omega)).2.2.2.2, (ag _ (show sd_n S c < cnt by omega)).2.2.2.2]
        exact ⟨g1, g2, g3, by rw [hU _ no]; exact g4, by rw [hP _ no (by omega)]; exact g5, g6, g7⟩
  · by_cases e : c = cnt
    · rw [e]
      refine Or.inl ⟨?_, hPn, (H5 cnt (Nat.le_refl _)).2⟩
      rw [hU cnt ncnt]; exact (H5 cnt (Nat.le_refl _)).1
    · have c' : c < cnt := by omega
      by_cases o : OP c
      · obtain ⟨g1, g2, g3, g4, g5, g6⟩ := hop c o
        refine Or.inr (Or.inl ⟨g3, cnt, by omega, c', g4, g5, g6, ?_⟩)
        rw [(H5 cnt (Nat.le_refl _)).2]
        rcases H2 c c' with ⟨_, _, h⟩ | ⟨h, _⟩ | ⟨k, hk, h, _⟩
        · exact h
        · rw [g2] at h; exact absurd h (by decide)
        · rw [g2] at h; exact absurd (sx_nIne (a := 0) (by omega) (by omega) h) (by omega)
      · rcases H2 c c' with h | ⟨h1, d, h2, h3, h4, h5, h6, h7⟩ | h
        · exact Or.inl (by rw [hU c o, hP c o e]; exact h)
        · refine Or.inr (Or.inl ⟨by rw [hU c o]; exact h1, d, by omega, h3, by rw [hP c o e]; exact h4, ?_, ?_, h7⟩)
          · rw [eK d h2]; exact h5
          · rw [eK d h2, eF d h2, eS d h2]; exact h6
        · exact Or.inr (Or.inr (by rw [hU c o, hP c o e]; exact h))
  · by_cases e : c = cnt
    · rw [e]
      exact fun q => absurd (H5 cnt (Nat.le_refl _)).2 q
    · have c' : c < cnt := by omega
      intro q
      obtain ⟨g1, g2, g3, g4⟩ := H3 c c' q
      rw [eK c c', eF c c', eS c c', eW c c']
      refine ⟨g1, g2, g3, fun k k7 => ?_⟩
      have l := ((H1 c c').2.2.2.2.2.2.2.1 k).2.1
      rw [(ag _ (show sd_n F c < cnt by omega)).2.2.2.1]
      exact g4 k k7
  · rcases H4 k hk with h | ⟨r, h1, h2, h3, h4⟩
    · exact Or.inl h
    · refine Or.inr ⟨r, by omega, h2, ?_, h4⟩
      rw [hU r (fun q => ?_)]
      · exact h3
      · have := (hop r q).2.1
        rw [h3] at this
        exact absurd (sx_nIne (b := 0) (by omega) (by omega) this) (by omega)
  · obtain ⟨h1, h2⟩ := H5 c (by omega)
    rw [hU c (fun q => by have := (hop c q).1; omega)]
    exact ⟨h1, h2⟩
theorem sr_cn_cg {U U' : Nat → Int32} : ∀ n, (∀ c, c < n → (U' c < 2 ↔ U c < 2)) → sr_cn U' n = sr_cn U n := by
  intro n
  induction n with
  | zero => exact fun _ => rfl
  | succ n ih =>
    intro h
    show sr_cn U' n + _ = sr_cn U n + _
    rw [ih (fun c hc => h c (by omega))]
    have := h n (by omega)
    by_cases q : U n < 2
    · rw [if_pos q, if_pos (this.2 q)]
    · rw [if_neg q, if_neg (fun z => q (this.1 z))]
theorem sr_cn_le (U : Nat → Int32) : ∀ n, sr_cn U n ≤ n := by
  intro n
  induction n with
  | zero => exact Nat.le_refl _
  | succ n ih =>
    show sr_cn U n + _ ≤ n + 1
    split <;> omega
end
end
section
/-! leaf -/
section
variable {f_cellLimit f_definitionLimit f_depthLimit f_itemLimit f_cellCount f_definedCount f_live f_state f_depth : Int32}
variable {a_kinds a_firsts a_seconds a_widths a_uses a_parents a_attributed a_owners a_places a_contents a_items a_names a_late : Nat → Int32} {a_columns a_unused a_childless a_nullable a_growEarly a_growLate a_guards a_residuals a_next : Nat → Int64}
variable {f_rootDefinition : Int32} {b_items a_itemKind a_itemName a_itemValue a_itemFit a_matches a_grows : Nat → Int32}
variable {lim cnt dl dpl itl : Nat}
theorem sr_new (st : sr_St f_cellLimit f_definitionLimit f_depthLimit f_itemLimit f_cellCount f_definedCount f_live a_kinds a_firsts a_seconds a_widths a_uses a_parents a_attributed a_owners a_places a_contents a_columns a_unused a_childless a_nullable a_growEarly a_growLate a_guards lim cnt dl dpl itl) (hl : cnt < lim) {K' F' S' W' U' P' A' : Nat → Int32} {OP : Nat → Prop}
    (ag : ∀ c, c < cnt → K' c = a_kinds c ∧ F' c = a_firsts c ∧ S' c = a_seconds c ∧ W' c = a_widths c ∧ A' c = a_attributed c)
    (hU : ∀ c, ¬ OP c → U' c = a_uses c) (hP : ∀ c, ¬ OP c → c ≠ cnt → P' c = a_parents c) (hPn : P' cnt = -1)
    (hop : ∀ c, OP c → c < cnt ∧ a_uses c = 0 ∧ U' c = 1 ∧ P' c = nI cnt ∧ 4 ≤ sd_n K' cnt ∧ (c = sd_n F' cnt ∨ (sd_n K' cnt ≠ 7 ∧ c = sd_n S' cnt)))
    (tn : sc_tree K' F' S' W' U' P' A' cnt) :
    sr_St f_cellLimit f_definitionLimit f_depthLimit f_itemLimit (nI (cnt + 1)) f_definedCount f_live K' F' S' W' U' P' A' a_owners a_places a_contents a_columns a_unused a_childless a_nullable a_growEarly a_growLate a_guards lim (cnt + 1) dl dpl itl := by
  obtain ⟨s1, s2, s3, s4, s5, s6, H, tb, lv, s10⟩ := st
  have o0 := H.2.2.2.2.2 cnt (Nat.le_refl _)
  have ncnt : ¬ OP cnt := fun q => by have := (hop cnt q).1; omega
  have hO : ∀ c, sc_O (cnt + 1) a_owners sb_own c ↔ sc_O cnt a_owners sb_own c := by
    intro c
    constructor
    · rintro ⟨h1, h2⟩
      refine ⟨?_, h2⟩
      by_cases e : c = cnt
      · subst e; exact absurd o0.2 h2
      · omega
    · exact fun h => ⟨by have := h.1; omega, h.2⟩
  have hag : sb_ag cnt a_owners a_kinds a_firsts a_seconds a_widths a_parents K' F' S' W' P' := by
    intro c o
    obtain ⟨g1, g2, g3, g4, _⟩ := ag c o.1
    refine ⟨g1, g2, g3, g4, hP c (fun q => ?_) (by have := o.1; omega)⟩
    have u0 := (hop c q).2.1
    rcases H.2.2.1 c o.1 with ⟨_, _, h⟩ | ⟨h, _⟩ | ⟨k, hk, h, _⟩
    · exact o.2 h
    · rw [u0] at h; exact absurd h (by decide)
    · rw [u0] at h; exact absurd (sx_nIne (a := 0) (by omega) (by omega) h) (by omega)
  refine ⟨⟨s1.1, s1.2.1, by omega⟩, s2, s3, s4, rfl, ?_, sc_ext H (by omega) ag hU hP hPn hop tn, sb_tab_fr H tb hO hag, sb_liv_fr lv hO (fun c o => ⟨(hag c o).1, (hag c o).2.1, (hag c o).2.2.1⟩), s10⟩
  rw [s6]
  congr 1
  show sr_cn a_uses cnt = sr_cn U' cnt + (if U' cnt < 2 then 0 else 1)
  rw [hU cnt ncnt, o0.1, if_pos (by decide)]
  refine (sr_cn_cg cnt (fun c hc => ?_)).symm
  by_cases q : OP c
  · obtain ⟨_, g2, g3, _⟩ := hop c q
    rw [g2, g3]; decide
  · rw [hU c q]
theorem sr_leafT (h24 : cnt < 24) {kd : Nat} {f0 s0 q : Int32} {w0 : Nat} (k4 : kd < 4) (w : w0 = if kd = 0 then 0 else 1) (hq : q = if kd = 2 then 1 else 0) (hs : kd = 3 → ∃ j, j < 8 ∧ s0 = nI j) :
    sc_tree (upd a_kinds cnt (nI kd)) (upd a_firsts cnt f0) (upd a_seconds cnt s0) (upd a_widths cnt (nI w0)) a_uses (upd a_parents cnt (-1)) (upd a_attributed cnt q) cnt := by
  have eK : sd_n (upd a_kinds cnt (nI kd)) cnt = kd := sd_n_of pk_us (by omega)
  have w2 : w0 ≤ 1 := by rw [w]; split <;> omega
  have eW : sd_n (upd a_widths cnt (nI w0)) cnt = w0 := sd_n_of pk_us (by omega)
  unfold sc_tree
  rw [eK, eW, pk_us, pk_us, pk_us, pk_us, pk_us]
  refine ⟨⟨rfl, by omega⟩, ⟨rfl, by omega⟩, fun k => by rw [w, if_pos k], fun k _ => by rw [w, if_neg k], ?_, fun _ => ?_, fun k => ?_, fun k => by omega, fun k => by omega, fun k => by omega⟩
  · rw [hq]; split
    · exact Or.inr rfl
    · exact Or.inl rfl
  · rw [hq]
    by_cases e : kd = 2
    · rw [if_pos e]; exact ⟨fun _ => e, fun _ => rfl⟩
    · rw [if_neg e]; exact ⟨fun z => absurd z (by decide), fun z => absurd z e⟩
  · obtain ⟨j, hj, e⟩ := hs k
    have : sd_n (upd a_seconds cnt s0) cnt = j := sd_n_of (by rw [pk_us, e]) (by omega)
    rw [this]
    exact ⟨e, hj⟩
/-- X's and Y's new leaf -/
theorem sr_leafR {k : Nat} (st : sr_St f_cellLimit f_definitionLimit f_depthLimit f_itemLimit f_cellCount f_definedCount f_live a_kinds a_firsts a_seconds a_widths a_uses a_parents a_attributed a_owners a_places a_contents a_columns a_unused a_childless a_nullable a_growEarly a_growLate a_guards lim cnt dl dpl itl) (hs : f_state = 0 ∨ f_state = 2) (hd : f_depth = 0) (hl : cnt < lim) {kd : Nat} {f0 s0 q : Int32} {w0 : Nat} (k4 : kd < 4) (w : w0 = if kd = 0 then 0 else 1) (hq : q = if kd = 2 then 1 else 0)
    (hj : kd = 3 → ∃ j, j < 8 ∧ s0 = nI j) :
    i_Rel k (f_cellLimit, f_definitionLimit, f_depthLimit, f_itemLimit, nI (cnt + 1), f_definedCount, f_live, f_state, f_depth, upd a_kinds cnt (nI kd), upd a_firsts cnt f0, upd a_seconds cnt s0, upd a_widths cnt (nI w0), a_uses, upd a_parents cnt (-1), upd a_attributed cnt q, a_owners, a_places, a_contents, a_columns, a_unused, a_childless, a_nullable, a_growEarly, a_growLate, a_guards, a_items, a_names, a_late, a_residuals, a_next)
      (f_cellLimit, f_definitionLimit, f_depthLimit, f_itemLimit, nI (cnt + 1), f_state, f_depth, f_rootDefinition, upd a_kinds cnt (nI kd), upd a_firsts cnt f0, upd a_seconds cnt s0, upd a_widths cnt (nI w0), a_uses, b_items, a_itemKind, a_itemName, a_itemValue, a_itemFit, a_matches, a_grows) := by
  have l24 := st.1.2.1
  refine zz_in ⟨lim, cnt + 1, dl, dpl, itl, sr_new st hl (OP := fun _ => False) (fun c hc => ⟨pk_un (by omega), pk_un (by omega), pk_un (by omega), pk_un (by omega), pk_un (by omega)⟩) (fun c _ => rfl) (fun c _ ne => pk_un ne) pk_us (fun c q => q.elim)
    (sr_leafT (by omega) k4 w hq hj), Or.inl ⟨hs, hd⟩⟩
end
section
variable {f_cellLimit f_definitionLimit f_depthLimit f_itemLimit f_made f_state f_depth f_rootDefinition : Int32}
variable {a_kind a_first a_second a_width a_use a_items a_itemKind a_itemName a_itemValue a_itemFit a_matches a_grows : Nat → Int32}
theorem sy_make {cnt : Nat} (hn : f_made = nI cnt) (h24 : cnt < 24) (hl : f_made < f_cellLimit) {kd a b w : Int32} {post : Int32 → SY → Prop}
    (h : post (nI cnt) (f_cellLimit, f_definitionLimit, f_depthLimit, f_itemLimit, nI (cnt + 1), f_state, f_depth, f_rootDefinition, upd a_kind cnt kd, upd a_first cnt a, upd a_second cnt b, upd a_width cnt w, a_use, a_items, a_itemKind, a_itemName, a_itemValue, a_itemFit, a_matches, a_grows)) : wpY_make post (f_cellLimit, f_definitionLimit, f_depthLimit, f_itemLimit, f_made, f_state, f_depth, f_rootDefinition, a_kind, a_first, a_second, a_width, a_use, a_items, a_itemKind, a_itemName, a_itemValue, a_itemFit, a_matches, a_grows) kd a b w := by
  have ec : (nI cnt).toNatClampNeg = cnt := sx_cl 24 h24
  have hv : vp_in (nI cnt) 24 := vp_in_nI h24 (by decide)
  unfold wpY_make
  refine br_t hl ?_
  rw [hn]
  refine And.intro hv (nm_r (e' := upd a_kind cnt kd) (by rw [ec]) (And.intro hv (nm_r (e' := upd a_first cnt a) (by rw [ec]) (And.intro hv (nm_r (e' := upd a_second cnt b) (by rw [ec]) (And.intro hv (nm_r (e' := upd a_width cnt w) (by rw [ec]) (nm_r (nI_1 cnt) ?_))))))))
  rw [nI_pred]
  exact h
theorem sy_makeF (hl : ¬ f_made < f_cellLimit) {kd a b w : Int32} {post : Int32 → SY → Prop} (h : post (-3) (f_cellLimit, f_definitionLimit, f_depthLimit, f_itemLimit, f_made, f_state, f_depth, f_rootDefinition, a_kind, a_first, a_second, a_width, a_use, a_items, a_itemKind, a_itemName, a_itemValue, a_itemFit, a_matches, a_grows)) : wpY_make post (f_cellLimit, f_definitionLimit, f_depthLimit, f_itemLimit, f_made, f_state, f_depth, f_rootDefinition, a_kind, a_first, a_second, a_width, a_use, a_items, a_itemKind, a_itemName, a_itemValue, a_itemFit, a_matches, a_grows) kd a b w := by
  unfold wpY_make
  exact br_f hl h
end
theorem i_vc_leaf {k : Nat} {u : SX} {v : SY} (I : i_Rel k u v) (hk : k + 4 ≤ 2052) (v1 : Int32) (v2 : Int32) (v3 : Int32) : wpX_leaf (fun r u' => wpY_leaf (fun r' v' => r' = r ∧ i_Rel (k + 4) u' v') v v1 v2 v3) u v1 v2 v3 := by
  refine zz_el (Q := fun u v => wpX_leaf (fun r u' => wpY_leaf (fun r' v' => r' = r ∧ i_Rel (k + 4) u' v') v v1 v2 v3) u v1 v2 v3) ?_ I
  intro f_cellLimit f_definitionLimit f_depthLimit f_itemLimit f_cellCount f_definedCount f_live f_state f_depth a_kinds a_firsts a_seconds a_widths a_uses a_parents a_attributed a_owners a_places a_contents a_columns a_unused a_childless a_nullable a_growEarly a_growLate a_guards a_items a_names a_late a_residuals a_next f_rootDefinition b_items a_itemKind a_itemName a_itemValue a_itemFit a_matches a_grows hR
  have J : i_Rel (k + 4) (f_cellLimit, f_definitionLimit, f_depthLimit, f_itemLimit, f_cellCount, f_definedCount, f_live, f_state, f_depth, a_kinds, a_firsts, a_seconds, a_widths, a_uses, a_parents, a_attributed, a_owners, a_places, a_contents, a_columns, a_unused, a_childless, a_nullable, a_growEarly, a_growLate, a_guards, a_items, a_names, a_late, a_residuals, a_next) (f_cellLimit, f_definitionLimit, f_depthLimit, f_itemLimit, f_cellCount, f_state, f_depth, f_rootDefinition, a_kinds, a_firsts, a_seconds, a_widths, a_uses, b_items, a_itemKind, a_itemName, a_itemValue, a_itemFit, a_matches, a_grows) := zz_in hR
  obtain ⟨lim, cnt, dl, dpl, itl, st, dy⟩ := hR
  have st0 := st
  obtain ⟨⟨hlim, l24, cl⟩, hd, _, _, hn, _, H, _, _, _⟩ := st0
  have d8 := H.1.2
  have room : f_cellCount < f_cellLimit ↔ cnt < lim := by rw [hn, hlim]; exact nI_ltI (by omega) (by omega)
  unfold wpX_leaf
  by_cases hs : f_state = 1
  · refine br_t hs ?_
    unfold wpY_leaf
    exact br_t hs ⟨rfl, J⟩
  · refine br_f hs ?_
    have dd : (f_state = 0 ∨ f_state = 2) ∧ f_depth = 0 := dy.elim id (fun q => absurd q.1 hs)
    -- a new leaf on both sides
    have fin : ∀ (kd : Nat) (f0 s0 q q' : Int32) (w0 : Nat), kd < 4 → w0 = (if kd = 0 then 0 else 1) → vp_nar .boolean q' = (if kd = 2 then 1 else 0) → (kd = 3 → ∃ j, j < 8 ∧ s0 = nI j) →
        (∀ post : Int32 → SY → Prop, wpY_make post (f_cellLimit, f_definitionLimit, f_depthLimit, f_itemLimit, f_cellCount, f_state, f_depth, f_rootDefinition, a_kinds, a_firsts, a_seconds, a_widths, a_uses, b_items, a_itemKind, a_itemName, a_itemValue, a_itemFit, a_matches, a_grows) (nI kd) f0 s0 (nI w0) → wpY_leaf post (f_cellLimit, f_definitionLimit, f_depthLimit, f_itemLimit, f_cellCount, f_state, f_depth, f_rootDefinition, a_kinds, a_firsts, a_seconds, a_widths, a_uses, b_items, a_itemKind, a_itemName, a_itemValue, a_itemFit, a_matches, a_grows) v1 v2 v3) →
        ((f_cellCount < f_cellLimit → wpX_make (fun r u' => wpY_leaf (fun r' v' => r' = r ∧ i_Rel (k + 4) u' v') (f_cellLimit, f_definitionLimit, f_depthLimit, f_itemLimit, f_cellCount, f_state, f_depth, f_rootDefinition, a_kinds, a_firsts, a_seconds, a_widths, a_uses, b_items, a_itemKind, a_itemName, a_itemValue, a_itemFit, a_matches, a_grows) v1 v2 v3) (f_cellLimit, f_definitionLimit, f_depthLimit, f_itemLimit, f_cellCount, f_definedCount, f_live, f_state, f_depth, a_kinds, a_firsts, a_seconds, a_widths, a_uses, a_parents, a_attributed, a_owners, a_places, a_contents, a_columns, a_unused, a_childless, a_nullable, a_growEarly, a_growLate, a_guards, a_items, a_names, a_late, a_residuals, a_next) (nI kd) f0 s0 (nI w0) q') ∧
         (¬ f_cellCount < f_cellLimit → wpY_leaf (fun r' v' => r' = (-3) ∧ i_Rel (k + 4) (f_cellLimit, f_definitionLimit, f_depthLimit, f_itemLimit, f_cellCount, f_definedCount, f_live, f_state, f_depth, a_kinds, a_firsts, a_seconds, a_widths, a_uses, a_parents, a_attributed, a_owners, a_places, a_contents, a_columns, a_unused, a_childless, a_nullable, a_growEarly, a_growLate, a_guards, a_items, a_names, a_late, a_residuals, a_next) v') (f_cellLimit, f_definitionLimit, f_depthLimit, f_itemLimit, f_cellCount, f_state, f_depth, f_rootDefinition, a_kinds, a_firsts, a_seconds, a_widths, a_uses, b_items, a_itemKind, a_itemName, a_itemValue, a_itemFit, a_matches, a_grows) v1 v2 v3)) := by
      intro kd f0 s0 q q' w0 k4 w hq hj hY
      refine br_c (fun rm => ?_) (fun rm => ?_)
      · have cl' := room.1 rm
        refine sx_make hn (by omega) ?_
        rw [hq]
        exact hY _ (sy_make hn (by omega) rm ⟨rfl, sr_leafR st dd.1 dd.2 cl' k4 w rfl hj⟩)
      · exact hY _ (sy_makeF rm ⟨rfl, J⟩)
    by_cases h0 : v1 < 0
    · refine br_t h0 ?_
      unfold wpY_leaf
      exact br_f hs (br_t h0 ⟨rfl, J⟩)
    · refine br_f h0 ?_
      by_cases h3 : v1 ≤ 3
      · refine br_t h3 ?_
        obtain ⟨kd, hkd, rfl⟩ := nI_of2 (M := 3) (n := 3) (by decide) h0 h3
        have c4 : kd = 0 ∨ kd = 1 ∨ kd = 2 ∨ kd = 3 := by omega
        rcases c4 with rfl | rfl | rfl | rfl
        · refine br_t rfl ?_
          unfold wX_leaf_31 wX_leaf_36 wX_leaf_57 wX_leaf_76
          refine br_f (by decide) (br_f (by decide) (br_f (by decide) ?_))
          have f := fin 0 0 0 0 0 0 (by decide) rfl (by rw [sx_vb0]; rfl) (fun q => absurd q (by decide)) (fun post h => by
            unfold wpY_leaf wY_leaf_31 wY_leaf_44
            exact br_f hs (br_f (by decide) (br_t (by decide) (br_t rfl (br_t rfl h)))))
          unfold wX_leaf_92
          refine ⟨fun rm => br_t rfl ?_, f.2⟩
          unfold wX_leaf_115 wX_leaf_127 wX_leaf_139 wX_leaf_159
          exact br_f (by decide) (br_f (by decide) (br_f (by decide) (f.1 rm)))
        · refine br_f (by decide) (br_t rfl ?_)
          unfold wX_leaf_31 wX_leaf_36 wX_leaf_57 wX_leaf_76
          refine br_f (by decide) (br_f (by decide) (br_f (by decide) ?_))
          have f := fin 1 0 0 0 0 1 (by decide) rfl (by rw [sx_vb0]; rfl) (fun q => absurd q (by decide)) (fun post h => by
            unfold wpY_leaf wY_leaf_31 wY_leaf_44
            exact br_f hs (br_f (by decide) (br_t (by decide) (br_f (by decide) (br_t rfl (br_f (by decide) h))))))
          unfold wX_leaf_92
          refine ⟨fun rm => br_f (by decide) ?_, f.2⟩
          unfold wX_leaf_115 wX_leaf_127 wX_leaf_139 wX_leaf_159
          exact br_f (by decide) (br_f (by decide) (br_f (by decide) (f.1 rm)))
        · refine br_f (by decide) (br_f (by decide) ?_)
          unfold wX_leaf_36
          refine br_t rfl ?_
          by_cases a1 : v2 < -1
          · refine br_t a1 ?_
            unfold wpY_leaf
            exact br_f hs (br_f (by decide) (br_t (by decide) (br_f (by decide) (br_f (by decide) (br_t a1 ⟨rfl, J⟩)))))
          · by_cases a2 : v2 ≤ 7
            · refine br_f a1 (br_t a2 ?_)
              unfold wX_leaf_57
              refine br_t rfl ?_
              by_cases b1 : v3 < -1
              · refine br_t b1 ?_
                unfold wpY_leaf
                exact br_f hs (br_f (by decide) (br_t (by decide) (br_f (by decide) (br_f (by decide) (br_f a1 (br_t a2 (br_t rfl (br_t b1 ⟨rfl, J⟩))))))))
              · by_cases b2 : v3 ≤ 7
                · refine br_f b1 (br_t b2 ?_)
                  unfold wX_leaf_76
                  refine br_f (by decide) ?_
                  have f := fin 2 v2 v3 0 1 1 (by decide) rfl (by rw [sx_vb1]; rfl) (fun q => absurd q (by decide)) (fun post h => by
                    unfold wpY_leaf wY_leaf_81 wY_leaf_101
                    exact br_f hs (br_f (by decide) (br_t (by decide) (br_f (by decide) (br_f (by decide) (br_f a1 (br_t a2 (br_t rfl (br_f b1 (br_t b2 (br_f (by decide) h)))))))))))
                  unfold wX_leaf_92
                  refine ⟨fun rm => br_f (by decide) ?_, f.2⟩
                  unfold wX_leaf_115 wX_leaf_127 wX_leaf_139 wX_leaf_159
                  exact br_t rfl (br_t rfl (br_t rfl (f.1 rm)))
                · refine br_f b1 (br_f b2 ?_)
                  unfold wpY_leaf
                  exact br_f hs (br_f (by decide) (br_t (by decide) (br_f (by decide) (br_f (by decide) (br_f a1 (br_t a2 (br_t rfl (br_f b1 (br_f b2 ⟨rfl, J⟩)))))))))
            · refine br_f a1 (br_f a2 ?_)
              unfold wpY_leaf
              exact br_f hs (br_f (by decide) (br_t (by decide) (br_f (by decide) (br_f (by decide) (br_f a1 (br_f a2 ⟨rfl, J⟩))))))
        · refine br_f (by decide) (br_f (by decide) ?_)
          unfold wX_leaf_36
          refine br_t rfl ?_
          by_cases a1 : v2 < -1
          · refine br_t a1 ?_
            unfold wpY_leaf
            exact br_f hs (br_f (by decide) (br_t (by decide) (br_f (by decide) (br_f (by decide) (br_t a1 ⟨rfl, J⟩)))))
          · by_cases a2 : v2 ≤ 7
            · refine br_f a1 (br_t a2 ?_)
              unfold wX_leaf_57
              refine br_f (by decide) ?_
              unfold wX_leaf_76 wpX_isDefinition
              refine br_t rfl ?_
              by_cases b1 : v3 < 0
              · refine br_t b1 (br_t rfl ?_)
                unfold wpY_leaf wY_leaf_81
                exact br_f hs (br_f (by decide) (br_t (by decide) (br_f (by decide) (br_f (by decide) (br_f a1 (br_t a2 (br_f (by decide) (br_t rfl (br_t b1 ⟨rfl, J⟩)))))))))
              · by_cases b2 : f_definitionLimit ≤ v3
                · refine br_f b1 (br_t b2 (br_t rfl ?_))
                  unfold wpY_leaf wY_leaf_81
                  exact br_f hs (br_f (by decide) (br_t (by decide) (br_f (by decide) (br_f (by decide) (br_f a1 (br_t a2 (br_f (by decide) (br_t rfl (br_f b1 (br_f (Int32.not_lt.2 b2) ⟨rfl, J⟩))))))))))
                · refine br_f b1 (br_f b2 (br_f (by decide) ?_))
                  have f := fin 3 v2 v3 0 0 1 (by decide) rfl (by rw [sx_vb0]; rfl) (fun _ => by
                    obtain ⟨j, hj, e⟩ := nI_of b1
                    rw [e, hd, nI_leI (by omega) hj] at b2
                    exact ⟨j, by omega, e⟩) (fun post h => by
                    unfold wpY_leaf wY_leaf_81 wY_leaf_101
                    exact br_f hs (br_f (by decide) (br_t (by decide) (br_f (by decide) (br_f (by decide) (br_f a1 (br_t a2 (br_f (by decide) (br_t rfl (br_f b1 (br_t (Int32.not_le.1 b2) h)))))))))))
                  unfold wX_leaf_92
                  refine ⟨fun rm => br_f (by decide) ?_, f.2⟩
                  unfold wX_leaf_115 wX_leaf_127 wX_leaf_139 wX_leaf_159
                  exact br_t rfl (br_t rfl (br_f (by decide) (f.1 rm)))
            · refine br_f a1 (br_f a2 ?_)
              unfold wpY_leaf
              exact br_f hs (br_f (by decide) (br_t (by decide) (br_f (by decide) (br_f (by decide) (br_f a1 (br_f a2 ⟨rfl, J⟩))))))
      · refine br_f h3 ?_
        unfold wpY_leaf
        exact br_f hs (br_f h0 (br_f h3 ⟨rfl, J⟩))
end
section
/-! combine -/
section
variable {f_cellLimit f_definitionLimit f_depthLimit f_itemLimit f_made f_state f_depth f_rootDefinition : Int32}
variable {a_kind a_first a_second a_width a_use a_items a_itemKind a_itemName a_itemValue a_itemFit a_matches a_grows : Nat → Int32}
variable {cnt dl : Nat} {P A Ow Pl Ct : Nat → Int32}
/-- Y's walk over the operands: is there an attribute below p? -/
theorem sy_attL (H : sc_Sch cnt dl a_kind a_first a_second a_width a_use P A Ow Pl Ct) {p : Nat} (hp : p < cnt) {x1 x2 x3 x4 : Int32} {post : Int32 → SY → Prop}
    (hE : ∀ x6 : Int32, (¬ x6 = 0 ↔ A p = 1) → ((x4 = 0 → ((x6 = 0 → wY_combine_244 post x1 x2 x3 x4 f_cellLimit f_definitionLimit f_depthLimit f_itemLimit f_made f_state f_depth f_rootDefinition a_kind a_first a_second a_width a_use a_items a_itemKind a_itemName a_itemValue a_itemFit a_matches a_grows) ∧ (¬ x6 = 0 → post (-6) (f_cellLimit, f_definitionLimit, f_depthLimit, f_itemLimit, f_made, f_state, f_depth, f_rootDefinition, a_kind, a_first, a_second, a_width, a_use, a_items, a_itemKind, a_itemName, a_itemValue, a_itemFit, a_matches, a_grows)))) ∧ (¬ x4 = 0 → wY_combine_244 post x1 x2 x3 x4 f_cellLimit f_definitionLimit f_depthLimit f_itemLimit f_made f_state f_depth f_rootDefinition a_kind a_first a_second a_width a_use a_items a_itemKind a_itemName a_itemValue a_itemFit a_matches a_grows))) :
    ∀ (d : Nat) (x5 x6 : Int32), d ≤ p + 1 → (A p = 1 ↔ ¬ x6 = 0 ∨ ∃ e, e < d ∧ bt x5 e = true ∧ A e = 1) →
      ∀ n, d < n → wY_combine_111 post x1 x2 x3 x4 f_cellLimit f_definitionLimit f_depthLimit f_itemLimit f_made f_state f_depth f_rootDefinition a_kind a_first a_second a_width a_use a_items a_itemKind a_itemName a_itemValue a_itemFit a_matches a_grows n x5 x6 (sx_dn d) := by
  have h24 := H.1.1
  intro d
  induction d with
  | zero =>
    intro x5 x6 _ hi n hn
    cases n with
    | zero => omega
    | succ n =>
      refine br_t (by decide) (hE x6 ?_)
      rw [hi]
      exact ⟨fun q => Or.inl q, fun q => q.elim id (fun ⟨e, z, _⟩ => by omega)⟩
  | succ d ih =>
    intro x5 x6 hd hi n hn
    have dc : d < cnt := by omega
    have ec : (nI d).toNatClampNeg = d := sx_cl 24 (show d < 24 by omega)
    have hv : vp_in (nI d) 24 := vp_in_nI (by omega) (by decide)
    obtain ⟨⟨hK, k7⟩, _, _, _, hA01, hA4, _, hF, h7, h2⟩ := H.2.1 d dc
    have kq : ∀ m, m < 8 → (a_kind (nI d).toNatClampNeg = nI m ↔ sd_n a_kind d = m) := fun m hm => by
      rw [ec, hK]; exact nI_eq (by omega) (by omega)
    have k4 : a_kind (nI d).toNatClampNeg < 4 ↔ sd_n a_kind d < 4 := by
      rw [ec, hK]; exact nI_ltI (b := 4) (by omega) (by decide)
    cases n with
    | zero => omega
    | succ n =>
      show wY_combine_111 post x1 x2 x3 x4 f_cellLimit f_definitionLimit f_depthLimit f_itemLimit f_made f_state f_depth f_rootDefinition a_kind a_first a_second a_width a_use a_items a_itemKind a_itemName a_itemValue a_itemFit a_matches a_grows (n + 1) x5 x6 (nI d)
      refine br_f (nI_pos (by omega)) (br_c (fun b => ?_) (fun b => ?_))
      · have bd := (sx_bit1 (show d < 32 by omega)).1 b
        by_cases q4 : sd_n a_kind d < 4
        · -- a leaf
          by_cases q2 : sd_n a_kind d = 2
          · have a1 : A d = 1 := (hA4 q4).2 q2
            have ap : A p = 1 := hi.2 (Or.inr ⟨d, by omega, bd, a1⟩)
            unfold wY_combine_132 wY_combine_153 wY_combine_183
            refine br_f (by decide) (And.intro hv (br_t ((kq 2 (by decide)).2 q2) (br_f (by decide) (And.intro hv (br_t (k4.2 q4) (br_f (by decide) (And.intro hv (br_t (k4.2 q4) (nm_r (sx_dnS d) (ih x5 1 (by omega) ?_ n (by omega)))))))))))
            exact ⟨fun _ => Or.inl sy_10, fun _ => ap⟩
          · have a0 : ¬ A d = 1 := fun z => q2 ((hA4 q4).1 z)
            unfold wY_combine_132 wY_combine_153 wY_combine_183
            refine br_f (by decide) (And.intro hv (br_f (fun z => q2 ((kq 2 (by decide)).1 z)) (br_f (by decide) (And.intro hv (br_t (k4.2 q4) (br_f (by decide) (And.intro hv (br_t (k4.2 q4) (nm_r (sx_dnS d) (ih x5 x6 (by omega) ?_ n (by omega)))))))))))
            rw [hi]
            constructor
            · rintro (z | ⟨e, e1, e2, e3⟩)
              · exact Or.inl z
              · by_cases w : e = d
                · subst w; exact absurd e3 a0
                · exact Or.inr ⟨e, by omega, e2, e3⟩
            · rintro (z | ⟨e, e1, e2⟩)
              · exact Or.inl z
              · exact Or.inr ⟨e, by omega, e2⟩
        · have q4' : 4 ≤ sd_n a_kind d := by omega
          obtain ⟨f1, f2, _, _⟩ := hF q4'
          have n4 : ¬ a_kind (nI d).toNatClampNeg < 4 := fun z => q4 (k4.1 z)
          have n2 : ¬ a_kind (nI d).toNatClampNeg = 2 := fun z => by have := (kq 2 (by decide)).1 z; omega
          by_cases q7 : sd_n a_kind d = 7
          · have a0 : ¬ A d = 1 := fun z => by have := (h7 q7).2.1; rw [z] at this; exact absurd this (by decide)
            have a0' : ¬ A (sd_n a_first d) = 1 := fun z => by have := (h7 q7).2.2; rw [z] at this; exact absurd this (by decide)
            unfold wY_combine_132 wY_combine_153 wY_combine_183
            rw [ec, f1]
            rw [ec] at n4 n2
            refine br_f (by decide) (And.intro hv (br_f n2 (br_f (by decide) (And.intro hv (br_f n4 (And.intro hv (nm_e (br_f (by decide) (And.intro hv (br_f n4 (And.intro hv (br_t (by rw [hK, q7]; rfl) (nm_r (sx_dnS d) (ih _ x6 (by omega) ?_ n (by omega)))))))))))))))
            rw [hi]
            constructor
            · rintro (z | ⟨e, e1, e2, e3⟩)
              · exact Or.inl z
              · by_cases w : e = d
                · subst w; exact absurd e3 a0
                · exact Or.inr ⟨e, by omega, (sx_bor (by omega)).2 (Or.inl e2), e3⟩
            · rintro (z | ⟨e, e1, e2, e3⟩)
              · exact Or.inl z
              · rcases (sx_bor (by omega)).1 e2 with w | w
                · exact Or.inr ⟨e, by omega, w, e3⟩
                · subst w; exact absurd e3 a0'
          · obtain ⟨s1, s2, _, _, _, _, sA⟩ := h2 q4' q7
            have n7 : ¬ a_kind d = 7 := fun z => q7 ((kq 7 (by decide)).1 (by rw [ec]; exact z))
            unfold wY_combine_132 wY_combine_153 wY_combine_183
            rw [ec, f1, s1]
            rw [ec] at n4 n2
            refine br_f (by decide) (And.intro hv (br_f n2 (br_f (by decide) (And.intro hv (br_f n4 (And.intro hv (nm_e (br_f (by decide) (And.intro hv (br_f n4 (And.intro hv (br_f n7 (And.intro hv (nm_e (nm_r (sx_dnS d) (ih _ x6 (by omega) ?_ n (by omega)))))))))))))))))
            rw [hi]
            constructor
            · rintro (z | ⟨e, e1, e2, e3⟩)
              · exact Or.inl z
              · by_cases w : e = d
                · subst w
                  rcases sA.1 e3 with y | y
                  · exact Or.inr ⟨_, f2, (sx_bor (by omega)).2 (Or.inl ((sx_bor (by omega)).2 (Or.inr rfl))), y⟩
                  · exact Or.inr ⟨_, s2, (sx_bor (by omega)).2 (Or.inr rfl), y⟩
                · exact Or.inr ⟨e, by omega, (sx_bor (by omega)).2 (Or.inl ((sx_bor (by omega)).2 (Or.inl e2))), e3⟩
            · rintro (z | ⟨e, e1, e2, e3⟩)
              · exact Or.inl z
              · rcases (sx_bor (by omega)).1 e2 with w | w
                · rcases (sx_bor (by omega)).1 w with w | w
                  · exact Or.inr ⟨e, by omega, w, e3⟩
                  · subst w; exact Or.inr ⟨d, by omega, bd, sA.2 (Or.inl e3)⟩
                · subst w; exact Or.inr ⟨d, by omega, bd, sA.2 (Or.inr e3)⟩
      · unfold wY_combine_132 wY_combine_153 wY_combine_183
        refine br_t rfl (br_t rfl (br_t rfl (nm_r (sx_dnS d) (ih x5 x6 (by omega) ?_ n (by omega)))))
        have nb : ¬ bt x5 d = true := fun z => b ((sx_bit1 (by omega)).2 z)
        rw [hi]
        constructor
        · rintro (z | ⟨e, e1, e2, e3⟩)
          · exact Or.inl z
          · by_cases w : e = d
            · subst w; exact absurd e2 nb
            · exact Or.inr ⟨e, by omega, e2, e3⟩
        · rintro (z | ⟨e, e1, e2⟩)
          · exact Or.inl z
          · exact Or.inr ⟨e, by omega, e2⟩
theorem sy_att (H : sc_Sch cnt dl a_kind a_first a_second a_width a_use P A Ow Pl Ct) {p : Nat} (hp : p < cnt) {x1 x3 x4 : Int32} {post : Int32 → SY → Prop}
    (hE : ∀ x6 : Int32, (¬ x6 = 0 ↔ A p = 1) → ((x4 = 0 → ((x6 = 0 → wY_combine_244 post x1 (nI p) x3 x4 f_cellLimit f_definitionLimit f_depthLimit f_itemLimit f_made f_state f_depth f_rootDefinition a_kind a_first a_second a_width a_use a_items a_itemKind a_itemName a_itemValue a_itemFit a_matches a_grows) ∧ (¬ x6 = 0 → post (-6) (f_cellLimit, f_definitionLimit, f_depthLimit, f_itemLimit, f_made, f_state, f_depth, f_rootDefinition, a_kind, a_first, a_second, a_width, a_use, a_items, a_itemKind, a_itemName, a_itemValue, a_itemFit, a_matches, a_grows)))) ∧ (¬ x4 = 0 → wY_combine_244 post x1 (nI p) x3 x4 f_cellLimit f_definitionLimit f_depthLimit f_itemLimit f_made f_state f_depth f_rootDefinition a_kind a_first a_second a_width a_use a_items a_itemKind a_itemName a_itemValue a_itemFit a_matches a_grows))) :
    wY_combine_100 post x1 (nI p) x3 x4 f_cellLimit f_definitionLimit f_depthLimit f_itemLimit f_made f_state f_depth f_rootDefinition a_kind a_first a_second a_width a_use a_items a_itemKind a_itemName a_itemValue a_itemFit a_matches a_grows := by
  have h24 := H.1.1
  unfold wY_combine_100
  refine nm_e ⟨p + 2, ?_⟩
  refine sy_attL H hp hE (p + 1) _ 0 (Nat.le_refl _) ?_ (p + 2) (by omega)
  have e1 : ∀ e, bt ((1 : Int32) <<< (nI p &&& 31)) e = true ↔ e = p := fun e => by
    have := sx_bor (x := 0) (k := p) (j := e) (by omega)
    rw [b_or, b_0, Bool.false_or] at this
    rw [this]
    exact ⟨fun q => q.elim (fun z => by cases z) id, fun q => Or.inr q⟩
  constructor
  · exact fun q => Or.inr ⟨p, by omega, (e1 p).2 rfl, q⟩
  · rintro (z | ⟨e, _, h2, h3⟩)
    · exact absurd rfl z
    · rw [← (e1 e).1 h2]; exact h3
end
section
variable {f_cellLimit f_definitionLimit f_depthLimit f_itemLimit f_cellCount f_definedCount f_live f_state f_depth : Int32}
variable {a_kinds a_firsts a_seconds a_widths a_uses a_parents a_attributed a_owners a_places a_contents a_items a_names a_late : Nat → Int32} {a_columns a_unused a_childless a_nullable a_growEarly a_growLate a_guards a_residuals a_next : Nat → Int64}
variable {f_rootDefinition : Int32} {b_items a_itemKind a_itemName a_itemValue a_itemFit a_matches a_grows : Nat → Int32}
variable {lim cnt dl dpl itl : Nat}
/-- the new loop -/
theorem sr_loopR {k : Nat} (st : sr_St f_cellLimit f_definitionLimit f_depthLimit f_itemLimit f_cellCount f_definedCount f_live a_kinds a_firsts a_seconds a_widths a_uses a_parents a_attributed a_owners a_places a_contents a_columns a_unused a_childless a_nullable a_growEarly a_growLate a_guards lim cnt dl dpl itl) (hs : f_state = 0 ∨ f_state = 2) (hd : f_depth = 0) (hl : cnt < lim) {p : Nat} (hp : p < cnt) (u0 : a_uses p = 0) (a0 : a_attributed p = 0) {w0 : Nat} (hw : a_widths p = nI w0) (w6 : w0 ≤ 6) :
    i_Rel k (f_cellLimit, f_definitionLimit, f_depthLimit, f_itemLimit, nI (cnt + 1), f_definedCount, f_live, f_state, f_depth, upd a_kinds cnt 7, upd a_firsts cnt (nI p), upd a_seconds cnt 0, upd a_widths cnt (nI w0), upd a_uses p 1, upd (upd a_parents cnt (-1)) p (nI cnt), upd a_attributed cnt 0, a_owners, a_places, a_contents, a_columns, a_unused, a_childless, a_nullable, a_growEarly, a_growLate, a_guards, a_items, a_names, a_late, a_residuals, a_next)
      (f_cellLimit, f_definitionLimit, f_depthLimit, f_itemLimit, nI (cnt + 1), f_state, f_depth, f_rootDefinition, upd a_kinds cnt 7, upd a_firsts cnt (nI p), upd a_seconds cnt 0, upd a_widths cnt (nI w0), upd a_uses p 1, b_items, a_itemKind, a_itemName, a_itemValue, a_itemFit, a_matches, a_grows) := by
  have l24 := st.1.2.1
  have eK : sd_n (upd a_kinds cnt 7) cnt = 7 := sd_n_of (m := 7) pk_us (by decide)
  have eF : sd_n (upd a_firsts cnt (nI p)) cnt = p := sd_n_of pk_us (by omega)
  have eW : sd_n (upd a_widths cnt (nI w0)) cnt = w0 := sd_n_of pk_us (by omega)
  have eWp : sd_n (upd a_widths cnt (nI w0)) p = w0 := sd_n_of (by rw [pk_un (by omega), hw]) (by omega)
  refine zz_in ⟨lim, cnt + 1, dl, dpl, itl, sr_new st hl (OP := fun c => c = p) (fun c hc => ⟨pk_un (by omega), pk_un (by omega), pk_un (by omega), pk_un (by omega), pk_un (by omega)⟩) (fun c ne => pk_un ne) (fun c ne ne' => by rw [pk_un ne, pk_un ne']) (by rw [pk_un (by omega), pk_us]) (fun c e => ?_) ?_, Or.inl ⟨hs, hd⟩⟩
  · subst e
    exact ⟨hp, u0, pk_us, pk_us, by rw [eK]; decide, Or.inl eF.symm⟩
  · unfold sc_tree
    rw [eK, eF, eW, eWp, pk_us, pk_us, pk_us, pk_us, pk_us]
    refine ⟨⟨rfl, by decide⟩, ⟨rfl, w6⟩, fun q => absurd q (by decide), fun _ q => absurd q (by decide), Or.inl rfl, fun q => absurd q (by decide), fun q => absurd q (by decide), fun _ => ⟨rfl, hp, pk_us, pk_us⟩, fun _ => ⟨rfl, rfl, ?_⟩, fun _ q => absurd rfl q⟩
    rw [pk_un (by omega)]; exact a0
/-- the new pair -/
theorem sr_pairR {k : Nat} (st : sr_St f_cellLimit f_definitionLimit f_depthLimit f_itemLimit f_cellCount f_definedCount f_live a_kinds a_firsts a_seconds a_widths a_uses a_parents a_attributed a_owners a_places a_contents a_columns a_unused a_childless a_nullable a_growEarly a_growLate a_guards lim cnt dl dpl itl) (hs : f_state = 0 ∨ f_state = 2) (hd : f_depth = 0) (hl : cnt < lim) {p q kd : Nat} (hp : p < cnt) (hq : q < cnt) (ne : p ≠ q) (u0 : a_uses p = 0) (v0 : a_uses q = 0)
    (k4 : 4 ≤ kd) (k7 : kd < 7) {w1 w2 : Nat} (hw1 : a_widths p = nI w1) (hw2 : a_widths q = nI w2) (w6 : w1 + w2 ≤ 6) {a : Int32} (ha : a = 0 ∨ a = 1) (hA : a = 1 ↔ a_attributed p = 1 ∨ a_attributed q = 1) :
    i_Rel k (f_cellLimit, f_definitionLimit, f_depthLimit, f_itemLimit, nI (cnt + 1), f_definedCount, f_live, f_state, f_depth, upd a_kinds cnt (nI kd), upd a_firsts cnt (nI p), upd a_seconds cnt (nI q), upd a_widths cnt (nI (w1 + w2)), upd (upd a_uses p 1) q 1, upd (upd (upd a_parents cnt (-1)) p (nI cnt)) q (nI cnt), upd a_attributed cnt a, a_owners, a_places, a_contents, a_columns, a_unused, a_childless, a_nullable, a_growEarly, a_growLate, a_guards, a_items, a_names, a_late, a_residuals, a_next)
      (f_cellLimit, f_definitionLimit, f_depthLimit, f_itemLimit, nI (cnt + 1), f_state, f_depth, f_rootDefinition, upd a_kinds cnt (nI kd), upd a_firsts cnt (nI p), upd a_seconds cnt (nI q), upd a_widths cnt (nI (w1 + w2)), upd (upd a_uses p 1) q 1, b_items, a_itemKind, a_itemName, a_itemValue, a_itemFit, a_matches, a_grows) := by
  have l24 := st.1.2.1
  have eK : sd_n (upd a_kinds cnt (nI kd)) cnt = kd := sd_n_of pk_us (by omega)
  have eF : sd_n (upd a_firsts cnt (nI p)) cnt = p := sd_n_of pk_us (by omega)
  have eS : sd_n (upd a_seconds cnt (nI q)) cnt = q := sd_n_of pk_us (by omega)
  have eW : sd_n (upd a_widths cnt (nI (w1 + w2))) cnt = w1 + w2 := sd_n_of pk_us (by omega)
  have eWp : sd_n (upd a_widths cnt (nI (w1 + w2))) p = w1 := sd_n_of (by rw [pk_un (by omega), hw1]) (by omega)
  have eWq : sd_n (upd a_widths cnt (nI (w1 + w2))) q = w2 := sd_n_of (by rw [pk_un (by omega), hw2]) (by omega)
  refine zz_in ⟨lim, cnt + 1, dl, dpl, itl, sr_new st hl (OP := fun c => c = p ∨ c = q) (fun c hc => ⟨pk_un (by omega), pk_un (by omega), pk_un (by omega), pk_un (by omega), pk_un (by omega)⟩)
    (fun c n => by rw [pk_un (fun z => n (Or.inr z)), pk_un (fun z => n (Or.inl z))]) (fun c n n' => by rw [pk_un (fun z => n (Or.inr z)), pk_un (fun z => n (Or.inl z)), pk_un n']) (by rw [pk_un (by omega), pk_un (by omega), pk_us]) (fun c e => ?_) ?_, Or.inl ⟨hs, hd⟩⟩
  · rcases e with e | e
    · subst e
      exact ⟨hp, u0, by rw [pk_un ne, pk_us], by rw [pk_un ne, pk_us], by rw [eK]; omega, Or.inl eF.symm⟩
    · subst e
      exact ⟨hq, v0, pk_us, pk_us, by rw [eK]; omega, Or.inr ⟨by rw [eK]; omega, eS.symm⟩⟩
  · unfold sc_tree
    rw [eK, eF, eS, eW, eWp, eWq, pk_us, pk_us, pk_us, pk_us, pk_us]
    refine ⟨⟨rfl, by omega⟩, ⟨rfl, w6⟩, fun z => by omega, fun _ z => by omega, ha, fun z => by omega, fun z => by omega, fun _ => ⟨rfl, hp, by rw [pk_un ne, pk_us], by rw [pk_un ne, pk_us]⟩, fun z => by omega, fun _ _ => ⟨rfl, hq, ne, pk_us, pk_us, rfl, ?_⟩⟩
    rw [pk_un (show p ≠ cnt by omega), pk_un (show q ≠ cnt by omega)]; exact hA
end
end
section
/-! combine, the call -/
section
variable {f_cellLimit f_definitionLimit f_depthLimit f_itemLimit f_cellCount f_definedCount f_live f_state f_depth : Int32}
variable {a_kinds a_firsts a_seconds a_widths a_uses a_parents a_attributed a_owners a_places a_contents a_items a_names a_late : Nat → Int32} {a_columns a_unused a_childless a_nullable a_growEarly a_growLate a_guards a_residuals a_next : Nat → Int64}
variable {f_rootDefinition : Int32} {b_items a_itemKind a_itemName a_itemValue a_itemFit a_matches a_grows : Nat → Int32}
variable {lim cnt dl dpl itl : Nat}
theorem sr_cell {x : Int32} (h24 : cnt ≤ 24) (hn : f_cellCount = nI cnt) (h0 : ¬ x < 0) (h1 : ¬ f_cellCount ≤ x) : ∃ p, p < cnt ∧ x = nI p := by
  obtain ⟨j, hj, rfl⟩ := nI_of h0
  rw [hn, nI_leI (by omega) hj] at h1
  exact ⟨j, by omega, rfl⟩
/-- combine with one operand -/
theorem sr_comb7 {k p : Nat} {v3 : Int32} (st : sr_St f_cellLimit f_definitionLimit f_depthLimit f_itemLimit f_cellCount f_definedCount f_live a_kinds a_firsts a_seconds a_widths a_uses a_parents a_attributed a_owners a_places a_contents a_columns a_unused a_childless a_nullable a_growEarly a_growLate a_guards lim cnt dl dpl itl) (hs : f_state = 0 ∨ f_state = 2) (hd : f_depth = 0) (hp : p < cnt) (J : i_Rel k (f_cellLimit, f_definitionLimit, f_depthLimit, f_itemLimit, f_cellCount, f_definedCount, f_live, f_state, f_depth, a_kinds, a_firsts, a_seconds, a_widths, a_uses, a_parents, a_attributed, a_owners, a_places, a_contents, a_columns, a_unused, a_childless, a_nullable, a_growEarly, a_growLate, a_guards, a_items, a_names, a_late, a_residuals, a_next) (f_cellLimit, f_definitionLimit, f_depthLimit, f_itemLimit, f_cellCount, f_state, f_depth, f_rootDefinition, a_kinds, a_firsts, a_seconds, a_widths, a_uses, b_items, a_itemKind, a_itemName, a_itemValue, a_itemFit, a_matches, a_grows))
    {Y0 : (Int32 → SY → Prop) → Prop} (hY : ∀ post : Int32 → SY → Prop, wY_combine_74 post 7 (nI p) v3 0 f_cellLimit f_definitionLimit f_depthLimit f_itemLimit f_cellCount f_state f_depth f_rootDefinition a_kinds a_firsts a_seconds a_widths a_uses b_items a_itemKind a_itemName a_itemValue a_itemFit a_matches a_grows → Y0 post) :
    wX_combine_66 (fun r u' => Y0 (fun r' v' => r' = r ∧ i_Rel k u' v')) 7 (nI p) v3 0 f_cellLimit f_definitionLimit f_depthLimit f_itemLimit f_cellCount f_definedCount f_live f_state f_depth a_kinds a_firsts a_seconds a_widths a_uses a_parents a_attributed a_owners a_places a_contents a_columns a_unused a_childless a_nullable a_growEarly a_growLate a_guards a_items a_names a_late a_residuals a_next := by
  obtain ⟨⟨hlim, l24, cl⟩, hdl, _, _, hn, _, H, _, _, _⟩ := id st
  have ec : (nI p).toNatClampNeg = p := sx_cl 24 (by omega)
  have vp : vp_in (nI p) 24 := vp_in_nI (by omega) (by decide)
  obtain ⟨_, ⟨hw, w6⟩, _, _, hA01, _⟩ := H.2.1 p hp
  have room : f_cellCount < f_cellLimit ↔ cnt < lim := by rw [hn, hlim]; exact nI_ltI (by omega) (by omega)
  have l6 : nI (sd_n a_widths p) ≤ 6 := nI_le (b := 6) w6 (by decide)
  unfold wX_combine_66
  rw [ec]
  refine And.intro vp (br_c (fun u0 => br_t rfl ?_) (fun u0 => ?_))
  · unfold wX_combine_92
    rw [ec]
    refine br_t rfl (And.intro vp (br_c (fun a0 => ?_) (fun a0 => ?_)))
    · unfold wX_combine_109 wX_combine_136
      rw [ec, hw]
      -- Y until the width
      have y244 : ∀ post : Int32 → SY → Prop, wY_combine_271 post 7 (nI p) v3 0 (nI (sd_n a_widths p)) f_cellLimit f_definitionLimit f_depthLimit f_itemLimit f_cellCount f_state f_depth f_rootDefinition a_kinds a_firsts a_seconds a_widths a_uses b_items a_itemKind a_itemName a_itemValue a_itemFit a_matches a_grows → Y0 post := by
        intro post h
        refine hY post ?_
        unfold wY_combine_74
        rw [ec]
        refine And.intro vp (br_t u0 (br_t rfl (sy_att H hp (fun x6 h6 => br_t rfl (br_t ?_ ?_)))))
        · refine Classical.byContradiction (fun z => ?_)
          have := h6.1 z
          rw [a0] at this; exact absurd this (by decide)
        · unfold wY_combine_244
          rw [ec, hw]
          exact br_t rfl (And.intro vp h)
      refine br_t rfl (And.intro vp (br_t l6 (br_c (fun rm => br_t rfl ?_) (fun rm => ?_))))
      · have cl' := room.1 rm
        unfold wX_combine_172 wX_combine_201 wX_combine_202
        rw [ec]
        refine And.intro vp (br_t a0 (br_t rfl (sx_make hn (by omega) (sx_adopt (by omega) (br_t rfl ?_)))))
        rw [sx_vb0]
        refine y244 _ ?_
        unfold wY_combine_271 wY_combine_316 wY_combine_329
        refine br_t l6 (br_t rm (And.intro vp (nm_r (e' := upd a_uses p 1) (by rw [ec]) (br_t rfl (br_t rfl ?_)))))
        refine sy_make hn (by omega) rm ⟨rfl, ?_⟩
        exact sr_loopR st hs hd cl' hp u0 a0 hw w6
      · refine y244 _ ?_
        unfold wY_combine_271
        exact br_t l6 (br_f rm ⟨rfl, J⟩)
    · refine hY _ ?_
      unfold wY_combine_74
      rw [ec]
      refine And.intro vp (br_t u0 (br_t rfl (sy_att H hp (fun x6 h6 => br_t rfl (br_f ?_ ⟨rfl, J⟩)))))
      exact h6.2 (hA01.resolve_left a0)
  · refine hY _ ?_
    unfold wY_combine_74
    rw [ec]
    exact And.intro vp (br_f u0 ⟨rfl, J⟩)
/-- combine with two operands -/
theorem sr_comb2 {k p q kd : Nat} (st : sr_St f_cellLimit f_definitionLimit f_depthLimit f_itemLimit f_cellCount f_definedCount f_live a_kinds a_firsts a_seconds a_widths a_uses a_parents a_attributed a_owners a_places a_contents a_columns a_unused a_childless a_nullable a_growEarly a_growLate a_guards lim cnt dl dpl itl) (hs : f_state = 0 ∨ f_state = 2) (hd : f_depth = 0) (hp : p < cnt) (hq : q < cnt) (ne : p ≠ q) (k4 : 4 ≤ kd) (k7 : kd < 7) (J : i_Rel k (f_cellLimit, f_definitionLimit, f_depthLimit, f_itemLimit, f_cellCount, f_definedCount, f_live, f_state, f_depth, a_kinds, a_firsts, a_seconds, a_widths, a_uses, a_parents, a_attributed, a_owners, a_places, a_contents, a_columns, a_unused, a_childless, a_nullable, a_growEarly, a_growLate, a_guards, a_items, a_names, a_late, a_residuals, a_next) (f_cellLimit, f_definitionLimit, f_depthLimit, f_itemLimit, f_cellCount, f_state, f_depth, f_rootDefinition, a_kinds, a_firsts, a_seconds, a_widths, a_uses, b_items, a_itemKind, a_itemName, a_itemValue, a_itemFit, a_matches, a_grows))
    {Y0 : (Int32 → SY → Prop) → Prop} (hY : ∀ post : Int32 → SY → Prop, wY_combine_74 post (nI kd) (nI p) (nI q) 1 f_cellLimit f_definitionLimit f_depthLimit f_itemLimit f_cellCount f_state f_depth f_rootDefinition a_kinds a_firsts a_seconds a_widths a_uses b_items a_itemKind a_itemName a_itemValue a_itemFit a_matches a_grows → Y0 post) :
    wX_combine_66 (fun r u' => Y0 (fun r' v' => r' = r ∧ i_Rel k u' v')) (nI kd) (nI p) (nI q) 1 f_cellLimit f_definitionLimit f_depthLimit f_itemLimit f_cellCount f_definedCount f_live f_state f_depth a_kinds a_firsts a_seconds a_widths a_uses a_parents a_attributed a_owners a_places a_contents a_columns a_unused a_childless a_nullable a_growEarly a_growLate a_guards a_items a_names a_late a_residuals a_next := by
  obtain ⟨⟨hlim, l24, cl⟩, hdl, _, _, hn, _, H, _, _, _⟩ := id st
  have ec : (nI p).toNatClampNeg = p := sx_cl 24 (by omega)
  have vp : vp_in (nI p) 24 := vp_in_nI (by omega) (by decide)
  have eq : (nI q).toNatClampNeg = q := sx_cl 24 (by omega)
  have vq : vp_in (nI q) 24 := vp_in_nI (by omega) (by decide)
  obtain ⟨_, ⟨hw, w6⟩, _, _, hA01, _⟩ := H.2.1 p hp
  obtain ⟨_, ⟨hw', w6'⟩, _, _, hB01, _⟩ := H.2.1 q hq
  have room : f_cellCount < f_cellLimit ↔ cnt < lim := by rw [hn, hlim]; exact nI_ltI (by omega) (by omega)
  have l6 : nI (sd_n a_widths p + sd_n a_widths q) ≤ 6 ↔ sd_n a_widths p + sd_n a_widths q ≤ 6 := nI_leI (b := 6) (by omega) (by decide)
  unfold wX_combine_66
  rw [ec, eq]
  refine And.intro vp (br_c (fun u0 => br_f sy_10 (And.intro vq (br_c (fun v0 => ?_) (fun v0 => ?_)))) (fun u0 => ?_))
  · unfold wX_combine_92 wX_combine_109 wX_combine_136
    rw [ec, eq, hw, hw', nI_add]
    have y244 : ∀ post : Int32 → SY → Prop, wY_combine_271 post (nI kd) (nI p) (nI q) 1 (nI (sd_n a_widths p + sd_n a_widths q)) f_cellLimit f_definitionLimit f_depthLimit f_itemLimit f_cellCount f_state f_depth f_rootDefinition a_kinds a_firsts a_seconds a_widths a_uses b_items a_itemKind a_itemName a_itemValue a_itemFit a_matches a_grows → Y0 post := by
      intro post h
      refine hY post ?_
      unfold wY_combine_74
      rw [ec, eq]
      refine And.intro vp (br_t u0 (br_f sy_10 (And.intro vq (br_t v0 (sy_att H hp (fun x6 h6 => br_f sy_10 ?_))))))
      unfold wY_combine_244
      rw [ec, eq, hw, hw', nI_add]
      exact br_f sy_10 (And.intro vp (And.intro vq h))
    refine br_f sy_10 (br_f sy_10 (And.intro vp (And.intro vq (br_c (fun z6 => br_c (fun rm => br_f sy_10 ?_) (fun rm => ?_)) (fun z6 => ?_)))))
    · have cl' := room.1 rm
      have fin : ∀ a : Int32, a = 0 ∨ a = 1 → (a = 1 ↔ a_attributed p = 1 ∨ a_attributed q = 1) →
          wX_combine_202 (fun r u' => Y0 (fun r' v' => r' = r ∧ i_Rel k u' v')) (nI kd) (nI p) (nI q) 1 (nI (sd_n a_widths p + sd_n a_widths q)) (nI q) a f_cellLimit f_definitionLimit f_depthLimit f_itemLimit f_cellCount f_definedCount f_live f_state f_depth a_kinds a_firsts a_seconds a_widths a_uses a_parents a_attributed a_owners a_places a_contents a_columns a_unused a_childless a_nullable a_growEarly a_growLate a_guards a_items a_names a_late a_residuals a_next := by
        intro a ha hA
        unfold wX_combine_202
        refine sx_make hn (by omega) (sx_adopt (by omega) (br_f sy_10 (sx_adopt (by omega) ?_)))
        rw [sy_vn ha]
        refine y244 _ ?_
        unfold wY_combine_271 wY_combine_316 wY_combine_329
        refine br_t z6 (br_t rm (And.intro vp (nm_r (e' := upd a_uses p 1) (by rw [ec]) (br_f sy_10 (And.intro vq (nm_r (e' := upd (upd a_uses p 1) q 1) (by rw [eq]) (br_f sy_10 ?_)))))))
        refine sy_make hn (by omega) rm ⟨rfl, ?_⟩
        exact sr_pairR st hs hd cl' hp hq ne u0 v0 k4 k7 hw hw' (l6.1 z6) ha hA
      unfold wX_combine_172 wX_combine_201 wX_combine_197
      rw [ec, eq]
      refine And.intro vp (br_c (fun a0 => br_f sy_10 (And.intro vq (br_c (fun b0 => ?_) (fun b0 => ?_)))) (fun a0 => ?_))
      · refine fin 0 (Or.inl rfl) ⟨fun z => absurd z (by decide), fun z => ?_⟩
        rw [a0, b0] at z
        exact absurd z (by decide)
      · exact fin 1 (Or.inr rfl) ⟨fun _ => Or.inr (hB01.resolve_left b0), fun _ => rfl⟩
      · exact fin 1 (Or.inr rfl) ⟨fun _ => Or.inl (hA01.resolve_left a0), fun _ => rfl⟩
    · refine y244 _ ?_
      unfold wY_combine_271
      exact br_t z6 (br_f rm ⟨rfl, J⟩)
    · refine y244 _ ?_
      unfold wY_combine_271
      exact br_f z6 ⟨rfl, J⟩
  · refine hY _ ?_
    unfold wY_combine_74
    rw [ec, eq]
    exact And.intro vp (br_t u0 (br_f sy_10 (And.intro vq (br_f v0 ⟨rfl, J⟩))))
  · refine hY _ ?_
    unfold wY_combine_74
    rw [ec]
    exact And.intro vp (br_f u0 ⟨rfl, J⟩)
end
theorem i_vc_combine {k : Nat} {u : SX} {v : SY} (I : i_Rel k u v) (hk : k + 4 ≤ 2052) (v1 : Int32) (v2 : Int32) (v3 : Int32) : wpX_combine (fun r u' => wpY_combine (fun r' v' => r' = r ∧ i_Rel (k + 4) u' v') v v1 v2 v3) u v1 v2 v3 := by
  refine zz_el (Q := fun u v => wpX_combine (fun r u' => wpY_combine (fun r' v' => r' = r ∧ i_Rel (k + 4) u' v') v v1 v2 v3) u v1 v2 v3) ?_ I
  intro f_cellLimit f_definitionLimit f_depthLimit f_itemLimit f_cellCount f_definedCount f_live f_state f_depth a_kinds a_firsts a_seconds a_widths a_uses a_parents a_attributed a_owners a_places a_contents a_columns a_unused a_childless a_nullable a_growEarly a_growLate a_guards a_items a_names a_late a_residuals a_next f_rootDefinition b_items a_itemKind a_itemName a_itemValue a_itemFit a_matches a_grows hR
  have J : i_Rel (k + 4) (f_cellLimit, f_definitionLimit, f_depthLimit, f_itemLimit, f_cellCount, f_definedCount, f_live, f_state, f_depth, a_kinds, a_firsts, a_seconds, a_widths, a_uses, a_parents, a_attributed, a_owners, a_places, a_contents, a_columns, a_unused, a_childless, a_nullable, a_growEarly, a_growLate, a_guards, a_items, a_names, a_late, a_residuals, a_next) (f_cellLimit, f_definitionLimit, f_depthLimit, f_itemLimit, f_cellCount, f_state, f_depth, f_rootDefinition, a_kinds, a_firsts, a_seconds, a_widths, a_uses, b_items, a_itemKind, a_itemName, a_itemValue, a_itemFit, a_matches, a_grows) := zz_in hR
  obtain ⟨lim, cnt, dl, dpl, itl, st, dy⟩ := hR
  obtain ⟨⟨hlim, l24, cl⟩, hdl, _, _, hn, _, H, _, _, _⟩ := id st
  unfold wpX_combine
  by_cases hs : f_state = 1
  · refine br_t hs ?_
    unfold wpY_combine
    exact br_t hs ⟨rfl, J⟩
  · have dd : (f_state = 0 ∨ f_state = 2) ∧ f_depth = 0 := dy.elim id (fun q => absurd q.1 hs)
    refine br_f hs ?_
    by_cases h4 : v1 < 4
    · refine br_t h4 ?_
      unfold wpY_combine
      exact br_f hs (br_t h4 ⟨rfl, J⟩)
    · by_cases h7 : 7 < v1
      · refine br_f h4 (br_t h7 ?_)
        unfold wpY_combine
        exact br_f hs (br_f h4 (br_t h7 ⟨rfl, J⟩))
      · refine br_f h4 (br_f h7 ?_)
        unfold wpX_isCell
        by_cases c0 : v2 < 0
        · refine br_t c0 (br_t rfl ?_)
          unfold wpY_combine
          exact br_f hs (br_f h4 (br_f h7 (br_t c0 ⟨rfl, J⟩)))
        · by_cases c1 : f_cellCount ≤ v2
          · refine br_f c0 (br_t c1 (br_t rfl ?_))
            unfold wpY_combine
            exact br_f hs (br_f h4 (br_f h7 (br_f c0 (br_f (Int32.not_lt.2 c1) ⟨rfl, J⟩))))
          · refine br_f c0 (br_f c1 (br_f (by decide) ?_))
            obtain ⟨p, hp, rfl⟩ := sr_cell (show cnt ≤ 24 by omega) hn c0 c1
            have n0 : ¬ v1 < 0 := fun z => h4 (Int32.lt_trans z (by decide))
            obtain ⟨kd, hkd, rfl⟩ := nI_of2 (M := 7) (n := 7) (by decide) n0 (Int32.not_lt.1 h7)
            have k4 : 4 ≤ kd := Classical.byContradiction (fun z => h4 (nI_lt (b := 4) (by omega) (by decide)))
            have hY : ∀ post : Int32 → SY → Prop, ((nI kd = 7 → wY_combine_47 post (nI kd) (nI p) v3 0 f_cellLimit f_definitionLimit f_depthLimit f_itemLimit f_cellCount f_state f_depth f_rootDefinition a_kinds a_firsts a_seconds a_widths a_uses b_items a_itemKind a_itemName a_itemValue a_itemFit a_matches a_grows) ∧ (¬ nI kd = 7 → wY_combine_47 post (nI kd) (nI p) v3 1 f_cellLimit f_definitionLimit f_depthLimit f_itemLimit f_cellCount f_state f_depth f_rootDefinition a_kinds a_firsts a_seconds a_widths a_uses b_items a_itemKind a_itemName a_itemValue a_itemFit a_matches a_grows)) → wpY_combine post (f_cellLimit, f_definitionLimit, f_depthLimit, f_itemLimit, f_cellCount, f_state, f_depth, f_rootDefinition, a_kinds, a_firsts, a_seconds, a_widths, a_uses, b_items, a_itemKind, a_itemName, a_itemValue, a_itemFit, a_matches, a_grows) (nI kd) (nI p) v3 := by
              intro post h
              unfold wpY_combine
              exact br_f hs (br_f h4 (br_f h7 (br_f c0 (br_t (Int32.not_le.1 c1) h))))
            by_cases e7 : kd = 7
            · subst e7
              refine br_t rfl ?_
              unfold wX_combine_43
              refine br_t rfl (sr_comb7 st dd.1 dd.2 hp J (fun post h => hY post (br_t rfl ?_)))
              unfold wY_combine_47
              exact br_t rfl h
            · have n7 : ¬ nI kd = 7 := fun z => e7 (sx_nIne (b := 7) (by omega) (by decide) z)
              refine br_f n7 ?_
              unfold wX_combine_43 wpX_isCell
              refine br_f sy_10 ?_
              by_cases b0 : v3 < 0
              · refine br_t b0 (br_t rfl (hY _ (br_f n7 ?_)))
                unfold wY_combine_47
                exact br_f sy_10 (br_t b0 ⟨rfl, J⟩)
              · by_cases b1 : f_cellCount ≤ v3
                · refine br_f b0 (br_t b1 (br_t rfl (hY _ (br_f n7 ?_))))
                  unfold wY_combine_47
                  exact br_f sy_10 (br_f b0 (br_t b1 ⟨rfl, J⟩))
                · refine br_f b0 (br_f b1 (br_f sy_10 ?_))
                  obtain ⟨q, hq, rfl⟩ := sr_cell (show cnt ≤ 24 by omega) hn b0 b1
                  by_cases ne : nI q = nI p
                  · refine br_t ne (hY _ (br_f n7 ?_))
                    unfold wY_combine_47
                    exact br_f sy_10 (br_f b0 (br_f b1 (br_t ne ⟨rfl, J⟩)))
                  · refine br_f ne (sr_comb2 st dd.1 dd.2 hp hq (fun z => ne (by rw [z])) k4 (by omega) J (fun post h => hY post (br_f n7 ?_)))
                    unfold wY_combine_47
                    exact br_f sy_10 (br_f b0 (br_f b1 (br_f ne h)))
end
section
/-! define -/
theorem sr_cn_upd {U : Nat → Int32} {r : Nat} {v : Int32} (h1 : U r < 2) (h2 : ¬ v < 2) : ∀ n, r < n → sr_cn (upd U r v) n = sr_cn U n + 1 := by
  intro n
  induction n with
  | zero => intro h; omega
  | succ n ih =>
    intro h
    show sr_cn (upd U r v) n + (if upd U r v n < 2 then 0 else 1) = sr_cn U n + (if U n < 2 then 0 else 1) + 1
    by_cases e : n = r
    · subst e
      rw [pk_us, if_neg h2, if_pos h1]
      rw [sr_cn_cg n (fun c hc => by rw [pk_un (by omega)])]
    · rw [pk_un e, ih (by omega)]
      omega
section
variable {cnt dl : Nat} {K F S W U P A Ow Pl Ct : Nat → Int32} {col Un Cl Nu Ge Gl Gd : Nat → Int64} {live : Int32}
variable {r k : Nat} {Ow' Pl' : Nat → Int32}
/-- the schema with one more definition -/
theorem sc_def (H : sc_Sch cnt dl K F S W U P A Ow Pl Ct) (hr : r < cnt) (u0 : U r = 0) (hk : k < dl) (c0 : Ct k = -1)
    (I : sx_plI cnt k r 0 K F S W (upd U r (nI (2 + k))) P Ow Pl Ow' Pl') : sc_Sch cnt dl K F S W (upd U r (nI (2 + k))) P A Ow' Pl' (upd Ct k (nI r)) := by
  have h24 := H.1.1
  have d8 := H.1.2
  obtain ⟨i1, i2, i3, i4, i5, i6⟩ := I
  have n1 : ∀ c, U c = 1 → c ≠ r := fun c h e => by rw [e, u0] at h; exact absurd h (by decide)
  have u1 : ∀ c, c ≠ r → upd U r (nI (2 + k)) c = U c := fun c h => pk_un h
  have ur : ¬ upd U r (nI (2 + k)) r = 1 := fun h => by
    rw [pk_us] at h
    exact absurd (sx_nIne (b := 1) (by omega) (by decide) h) (by omega)
  have u1' : ∀ c, upd U r (nI (2 + k)) c = 1 ↔ U c = 1 := fun c => by
    by_cases e : c = r
    · subst e
      exact ⟨fun z => absurd z ur, fun z => absurd rfl (n1 _ z)⟩
    · rw [u1 c e]
  -- the parent decides the owner
  have ope : ∀ c d, c < cnt → U c = 1 → P c = nI d → d < cnt → (Ow' c = nI (k + 1) ↔ Ow' d = nI (k + 1)) := by
    intro c d hc hu hp hd
    rw [i1 c hc]
    constructor
    · rintro (e | ⟨_, f, f1, _, f2, f3⟩)
      · exact absurd e (n1 c hu)
      · rw [hp] at f2
        have := sx_nIne (by omega) (by omega) f2
        rw [this]; exact f3
    · exact fun h => Or.inr ⟨(u1' c).2 hu, d, hd, Nat.zero_le _, hp, h⟩
  refine ⟨H.1, fun c hc => ?_, fun c hc => ?_, fun c hc => ?_, fun k' hk' => ?_, fun c hc => ?_⟩
  · obtain ⟨t1, t2, t3, t4, t5, t6, t7, t8, t9, t10⟩ := H.2.1 c hc
    refine ⟨t1, t2, t3, t4, t5, t6, t7, fun q => ?_, t9, fun q q7 => ?_⟩
    · obtain ⟨g1, g2, g3, g4⟩ := t8 q
      exact ⟨g1, g2, (u1' _).2 g3, g4⟩
    · obtain ⟨g1, g2, g3, g4, g5⟩ := t10 q q7
      exact ⟨g1, g2, g3, (u1' _).2 g4, g5⟩
  · by_cases e : c = r
    · subst e
      refine Or.inr (Or.inr ⟨k, by omega, pk_us, ?_, (i1 c hc).2 (Or.inl rfl), pk_us⟩)
      rcases H.2.2.1 c hc with ⟨_, h, _⟩ | ⟨h, _⟩ | ⟨k', hk', h, _⟩
      · exact h
      · rw [u0] at h; exact absurd h (by decide)
      · rw [u0] at h; exact absurd (sx_nIne (a := 0) (by omega) (by omega) h) (by omega)
    · rcases H.2.2.1 c hc with ⟨h1, h2, h3⟩ | ⟨h1, d, g1, g2, g3, g4, g5, g6⟩ | ⟨k', hk', h1, h2, h3, h4⟩
      · have no : ¬ Ow' c = nI (k + 1) := fun z => by
          rcases (i1 c hc).1 z with y | ⟨y, _⟩
          · exact e y
          · rw [u1 c e, h1] at y; exact absurd y (by decide)
        exact Or.inl ⟨by rw [u1 c e]; exact h1, h2, by rw [(i2 c no).1]; exact h3⟩
      · refine Or.inr (Or.inl ⟨(u1' c).2 h1, d, g1, g2, g3, g4, g5, ?_⟩)
        have := ope c d hc h1 g3 g1
        by_cases z : Ow' d = nI (k + 1)
        · rw [z]; exact this.2 z
        · rw [(i2 d z).1, (i2 c (fun y => z (this.1 y))).1]; exact g6
      · have nk : k' ≠ k := fun z => by
          rw [z, c0] at h4
          exact sx_nIm1 (by omega) h4.symm
        have no : ¬ Ow' c = nI (k + 1) := fun z => by
          rcases (i1 c hc).1 z with y | ⟨y, _⟩
          · exact e y
          · rw [u1 c e, h1] at y
            exact absurd (sx_nIne (b := 1) (by omega) (by decide) y) (by omega)
        exact Or.inr (Or.inr ⟨k', hk', by rw [u1 c e]; exact h1, h2, by rw [(i2 c no).1]; exact h3, by rw [pk_un nk]; exact h4⟩)
  · intro q
    by_cases z : Ow' c = nI (k + 1)
    · obtain ⟨x, x1, x2⟩ := i3 c hc z
      have ex : sd_n Pl' c = x := sd_n_of x1 (by omega)
      obtain ⟨g1, g2⟩ := i4 c hc (Nat.zero_le _) z
      exact ⟨by rw [ex]; exact x1, by rw [ex]; exact x2, g1, g2⟩
    · obtain ⟨e1, e2⟩ := i2 c z
      rw [e1] at q
      obtain ⟨g1, g2, g3, g4⟩ := H.2.2.2.1 c hc q
      have en : sd_n Pl' c = sd_n Pl c := sf_n e2
      refine ⟨by rw [en, e2]; exact g1, by rw [en]; exact g2, fun k4 => ?_, fun k4 k7 => ?_⟩
      · obtain ⟨f1, f2, f3, f4, _⟩ := sc_opF H hc k4
        have no : ¬ Ow' (sd_n F c) = nI (k + 1) := fun y => z ((ope _ c (by omega) f3 f4 hc).1 y)
        rw [(i2 _ no).2, e2]; exact g3 k4
      · obtain ⟨f1, f2, _, f3, f4, _⟩ := sc_opS H hc k4 k7
        have no : ¬ Ow' (sd_n S c) = nI (k + 1) := fun y => z ((ope _ c (by omega) f3 f4 hc).1 y)
        rw [(i2 _ no).2, e2]; exact g4 k4 k7
  · by_cases e : k' = k
    · subst e
      exact Or.inr ⟨r, hr, pk_us, pk_us, hk⟩
    · rw [pk_un e]
      rcases H.2.2.2.2.1 k' hk' with h | ⟨r', h1, h2, h3, h4⟩
      · exact Or.inl h
      · refine Or.inr ⟨r', h1, h2, ?_, h4⟩
        rw [u1 r' (fun z => by rw [z, u0] at h3; exact absurd (sx_nIne (a := 0) (by omega) (by omega) h3) (by omega))]
        exact h3
  · obtain ⟨h1, h2⟩ := H.2.2.2.2.2 c hc
    rw [u1 c (by omega), i5 c hc]
    exact ⟨h1, h2⟩
theorem sc_no (H : sc_Sch cnt dl K F S W U P A Ow Pl Ct) (hk : k < 8) (c0 : Ct k = -1) : ∀ e, e < cnt → ¬ Ow e = nI (k + 1) := by
  intro e he ho
  have h24 := H.1.1
  obtain ⟨J, _, hC, hO, _⟩ := sc_wayX H hk he ho
  have := (hO J (Nat.le_refl _)).1
  rw [c0] at hC
  exact sx_nIm1 (by omega) hC.symm
end
section
variable {f_cellLimit f_definitionLimit f_depthLimit f_itemLimit f_made f_state f_depth f_rootDefinition : Int32}
variable {a_kind a_first a_second a_width a_use a_items a_itemKind a_itemName a_itemValue a_itemFit a_matches a_grows : Nat → Int32}
/-- Y's search for the definition -/
theorem sy_defL {cnt k : Nat} (hn : f_made = nI cnt) (h24 : cnt ≤ 24) {x2 : Int32} {post : Int32 → SY → Prop} (h1 : (∃ c, c < cnt ∧ a_use c = nI (2 + k)) → post (-4) (f_cellLimit, f_definitionLimit, f_depthLimit, f_itemLimit, f_made, f_state, f_depth, f_rootDefinition, a_kind, a_first, a_second, a_width, a_use, a_items, a_itemKind, a_itemName, a_itemValue, a_itemFit, a_matches, a_grows))
    (h0 : ¬ (∃ c, c < cnt ∧ a_use c = nI (2 + k)) → vp_in x2 24 ∧ ((a_use x2.toNatClampNeg = 0 → vp_in x2 24 ∧ ∀ a_use_10 : Nat → Int32, a_use_10 = upd a_use x2.toNatClampNeg (2 + nI k) → post 0 (f_cellLimit, f_definitionLimit, f_depthLimit, f_itemLimit, f_made, f_state, f_depth, f_rootDefinition, a_kind, a_first, a_second, a_width, a_use_10, a_items, a_itemKind, a_itemName, a_itemValue, a_itemFit, a_matches, a_grows)) ∧ (¬ a_use x2.toNatClampNeg = 0 → post (-4) (f_cellLimit, f_definitionLimit, f_depthLimit, f_itemLimit, f_made, f_state, f_depth, f_rootDefinition, a_kind, a_first, a_second, a_width, a_use, a_items, a_itemKind, a_itemName, a_itemValue, a_itemFit, a_matches, a_grows)))) :
    ∀ (d c : Nat), c + d = cnt → (∀ e, e < c → ¬ a_use e = nI (2 + k)) → ∀ f, d < f → wY_define_39 post (nI k) x2 f_cellLimit f_definitionLimit f_depthLimit f_itemLimit f_made f_state f_depth f_rootDefinition a_kind a_first a_second a_width a_use a_items a_itemKind a_itemName a_itemValue a_itemFit a_matches a_grows f (nI c) := by
  have e2 : (2 : Int32) + nI k = nI (2 + k) := by rw [show (2 : Int32) = nI 2 from rfl, nI_add]
  intro d
  induction d with
  | zero =>
    intro c hc hu f hf
    cases f with
    | zero => omega
    | succ f =>
      refine br_t (by rw [hn]; exact nI_le (by omega) (by omega)) (h0 (fun ⟨e, g1, g2⟩ => hu e (by omega) g2))
  | succ d ih =>
    intro c hc hu f hf
    have ec : (nI c).toNatClampNeg = c := sx_cl 24 (show c < 24 by omega)
    cases f with
    | zero => omega
    | succ f =>
      refine br_f (by rw [hn]; exact nI_ge (by omega) (by omega)) (And.intro (vp_in_nI (by omega) (by decide)) (br_c (fun e => h1 ⟨c, by omega, ?_⟩) (fun e => nm_r (nI_1 c) (ih (c + 1) (by omega) (fun e' he' => ?_) f (by omega)))))
      · rw [ec, e2] at e; exact e
      · rw [ec, e2] at e
        by_cases q : e' = c
        · rw [q]; exact e
        · exact hu e' (by omega)
end
theorem i_vc_define {k : Nat} {u : SX} {v : SY} (I : i_Rel k u v) (hk : k + 4 ≤ 2052) (v1 : Int32) (v2 : Int32) : wpX_define (fun r u' => wpY_define (fun r' v' => r' = r ∧ i_Rel (k + 4) u' v') v v1 v2) u v1 v2 := by
  refine zz_el (Q := fun u v => wpX_define (fun r u' => wpY_define (fun r' v' => r' = r ∧ i_Rel (k + 4) u' v') v v1 v2) u v1 v2) ?_ I
  intro f_cellLimit f_definitionLimit f_depthLimit f_itemLimit f_cellCount f_definedCount f_live f_state f_depth a_kinds a_firsts a_seconds a_widths a_uses a_parents a_attributed a_owners a_places a_contents a_columns a_unused a_childless a_nullable a_growEarly a_growLate a_guards a_items a_names a_late a_residuals a_next f_rootDefinition b_items a_itemKind a_itemName a_itemValue a_itemFit a_matches a_grows hR
  have J : i_Rel (k + 4) (f_cellLimit, f_definitionLimit, f_depthLimit, f_itemLimit, f_cellCount, f_definedCount, f_live, f_state, f_depth, a_kinds, a_firsts, a_seconds, a_widths, a_uses, a_parents, a_attributed, a_owners, a_places, a_contents, a_columns, a_unused, a_childless, a_nullable, a_growEarly, a_growLate, a_guards, a_items, a_names, a_late, a_residuals, a_next) (f_cellLimit, f_definitionLimit, f_depthLimit, f_itemLimit, f_cellCount, f_state, f_depth, f_rootDefinition, a_kinds, a_firsts, a_seconds, a_widths, a_uses, b_items, a_itemKind, a_itemName, a_itemValue, a_itemFit, a_matches, a_grows) := zz_in hR
  obtain ⟨lim, cnt, dl, dpl, itl, st, dy⟩ := hR
  obtain ⟨⟨hlim, l24, cl⟩, hdl, sdp, sit, hn, hdc, H, tb, lv, hcol⟩ := st
  have h24 := H.1.1
  have d8 := H.1.2
  unfold wpX_define wpX_isDefinition wpX_isCell
  dsimp only
  by_cases hs : f_state = 1
  · refine br_t hs ?_
    unfold wpY_define
    exact br_t hs ⟨rfl, J⟩
  · have dd : (f_state = 0 ∨ f_state = 2) ∧ f_depth = 0 := dy.elim id (fun q => absurd q.1 hs)
    refine br_f hs ?_
    by_cases a0 : v1 < 0
    · refine br_t a0 (br_t rfl ?_)
      unfold wpY_define
      exact br_f hs (br_t a0 ⟨rfl, J⟩)
    · by_cases a1 : f_definitionLimit ≤ v1
      · refine br_f a0 (br_t a1 (br_t rfl ?_))
        unfold wpY_define
        exact br_f hs (br_f a0 (br_t a1 ⟨rfl, J⟩))
      · refine br_f a0 (br_f a1 (br_f (by decide) ?_))
        by_cases b0 : v2 < 0
        · refine br_t b0 (br_t rfl ?_)
          unfold wpY_define
          exact br_f hs (br_f a0 (br_f a1 (br_t b0 ⟨rfl, J⟩)))
        · by_cases b1 : f_cellCount ≤ v2
          · refine br_f b0 (br_t b1 (br_t rfl ?_))
            unfold wpY_define
            exact br_f hs (br_f a0 (br_f a1 (br_f b0 (br_f (Int32.not_lt.2 b1) ⟨rfl, J⟩))))
          · refine br_f b0 (br_f b1 (br_f (by decide) ?_))
            obtain ⟨r, hr, rfl⟩ := sr_cell h24 hn b0 b1
            obtain ⟨d, hd', rfl⟩ := nI_of a0
            have hd : d < dl := by rw [hdl, nI_leI (by omega) hd'] at a1; omega
            have ed : (nI d).toNatClampNeg = d := sx_cl 8 (by omega)
            have vd : vp_in (nI d) 8 := vp_in_nI (by omega) (by decide)
            have er : (nI r).toNatClampNeg = r := sx_cl 24 (by omega)
            have vr : vp_in (nI r) 24 := vp_in_nI (by omega) (by decide)
            have e2 : (2 : Int32) + nI d = nI (2 + d) := by rw [show (2 : Int32) = nI 2 from rfl, nI_add]
            -- Y's side
            have hY : ∀ post : Int32 → SY → Prop, ((∃ c, c < cnt ∧ a_uses c = nI (2 + d)) → post (-4) (f_cellLimit, f_definitionLimit, f_depthLimit, f_itemLimit, f_cellCount, f_state, f_depth, f_rootDefinition, a_kinds, a_firsts, a_seconds, a_widths, a_uses, b_items, a_itemKind, a_itemName, a_itemValue, a_itemFit, a_matches, a_grows)) →
                (¬ (∃ c, c < cnt ∧ a_uses c = nI (2 + d)) → (a_uses r = 0 → post 0 (f_cellLimit, f_definitionLimit, f_depthLimit, f_itemLimit, f_cellCount, f_state, f_depth, f_rootDefinition, a_kinds, a_firsts, a_seconds, a_widths, upd a_uses r (nI (2 + d)), b_items, a_itemKind, a_itemName, a_itemValue, a_itemFit, a_matches, a_grows)) ∧ (¬ a_uses r = 0 → post (-4) (f_cellLimit, f_definitionLimit, f_depthLimit, f_itemLimit, f_cellCount, f_state, f_depth, f_rootDefinition, a_kinds, a_firsts, a_seconds, a_widths, a_uses, b_items, a_itemKind, a_itemName, a_itemValue, a_itemFit, a_matches, a_grows))) → wpY_define post (f_cellLimit, f_definitionLimit, f_depthLimit, f_itemLimit, f_cellCount, f_state, f_depth, f_rootDefinition, a_kinds, a_firsts, a_seconds, a_widths, a_uses, b_items, a_itemKind, a_itemName, a_itemValue, a_itemFit, a_matches, a_grows) (nI d) (nI r) := by
              intro post p1 p0
              unfold wpY_define
              refine br_f hs (br_f a0 (br_f a1 (br_f b0 (br_t (Int32.not_le.1 b1) ⟨cnt + 1, ?_⟩))))
              refine sy_defL hn h24 p1 (fun q => And.intro vr ?_) cnt 0 (by omega) (fun e he => by omega) (cnt + 1) (by omega)
              rw [er, e2]
              exact br_c (fun z => And.intro vr (nm_e ((p0 q).1 z))) (fun z => (p0 q).2 z)
            have cd : 0 ≤ a_contents d ↔ ∃ c, c < cnt ∧ a_uses c = nI (2 + d) := by
              constructor
              · intro z
                rcases H.2.2.2.2.1 d (by omega) with h | ⟨r', h1, h2, h3, _⟩
                · rw [h] at z; exact absurd z (by decide)
                · exact ⟨r', h1, h3⟩
              · rintro ⟨c, c1, c2⟩
                rw [((sl_ct H (by omega)).1 ⟨c1, c2⟩).2]
                exact nI_pos' (by omega)
            refine And.intro vd ?_
            rw [ed, er]
            refine br_c (fun z => ?_) (fun z => And.intro vr (br_c (fun u0 => And.intro vd ?_) (fun u0 => ?_)))
            · exact hY _ (fun _ => ⟨rfl, J⟩) (fun q => absurd (cd.1 z) q)
            · have nz : ¬ (∃ c, c < cnt ∧ a_uses c = nI (2 + d)) := fun q => z (cd.2 q)
              have c0 : a_contents d = -1 := by
                rcases H.2.2.2.2.1 d (by omega) with h | ⟨r', h1, h2, _⟩
                · exact h
                · rw [h2] at z; exact absurd (nI_pos' (by omega)) z
              refine nm_r (e' := upd a_contents d (nI r)) rfl (And.intro vr (nm_r (e' := upd a_uses r (nI (2 + d))) (by rw [e2]) (nm_r (e' := nI (sr_cn a_uses cnt + 1)) (by rw [hdc, nI_1]) ?_)))
              have u2 : ¬ nI (2 + d) < 2 := nI_nlt (b := 2) (by omega) (by omega)
              have plH : sx_plH cnt r a_kinds a_firsts a_seconds a_widths (upd a_uses r (nI (2 + d))) a_parents a_attributed := by
                have n1 : ∀ c, a_uses c = 1 → c ≠ r := fun c h e => by rw [e, u0] at h; exact absurd h (by decide)
                have ur : ¬ upd a_uses r (nI (2 + d)) r = 1 := fun h => by
                  rw [pk_us] at h
                  exact absurd (sx_nIne (b := 1) (by omega) (by decide) h) (by omega)
                refine ⟨h24, fun c hc => ?_, fun c e hc hu hp he => ?_, hr, ur⟩
                · obtain ⟨t1, t2, t3, t4, t5, t6, t7, t8, t9, t10⟩ := H.2.1 c hc
                  refine ⟨t1, t2, t3, t4, t5, t6, t7, fun q => ?_, t9, fun q q7 => ?_⟩
                  · obtain ⟨g1, g2, g3, g4⟩ := t8 q
                    exact ⟨g1, g2, by rw [pk_un (n1 _ g3)]; exact g3, g4⟩
                  · obtain ⟨g1, g2, g3, g4, g5⟩ := t10 q q7
                    exact ⟨g1, g2, g3, by rw [pk_un (n1 _ g4)]; exact g4, g5⟩
                · by_cases q : c = r
                  · subst q; exact absurd hu ur
                  · rw [pk_un q] at hu
                    obtain ⟨g1, g2, g3, g4, _⟩ := sc_par H hc hu hp he
                    exact ⟨g1, g2, g3, g4⟩
              refine sx_place plH (by omega) (sc_no H (by omega) c0) (fun Ow' Pl' hI => ?_)
              have H' := sc_def H hr u0 hd c0 hI
              have hC' : ∀ k, k < 8 → upd a_contents d (nI r) k = -1 ∨ ∃ r', r' < 24 ∧ upd a_contents d (nI r) k = nI r' := fun k hk => by
                rcases H'.2.2.2.2.1 k hk with h | ⟨r', h1, h2, _⟩
                · exact Or.inl h
                · exact Or.inr ⟨r', by omega, h2⟩
              refine sx_refresh hn h24 (sl_okx H') hC' (GP := fun Un Cl Nu c w => ∀ J, sx_way a_parents (sd_up (sd_n a_parents) c) J → ∀ s, sd_lb w s ↔
                ((sd_n a_kinds c = 1 ∨ sd_lb (Un c) s) ∧ ∀ m, m < J → sx_ps (sd_n a_kinds) (sd_n a_firsts) (sd_n a_seconds) Un Cl Nu (if sd_n a_kinds c = 2 then 0 else 1) (sd_up (sd_n a_parents) c (m + 1)) (sd_up (sd_n a_parents) c m) s)) ?_ ?_
              · intro Un Cl Nu Gd c hc ho k4
                obtain ⟨k', hk', hok⟩ := sb_owk H' (cnt - c) c hc (by omega) ho
                obtain ⟨J0, w0, _, hO, hs'⟩ := sc_wayX H' hk' hc hok
                obtain ⟨w, hw1, hw2⟩ := sx_guardOf (f_cellLimit := f_cellLimit) (f_definitionLimit := f_definitionLimit) (f_depthLimit := f_depthLimit) (f_itemLimit := f_itemLimit) (f_cellCount := f_cellCount) (f_definedCount := nI (sr_cn a_uses cnt + 1)) (f_live := f_live) (f_state := f_state) (f_depth := f_depth) (a_kinds := a_kinds) (a_firsts := a_firsts) (a_seconds := a_seconds) (a_widths := a_widths) (a_uses := upd a_uses r (nI (2 + d))) (a_parents := a_parents) (a_attributed := a_attributed) (a_owners := Ow') (a_places := Pl') (a_contents := upd a_contents d (nI r)) (a_columns := a_columns) (a_unused := Un) (a_childless := Cl) (a_nullable := Nu) (a_growEarly := a_growEarly) (a_growLate := a_growLate) (a_guards := Gd) (a_items := a_items) (a_names := a_names) (a_late := a_late) (a_residuals := a_residuals) (a_next := a_next) w0 (kd := sd_n a_kinds) (pp := sd_n a_firsts) (qq := sd_n a_seconds)
                  (fun i hi => by
                    obtain ⟨o, ch⟩ := hs' i hi
                    have tr := H'.2.1 _ o.1
                    have oF := sc_opF H' o.1 ch.1
                    refine ⟨tr.1.1, by have := tr.1.2; omega, oF.1, by have := oF.2.1; have := o.1; omega, fun k7 => ?_⟩
                    have oS := sc_opS H' o.1 ch.1 k7
                    exact ⟨oS.1, by have := oS.2.1; have := o.1; omega⟩)
                  (H'.2.1 c hc).1.1 (show sd_n a_kinds c < 8 by omega)
                refine ⟨w, fun J hJ s => ?_, hw2⟩
                have := sb_way1 hJ w0
                subst this
                exact hw1 s
              · intro Un Cl Nu Gd Ge Gl L hu hg l0 hL hgr
                have un := sb_un H' hcol hu
                have e89 := sb_fix H' un l0 hL
                rw [e89] at hgr
                obtain ⟨ge, gl⟩ := sb_grE H' un hgr
                refine hY _ (fun q => absurd q nz) (fun _ => ⟨fun _ => ⟨rfl, ?_⟩, fun q => absurd u0 q⟩)
                refine zz_in ⟨lim, cnt, dl, dpl, itl, ⟨⟨hlim, l24, cl⟩, hdl, sdp, sit, hn, ?_, H', ⟨un, sb_clE H' hcol hu, sb_nuE H' hcol hu, ge, gl, ?_⟩, ⟨L, l0, hL, rfl⟩, hcol⟩, Or.inl dd⟩
                · rw [sr_cn_upd (by rw [u0]; decide) u2 cnt hr]
                · intro l ol k0 k4 J hw s
                  rw [hg l ol.1 ol.2 k4 J hw s]
                  exact sb_gd H' un ol k0 k4 hw s
            · refine hY _ (fun _ => ⟨rfl, J⟩) (fun _ => ⟨fun q => absurd q u0, fun _ => ⟨rfl, J⟩⟩)
end
section
/-! the constructors; open -/
def sr_cl (x lo hi : Int32) : Int32 := if lo ≤ x then (if x ≤ hi then x else hi) else lo
theorem sr_clN (x : Int32) {lo hi : Nat} (h : lo ≤ hi) (hh : hi < 2 ^ 31) : ∃ m, lo ≤ m ∧ m ≤ hi ∧ sr_cl x (nI lo) (nI hi) = nI m := by
  unfold sr_cl
  by_cases a : nI lo ≤ x
  · rw [if_pos a]
    by_cases b : x ≤ nI hi
    · rw [if_pos b]
      have n0 : ¬ x < 0 := fun z => by
        have := Int32.lt_of_le_of_lt a z
        exact nI_pos (by omega) this
      obtain ⟨m, hm, rfl⟩ := nI_of n0
      rw [nI_leI (by omega) hm] at a
      rw [nI_leI hm hh] at b
      exact ⟨m, a, b, rfl⟩
    · rw [if_neg b]; exact ⟨hi, h, Nat.le_refl _, rfl⟩
  · rw [if_neg a]; exact ⟨lo, Nat.le_refl _, h, rfl⟩
theorem sr_col0 : ∀ r, r < 64 → (-6148914691236517206 : Int64).toBitVec.getLsbD r = r.testBit 0 := by decide +kernel
theorem sr_col1 : ∀ r, r < 64 → (-3689348814741910324 : Int64).toBitVec.getLsbD r = r.testBit 1 := by decide +kernel
theorem sr_col2 : ∀ r, r < 64 → (-1085102592571150096 : Int64).toBitVec.getLsbD r = r.testBit 2 := by decide +kernel
theorem sr_col3 : ∀ r, r < 64 → (-71777214294589696 : Int64).toBitVec.getLsbD r = r.testBit 3 := by decide +kernel
theorem sr_col4 : ∀ r, r < 64 → (-281470681808896 : Int64).toBitVec.getLsbD r = r.testBit 4 := by decide +kernel
theorem sr_col5 : ∀ r, r < 64 → (-4294967296 : Int64).toBitVec.getLsbD r = r.testBit 5 := by decide +kernel
theorem sr_colB {w : Int64} {i : Nat} (hi : i < 6) (h : ∀ r, r < 64 → w.toBitVec.getLsbD r = r.testBit i) (s : Nat → Bool) : sd_lb w s ↔ s i = true := by
  unfold sd_lb
  rw [h _ (sd_mk6 s), sl_mb s hi]
theorem sr_colE (f : Nat → Int64) : sd_colE (vp_updL (vp_updL (vp_updL (vp_updL (vp_updL (vp_updL f 0 (-6148914691236517206)) 1 (-3689348814741910324)) 2 (-1085102592571150096)) 3 (-71777214294589696)) 4 (-281470681808896)) 5 (-4294967296)) := by
  intro i hi s
  have c6 : i = 0 ∨ i = 1 ∨ i = 2 ∨ i = 3 ∨ i = 4 ∨ i = 5 := by omega
  rcases c6 with rfl | rfl | rfl | rfl | rfl | rfl
  · rw [pk_uLn (by decide), pk_uLn (by decide), pk_uLn (by decide), pk_uLn (by decide), pk_uLn (by decide), pk_uLs]; exact sr_colB (by decide) sr_col0 s
  · rw [pk_uLn (by decide), pk_uLn (by decide), pk_uLn (by decide), pk_uLn (by decide), pk_uLs]; exact sr_colB (by decide) sr_col1 s
  · rw [pk_uLn (by decide), pk_uLn (by decide), pk_uLn (by decide), pk_uLs]; exact sr_colB (by decide) sr_col2 s
  · rw [pk_uLn (by decide), pk_uLn (by decide), pk_uLs]; exact sr_colB (by decide) sr_col3 s
  · rw [pk_uLn (by decide), pk_uLs]; exact sr_colB (by decide) sr_col4 s
  · rw [pk_uLs]; exact sr_colB (by decide) sr_col5 s
section
variable {f_cellLimit f_definitionLimit f_depthLimit f_itemLimit f_cellCount f_definedCount f_live f_state f_depth : Int32}
variable {a_kinds a_firsts a_seconds a_widths a_uses a_parents a_attributed a_owners a_places a_contents a_items a_names a_late : Nat → Int32} {a_columns a_unused a_childless a_nullable a_growEarly a_growLate a_guards a_residuals a_next : Nat → Int64}
theorem sx_clamp {post : Int32 → Prop} {x lo hi : Int32} (h : post (sr_cl x lo hi)) : wpX_clamp post (f_cellLimit, f_definitionLimit, f_depthLimit, f_itemLimit, f_cellCount, f_definedCount, f_live, f_state, f_depth, a_kinds, a_firsts, a_seconds, a_widths, a_uses, a_parents, a_attributed, a_owners, a_places, a_contents, a_columns, a_unused, a_childless, a_nullable, a_growEarly, a_growLate, a_guards, a_items, a_names, a_late, a_residuals, a_next) x lo hi := by
  unfold wpX_clamp
  unfold sr_cl at h
  refine br_c (fun a => br_c (fun b => ?_) (fun b => ?_)) (fun a => ?_)
  · rw [if_pos a, if_pos b] at h; exact h
  · rw [if_pos a, if_neg b] at h; exact h
  · rw [if_neg a] at h; exact h
theorem sx_initL {post : SX → Prop}
    (h : ∀ Ct : Nat → Int32, (∀ j, j < 8 → Ct j = -1) → post (f_cellLimit, f_definitionLimit, f_depthLimit, f_itemLimit, f_cellCount, f_definedCount, f_live, f_state, f_depth, a_kinds, a_firsts, a_seconds, a_widths, a_uses, a_parents, a_attributed, a_owners, a_places, Ct, vp_updL (vp_updL (vp_updL (vp_updL (vp_updL (vp_updL a_columns 0 (-6148914691236517206)) 1 (-3689348814741910324)) 2 (-1085102592571150096)) 3 (-71777214294589696)) 4 (-281470681808896)) 5 (-4294967296), a_unused, a_childless, a_nullable, a_growEarly, a_growLate, a_guards, a_items, a_names, a_late, a_residuals, a_next)) :
    ∀ (d i : Nat) (Ct : Nat → Int32), i + d = 8 → (∀ j, j < i → Ct j = -1) → ∀ f, d < f → wX_init_229 post f_cellLimit f_definitionLimit f_depthLimit f_itemLimit f_cellCount f_definedCount f_live f_state f_depth f (nI i) a_kinds a_firsts a_seconds a_widths a_uses a_parents a_attributed a_owners a_places Ct a_columns a_unused a_childless a_nullable a_growEarly a_growLate a_guards a_items a_names a_late a_residuals a_next := by
  intro d
  induction d with
  | zero =>
    intro i Ct hi hc f hf
    have e : i = 8 := by omega
    subst e
    cases f with
    | zero => omega
    | succ f => exact br_t (nI_le (Nat.le_refl 8) (by decide)) (nm_e (nm_e (nm_e (nm_e (nm_e (nm_e (h Ct hc)))))))
  | succ d ih =>
    intro i Ct hi hc f hf
    have ei : (nI i).toNatClampNeg = i := sx_cl 8 (show i < 8 by omega)
    cases f with
    | zero => omega
    | succ f =>
      refine br_f (nI_ge (b := 8) (by omega) (by decide)) (And.intro (vp_in_nI (by omega) (by decide)) (nm_r (e' := upd Ct i (-1)) (by rw [ei]) (nm_r (nI_1 i) (ih (i + 1) _ (by omega) (fun j hj => ?_) f (by omega)))))
      by_cases e : j = i
      · subst e; exact pk_us
      · rw [pk_un e]; exact hc j (by omega)
end
section
variable {f_cellLimit f_definitionLimit f_depthLimit f_itemLimit f_made f_state f_depth f_rootDefinition : Int32}
variable {a_kind a_first a_second a_width a_use a_items a_itemKind a_itemName a_itemValue a_itemFit a_matches a_grows : Nat → Int32}
theorem sy_clamp {post : Int32 → Prop} {x lo hi : Int32} (h : post (sr_cl x lo hi)) : wpY_clamp post (f_cellLimit, f_definitionLimit, f_depthLimit, f_itemLimit, f_made, f_state, f_depth, f_rootDefinition, a_kind, a_first, a_second, a_width, a_use, a_items, a_itemKind, a_itemName, a_itemValue, a_itemFit, a_matches, a_grows) x lo hi := by
  unfold wpY_clamp
  unfold sr_cl at h
  refine br_c (fun a => br_c (fun b => ?_) (fun b => ?_)) (fun a => ?_)
  · rw [if_pos a, if_pos b] at h; exact h
  · rw [if_pos a, if_neg b] at h; exact h
  · rw [if_neg a] at h; exact h
end
theorem i_vc0 (k0 : Int32) (k1 : Int32) (k2 : Int32) (k3 : Int32) : wpX_init (fun u => wpY_init (fun v => i_Rel 4 u v) k0 k1 k2 k3) k0 k1 k2 k3 := by
  obtain ⟨m0, a0, b0, e0⟩ := sr_clN k0 (lo := 8) (hi := 24) (by decide) (by decide)
  obtain ⟨m1, a1, b1, e1⟩ := sr_clN k1 (lo := 1) (hi := 8) (by decide) (by decide)
  obtain ⟨m2, a2, b2, e2⟩ := sr_clN k2 (lo := 1) (hi := 5) (by decide) (by decide)
  obtain ⟨m3, a3, b3, e3⟩ := sr_clN k3 (lo := 1) (hi := 6) (by decide) (by decide)
  unfold wpX_init
  refine sx_clamp (sx_clamp (sx_clamp (sx_clamp ⟨9, sx_initL (fun Ct hC => ?_) 8 0 (fun _ => 0) (by omega) (fun j hj => by omega) 9 (by omega)⟩)))
  unfold wpY_init
  refine sy_clamp (sy_clamp (sy_clamp (sy_clamp ?_)))
  refine zz_in ⟨m0, 0, m1, m2, m3, ⟨⟨e0, b0, by omega⟩, e1, ⟨e2, a2, b2⟩, ⟨e3, b3⟩, rfl, rfl, ?_, ?_, ?_, sr_colE _⟩, Or.inl ⟨Or.inl rfl, rfl⟩⟩
  · exact ⟨⟨by decide, b1⟩, fun c hc => by omega, fun c hc => by omega, fun c hc => by omega, fun k hk => Or.inl (hC k hk), fun c _ => ⟨rfl, rfl⟩⟩
  · have no : ∀ c, ¬ sc_O 0 (fun _ => 0) sb_own c := fun c h => by have := h.1; omega
    exact ⟨fun c h => absurd h (no c), fun c h => absurd h (no c), fun c h => absurd h (no c), fun c h => absurd h (no c), fun c h => absurd h (no c), fun c h => absurd h (no c)⟩
  · refine ⟨fun _ => 0, rfl, fun i _ => ⟨fun _ => 0, fun _ => 0, fun c hc => by omega, fun j => ?_⟩, rfl⟩
    rw [b_0]
    refine ⟨fun q => (by cases q), fun ⟨j8, r, r24, hr, _⟩ => ?_⟩
    rw [hC j j8] at hr
    exact absurd hr.symm (sx_nIm1 (by omega))
section
variable {f_cellLimit f_definitionLimit f_depthLimit f_itemLimit f_cellCount f_definedCount f_live f_state f_depth : Int32}
variable {a_kinds a_firsts a_seconds a_widths a_uses a_parents a_attributed a_owners a_places a_contents a_items a_names a_late : Nat → Int32} {a_columns a_unused a_childless a_nullable a_growEarly a_growLate a_guards a_residuals a_next : Nat → Int64}
/-- open's row: the root alone -/
theorem sx_openL {k : Nat} (hk : k < 8) {post : Int32 → SX → Prop}
    (h : ∀ (nx rs : Nat → Int64), (∀ j, j < 8 → (j = k → nx j = 1) ∧ (j ≠ k → nx j = 0)) → (∀ j, j < 8 → rs j = nx j) →
      post 0 (f_cellLimit, f_definitionLimit, f_depthLimit, f_itemLimit, f_cellCount, f_definedCount, f_live, 1, 1, a_kinds, a_firsts, a_seconds, a_widths, a_uses, a_parents, a_attributed, a_owners, a_places, a_contents, a_columns, a_unused, a_childless, a_nullable, a_growEarly, a_growLate, a_guards, upd a_items 0 0, upd a_names 0 0, upd a_late 0 0, rs, nx)) :
    ∀ (d i : Nat) (nx : Nat → Int64), i + d = 8 → (∀ j, j < i → (j = k → nx j = 1) ∧ (j ≠ k → nx j = 0)) → ∀ f, d < f → wX_open_34 post (nI k) f_cellLimit f_definitionLimit f_depthLimit f_itemLimit f_cellCount f_definedCount f_live f_state f_depth f (nI i) a_kinds a_firsts a_seconds a_widths a_uses a_parents a_attributed a_owners a_places a_contents a_columns a_unused a_childless a_nullable a_growEarly a_growLate a_guards a_items a_names a_late a_residuals nx := by
  intro d
  induction d with
  | zero =>
    intro i nx hi hx f hf
    have e : i = 8 := by omega
    subst e
    cases f with
    | zero => omega
    | succ f =>
      refine br_t (nI_le (Nat.le_refl 8) (by decide)) (sx_push (l := 0) (by decide) rfl (fun rs h1 h2 => ?_))
      exact h nx rs hx (fun j hj => by have := h1 j hj; rw [Nat.zero_mul, Nat.zero_add] at this; exact this)
  | succ d ih =>
    intro i nx hi hx f hf
    have ei : (nI i).toNatClampNeg = i := sx_cl 8 (show i < 8 by omega)
    have vi : vp_in (nI i) 8 := vp_in_nI (by omega) (by decide)
    have eq : nI i = nI k ↔ i = k := nI_eq (by omega) (by omega)
    cases f with
    | zero => omega
    | succ f =>
      refine br_f (nI_ge (b := 8) (by omega) (by decide)) (br_c (fun e => And.intro vi (nm_r (e' := vp_updL nx i 1) (by rw [ei]) (nm_r (nI_1 i) (ih (i + 1) _ (by omega) (fun j hj => ?_) f (by omega))))) (fun e => And.intro vi (nm_r (e' := vp_updL nx i 0) (by rw [ei]) (nm_r (nI_1 i) (ih (i + 1) _ (by omega) (fun j hj => ?_) f (by omega))))))
      · by_cases q : j = i
        · subst q
          rw [pk_uLs]
          exact ⟨fun _ => rfl, fun z => absurd (eq.1 e) z⟩
        · rw [pk_uLn q]; exact hx j (by omega)
      · by_cases q : j = i
        · subst q
          rw [pk_uLs]
          exact ⟨fun z => absurd (eq.2 z) e, fun _ => rfl⟩
        · rw [pk_uLn q]; exact hx j (by omega)
end
theorem i_vc_open {k : Nat} {u : SX} {v : SY} (I : i_Rel k u v) (hk : k + 4 ≤ 2052) (v1 : Int32) : wpX_open (fun r u' => wpY_open (fun r' v' => r' = r ∧ i_Rel (k + 4) u' v') v v1) u v1 := by
  refine zz_el (Q := fun u v => wpX_open (fun r u' => wpY_open (fun r' v' => r' = r ∧ i_Rel (k + 4) u' v') v v1) u v1) ?_ I
  intro f_cellLimit f_definitionLimit f_depthLimit f_itemLimit f_cellCount f_definedCount f_live f_state f_depth a_kinds a_firsts a_seconds a_widths a_uses a_parents a_attributed a_owners a_places a_contents a_columns a_unused a_childless a_nullable a_growEarly a_growLate a_guards a_items a_names a_late a_residuals a_next f_rootDefinition b_items a_itemKind a_itemName a_itemValue a_itemFit a_matches a_grows hR
  have J : ∀ M G : Nat → Int32, i_Rel (k + 4) (f_cellLimit, f_definitionLimit, f_depthLimit, f_itemLimit, f_cellCount, f_definedCount, f_live, f_state, f_depth, a_kinds, a_firsts, a_seconds, a_widths, a_uses, a_parents, a_attributed, a_owners, a_places, a_contents, a_columns, a_unused, a_childless, a_nullable, a_growEarly, a_growLate, a_guards, a_items, a_names, a_late, a_residuals, a_next) (f_cellLimit, f_definitionLimit, f_depthLimit, f_itemLimit, f_cellCount, f_state, f_depth, f_rootDefinition, a_kinds, a_firsts, a_seconds, a_widths, a_uses, b_items, a_itemKind, a_itemName, a_itemValue, a_itemFit, M, G) := fun M G => zz_in hR
  obtain ⟨lim, cnt, dl, dpl, itl, st, dy⟩ := hR
  obtain ⟨⟨hlim, l24, cl⟩, hdl, sdp, sit, hn, hdc, H, tb, lv, hcol⟩ := id st
  have h24 := H.1.1
  have d8 := H.1.2
  unfold wpX_open wpX_isDefinition
  dsimp only
  by_cases hs : f_state = 1
  · refine br_t hs ?_
    unfold wpY_open
    exact br_t hs ⟨rfl, J _ _⟩
  · refine br_f hs ?_
    by_cases a0 : v1 < 0
    · refine br_t a0 (br_t rfl ?_)
      unfold wpY_open
      exact br_f hs (br_t a0 ⟨rfl, J _ _⟩)
    · by_cases a1 : f_definitionLimit ≤ v1
      · refine br_f a0 (br_t a1 (br_t rfl ?_))
        unfold wpY_open
        exact br_f hs (br_f a0 (br_f (Int32.not_lt.2 a1) ⟨rfl, J _ _⟩))
      · refine br_f a0 (br_f a1 (br_f (by decide) ?_))
        obtain ⟨d, hd', rfl⟩ := nI_of a0
        have hd : d < dl := by rw [hdl, nI_leI (by omega) hd'] at a1; omega
        have hY : ∀ post : Int32 → SY → Prop, (¬ bt f_live d = true → ∀ M G : Nat → Int32, post (-8) (f_cellLimit, f_definitionLimit, f_depthLimit, f_itemLimit, f_cellCount, f_state, f_depth, f_rootDefinition, a_kinds, a_firsts, a_seconds, a_widths, a_uses, b_items, a_itemKind, a_itemName, a_itemValue, a_itemFit, M, G)) →
            (bt f_live d = true → ∀ M G : Nat → Int32, post 0 (f_cellLimit, f_definitionLimit, f_depthLimit, f_itemLimit, f_cellCount, 1, 1, nI d, a_kinds, a_firsts, a_seconds, a_widths, a_uses, upd b_items 0 0, a_itemKind, a_itemName, a_itemValue, a_itemFit, M, G)) → wpY_open post (f_cellLimit, f_definitionLimit, f_depthLimit, f_itemLimit, f_cellCount, f_state, f_depth, f_rootDefinition, a_kinds, a_firsts, a_seconds, a_widths, a_uses, b_items, a_itemKind, a_itemName, a_itemValue, a_itemFit, a_matches, a_grows) (nI d) := by
          intro post p0 p1
          unfold wpY_open wpY_inhabited
          refine br_f hs (br_f a0 (br_t (Int32.not_le.1 a1) (br_f a0 (br_t (Int32.not_le.1 a1) (sr_inh H tb lv hn (fun M G => br_c (fun z => br_f (by decide) (nm_e ?_)) (fun z => br_t rfl ?_)))))))
          · exact p1 ((sx_bit1 (by omega)).1 z) M G
          · exact p0 (fun q => z ((sx_bit1 (by omega)).2 q)) M G
        unfold wpX_isLive
        refine br_c (fun z => br_t rfl ?_) (fun z => br_f (by decide) ?_)
        · exact hY _ (fun _ M G => ⟨rfl, J M G⟩) (fun q => absurd q ((sx_bit0 (by omega)).1 z))
        · have ld : bt f_live d = true := Classical.byContradiction (fun q => z ((sx_bit0 (by omega)).2 q))
          refine ⟨9, sx_openL (by omega) (fun nx rs hx hrs => ?_) 8 0 a_next (by omega) (fun j hj => by omega) 9 (by omega)⟩
          refine hY _ (fun q => absurd ld q) (fun _ M G => ⟨rfl, ?_⟩)
          obtain ⟨_, r, r1, r2, rl⟩ := (sb_live H tb lv d).1 ld
          have row : ∀ s, sl_row cnt a_kinds a_firsts a_seconds a_widths a_owners a_places a_contents a_childless a_nullable a_growEarly a_growLate a_itemKind a_itemName a_itemValue a_itemFit 0 0 0 0 d s ↔ s = sd_e := by
            intro s
            constructor
            · rintro ⟨_, _, _, h, _⟩; exact h
            · intro e
              refine ⟨r, r1, r2, e, fun _ => ?_, fun q => absurd rfl q⟩
              rw [e]; exact rl
          have i0 : ∀ l, sl_it 1 (fun _ => 0) l = 0 := fun l => by unfold sl_it; split <;> first | omega | rfl
          refine zz_in ⟨lim, cnt, dl, dpl, itl, st, Or.inr ⟨rfl, 1, d, fun _ => 0, fun _ => 0, rfl, rfl, ⟨by omega, ld⟩, sdp.2.1, ⟨by decide, by decide, fun l hl => ?_, fun l hl => by omega⟩, fun l hl => ?_, fun l hl => ?_, fun l hl => by omega, fun l j hl hj s s6 => ?_, ?_⟩⟩
          · rw [i0]
            exact ⟨by decide, ⟨Nat.le_refl _, fun i hi => absurd hi (Nat.not_lt_zero i)⟩, fun i hi => absurd hi (Nat.not_lt_zero i)⟩
          · have : l = 0 := by omega
            subst this
            rw [i0, pk_us, pk_us]
            exact ⟨rfl, rfl, Nat.zero_le _⟩
          · have : l = 0 := by omega
            subst this
            rw [i0, pk_us]
            exact ⟨fun _ => rfl, fun _ => rfl⟩
          · have : l = 0 := by omega
            subst this
            rw [Nat.zero_mul, Nat.zero_add, hrs j hj]
            by_cases e : j = d
            · subst e
              rw [(hx j hj).1 rfl, sd_lb_1, row s]
              constructor
              · exact fun q => ⟨rfl, sd_S6_x s6 sd_S6_e q⟩
              · rintro ⟨_, q⟩ i _
                rw [q]; rfl
            · rw [(hx j hj).2 e]
              exact ⟨fun q => absurd q (sd_lb_0 s), fun q => absurd q.1 e⟩
          · exact ⟨d, by omega, sr_m1 d (by omega), rfl, sd_e, (row sd_e).2 rfl⟩
end
section
/-! Open documents: what stays, what an item adds -/
/-- arrays that agree on what is kept -/
def sr_ag (D : Nat) (dn : Nat → Nat) (it iK iN iV iF it' iK' iN' iV' iF' : Nat → Int32) : Prop :=
  (∀ l, l < D → it' l = it l) ∧
  (∀ l i, l < D → i < dn l → iK' (l * 6 + i) = iK (l * 6 + i) ∧ iN' (l * 6 + i) = iN (l * 6 + i) ∧ iV' (l * 6 + i) = iV (l * 6 + i) ∧ iF' (l * 6 + i) = iF (l * 6 + i)) ∧
  (∀ l, l + 1 < D → iK' (l * 6 + dn l) = iK (l * 6 + dn l) ∧ iN' (l * 6 + dn l) = iN (l * 6 + dn l))
section
variable {cnt dl : Nat} {K F S W U P A Ow Pl Ct : Nat → Int32} {col Un Cl Nu Ge Gl Gd : Nat → Int64} {live : Int32}
variable {iK iN iV iF iK' iN' iV' iF' : Nat → Int32} {lev n na k r m D root : Nat} {s t : Nat → Bool} {dn nas dn' nas' : Nat → Nat}
theorem sl_row_cg (hi : ∀ i, i < n → iK' (lev * 6 + i) = iK (lev * 6 + i) ∧ iN' (lev * 6 + i) = iN (lev * 6 + i) ∧ iV' (lev * 6 + i) = iV (lev * 6 + i) ∧ iF' (lev * 6 + i) = iF (lev * 6 + i))
    (ho : ∀ i, i < n → ¬ iK (lev * 6 + i) = 0) : sl_row cnt K F S W Ow Pl Ct Cl Nu Ge Gl iK' iN' iV' iF' lev n na 0 k s ↔ sl_row cnt K F S W Ow Pl Ct Cl Nu Ge Gl iK iN iV iF lev n na 0 k s := by
  unfold sl_row
  refine sy_ex_cg (fun r => and_congr Iff.rfl (and_congr Iff.rfl (and_congr ?_ Iff.rfl)))
  exact sl_run_cg (Nat.le_refl _) (Nat.le_refl _) hi (fun i _ => rfl) ho
theorem sl_poss_cg (h : ∀ l, l < m → dn' l = dn l ∧ nas' l = nas l ∧ (∀ i, i < dn l → iK' (l * 6 + i) = iK (l * 6 + i) ∧ iN' (l * 6 + i) = iN (l * 6 + i) ∧ iV' (l * 6 + i) = iV (l * 6 + i) ∧ iF' (l * 6 + i) = iF (l * 6 + i)) ∧
      (∀ i, i < dn l → ¬ iK (l * 6 + i) = 0) ∧ iN' (l * 6 + dn l) = iN (l * 6 + dn l)) :
    ∀ k, sl_poss cnt K F S W Ow Pl Ct Cl Nu Ge Gl live iK' iN' iV' iF' dn' nas' root m k ↔ sl_poss cnt K F S W Ow Pl Ct Cl Nu Ge Gl live iK iN iV iF dn nas root m k := by
  induction m with
  | zero => exact fun k => Iff.rfl
  | succ m ih =>
    intro j
    obtain ⟨e1, e2, e3, e4, e5⟩ := h m (by omega)
    have ih' := ih (fun l hl => h l (by omega))
    show (bt live j = true ∧ ∃ k, k < 8 ∧ sl_poss cnt K F S W Ow Pl Ct Cl Nu Ge Gl live iK' iN' iV' iF' dn' nas' root m k ∧ sl_step cnt K F S W Ow Pl Ct Cl Nu Ge Gl iK' iN' iV' iF' m (dn' m) (nas' m) (iN' (m * 6 + dn' m)) k j) ↔
      (bt live j = true ∧ ∃ k, k < 8 ∧ sl_poss cnt K F S W Ow Pl Ct Cl Nu Ge Gl live iK iN iV iF dn nas root m k ∧ sl_step cnt K F S W Ow Pl Ct Cl Nu Ge Gl iK iN iV iF m (dn m) (nas m) (iN (m * 6 + dn m)) k j)
    rw [e1, e2, e5]
    refine and_congr Iff.rfl (sy_ex_cg (fun k => and_congr Iff.rfl (and_congr (ih' k) ?_)))
    unfold sl_step
    constructor
    · rintro ⟨s, t, r, h1, h2⟩; exact ⟨s, t, r, (sl_row_cg e3 e4).1 h1, h2⟩
    · rintro ⟨s, t, r, h1, h2⟩; exact ⟨s, t, r, (sl_row_cg e3 e4).2 h1, h2⟩
/-- what the arrays hold beyond the kept items doesn't matter -/
theorem sr_dy_fr {dpl itl : Nat} {dep rtD : Int32} {xit nam lat yit yit' : Nat → Int32} {rs : Nat → Int64}
    (h : sr_dy cnt K F S W Ow Pl Ct Cl Nu Ge Gl live dpl itl dep xit nam lat rs rtD yit iK iN iV iF D root dn nas) (ag : sr_ag D dn yit iK iN iV iF yit' iK' iN' iV' iF') :
    sr_dy cnt K F S W Ow Pl Ct Cl Nu Ge Gl live dpl itl dep xit nam lat rs rtD yit' iK' iN' iV' iF' D root dn nas := by
  obtain ⟨a1, a2, a3, a4, cf, a6, a7, a8, a9, a10⟩ := h
  obtain ⟨g1, g2, g3⟩ := ag
  have nz : ∀ l, l < D → ∀ i, i < dn l → ¬ iK (l * 6 + i) = 0 := fun l hl i hi => ((cf.2.2.1 l hl).2.2 i hi).1
  have poss : ∀ m, m < D → ∀ k, sl_poss cnt K F S W Ow Pl Ct Cl Nu Ge Gl live iK' iN' iV' iF' dn nas root m k ↔ sl_poss cnt K F S W Ow Pl Ct Cl Nu Ge Gl live iK iN iV iF dn nas root m k := fun m hm =>
    sl_poss_cg (fun l hl => ⟨rfl, rfl, fun i hi => g2 l i (by omega) hi, nz l (by omega), (g3 l (by omega)).2⟩)
  have row : ∀ l, l < D → ∀ k s, sl_row cnt K F S W Ow Pl Ct Cl Nu Ge Gl iK' iN' iV' iF' l (dn l) (nas l) 0 k s ↔ sl_row cnt K F S W Ow Pl Ct Cl Nu Ge Gl iK iN iV iF l (dn l) (nas l) 0 k s := fun l hl k s => sl_row_cg (fun i hi => g2 l i hl hi) (nz l hl)
  refine ⟨a1, a2, a3, a4, ⟨cf.1, cf.2.1, fun l hl => ?_, fun l hl => by rw [(g3 l hl).1]; exact cf.2.2.2 l hl⟩, fun l hl => by rw [g1 l hl]; exact a6 l hl, a7, fun l hl => by rw [(g3 l hl).2]; exact a8 l hl, fun l k hl hk s s6 => ?_, ?_⟩
  · obtain ⟨c1, c2, c3⟩ := cf.2.2.1 l hl
    refine ⟨c1, ⟨c2.1, fun i hi => by rw [(g2 l i hl hi).1]; exact c2.2 i hi⟩, fun i hi => ?_⟩
    obtain ⟨e1, _, _, e4⟩ := g2 l i hl hi
    rw [e1, e4]; exact c3 i hi
  · rw [poss l hl k, row l hl k s]; exact a9 l k hl hk s s6
  · have D1 := cf.1
    obtain ⟨j, j1, j2, j3, s, j4⟩ := a10
    exact ⟨j, j1, j2, (poss (D - 1) (by omega) j).2 j3, s, (row (D - 1) (by omega) j s).2 j4⟩
/-- an item more at level L, which is now the innermost -/
def sl_ap (iK iN iV iF iK' iN' iV' iF' : Nat → Int32) (a : Nat) : Prop := ∀ b, b ≠ a → iK' b = iK b ∧ iN' b = iN b ∧ iV' b = iV b ∧ iF' b = iF b
def sl_dn (dn : Nat → Nat) (L v : Nat) : Nat → Nat := fun l => if l = L then v else dn l
theorem sl_dn_s {L v : Nat} : sl_dn dn L v L = v := if_pos rfl
theorem sl_dn_n {L v l : Nat} (h : l ≠ L) : sl_dn dn L v l = dn l := if_neg h
theorem sl_app_conf {L na' : Nat} (cf : sl_conf live iK iN iV iF D dn nas) (hL : L < D) (n6 : dn L < 6) (ap : sl_ap iK iN iV iF iK' iN' iV' iF' (L * 6 + dn L)) (v0 : ¬ iK' (L * 6 + dn L) = 0)
    (v3 : iK' (L * 6 + dn L) = 3 → ∀ j, bt (iF' (L * 6 + dn L)) j = true → bt live j = true) (v1 : iK' (L * 6 + dn L) = 1 → nas L = dn L ∧ na' = dn L + 1) (v2 : ¬ iK' (L * 6 + dn L) = 1 → na' = nas L) :
    sl_conf live iK' iN' iV' iF' (L + 1) (sl_dn dn L (dn L + 1)) (sl_dn nas L na') := by
  obtain ⟨D1, D5, c1, c2⟩ := cf
  have lev6 : ∀ l, l < D → dn l ≤ 6 := fun l hl => by
    have := (c1 l hl).1
    unfold sl_it at this
    split at this <;> omega
  have lev5 : ∀ l, l + 1 < D → dn l < 6 := fun l hl => by
    have := (c1 l (by omega)).1
    unfold sl_it at this
    rw [if_pos hl] at this; omega
  refine ⟨by omega, by omega, fun l hl => ?_, fun l hl => ?_⟩
  · by_cases e : l = L
    · subst e
      obtain ⟨_, hna, hi⟩ := c1 l hL
      rw [sl_dn_s, sl_dn_s]
      have ei : sl_it (l + 1) (sl_dn dn l (dn l + 1)) l = dn l + 1 := by unfold sl_it; rw [if_neg (by omega), sl_dn_s]
      rw [ei]
      refine ⟨by omega, ⟨?_, fun i hi' => ?_⟩, fun i hi' => ?_⟩
      · by_cases q : iK' (l * 6 + dn l) = 1
        · have := (v1 q).2; omega
        · have := v2 q; have := hna.1; omega
      · by_cases z : i = dn l
        · subst z
          by_cases q : iK' (l * 6 + dn l) = 1
          · have := (v1 q).2
            exact ⟨fun _ => by omega, fun _ => q⟩
          · have := v2 q; have := hna.1
            exact ⟨fun w => absurd w q, fun w => by omega⟩
        · rw [(ap (l * 6 + i) (by omega)).1, hna.2 i (by omega)]
          by_cases q : iK' (l * 6 + dn l) = 1
          · have := (v1 q)
            exact ⟨fun w => by omega, fun w => by omega⟩
          · have := v2 q
            rw [this]
      · by_cases z : i = dn l
        · subst z; exact ⟨v0, v3⟩
        · obtain ⟨e1, _, _, e4⟩ := ap (l * 6 + i) (by omega)
          rw [e1, e4]; exact hi i (by omega)
    · obtain ⟨h6, hna, hi⟩ := c1 l (by omega)
      rw [sl_dn_n e, sl_dn_n e]
      have ei : sl_it (L + 1) (sl_dn dn L (dn L + 1)) l = sl_it D dn l := by unfold sl_it; rw [if_pos (by omega), if_pos (by omega), sl_dn_n e]
      rw [ei]
      have := lev6 l (by omega)
      refine ⟨h6, ⟨hna.1, fun i hi' => by rw [(ap (l * 6 + i) (by omega)).1]; exact hna.2 i hi'⟩, fun i hi' => ?_⟩
      obtain ⟨e1, _, _, e4⟩ := ap (l * 6 + i) (by omega)
      rw [e1, e4]; exact hi i hi'
  · have e : l ≠ L := by omega
    rw [sl_dn_n e]
    have := lev5 l (by omega)
    rw [(ap (l * 6 + dn l) (by omega)).1]
    exact c2 l (by omega)
theorem sl_app_low {L v w : Nat} (cf : sl_conf live iK iN iV iF D dn nas) (hL : L < D) (n6 : dn L < 6) (ap : sl_ap iK iN iV iF iK' iN' iV' iF' (L * 6 + dn L)) :
    (∀ m, m ≤ L → ∀ k, sl_poss cnt K F S W Ow Pl Ct Cl Nu Ge Gl live iK' iN' iV' iF' (sl_dn dn L v) (sl_dn nas L w) root m k ↔ sl_poss cnt K F S W Ow Pl Ct Cl Nu Ge Gl live iK iN iV iF dn nas root m k) ∧
    (∀ l, l < L → ∀ k s, sl_row cnt K F S W Ow Pl Ct Cl Nu Ge Gl iK' iN' iV' iF' l (sl_dn dn L v l) (sl_dn nas L w l) 0 k s ↔ sl_row cnt K F S W Ow Pl Ct Cl Nu Ge Gl iK iN iV iF l (dn l) (nas l) 0 k s) := by
  obtain ⟨D1, D5, c1, c2⟩ := cf
  have lev5 : ∀ l, l + 1 < D → dn l < 6 := fun l hl => by
    have := (c1 l (by omega)).1
    unfold sl_it at this
    rw [if_pos hl] at this; omega
  constructor
  · intro m hm
    refine sl_poss_cg (fun l hl => ⟨sl_dn_n (by omega), sl_dn_n (by omega), fun i hi => ap _ ?_, fun i hi => ((c1 l (by omega)).2.2 i hi).1, (ap _ ?_).2.1⟩)
    · have := lev5 l (by omega); omega
    · have := lev5 l (by omega); omega
  · intro l hl k s
    rw [sl_dn_n (by omega), sl_dn_n (by omega)]
    refine sl_row_cg (fun i hi => ap _ ?_) (fun i hi => ((c1 l (by omega)).2.2 i hi).1)
    have := lev5 l (by omega); omega
/-- the row that a new item leads to -/
theorem sl_app_row {L na' : Nat} (H : sc_Sch cnt dl K F S W U P A Ow Pl Ct) (tb : sb_tab cnt K F S W P Ow Pl Un Cl Nu Ge Gl Gd live) (hk : k < 8) (cf : sl_conf live iK iN iV iF D dn nas) (hL : L < D) (n6 : dn L < 6) (ap : sl_ap iK iN iV iF iK' iN' iV' iF' (L * 6 + dn L))
    (cf' : sl_conf live iK' iN' iV' iF' (L + 1) (sl_dn dn L (dn L + 1)) (sl_dn nas L na')) (hn : iK' (L * 6 + dn L) = 1 → nas L = dn L ∧ na' = dn L + 1) (hn' : ¬ iK' (L * 6 + dn L) = 1 → na' = nas L) :
    sl_row cnt K F S W Ow Pl Ct Cl Nu Ge Gl iK' iN' iV' iF' L (dn L + 1) na' 0 k t ↔ ∃ r, r < cnt ∧ Ct k = nI r ∧
      (∃ s, sl_row cnt K F S W Ow Pl Ct Cl Nu Ge Gl iK iN iV iF L (dn L) (nas L) 0 k s ∧ sl_A cnt K F S W Ow Pl Cl Nu k (fun c => sl_T K F S iK' iN' iV' iF' L (dn L + 1) 0 c (dn L)) (sl_kid na' (dn L)) r s t) ∧ sl_gr Ge Gl (na' = dn L + 1) r t := by
  have ok := sl_conf_ok0 cf' (l := L) (by omega)
  rw [sl_dn_s, sl_dn_s] at ok
  have hna := (cf.2.2.1 L hL).2.1
  refine sl_rowS H tb hk ok hna.1 (fun i hi => ap _ (by omega)) (fun i hi => ((cf.2.2.1 L hL).2.2 i hi).1) (fun i hi => ?_)
  by_cases q : iK' (L * 6 + dn L) = 1
  · have := hn q; omega
  · have := hn' q; omega
end
end
section
/-! Events: X's step, Y's attempt -/
section
variable {f_cellLimit f_definitionLimit f_depthLimit f_itemLimit f_cellCount f_definedCount f_live f_state f_depth : Int32}
variable {a_kinds a_firsts a_seconds a_widths a_uses a_parents a_attributed a_owners a_places a_contents a_items a_names a_late : Nat → Int32} {a_columns a_unused a_childless a_nullable a_growEarly a_growLate a_guards a_residuals a_next : Nat → Int64}
variable {cnt dl : Nat} {iK iN iV iF iK' iN' iV' iF' : Nat → Int32} {D root : Nat} {dn nas : Nat → Nat}
/-- X's step at level L leads to the rows of the level with one item more -/
theorem sr_stepX (H : sc_Sch cnt dl a_kinds a_firsts a_seconds a_widths a_uses a_parents a_attributed a_owners a_places a_contents) (tb : sb_tab cnt a_kinds a_firsts a_seconds a_widths a_parents a_owners a_places a_unused a_childless a_nullable a_growEarly a_growLate a_guards f_live) (hc : sd_colE a_columns) {L na' : Nat} (cf : sl_conf f_live iK iN iV iF D dn nas) (hL : L < D) (n6 : dn L < 6)
    (hrow : ∀ k, k < 8 → ∀ s, sd_S6 s → (sd_lb (a_residuals (L * 8 + k)) s ↔ sl_poss cnt a_kinds a_firsts a_seconds a_widths a_owners a_places a_contents a_childless a_nullable a_growEarly a_growLate f_live iK iN iV iF dn nas root L k ∧ sl_row cnt a_kinds a_firsts a_seconds a_widths a_owners a_places a_contents a_childless a_nullable a_growEarly a_growLate iK iN iV iF L (dn L) (nas L) 0 k s))
    (ap : sl_ap iK iN iV iF iK' iN' iV' iF' (L * 6 + dn L)) (cf' : sl_conf f_live iK' iN' iV' iF' (L + 1) (sl_dn dn L (dn L + 1)) (sl_dn nas L na'))
    (v1 : iK' (L * 6 + dn L) = 1 → nas L = dn L ∧ na' = dn L + 1) (v2 : ¬ iK' (L * 6 + dn L) = 1 → na' = nas L) {kind name extra : Int32} (kk : kind = 1 ∨ kind = 2 ∨ kind = 3) (hg : kind = 2 ↔ na' = dn L + 1)
    (hT : ∀ k r s t, k < 8 → sl_poss cnt a_kinds a_firsts a_seconds a_widths a_owners a_places a_contents a_childless a_nullable a_growEarly a_growLate f_live iK iN iV iF dn nas root L k → r < cnt → a_contents k = nI r → sl_row cnt a_kinds a_firsts a_seconds a_widths a_owners a_places a_contents a_childless a_nullable a_growEarly a_growLate iK iN iV iF L (dn L) (nas L) 0 k s → sl_gr a_growEarly a_growLate (na' = dn L + 1) r t →
      (sl_A cnt a_kinds a_firsts a_seconds a_widths a_owners a_places a_childless a_nullable k (sx_tk a_kinds a_firsts a_seconds kind name extra) (decide (¬ kind = 2)) r s t ↔ sl_A cnt a_kinds a_firsts a_seconds a_widths a_owners a_places a_childless a_nullable k (fun c => sl_T a_kinds a_firsts a_seconds iK' iN' iV' iF' L (dn L + 1) 0 c (dn L)) (sl_kid na' (dn L)) r s t))
    {post : Int32 → SX → Prop}
    (h1 : ∀ nx : Nat → Int64, (∀ k t, k < 8 → sd_S6 t → (sd_lb (nx k) t ↔ sl_poss cnt a_kinds a_firsts a_seconds a_widths a_owners a_places a_contents a_childless a_nullable a_growEarly a_growLate f_live iK iN iV iF dn nas root L k ∧ sl_row cnt a_kinds a_firsts a_seconds a_widths a_owners a_places a_contents a_childless a_nullable a_growEarly a_growLate iK' iN' iV' iF' L (dn L + 1) na' 0 k t)) →
      (∃ k t, k < 8 ∧ sl_poss cnt a_kinds a_firsts a_seconds a_widths a_owners a_places a_contents a_childless a_nullable a_growEarly a_growLate f_live iK iN iV iF dn nas root L k ∧ sl_row cnt a_kinds a_firsts a_seconds a_widths a_owners a_places a_contents a_childless a_nullable a_growEarly a_growLate iK' iN' iV' iF' L (dn L + 1) na' 0 k t) → post 0 (f_cellLimit, f_definitionLimit, f_depthLimit, f_itemLimit, f_cellCount, f_definedCount, f_live, f_state, f_depth, a_kinds, a_firsts, a_seconds, a_widths, a_uses, a_parents, a_attributed, a_owners, a_places, a_contents, a_columns, a_unused, a_childless, a_nullable, a_growEarly, a_growLate, a_guards, a_items, a_names, a_late, a_residuals, nx))
    (h0 : ∀ nx : Nat → Int64, ¬ (∃ k t, k < 8 ∧ sl_poss cnt a_kinds a_firsts a_seconds a_widths a_owners a_places a_contents a_childless a_nullable a_growEarly a_growLate f_live iK iN iV iF dn nas root L k ∧ sl_row cnt a_kinds a_firsts a_seconds a_widths a_owners a_places a_contents a_childless a_nullable a_growEarly a_growLate iK' iN' iV' iF' L (dn L + 1) na' 0 k t) → post (-8) (f_cellLimit, f_definitionLimit, f_depthLimit, f_itemLimit, f_cellCount, f_definedCount, f_live, f_state, f_depth, a_kinds, a_firsts, a_seconds, a_widths, a_uses, a_parents, a_attributed, a_owners, a_places, a_contents, a_columns, a_unused, a_childless, a_nullable, a_growEarly, a_growLate, a_guards, a_items, a_names, a_late, a_residuals, nx)) :
    wpX_step post (f_cellLimit, f_definitionLimit, f_depthLimit, f_itemLimit, f_cellCount, f_definedCount, f_live, f_state, f_depth, a_kinds, a_firsts, a_seconds, a_widths, a_uses, a_parents, a_attributed, a_owners, a_places, a_contents, a_columns, a_unused, a_childless, a_nullable, a_growEarly, a_growLate, a_guards, a_items, a_names, a_late, a_residuals, a_next) (nI L) kind name extra := by
  have h24 := H.1.1
  have L5 : L < 5 := by have := cf.2.1; omega
  have hna := (cf.2.2.1 L hL).2.1
  have hna' : sl_na iK' L (dn L + 1) na' := by
    have := (cf'.2.2.1 L (by omega)).2.1
    rw [sl_dn_s, sl_dn_s] at this; exact this
  have grq : ∀ r t, ((kind = 2 → sd_lb (a_growEarly r) t) ∧ (¬ kind = 2 → sd_lb (a_growLate r) t)) ↔ sl_gr a_growEarly a_growLate (na' = dn L + 1) r t := fun r t => by unfold sl_gr; rw [hg]
  have key : ∀ k t, k < 8 → sd_S6 t → ((∃ r, r < 24 ∧ a_contents k = nI r ∧ (∃ s, sd_S6 s ∧ sd_lb (a_residuals (L * 8 + k)) s ∧
      sl_A cnt a_kinds a_firsts a_seconds a_widths a_owners a_places a_childless a_nullable k (sx_tk a_kinds a_firsts a_seconds kind name extra) (decide (¬ kind = 2)) r s t) ∧ ((kind = 2 → sd_lb (a_growEarly r) t) ∧ (¬ kind = 2 → sd_lb (a_growLate r) t))) ↔
      sl_poss cnt a_kinds a_firsts a_seconds a_widths a_owners a_places a_contents a_childless a_nullable a_growEarly a_growLate f_live iK iN iV iF dn nas root L k ∧ sl_row cnt a_kinds a_firsts a_seconds a_widths a_owners a_places a_contents a_childless a_nullable a_growEarly a_growLate iK' iN' iV' iF' L (dn L + 1) na' 0 k t) := by
    intro k t hk t6
    rw [sl_app_row H tb hk cf hL n6 ap cf' v1 v2]
    constructor
    · rintro ⟨r, r24, hr, ⟨s, s6, hs, a⟩, g⟩
      have rc := (sc_root H hk hr (by omega)).1
      obtain ⟨hp, hw⟩ := (hrow k hk s s6).1 hs
      have g' := (grq r t).1 g
      exact ⟨hp, r, rc, hr, ⟨s, hw, (hT k r s t hk hp rc hr hw g').1 a⟩, g'⟩
    · rintro ⟨hp, r, rc, hr, ⟨s, hw, a⟩, g⟩
      have s6 : sd_S6 s := by
        obtain ⟨r', r1, r2, ru, _⟩ := hw
        exact sl_run_6 H tb hk hna r2 r1 ru
      exact ⟨r, by omega, hr, ⟨s, s6, (hrow k hk s s6).2 ⟨hp, hw⟩, (hT k r s t hk hp rc hr hw g).2 a⟩, (grq r t).2 g⟩
  have six : ∀ k t, k < 8 → sl_row cnt a_kinds a_firsts a_seconds a_widths a_owners a_places a_contents a_childless a_nullable a_growEarly a_growLate iK' iN' iV' iF' L (dn L + 1) na' 0 k t → sd_S6 t := by
    rintro k t hk ⟨r', r1, r2, ru, _⟩
    exact sl_run_6 H tb hk hna' r2 r1 ru
  refine sx_step (B := fun k t => sl_poss cnt a_kinds a_firsts a_seconds a_widths a_owners a_places a_contents a_childless a_nullable a_growEarly a_growLate f_live iK iN iV iF dn nas root L k ∧ sl_row cnt a_kinds a_firsts a_seconds a_widths a_owners a_places a_contents a_childless a_nullable a_growEarly a_growLate iK' iN' iV' iF' L (dn L + 1) na' 0 k t) (fun nx k hk => ?_) (fun nx hx hex => h1 nx hx ?_) (fun nx hx hex => h0 nx ?_)
  · obtain ⟨res, hres, hw⟩ := sb_after (f_cellLimit := f_cellLimit) (f_definitionLimit := f_definitionLimit) (f_depthLimit := f_depthLimit) (f_itemLimit := f_itemLimit) (f_cellCount := f_cellCount) (f_definedCount := f_definedCount) (f_live := f_live) (f_state := f_state) (f_depth := f_depth) (a_kinds := a_kinds) (a_firsts := a_firsts) (a_seconds := a_seconds) (a_widths := a_widths) (a_uses := a_uses) (a_parents := a_parents) (a_attributed := a_attributed) (a_owners := a_owners) (a_places := a_places) (a_contents := a_contents) (a_columns := a_columns) (a_unused := a_unused) (a_childless := a_childless) (a_nullable := a_nullable) (a_growEarly := a_growEarly) (a_growLate := a_growLate) (a_guards := a_guards) (a_items := a_items) (a_names := a_names) (a_late := a_late) (a_residuals := a_residuals) (a_next := nx) H tb hc L5 hk (kind := kind) (name := name) (extra := extra) kk
    exact ⟨res, fun t ht => (hres t ht).trans (key k t hk ht), hw⟩
  · obtain ⟨k, t, hk, _, h⟩ := hex
    exact ⟨k, t, hk, h⟩
  · rintro ⟨k, t, hk, hp, hw⟩
    exact hex ⟨k, t, hk, six k t hk hw, hp, hw⟩
end
section
variable {f_cellLimit f_definitionLimit f_depthLimit f_itemLimit f_made f_state f_depth f_rootDefinition : Int32}
variable {a_kind a_first a_second a_width a_use a_items a_itemKind a_itemName a_itemValue a_itemFit a_matches a_grows : Nat → Int32}
variable {cnt dl : Nat} {K F S W U P A Ow Pl Ct : Nat → Int32} {col Un Cl Nu Ge Gl Gd : Nat → Int64} {live : Int32}
variable {root L na' : Nat} {dn nas : Nat → Nat}
/-- the answer of hopeful after one item more -/
theorem sl_ansA {iK iN iV iF iK' iN' iV' iF' : Nat → Int32} {D : Nat} (cf : sl_conf live iK iN iV iF D dn nas) (hL : L < D) (n6 : dn L < 6) (ap : sl_ap iK iN iV iF iK' iN' iV' iF' (L * 6 + dn L)) :
    sl_ans cnt K F S W Ow Pl Ct Cl Nu Ge Gl live iK' iN' iV' iF' (L + 1) (sl_dn dn L (dn L + 1)) (sl_dn nas L na') root (-1) ↔
      ∃ k t, k < 8 ∧ sl_poss cnt K F S W Ow Pl Ct Cl Nu Ge Gl live iK iN iV iF dn nas root L k ∧ sl_row cnt K F S W Ow Pl Ct Cl Nu Ge Gl iK' iN' iV' iF' L (dn L + 1) na' 0 k t := by
  have lo := (sl_app_low (cnt := cnt) (K := K) (F := F) (S := S) (W := W) (Ow := Ow) (Pl := Pl) (Ct := Ct) (Cl := Cl) (Nu := Nu) (Ge := Ge) (Gl := Gl) (root := root) (v := dn L + 1) (w := na') cf hL n6 ap).1 L (Nat.le_refl _)
  unfold sl_ans
  rw [show L + 1 - 1 = L by omega, sl_dn_s, sl_dn_s]
  constructor
  · rintro ⟨j, j8, _, hp, t, hw⟩
    exact ⟨j, t, j8, (lo j).1 hp, hw⟩
  · rintro ⟨j, t, j8, hp, hw⟩
    exact ⟨j, j8, sr_m1 j j8, (lo j).2 hp, t, hw⟩
/-- Y tries an attribute or a text -/
theorem sy_try (H : sc_Sch cnt dl a_kind a_first a_second a_width a_use P A Ow Pl Ct) (tb : sb_tab cnt a_kind a_first a_second a_width P Ow Pl Un Cl Nu Ge Gl Gd live)
    (lv : sb_liv cnt a_kind a_first a_second Ow Ct Un live) (hm : f_made = nI cnt) (hD : f_depth = nI (L + 1)) (hr : f_rootDefinition = nI root) (r8 : root < 8)
    (cf : sl_conf live a_itemKind a_itemName a_itemValue a_itemFit (L + 1) dn nas) (hit : ∀ l, l < L + 1 → a_items l = nI (sl_it (L + 1) dn l)) (n6 : dn L < 6) {v x2 x3 keep : Int32} (v0 : ¬ v = 0)
    (cf' : sl_conf live (upd a_itemKind (L * 6 + dn L) v) (upd a_itemName (L * 6 + dn L) x2) (upd a_itemValue (L * 6 + dn L) x3) a_itemFit (L + 1) (sl_dn dn L (dn L + 1)) (sl_dn nas L na'))
    (full : nI (dn L) < f_itemLimit) {post : Int32 → SY → Prop}
    (h1 : sl_ans cnt a_kind a_first a_second a_width Ow Pl Ct Cl Nu Ge Gl live (upd a_itemKind (L * 6 + dn L) v) (upd a_itemName (L * 6 + dn L) x2) (upd a_itemValue (L * 6 + dn L) x3) a_itemFit (L + 1) (sl_dn dn L (dn L + 1)) (sl_dn nas L na') root (-1) →
      ¬ keep = 0 → ∀ M G : Nat → Int32, post 0 (f_cellLimit, f_definitionLimit, f_depthLimit, f_itemLimit, f_made, f_state, f_depth, f_rootDefinition, a_kind, a_first, a_second, a_width, a_use, upd a_items L (nI (dn L + 1)), upd a_itemKind (L * 6 + dn L) v, upd a_itemName (L * 6 + dn L) x2, upd a_itemValue (L * 6 + dn L) x3, a_itemFit, M, G))
    (h2 : ∀ r : Int32, (¬ r = 0 ↔ sl_ans cnt a_kind a_first a_second a_width Ow Pl Ct Cl Nu Ge Gl live (upd a_itemKind (L * 6 + dn L) v) (upd a_itemName (L * 6 + dn L) x2) (upd a_itemValue (L * 6 + dn L) x3) a_itemFit (L + 1) (sl_dn dn L (dn L + 1)) (sl_dn nas L na') root (-1)) →
      (¬ r = 0 → keep = 0) → ∀ M G : Nat → Int32, post (if r = 0 then -8 else 0) (f_cellLimit, f_definitionLimit, f_depthLimit, f_itemLimit, f_made, f_state, nI (L + 1), f_rootDefinition, a_kind, a_first, a_second, a_width, a_use, upd (upd a_items L (nI (dn L + 1))) L (nI (dn L)), upd a_itemKind (L * 6 + dn L) v, upd a_itemName (L * 6 + dn L) x2, upd a_itemValue (L * 6 + dn L) x3, a_itemFit, M, G)) :
    wY_attempt_139 post v x2 x3 keep (nI L) (nI (dn L)) (nI (L * 6 + dn L)) f_cellLimit f_definitionLimit f_depthLimit f_itemLimit f_made f_state f_depth f_rootDefinition a_kind a_first a_second a_width a_use a_items a_itemKind a_itemName a_itemValue a_itemFit a_matches a_grows := by
  have L5 : L < 5 := by have := cf.2.1; omega
  have ea : (nI (L * 6 + dn L)).toNatClampNeg = L * 6 + dn L := sx_cl 30 (by omega)
  have va : vp_in (nI (L * 6 + dn L)) 30 := vp_in_nI (by omega) (by decide)
  have eL : (nI L).toNatClampNeg = L := sx_cl 5 L5
  have vL : vp_in (nI L) 5 := vp_in_nI L5 (by decide)
  unfold wY_attempt_139
  refine br_t full (And.intro va (nm_r (e' := upd a_itemKind (L * 6 + dn L) v) (by rw [ea]) (And.intro va (nm_r (e' := upd a_itemName (L * 6 + dn L) x2) (by rw [ea]) (And.intro va (nm_r (e' := upd a_itemValue (L * 6 + dn L) x3) (by rw [ea]) (And.intro vL (nm_r (e' := upd a_items L (nI (dn L + 1))) (by rw [eL, nI_1]) (br_f v0 ?_)))))))))
  unfold wY_attempt_210
  have hit' : ∀ l, l < L + 1 → upd a_items L (nI (dn L + 1)) l = nI (sl_it (L + 1) (sl_dn dn L (dn L + 1)) l) := by
    intro l hl
    by_cases e : l = L
    · subst e
      rw [pk_us]; unfold sl_it; rw [if_neg (by omega), sl_dn_s]
    · rw [pk_un e, hit l hl]; unfold sl_it; rw [if_pos (by omega), if_pos (by omega), sl_dn_n e]
  have back : ∀ r : Int32, (¬ r = 0 ↔ sl_ans cnt a_kind a_first a_second a_width Ow Pl Ct Cl Nu Ge Gl live (upd a_itemKind (L * 6 + dn L) v) (upd a_itemName (L * 6 + dn L) x2) (upd a_itemValue (L * 6 + dn L) x3) a_itemFit (L + 1) (sl_dn dn L (dn L + 1)) (sl_dn nas L na') root (-1)) →
      (¬ r = 0 → keep = 0) → ∀ M G : Nat → Int32,
      wY_attempt_227 post (nI L) (nI (dn L)) r f_cellLimit f_definitionLimit f_depthLimit f_itemLimit f_made f_state f_depth f_rootDefinition a_kind a_first a_second a_width a_use (upd a_items L (nI (dn L + 1))) (upd a_itemKind (L * 6 + dn L) v) (upd a_itemName (L * 6 + dn L) x2) (upd a_itemValue (L * 6 + dn L) x3) a_itemFit M G := by
    intro r hr' hk M G
    have q := h2 r hr' hk M G
    unfold wY_attempt_227 wY_attempt_244
    refine nm_r (nI_1 L) (And.intro vL (nm_r (e' := upd (upd a_items L (nI (dn L + 1))) L (nI (dn L))) (by rw [eL]) (br_c (fun z => ?_) (fun z => ?_))))
    · rw [if_pos z] at q; exact q
    · rw [if_neg z] at q; exact q
  refine sr_hope H tb lv hm hD hr r8 cf' hit' (fun an M G => ?_) (fun an M G => ?_)
  · refine br_f (by decide) (br_c (fun z => back 1 (sy_11 an) (fun _ => z) M G) (fun z => ?_))
    unfold wY_attempt_244
    exact br_f (by decide) (h1 an z M G)
  · exact br_t rfl (back 0 (sy_00 an) (fun z => absurd rfl z) M G)
end
end
section
/-! attribute and text -/
section
variable {cnt dl : Nat} {K F S W U P A Ow Pl Ct : Nat → Int32} {col Un Cl Nu Ge Gl Gd : Nat → Int64} {live : Int32}
variable {iK iN iV iF iK' iN' iV' iF' : Nat → Int32} {D root L na' : Nat} {dn nas : Nat → Nat}
/-- the document with one item more -/
theorem sr_app_dy {dpl itl : Nat} {dep dep' rtD : Int32} {xit nam lat yit xit' lat' yit' : Nat → Int32} {rs rs' : Nat → Int64}
    (h : sr_dy cnt K F S W Ow Pl Ct Cl Nu Ge Gl live dpl itl dep xit nam lat rs rtD yit iK iN iV iF D root dn nas) (hL : L < D) (n6 : dn L < 6) (ap : sl_ap iK iN iV iF iK' iN' iV' iF' (L * 6 + dn L))
    (cf' : sl_conf live iK' iN' iV' iF' (L + 1) (sl_dn dn L (dn L + 1)) (sl_dn nas L na')) (hd : dep' = nI (L + 1))
    (hx : ∀ l, l < L + 1 → xit' l = nI (sl_it (L + 1) (sl_dn dn L (dn L + 1)) l) ∧ yit' l = nI (sl_it (L + 1) (sl_dn dn L (dn L + 1)) l)) (itl1 : dn L + 1 ≤ itl)
    (hl : ∀ l, l < L → lat' l = lat l) (hl' : lat' L = 0 ↔ na' = dn L + 1)
    (hs : ∀ k t, k < 8 → sd_S6 t → (sd_lb (rs' (L * 8 + k)) t ↔ sl_poss cnt K F S W Ow Pl Ct Cl Nu Ge Gl live iK iN iV iF dn nas root L k ∧ sl_row cnt K F S W Ow Pl Ct Cl Nu Ge Gl iK' iN' iV' iF' L (dn L + 1) na' 0 k t))
    (hs' : ∀ l k, l < L → k < 8 → rs' (l * 8 + k) = rs (l * 8 + k))
    (ans : sl_ans cnt K F S W Ow Pl Ct Cl Nu Ge Gl live iK' iN' iV' iF' (L + 1) (sl_dn dn L (dn L + 1)) (sl_dn nas L na') root (-1)) :
    sr_dy cnt K F S W Ow Pl Ct Cl Nu Ge Gl live dpl itl dep' xit' nam lat' rs' rtD yit' iK' iN' iV' iF' (L + 1) root (sl_dn dn L (dn L + 1)) (sl_dn nas L na') := by
  obtain ⟨a1, a2, a3, a4, cf, a6, a7, a8, a9, a10⟩ := h
  obtain ⟨lp, lr⟩ := sl_app_low (cnt := cnt) (K := K) (F := F) (S := S) (W := W) (Ow := Ow) (Pl := Pl) (Ct := Ct) (Cl := Cl) (Nu := Nu) (Ge := Ge) (Gl := Gl) (root := root) (v := dn L + 1) (w := na') cf hL n6 ap
  have itn : ∀ l, l < L → sl_it (L + 1) (sl_dn dn L (dn L + 1)) l = sl_it D dn l := fun l hl => by
    unfold sl_it; rw [if_pos (by omega), if_pos (by omega), sl_dn_n (by omega)]
  have itL : sl_it (L + 1) (sl_dn dn L (dn L + 1)) L = dn L + 1 := by unfold sl_it; rw [if_neg (by omega), sl_dn_s]
  have lev5 : ∀ l, l + 1 < D → dn l < 6 := fun l hl => by
    have := (cf.2.2.1 l (by omega)).1
    unfold sl_it at this
    rw [if_pos hl] at this; omega
  refine ⟨hd, a2, a3, by omega, cf', fun l hl => ?_, fun l hm => ?_, fun l hl => ?_, fun l k hl hk s s6 => ?_, ans⟩
  · refine ⟨(hx l hl).1, (hx l hl).2, ?_⟩
    by_cases e : l = L
    · rw [e, itL]; exact itl1
    · rw [itn l (by omega)]; exact (a6 l (by omega)).2.2
  · by_cases e : l = L
    · subst e
      rw [itL, sl_dn_s]; exact hl'
    · rw [itn l (by omega), sl_dn_n e, hl l (by omega)]; exact a7 l (by omega)
  · have e : l ≠ L := by omega
    rw [sl_dn_n e, a8 l (by omega)]
    have := lev5 l (by omega)
    exact (ap _ (by omega)).2.1.symm
  · by_cases e : l = L
    · subst e
      rw [hs k s hk s6, lp l (Nat.le_refl _) k, sl_dn_s, sl_dn_s]
    · rw [hs' l k (by omega) hk, a9 l k (by omega) hk s s6, lp l (by omega) k, lr l (by omega) k s]
end
section
variable {f_cellLimit f_definitionLimit f_depthLimit f_itemLimit f_cellCount f_definedCount f_live f_state f_depth : Int32}
variable {a_kinds a_firsts a_seconds a_widths a_uses a_parents a_attributed a_owners a_places a_contents a_items a_names a_late : Nat → Int32} {a_columns a_unused a_childless a_nullable a_growEarly a_growLate a_guards a_residuals a_next : Nat → Int64}
variable {f_rootDefinition : Int32} {b_items a_itemKind a_itemName a_itemValue a_itemFit a_matches a_grows : Nat → Int32}
variable {lim cnt dl dpl itl L root : Nat} {dn nas : Nat → Nat}
/-- what X's and Y's judgement of an attribute or a text share: the answer r -/
theorem sr_item (st : sr_St f_cellLimit f_definitionLimit f_depthLimit f_itemLimit f_cellCount f_definedCount f_live a_kinds a_firsts a_seconds a_widths a_uses a_parents a_attributed a_owners a_places a_contents a_columns a_unused a_childless a_nullable a_growEarly a_growLate a_guards lim cnt dl dpl itl) (dy : sr_dy cnt a_kinds a_firsts a_seconds a_widths a_owners a_places a_contents a_childless a_nullable a_growEarly a_growLate f_live dpl itl f_depth a_items a_names a_late a_residuals f_rootDefinition b_items a_itemKind a_itemName a_itemValue a_itemFit (L + 1) root dn nas)
    {v kind x2 x3 name extra : Int32} (hv : (v = 1 ∧ kind = 2 ∧ name = x2 ∧ extra = x3 ∧ nas L = dn L) ∨ (v = 2 ∧ kind = 1)) (full : dn L < itl) :
    ∃ r : Int32, (r = 0 ∨ r = -8) ∧ ∃ na', (v = 1 → na' = dn L + 1) ∧ (v = 2 → na' = nas L) ∧
      (r = 0 → sl_ap a_itemKind a_itemName a_itemValue a_itemFit (upd a_itemKind (L * 6 + dn L) v) (upd a_itemName (L * 6 + dn L) x2) (upd a_itemValue (L * 6 + dn L) x3) a_itemFit (L * 6 + dn L) ∧
        sl_conf f_live (upd a_itemKind (L * 6 + dn L) v) (upd a_itemName (L * 6 + dn L) x2) (upd a_itemValue (L * 6 + dn L) x3) a_itemFit (L + 1) (sl_dn dn L (dn L + 1)) (sl_dn nas L na') ∧
        sl_ans cnt a_kinds a_firsts a_seconds a_widths a_owners a_places a_contents a_childless a_nullable a_growEarly a_growLate f_live (upd a_itemKind (L * 6 + dn L) v) (upd a_itemName (L * 6 + dn L) x2) (upd a_itemValue (L * 6 + dn L) x3) a_itemFit (L + 1) (sl_dn dn L (dn L + 1)) (sl_dn nas L na') root (-1)) ∧
      (∀ post : Int32 → SX → Prop, (∀ nx : Nat → Int64, (r = 0 → ∀ k t, k < 8 → sd_S6 t → (sd_lb (nx k) t ↔ sl_poss cnt a_kinds a_firsts a_seconds a_widths a_owners a_places a_contents a_childless a_nullable a_growEarly a_growLate f_live a_itemKind a_itemName a_itemValue a_itemFit dn nas root L k ∧
          sl_row cnt a_kinds a_firsts a_seconds a_widths a_owners a_places a_contents a_childless a_nullable a_growEarly a_growLate (upd a_itemKind (L * 6 + dn L) v) (upd a_itemName (L * 6 + dn L) x2) (upd a_itemValue (L * 6 + dn L) x3) a_itemFit L (dn L + 1) na' 0 k t)) → post r (f_cellLimit, f_definitionLimit, f_depthLimit, f_itemLimit, f_cellCount, f_definedCount, f_live, f_state, f_depth, a_kinds, a_firsts, a_seconds, a_widths, a_uses, a_parents, a_attributed, a_owners, a_places, a_contents, a_columns, a_unused, a_childless, a_nullable, a_growEarly, a_growLate, a_guards, a_items, a_names, a_late, a_residuals, nx)) → wpX_step post (f_cellLimit, f_definitionLimit, f_depthLimit, f_itemLimit, f_cellCount, f_definedCount, f_live, f_state, f_depth, a_kinds, a_firsts, a_seconds, a_widths, a_uses, a_parents, a_attributed, a_owners, a_places, a_contents, a_columns, a_unused, a_childless, a_nullable, a_growEarly, a_growLate, a_guards, a_items, a_names, a_late, a_residuals, a_next) (nI L) kind name extra) ∧
      (∀ (post : Int32 → SY → Prop) (keep : Int32),
        (r = 0 → ¬ keep = 0 → ∀ M G : Nat → Int32, post 0 (f_cellLimit, f_definitionLimit, f_depthLimit, f_itemLimit, f_cellCount, f_state, f_depth, f_rootDefinition, a_kinds, a_firsts, a_seconds, a_widths, a_uses, upd b_items L (nI (dn L + 1)), upd a_itemKind (L * 6 + dn L) v, upd a_itemName (L * 6 + dn L) x2, upd a_itemValue (L * 6 + dn L) x3, a_itemFit, M, G)) →
        ((r = 0 → keep = 0) → ∀ M G : Nat → Int32, post r (f_cellLimit, f_definitionLimit, f_depthLimit, f_itemLimit, f_cellCount, f_state, nI (L + 1), f_rootDefinition, a_kinds, a_firsts, a_seconds, a_widths, a_uses, upd (upd b_items L (nI (dn L + 1))) L (nI (dn L)), upd a_itemKind (L * 6 + dn L) v, upd a_itemName (L * 6 + dn L) x2, upd a_itemValue (L * 6 + dn L) x3, a_itemFit, M, G)) →
        wY_attempt_139 post v x2 x3 keep (nI L) (nI (dn L)) (nI (L * 6 + dn L)) f_cellLimit f_definitionLimit f_depthLimit f_itemLimit f_cellCount f_state f_depth f_rootDefinition a_kinds a_firsts a_seconds a_widths a_uses b_items a_itemKind a_itemName a_itemValue a_itemFit a_matches a_grows) := by
  obtain ⟨_, _, _, ⟨hil, il6⟩, hn, _, H, tb, lv, hcol⟩ := st
  obtain ⟨hD, hr, ⟨r8, _⟩, Dd, cf, hit, _, _, hrow, _⟩ := dy
  have n6 : dn L < 6 := by omega
  have L5 : L < 5 := by have := cf.2.1; omega
  have v0 : ¬ v = 0 := by
    rcases hv with h | h
    · rw [h.1]; decide
    · rw [h.1]; decide
  have v3 : ¬ v = 3 := by
    rcases hv with h | h
    · rw [h.1]; decide
    · rw [h.1]; decide
  have hna := (cf.2.2.1 L (by omega)).2.1
  have ap : sl_ap a_itemKind a_itemName a_itemValue a_itemFit (upd a_itemKind (L * 6 + dn L) v) (upd a_itemName (L * 6 + dn L) x2) (upd a_itemValue (L * 6 + dn L) x3) a_itemFit (L * 6 + dn L) := fun b hb => ⟨pk_un hb, pk_un hb, pk_un hb, rfl⟩
  have ex : ∃ na', (v = 1 → na' = dn L + 1 ∧ nas L = dn L) ∧ (¬ v = 1 → na' = nas L) ∧ (kind = 2 ↔ na' = dn L + 1) := by
    rcases hv with h | h
    · exact ⟨dn L + 1, fun _ => ⟨rfl, h.2.2.2.2⟩, fun z => absurd h.1 z, ⟨fun _ => rfl, fun _ => h.2.1⟩⟩
    · refine ⟨nas L, fun z => ?_, fun _ => rfl, fun z => ?_, fun z => ?_⟩
      · rw [h.1] at z; exact absurd z (by decide)
      · rw [h.2] at z; exact absurd z (by decide)
      · have := hna.1; omega
  obtain ⟨na', n1, n2, n3⟩ := ex
  have cf' : sl_conf f_live (upd a_itemKind (L * 6 + dn L) v) (upd a_itemName (L * 6 + dn L) x2) (upd a_itemValue (L * 6 + dn L) x3) a_itemFit (L + 1) (sl_dn dn L (dn L + 1)) (sl_dn nas L na') :=
    sl_app_conf cf (by omega) n6 ap (by rw [pk_us]; exact v0) (fun z => by rw [pk_us] at z; exact absurd z v3) (fun z => by rw [pk_us] at z; exact ⟨(n1 z).2, (n1 z).1⟩) (fun z => by rw [pk_us] at z; exact n2 z)
  have kk : kind = 1 ∨ kind = 2 ∨ kind = 3 := hv.elim (fun h => Or.inr (Or.inl h.2.1)) (fun h => Or.inl h.2)
  -- the leaves that take the item
  have hT : ∀ k r s t, k < 8 → sl_poss cnt a_kinds a_firsts a_seconds a_widths a_owners a_places a_contents a_childless a_nullable a_growEarly a_growLate f_live a_itemKind a_itemName a_itemValue a_itemFit dn nas root L k → r < cnt → a_contents k = nI r → sl_row cnt a_kinds a_firsts a_seconds a_widths a_owners a_places a_contents a_childless a_nullable a_growEarly a_growLate a_itemKind a_itemName a_itemValue a_itemFit L (dn L) (nas L) 0 k s → sl_gr a_growEarly a_growLate (na' = dn L + 1) r t →
      (sl_A cnt a_kinds a_firsts a_seconds a_widths a_owners a_places a_childless a_nullable k (sx_tk a_kinds a_firsts a_seconds kind name extra) (decide (¬ kind = 2)) r s t ↔ sl_A cnt a_kinds a_firsts a_seconds a_widths a_owners a_places a_childless a_nullable k (fun c => sl_T a_kinds a_firsts a_seconds (upd a_itemKind (L * 6 + dn L) v) (upd a_itemName (L * 6 + dn L) x2) (upd a_itemValue (L * 6 + dn L) x3) a_itemFit L (dn L + 1) 0 c (dn L)) (sl_kid na' (dn L)) r s t) := by
    intro k r s t _ _ _ _ _ _
    have ek : sl_kid na' (dn L) = decide (¬ kind = 2) := by
      unfold sl_kid
      rw [decide_eq_decide, n3]
      rcases hv with h | h
      · have := n1 h.1; omega
      · have := n2 (by rw [h.1]; decide); have := hna.1; omega
    rw [ek]
    refine sl_A_cg (fun c hc _ _ => ?_)
    have hK := (H.2.1 c hc).1
    unfold sl_T sx_tk
    rw [pk_us, pk_us, pk_us]
    rcases hv with ⟨h1, h2, h3, h4, _⟩ | ⟨h1, h2⟩
    · rw [h1, h2, h3, h4]
      have kq : a_kinds c = 2 ↔ sd_n a_kinds c = 2 := by
        rw [hK.1]
        rw [sd_n_of (a := a_kinds) hK.1 (by omega)]
        exact nI_eq (b := 2) (by omega) (by decide)
      constructor
      · rintro ⟨a, b⟩
        refine ⟨by omega, Or.inl ⟨rfl, kq.1 a, ?_⟩⟩
        rcases b with b | ⟨_, b1, b2⟩
        · exact absurd b (by decide)
        · exact ⟨b1, b2.elim (fun z => z.2) (fun z => absurd rfl z.1)⟩
      · rintro ⟨_, q | q | q | q⟩
        · exact ⟨kq.2 q.2.1, Or.inr ⟨by decide, q.2.2.1, Or.inl ⟨rfl, q.2.2.2⟩⟩⟩
        · exact absurd q.1 (by decide)
        · exact absurd q.1 (by decide)
        · exact absurd q.1 (by decide)
    · rw [h1, h2]
      have kq : a_kinds c = 1 ↔ sd_n a_kinds c = 1 := by
        rw [hK.1]
        rw [sd_n_of (a := a_kinds) hK.1 (by omega)]
        exact nI_eq (b := 1) (by omega) (by decide)
      constructor
      · rintro ⟨a, _⟩
        exact ⟨by omega, Or.inr (Or.inl ⟨rfl, kq.1 a⟩)⟩
      · rintro ⟨_, q | q | q | q⟩
        · exact absurd q.1 (by decide)
        · exact ⟨kq.2 q.2, Or.inl rfl⟩
        · exact absurd q.1 (by decide)
        · exact absurd q.1 (by decide)
  have an := sl_ansA (cnt := cnt) (K := a_kinds) (F := a_firsts) (S := a_seconds) (W := a_widths) (Ow := a_owners) (Pl := a_places) (Ct := a_contents) (Cl := a_childless) (Nu := a_nullable) (Ge := a_growEarly) (Gl := a_growLate) (root := root) (na' := na') cf (by omega) n6 ap
  have full' : nI (dn L) < f_itemLimit := by rw [hil]; exact nI_lt full (by omega)
  have v12 : (upd a_itemKind (L * 6 + dn L) v) (L * 6 + dn L) = 1 → nas L = dn L ∧ na' = dn L + 1 := fun z => by rw [pk_us] at z; exact ⟨(n1 z).2, (n1 z).1⟩
  have v13 : ¬ (upd a_itemKind (L * 6 + dn L) v) (L * 6 + dn L) = 1 → na' = nas L := fun z => by rw [pk_us] at z; exact n2 z
  by_cases hA : sl_ans cnt a_kinds a_firsts a_seconds a_widths a_owners a_places a_contents a_childless a_nullable a_growEarly a_growLate f_live (upd a_itemKind (L * 6 + dn L) v) (upd a_itemName (L * 6 + dn L) x2) (upd a_itemValue (L * 6 + dn L) x3) a_itemFit (L + 1) (sl_dn dn L (dn L + 1)) (sl_dn nas L na') root (-1)
  · refine ⟨0, Or.inl rfl, na', fun z => (n1 z).1, fun z => n2 (by rw [z]; decide), fun _ => ⟨ap, cf', hA⟩, fun post h => ?_, fun post keep h1 h2 => ?_⟩
    · exact sr_stepX H tb hcol cf (by omega) n6 (fun k hk => hrow L k (by omega) hk) ap cf' v12 v13 kk n3 hT (fun nx hx _ => h nx (fun _ => hx)) (fun nx q => absurd (an.1 hA) q)
    · refine sy_try H tb lv hn hD hr r8 cf (fun l hl => (hit l hl).2.1) n6 v0 cf' full' (fun _ z M G => h1 rfl z M G) (fun r hr' hk M G => ?_)
      have q := hr'.2 hA
      rw [if_neg q]
      exact h2 (fun _ => hk q) M G
  · refine ⟨-8, Or.inr rfl, na', fun z => (n1 z).1, fun z => n2 (by rw [z]; decide), fun z => absurd z (by decide), fun post h => ?_, fun post keep h1 h2 => ?_⟩
    · exact sr_stepX H tb hcol cf (by omega) n6 (fun k hk => hrow L k (by omega) hk) ap cf' v12 v13 kk n3 hT (fun nx _ q => absurd (an.2 q) hA) (fun nx _ => h nx (fun z => absurd z (by decide)))
    · refine sy_try H tb lv hn hD hr r8 cf (fun l hl => (hit l hl).2.1) n6 v0 cf' full' (fun q => absurd q hA) (fun r hr' hk M G => ?_)
      have q : r = 0 := Classical.byContradiction (fun z => hA (hr'.1 z))
      rw [if_pos q]
      exact h2 (fun z => absurd z (by decide)) M G
end
end
section
/-! start -/
theorem sr_sh8 : ∀ j, j < 8 → ∀ i, i < 8 → (¬ (((1 : Int32) <<< (nI j &&& 31)) >>> (nI i &&& 31)) &&& 1 = 0 ↔ i = j) := by decide +kernel
section
variable {cnt dl : Nat} {K F S W U P A Ow Pl Ct : Nat → Int32} {col Un Cl Nu Ge Gl Gd : Nat → Int64} {live : Int32}
variable {k r : Nat} {s t : Nat → Bool}
/-- a step stays among the six leaves -/
theorem sl_A_6 (H : sc_Sch cnt dl K F S W U P A Ow Pl Ct) (tb : sb_tab cnt K F S W P Ow Pl Un Cl Nu Ge Gl Gd live) (hk : k < 8) {TT : Nat → Prop} (hT : ∀ c, TT c → sd_n K c = 3) (hr : Ct k = nI r) (hr' : r < cnt) (h : sl_A cnt K F S W Ow Pl Cl Nu k TT true r s t) (s6 : sd_S6 s) : sd_S6 t := by
  have h24 := H.1.1
  obtain ⟨o, l6⟩ := sb_wr H hk hr (by omega)
  have E := sb_env (k := k) (T := fun c _ => TT c) (kid := fun _ => true) H tb hk (fun c e _ z => by have := hT c z; exact ⟨Or.inr (Or.inr this), fun _ => by omega, fun _ => rfl⟩)
  intro i hi
  rw [sd_avOut E r o 0 s t h i (by omega)]
  exact s6 i hi
theorem sl_tkS (H : sc_Sch cnt dl K F S W U P A Ow Pl Ct) {name : Int32} {j c : Nat} (hj : j < 8) (hc : c < cnt) : sx_tk K F S 3 name ((1 : Int32) <<< (nI j &&& 31)) c ↔ sl_TS K F S name j c := by
  have hK := (H.2.1 c hc).1
  have h3 := (H.2.1 c hc).2.2.2.2.2.2.1
  have kq : K c = 3 ↔ sd_n K c = 3 := by
    rw [hK.1, sd_n_of (a := K) hK.1 (by omega)]
    exact nI_eq (b := 3) (by omega) (by decide)
  unfold sx_tk sl_TS
  constructor
  · rintro ⟨a, b | ⟨_, b1, b2⟩⟩
    · exact absurd b (by decide)
    · have k3 := kq.1 a
      obtain ⟨e, l⟩ := h3 k3
      refine ⟨k3, b1, ?_⟩
      rcases b2 with b2 | b2
      · exact absurd b2.1 (by decide)
      · have := b2.2
        rw [e] at this
        exact (sr_sh8 j hj _ l).1 this
  · rintro ⟨k3, b1, b2⟩
    obtain ⟨e, l⟩ := h3 k3
    refine ⟨kq.2 k3, Or.inr ⟨by decide, b1, Or.inr ⟨by decide, ?_⟩⟩⟩
    rw [e]
    exact (sr_sh8 j hj _ l).2 b2
end
section
variable {f_cellLimit f_definitionLimit f_depthLimit f_itemLimit f_cellCount f_definedCount f_live f_state f_depth : Int32}
variable {a_kinds a_firsts a_seconds a_widths a_uses a_parents a_attributed a_owners a_places a_contents a_items a_names a_late : Nat → Int32} {a_columns a_unused a_childless a_nullable a_growEarly a_growLate a_guards a_residuals a_next : Nat → Int64}
variable {f_rootDefinition : Int32} {b_items a_itemKind a_itemName a_itemValue a_itemFit a_matches a_grows : Nat → Int32}
variable {lim cnt dl dpl itl L root : Nat} {dn nas : Nat → Nat}
/-- start's judgement on both sides -/
theorem sr_start (st : sr_St f_cellLimit f_definitionLimit f_depthLimit f_itemLimit f_cellCount f_definedCount f_live a_kinds a_firsts a_seconds a_widths a_uses a_parents a_attributed a_owners a_places a_contents a_columns a_unused a_childless a_nullable a_growEarly a_growLate a_guards lim cnt dl dpl itl) (dy : sr_dy cnt a_kinds a_firsts a_seconds a_widths a_owners a_places a_contents a_childless a_nullable a_growEarly a_growLate f_live dpl itl f_depth a_items a_names a_late a_residuals f_rootDefinition b_items a_itemKind a_itemName a_itemValue a_itemFit (L + 1) root dn nas)
    {x2 x3 : Int32} (full : dn L < itl) (deep : L + 1 < dpl) :
    ∃ r : Int32, (r = 0 ∨ r = -8) ∧
      sl_conf f_live (upd a_itemKind (L * 6 + dn L) 0) (upd a_itemName (L * 6 + dn L) x2) (upd a_itemValue (L * 6 + dn L) x3) a_itemFit (L + 2) (sl_dn dn (L + 1) 0) (sl_dn nas (L + 1) 0) ∧
      (∀ m, m ≤ L → ∀ k, sl_poss cnt a_kinds a_firsts a_seconds a_widths a_owners a_places a_contents a_childless a_nullable a_growEarly a_growLate f_live (upd a_itemKind (L * 6 + dn L) 0) (upd a_itemName (L * 6 + dn L) x2) (upd a_itemValue (L * 6 + dn L) x3) a_itemFit (sl_dn dn (L + 1) 0) (sl_dn nas (L + 1) 0) root m k ↔ sl_poss cnt a_kinds a_firsts a_seconds a_widths a_owners a_places a_contents a_childless a_nullable a_growEarly a_growLate f_live a_itemKind a_itemName a_itemValue a_itemFit dn nas root m k) ∧
      (∀ l, l ≤ L → ∀ k s, sl_row cnt a_kinds a_firsts a_seconds a_widths a_owners a_places a_contents a_childless a_nullable a_growEarly a_growLate (upd a_itemKind (L * 6 + dn L) 0) (upd a_itemName (L * 6 + dn L) x2) (upd a_itemValue (L * 6 + dn L) x3) a_itemFit l (sl_dn dn (L + 1) 0 l) (sl_dn nas (L + 1) 0 l) 0 k s ↔ sl_row cnt a_kinds a_firsts a_seconds a_widths a_owners a_places a_contents a_childless a_nullable a_growEarly a_growLate a_itemKind a_itemName a_itemValue a_itemFit l (dn l) (nas l) 0 k s) ∧
      (∀ j s, j < 8 → sd_S6 s → bt f_live j = true → (sl_row cnt a_kinds a_firsts a_seconds a_widths a_owners a_places a_contents a_childless a_nullable a_growEarly a_growLate (upd a_itemKind (L * 6 + dn L) 0) (upd a_itemName (L * 6 + dn L) x2) (upd a_itemValue (L * 6 + dn L) x3) a_itemFit (L + 1) 0 0 0 j s ↔ s = sd_e)) ∧
      (r = 0 → sl_ans cnt a_kinds a_firsts a_seconds a_widths a_owners a_places a_contents a_childless a_nullable a_growEarly a_growLate f_live (upd a_itemKind (L * 6 + dn L) 0) (upd a_itemName (L * 6 + dn L) x2) (upd a_itemValue (L * 6 + dn L) x3) a_itemFit (L + 2) (sl_dn dn (L + 1) 0) (sl_dn nas (L + 1) 0) root (-1)) ∧
      (∀ post : Int32 → SX → Prop, (∀ nx : Nat → Int64, (r = 0 → ∀ j, j < 8 →
          (sl_poss cnt a_kinds a_firsts a_seconds a_widths a_owners a_places a_contents a_childless a_nullable a_growEarly a_growLate f_live (upd a_itemKind (L * 6 + dn L) 0) (upd a_itemName (L * 6 + dn L) x2) (upd a_itemValue (L * 6 + dn L) x3) a_itemFit (sl_dn dn (L + 1) 0) (sl_dn nas (L + 1) 0) root (L + 1) j → nx j = 1) ∧
          (¬ sl_poss cnt a_kinds a_firsts a_seconds a_widths a_owners a_places a_contents a_childless a_nullable a_growEarly a_growLate f_live (upd a_itemKind (L * 6 + dn L) 0) (upd a_itemName (L * 6 + dn L) x2) (upd a_itemValue (L * 6 + dn L) x3) a_itemFit (sl_dn dn (L + 1) 0) (sl_dn nas (L + 1) 0) root (L + 1) j → nx j = 0)) → post r (f_cellLimit, f_definitionLimit, f_depthLimit, f_itemLimit, f_cellCount, f_definedCount, f_live, f_state, f_depth, a_kinds, a_firsts, a_seconds, a_widths, a_uses, a_parents, a_attributed, a_owners, a_places, a_contents, a_columns, a_unused, a_childless, a_nullable, a_growEarly, a_growLate, a_guards, a_items, a_names, a_late, a_residuals, nx)) →
        ∃ n47 : Nat, wX_judgeStart_47 post x2 f_cellLimit f_definitionLimit f_depthLimit f_itemLimit f_cellCount f_definedCount f_live f_state f_depth n47 0 a_kinds a_firsts a_seconds a_widths a_uses a_parents a_attributed a_owners a_places a_contents a_columns a_unused a_childless a_nullable a_growEarly a_growLate a_guards a_items a_names a_late a_residuals a_next) ∧
      (∀ (post : Int32 → SY → Prop) (keep : Int32),
        (r = 0 → ¬ keep = 0 → ∀ M G : Nat → Int32, post 0 (f_cellLimit, f_definitionLimit, f_depthLimit, f_itemLimit, f_cellCount, f_state, nI (L + 2), f_rootDefinition, a_kinds, a_firsts, a_seconds, a_widths, a_uses, upd (upd b_items L (nI (dn L + 1))) (L + 1) 0, upd a_itemKind (L * 6 + dn L) 0, upd a_itemName (L * 6 + dn L) x2, upd a_itemValue (L * 6 + dn L) x3, a_itemFit, M, G)) →
        ((r = 0 → keep = 0) → ∀ M G : Nat → Int32, post r (f_cellLimit, f_definitionLimit, f_depthLimit, f_itemLimit, f_cellCount, f_state, nI (L + 1), f_rootDefinition, a_kinds, a_firsts, a_seconds, a_widths, a_uses, upd (upd (upd b_items L (nI (dn L + 1))) (L + 1) 0) L (nI (dn L)), upd a_itemKind (L * 6 + dn L) 0, upd a_itemName (L * 6 + dn L) x2, upd a_itemValue (L * 6 + dn L) x3, a_itemFit, M, G)) →
        wY_attempt_139 post 0 x2 x3 keep (nI L) (nI (dn L)) (nI (L * 6 + dn L)) f_cellLimit f_definitionLimit f_depthLimit f_itemLimit f_cellCount f_state f_depth f_rootDefinition a_kinds a_firsts a_seconds a_widths a_uses b_items a_itemKind a_itemName a_itemValue a_itemFit a_matches a_grows) := by
  obtain ⟨_, _, ⟨_, _, dp5⟩, ⟨hil, il6⟩, hn, _, H, tb, lv, hcol⟩ := st
  obtain ⟨hD, hr, ⟨r8, _⟩, Dd, cf, hit, _, _, hrow, _⟩ := dy
  have h24 := H.1.1
  have n6 : dn L < 6 := by omega
  obtain ⟨D1, D5, c1, c2⟩ := id cf
  have lev5 : ∀ l, l + 1 < L + 1 → dn l < 6 := fun l hl => by
    have := (c1 l (by omega)).1
    unfold sl_it at this
    rw [if_pos hl] at this; omega
  have dl5 : ∀ l, l < L + 1 → dn l < 6 := fun l hl => by
    by_cases e : l = L
    · rw [e]; exact n6
    · exact lev5 l (by omega)
  have ap : sl_ap a_itemKind a_itemName a_itemValue a_itemFit (upd a_itemKind (L * 6 + dn L) 0) (upd a_itemName (L * 6 + dn L) x2) (upd a_itemValue (L * 6 + dn L) x3) a_itemFit (L * 6 + dn L) := fun b hb => ⟨pk_un hb, pk_un hb, pk_un hb, rfl⟩
  have nz : ∀ l, l < L + 1 → ∀ i, i < dn l → ¬ a_itemKind (l * 6 + i) = 0 := fun l hl i hi => ((c1 l hl).2.2 i hi).1
  have agi : ∀ l i, l < L + 1 → i < dn l → (upd a_itemKind (L * 6 + dn L) 0) (l * 6 + i) = a_itemKind (l * 6 + i) ∧ (upd a_itemName (L * 6 + dn L) x2) (l * 6 + i) = a_itemName (l * 6 + i) ∧ (upd a_itemValue (L * 6 + dn L) x3) (l * 6 + i) = a_itemValue (l * 6 + i) ∧ a_itemFit (l * 6 + i) = a_itemFit (l * 6 + i) :=
    fun l i hl hi => ap _ (by
      by_cases e : l = L
      · rw [e] at hi ⊢; omega
      · have := dl5 l hl; omega)
  have hposs : ∀ m, m ≤ L → ∀ k, sl_poss cnt a_kinds a_firsts a_seconds a_widths a_owners a_places a_contents a_childless a_nullable a_growEarly a_growLate f_live (upd a_itemKind (L * 6 + dn L) 0) (upd a_itemName (L * 6 + dn L) x2) (upd a_itemValue (L * 6 + dn L) x3) a_itemFit (sl_dn dn (L + 1) 0) (sl_dn nas (L + 1) 0) root m k ↔ sl_poss cnt a_kinds a_firsts a_seconds a_widths a_owners a_places a_contents a_childless a_nullable a_growEarly a_growLate f_live a_itemKind a_itemName a_itemValue a_itemFit dn nas root m k := fun m hm =>
    sl_poss_cg (fun l hl => ⟨sl_dn_n (by omega), sl_dn_n (by omega), fun i hi => agi l i (by omega) hi, nz l (by omega), (ap _ (by have := lev5 l (by omega); omega)).2.1⟩)
  have hrowc : ∀ l, l ≤ L → ∀ k s, sl_row cnt a_kinds a_firsts a_seconds a_widths a_owners a_places a_contents a_childless a_nullable a_growEarly a_growLate (upd a_itemKind (L * 6 + dn L) 0) (upd a_itemName (L * 6 + dn L) x2) (upd a_itemValue (L * 6 + dn L) x3) a_itemFit l (sl_dn dn (L + 1) 0 l) (sl_dn nas (L + 1) 0 l) 0 k s ↔ sl_row cnt a_kinds a_firsts a_seconds a_widths a_owners a_places a_contents a_childless a_nullable a_growEarly a_growLate a_itemKind a_itemName a_itemValue a_itemFit l (dn l) (nas l) 0 k s := fun l hl k s => by
    rw [sl_dn_n (by omega), sl_dn_n (by omega)]
    exact sl_row_cg (fun i hi => agi l i (by omega) hi) (nz l (by omega))
  have hfresh : ∀ j s, j < 8 → sd_S6 s → bt f_live j = true → (sl_row cnt a_kinds a_firsts a_seconds a_widths a_owners a_places a_contents a_childless a_nullable a_growEarly a_growLate (upd a_itemKind (L * 6 + dn L) 0) (upd a_itemName (L * 6 + dn L) x2) (upd a_itemValue (L * 6 + dn L) x3) a_itemFit (L + 1) 0 0 0 j s ↔ s = sd_e) := by
    intro j s hj s6 lj
    obtain ⟨_, r, r1, r2, rl⟩ := (sb_live H tb lv j).1 lj
    constructor
    · rintro ⟨_, _, _, h, _⟩; exact h
    · intro e
      refine ⟨r, r1, r2, e, fun _ => ?_, fun q => absurd rfl q⟩
      rw [e]; exact rl
  have cf' : sl_conf f_live (upd a_itemKind (L * 6 + dn L) 0) (upd a_itemName (L * 6 + dn L) x2) (upd a_itemValue (L * 6 + dn L) x3) a_itemFit (L + 2) (sl_dn dn (L + 1) 0) (sl_dn nas (L + 1) 0) := by
    refine ⟨by omega, by omega, fun l hl => ?_, fun l hl => ?_⟩
    · by_cases e : l = L + 1
      · subst e
        rw [sl_dn_s, sl_dn_s]
        have ei : sl_it (L + 2) (sl_dn dn (L + 1) 0) (L + 1) = 0 := by unfold sl_it; rw [if_neg (by omega), sl_dn_s]
        rw [ei]
        exact ⟨by omega, ⟨Nat.le_refl _, fun i hi => by omega⟩, fun i hi => by omega⟩
      · obtain ⟨h6, hna, hi⟩ := c1 l (by omega)
        rw [sl_dn_n e, sl_dn_n e]
        have ei : sl_it (L + 2) (sl_dn dn (L + 1) 0) l = dn l + 1 := by unfold sl_it; rw [if_pos (by omega), sl_dn_n e]
        rw [ei]
        have := dl5 l (by omega)
        refine ⟨by omega, ⟨hna.1, fun i hi' => by rw [(agi l i (by omega) hi').1]; exact hna.2 i hi'⟩, fun i hi' => ?_⟩
        obtain ⟨e1, _, _, e4⟩ := agi l i (by omega) hi'
        rw [e1]; exact hi i hi'
    · have e : l ≠ L + 1 := by omega
      rw [sl_dn_n e]
      by_cases q : l = L
      · rw [q, pk_us]
      · rw [(ap _ (by have := lev5 l (by omega); omega)).1]
        exact c2 l (by omega)
  -- the new level's possible definitions
  have pS : ∀ j, sl_poss cnt a_kinds a_firsts a_seconds a_widths a_owners a_places a_contents a_childless a_nullable a_growEarly a_growLate f_live (upd a_itemKind (L * 6 + dn L) 0) (upd a_itemName (L * 6 + dn L) x2) (upd a_itemValue (L * 6 + dn L) x3) a_itemFit (sl_dn dn (L + 1) 0) (sl_dn nas (L + 1) 0) root (L + 1) j ↔
      bt f_live j = true ∧ ∃ k, k < 8 ∧ sl_poss cnt a_kinds a_firsts a_seconds a_widths a_owners a_places a_contents a_childless a_nullable a_growEarly a_growLate f_live a_itemKind a_itemName a_itemValue a_itemFit dn nas root L k ∧ sl_step cnt a_kinds a_firsts a_seconds a_widths a_owners a_places a_contents a_childless a_nullable a_growEarly a_growLate a_itemKind a_itemName a_itemValue a_itemFit L (dn L) (nas L) x2 k j := by
    intro j
    show (bt f_live j = true ∧ ∃ k, k < 8 ∧ sl_poss cnt a_kinds a_firsts a_seconds a_widths a_owners a_places a_contents a_childless a_nullable a_growEarly a_growLate f_live (upd a_itemKind (L * 6 + dn L) 0) (upd a_itemName (L * 6 + dn L) x2) (upd a_itemValue (L * 6 + dn L) x3) a_itemFit (sl_dn dn (L + 1) 0) (sl_dn nas (L + 1) 0) root L k ∧
      sl_step cnt a_kinds a_firsts a_seconds a_widths a_owners a_places a_contents a_childless a_nullable a_growEarly a_growLate (upd a_itemKind (L * 6 + dn L) 0) (upd a_itemName (L * 6 + dn L) x2) (upd a_itemValue (L * 6 + dn L) x3) a_itemFit L (sl_dn dn (L + 1) 0 L) (sl_dn nas (L + 1) 0 L) ((upd a_itemName (L * 6 + dn L) x2) (L * 6 + sl_dn dn (L + 1) 0 L)) k j) ↔ _
    have e1 : sl_dn dn (L + 1) 0 L = dn L := sl_dn_n (by omega)
    rw [e1, pk_us]
    refine and_congr Iff.rfl (sy_ex_cg (fun k => and_congr Iff.rfl (and_congr (hposs L (Nat.le_refl _) k) ?_)))
    have rc := hrowc L (Nat.le_refl _) k
    rw [e1] at rc
    unfold sl_step
    constructor
    · rintro ⟨s, t, r, h1, h2⟩; exact ⟨s, t, r, (rc s).1 h1, h2⟩
    · rintro ⟨s, t, r, h1, h2⟩; exact ⟨s, t, r, (rc s).2 h1, h2⟩
  have live8 : ∀ j, bt f_live j = true → j < 8 := fun j h => ((sb_live H tb lv j).1 h).1
  have ansS : sl_ans cnt a_kinds a_firsts a_seconds a_widths a_owners a_places a_contents a_childless a_nullable a_growEarly a_growLate f_live (upd a_itemKind (L * 6 + dn L) 0) (upd a_itemName (L * 6 + dn L) x2) (upd a_itemValue (L * 6 + dn L) x3) a_itemFit (L + 2) (sl_dn dn (L + 1) 0) (sl_dn nas (L + 1) 0) root (-1) ↔
      ∃ j, j < 8 ∧ bt f_live j = true ∧ ∃ k, k < 8 ∧ sl_poss cnt a_kinds a_firsts a_seconds a_widths a_owners a_places a_contents a_childless a_nullable a_growEarly a_growLate f_live a_itemKind a_itemName a_itemValue a_itemFit dn nas root L k ∧ sl_step cnt a_kinds a_firsts a_seconds a_widths a_owners a_places a_contents a_childless a_nullable a_growEarly a_growLate a_itemKind a_itemName a_itemValue a_itemFit L (dn L) (nas L) x2 k j := by
    unfold sl_ans
    rw [show L + 2 - 1 = L + 1 by omega, sl_dn_s, sl_dn_s]
    constructor
    · rintro ⟨j, j8, _, hp, _⟩
      exact ⟨j, j8, (pS j).1 hp⟩
    · rintro ⟨j, j8, hp⟩
      exact ⟨j, j8, sr_m1 j j8, (pS j).2 hp, sd_e, (hfresh j sd_e j8 sd_S6_e hp.1).2 rfl⟩
  -- X's test
  have hna := (c1 L (by omega)).2.1
  have key : ∀ j, j < 8 → ((∃ k t, k < 8 ∧ sd_S6 t ∧ ∃ r, r < 24 ∧ a_contents k = nI r ∧ (∃ s, sd_S6 s ∧ sd_lb (a_residuals (L * 8 + k)) s ∧
      sl_A cnt a_kinds a_firsts a_seconds a_widths a_owners a_places a_childless a_nullable k (sx_tk a_kinds a_firsts a_seconds 3 x2 ((1 : Int32) <<< (nI j &&& 31))) (decide (¬ (3 : Int32) = 2)) r s t) ∧ (((3 : Int32) = 2 → sd_lb (a_growEarly r) t) ∧ (¬ (3 : Int32) = 2 → sd_lb (a_growLate r) t))) ↔
      ∃ k, k < 8 ∧ sl_poss cnt a_kinds a_firsts a_seconds a_widths a_owners a_places a_contents a_childless a_nullable a_growEarly a_growLate f_live a_itemKind a_itemName a_itemValue a_itemFit dn nas root L k ∧ sl_step cnt a_kinds a_firsts a_seconds a_widths a_owners a_places a_contents a_childless a_nullable a_growEarly a_growLate a_itemKind a_itemName a_itemValue a_itemFit L (dn L) (nas L) x2 k j) := by
    intro j hj
    have dt : decide (¬ (3 : Int32) = 2) = true := by decide
    rw [dt]
    constructor
    · rintro ⟨k, t, hk, t6, r, r24, hr', ⟨s, s6, hs, a⟩, g⟩
      obtain ⟨hp, hw⟩ := (hrow L k (by omega) hk s s6).1 hs
      exact ⟨k, hk, hp, s, t, r, hw, (sc_root H hk hr' (by omega)).1, hr', (sl_A_cg (fun c hc _ _ => sl_tkS H hj hc)).1 a, g.2 (by decide)⟩
    · rintro ⟨k, hk, hp, s, t, r, hw, r1, hr', a, g⟩
      have s6 : sd_S6 s := by
        obtain ⟨r', q1, q2, ru, _⟩ := hw
        exact sl_run_6 H tb hk hna q2 q1 ru
      exact ⟨k, t, hk, sl_A_6 H tb hk (fun c z => z.1) hr' r1 a s6, r, by omega, hr', ⟨s, s6, (hrow L k (by omega) hk s s6).2 ⟨hp, hw⟩, (sl_A_cg (fun c hc _ _ => sl_tkS H hj hc)).2 a⟩, fun z => absurd z (by decide), fun _ => g⟩
  have ed : f_depth - 1 = nI L := by rw [hD]; exact nI_pred L
  have goX : ∀ post : Int32 → SX → Prop,
      (∀ nx : Nat → Int64, (∀ j, j < 8 → (bt f_live j = true ∧ (∃ k, k < 8 ∧ sl_poss cnt a_kinds a_firsts a_seconds a_widths a_owners a_places a_contents a_childless a_nullable a_growEarly a_growLate f_live a_itemKind a_itemName a_itemValue a_itemFit dn nas root L k ∧ sl_step cnt a_kinds a_firsts a_seconds a_widths a_owners a_places a_contents a_childless a_nullable a_growEarly a_growLate a_itemKind a_itemName a_itemValue a_itemFit L (dn L) (nas L) x2 k j) → nx j = 1) ∧
        (¬ (bt f_live j = true ∧ (∃ k, k < 8 ∧ sl_poss cnt a_kinds a_firsts a_seconds a_widths a_owners a_places a_contents a_childless a_nullable a_growEarly a_growLate f_live a_itemKind a_itemName a_itemValue a_itemFit dn nas root L k ∧ sl_step cnt a_kinds a_firsts a_seconds a_widths a_owners a_places a_contents a_childless a_nullable a_growEarly a_growLate a_itemKind a_itemName a_itemValue a_itemFit L (dn L) (nas L) x2 k j)) → nx j = 0)) →
        (∃ j, j < 8 ∧ bt f_live j = true ∧ ∃ k, k < 8 ∧ sl_poss cnt a_kinds a_firsts a_seconds a_widths a_owners a_places a_contents a_childless a_nullable a_growEarly a_growLate f_live a_itemKind a_itemName a_itemValue a_itemFit dn nas root L k ∧ sl_step cnt a_kinds a_firsts a_seconds a_widths a_owners a_places a_contents a_childless a_nullable a_growEarly a_growLate a_itemKind a_itemName a_itemValue a_itemFit L (dn L) (nas L) x2 k j) → post 0 (f_cellLimit, f_definitionLimit, f_depthLimit, f_itemLimit, f_cellCount, f_definedCount, f_live, f_state, f_depth, a_kinds, a_firsts, a_seconds, a_widths, a_uses, a_parents, a_attributed, a_owners, a_places, a_contents, a_columns, a_unused, a_childless, a_nullable, a_growEarly, a_growLate, a_guards, a_items, a_names, a_late, a_residuals, nx)) →
      (∀ nx : Nat → Int64, ¬ (∃ j, j < 8 ∧ bt f_live j = true ∧ ∃ k, k < 8 ∧ sl_poss cnt a_kinds a_firsts a_seconds a_widths a_owners a_places a_contents a_childless a_nullable a_growEarly a_growLate f_live a_itemKind a_itemName a_itemValue a_itemFit dn nas root L k ∧ sl_step cnt a_kinds a_firsts a_seconds a_widths a_owners a_places a_contents a_childless a_nullable a_growEarly a_growLate a_itemKind a_itemName a_itemValue a_itemFit L (dn L) (nas L) x2 k j) → post (-8) (f_cellLimit, f_definitionLimit, f_depthLimit, f_itemLimit, f_cellCount, f_definedCount, f_live, f_state, f_depth, a_kinds, a_firsts, a_seconds, a_widths, a_uses, a_parents, a_attributed, a_owners, a_places, a_contents, a_columns, a_unused, a_childless, a_nullable, a_growEarly, a_growLate, a_guards, a_items, a_names, a_late, a_residuals, nx)) →
      ∃ n47 : Nat, wX_judgeStart_47 post x2 f_cellLimit f_definitionLimit f_depthLimit f_itemLimit f_cellCount f_definedCount f_live f_state f_depth n47 0 a_kinds a_firsts a_seconds a_widths a_uses a_parents a_attributed a_owners a_places a_contents a_columns a_unused a_childless a_nullable a_growEarly a_growLate a_guards a_items a_names a_late a_residuals a_next := by
    intro post p1 p0
    refine ⟨9, sx_jsL (B := fun j k t => ∃ r, r < 24 ∧ a_contents k = nI r ∧ (∃ s, sd_S6 s ∧ sd_lb (a_residuals (L * 8 + k)) s ∧
      sl_A cnt a_kinds a_firsts a_seconds a_widths a_owners a_places a_childless a_nullable k (sx_tk a_kinds a_firsts a_seconds 3 x2 ((1 : Int32) <<< (nI j &&& 31))) (decide (¬ (3 : Int32) = 2)) r s t) ∧ (((3 : Int32) = 2 → sd_lb (a_growEarly r) t) ∧ (¬ (3 : Int32) = 2 → sd_lb (a_growLate r) t)))
      (fun nx j hj k hk => ?_) (fun nx hx hex => p1 nx (fun j hj => ?_) ?_) (fun nx hex => p0 nx ?_) 8 0 a_next (by omega) (fun i hi => by omega) 9 (by omega)⟩
    · rw [ed]
      exact sb_after (f_cellLimit := f_cellLimit) (f_definitionLimit := f_definitionLimit) (f_depthLimit := f_depthLimit) (f_itemLimit := f_itemLimit) (f_cellCount := f_cellCount) (f_definedCount := f_definedCount) (f_live := f_live) (f_state := f_state) (f_depth := f_depth) (a_kinds := a_kinds) (a_firsts := a_firsts) (a_seconds := a_seconds) (a_widths := a_widths) (a_uses := a_uses) (a_parents := a_parents) (a_attributed := a_attributed) (a_owners := a_owners) (a_places := a_places) (a_contents := a_contents) (a_columns := a_columns) (a_unused := a_unused) (a_childless := a_childless) (a_nullable := a_nullable) (a_growEarly := a_growEarly) (a_growLate := a_growLate) (a_guards := a_guards) (a_items := a_items) (a_names := a_names) (a_late := a_late) (a_residuals := a_residuals) (a_next := nx) H tb hcol (by omega) hk (kind := 3) (name := x2) (extra := (1 : Int32) <<< (nI j &&& 31)) (Or.inr (Or.inr rfl))
    · have := hx j hj
      rw [key j hj] at this
      exact this
    · obtain ⟨j, j8, lj, h⟩ := hex
      exact ⟨j, j8, lj, (key j j8).1 h⟩
    · rintro ⟨j, j8, lj, h⟩
      exact hex ⟨j, j8, lj, (key j j8).2 h⟩
  -- Y's try
  have L5 : L < 5 := by omega
  have ea : (nI (L * 6 + dn L)).toNatClampNeg = L * 6 + dn L := sx_cl 30 (by omega)
  have va : vp_in (nI (L * 6 + dn L)) 30 := vp_in_nI (by omega) (by decide)
  have eL : (nI L).toNatClampNeg = L := sx_cl 5 L5
  have vL : vp_in (nI L) 5 := vp_in_nI L5 (by decide)
  have eD : (nI (L + 1)).toNatClampNeg = L + 1 := sx_cl 5 (by omega)
  have vD : vp_in (nI (L + 1)) 5 := vp_in_nI (by omega) (by decide)
  have full' : nI (dn L) < f_itemLimit := by rw [hil]; exact nI_lt full (by omega)
  have hit' : ∀ l, l < L + 2 → upd (upd b_items L (nI (dn L + 1))) (L + 1) 0 l = nI (sl_it (L + 2) (sl_dn dn (L + 1) 0) l) := by
    intro l hl
    by_cases e : l = L + 1
    · subst e
      rw [pk_us]; unfold sl_it; rw [if_neg (by omega), sl_dn_s]; rfl
    · rw [pk_un e]
      by_cases q : l = L
      · subst q
        rw [pk_us]; unfold sl_it; rw [if_pos (by omega), sl_dn_n e]
      · rw [pk_un q, (hit l (by omega)).2.1]; unfold sl_it; rw [if_pos (by omega), if_pos (by omega), sl_dn_n e]
  have goY : ∀ (post : Int32 → SY → Prop) (keep : Int32),
      (sl_ans cnt a_kinds a_firsts a_seconds a_widths a_owners a_places a_contents a_childless a_nullable a_growEarly a_growLate f_live (upd a_itemKind (L * 6 + dn L) 0) (upd a_itemName (L * 6 + dn L) x2) (upd a_itemValue (L * 6 + dn L) x3) a_itemFit (L + 2) (sl_dn dn (L + 1) 0) (sl_dn nas (L + 1) 0) root (-1) → ¬ keep = 0 → ∀ M G : Nat → Int32,
        post 0 (f_cellLimit, f_definitionLimit, f_depthLimit, f_itemLimit, f_cellCount, f_state, nI (L + 2), f_rootDefinition, a_kinds, a_firsts, a_seconds, a_widths, a_uses, upd (upd b_items L (nI (dn L + 1))) (L + 1) 0, upd a_itemKind (L * 6 + dn L) 0, upd a_itemName (L * 6 + dn L) x2, upd a_itemValue (L * 6 + dn L) x3, a_itemFit, M, G)) →
      (∀ r : Int32, (¬ r = 0 ↔ sl_ans cnt a_kinds a_firsts a_seconds a_widths a_owners a_places a_contents a_childless a_nullable a_growEarly a_growLate f_live (upd a_itemKind (L * 6 + dn L) 0) (upd a_itemName (L * 6 + dn L) x2) (upd a_itemValue (L * 6 + dn L) x3) a_itemFit (L + 2) (sl_dn dn (L + 1) 0) (sl_dn nas (L + 1) 0) root (-1)) → (¬ r = 0 → keep = 0) → ∀ M G : Nat → Int32,
        post (if r = 0 then -8 else 0) (f_cellLimit, f_definitionLimit, f_depthLimit, f_itemLimit, f_cellCount, f_state, nI (L + 1), f_rootDefinition, a_kinds, a_firsts, a_seconds, a_widths, a_uses, upd (upd (upd b_items L (nI (dn L + 1))) (L + 1) 0) L (nI (dn L)), upd a_itemKind (L * 6 + dn L) 0, upd a_itemName (L * 6 + dn L) x2, upd a_itemValue (L * 6 + dn L) x3, a_itemFit, M, G)) →
      wY_attempt_139 post 0 x2 x3 keep (nI L) (nI (dn L)) (nI (L * 6 + dn L)) f_cellLimit f_definitionLimit f_depthLimit f_itemLimit f_cellCount f_state f_depth f_rootDefinition a_kinds a_firsts a_seconds a_widths a_uses b_items a_itemKind a_itemName a_itemValue a_itemFit a_matches a_grows := by
    intro post keep h1 h2
    unfold wY_attempt_139
    rw [hD]
    refine br_t full' (And.intro va (nm_r (e' := upd a_itemKind (L * 6 + dn L) 0) (by rw [ea]) (And.intro va (nm_r (e' := upd a_itemName (L * 6 + dn L) x2) (by rw [ea]) (And.intro va (nm_r (e' := upd a_itemValue (L * 6 + dn L) x3) (by rw [ea]) (And.intro vL (nm_r (e' := upd b_items L (nI (dn L + 1))) (by rw [eL, nI_1]) (br_t rfl (And.intro vD (nm_r (e' := upd (upd b_items L (nI (dn L + 1))) (L + 1) 0) (by rw [eD]) (nm_r (nI_1 (L + 1)) ?_))))))))))))
    unfold wY_attempt_210
    have back : ∀ r : Int32, (¬ r = 0 ↔ sl_ans cnt a_kinds a_firsts a_seconds a_widths a_owners a_places a_contents a_childless a_nullable a_growEarly a_growLate f_live (upd a_itemKind (L * 6 + dn L) 0) (upd a_itemName (L * 6 + dn L) x2) (upd a_itemValue (L * 6 + dn L) x3) a_itemFit (L + 2) (sl_dn dn (L + 1) 0) (sl_dn nas (L + 1) 0) root (-1)) →
        (¬ r = 0 → keep = 0) → ∀ M G : Nat → Int32,
        wY_attempt_227 post (nI L) (nI (dn L)) r f_cellLimit f_definitionLimit f_depthLimit f_itemLimit f_cellCount f_state (nI (L + 1 + 1)) f_rootDefinition a_kinds a_firsts a_seconds a_widths a_uses (upd (upd b_items L (nI (dn L + 1))) (L + 1) 0) (upd a_itemKind (L * 6 + dn L) 0) (upd a_itemName (L * 6 + dn L) x2) (upd a_itemValue (L * 6 + dn L) x3) a_itemFit M G := by
      intro r hr' hk M G
      have q := h2 r hr' hk M G
      unfold wY_attempt_227 wY_attempt_244
      refine nm_r (nI_1 L) (And.intro vL (nm_r (e' := upd (upd (upd b_items L (nI (dn L + 1))) (L + 1) 0) L (nI (dn L))) (by rw [eL]) (br_c (fun z => ?_) (fun z => ?_))))
      · rw [if_pos z] at q; exact q
      · rw [if_neg z] at q; exact q
    refine sr_hope H tb lv hn rfl hr r8 cf' hit' (fun an M G => ?_) (fun an M G => ?_)
    · refine br_f (by decide) (br_c (fun z => back 1 (sy_11 an) (fun _ => z) M G) (fun z => ?_))
      unfold wY_attempt_244
      exact br_f (by decide) (h1 an z M G)
    · exact br_t rfl (back 0 (sy_00 an) (fun z => absurd rfl z) M G)
  by_cases hA : sl_ans cnt a_kinds a_firsts a_seconds a_widths a_owners a_places a_contents a_childless a_nullable a_growEarly a_growLate f_live (upd a_itemKind (L * 6 + dn L) 0) (upd a_itemName (L * 6 + dn L) x2) (upd a_itemValue (L * 6 + dn L) x3) a_itemFit (L + 2) (sl_dn dn (L + 1) 0) (sl_dn nas (L + 1) 0) root (-1)
  · refine ⟨0, Or.inl rfl, cf', hposs, hrowc, hfresh, fun _ => hA, fun post h => ?_, fun post keep h1 h2 => ?_⟩
    · refine goX post (fun nx hx _ => h nx (fun _ j hj => ?_)) (fun nx q => absurd (ansS.1 hA) q)
      rw [pS j]; exact hx j hj
    · refine goY post keep (fun _ z M G => h1 rfl z M G) (fun r hr' hk M G => ?_)
      have q := hr'.2 hA
      rw [if_neg q]
      exact h2 (fun _ => hk q) M G
  · refine ⟨-8, Or.inr rfl, cf', hposs, hrowc, hfresh, fun z => absurd z (by decide), fun post h => ?_, fun post keep h1 h2 => ?_⟩
    · exact goX post (fun nx _ q => absurd (ansS.2 q) hA) (fun nx _ => h nx (fun z => absurd z (by decide)))
    · refine goY post keep (fun q => absurd q hA) (fun r hr' hk M G => ?_)
      have q : r = 0 := Classical.byContradiction (fun z => hA (hr'.1 z))
      rw [if_pos q]
      exact h2 (fun z => absurd z (by decide)) M G
end
end
section
/-! end -/
theorem sr_z0 {m : Int32} : m = 0 ↔ ∀ j, ¬ bt m j = true := by
  constructor
  · rintro rfl j h
    rw [b_0] at h; cases h
  · intro h
    refine b_ext (fun i _ => ?_)
    rw [b_0, sd_nf (h i)]
/-- definition j matches the items of a level -/
def sl_fit (cnt : Nat) (K F S W Ow Pl Ct : Nat → Int32) (Cl Nu : Nat → Int64) (iK iN iV iF : Nat → Int32) (lev n na j : Nat) : Prop :=
  j < 8 ∧ ∃ r s, r < cnt ∧ Ct j = nI r ∧ sl_run cnt K F S W Ow Pl Cl Nu iK iN iV iF lev n na 0 j r n s ∧ sd_lb (Nu r) s
section
variable {cnt dl : Nat} {K F S W U P A Ow Pl Ct : Nat → Int32} {col Un Cl Nu Ge Gl Gd : Nat → Int64} {live : Int32}
variable {iK iN iV iF : Nat → Int32} {lev n na j : Nat}
theorem sl_fit_row (H : sc_Sch cnt dl K F S W U P A Ow Pl Ct) (tb : sb_tab cnt K F S W P Ow Pl Un Cl Nu Ge Gl Gd live) (ok : sl_ok live iK iN iV iF lev n na 0) (h : sl_fit cnt K F S W Ow Pl Ct Cl Nu iK iN iV iF lev n na j) :
    ∃ r s, r < cnt ∧ Ct j = nI r ∧ sl_row cnt K F S W Ow Pl Ct Cl Nu Ge Gl iK iN iV iF lev n na 0 j s ∧ sd_lb (Nu r) s := by
  obtain ⟨j8, r, s, r1, r2, ru, nu⟩ := h
  have h24 := H.1.1
  obtain ⟨o, _⟩ := sb_wr H j8 r2 (by omega)
  have E := sl_env (op := 0) (iN := iN) (iV := iV) (iF := iF) H tb j8 ok.2.1
  refine ⟨r, s, r1, r2, ⟨r, r1, r2, ru, fun _ => ?_, fun _ => ?_⟩, nu⟩
  · exact sd_nuG E.1 E.2.2.1 (sb_ge tb j8) (fun c _ z => (sl_f01 z).1) r o s nu
  · exact sd_nuG E.1 E.2.2.1 (sb_gl tb j8) (fun c _ z => (sl_f01 z).2) r o s nu
theorem sl_fit_live (H : sc_Sch cnt dl K F S W U P A Ow Pl Ct) (tb : sb_tab cnt K F S W P Ow Pl Un Cl Nu Ge Gl Gd live) (lv : sb_liv cnt K F S Ow Ct Un live) (ok : sl_ok live iK iN iV iF lev n na 0) (h : sl_fit cnt K F S W Ow Pl Ct Cl Nu iK iN iV iF lev n na j) : bt live j = true := by
  obtain ⟨r, s, _, _, hw, _⟩ := sl_fit_row H tb ok h
  exact sl_row_live H tb lv h.1 ok hw
end
section
variable {f_cellLimit f_definitionLimit f_depthLimit f_itemLimit f_cellCount f_definedCount f_live f_state f_depth : Int32}
variable {a_kinds a_firsts a_seconds a_widths a_uses a_parents a_attributed a_owners a_places a_contents a_items a_names a_late : Nat → Int32} {a_columns a_unused a_childless a_nullable a_growEarly a_growLate a_guards a_residuals a_next : Nat → Int64}
variable {f_rootDefinition : Int32} {b_items a_itemKind a_itemName a_itemValue a_itemFit a_matches a_grows : Nat → Int32}
variable {lim cnt dl dpl itl L root : Nat} {dn nas : Nat → Nat}
/-- X's matched definitions -/
theorem sr_md (st : sr_St f_cellLimit f_definitionLimit f_depthLimit f_itemLimit f_cellCount f_definedCount f_live a_kinds a_firsts a_seconds a_widths a_uses a_parents a_attributed a_owners a_places a_contents a_columns a_unused a_childless a_nullable a_growEarly a_growLate a_guards lim cnt dl dpl itl) (dy : sr_dy cnt a_kinds a_firsts a_seconds a_widths a_owners a_places a_contents a_childless a_nullable a_growEarly a_growLate f_live dpl itl f_depth a_items a_names a_late a_residuals f_rootDefinition b_items a_itemKind a_itemName a_itemValue a_itemFit (L + 1) root dn nas) {post : Int32 → Prop}
    (h : ∀ m : Int32, (∀ j, bt m j = true ↔ sl_fit cnt a_kinds a_firsts a_seconds a_widths a_owners a_places a_contents a_childless a_nullable a_itemKind a_itemName a_itemValue a_itemFit L (dn L) (nas L) j ∧ sl_poss cnt a_kinds a_firsts a_seconds a_widths a_owners a_places a_contents a_childless a_nullable a_growEarly a_growLate f_live a_itemKind a_itemName a_itemValue a_itemFit dn nas root L j) → post m) :
    wpX_matchedDefinitions post (f_cellLimit, f_definitionLimit, f_depthLimit, f_itemLimit, f_cellCount, f_definedCount, f_live, f_state, f_depth, a_kinds, a_firsts, a_seconds, a_widths, a_uses, a_parents, a_attributed, a_owners, a_places, a_contents, a_columns, a_unused, a_childless, a_nullable, a_growEarly, a_growLate, a_guards, a_items, a_names, a_late, a_residuals, a_next) := by
  obtain ⟨_, _, _, _, hn, _, H, tb, lv, hcol⟩ := st
  obtain ⟨hD, hr, ⟨r8, _⟩, Dd, cf, hit, _, _, hrow, _⟩ := dy
  have h24 := H.1.1
  have ok := sl_conf_ok0 cf (l := L) (by omega)
  refine sx_md (l := L) (by have := cf.2.1; omega) (by rw [hD]; exact nI_pred L) (fun k hk => ?_) (fun m hm => h m (fun j => ?_))
  · rcases H.2.2.2.2.1 k hk with q | ⟨r, q1, q2, _⟩
    · exact Or.inl q
    · exact Or.inr ⟨r, by omega, q2⟩
  · rw [hm j]
    constructor
    · rintro ⟨j8, r, r24, hr', s, s6, hs, hu⟩
      obtain ⟨hp, r', q1, q2, ru, _⟩ := (hrow L j (by omega) j8 s s6).1 hs
      rw [hr'] at q2
      have := sx_nIne (by omega) (by omega) q2
      subst this
      exact ⟨⟨j8, r, s, q1, hr', ru, hu⟩, hp⟩
    · rintro ⟨hf, hp⟩
      obtain ⟨r, s, q1, q2, hw, hu⟩ := sl_fit_row H tb ok hf
      have s6 : sd_S6 s := by
        obtain ⟨r', z1, z2, ru, _⟩ := hw
        exact sl_run_6 H tb hf.1 ok.2.1 z2 z1 ru
      exact ⟨hf.1, r, by omega, q2, s, s6, (hrow L j (by omega) hf.1 s s6).2 ⟨hp, hw⟩, hu⟩
/-- Y's finish until fit is known -/
theorem sr_fin (st : sr_St f_cellLimit f_definitionLimit f_depthLimit f_itemLimit f_cellCount f_definedCount f_live a_kinds a_firsts a_seconds a_widths a_uses a_parents a_attributed a_owners a_places a_contents a_columns a_unused a_childless a_nullable a_growEarly a_growLate a_guards lim cnt dl dpl itl) (dy : sr_dy cnt a_kinds a_firsts a_seconds a_widths a_owners a_places a_contents a_childless a_nullable a_growEarly a_growLate f_live dpl itl f_depth a_items a_names a_late a_residuals f_rootDefinition b_items a_itemKind a_itemName a_itemValue a_itemFit (L + 1) root dn nas) {keep : Int32} {post : Int32 → SY → Prop}
    (h0 : L = 0 → ∀ M G : Nat → Int32,
      (¬ sl_fit cnt a_kinds a_firsts a_seconds a_widths a_owners a_places a_contents a_childless a_nullable a_itemKind a_itemName a_itemValue a_itemFit L (dn L) (nas L) root → post (-8) (f_cellLimit, f_definitionLimit, f_depthLimit, f_itemLimit, f_cellCount, f_state, f_depth, f_rootDefinition, a_kinds, a_firsts, a_seconds, a_widths, a_uses, b_items, a_itemKind, a_itemName, a_itemValue, a_itemFit, M, G)) ∧
      (sl_fit cnt a_kinds a_firsts a_seconds a_widths a_owners a_places a_contents a_childless a_nullable a_itemKind a_itemName a_itemValue a_itemFit L (dn L) (nas L) root → (keep = 0 → post 1 (f_cellLimit, f_definitionLimit, f_depthLimit, f_itemLimit, f_cellCount, f_state, f_depth, f_rootDefinition, a_kinds, a_firsts, a_seconds, a_widths, a_uses, b_items, a_itemKind, a_itemName, a_itemValue, a_itemFit, M, G)) ∧ (¬ keep = 0 → post 1 (f_cellLimit, f_definitionLimit, f_depthLimit, f_itemLimit, f_cellCount, 2, 0, f_rootDefinition, a_kinds, a_firsts, a_seconds, a_widths, a_uses, b_items, a_itemKind, a_itemName, a_itemValue, a_itemFit, M, G))))
    (hS : ∀ Q, L = Q + 1 → ∀ (fit : Int32) (M G : Nat → Int32), (∀ j, bt fit j = true ↔ sl_fit cnt a_kinds a_firsts a_seconds a_widths a_owners a_places a_contents a_childless a_nullable a_itemKind a_itemName a_itemValue a_itemFit L (dn L) (nas L) j) →
      wpY_hopeful (fun r u => match u with | (f_cellLimit, f_definitionLimit, f_depthLimit, f_itemLimit, f_made, f_state, f_depth, f_rootDefinition, a_kind, a_first, a_second, a_width, a_use, a_items, a_itemKind, a_itemName, a_itemValue, a_itemFit, a_matches, a_grows) => ((r = 0 → wY_finish_130 post (nI L) (nI (Q * 6 + dn Q)) r f_cellLimit f_definitionLimit f_depthLimit f_itemLimit f_made f_state f_depth f_rootDefinition a_kind a_first a_second a_width a_use a_items a_itemKind a_itemName a_itemValue a_itemFit a_matches a_grows) ∧ (¬ r = 0 → ((keep = 0 → wY_finish_130 post (nI L) (nI (Q * 6 + dn Q)) r f_cellLimit f_definitionLimit f_depthLimit f_itemLimit f_made f_state f_depth f_rootDefinition a_kind a_first a_second a_width a_use a_items a_itemKind a_itemName a_itemValue a_itemFit a_matches a_grows) ∧ (¬ keep = 0 → wY_finish_145 post r f_cellLimit f_definitionLimit f_depthLimit f_itemLimit f_made f_state f_depth f_rootDefinition a_kind a_first a_second a_width a_use a_items a_itemKind a_itemName a_itemValue a_itemFit a_matches a_grows)))))
        (f_cellLimit, f_definitionLimit, f_depthLimit, f_itemLimit, f_cellCount, f_state, nI L, f_rootDefinition, a_kinds, a_firsts, a_seconds, a_widths, a_uses, b_items, upd a_itemKind (Q * 6 + dn Q) 3, a_itemName, a_itemValue, upd a_itemFit (Q * 6 + dn Q) fit, M, G) (-1)) :
    wpY_finish post (f_cellLimit, f_definitionLimit, f_depthLimit, f_itemLimit, f_cellCount, f_state, f_depth, f_rootDefinition, a_kinds, a_firsts, a_seconds, a_widths, a_uses, b_items, a_itemKind, a_itemName, a_itemValue, a_itemFit, a_matches, a_grows) keep := by
  obtain ⟨_, _, _, _, hn, _, H, tb, lv, hcol⟩ := st
  obtain ⟨hD, hr, ⟨r8, _⟩, Dd, cf, hit, _, _, hrow, _⟩ := dy
  have h24 := H.1.1
  have ok := sl_conf_ok0 cf (l := L) (by omega)
  have L5 : L < 5 := by have := cf.2.1; omega
  have eL : (nI L).toNatClampNeg = L := sx_cl 5 L5
  have vL : vp_in (nI L) 5 := vp_in_nI L5 (by decide)
  have itL : sl_it (L + 1) dn L = dn L := if_neg (by omega)
  have bL : b_items L = nI (dn L) := by rw [(hit L (by omega)).2.1, itL]
  have nz : ∀ i, i < dn L → ¬ a_itemKind (L * 6 + i) = 0 := fun i hi => ((cf.2.2.1 L (by omega)).2.2 i hi).1
  unfold wpY_finish
  refine nm_r (e' := nI L) (by rw [hD]; exact nI_pred L) (sr_inh H tb lv hn (fun M0 G0 => And.intro vL ?_))
  rw [eL, bL]
  refine sy_evaluate (sl_oky H) L5 ok.1 hn h24 (fun kids texts M G hk hT => And.intro vL ?_)
  rw [bL]
  refine sy_defs (sl_useU H) ok.1 hn h24 (fun fit hfit => ?_)
  have hm : sy_mres a_kinds a_firsts a_seconds a_uses a_itemKind a_itemName a_itemValue a_itemFit cnt L (dn L) f_live 0 fit := by
    refine ⟨kids, texts, M, G, hk, hT, fun j => ?_⟩
    rw [hfit j]
    exact sy_ex_cg (fun e => and_congr Iff.rfl (and_congr Iff.rfl (and_congr Iff.rfl ⟨fun z => z.1 rfl, fun z => ⟨fun _ => z, fun y => absurd rfl y⟩⟩)))
  have fb : ∀ j, bt fit j = true ↔ sl_fit cnt a_kinds a_firsts a_seconds a_widths a_owners a_places a_contents a_childless a_nullable a_itemKind a_itemName a_itemValue a_itemFit L (dn L) (nas L) j := fun j => sl_mresR H tb ok nz hm j
  refine br_c (fun e => ?_) (fun e => ?_)
  · have L0 : L = 0 := sx_nIne (b := 0) (by omega) (by decide) e
    obtain ⟨p0, p1⟩ := h0 L0 M G
    refine br_c (fun z => p0 (fun q => ?_)) (fun z => ?_)
    · rw [hr] at z
      exact (sx_bit0 (by omega)).1 z ((fb root).2 q)
    · rw [hr] at z
      have q := (fb root).1 (Classical.byContradiction (fun w => z ((sx_bit0 (by omega)).2 w)))
      exact br_c (fun w => (p1 q).1 w) (fun w => (p1 q).2 w)
  · cases L with
    | zero => exact absurd rfl e
    | succ Q =>
      have eQ : nI (Q + 1) - 1 = nI Q := nI_pred Q
      have cQ : (nI Q).toNatClampNeg = Q := sx_cl 5 (by omega)
      have itQ : sl_it (Q + 1 + 1) dn Q = dn Q + 1 := if_pos (by omega)
      have bQ : b_items Q = nI (dn Q + 1) := by rw [(hit Q (by omega)).2.1, itQ]
      have q6 := (cf.2.2.1 Q (by omega)).1
      rw [itQ] at q6
      have ea : (nI Q * 6 + nI (dn Q + 1)) - 1 = nI (Q * 6 + dn Q) := by
        rw [show (6 : Int32) = nI 6 from rfl, pk_mul, nI_add, show Q * 6 + (dn Q + 1) = Q * 6 + dn Q + 1 by omega]
        exact nI_pred _
      have ca : (nI (Q * 6 + dn Q)).toNatClampNeg = Q * 6 + dn Q := sx_cl 30 (by omega)
      have va : vp_in (nI (Q * 6 + dn Q)) 30 := vp_in_nI (by omega) (by decide)
      rw [eQ, cQ, bQ]
      refine And.intro (vp_in_nI (by omega) (by decide)) (nm_r ea (And.intro va (nm_r (e' := upd a_itemKind (Q * 6 + dn Q) 3) (by rw [ca]) (And.intro va (nm_r (e' := upd a_itemFit (Q * 6 + dn Q) fit) (by rw [ca]) ?_)))))
      exact hS Q rfl fit M G fb
end
end
section
/-! end's judgement on both sides -/
theorem sr_mask (Q : Nat → Prop) : ∀ n, n ≤ 8 → ∃ m : Int32, ∀ j, bt m j = true ↔ j < n ∧ Q j := by
  intro n
  induction n with
  | zero => intro _; exact ⟨0, fun j => by rw [b_0]; exact ⟨fun q => (by cases q), fun q => (by omega)⟩⟩
  | succ n ih =>
    intro hn
    obtain ⟨m, hm⟩ := ih (by omega)
    by_cases q : Q n
    · refine ⟨m ||| ((1 : Int32) <<< (nI n &&& 31)), fun j => ?_⟩
      rw [sx_bor (by omega), hm j]
      constructor
      · rintro (⟨a, b⟩ | a)
        · exact ⟨by omega, b⟩
        · rw [a]; exact ⟨by omega, q⟩
      · rintro ⟨a, b⟩
        by_cases e : j = n
        · exact Or.inr e
        · exact Or.inl ⟨by omega, b⟩
    · refine ⟨m, fun j => ?_⟩
      rw [hm j]
      constructor
      · rintro ⟨a, b⟩; exact ⟨by omega, b⟩
      · rintro ⟨a, b⟩
        refine ⟨?_, b⟩
        by_cases e : j = n
        · rw [e] at b; exact absurd b q
        · omega
theorem sr_meq {a b : Int32} (h : ∀ j, bt a j = true ↔ bt b j = true) : a = b := by
  refine b_ext (fun i _ => ?_)
  have := h i
  revert this
  cases bt a i <;> cases bt b i <;> simp
section
variable {f_cellLimit f_definitionLimit f_depthLimit f_itemLimit f_cellCount f_definedCount f_live f_state f_depth : Int32}
variable {a_kinds a_firsts a_seconds a_widths a_uses a_parents a_attributed a_owners a_places a_contents a_items a_names a_late : Nat → Int32} {a_columns a_unused a_childless a_nullable a_growEarly a_growLate a_guards a_residuals a_next : Nat → Int64}
variable {f_rootDefinition : Int32} {b_items a_itemKind a_itemName a_itemValue a_itemFit a_matches a_grows : Nat → Int32}
variable {lim cnt dl dpl itl Q root : Nat} {dn nas : Nat → Nat}
/-- the root's end -/
theorem sr_end0 (st : sr_St f_cellLimit f_definitionLimit f_depthLimit f_itemLimit f_cellCount f_definedCount f_live a_kinds a_firsts a_seconds a_widths a_uses a_parents a_attributed a_owners a_places a_contents a_columns a_unused a_childless a_nullable a_growEarly a_growLate a_guards lim cnt dl dpl itl) (dy : sr_dy cnt a_kinds a_firsts a_seconds a_widths a_owners a_places a_contents a_childless a_nullable a_growEarly a_growLate f_live dpl itl f_depth a_items a_names a_late a_residuals f_rootDefinition b_items a_itemKind a_itemName a_itemValue a_itemFit 1 root dn nas) :
    ∃ r : Int32, (r = 1 ∨ r = -8) ∧ (∀ post : Int32 → SX → Prop, post r (f_cellLimit, f_definitionLimit, f_depthLimit, f_itemLimit, f_cellCount, f_definedCount, f_live, f_state, f_depth, a_kinds, a_firsts, a_seconds, a_widths, a_uses, a_parents, a_attributed, a_owners, a_places, a_contents, a_columns, a_unused, a_childless, a_nullable, a_growEarly, a_growLate, a_guards, a_items, a_names, a_late, a_residuals, a_next) → wpX_judgeEnd post (f_cellLimit, f_definitionLimit, f_depthLimit, f_itemLimit, f_cellCount, f_definedCount, f_live, f_state, f_depth, a_kinds, a_firsts, a_seconds, a_widths, a_uses, a_parents, a_attributed, a_owners, a_places, a_contents, a_columns, a_unused, a_childless, a_nullable, a_growEarly, a_growLate, a_guards, a_items, a_names, a_late, a_residuals, a_next)) ∧
      (∀ (post : Int32 → SY → Prop) (keep : Int32), (r = 1 → ¬ keep = 0 → ∀ M G : Nat → Int32, post 1 (f_cellLimit, f_definitionLimit, f_depthLimit, f_itemLimit, f_cellCount, 2, 0, f_rootDefinition, a_kinds, a_firsts, a_seconds, a_widths, a_uses, b_items, a_itemKind, a_itemName, a_itemValue, a_itemFit, M, G)) →
        ((r = 1 → keep = 0) → ∀ M G : Nat → Int32, post r (f_cellLimit, f_definitionLimit, f_depthLimit, f_itemLimit, f_cellCount, f_state, f_depth, f_rootDefinition, a_kinds, a_firsts, a_seconds, a_widths, a_uses, b_items, a_itemKind, a_itemName, a_itemValue, a_itemFit, M, G)) → wpY_finish post (f_cellLimit, f_definitionLimit, f_depthLimit, f_itemLimit, f_cellCount, f_state, f_depth, f_rootDefinition, a_kinds, a_firsts, a_seconds, a_widths, a_uses, b_items, a_itemKind, a_itemName, a_itemValue, a_itemFit, a_matches, a_grows) keep) := by
  have dy' : sr_dy cnt a_kinds a_firsts a_seconds a_widths a_owners a_places a_contents a_childless a_nullable a_growEarly a_growLate f_live dpl itl f_depth a_items a_names a_late a_residuals f_rootDefinition b_items a_itemKind a_itemName a_itemValue a_itemFit (0 + 1) root dn nas := dy
  have hD := dy.1
  have d1 : f_depth = 1 := hD
  by_cases hf : sl_fit cnt a_kinds a_firsts a_seconds a_widths a_owners a_places a_contents a_childless a_nullable a_itemKind a_itemName a_itemValue a_itemFit 0 (dn 0) (nas 0) root
  · refine ⟨1, Or.inl rfl, fun post h => ?_, fun post keep h1 h2 => ?_⟩
    · unfold wpX_judgeEnd
      refine sr_md st dy' (fun m hm => br_f (fun z => ?_) (br_t d1 h))
      exact (sr_z0.1 z) root ((hm root).2 ⟨hf, rfl⟩)
    · refine sr_fin st dy' (fun _ M G => ⟨fun q => absurd hf q, fun _ => ⟨fun z => h2 (fun _ => z) M G, fun z => h1 rfl z M G⟩⟩) (fun Q e => by omega)
  · refine ⟨-8, Or.inr rfl, fun post h => ?_, fun post keep h1 h2 => ?_⟩
    · unfold wpX_judgeEnd
      refine sr_md st dy' (fun m hm => br_t (sr_z0.2 (fun j z => ?_)) h)
      obtain ⟨q1, q2⟩ := (hm j).1 z
      have q2 : j = root := q2
      rw [q2] at q1; exact hf q1
    · exact sr_fin st dy' (fun _ M G => ⟨fun _ => h2 (fun z => absurd z (by decide)) M G, fun q => absurd q hf⟩) (fun Q e => by omega)
/-- a child's end -/
theorem sr_endS (st : sr_St f_cellLimit f_definitionLimit f_depthLimit f_itemLimit f_cellCount f_definedCount f_live a_kinds a_firsts a_seconds a_widths a_uses a_parents a_attributed a_owners a_places a_contents a_columns a_unused a_childless a_nullable a_growEarly a_growLate a_guards lim cnt dl dpl itl) (dy : sr_dy cnt a_kinds a_firsts a_seconds a_widths a_owners a_places a_contents a_childless a_nullable a_growEarly a_growLate f_live dpl itl f_depth a_items a_names a_late a_residuals f_rootDefinition b_items a_itemKind a_itemName a_itemValue a_itemFit (Q + 2) root dn nas) :
    ∃ (r fit : Int32), (r = 0 ∨ r = -8) ∧
      (r = 0 → sl_ap a_itemKind a_itemName a_itemValue a_itemFit (upd a_itemKind (Q * 6 + dn Q) 3) a_itemName a_itemValue (upd a_itemFit (Q * 6 + dn Q) fit) (Q * 6 + dn Q) ∧
        sl_conf f_live (upd a_itemKind (Q * 6 + dn Q) 3) a_itemName a_itemValue (upd a_itemFit (Q * 6 + dn Q) fit) (Q + 1) (sl_dn dn Q (dn Q + 1)) (sl_dn nas Q (nas Q)) ∧
        sl_ans cnt a_kinds a_firsts a_seconds a_widths a_owners a_places a_contents a_childless a_nullable a_growEarly a_growLate f_live (upd a_itemKind (Q * 6 + dn Q) 3) a_itemName a_itemValue (upd a_itemFit (Q * 6 + dn Q) fit) (Q + 1) (sl_dn dn Q (dn Q + 1)) (sl_dn nas Q (nas Q)) root (-1)) ∧
      (∀ post : Int32 → SX → Prop, (∀ nx : Nat → Int64, (r = 0 → ∀ k t, k < 8 → sd_S6 t → (sd_lb (nx k) t ↔ sl_poss cnt a_kinds a_firsts a_seconds a_widths a_owners a_places a_contents a_childless a_nullable a_growEarly a_growLate f_live a_itemKind a_itemName a_itemValue a_itemFit dn nas root Q k ∧
          sl_row cnt a_kinds a_firsts a_seconds a_widths a_owners a_places a_contents a_childless a_nullable a_growEarly a_growLate (upd a_itemKind (Q * 6 + dn Q) 3) a_itemName a_itemValue (upd a_itemFit (Q * 6 + dn Q) fit) Q (dn Q + 1) (nas Q) 0 k t)) → post r (f_cellLimit, f_definitionLimit, f_depthLimit, f_itemLimit, f_cellCount, f_definedCount, f_live, f_state, f_depth, a_kinds, a_firsts, a_seconds, a_widths, a_uses, a_parents, a_attributed, a_owners, a_places, a_contents, a_columns, a_unused, a_childless, a_nullable, a_growEarly, a_growLate, a_guards, a_items, a_names, a_late, a_residuals, nx)) → wpX_judgeEnd post (f_cellLimit, f_definitionLimit, f_depthLimit, f_itemLimit, f_cellCount, f_definedCount, f_live, f_state, f_depth, a_kinds, a_firsts, a_seconds, a_widths, a_uses, a_parents, a_attributed, a_owners, a_places, a_contents, a_columns, a_unused, a_childless, a_nullable, a_growEarly, a_growLate, a_guards, a_items, a_names, a_late, a_residuals, a_next)) ∧
      (∀ (post : Int32 → SY → Prop) (keep : Int32),
        (r = 0 → ¬ keep = 0 → ∀ M G : Nat → Int32, post 0 (f_cellLimit, f_definitionLimit, f_depthLimit, f_itemLimit, f_cellCount, f_state, nI (Q + 1), f_rootDefinition, a_kinds, a_firsts, a_seconds, a_widths, a_uses, b_items, upd a_itemKind (Q * 6 + dn Q) 3, a_itemName, a_itemValue, upd a_itemFit (Q * 6 + dn Q) fit, M, G)) →
        ((r = 0 → keep = 0) → ∀ M G : Nat → Int32, post r (f_cellLimit, f_definitionLimit, f_depthLimit, f_itemLimit, f_cellCount, f_state, nI (Q + 2), f_rootDefinition, a_kinds, a_firsts, a_seconds, a_widths, a_uses, b_items, upd (upd a_itemKind (Q * 6 + dn Q) 3) (Q * 6 + dn Q) 0, a_itemName, a_itemValue, upd a_itemFit (Q * 6 + dn Q) fit, M, G)) →
        wpY_finish post (f_cellLimit, f_definitionLimit, f_depthLimit, f_itemLimit, f_cellCount, f_state, f_depth, f_rootDefinition, a_kinds, a_firsts, a_seconds, a_widths, a_uses, b_items, a_itemKind, a_itemName, a_itemValue, a_itemFit, a_matches, a_grows) keep) := by
  have dy' : sr_dy cnt a_kinds a_firsts a_seconds a_widths a_owners a_places a_contents a_childless a_nullable a_growEarly a_growLate f_live dpl itl f_depth a_items a_names a_late a_residuals f_rootDefinition b_items a_itemKind a_itemName a_itemValue a_itemFit (Q + 1 + 1) root dn nas := dy
  obtain ⟨_, _, _, ⟨hil, il6⟩, hn, _, H, tb, lv, hcol⟩ := id st
  obtain ⟨hD, hr, ⟨r8, _⟩, Dd, cf, hit, _, hnm, hrow, _⟩ := id dy
  have h24 := H.1.1
  have ok := sl_conf_ok0 cf (l := Q + 1) (by omega)
  have D5 := cf.2.1
  have itQ : sl_it (Q + 2) dn Q = dn Q + 1 := if_pos (by omega)
  have n6 : dn Q < 6 := by have := (cf.2.2.1 Q (by omega)).1; rw [itQ] at this; omega
  have hna := (cf.2.2.1 Q (by omega)).2.1
  obtain ⟨fit, hfit0⟩ := sr_mask (fun j => sl_fit cnt a_kinds a_firsts a_seconds a_widths a_owners a_places a_contents a_childless a_nullable a_itemKind a_itemName a_itemValue a_itemFit (Q + 1) (dn (Q + 1)) (nas (Q + 1)) j) 8 (Nat.le_refl _)
  have hfit : ∀ j, bt fit j = true ↔ sl_fit cnt a_kinds a_firsts a_seconds a_widths a_owners a_places a_contents a_childless a_nullable a_itemKind a_itemName a_itemValue a_itemFit (Q + 1) (dn (Q + 1)) (nas (Q + 1)) j := fun j => by
    rw [hfit0 j]
    exact ⟨fun q => q.2, fun q => ⟨q.1, q⟩⟩
  have fl : ∀ j, bt fit j = true → bt f_live j = true := fun j h => sl_fit_live H tb lv ok ((hfit j).1 h)
  have ap : sl_ap a_itemKind a_itemName a_itemValue a_itemFit (upd a_itemKind (Q * 6 + dn Q) 3) a_itemName a_itemValue (upd a_itemFit (Q * 6 + dn Q) fit) (Q * 6 + dn Q) := fun b hb => ⟨pk_un hb, rfl, rfl, pk_un hb⟩
  have v1 : (upd a_itemKind (Q * 6 + dn Q) 3) (Q * 6 + dn Q) = 1 → nas Q = dn Q ∧ nas Q = dn Q + 1 := fun z => by rw [pk_us] at z; exact absurd z (by decide)
  have v2 : ¬ (upd a_itemKind (Q * 6 + dn Q) 3) (Q * 6 + dn Q) = 1 → nas Q = nas Q := fun _ => rfl
  have cf' : sl_conf f_live (upd a_itemKind (Q * 6 + dn Q) 3) a_itemName a_itemValue (upd a_itemFit (Q * 6 + dn Q) fit) (Q + 1) (sl_dn dn Q (dn Q + 1)) (sl_dn nas Q (nas Q)) :=
    sl_app_conf cf (by omega) n6 ap (by rw [pk_us]; decide) (fun _ j hj => by rw [pk_us] at hj; exact fl j hj) v1 v2
  have an := sl_ansA (cnt := cnt) (K := a_kinds) (F := a_firsts) (S := a_seconds) (W := a_widths) (Ow := a_owners) (Pl := a_places) (Ct := a_contents) (Cl := a_childless) (Nu := a_nullable) (Ge := a_growEarly) (Gl := a_growLate) (root := root) (na' := nas Q) cf (by omega) n6 ap
  have kt : sl_kid (nas Q) (dn Q) = true := decide_eq_true hna.1
  -- the leaves that take the ended child
  have tT : ∀ c, sl_T a_kinds a_firsts a_seconds (upd a_itemKind (Q * 6 + dn Q) 3) a_itemName a_itemValue (upd a_itemFit (Q * 6 + dn Q) fit) Q (dn Q + 1) 0 c (dn Q) ↔
      sd_n a_kinds c = 3 ∧ sy_fi (a_firsts c) (a_itemName (Q * 6 + dn Q)) ∧ bt fit (sd_n a_seconds c) = true := by
    intro c
    unfold sl_T
    rw [pk_us, pk_us]
    constructor
    · rintro ⟨_, q | q | q | q⟩
      · exact absurd q.1 (by decide)
      · exact absurd q.1 (by decide)
      · exact q.2
      · exact absurd q.1 (by decide)
    · exact fun q => ⟨by omega, Or.inr (Or.inr (Or.inl ⟨rfl, q⟩))⟩
  -- a leaf that leads on belongs to a possible definition
  have posb : ∀ k r s t l, k < 8 → sl_poss cnt a_kinds a_firsts a_seconds a_widths a_owners a_places a_contents a_childless a_nullable a_growEarly a_growLate f_live a_itemKind a_itemName a_itemValue a_itemFit dn nas root Q k → r < cnt → a_contents k = nI r → sl_row cnt a_kinds a_firsts a_seconds a_widths a_owners a_places a_contents a_childless a_nullable a_growEarly a_growLate a_itemKind a_itemName a_itemValue a_itemFit Q (dn Q) (nas Q) 0 k s → sd_lb (a_growLate r) t →
      sd_n a_kinds l = 3 → sy_fi (a_firsts l) (a_itemName (Q * 6 + dn Q)) → bt fit (sd_n a_seconds l) = true → sl_A cnt a_kinds a_firsts a_seconds a_widths a_owners a_places a_childless a_nullable k (fun c => c = l) true r s t →
      sl_poss cnt a_kinds a_firsts a_seconds a_widths a_owners a_places a_contents a_childless a_nullable a_growEarly a_growLate f_live a_itemKind a_itemName a_itemValue a_itemFit dn nas root (Q + 1) (sd_n a_seconds l) := by
    intro k r s t l hk hp r1 r2 hw g k3 fi bf a
    exact ⟨fl _ bf, k, hk, hp, s, t, r, hw, r1, r2, sl_A_mono (fun c e => by rw [e]; exact ⟨k3, fi, rfl⟩) a, g⟩
  have gl : ∀ r t, sl_gr a_growEarly a_growLate (nas Q = dn Q + 1) r t ↔ sd_lb (a_growLate r) t := fun r t => ⟨fun q => q.2 (by have := hna.1; omega), fun q => ⟨fun z => by have := hna.1; omega, fun _ => q⟩⟩
  have tk : ∀ (m : Int32) c, c < cnt → (sx_tk a_kinds a_firsts a_seconds 3 (a_itemName (Q * 6 + dn Q)) m c ↔ sd_n a_kinds c = 3 ∧ sy_fi (a_firsts c) (a_itemName (Q * 6 + dn Q)) ∧ bt m (sd_n a_seconds c) = true) := by
    intro m c hc
    have hK := (H.2.1 c hc).1
    have h3 := (H.2.1 c hc).2.2.2.2.2.2.1
    have kq : a_kinds c = 3 ↔ sd_n a_kinds c = 3 := by
      rw [hK.1, sd_n_of (a := a_kinds) hK.1 (by omega)]
      exact nI_eq (b := 3) (by omega) (by decide)
    unfold sx_tk
    constructor
    · rintro ⟨a, b | ⟨_, b1, b2⟩⟩
      · exact absurd b (by decide)
      · have k3 := kq.1 a
        obtain ⟨e, l⟩ := h3 k3
        refine ⟨k3, b1, ?_⟩
        rcases b2 with b2 | b2
        · exact absurd b2.1 (by decide)
        · have := b2.2
          rw [e] at this
          exact Classical.byContradiction (fun z => this ((sx_bit0 (by omega)).2 z))
    · rintro ⟨k3, b1, b2⟩
      obtain ⟨e, l⟩ := h3 k3
      refine ⟨kq.2 k3, Or.inr ⟨by decide, b1, Or.inr ⟨by decide, ?_⟩⟩⟩
      rw [e]
      exact fun z => (sx_bit0 (by omega)).1 z b2
  -- X
  have goX : ∀ post : Int32 → SX → Prop, (∀ nx : Nat → Int64,
        (∀ k t, k < 8 → sd_S6 t → (sd_lb (nx k) t ↔ sl_poss cnt a_kinds a_firsts a_seconds a_widths a_owners a_places a_contents a_childless a_nullable a_growEarly a_growLate f_live a_itemKind a_itemName a_itemValue a_itemFit dn nas root Q k ∧ sl_row cnt a_kinds a_firsts a_seconds a_widths a_owners a_places a_contents a_childless a_nullable a_growEarly a_growLate (upd a_itemKind (Q * 6 + dn Q) 3) a_itemName a_itemValue (upd a_itemFit (Q * 6 + dn Q) fit) Q (dn Q + 1) (nas Q) 0 k t)) →
        (∃ k t, k < 8 ∧ sl_poss cnt a_kinds a_firsts a_seconds a_widths a_owners a_places a_contents a_childless a_nullable a_growEarly a_growLate f_live a_itemKind a_itemName a_itemValue a_itemFit dn nas root Q k ∧ sl_row cnt a_kinds a_firsts a_seconds a_widths a_owners a_places a_contents a_childless a_nullable a_growEarly a_growLate (upd a_itemKind (Q * 6 + dn Q) 3) a_itemName a_itemValue (upd a_itemFit (Q * 6 + dn Q) fit) Q (dn Q + 1) (nas Q) 0 k t) → post 0 (f_cellLimit, f_definitionLimit, f_depthLimit, f_itemLimit, f_cellCount, f_definedCount, f_live, f_state, f_depth, a_kinds, a_firsts, a_seconds, a_widths, a_uses, a_parents, a_attributed, a_owners, a_places, a_contents, a_columns, a_unused, a_childless, a_nullable, a_growEarly, a_growLate, a_guards, a_items, a_names, a_late, a_residuals, nx)) →
      (∀ nx : Nat → Int64, ¬ (∃ k t, k < 8 ∧ sl_poss cnt a_kinds a_firsts a_seconds a_widths a_owners a_places a_contents a_childless a_nullable a_growEarly a_growLate f_live a_itemKind a_itemName a_itemValue a_itemFit dn nas root Q k ∧ sl_row cnt a_kinds a_firsts a_seconds a_widths a_owners a_places a_contents a_childless a_nullable a_growEarly a_growLate (upd a_itemKind (Q * 6 + dn Q) 3) a_itemName a_itemValue (upd a_itemFit (Q * 6 + dn Q) fit) Q (dn Q + 1) (nas Q) 0 k t) → post (-8) (f_cellLimit, f_definitionLimit, f_depthLimit, f_itemLimit, f_cellCount, f_definedCount, f_live, f_state, f_depth, a_kinds, a_firsts, a_seconds, a_widths, a_uses, a_parents, a_attributed, a_owners, a_places, a_contents, a_columns, a_unused, a_childless, a_nullable, a_growEarly, a_growLate, a_guards, a_items, a_names, a_late, a_residuals, nx)) →
      wpX_judgeEnd post (f_cellLimit, f_definitionLimit, f_depthLimit, f_itemLimit, f_cellCount, f_definedCount, f_live, f_state, f_depth, a_kinds, a_firsts, a_seconds, a_widths, a_uses, a_parents, a_attributed, a_owners, a_places, a_contents, a_columns, a_unused, a_childless, a_nullable, a_growEarly, a_growLate, a_guards, a_items, a_names, a_late, a_residuals, a_next) := by
    intro post p1 p0
    have eD1 : f_depth - 1 = nI (Q + 1) := by rw [hD]; exact nI_pred (Q + 1)
    have eD2 : f_depth - 2 = nI Q := by rw [hD, show (2 : Int32) = nI 2 from rfl, pk_sub (by omega)]; rfl
    have cD : (nI (Q + 1)).toNatClampNeg = Q + 1 := sx_cl 5 (by omega)
    have nD : ¬ f_depth = 1 := by rw [hD]; exact fun z => absurd (sx_nIne (b := 1) (by omega) (by decide) z) (by omega)
    unfold wpX_judgeEnd
    refine sr_md st dy' (fun m hm => br_c (fun z => ?_) (fun z => br_f nD ?_))
    · refine p0 a_next ?_
      rintro ⟨k, t, hk, hp, hw⟩
      obtain ⟨r, r1, r2, ⟨s, hs, a⟩, g⟩ := (sl_app_row H tb hk cf (by omega) n6 ap cf' v1 v2).1 hw
      rw [kt] at a
      obtain ⟨l, tl, a'⟩ := sl_A_or.1 a
      obtain ⟨k3, fi, bf⟩ := (tT l).1 tl
      have pp := posb k r s t l hk hp r1 r2 hs ((gl r t).1 g) k3 fi bf a'
      exact (sr_z0.1 z) _ ((hm _).2 ⟨(hfit _).1 bf, pp⟩)
    · rw [eD1, eD2, cD, hnm Q (by omega)]
      refine And.intro (vp_in_nI (by omega) (by decide)) ?_
      refine sr_stepX H tb hcol cf (by omega) n6 (fun k hk => hrow Q k (by omega) hk) ap cf' v1 v2 (Or.inr (Or.inr rfl)) ⟨fun z => absurd z (by decide), fun z => by have := hna.1; omega⟩ ?_ p1 p0
      intro k r s t hk hp r1 r2 hs g
      have dt : decide (¬ (3 : Int32) = 2) = true := by decide
      rw [dt, kt]
      constructor
      · intro a
        have a' := (sl_A_cg (fun c hc _ _ => tk m c hc)).1 a
        refine sl_A_mono (fun c q => (tT c).2 ⟨q.1, q.2.1, ?_⟩) a'
        exact (hfit _).2 ((hm _).1 q.2.2).1
      · intro a
        obtain ⟨l, tl, a'⟩ := sl_A_or.1 a
        obtain ⟨k3, fi, bf⟩ := (tT l).1 tl
        have pp := posb k r s t l hk hp r1 r2 hs ((gl r t).1 g) k3 fi bf a'
        refine (sl_A_cg (fun c hc _ _ => tk m c hc)).2 (sl_A_mono (fun c e => ?_) a')
        rw [e]
        exact ⟨k3, fi, (hm _).2 ⟨(hfit _).1 bf, pp⟩⟩
  -- Y
  have ca : (nI (Q * 6 + dn Q)).toNatClampNeg = Q * 6 + dn Q := sx_cl 30 (by omega)
  have va : vp_in (nI (Q * 6 + dn Q)) 30 := vp_in_nI (by omega) (by decide)
  have hit' : ∀ l, l < Q + 1 → b_items l = nI (sl_it (Q + 1) (sl_dn dn Q (dn Q + 1)) l) := by
    intro l hl
    rw [(hit l (by omega)).2.1]
    by_cases e : l = Q
    · subst e
      rw [itQ]; unfold sl_it; rw [if_neg (by omega), sl_dn_s]
    · unfold sl_it; rw [if_pos (by omega), if_pos (by omega), sl_dn_n e]
  have goY : ∀ (post : Int32 → SY → Prop) (keep : Int32),
      (sl_ans cnt a_kinds a_firsts a_seconds a_widths a_owners a_places a_contents a_childless a_nullable a_growEarly a_growLate f_live (upd a_itemKind (Q * 6 + dn Q) 3) a_itemName a_itemValue (upd a_itemFit (Q * 6 + dn Q) fit) (Q + 1) (sl_dn dn Q (dn Q + 1)) (sl_dn nas Q (nas Q)) root (-1) → ¬ keep = 0 → ∀ M G : Nat → Int32,
        post 0 (f_cellLimit, f_definitionLimit, f_depthLimit, f_itemLimit, f_cellCount, f_state, nI (Q + 1), f_rootDefinition, a_kinds, a_firsts, a_seconds, a_widths, a_uses, b_items, upd a_itemKind (Q * 6 + dn Q) 3, a_itemName, a_itemValue, upd a_itemFit (Q * 6 + dn Q) fit, M, G)) →
      (∀ r : Int32, (¬ r = 0 ↔ sl_ans cnt a_kinds a_firsts a_seconds a_widths a_owners a_places a_contents a_childless a_nullable a_growEarly a_growLate f_live (upd a_itemKind (Q * 6 + dn Q) 3) a_itemName a_itemValue (upd a_itemFit (Q * 6 + dn Q) fit) (Q + 1) (sl_dn dn Q (dn Q + 1)) (sl_dn nas Q (nas Q)) root (-1)) → (¬ r = 0 → keep = 0) → ∀ M G : Nat → Int32,
        post (if r = 0 then -8 else 0) (f_cellLimit, f_definitionLimit, f_depthLimit, f_itemLimit, f_cellCount, f_state, nI (Q + 2), f_rootDefinition, a_kinds, a_firsts, a_seconds, a_widths, a_uses, b_items, upd (upd a_itemKind (Q * 6 + dn Q) 3) (Q * 6 + dn Q) 0, a_itemName, a_itemValue, upd a_itemFit (Q * 6 + dn Q) fit, M, G)) → wpY_finish post (f_cellLimit, f_definitionLimit, f_depthLimit, f_itemLimit, f_cellCount, f_state, f_depth, f_rootDefinition, a_kinds, a_firsts, a_seconds, a_widths, a_uses, b_items, a_itemKind, a_itemName, a_itemValue, a_itemFit, a_matches, a_grows) keep := by
    intro post keep h1 h2
    refine sr_fin st dy' (fun e => by omega) (fun Q' e fit' M0 G0 hf' => ?_)
    have eQ : Q' = Q := by omega
    subst eQ
    have ef : fit' = fit := sr_meq (fun j => (hf' j).trans (hfit j).symm)
    rw [ef]
    have back : ∀ r : Int32, (¬ r = 0 ↔ sl_ans cnt a_kinds a_firsts a_seconds a_widths a_owners a_places a_contents a_childless a_nullable a_growEarly a_growLate f_live (upd a_itemKind (Q' * 6 + dn Q') 3) a_itemName a_itemValue (upd a_itemFit (Q' * 6 + dn Q') fit) (Q' + 1) (sl_dn dn Q' (dn Q' + 1)) (sl_dn nas Q' (nas Q')) root (-1)) →
        (¬ r = 0 → keep = 0) → ∀ M G : Nat → Int32,
        wY_finish_130 post (nI (Q' + 1)) (nI (Q' * 6 + dn Q')) r f_cellLimit f_definitionLimit f_depthLimit f_itemLimit f_cellCount f_state (nI (Q' + 1)) f_rootDefinition a_kinds a_firsts a_seconds a_widths a_uses b_items (upd a_itemKind (Q' * 6 + dn Q') 3) a_itemName a_itemValue (upd a_itemFit (Q' * 6 + dn Q') fit) M G := by
      intro r hr' hk M G
      have q := h2 r hr' hk M G
      unfold wY_finish_130 wY_finish_145
      refine And.intro va (nm_r (e' := upd (upd a_itemKind (Q' * 6 + dn Q') 3) (Q' * 6 + dn Q') 0) (by rw [ca]) (nm_r (nI_1 (Q' + 1)) (br_c (fun z => ?_) (fun z => ?_))))
      · rw [if_pos z] at q; exact q
      · rw [if_neg z] at q; exact q
    refine sr_hope H tb lv hn rfl hr r8 cf' hit' (fun an' M G => ?_) (fun an' M G => ?_)
    · refine br_f (by decide) (br_c (fun z => back 1 (sy_11 an') (fun _ => z) M G) (fun z => ?_))
      unfold wY_finish_145
      exact br_f (by decide) (h1 an' z M G)
    · exact br_t rfl (back 0 (sy_00 an') (fun z => absurd rfl z) M G)
  by_cases hA : sl_ans cnt a_kinds a_firsts a_seconds a_widths a_owners a_places a_contents a_childless a_nullable a_growEarly a_growLate f_live (upd a_itemKind (Q * 6 + dn Q) 3) a_itemName a_itemValue (upd a_itemFit (Q * 6 + dn Q) fit) (Q + 1) (sl_dn dn Q (dn Q + 1)) (sl_dn nas Q (nas Q)) root (-1)
  · refine ⟨0, fit, Or.inl rfl, fun _ => ⟨ap, cf', hA⟩, fun post h => ?_, fun post keep h1 h2 => ?_⟩
    · exact goX post (fun nx hx _ => h nx (fun _ => hx)) (fun nx q => absurd (an.1 hA) q)
    · refine goY post keep (fun _ z M G => h1 rfl z M G) (fun r hr' hk M G => ?_)
      have q := hr'.2 hA
      rw [if_neg q]
      exact h2 (fun _ => hk q) M G
  · refine ⟨-8, fit, Or.inr rfl, fun z => absurd z (by decide), fun post h => ?_, fun post keep h1 h2 => ?_⟩
    · exact goX post (fun nx _ q => absurd (an.2 q) hA) (fun nx _ => h nx (fun z => absurd z (by decide)))
    · refine goY post keep (fun q => absurd q hA) (fun r hr' hk M G => ?_)
      have q : r = 0 := Classical.byContradiction (fun z => hA (hr'.1 z))
      rw [if_pos q]
      exact h2 (fun z => absurd z (by decide)) M G
end
end
section
/-! The events as calls of judge and attempt -/
section
variable {f_cellLimit f_definitionLimit f_depthLimit f_itemLimit f_cellCount f_definedCount f_live f_state f_depth : Int32}
variable {a_kinds a_firsts a_seconds a_widths a_uses a_parents a_attributed a_owners a_places a_contents a_items a_names a_late : Nat → Int32} {a_columns a_unused a_childless a_nullable a_growEarly a_growLate a_guards a_residuals a_next : Nat → Int64}
variable {f_rootDefinition : Int32} {b_items a_itemKind a_itemName a_itemValue a_itemFit a_matches a_grows : Nat → Int32}
variable {lim cnt dl dpl itl L root : Nat} {dn nas : Nat → Nat}
/-- what is taken back leaves the relation -/
theorem sr_re (st : sr_St f_cellLimit f_definitionLimit f_depthLimit f_itemLimit f_cellCount f_definedCount f_live a_kinds a_firsts a_seconds a_widths a_uses a_parents a_attributed a_owners a_places a_contents a_columns a_unused a_childless a_nullable a_growEarly a_growLate a_guards lim cnt dl dpl itl) (hs : f_state = 1) (dy : sr_dy cnt a_kinds a_firsts a_seconds a_widths a_owners a_places a_contents a_childless a_nullable a_growEarly a_growLate f_live dpl itl f_depth a_items a_names a_late a_residuals f_rootDefinition b_items a_itemKind a_itemName a_itemValue a_itemFit (L + 1) root dn nas)
    {it' iK' iN' iV' iF' M G : Nat → Int32} (ag : sr_ag (L + 1) dn b_items a_itemKind a_itemName a_itemValue a_itemFit it' iK' iN' iV' iF') :
    ∀ (kk : Nat) (nx : Nat → Int64), i_Rel kk (f_cellLimit, f_definitionLimit, f_depthLimit, f_itemLimit, f_cellCount, f_definedCount, f_live, f_state, f_depth, a_kinds, a_firsts, a_seconds, a_widths, a_uses, a_parents, a_attributed, a_owners, a_places, a_contents, a_columns, a_unused, a_childless, a_nullable, a_growEarly, a_growLate, a_guards, a_items, a_names, a_late, a_residuals, nx) (f_cellLimit, f_definitionLimit, f_depthLimit, f_itemLimit, f_cellCount, f_state, nI (L + 1), f_rootDefinition, a_kinds, a_firsts, a_seconds, a_widths, a_uses, it', iK', iN', iV', iF', M, G) := by
  intro kk nx
  have hD := dy.1
  subst hD
  exact zz_in ⟨lim, cnt, dl, dpl, itl, st, Or.inr ⟨hs, L + 1, root, dn, nas, sr_dy_fr dy ag⟩⟩
theorem sr_ag0 : sr_ag (L + 1) dn b_items a_itemKind a_itemName a_itemValue a_itemFit b_items a_itemKind a_itemName a_itemValue a_itemFit :=
  ⟨fun l _ => rfl, fun l i _ _ => ⟨rfl, rfl, rfl, rfl⟩, fun l _ => ⟨rfl, rfl⟩⟩
theorem sr_re0 (st : sr_St f_cellLimit f_definitionLimit f_depthLimit f_itemLimit f_cellCount f_definedCount f_live a_kinds a_firsts a_seconds a_widths a_uses a_parents a_attributed a_owners a_places a_contents a_columns a_unused a_childless a_nullable a_growEarly a_growLate a_guards lim cnt dl dpl itl) (hs : f_state = 1) (dy : sr_dy cnt a_kinds a_firsts a_seconds a_widths a_owners a_places a_contents a_childless a_nullable a_growEarly a_growLate f_live dpl itl f_depth a_items a_names a_late a_residuals f_rootDefinition b_items a_itemKind a_itemName a_itemValue a_itemFit (L + 1) root dn nas) {M G : Nat → Int32} :
    ∀ (kk : Nat) (nx : Nat → Int64), i_Rel kk (f_cellLimit, f_definitionLimit, f_depthLimit, f_itemLimit, f_cellCount, f_definedCount, f_live, f_state, f_depth, a_kinds, a_firsts, a_seconds, a_widths, a_uses, a_parents, a_attributed, a_owners, a_places, a_contents, a_columns, a_unused, a_childless, a_nullable, a_growEarly, a_growLate, a_guards, a_items, a_names, a_late, a_residuals, nx) (f_cellLimit, f_definitionLimit, f_depthLimit, f_itemLimit, f_cellCount, f_state, f_depth, f_rootDefinition, a_kinds, a_firsts, a_seconds, a_widths, a_uses, b_items, a_itemKind, a_itemName, a_itemValue, a_itemFit, M, G) := by
  have := sr_re (M := M) (G := G) st hs dy sr_ag0
  rw [← dy.1] at this
  exact this
/-- arrays that differ at the place of the next item alone -/
theorem sr_agA (cf : sl_conf f_live a_itemKind a_itemName a_itemValue a_itemFit (L + 1) dn nas) {it' iK' iN' iV' iF' : Nat → Int32} (hi : ∀ l, l < L + 1 → it' l = b_items l)
    (ap : sl_ap a_itemKind a_itemName a_itemValue a_itemFit iK' iN' iV' iF' (L * 6 + dn L)) (n6 : dn L < 6) :
    sr_ag (L + 1) dn b_items a_itemKind a_itemName a_itemValue a_itemFit it' iK' iN' iV' iF' := by
  have lev5 : ∀ l, l + 1 < L + 1 → dn l < 6 := fun l hl => by
    have := (cf.2.2.1 l (by omega)).1
    unfold sl_it at this
    rw [if_pos hl] at this; omega
  refine ⟨hi, fun l i hl hi' => ap _ ?_, fun l hl => ?_⟩
  · by_cases e : l = L
    · rw [e] at hi' ⊢; omega
    · have := lev5 l (by omega); omega
  · have := lev5 l hl
    have q := ap (l * 6 + dn l) (by omega)
    exact ⟨q.1, q.2.1⟩
/-- the head of Y's attempt, for start, attribute, text -/
theorem sr_attH (hs : f_state = 1) (dy : sr_dy cnt a_kinds a_firsts a_seconds a_widths a_owners a_places a_contents a_childless a_nullable a_growEarly a_growLate f_live dpl itl f_depth a_items a_names a_late a_residuals f_rootDefinition b_items a_itemKind a_itemName a_itemValue a_itemFit (L + 1) root dn nas)
    {e : Nat} (he : e < 3) {a b keep : Int32} {post : Int32 → SY → Prop}
    (h7 : e = 1 → ¬ nas L = dn L → post (-7) (f_cellLimit, f_definitionLimit, f_depthLimit, f_itemLimit, f_cellCount, f_state, f_depth, f_rootDefinition, a_kinds, a_firsts, a_seconds, a_widths, a_uses, b_items, a_itemKind, a_itemName, a_itemValue, a_itemFit, a_matches, a_grows))
    (h : (e = 1 → nas L = dn L) → wY_attempt_88 post (nI e) a b keep (nI L) (nI (dn L)) (nI (L * 6 + dn L)) f_cellLimit f_definitionLimit f_depthLimit f_itemLimit f_cellCount f_state f_depth f_rootDefinition a_kinds a_firsts a_seconds a_widths a_uses b_items a_itemKind a_itemName a_itemValue a_itemFit a_matches a_grows) :
    wpY_attempt post (f_cellLimit, f_definitionLimit, f_depthLimit, f_itemLimit, f_cellCount, f_state, f_depth, f_rootDefinition, a_kinds, a_firsts, a_seconds, a_widths, a_uses, b_items, a_itemKind, a_itemName, a_itemValue, a_itemFit, a_matches, a_grows) (nI e) a b keep := by
  obtain ⟨hD, _, _, _, cf, hit, _⟩ := dy
  have L5 : L < 5 := by have := cf.2.1; omega
  have eL : (nI L).toNatClampNeg = L := sx_cl 5 L5
  have vL : vp_in (nI L) 5 := vp_in_nI L5 (by decide)
  have itL : sl_it (L + 1) dn L = dn L := if_neg (by omega)
  have bL : b_items L = nI (dn L) := by rw [(hit L (by omega)).2.1, itL]
  have n6 := (cf.2.2.1 L (by omega)).1
  rw [itL] at n6
  have hna := (cf.2.2.1 L (by omega)).2.1
  unfold wpY_attempt
  refine br_f (nI_pos (by omega)) (br_t (nI_le (b := 3) (by omega) (by decide)) (br_t hs (br_f (fun z => absurd (sx_nIne (b := 3) (by omega) (by decide) z) (by omega)) ?_)))
  refine nm_r (e' := nI L) (by rw [hD]; exact nI_pred L) (And.intro vL (nm_r (e' := nI (dn L)) (by rw [eL, bL]) (nm_r (e' := nI (L * 6 + dn L)) (by rw [show (6 : Int32) = nI 6 from rfl, pk_mul, nI_add]) ?_)))
  refine br_c (fun e1 => ?_) (fun e1 => h (fun z => absurd (show nI e = 1 by rw [z]; rfl) e1))
  have e1' : e = 1 := sx_nIne (b := 1) (by omega) (by decide) e1
  refine br_c (fun z => h (fun _ => ?_)) (fun z => ?_)
  · rw [show (0 : Int32) = nI 0 from rfl, nI_leI (by omega) (by decide)] at z
    have := hna.1; omega
  · rw [show (0 : Int32) = nI 0 from rfl, nI_leI (by omega) (by decide)] at z
    have ep : nI (L * 6 + dn L) - 1 = nI (L * 6 + (dn L - 1)) := by
      rw [show L * 6 + dn L = L * 6 + (dn L - 1) + 1 by omega]; exact nI_pred _
    have cp : (nI (L * 6 + (dn L - 1))).toNatClampNeg = L * 6 + (dn L - 1) := sx_cl 30 (by omega)
    have k1 := hna.2 (dn L - 1) (by omega)
    rw [ep, cp]
    refine And.intro (vp_in_nI (by omega) (by decide)) (br_c (fun w => h (fun _ => ?_)) (fun w => h7 e1' (fun y => w (k1.2 (by omega)))))
    have := k1.1 w
    have := hna.1
    omega
/-- text -/
theorem sr_ev2 (st : sr_St f_cellLimit f_definitionLimit f_depthLimit f_itemLimit f_cellCount f_definedCount f_live a_kinds a_firsts a_seconds a_widths a_uses a_parents a_attributed a_owners a_places a_contents a_columns a_unused a_childless a_nullable a_growEarly a_growLate a_guards lim cnt dl dpl itl) (hs : f_state = 1) (dy : sr_dy cnt a_kinds a_firsts a_seconds a_widths a_owners a_places a_contents a_childless a_nullable a_growEarly a_growLate f_live dpl itl f_depth a_items a_names a_late a_residuals f_rootDefinition b_items a_itemKind a_itemName a_itemValue a_itemFit (L + 1) root dn nas) (a b : Int32) :
    ∃ (r : Int32) (INFO : (Nat → Int64) → Prop) (KEPT : SY → Prop),
      (∀ post : Int32 → SX → Prop, (∀ nx : Nat → Int64, (r = 0 → INFO nx) → post r (f_cellLimit, f_definitionLimit, f_depthLimit, f_itemLimit, f_cellCount, f_definedCount, f_live, f_state, f_depth, a_kinds, a_firsts, a_seconds, a_widths, a_uses, a_parents, a_attributed, a_owners, a_places, a_contents, a_columns, a_unused, a_childless, a_nullable, a_growEarly, a_growLate, a_guards, a_items, a_names, a_late, a_residuals, nx)) → wpX_judge post (f_cellLimit, f_definitionLimit, f_depthLimit, f_itemLimit, f_cellCount, f_definedCount, f_live, f_state, f_depth, a_kinds, a_firsts, a_seconds, a_widths, a_uses, a_parents, a_attributed, a_owners, a_places, a_contents, a_columns, a_unused, a_childless, a_nullable, a_growEarly, a_growLate, a_guards, a_items, a_names, a_late, a_residuals, a_next) 2 a b) ∧
      (∀ (post : Int32 → SY → Prop) (keep : Int32), (r = 0 → ¬ keep = 0 → ∀ v', KEPT v' → post r v') → ((r = 0 → keep = 0) → ∀ v', (∀ (kk : Nat) (nx : Nat → Int64), i_Rel kk (f_cellLimit, f_definitionLimit, f_depthLimit, f_itemLimit, f_cellCount, f_definedCount, f_live, f_state, f_depth, a_kinds, a_firsts, a_seconds, a_widths, a_uses, a_parents, a_attributed, a_owners, a_places, a_contents, a_columns, a_unused, a_childless, a_nullable, a_growEarly, a_growLate, a_guards, a_items, a_names, a_late, a_residuals, nx) v') → post r v') → wpY_attempt post (f_cellLimit, f_definitionLimit, f_depthLimit, f_itemLimit, f_cellCount, f_state, f_depth, f_rootDefinition, a_kinds, a_firsts, a_seconds, a_widths, a_uses, b_items, a_itemKind, a_itemName, a_itemValue, a_itemFit, a_matches, a_grows) 2 a b keep) ∧
      (r = 0 → ∀ v' nx rs kk, KEPT v' → INFO nx → (∀ k, k < 8 → rs (L * 8 + k) = nx k) → (∀ i, ¬ (L * 8 ≤ i ∧ i < L * 8 + 8) → rs i = a_residuals i) →
        i_Rel kk (f_cellLimit, f_definitionLimit, f_depthLimit, f_itemLimit, f_cellCount, f_definedCount, f_live, f_state, f_depth, a_kinds, a_firsts, a_seconds, a_widths, a_uses, a_parents, a_attributed, a_owners, a_places, a_contents, a_columns, a_unused, a_childless, a_nullable, a_growEarly, a_growLate, a_guards, upd a_items L (a_items L + 1), a_names, upd a_late L 1, rs, nx) v') := by
  obtain ⟨hD, _, _, _, cf, hit, hlat, _⟩ := id dy
  obtain ⟨_, _, _, ⟨hil, il6⟩, _⟩ := id st
  have L5 : L < 5 := by have := cf.2.1; omega
  have itL : sl_it (L + 1) dn L = dn L := if_neg (by omega)
  have ed : f_depth - 1 = nI L := by rw [hD]; exact nI_pred L
  have eL : (nI L).toNatClampNeg = L := sx_cl 5 L5
  have vL : vp_in (nI L) 5 := vp_in_nI L5 (by decide)
  have xL : a_items L = nI (dn L) := by rw [(hit L (by omega)).1, itL]
  have bL : b_items L = nI (dn L) := by rw [(hit L (by omega)).2.1, itL]
  have lim : nI (dn L) < f_itemLimit ↔ dn L < itl := by rw [hil]; exact nI_ltI (by have := (hit L (by omega)).2.2; omega) (by omega)
  have hX : ∀ post : Int32 → SX → Prop, ((nI (dn L) < f_itemLimit → wpX_step (fun r u => match u with | (f_cellLimit, f_definitionLimit, f_depthLimit, f_itemLimit, f_cellCount, f_definedCount, f_live, f_state, f_depth, a_kinds, a_firsts, a_seconds, a_widths, a_uses, a_parents, a_attributed, a_owners, a_places, a_contents, a_columns, a_unused, a_childless, a_nullable, a_growEarly, a_growLate, a_guards, a_items, a_names, a_late, a_residuals, a_next) => post r (f_cellLimit, f_definitionLimit, f_depthLimit, f_itemLimit, f_cellCount, f_definedCount, f_live, f_state, f_depth, a_kinds, a_firsts, a_seconds, a_widths, a_uses, a_parents, a_attributed, a_owners, a_places, a_contents, a_columns, a_unused, a_childless, a_nullable, a_growEarly, a_growLate, a_guards, a_items, a_names, a_late, a_residuals, a_next)) (f_cellLimit, f_definitionLimit, f_depthLimit, f_itemLimit, f_cellCount, f_definedCount, f_live, f_state, f_depth, a_kinds, a_firsts, a_seconds, a_widths, a_uses, a_parents, a_attributed, a_owners, a_places, a_contents, a_columns, a_unused, a_childless, a_nullable, a_growEarly, a_growLate, a_guards, a_items, a_names, a_late, a_residuals, a_next) (nI L) 1 0 0) ∧ (¬ nI (dn L) < f_itemLimit → post (-3) (f_cellLimit, f_definitionLimit, f_depthLimit, f_itemLimit, f_cellCount, f_definedCount, f_live, f_state, f_depth, a_kinds, a_firsts, a_seconds, a_widths, a_uses, a_parents, a_attributed, a_owners, a_places, a_contents, a_columns, a_unused, a_childless, a_nullable, a_growEarly, a_growLate, a_guards, a_items, a_names, a_late, a_residuals, a_next))) → wpX_judge post (f_cellLimit, f_definitionLimit, f_depthLimit, f_itemLimit, f_cellCount, f_definedCount, f_live, f_state, f_depth, a_kinds, a_firsts, a_seconds, a_widths, a_uses, a_parents, a_attributed, a_owners, a_places, a_contents, a_columns, a_unused, a_childless, a_nullable, a_growEarly, a_growLate, a_guards, a_items, a_names, a_late, a_residuals, a_next) 2 a b := by
    intro post h
    unfold wpX_judge wpX_judgeText
    refine br_t hs (br_f (by decide) (br_f (by decide) (br_t rfl ?_)))
    dsimp only
    rw [ed, eL, xL]
    exact And.intro vL h
  have hY : ∀ (post : Int32 → SY → Prop) (keep : Int32), wY_attempt_139 post 2 a b keep (nI L) (nI (dn L)) (nI (L * 6 + dn L)) f_cellLimit f_definitionLimit f_depthLimit f_itemLimit f_cellCount f_state f_depth f_rootDefinition a_kinds a_firsts a_seconds a_widths a_uses b_items a_itemKind a_itemName a_itemValue a_itemFit a_matches a_grows → wpY_attempt post (f_cellLimit, f_definitionLimit, f_depthLimit, f_itemLimit, f_cellCount, f_state, f_depth, f_rootDefinition, a_kinds, a_firsts, a_seconds, a_widths, a_uses, b_items, a_itemKind, a_itemName, a_itemValue, a_itemFit, a_matches, a_grows) 2 a b keep := by
    intro post keep h
    refine sr_attH (e := 2) hs dy (by omega) (fun z => absurd z (by decide)) (fun _ => ?_)
    unfold wY_attempt_88 wY_attempt_106 wY_attempt_124
    exact br_t rfl (br_f (by decide) (br_f (by decide) h))
  by_cases full : dn L < itl
  · obtain ⟨r, r01, na', _, n2, hN, hXs, hYs⟩ := sr_item (v := 2) (kind := 1) (x2 := a) (x3 := b) (name := 0) (extra := 0) st dy (Or.inr ⟨rfl, rfl⟩) full
    have n6 : dn L < 6 := by omega
    refine ⟨r, fun nx => ∀ k t, k < 8 → sd_S6 t → (sd_lb (nx k) t ↔ sl_poss cnt a_kinds a_firsts a_seconds a_widths a_owners a_places a_contents a_childless a_nullable a_growEarly a_growLate f_live a_itemKind a_itemName a_itemValue a_itemFit dn nas root L k ∧
          sl_row cnt a_kinds a_firsts a_seconds a_widths a_owners a_places a_contents a_childless a_nullable a_growEarly a_growLate (upd a_itemKind (L * 6 + dn L) 2) (upd a_itemName (L * 6 + dn L) a) (upd a_itemValue (L * 6 + dn L) b) a_itemFit L (dn L + 1) na' 0 k t),
      fun v' => ∃ M G : Nat → Int32, v' = (f_cellLimit, f_definitionLimit, f_depthLimit, f_itemLimit, f_cellCount, f_state, f_depth, f_rootDefinition, a_kinds, a_firsts, a_seconds, a_widths, a_uses, upd b_items L (nI (dn L + 1)), upd a_itemKind (L * 6 + dn L) 2, upd a_itemName (L * 6 + dn L) a, upd a_itemValue (L * 6 + dn L) b, a_itemFit, M, G),
      fun post h => hX post (br_t (lim.2 full) (hXs _ h)), fun post keep h1 h2 => hY post keep (hYs post keep (fun r0 k0 M G => ?_) (fun q M G => h2 q _ (sr_re st hs dy ?_))), fun r0 v' nx rs kk => ?_⟩
    · have := h1 r0 k0 _ ⟨M, G, rfl⟩
      rw [r0] at this; exact this
    · refine sr_agA cf (fun l hl => ?_) (fun b' hb => ⟨pk_un hb, pk_un hb, pk_un hb, rfl⟩) n6
      by_cases e : l = L
      · rw [e, pk_us, bL]
      · rw [pk_un e, pk_un e]
    · rintro ⟨M, G, rfl⟩ inf k1 k2
      obtain ⟨ap, cf', an⟩ := hN r0
      have nn := n2 rfl
      have hna := (cf.2.2.1 L (by omega)).2.1
      have itn : ∀ l, l < L → sl_it (L + 1) (sl_dn dn L (dn L + 1)) l = sl_it (L + 1) dn l := fun l hl => by
        unfold sl_it; rw [if_pos (by omega), if_pos (by omega), sl_dn_n (by omega)]
      have itL' : sl_it (L + 1) (sl_dn dn L (dn L + 1)) L = dn L + 1 := by unfold sl_it; rw [if_neg (by omega), sl_dn_s]
      refine zz_in ⟨_, cnt, dl, dpl, itl, st, Or.inr ⟨hs, L + 1, root, sl_dn dn L (dn L + 1), sl_dn nas L na', sr_app_dy dy (by omega) n6 ap cf' hD (fun l hl => ?_) (by omega) (fun l hl => pk_un (by omega)) ?_ (fun k t hk t6 => ?_) (fun l k hl hk => k2 _ (by omega)) an⟩⟩
      · by_cases e : l = L
        · rw [e, pk_us, pk_us, itL', xL, nI_1]; exact ⟨rfl, rfl⟩
        · rw [pk_un e, pk_un e, itn l (by omega)]; exact ⟨(hit l hl).1, (hit l hl).2.1⟩
      · rw [pk_us]
        exact ⟨fun z => absurd z (by decide), fun z => by have := hna.1; omega⟩
      · rw [k1 k hk]; exact inf k t hk t6
  · refine ⟨-3, fun _ => True, fun _ => False, fun post h => hX post (br_f (fun z => full (lim.1 z)) (h a_next (fun _ => trivial))), fun post keep h1 h2 => hY post keep ?_, fun z => absurd z (by decide)⟩
    unfold wY_attempt_139
    exact br_f (fun z => full (lim.1 z)) (h2 (fun z => absurd z (by decide)) _ (sr_re0 st hs dy))
/-- attribute -/
theorem sr_ev1 (st : sr_St f_cellLimit f_definitionLimit f_depthLimit f_itemLimit f_cellCount f_definedCount f_live a_kinds a_firsts a_seconds a_widths a_uses a_parents a_attributed a_owners a_places a_contents a_columns a_unused a_childless a_nullable a_growEarly a_growLate a_guards lim cnt dl dpl itl) (hs : f_state = 1) (dy : sr_dy cnt a_kinds a_firsts a_seconds a_widths a_owners a_places a_contents a_childless a_nullable a_growEarly a_growLate f_live dpl itl f_depth a_items a_names a_late a_residuals f_rootDefinition b_items a_itemKind a_itemName a_itemValue a_itemFit (L + 1) root dn nas) (a b : Int32) :
    ∃ (r : Int32) (INFO : (Nat → Int64) → Prop) (KEPT : SY → Prop),
      (∀ post : Int32 → SX → Prop, (∀ nx : Nat → Int64, (r = 0 → INFO nx) → post r (f_cellLimit, f_definitionLimit, f_depthLimit, f_itemLimit, f_cellCount, f_definedCount, f_live, f_state, f_depth, a_kinds, a_firsts, a_seconds, a_widths, a_uses, a_parents, a_attributed, a_owners, a_places, a_contents, a_columns, a_unused, a_childless, a_nullable, a_growEarly, a_growLate, a_guards, a_items, a_names, a_late, a_residuals, nx)) → wpX_judge post (f_cellLimit, f_definitionLimit, f_depthLimit, f_itemLimit, f_cellCount, f_definedCount, f_live, f_state, f_depth, a_kinds, a_firsts, a_seconds, a_widths, a_uses, a_parents, a_attributed, a_owners, a_places, a_contents, a_columns, a_unused, a_childless, a_nullable, a_growEarly, a_growLate, a_guards, a_items, a_names, a_late, a_residuals, a_next) 1 a b) ∧
      (∀ (post : Int32 → SY → Prop) (keep : Int32), (r = 0 → ¬ keep = 0 → ∀ v', KEPT v' → post r v') → ((r = 0 → keep = 0) → ∀ v', (∀ (kk : Nat) (nx : Nat → Int64), i_Rel kk (f_cellLimit, f_definitionLimit, f_depthLimit, f_itemLimit, f_cellCount, f_definedCount, f_live, f_state, f_depth, a_kinds, a_firsts, a_seconds, a_widths, a_uses, a_parents, a_attributed, a_owners, a_places, a_contents, a_columns, a_unused, a_childless, a_nullable, a_growEarly, a_growLate, a_guards, a_items, a_names, a_late, a_residuals, nx) v') → post r v') → wpY_attempt post (f_cellLimit, f_definitionLimit, f_depthLimit, f_itemLimit, f_cellCount, f_state, f_depth, f_rootDefinition, a_kinds, a_firsts, a_seconds, a_widths, a_uses, b_items, a_itemKind, a_itemName, a_itemValue, a_itemFit, a_matches, a_grows) 1 a b keep) ∧
      (r = 0 → ∀ v' nx rs kk, KEPT v' → INFO nx → (∀ k, k < 8 → rs (L * 8 + k) = nx k) → (∀ i, ¬ (L * 8 ≤ i ∧ i < L * 8 + 8) → rs i = a_residuals i) →
        i_Rel kk (f_cellLimit, f_definitionLimit, f_depthLimit, f_itemLimit, f_cellCount, f_definedCount, f_live, f_state, f_depth, a_kinds, a_firsts, a_seconds, a_widths, a_uses, a_parents, a_attributed, a_owners, a_places, a_contents, a_columns, a_unused, a_childless, a_nullable, a_growEarly, a_growLate, a_guards, upd a_items L (a_items L + 1), a_names, a_late, rs, nx) v') := by
  obtain ⟨hD, _, _, _, cf, hit, hlat, _⟩ := id dy
  obtain ⟨_, _, _, ⟨hil, il6⟩, _⟩ := id st
  have L5 : L < 5 := by have := cf.2.1; omega
  have itL : sl_it (L + 1) dn L = dn L := if_neg (by omega)
  have ed : f_depth - 1 = nI L := by rw [hD]; exact nI_pred L
  have eL : (nI L).toNatClampNeg = L := sx_cl 5 L5
  have vL : vp_in (nI L) 5 := vp_in_nI L5 (by decide)
  have xL : a_items L = nI (dn L) := by rw [(hit L (by omega)).1, itL]
  have bL : b_items L = nI (dn L) := by rw [(hit L (by omega)).2.1, itL]
  have lt : a_late L = 0 ↔ nas L = dn L := by rw [hlat L (by omega), itL]
  have lim : nI (dn L) < f_itemLimit ↔ dn L < itl := by rw [hil]; exact nI_ltI (by have := (hit L (by omega)).2.2; omega) (by omega)
  -- X's head
  have hX : ∀ post : Int32 → SX → Prop, ((a_late L = 0 → ((a < 0 → post (-2) (f_cellLimit, f_definitionLimit, f_depthLimit, f_itemLimit, f_cellCount, f_definedCount, f_live, f_state, f_depth, a_kinds, a_firsts, a_seconds, a_widths, a_uses, a_parents, a_attributed, a_owners, a_places, a_contents, a_columns, a_unused, a_childless, a_nullable, a_growEarly, a_growLate, a_guards, a_items, a_names, a_late, a_residuals, a_next)) ∧ (¬ a < 0 → ((7 < a → post (-2) (f_cellLimit, f_definitionLimit, f_depthLimit, f_itemLimit, f_cellCount, f_definedCount, f_live, f_state, f_depth, a_kinds, a_firsts, a_seconds, a_widths, a_uses, a_parents, a_attributed, a_owners, a_places, a_contents, a_columns, a_unused, a_childless, a_nullable, a_growEarly, a_growLate, a_guards, a_items, a_names, a_late, a_residuals, a_next)) ∧ (¬ 7 < a → ((b < 0 → post (-2) (f_cellLimit, f_definitionLimit, f_depthLimit, f_itemLimit, f_cellCount, f_definedCount, f_live, f_state, f_depth, a_kinds, a_firsts, a_seconds, a_widths, a_uses, a_parents, a_attributed, a_owners, a_places, a_contents, a_columns, a_unused, a_childless, a_nullable, a_growEarly, a_growLate, a_guards, a_items, a_names, a_late, a_residuals, a_next)) ∧ (¬ b < 0 → ((b ≤ 7 → ((nI (dn L) < f_itemLimit → wpX_step (fun r u => match u with | (f_cellLimit, f_definitionLimit, f_depthLimit, f_itemLimit, f_cellCount, f_definedCount, f_live, f_state, f_depth, a_kinds, a_firsts, a_seconds, a_widths, a_uses, a_parents, a_attributed, a_owners, a_places, a_contents, a_columns, a_unused, a_childless, a_nullable, a_growEarly, a_growLate, a_guards, a_items, a_names, a_late, a_residuals, a_next) => post r (f_cellLimit, f_definitionLimit, f_depthLimit, f_itemLimit, f_cellCount, f_definedCount, f_live, f_state, f_depth, a_kinds, a_firsts, a_seconds, a_widths, a_uses, a_parents, a_attributed, a_owners, a_places, a_contents, a_columns, a_unused, a_childless, a_nullable, a_growEarly, a_growLate, a_guards, a_items, a_names, a_late, a_residuals, a_next)) (f_cellLimit, f_definitionLimit, f_depthLimit, f_itemLimit, f_cellCount, f_definedCount, f_live, f_state, f_depth, a_kinds, a_firsts, a_seconds, a_widths, a_uses, a_parents, a_attributed, a_owners, a_places, a_contents, a_columns, a_unused, a_childless, a_nullable, a_growEarly, a_growLate, a_guards, a_items, a_names, a_late, a_residuals, a_next) (nI L) 2 a b) ∧ (¬ nI (dn L) < f_itemLimit → post (-3) (f_cellLimit, f_definitionLimit, f_depthLimit, f_itemLimit, f_cellCount, f_definedCount, f_live, f_state, f_depth, a_kinds, a_firsts, a_seconds, a_widths, a_uses, a_parents, a_attributed, a_owners, a_places, a_contents, a_columns, a_unused, a_childless, a_nullable, a_growEarly, a_growLate, a_guards, a_items, a_names, a_late, a_residuals, a_next)))) ∧ (¬ b ≤ 7 → post (-2) (f_cellLimit, f_definitionLimit, f_depthLimit, f_itemLimit, f_cellCount, f_definedCount, f_live, f_state, f_depth, a_kinds, a_firsts, a_seconds, a_widths, a_uses, a_parents, a_attributed, a_owners, a_places, a_contents, a_columns, a_unused, a_childless, a_nullable, a_growEarly, a_growLate, a_guards, a_items, a_names, a_late, a_residuals, a_next)))))))))) ∧ (¬ a_late L = 0 → post (-7) (f_cellLimit, f_definitionLimit, f_depthLimit, f_itemLimit, f_cellCount, f_definedCount, f_live, f_state, f_depth, a_kinds, a_firsts, a_seconds, a_widths, a_uses, a_parents, a_attributed, a_owners, a_places, a_contents, a_columns, a_unused, a_childless, a_nullable, a_growEarly, a_growLate, a_guards, a_items, a_names, a_late, a_residuals, a_next))) → wpX_judge post (f_cellLimit, f_definitionLimit, f_depthLimit, f_itemLimit, f_cellCount, f_definedCount, f_live, f_state, f_depth, a_kinds, a_firsts, a_seconds, a_widths, a_uses, a_parents, a_attributed, a_owners, a_places, a_contents, a_columns, a_unused, a_childless, a_nullable, a_growEarly, a_growLate, a_guards, a_items, a_names, a_late, a_residuals, a_next) 1 a b := by
    intro post h
    unfold wpX_judge wpX_judgeAttribute
    refine br_t hs (br_f (by decide) (br_t rfl ?_))
    dsimp only
    rw [ed, eL, xL]
    refine And.intro vL ⟨fun z => ⟨fun z1 => (h.1 z).1 z1, fun z1 => ⟨fun z2 => ((h.1 z).2 z1).1 z2, fun z2 => ⟨fun z3 => (((h.1 z).2 z1).2 z2).1 z3, fun z3 => ⟨fun z4 => ?_, fun z4 => ((((h.1 z).2 z1).2 z2).2 z3).2 z4⟩⟩⟩⟩, fun z => h.2 z⟩
    exact And.intro vL (((((h.1 z).2 z1).2 z2).2 z3).1 z4)
  have hR : ∀ (r : Int32), ¬ r = 0 → (∀ post : Int32 → SX → Prop, post r (f_cellLimit, f_definitionLimit, f_depthLimit, f_itemLimit, f_cellCount, f_definedCount, f_live, f_state, f_depth, a_kinds, a_firsts, a_seconds, a_widths, a_uses, a_parents, a_attributed, a_owners, a_places, a_contents, a_columns, a_unused, a_childless, a_nullable, a_growEarly, a_growLate, a_guards, a_items, a_names, a_late, a_residuals, a_next) → wpX_judge post (f_cellLimit, f_definitionLimit, f_depthLimit, f_itemLimit, f_cellCount, f_definedCount, f_live, f_state, f_depth, a_kinds, a_firsts, a_seconds, a_widths, a_uses, a_parents, a_attributed, a_owners, a_places, a_contents, a_columns, a_unused, a_childless, a_nullable, a_growEarly, a_growLate, a_guards, a_items, a_names, a_late, a_residuals, a_next) 1 a b) → (∀ (post : Int32 → SY → Prop) (keep : Int32), post r (f_cellLimit, f_definitionLimit, f_depthLimit, f_itemLimit, f_cellCount, f_state, f_depth, f_rootDefinition, a_kinds, a_firsts, a_seconds, a_widths, a_uses, b_items, a_itemKind, a_itemName, a_itemValue, a_itemFit, a_matches, a_grows) → wpY_attempt post (f_cellLimit, f_definitionLimit, f_depthLimit, f_itemLimit, f_cellCount, f_state, f_depth, f_rootDefinition, a_kinds, a_firsts, a_seconds, a_widths, a_uses, b_items, a_itemKind, a_itemName, a_itemValue, a_itemFit, a_matches, a_grows) 1 a b keep) →
      ∃ (r : Int32) (INFO : (Nat → Int64) → Prop) (KEPT : SY → Prop),
      (∀ post : Int32 → SX → Prop, (∀ nx : Nat → Int64, (r = 0 → INFO nx) → post r (f_cellLimit, f_definitionLimit, f_depthLimit, f_itemLimit, f_cellCount, f_definedCount, f_live, f_state, f_depth, a_kinds, a_firsts, a_seconds, a_widths, a_uses, a_parents, a_attributed, a_owners, a_places, a_contents, a_columns, a_unused, a_childless, a_nullable, a_growEarly, a_growLate, a_guards, a_items, a_names, a_late, a_residuals, nx)) → wpX_judge post (f_cellLimit, f_definitionLimit, f_depthLimit, f_itemLimit, f_cellCount, f_definedCount, f_live, f_state, f_depth, a_kinds, a_firsts, a_seconds, a_widths, a_uses, a_parents, a_attributed, a_owners, a_places, a_contents, a_columns, a_unused, a_childless, a_nullable, a_growEarly, a_growLate, a_guards, a_items, a_names, a_late, a_residuals, a_next) 1 a b) ∧
      (∀ (post : Int32 → SY → Prop) (keep : Int32), (r = 0 → ¬ keep = 0 → ∀ v', KEPT v' → post r v') → ((r = 0 → keep = 0) → ∀ v', (∀ (kk : Nat) (nx : Nat → Int64), i_Rel kk (f_cellLimit, f_definitionLimit, f_depthLimit, f_itemLimit, f_cellCount, f_definedCount, f_live, f_state, f_depth, a_kinds, a_firsts, a_seconds, a_widths, a_uses, a_parents, a_attributed, a_owners, a_places, a_contents, a_columns, a_unused, a_childless, a_nullable, a_growEarly, a_growLate, a_guards, a_items, a_names, a_late, a_residuals, nx) v') → post r v') → wpY_attempt post (f_cellLimit, f_definitionLimit, f_depthLimit, f_itemLimit, f_cellCount, f_state, f_depth, f_rootDefinition, a_kinds, a_firsts, a_seconds, a_widths, a_uses, b_items, a_itemKind, a_itemName, a_itemValue, a_itemFit, a_matches, a_grows) 1 a b keep) ∧
      (r = 0 → ∀ v' nx rs kk, KEPT v' → INFO nx → (∀ k, k < 8 → rs (L * 8 + k) = nx k) → (∀ i, ¬ (L * 8 ≤ i ∧ i < L * 8 + 8) → rs i = a_residuals i) →
        i_Rel kk (f_cellLimit, f_definitionLimit, f_depthLimit, f_itemLimit, f_cellCount, f_definedCount, f_live, f_state, f_depth, a_kinds, a_firsts, a_seconds, a_widths, a_uses, a_parents, a_attributed, a_owners, a_places, a_contents, a_columns, a_unused, a_childless, a_nullable, a_growEarly, a_growLate, a_guards, upd a_items L (a_items L + 1), a_names, a_late, rs, nx) v') := by
    intro r rn gx gy
    exact ⟨r, fun _ => True, fun _ => False, fun post h => gx post (h a_next (fun _ => trivial)), fun post keep h1 h2 => gy post keep (h2 (fun z => absurd z rn) _ (sr_re0 st hs dy)), fun z => absurd z rn⟩
  by_cases la : a_late L = 0
  · have nl := lt.1 la
    have hY : ∀ (post : Int32 → SY → Prop) (keep : Int32), wY_attempt_88 post 1 a b keep (nI L) (nI (dn L)) (nI (L * 6 + dn L)) f_cellLimit f_definitionLimit f_depthLimit f_itemLimit f_cellCount f_state f_depth f_rootDefinition a_kinds a_firsts a_seconds a_widths a_uses b_items a_itemKind a_itemName a_itemValue a_itemFit a_matches a_grows → wpY_attempt post (f_cellLimit, f_definitionLimit, f_depthLimit, f_itemLimit, f_cellCount, f_state, f_depth, f_rootDefinition, a_kinds, a_firsts, a_seconds, a_widths, a_uses, b_items, a_itemKind, a_itemName, a_itemValue, a_itemFit, a_matches, a_grows) 1 a b keep :=
      fun post keep h => sr_attH (e := 1) hs dy (by omega) (fun _ z => absurd nl z) (fun _ => h)
    by_cases a0 : a < 0
    · refine hR (-2) (by decide) (fun post h => hX post (br_t la (br_t a0 h))) (fun post keep h => hY post keep ?_)
      unfold wY_attempt_88
      exact br_f (by decide) (br_t a0 h)
    · by_cases a7 : 7 < a
      · refine hR (-2) (by decide) (fun post h => hX post (br_t la (br_f a0 (br_t a7 h)))) (fun post keep h => hY post keep ?_)
        unfold wY_attempt_88
        exact br_f (by decide) (br_f a0 (br_f (Int32.not_le.2 a7) h))
      · by_cases b0 : b < 0
        · refine hR (-2) (by decide) (fun post h => hX post (br_t la (br_f a0 (br_f a7 (br_t b0 h))))) (fun post keep h => hY post keep ?_)
          unfold wY_attempt_88 wY_attempt_106
          exact br_f (by decide) (br_f a0 (br_t (Int32.not_lt.1 a7) (br_t rfl (br_t b0 h))))
        · by_cases b7 : b ≤ 7
          · have hY2 : ∀ (post : Int32 → SY → Prop) (keep : Int32), wY_attempt_139 post 1 a b keep (nI L) (nI (dn L)) (nI (L * 6 + dn L)) f_cellLimit f_definitionLimit f_depthLimit f_itemLimit f_cellCount f_state f_depth f_rootDefinition a_kinds a_firsts a_seconds a_widths a_uses b_items a_itemKind a_itemName a_itemValue a_itemFit a_matches a_grows → wpY_attempt post (f_cellLimit, f_definitionLimit, f_depthLimit, f_itemLimit, f_cellCount, f_state, f_depth, f_rootDefinition, a_kinds, a_firsts, a_seconds, a_widths, a_uses, b_items, a_itemKind, a_itemName, a_itemValue, a_itemFit, a_matches, a_grows) 1 a b keep := by
              intro post keep h
              refine hY post keep ?_
              unfold wY_attempt_88 wY_attempt_106 wY_attempt_124
              exact br_f (by decide) (br_f a0 (br_t (Int32.not_lt.1 a7) (br_t rfl (br_f b0 (br_t b7 (br_f (by decide) h))))))
            by_cases full : dn L < itl
            · obtain ⟨r, r01, na', n1, _, hN, hXs, hYs⟩ := sr_item (v := 1) (kind := 2) (x2 := a) (x3 := b) (name := a) (extra := b) st dy (Or.inl ⟨rfl, rfl, rfl, rfl, nl⟩) full
              have n6 : dn L < 6 := by omega
              refine ⟨r, fun nx => ∀ k t, k < 8 → sd_S6 t → (sd_lb (nx k) t ↔ sl_poss cnt a_kinds a_firsts a_seconds a_widths a_owners a_places a_contents a_childless a_nullable a_growEarly a_growLate f_live a_itemKind a_itemName a_itemValue a_itemFit dn nas root L k ∧
                    sl_row cnt a_kinds a_firsts a_seconds a_widths a_owners a_places a_contents a_childless a_nullable a_growEarly a_growLate (upd a_itemKind (L * 6 + dn L) 1) (upd a_itemName (L * 6 + dn L) a) (upd a_itemValue (L * 6 + dn L) b) a_itemFit L (dn L + 1) na' 0 k t),
                fun v' => ∃ M G : Nat → Int32, v' = (f_cellLimit, f_definitionLimit, f_depthLimit, f_itemLimit, f_cellCount, f_state, f_depth, f_rootDefinition, a_kinds, a_firsts, a_seconds, a_widths, a_uses, upd b_items L (nI (dn L + 1)), upd a_itemKind (L * 6 + dn L) 1, upd a_itemName (L * 6 + dn L) a, upd a_itemValue (L * 6 + dn L) b, a_itemFit, M, G),
                fun post h => hX post (br_t la (br_f a0 (br_f a7 (br_f b0 (br_t b7 (br_t (lim.2 full) (hXs _ h))))))), fun post keep h1 h2 => hY2 post keep (hYs post keep (fun r0 k0 M G => ?_) (fun q M G => h2 q _ (sr_re st hs dy ?_))), fun r0 v' nx rs kk => ?_⟩
              · have := h1 r0 k0 _ ⟨M, G, rfl⟩
                rw [r0] at this; exact this
              · refine sr_agA cf (fun l hl => ?_) (fun b' hb => ⟨pk_un hb, pk_un hb, pk_un hb, rfl⟩) n6
                by_cases e : l = L
                · rw [e, pk_us, bL]
                · rw [pk_un e, pk_un e]
              · rintro ⟨M, G, rfl⟩ inf k1 k2
                obtain ⟨ap, cf', an⟩ := hN r0
                have nn := n1 rfl
                have itn : ∀ l, l < L → sl_it (L + 1) (sl_dn dn L (dn L + 1)) l = sl_it (L + 1) dn l := fun l hl => by
                  unfold sl_it; rw [if_pos (by omega), if_pos (by omega), sl_dn_n (by omega)]
                have itL' : sl_it (L + 1) (sl_dn dn L (dn L + 1)) L = dn L + 1 := by unfold sl_it; rw [if_neg (by omega), sl_dn_s]
                refine zz_in ⟨_, cnt, dl, dpl, itl, st, Or.inr ⟨hs, L + 1, root, sl_dn dn L (dn L + 1), sl_dn nas L na', sr_app_dy dy (by omega) n6 ap cf' hD (fun l hl => ?_) (by omega) (fun l hl => rfl) ?_ (fun k t hk t6 => ?_) (fun l k hl hk => k2 _ (by omega)) an⟩⟩
                · by_cases e : l = L
                  · rw [e, pk_us, pk_us, itL', xL, nI_1]; exact ⟨rfl, rfl⟩
                  · rw [pk_un e, pk_un e, itn l (by omega)]; exact ⟨(hit l hl).1, (hit l hl).2.1⟩
                · exact ⟨fun _ => nn, fun _ => la⟩
                · rw [k1 k hk]; exact inf k t hk t6
            · refine hR (-3) (by decide) (fun post h => hX post (br_t la (br_f a0 (br_f a7 (br_f b0 (br_t b7 (br_f (fun z => full (lim.1 z)) h))))))) (fun post keep h => hY2 post keep ?_)
              unfold wY_attempt_139
              exact br_f (fun z => full (lim.1 z)) h
          · refine hR (-2) (by decide) (fun post h => hX post (br_t la (br_f a0 (br_f a7 (br_f b0 (br_f b7 h)))))) (fun post keep h => hY post keep ?_)
            unfold wY_attempt_88 wY_attempt_106
            exact br_f (by decide) (br_f a0 (br_t (Int32.not_lt.1 a7) (br_t rfl (br_f b0 (br_f b7 h)))))
  · have nl : ¬ nas L = dn L := fun z => la (lt.2 z)
    exact hR (-7) (by decide) (fun post h => hX post (br_f la h)) (fun post keep h => sr_attH (e := 1) hs dy (by omega) (fun _ _ => h) (fun z => absurd (z rfl) nl))
end
end
section
/-! start and end as calls of judge and attempt -/
section
variable {f_cellLimit f_definitionLimit f_depthLimit f_itemLimit f_cellCount f_definedCount f_live f_state f_depth : Int32}
variable {a_kinds a_firsts a_seconds a_widths a_uses a_parents a_attributed a_owners a_places a_contents a_items a_names a_late : Nat → Int32} {a_columns a_unused a_childless a_nullable a_growEarly a_growLate a_guards a_residuals a_next : Nat → Int64}
variable {f_rootDefinition : Int32} {b_items a_itemKind a_itemName a_itemValue a_itemFit a_matches a_grows : Nat → Int32}
variable {lim cnt dl dpl itl L root : Nat} {dn nas : Nat → Nat}
theorem sr_ev0 (st : sr_St f_cellLimit f_definitionLimit f_depthLimit f_itemLimit f_cellCount f_definedCount f_live a_kinds a_firsts a_seconds a_widths a_uses a_parents a_attributed a_owners a_places a_contents a_columns a_unused a_childless a_nullable a_growEarly a_growLate a_guards lim cnt dl dpl itl) (hs : f_state = 1) (dy : sr_dy cnt a_kinds a_firsts a_seconds a_widths a_owners a_places a_contents a_childless a_nullable a_growEarly a_growLate f_live dpl itl f_depth a_items a_names a_late a_residuals f_rootDefinition b_items a_itemKind a_itemName a_itemValue a_itemFit (L + 1) root dn nas) (a b : Int32) :
    ∃ (r : Int32) (INFO : (Nat → Int64) → Prop) (KEPT : SY → Prop),
      (∀ post : Int32 → SX → Prop, (∀ nx : Nat → Int64, (r = 0 → INFO nx) → post r (f_cellLimit, f_definitionLimit, f_depthLimit, f_itemLimit, f_cellCount, f_definedCount, f_live, f_state, f_depth, a_kinds, a_firsts, a_seconds, a_widths, a_uses, a_parents, a_attributed, a_owners, a_places, a_contents, a_columns, a_unused, a_childless, a_nullable, a_growEarly, a_growLate, a_guards, a_items, a_names, a_late, a_residuals, nx)) → wpX_judge post (f_cellLimit, f_definitionLimit, f_depthLimit, f_itemLimit, f_cellCount, f_definedCount, f_live, f_state, f_depth, a_kinds, a_firsts, a_seconds, a_widths, a_uses, a_parents, a_attributed, a_owners, a_places, a_contents, a_columns, a_unused, a_childless, a_nullable, a_growEarly, a_growLate, a_guards, a_items, a_names, a_late, a_residuals, a_next) 0 a b) ∧
      (∀ (post : Int32 → SY → Prop) (keep : Int32), (r = 0 → ¬ keep = 0 → ∀ v', KEPT v' → post r v') → ((r = 0 → keep = 0) → ∀ v', (∀ (kk : Nat) (nx : Nat → Int64), i_Rel kk (f_cellLimit, f_definitionLimit, f_depthLimit, f_itemLimit, f_cellCount, f_definedCount, f_live, f_state, f_depth, a_kinds, a_firsts, a_seconds, a_widths, a_uses, a_parents, a_attributed, a_owners, a_places, a_contents, a_columns, a_unused, a_childless, a_nullable, a_growEarly, a_growLate, a_guards, a_items, a_names, a_late, a_residuals, nx) v') → post r v') → wpY_attempt post (f_cellLimit, f_definitionLimit, f_depthLimit, f_itemLimit, f_cellCount, f_state, f_depth, f_rootDefinition, a_kinds, a_firsts, a_seconds, a_widths, a_uses, b_items, a_itemKind, a_itemName, a_itemValue, a_itemFit, a_matches, a_grows) 0 a b keep) ∧
      (r = 0 → L + 1 < 5 ∧ ∀ v' nx rs kk, KEPT v' → INFO nx → (∀ k, k < 8 → rs ((L + 1) * 8 + k) = nx k) → (∀ i, ¬ ((L + 1) * 8 ≤ i ∧ i < (L + 1) * 8 + 8) → rs i = a_residuals i) →
        i_Rel kk (f_cellLimit, f_definitionLimit, f_depthLimit, f_itemLimit, f_cellCount, f_definedCount, f_live, f_state, nI (L + 1 + 1), a_kinds, a_firsts, a_seconds, a_widths, a_uses, a_parents, a_attributed, a_owners, a_places, a_contents, a_columns, a_unused, a_childless, a_nullable, a_growEarly, a_growLate, a_guards, upd (upd a_items L (a_items L + 1)) (L + 1) 0, upd a_names (L + 1) a, upd (upd a_late L 1) (L + 1) 0, rs, nx) v') := by
  obtain ⟨hD, hrt, hlr, _, cf, hit, hlat, hnm, hrow, _⟩ := id dy
  obtain ⟨_, _, ⟨hdp, _, dp5⟩, ⟨hil, il6⟩, _⟩ := id st
  have L5 : L < 5 := by have := cf.2.1; omega
  have itL : sl_it (L + 1) dn L = dn L := if_neg (by omega)
  have ed : f_depth - 1 = nI L := by rw [hD]; exact nI_pred L
  have eL : (nI L).toNatClampNeg = L := sx_cl 5 L5
  have vL : vp_in (nI L) 5 := vp_in_nI L5 (by decide)
  have xL : a_items L = nI (dn L) := by rw [(hit L (by omega)).1, itL]
  have bL : b_items L = nI (dn L) := by rw [(hit L (by omega)).2.1, itL]
  have lim : nI (dn L) < f_itemLimit ↔ dn L < itl := by rw [hil]; exact nI_ltI (by have := (hit L (by omega)).2.2; omega) (by omega)
  have dlim : f_depthLimit ≤ f_depth ↔ ¬ L + 1 < dpl := by rw [hdp, hD, nI_leI (by omega) (by omega)]; omega
  have hX : ∀ post : Int32 → SX → Prop, ((a < 0 → post (-2) (f_cellLimit, f_definitionLimit, f_depthLimit, f_itemLimit, f_cellCount, f_definedCount, f_live, f_state, f_depth, a_kinds, a_firsts, a_seconds, a_widths, a_uses, a_parents, a_attributed, a_owners, a_places, a_contents, a_columns, a_unused, a_childless, a_nullable, a_growEarly, a_growLate, a_guards, a_items, a_names, a_late, a_residuals, a_next)) ∧ (¬ a < 0 → ((a ≤ 7 → ((f_depthLimit ≤ f_depth → post (-3) (f_cellLimit, f_definitionLimit, f_depthLimit, f_itemLimit, f_cellCount, f_definedCount, f_live, f_state, f_depth, a_kinds, a_firsts, a_seconds, a_widths, a_uses, a_parents, a_attributed, a_owners, a_places, a_contents, a_columns, a_unused, a_childless, a_nullable, a_growEarly, a_growLate, a_guards, a_items, a_names, a_late, a_residuals, a_next)) ∧ (¬ f_depthLimit ≤ f_depth → ((nI (dn L) < f_itemLimit → ∃ n47 : Nat, wX_judgeStart_47 (fun r u => match u with | (f_cellLimit, f_definitionLimit, f_depthLimit, f_itemLimit, f_cellCount, f_definedCount, f_live, f_state, f_depth, a_kinds, a_firsts, a_seconds, a_widths, a_uses, a_parents, a_attributed, a_owners, a_places, a_contents, a_columns, a_unused, a_childless, a_nullable, a_growEarly, a_growLate, a_guards, a_items, a_names, a_late, a_residuals, a_next) => post r (f_cellLimit, f_definitionLimit, f_depthLimit, f_itemLimit, f_cellCount, f_definedCount, f_live, f_state, f_depth, a_kinds, a_firsts, a_seconds, a_widths, a_uses, a_parents, a_attributed, a_owners, a_places, a_contents, a_columns, a_unused, a_childless, a_nullable, a_growEarly, a_growLate, a_guards, a_items, a_names, a_late, a_residuals, a_next)) a f_cellLimit f_definitionLimit f_depthLimit f_itemLimit f_cellCount f_definedCount f_live f_state f_depth n47 0 a_kinds a_firsts a_seconds a_widths a_uses a_parents a_attributed a_owners a_places a_contents a_columns a_unused a_childless a_nullable a_growEarly a_growLate a_guards a_items a_names a_late a_residuals a_next) ∧ (¬ nI (dn L) < f_itemLimit → post (-3) (f_cellLimit, f_definitionLimit, f_depthLimit, f_itemLimit, f_cellCount, f_definedCount, f_live, f_state, f_depth, a_kinds, a_firsts, a_seconds, a_widths, a_uses, a_parents, a_attributed, a_owners, a_places, a_contents, a_columns, a_unused, a_childless, a_nullable, a_growEarly, a_growLate, a_guards, a_items, a_names, a_late, a_residuals, a_next)))))) ∧ (¬ a ≤ 7 → post (-2) (f_cellLimit, f_definitionLimit, f_depthLimit, f_itemLimit, f_cellCount, f_definedCount, f_live, f_state, f_depth, a_kinds, a_firsts, a_seconds, a_widths, a_uses, a_parents, a_attributed, a_owners, a_places, a_contents, a_columns, a_unused, a_childless, a_nullable, a_growEarly, a_growLate, a_guards, a_items, a_names, a_late, a_residuals, a_next))))) → wpX_judge post (f_cellLimit, f_definitionLimit, f_depthLimit, f_itemLimit, f_cellCount, f_definedCount, f_live, f_state, f_depth, a_kinds, a_firsts, a_seconds, a_widths, a_uses, a_parents, a_attributed, a_owners, a_places, a_contents, a_columns, a_unused, a_childless, a_nullable, a_growEarly, a_growLate, a_guards, a_items, a_names, a_late, a_residuals, a_next) 0 a b := by
    intro post h
    unfold wpX_judge wpX_judgeStart
    refine br_t hs (br_t rfl ?_)
    dsimp only
    rw [ed, eL, xL]
    exact ⟨fun z => h.1 z, fun z => ⟨fun z1 => ⟨fun z2 => ((h.2 z).1 z1).1 z2, fun z2 => And.intro vL (((h.2 z).1 z1).2 z2)⟩, fun z1 => (h.2 z).2 z1⟩⟩
  have hY : ∀ (post : Int32 → SY → Prop) (keep : Int32), wY_attempt_88 post 0 a b keep (nI L) (nI (dn L)) (nI (L * 6 + dn L)) f_cellLimit f_definitionLimit f_depthLimit f_itemLimit f_cellCount f_state f_depth f_rootDefinition a_kinds a_firsts a_seconds a_widths a_uses b_items a_itemKind a_itemName a_itemValue a_itemFit a_matches a_grows → wpY_attempt post (f_cellLimit, f_definitionLimit, f_depthLimit, f_itemLimit, f_cellCount, f_state, f_depth, f_rootDefinition, a_kinds, a_firsts, a_seconds, a_widths, a_uses, b_items, a_itemKind, a_itemName, a_itemValue, a_itemFit, a_matches, a_grows) 0 a b keep :=
    fun post keep h => sr_attH (e := 0) hs dy (by omega) (fun z => absurd z (by decide)) (fun _ => h)
  have hR : ∀ (r : Int32), ¬ r = 0 → (∀ post : Int32 → SX → Prop, post r (f_cellLimit, f_definitionLimit, f_depthLimit, f_itemLimit, f_cellCount, f_definedCount, f_live, f_state, f_depth, a_kinds, a_firsts, a_seconds, a_widths, a_uses, a_parents, a_attributed, a_owners, a_places, a_contents, a_columns, a_unused, a_childless, a_nullable, a_growEarly, a_growLate, a_guards, a_items, a_names, a_late, a_residuals, a_next) → wpX_judge post (f_cellLimit, f_definitionLimit, f_depthLimit, f_itemLimit, f_cellCount, f_definedCount, f_live, f_state, f_depth, a_kinds, a_firsts, a_seconds, a_widths, a_uses, a_parents, a_attributed, a_owners, a_places, a_contents, a_columns, a_unused, a_childless, a_nullable, a_growEarly, a_growLate, a_guards, a_items, a_names, a_late, a_residuals, a_next) 0 a b) → (∀ (post : Int32 → SY → Prop) (keep : Int32), post r (f_cellLimit, f_definitionLimit, f_depthLimit, f_itemLimit, f_cellCount, f_state, f_depth, f_rootDefinition, a_kinds, a_firsts, a_seconds, a_widths, a_uses, b_items, a_itemKind, a_itemName, a_itemValue, a_itemFit, a_matches, a_grows) → wpY_attempt post (f_cellLimit, f_definitionLimit, f_depthLimit, f_itemLimit, f_cellCount, f_state, f_depth, f_rootDefinition, a_kinds, a_firsts, a_seconds, a_widths, a_uses, b_items, a_itemKind, a_itemName, a_itemValue, a_itemFit, a_matches, a_grows) 0 a b keep) →
      ∃ (r : Int32) (INFO : (Nat → Int64) → Prop) (KEPT : SY → Prop),
      (∀ post : Int32 → SX → Prop, (∀ nx : Nat → Int64, (r = 0 → INFO nx) → post r (f_cellLimit, f_definitionLimit, f_depthLimit, f_itemLimit, f_cellCount, f_definedCount, f_live, f_state, f_depth, a_kinds, a_firsts, a_seconds, a_widths, a_uses, a_parents, a_attributed, a_owners, a_places, a_contents, a_columns, a_unused, a_childless, a_nullable, a_growEarly, a_growLate, a_guards, a_items, a_names, a_late, a_residuals, nx)) → wpX_judge post (f_cellLimit, f_definitionLimit, f_depthLimit, f_itemLimit, f_cellCount, f_definedCount, f_live, f_state, f_depth, a_kinds, a_firsts, a_seconds, a_widths, a_uses, a_parents, a_attributed, a_owners, a_places, a_contents, a_columns, a_unused, a_childless, a_nullable, a_growEarly, a_growLate, a_guards, a_items, a_names, a_late, a_residuals, a_next) 0 a b) ∧
      (∀ (post : Int32 → SY → Prop) (keep : Int32), (r = 0 → ¬ keep = 0 → ∀ v', KEPT v' → post r v') → ((r = 0 → keep = 0) → ∀ v', (∀ (kk : Nat) (nx : Nat → Int64), i_Rel kk (f_cellLimit, f_definitionLimit, f_depthLimit, f_itemLimit, f_cellCount, f_definedCount, f_live, f_state, f_depth, a_kinds, a_firsts, a_seconds, a_widths, a_uses, a_parents, a_attributed, a_owners, a_places, a_contents, a_columns, a_unused, a_childless, a_nullable, a_growEarly, a_growLate, a_guards, a_items, a_names, a_late, a_residuals, nx) v') → post r v') → wpY_attempt post (f_cellLimit, f_definitionLimit, f_depthLimit, f_itemLimit, f_cellCount, f_state, f_depth, f_rootDefinition, a_kinds, a_firsts, a_seconds, a_widths, a_uses, b_items, a_itemKind, a_itemName, a_itemValue, a_itemFit, a_matches, a_grows) 0 a b keep) ∧
      (r = 0 → L + 1 < 5 ∧ ∀ v' nx rs kk, KEPT v' → INFO nx → (∀ k, k < 8 → rs ((L + 1) * 8 + k) = nx k) → (∀ i, ¬ ((L + 1) * 8 ≤ i ∧ i < (L + 1) * 8 + 8) → rs i = a_residuals i) →
        i_Rel kk (f_cellLimit, f_definitionLimit, f_depthLimit, f_itemLimit, f_cellCount, f_definedCount, f_live, f_state, nI (L + 1 + 1), a_kinds, a_firsts, a_seconds, a_widths, a_uses, a_parents, a_attributed, a_owners, a_places, a_contents, a_columns, a_unused, a_childless, a_nullable, a_growEarly, a_growLate, a_guards, upd (upd a_items L (a_items L + 1)) (L + 1) 0, upd a_names (L + 1) a, upd (upd a_late L 1) (L + 1) 0, rs, nx) v') := by
    intro r rn gx gy
    exact ⟨r, fun _ => True, fun _ => False, fun post h => gx post (h a_next (fun _ => trivial)), fun post keep h1 h2 => gy post keep (h2 (fun z => absurd z rn) _ (sr_re0 st hs dy)), fun z => absurd z rn⟩
  by_cases a0 : a < 0
  · refine hR (-2) (by decide) (fun post h => hX post (br_t a0 h)) (fun post keep h => hY post keep ?_)
    unfold wY_attempt_88
    exact br_f (by decide) (br_t a0 h)
  · by_cases a7 : a ≤ 7
    · by_cases dp : L + 1 < dpl
      · have nd : ¬ f_depthLimit ≤ f_depth := fun z => dlim.1 z dp
        have hY2 : ∀ (post : Int32 → SY → Prop) (keep : Int32), wY_attempt_139 post 0 a b keep (nI L) (nI (dn L)) (nI (L * 6 + dn L)) f_cellLimit f_definitionLimit f_depthLimit f_itemLimit f_cellCount f_state f_depth f_rootDefinition a_kinds a_firsts a_seconds a_widths a_uses b_items a_itemKind a_itemName a_itemValue a_itemFit a_matches a_grows → wpY_attempt post (f_cellLimit, f_definitionLimit, f_depthLimit, f_itemLimit, f_cellCount, f_state, f_depth, f_rootDefinition, a_kinds, a_firsts, a_seconds, a_widths, a_uses, b_items, a_itemKind, a_itemName, a_itemValue, a_itemFit, a_matches, a_grows) 0 a b keep := by
          intro post keep h
          refine hY post keep ?_
          unfold wY_attempt_88 wY_attempt_106 wY_attempt_124
          exact br_f (by decide) (br_f a0 (br_t a7 (br_f (by decide) (br_t rfl (br_f nd h)))))
        by_cases full : dn L < itl
        · obtain ⟨r, r01, cf', hp', hw', hfr, hA, hXs, hYs⟩ := sr_start (x2 := a) (x3 := b) st dy full dp
          have n6 : dn L < 6 := by omega
          have lev5 : ∀ l, l + 1 < L + 1 → dn l < 6 := fun l hl => by
            have := (cf.2.2.1 l (by omega)).1
            unfold sl_it at this
            rw [if_pos hl] at this; omega
          refine ⟨r, fun nx => ∀ j, j < 8 →
              (sl_poss cnt a_kinds a_firsts a_seconds a_widths a_owners a_places a_contents a_childless a_nullable a_growEarly a_growLate f_live (upd a_itemKind (L * 6 + dn L) 0) (upd a_itemName (L * 6 + dn L) a) (upd a_itemValue (L * 6 + dn L) b) a_itemFit (sl_dn dn (L + 1) 0) (sl_dn nas (L + 1) 0) root (L + 1) j → nx j = 1) ∧
              (¬ sl_poss cnt a_kinds a_firsts a_seconds a_widths a_owners a_places a_contents a_childless a_nullable a_growEarly a_growLate f_live (upd a_itemKind (L * 6 + dn L) 0) (upd a_itemName (L * 6 + dn L) a) (upd a_itemValue (L * 6 + dn L) b) a_itemFit (sl_dn dn (L + 1) 0) (sl_dn nas (L + 1) 0) root (L + 1) j → nx j = 0),
            fun v' => ∃ M G : Nat → Int32, v' = (f_cellLimit, f_definitionLimit, f_depthLimit, f_itemLimit, f_cellCount, f_state, nI (L + 2), f_rootDefinition, a_kinds, a_firsts, a_seconds, a_widths, a_uses, upd (upd b_items L (nI (dn L + 1))) (L + 1) 0, upd a_itemKind (L * 6 + dn L) 0, upd a_itemName (L * 6 + dn L) a, upd a_itemValue (L * 6 + dn L) b, a_itemFit, M, G),
            fun post h => hX post (br_f a0 (br_t a7 (br_f nd (br_t (lim.2 full) (hXs _ h))))), fun post keep h1 h2 => hY2 post keep (hYs post keep (fun r0 k0 M G => ?_) (fun q M G => h2 q _ (sr_re st hs dy ?_))), fun r0 => ⟨by omega, fun v' nx rs kk => ?_⟩⟩
          · have := h1 r0 k0 _ ⟨M, G, rfl⟩
            rw [r0] at this; exact this
          · refine sr_agA cf (fun l hl => ?_) (fun b' hb => ⟨pk_un hb, pk_un hb, pk_un hb, rfl⟩) n6
            by_cases e : l = L
            · rw [e, pk_us, bL]
            · rw [pk_un e, pk_un (by omega), pk_un e]
          · rintro ⟨M, G, rfl⟩ inf k1 k2
            have hna := (cf.2.2.1 L (by omega)).2.1
            have i1 : sl_it (L + 2) (sl_dn dn (L + 1) 0) (L + 1) = 0 := by unfold sl_it; rw [if_neg (by omega), sl_dn_s]
            have i2 : sl_it (L + 2) (sl_dn dn (L + 1) 0) L = dn L + 1 := by unfold sl_it; rw [if_pos (by omega), sl_dn_n (by omega)]
            have i3 : ∀ l, l < L → sl_it (L + 2) (sl_dn dn (L + 1) 0) l = sl_it (L + 1) dn l := fun l hl => by unfold sl_it; rw [if_pos (by omega), if_pos (by omega), sl_dn_n (by omega)]
            refine zz_in ⟨_, cnt, dl, dpl, itl, st, Or.inr ⟨hs, L + 2, root, sl_dn dn (L + 1) 0, sl_dn nas (L + 1) 0, rfl, hrt, hlr, by omega, cf', fun l hl => ?_, fun l hl => ?_, fun l hl => ?_, fun l k hl hk s s6 => ?_, hA r0⟩⟩
            · by_cases e : l = L + 1
              · rw [e, pk_us, pk_us, i1]; exact ⟨rfl, rfl, Nat.zero_le _⟩
              · rw [pk_un e, pk_un e]
                by_cases q : l = L
                · rw [q, pk_us, pk_us, i2, xL, nI_1]; exact ⟨rfl, rfl, by omega⟩
                · rw [pk_un q, pk_un q, i3 l (by omega)]; exact hit l (by omega)
            · by_cases e : l = L + 1
              · rw [e, pk_us, i1, sl_dn_s]; exact ⟨fun _ => rfl, fun _ => rfl⟩
              · rw [pk_un e, sl_dn_n e]
                by_cases q : l = L
                · rw [q, pk_us, i2]; exact ⟨fun z => absurd z (by decide), fun z => by have := hna.1; omega⟩
                · rw [pk_un q, i3 l (by omega)]; exact hlat l (by omega)
            · have e : l ≠ L + 1 := by omega
              rw [sl_dn_n e]
              by_cases q : l = L
              · rw [q, pk_us, pk_us]
              · have := lev5 l (by omega)
                rw [pk_un (show l + 1 ≠ L + 1 by omega), pk_un (by omega)]
                exact hnm l (by omega)
            · by_cases e : l = L + 1
              · subst e
                rw [k1 k hk, sl_dn_s, sl_dn_s]
                by_cases pp : sl_poss cnt a_kinds a_firsts a_seconds a_widths a_owners a_places a_contents a_childless a_nullable a_growEarly a_growLate f_live (upd a_itemKind (L * 6 + dn L) 0) (upd a_itemName (L * 6 + dn L) a) (upd a_itemValue (L * 6 + dn L) b) a_itemFit (sl_dn dn (L + 1) 0) (sl_dn nas (L + 1) 0) root (L + 1) k
                · rw [(inf k hk).1 pp, sd_lb_1, hfr k s hk s6 pp.1]
                  constructor
                  · exact fun q => ⟨pp, sd_S6_x s6 sd_S6_e q⟩
                  · rintro ⟨_, q⟩ i _
                    rw [q]; rfl
                · rw [(inf k hk).2 pp]
                  exact ⟨fun q => absurd q (sd_lb_0 s), fun q => absurd q.1 pp⟩
              · rw [k2 _ (by omega), hp' l (by omega) k, hw' l (by omega) k s]
                exact hrow l k (by omega) hk s s6
        · refine hR (-3) (by decide) (fun post h => hX post (br_f a0 (br_t a7 (br_f nd (br_f (fun z => full (lim.1 z)) h))))) (fun post keep h => hY2 post keep ?_)
          unfold wY_attempt_139
          exact br_f (fun z => full (lim.1 z)) h
      · refine hR (-3) (by decide) (fun post h => hX post (br_f a0 (br_t a7 (br_t (dlim.2 dp) h)))) (fun post keep h => hY post keep ?_)
        unfold wY_attempt_88 wY_attempt_106 wY_attempt_124
        exact br_f (by decide) (br_f a0 (br_t a7 (br_f (by decide) (br_t rfl (br_t (dlim.2 dp) h)))))
    · refine hR (-2) (by decide) (fun post h => hX post (br_f a0 (br_f a7 h))) (fun post keep h => hY post keep ?_)
      unfold wY_attempt_88
      exact br_f (by decide) (br_f a0 (br_f a7 h))
theorem sr_ev3 (st : sr_St f_cellLimit f_definitionLimit f_depthLimit f_itemLimit f_cellCount f_definedCount f_live a_kinds a_firsts a_seconds a_widths a_uses a_parents a_attributed a_owners a_places a_contents a_columns a_unused a_childless a_nullable a_growEarly a_growLate a_guards lim cnt dl dpl itl) (hs : f_state = 1) (dy : sr_dy cnt a_kinds a_firsts a_seconds a_widths a_owners a_places a_contents a_childless a_nullable a_growEarly a_growLate f_live dpl itl f_depth a_items a_names a_late a_residuals f_rootDefinition b_items a_itemKind a_itemName a_itemValue a_itemFit (L + 1) root dn nas) (a b : Int32) :
    ∃ (r : Int32) (INFO : (Nat → Int64) → Prop) (KEPT : SY → Prop),
      (∀ post : Int32 → SX → Prop, (∀ nx : Nat → Int64, (r = 0 → INFO nx) → post r (f_cellLimit, f_definitionLimit, f_depthLimit, f_itemLimit, f_cellCount, f_definedCount, f_live, f_state, f_depth, a_kinds, a_firsts, a_seconds, a_widths, a_uses, a_parents, a_attributed, a_owners, a_places, a_contents, a_columns, a_unused, a_childless, a_nullable, a_growEarly, a_growLate, a_guards, a_items, a_names, a_late, a_residuals, nx)) → wpX_judge post (f_cellLimit, f_definitionLimit, f_depthLimit, f_itemLimit, f_cellCount, f_definedCount, f_live, f_state, f_depth, a_kinds, a_firsts, a_seconds, a_widths, a_uses, a_parents, a_attributed, a_owners, a_places, a_contents, a_columns, a_unused, a_childless, a_nullable, a_growEarly, a_growLate, a_guards, a_items, a_names, a_late, a_residuals, a_next) 3 a b) ∧
      (∀ (post : Int32 → SY → Prop) (keep : Int32), (r = 0 ∨ r = 1 → ¬ keep = 0 → ∀ v', KEPT v' → post r v') → ((r = 0 ∨ r = 1 → keep = 0) → ∀ v', (∀ (kk : Nat) (nx : Nat → Int64), i_Rel kk (f_cellLimit, f_definitionLimit, f_depthLimit, f_itemLimit, f_cellCount, f_definedCount, f_live, f_state, f_depth, a_kinds, a_firsts, a_seconds, a_widths, a_uses, a_parents, a_attributed, a_owners, a_places, a_contents, a_columns, a_unused, a_childless, a_nullable, a_growEarly, a_growLate, a_guards, a_items, a_names, a_late, a_residuals, nx) v') → post r v') → wpY_attempt post (f_cellLimit, f_definitionLimit, f_depthLimit, f_itemLimit, f_cellCount, f_state, f_depth, f_rootDefinition, a_kinds, a_firsts, a_seconds, a_widths, a_uses, b_items, a_itemKind, a_itemName, a_itemValue, a_itemFit, a_matches, a_grows) 3 a b keep) ∧
      (r = 0 → ∃ Q, L = Q + 1 ∧ ∀ v' nx rs kk, KEPT v' → INFO nx → (∀ k, k < 8 → rs (Q * 8 + k) = nx k) → (∀ i, ¬ (Q * 8 ≤ i ∧ i < Q * 8 + 8) → rs i = a_residuals i) →
        i_Rel kk (f_cellLimit, f_definitionLimit, f_depthLimit, f_itemLimit, f_cellCount, f_definedCount, f_live, f_state, nI (Q + 1), a_kinds, a_firsts, a_seconds, a_widths, a_uses, a_parents, a_attributed, a_owners, a_places, a_contents, a_columns, a_unused, a_childless, a_nullable, a_growEarly, a_growLate, a_guards, a_items, a_names, a_late, rs, nx) v') ∧
      (r = 1 → ∀ v' nx kk, KEPT v' → i_Rel kk (f_cellLimit, f_definitionLimit, f_depthLimit, f_itemLimit, f_cellCount, f_definedCount, f_live, 2, 0, a_kinds, a_firsts, a_seconds, a_widths, a_uses, a_parents, a_attributed, a_owners, a_places, a_contents, a_columns, a_unused, a_childless, a_nullable, a_growEarly, a_growLate, a_guards, a_items, a_names, a_late, a_residuals, nx) v') := by
  have hX : ∀ post : Int32 → SX → Prop, wpX_judgeEnd (fun r u => match u with | (f_cellLimit, f_definitionLimit, f_depthLimit, f_itemLimit, f_cellCount, f_definedCount, f_live, f_state, f_depth, a_kinds, a_firsts, a_seconds, a_widths, a_uses, a_parents, a_attributed, a_owners, a_places, a_contents, a_columns, a_unused, a_childless, a_nullable, a_growEarly, a_growLate, a_guards, a_items, a_names, a_late, a_residuals, a_next) => post r (f_cellLimit, f_definitionLimit, f_depthLimit, f_itemLimit, f_cellCount, f_definedCount, f_live, f_state, f_depth, a_kinds, a_firsts, a_seconds, a_widths, a_uses, a_parents, a_attributed, a_owners, a_places, a_contents, a_columns, a_unused, a_childless, a_nullable, a_growEarly, a_growLate, a_guards, a_items, a_names, a_late, a_residuals, a_next)) (f_cellLimit, f_definitionLimit, f_depthLimit, f_itemLimit, f_cellCount, f_definedCount, f_live, f_state, f_depth, a_kinds, a_firsts, a_seconds, a_widths, a_uses, a_parents, a_attributed, a_owners, a_places, a_contents, a_columns, a_unused, a_childless, a_nullable, a_growEarly, a_growLate, a_guards, a_items, a_names, a_late, a_residuals, a_next) → wpX_judge post (f_cellLimit, f_definitionLimit, f_depthLimit, f_itemLimit, f_cellCount, f_definedCount, f_live, f_state, f_depth, a_kinds, a_firsts, a_seconds, a_widths, a_uses, a_parents, a_attributed, a_owners, a_places, a_contents, a_columns, a_unused, a_childless, a_nullable, a_growEarly, a_growLate, a_guards, a_items, a_names, a_late, a_residuals, a_next) 3 a b := by
    intro post h
    unfold wpX_judge
    exact br_t hs (br_f (by decide) (br_f (by decide) (br_f (by decide) h)))
  have hY : ∀ (post : Int32 → SY → Prop) (keep : Int32), wpY_finish (fun r u => match u with | (f_cellLimit, f_definitionLimit, f_depthLimit, f_itemLimit, f_made, f_state, f_depth, f_rootDefinition, a_kind, a_first, a_second, a_width, a_use, a_items, a_itemKind, a_itemName, a_itemValue, a_itemFit, a_matches, a_grows) => post r (f_cellLimit, f_definitionLimit, f_depthLimit, f_itemLimit, f_made, f_state, f_depth, f_rootDefinition, a_kind, a_first, a_second, a_width, a_use, a_items, a_itemKind, a_itemName, a_itemValue, a_itemFit, a_matches, a_grows)) (f_cellLimit, f_definitionLimit, f_depthLimit, f_itemLimit, f_cellCount, f_state, f_depth, f_rootDefinition, a_kinds, a_firsts, a_seconds, a_widths, a_uses, b_items, a_itemKind, a_itemName, a_itemValue, a_itemFit, a_matches, a_grows) keep → wpY_attempt post (f_cellLimit, f_definitionLimit, f_depthLimit, f_itemLimit, f_cellCount, f_state, f_depth, f_rootDefinition, a_kinds, a_firsts, a_seconds, a_widths, a_uses, b_items, a_itemKind, a_itemName, a_itemValue, a_itemFit, a_matches, a_grows) 3 a b keep := by
    intro post keep h
    unfold wpY_attempt
    exact br_f (by decide) (br_t (by decide) (br_t hs (br_t rfl h)))
  cases L with
  | zero =>
    obtain ⟨r, r01, hXe, hYe⟩ := sr_end0 st dy
    have r0 : ¬ r = 0 := by
      rcases r01 with z | z
      · rw [z]; decide
      · rw [z]; decide
    refine ⟨r, fun _ => True, fun v' => ∃ M G : Nat → Int32, v' = (f_cellLimit, f_definitionLimit, f_depthLimit, f_itemLimit, f_cellCount, 2, 0, f_rootDefinition, a_kinds, a_firsts, a_seconds, a_widths, a_uses, b_items, a_itemKind, a_itemName, a_itemValue, a_itemFit, M, G), fun post h => hX post (hXe _ (h a_next (fun _ => trivial))), fun post keep h1 h2 => hY post keep (hYe _ keep (fun r1 k0 M G => ?_) (fun q M G => ?_)), fun z => absurd z r0, fun _ v' nx kk => ?_⟩
    · have := h1 (Or.inr r1) k0 _ ⟨M, G, rfl⟩
      rw [r1] at this; exact this
    · exact h2 (fun z => z.elim (fun y => absurd y r0) q) _ (sr_re0 st hs dy)
    · rintro ⟨M, G, rfl⟩
      exact zz_in ⟨lim, cnt, dl, dpl, itl, st, Or.inl ⟨Or.inr rfl, rfl⟩⟩
  | succ Q =>
    obtain ⟨r, fit, r01, hN, hXe, hYe⟩ := sr_endS (Q := Q) st dy
    obtain ⟨hD, hrt, hlr, _, cf, hit, hlat, hnm, hrow, _⟩ := id dy
    have r1 : ¬ r = 1 := by
      rcases r01 with z | z
      · rw [z]; decide
      · rw [z]; decide
    have itQ : sl_it (Q + 1 + 1) dn Q = dn Q + 1 := if_pos (by omega)
    have n6 : dn Q < 6 := by have := (cf.2.2.1 Q (by omega)).1; rw [itQ] at this; omega
    have lev6 : ∀ l, l < Q + 1 + 1 → dn l ≤ 6 := fun l hl => by
      have := (cf.2.2.1 l hl).1
      unfold sl_it at this
      split at this <;> omega
    have lev5 : ∀ l, l + 1 < Q + 1 + 1 → dn l < 6 := fun l hl => by
      have := (cf.2.2.1 l (by omega)).1
      unfold sl_it at this
      rw [if_pos hl] at this; omega
    refine ⟨r, fun nx => ∀ k t, k < 8 → sd_S6 t → (sd_lb (nx k) t ↔ sl_poss cnt a_kinds a_firsts a_seconds a_widths a_owners a_places a_contents a_childless a_nullable a_growEarly a_growLate f_live a_itemKind a_itemName a_itemValue a_itemFit dn nas root Q k ∧
          sl_row cnt a_kinds a_firsts a_seconds a_widths a_owners a_places a_contents a_childless a_nullable a_growEarly a_growLate (upd a_itemKind (Q * 6 + dn Q) 3) a_itemName a_itemValue (upd a_itemFit (Q * 6 + dn Q) fit) Q (dn Q + 1) (nas Q) 0 k t),
      fun v' => ∃ M G : Nat → Int32, v' = (f_cellLimit, f_definitionLimit, f_depthLimit, f_itemLimit, f_cellCount, f_state, nI (Q + 1), f_rootDefinition, a_kinds, a_firsts, a_seconds, a_widths, a_uses, b_items, upd a_itemKind (Q * 6 + dn Q) 3, a_itemName, a_itemValue, upd a_itemFit (Q * 6 + dn Q) fit, M, G),
      fun post h => hX post (hXe _ h), fun post keep h1 h2 => hY post keep (hYe _ keep (fun r0 k0 M G => ?_) (fun q M G => ?_)), fun r0 => ⟨Q, rfl, fun v' nx rs kk => ?_⟩, fun z => absurd z r1⟩
    · have := h1 (Or.inl r0) k0 _ ⟨M, G, rfl⟩
      rw [r0] at this; exact this
    · refine h2 (fun z => z.elim q (fun y => absurd y r1)) _ (sr_re st hs dy ⟨fun l _ => rfl, fun l i hl hi => ?_, fun l hl => ?_⟩)
      · have ne : l * 6 + i ≠ Q * 6 + dn Q := by
          by_cases e : l = Q
          · rw [e] at hi ⊢; omega
          · have := lev6 l hl; omega
        exact ⟨by rw [pk_un ne, pk_un ne], rfl, rfl, pk_un ne⟩
      · by_cases e : l = Q
        · rw [e, pk_us, cf.2.2.2 Q (by omega)]; exact ⟨rfl, rfl⟩
        · have := lev5 l hl
          rw [pk_un (by omega), pk_un (by omega)]; exact ⟨rfl, rfl⟩
    · rintro ⟨M, G, rfl⟩ inf k1 k2
      obtain ⟨ap, cf', an⟩ := hN r0
      have hna := (cf.2.2.1 Q (by omega)).2.1
      refine zz_in ⟨lim, cnt, dl, dpl, itl, st, Or.inr ⟨hs, Q + 1, root, sl_dn dn Q (dn Q + 1), sl_dn nas Q (nas Q), sr_app_dy dy (by omega) n6 ap cf' rfl (fun l hl => ?_) (by have := (hit Q (by omega)).2.2; rw [itQ] at this; exact this) (fun l hl => rfl) ?_ (fun k t hk t6 => ?_) (fun l k hl hk => k2 _ (by omega)) an⟩⟩
      · have e : sl_it (Q + 1) (sl_dn dn Q (dn Q + 1)) l = sl_it (Q + 1 + 1) dn l := by
          by_cases q : l = Q
          · rw [q, itQ]; unfold sl_it; rw [if_neg (by omega), sl_dn_s]
          · unfold sl_it; rw [if_pos (by omega), if_pos (by omega), sl_dn_n q]
        rw [e]; exact ⟨(hit l (by omega)).1, (hit l (by omega)).2.1⟩
      · rw [hlat Q (by omega), itQ]
      · rw [k1 k hk]; exact inf k t hk t6
end
end
section
/-! start, attribute, text, end, probe -/
section
variable {f_cellLimit f_definitionLimit f_depthLimit f_itemLimit f_cellCount f_definedCount f_live f_state f_depth : Int32}
variable {a_kinds a_firsts a_seconds a_widths a_uses a_parents a_attributed a_owners a_places a_contents a_items a_names a_late : Nat → Int32} {a_columns a_unused a_childless a_nullable a_growEarly a_growLate a_guards a_residuals a_next : Nat → Int64}
variable {f_rootDefinition : Int32} {b_items a_itemKind a_itemName a_itemValue a_itemFit a_matches a_grows : Nat → Int32}
variable {lim cnt dl dpl itl : Nat}
theorem sr_clX (hs : ¬ f_state = 1) {e a b : Int32} {post : Int32 → SX → Prop} (h : post (-7) (f_cellLimit, f_definitionLimit, f_depthLimit, f_itemLimit, f_cellCount, f_definedCount, f_live, f_state, f_depth, a_kinds, a_firsts, a_seconds, a_widths, a_uses, a_parents, a_attributed, a_owners, a_places, a_contents, a_columns, a_unused, a_childless, a_nullable, a_growEarly, a_growLate, a_guards, a_items, a_names, a_late, a_residuals, a_next)) : wpX_judge post (f_cellLimit, f_definitionLimit, f_depthLimit, f_itemLimit, f_cellCount, f_definedCount, f_live, f_state, f_depth, a_kinds, a_firsts, a_seconds, a_widths, a_uses, a_parents, a_attributed, a_owners, a_places, a_contents, a_columns, a_unused, a_childless, a_nullable, a_growEarly, a_growLate, a_guards, a_items, a_names, a_late, a_residuals, a_next) e a b := by
  unfold wpX_judge
  exact br_f hs h
theorem sr_clY (hs : ¬ f_state = 1) {e : Nat} (he : e ≤ 3) {a b keep : Int32} {post : Int32 → SY → Prop} (h : post (-7) (f_cellLimit, f_definitionLimit, f_depthLimit, f_itemLimit, f_cellCount, f_state, f_depth, f_rootDefinition, a_kinds, a_firsts, a_seconds, a_widths, a_uses, b_items, a_itemKind, a_itemName, a_itemValue, a_itemFit, a_matches, a_grows)) : wpY_attempt post (f_cellLimit, f_definitionLimit, f_depthLimit, f_itemLimit, f_cellCount, f_state, f_depth, f_rootDefinition, a_kinds, a_firsts, a_seconds, a_widths, a_uses, b_items, a_itemKind, a_itemName, a_itemValue, a_itemFit, a_matches, a_grows) (nI e) a b keep := by
  unfold wpY_attempt
  exact br_f (nI_pos (by omega)) (br_t (nI_le (b := 3) he (by decide)) (br_f hs h))
/-- the state is open, or judge and attempt both refuse -/
theorem sr_opn (dy : sr_Dy cnt a_kinds a_firsts a_seconds a_widths a_owners a_places a_contents a_childless a_nullable a_growEarly a_growLate f_live dpl itl f_state f_depth a_items a_names a_late a_residuals f_rootDefinition b_items a_itemKind a_itemName a_itemValue a_itemFit) :
    ¬ f_state = 1 ∨ (f_state = 1 ∧ ∃ L root dn nas, L < 5 ∧ sr_dy cnt a_kinds a_firsts a_seconds a_widths a_owners a_places a_contents a_childless a_nullable a_growEarly a_growLate f_live dpl itl f_depth a_items a_names a_late a_residuals f_rootDefinition b_items a_itemKind a_itemName a_itemValue a_itemFit (L + 1) root dn nas) := by
  rcases dy with ⟨h, _⟩ | ⟨h, D, root, dn, nas, dy⟩
  · refine Or.inl ?_
    rcases h with h | h
    · rw [h]; decide
    · rw [h]; decide
  · have D1 := dy.2.2.2.2.1.1
    have D5 := dy.2.2.2.2.1.2.1
    exact Or.inr ⟨h, D - 1, root, dn, nas, by omega, by rw [show D - 1 + 1 = D by omega]; exact dy⟩
end
theorem i_vc_text {k : Nat} {u : SX} {v : SY} (I : i_Rel k u v) (hk : k + 4 ≤ 2052) : wpX_text (fun r u' => wpY_text (fun r' v' => r' = r ∧ i_Rel (k + 4) u' v') v) u := by
  refine zz_el (Q := fun u v => wpX_text (fun r u' => wpY_text (fun r' v' => r' = r ∧ i_Rel (k + 4) u' v') v) u) ?_ I
  intro f_cellLimit f_definitionLimit f_depthLimit f_itemLimit f_cellCount f_definedCount f_live f_state f_depth a_kinds a_firsts a_seconds a_widths a_uses a_parents a_attributed a_owners a_places a_contents a_columns a_unused a_childless a_nullable a_growEarly a_growLate a_guards a_items a_names a_late a_residuals a_next f_rootDefinition b_items a_itemKind a_itemName a_itemValue a_itemFit a_matches a_grows hR
  have J : i_Rel (k + 4) (f_cellLimit, f_definitionLimit, f_depthLimit, f_itemLimit, f_cellCount, f_definedCount, f_live, f_state, f_depth, a_kinds, a_firsts, a_seconds, a_widths, a_uses, a_parents, a_attributed, a_owners, a_places, a_contents, a_columns, a_unused, a_childless, a_nullable, a_growEarly, a_growLate, a_guards, a_items, a_names, a_late, a_residuals, a_next) (f_cellLimit, f_definitionLimit, f_depthLimit, f_itemLimit, f_cellCount, f_state, f_depth, f_rootDefinition, a_kinds, a_firsts, a_seconds, a_widths, a_uses, b_items, a_itemKind, a_itemName, a_itemValue, a_itemFit, a_matches, a_grows) := zz_in hR
  obtain ⟨lim, cnt, dl, dpl, itl, st, dy⟩ := hR
  unfold wpX_text wpY_text
  rcases sr_opn dy with hs | ⟨hs, L, root, dn, nas, L5, dy⟩
  · refine sr_clX hs (br_f (by decide) ?_)
    exact sr_clY (e := 2) hs (by decide) ⟨rfl, J⟩
  · obtain ⟨r, INFO, KEPT, hX, hY, hN⟩ := sr_ev2 st hs dy 0 0
    have ed : f_depth - 1 = nI L := by rw [dy.1]; exact nI_pred L
    have eL : (nI L).toNatClampNeg = L := sx_cl 5 L5
    have vL : vp_in (nI L) 5 := vp_in_nI L5 (by decide)
    refine hX _ (fun nx inf => br_c (fun r0 => ?_) (fun r0 => ?_))
    · rw [ed, eL]
      refine And.intro vL (And.intro vL (nm_e (And.intro vL (nm_r (e' := upd a_late L 1) (by rw [sx_vb1]) (sx_keep L5 (fun rs k1 k2 => ?_))))))
      exact hY _ 1 (fun _ _ v' hv => ⟨rfl, hN r0 v' nx rs (k + 4) hv (inf r0) k1 k2⟩) (fun q => absurd (q r0) (by decide))
    · exact hY _ 1 (fun z => absurd z r0) (fun _ v' hv => ⟨rfl, hv (k + 4) nx⟩)
theorem i_vc_attribute {k : Nat} {u : SX} {v : SY} (I : i_Rel k u v) (hk : k + 4 ≤ 2052) (v1 : Int32) (v2 : Int32) : wpX_attribute (fun r u' => wpY_attribute (fun r' v' => r' = r ∧ i_Rel (k + 4) u' v') v v1 v2) u v1 v2 := by
  refine zz_el (Q := fun u v => wpX_attribute (fun r u' => wpY_attribute (fun r' v' => r' = r ∧ i_Rel (k + 4) u' v') v v1 v2) u v1 v2) ?_ I
  intro f_cellLimit f_definitionLimit f_depthLimit f_itemLimit f_cellCount f_definedCount f_live f_state f_depth a_kinds a_firsts a_seconds a_widths a_uses a_parents a_attributed a_owners a_places a_contents a_columns a_unused a_childless a_nullable a_growEarly a_growLate a_guards a_items a_names a_late a_residuals a_next f_rootDefinition b_items a_itemKind a_itemName a_itemValue a_itemFit a_matches a_grows hR
  have J : i_Rel (k + 4) (f_cellLimit, f_definitionLimit, f_depthLimit, f_itemLimit, f_cellCount, f_definedCount, f_live, f_state, f_depth, a_kinds, a_firsts, a_seconds, a_widths, a_uses, a_parents, a_attributed, a_owners, a_places, a_contents, a_columns, a_unused, a_childless, a_nullable, a_growEarly, a_growLate, a_guards, a_items, a_names, a_late, a_residuals, a_next) (f_cellLimit, f_definitionLimit, f_depthLimit, f_itemLimit, f_cellCount, f_state, f_depth, f_rootDefinition, a_kinds, a_firsts, a_seconds, a_widths, a_uses, b_items, a_itemKind, a_itemName, a_itemValue, a_itemFit, a_matches, a_grows) := zz_in hR
  obtain ⟨lim, cnt, dl, dpl, itl, st, dy⟩ := hR
  unfold wpX_attribute wpY_attribute
  rcases sr_opn dy with hs | ⟨hs, L, root, dn, nas, L5, dy⟩
  · refine sr_clX hs (br_f (by decide) ?_)
    exact sr_clY (e := 1) hs (by decide) ⟨rfl, J⟩
  · obtain ⟨r, INFO, KEPT, hX, hY, hN⟩ := sr_ev1 st hs dy v1 v2
    have ed : f_depth - 1 = nI L := by rw [dy.1]; exact nI_pred L
    have eL : (nI L).toNatClampNeg = L := sx_cl 5 L5
    have vL : vp_in (nI L) 5 := vp_in_nI L5 (by decide)
    refine hX _ (fun nx inf => br_c (fun r0 => ?_) (fun r0 => ?_))
    · rw [ed, eL]
      refine And.intro vL (And.intro vL (nm_e (sx_keep L5 (fun rs k1 k2 => ?_))))
      exact hY _ 1 (fun _ _ v' hv => ⟨rfl, hN r0 v' nx rs (k + 4) hv (inf r0) k1 k2⟩) (fun q => absurd (q r0) (by decide))
    · exact hY _ 1 (fun z => absurd z r0) (fun _ v' hv => ⟨rfl, hv (k + 4) nx⟩)
theorem i_vc_start {k : Nat} {u : SX} {v : SY} (I : i_Rel k u v) (hk : k + 4 ≤ 2052) (v1 : Int32) : wpX_start (fun r u' => wpY_start (fun r' v' => r' = r ∧ i_Rel (k + 4) u' v') v v1) u v1 := by
  refine zz_el (Q := fun u v => wpX_start (fun r u' => wpY_start (fun r' v' => r' = r ∧ i_Rel (k + 4) u' v') v v1) u v1) ?_ I
  intro f_cellLimit f_definitionLimit f_depthLimit f_itemLimit f_cellCount f_definedCount f_live f_state f_depth a_kinds a_firsts a_seconds a_widths a_uses a_parents a_attributed a_owners a_places a_contents a_columns a_unused a_childless a_nullable a_growEarly a_growLate a_guards a_items a_names a_late a_residuals a_next f_rootDefinition b_items a_itemKind a_itemName a_itemValue a_itemFit a_matches a_grows hR
  have J : i_Rel (k + 4) (f_cellLimit, f_definitionLimit, f_depthLimit, f_itemLimit, f_cellCount, f_definedCount, f_live, f_state, f_depth, a_kinds, a_firsts, a_seconds, a_widths, a_uses, a_parents, a_attributed, a_owners, a_places, a_contents, a_columns, a_unused, a_childless, a_nullable, a_growEarly, a_growLate, a_guards, a_items, a_names, a_late, a_residuals, a_next) (f_cellLimit, f_definitionLimit, f_depthLimit, f_itemLimit, f_cellCount, f_state, f_depth, f_rootDefinition, a_kinds, a_firsts, a_seconds, a_widths, a_uses, b_items, a_itemKind, a_itemName, a_itemValue, a_itemFit, a_matches, a_grows) := zz_in hR
  obtain ⟨lim, cnt, dl, dpl, itl, st, dy⟩ := hR
  unfold wpX_start wpY_start
  rcases sr_opn dy with hs | ⟨hs, L, root, dn, nas, L5, dy⟩
  · refine sr_clX hs (br_f (by decide) ?_)
    exact sr_clY (e := 0) hs (by decide) ⟨rfl, J⟩
  · obtain ⟨r, INFO, KEPT, hX, hY, hN⟩ := sr_ev0 st hs dy v1 0
    have ed : f_depth - 1 = nI L := by rw [dy.1]; exact nI_pred L
    have eL : (nI L).toNatClampNeg = L := sx_cl 5 L5
    have vL : vp_in (nI L) 5 := vp_in_nI L5 (by decide)
    refine hX _ (fun nx inf => br_c (fun r0 => ?_) (fun r0 => ?_))
    · rw [ed, eL]
      refine And.intro vL (And.intro vL (nm_e (And.intro vL (nm_r (e' := upd a_late L 1) (by rw [sx_vb1]) (sx_push (hN r0).1 dy.1 (fun rs k1 k2 => ?_))))))
      exact hY _ 1 (fun _ _ v' hv => ⟨rfl, (hN r0).2 v' nx rs (k + 4) hv (inf r0) k1 k2⟩) (fun q => absurd (q r0) (by decide))
    · exact hY _ 1 (fun z => absurd z r0) (fun _ v' hv => ⟨rfl, hv (k + 4) nx⟩)
theorem i_vc_end {k : Nat} {u : SX} {v : SY} (I : i_Rel k u v) (hk : k + 4 ≤ 2052) : wpX_end (fun r u' => wpY_end (fun r' v' => r' = r ∧ i_Rel (k + 4) u' v') v) u := by
  refine zz_el (Q := fun u v => wpX_end (fun r u' => wpY_end (fun r' v' => r' = r ∧ i_Rel (k + 4) u' v') v) u) ?_ I
  intro f_cellLimit f_definitionLimit f_depthLimit f_itemLimit f_cellCount f_definedCount f_live f_state f_depth a_kinds a_firsts a_seconds a_widths a_uses a_parents a_attributed a_owners a_places a_contents a_columns a_unused a_childless a_nullable a_growEarly a_growLate a_guards a_items a_names a_late a_residuals a_next f_rootDefinition b_items a_itemKind a_itemName a_itemValue a_itemFit a_matches a_grows hR
  have J : i_Rel (k + 4) (f_cellLimit, f_definitionLimit, f_depthLimit, f_itemLimit, f_cellCount, f_definedCount, f_live, f_state, f_depth, a_kinds, a_firsts, a_seconds, a_widths, a_uses, a_parents, a_attributed, a_owners, a_places, a_contents, a_columns, a_unused, a_childless, a_nullable, a_growEarly, a_growLate, a_guards, a_items, a_names, a_late, a_residuals, a_next) (f_cellLimit, f_definitionLimit, f_depthLimit, f_itemLimit, f_cellCount, f_state, f_depth, f_rootDefinition, a_kinds, a_firsts, a_seconds, a_widths, a_uses, b_items, a_itemKind, a_itemName, a_itemValue, a_itemFit, a_matches, a_grows) := zz_in hR
  obtain ⟨lim, cnt, dl, dpl, itl, st, dy⟩ := hR
  unfold wpX_end wpY_end
  rcases sr_opn dy with hs | ⟨hs, L, root, dn, nas, L5, dy⟩
  · refine sr_clX hs (br_f (by decide) (br_f (by decide) ?_))
    exact sr_clY (e := 3) hs (by decide) ⟨rfl, J⟩
  · obtain ⟨r, INFO, KEPT, hX, hY, hN, hN1⟩ := sr_ev3 st hs dy 0 0
    have ed : f_depth - 1 = nI L := by rw [dy.1]; exact nI_pred L
    refine hX _ (fun nx inf => br_c (fun r1 => ?_) (fun r1 => br_c (fun r0 => ?_) (fun r0 => ?_)))
    · exact hY _ 1 (fun _ _ v' hv => ⟨rfl, hN1 r1 v' nx (k + 4) hv⟩) (fun q => absurd (q (Or.inr r1)) (by decide))
    · obtain ⟨Q, eQ, hNQ⟩ := hN r0
      subst eQ
      refine nm_r ed ?_
      rw [nI_pred Q]
      refine sx_keep (by omega) (fun rs k1 k2 => ?_)
      exact hY _ 1 (fun _ _ v' hv => ⟨rfl, hNQ v' nx rs (k + 4) hv (inf r0) k1 k2⟩) (fun q => absurd (q (Or.inl r0)) (by decide))
    · exact hY _ 1 (fun z => z.elim (fun y => absurd y r0) (fun y => absurd y r1)) (fun _ v' hv => ⟨rfl, hv (k + 4) nx⟩)
theorem i_vc_probe {k : Nat} {u : SX} {v : SY} (I : i_Rel k u v) (hk : k + 4 ≤ 2052) (v1 : Int32) (v2 : Int32) (v3 : Int32) : wpX_probe (fun r u' => wpY_probe (fun r' v' => r' = r ∧ i_Rel (k + 4) u' v') v v1 v2 v3) u v1 v2 v3 := by
  refine zz_el (Q := fun u v => wpX_probe (fun r u' => wpY_probe (fun r' v' => r' = r ∧ i_Rel (k + 4) u' v') v v1 v2 v3) u v1 v2 v3) ?_ I
  intro f_cellLimit f_definitionLimit f_depthLimit f_itemLimit f_cellCount f_definedCount f_live f_state f_depth a_kinds a_firsts a_seconds a_widths a_uses a_parents a_attributed a_owners a_places a_contents a_columns a_unused a_childless a_nullable a_growEarly a_growLate a_guards a_items a_names a_late a_residuals a_next f_rootDefinition b_items a_itemKind a_itemName a_itemValue a_itemFit a_matches a_grows hR
  have J : i_Rel (k + 4) (f_cellLimit, f_definitionLimit, f_depthLimit, f_itemLimit, f_cellCount, f_definedCount, f_live, f_state, f_depth, a_kinds, a_firsts, a_seconds, a_widths, a_uses, a_parents, a_attributed, a_owners, a_places, a_contents, a_columns, a_unused, a_childless, a_nullable, a_growEarly, a_growLate, a_guards, a_items, a_names, a_late, a_residuals, a_next) (f_cellLimit, f_definitionLimit, f_depthLimit, f_itemLimit, f_cellCount, f_state, f_depth, f_rootDefinition, a_kinds, a_firsts, a_seconds, a_widths, a_uses, b_items, a_itemKind, a_itemName, a_itemValue, a_itemFit, a_matches, a_grows) := zz_in hR
  obtain ⟨lim, cnt, dl, dpl, itl, st, dy⟩ := hR
  unfold wpX_probe wpY_probe
  by_cases h0 : v1 < 0
  · refine br_t h0 ?_
    unfold wpY_attempt
    exact br_t h0 ⟨rfl, J⟩
  · by_cases h3 : v1 ≤ 3
    · refine br_f h0 (br_t h3 ?_)
      obtain ⟨e, he, rfl⟩ := nI_of2 (M := 3) (n := 3) (by decide) h0 h3
      rcases sr_opn dy with hs | ⟨hs, L, root, dn, nas, L5, dy⟩
      · refine sr_clX hs ?_
        exact sr_clY hs he ⟨rfl, J⟩
      · have c4 : e = 0 ∨ e = 1 ∨ e = 2 ∨ e = 3 := by omega
        rcases c4 with rfl | rfl | rfl | rfl
        · obtain ⟨r, INFO, KEPT, hX, hY, _⟩ := sr_ev0 st hs dy v2 v3
          exact hX _ (fun nx _ => hY _ 0 (fun _ z => absurd rfl z) (fun _ v' hv => ⟨rfl, hv (k + 4) nx⟩))
        · obtain ⟨r, INFO, KEPT, hX, hY, _⟩ := sr_ev1 st hs dy v2 v3
          exact hX _ (fun nx _ => hY _ 0 (fun _ z => absurd rfl z) (fun _ v' hv => ⟨rfl, hv (k + 4) nx⟩))
        · obtain ⟨r, INFO, KEPT, hX, hY, _⟩ := sr_ev2 st hs dy v2 v3
          exact hX _ (fun nx _ => hY _ 0 (fun _ z => absurd rfl z) (fun _ v' hv => ⟨rfl, hv (k + 4) nx⟩))
        · obtain ⟨r, INFO, KEPT, hX, hY, _⟩ := sr_ev3 st hs dy v2 v3
          exact hX _ (fun nx _ => hY _ 0 (fun _ z => absurd rfl z) (fun _ v' hv => ⟨rfl, hv (k + 4) nx⟩))
    · refine br_f h0 (br_f h3 ?_)
      unfold wpY_attempt
      exact br_f h0 (br_f h3 ⟨rfl, J⟩)
end
