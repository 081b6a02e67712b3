section
/-! ===== counting places ===== -/
def zt_cnt (f : Nat → Bool) : Nat → Nat
  | 0 => 0
  | k + 1 => zt_cnt f k + (f k).toNat
theorem zt_cnt_add (f : Nat → Bool) (a : Nat) : ∀ b, zt_cnt f (a + b) = zt_cnt f a + zt_cnt (fun i => f (a + i)) b
  | 0 => rfl
  | b + 1 => by
    show zt_cnt f (a + b) + (f (a + b)).toNat = zt_cnt f a + (zt_cnt (fun i => f (a + i)) b + (f (a + b)).toNat)
    rw [zt_cnt_add f a b, Nat.add_assoc]
theorem zt_cnt_congr {f g : Nat → Bool} : ∀ k, (∀ i, i < k → f i = g i) → zt_cnt f k = zt_cnt g k
  | 0, _ => rfl
  | k + 1, h => by
    show zt_cnt f k + (f k).toNat = zt_cnt g k + (g k).toNat
    rw [zt_cnt_congr k (fun i hi => h i (by omega)), h k (by omega)]
theorem zt_cnt_split (f g : Nat → Bool) : ∀ k, zt_cnt (fun i => f i && g i) k + zt_cnt (fun i => f i && !g i) k = zt_cnt f k
  | 0 => rfl
  | k + 1 => by
    have ih := zt_cnt_split f g k
    show (zt_cnt (fun i => f i && g i) k + (f k && g k).toNat) + (zt_cnt (fun i => f i && !g i) k + (f k && !g k).toNat) = zt_cnt f k + (f k).toNat
    have e : (f k && g k).toNat + (f k && !g k).toNat = (f k).toNat := by cases f k <;> cases g k <;> rfl
    omega
theorem zt_b1 (b : Bool) : b.toNat ≤ 1 := by cases b <;> decide
theorem zt_cnt_le (f : Nat → Bool) : ∀ k, zt_cnt f k ≤ k
  | 0 => Nat.le_refl 0
  | k + 1 => by
    have ih := zt_cnt_le f k
    have := zt_b1 (f k)
    show zt_cnt f k + (f k).toNat ≤ k + 1
    omega
theorem zt_cnt_zero (f : Nat → Bool) : ∀ k, zt_cnt f k = 0 → ∀ i, i < k → f i = false
  | 0, _, i, hi => absurd hi (by omega)
  | k + 1, h, i, hi => by
    have h' : zt_cnt f k + (f k).toNat = 0 := h
    by_cases e : i = k
    · rw [e]
      cases hf : f k
      · rfl
      · rw [hf] at h'
        exact absurd h' (by simp)
    · exact zt_cnt_zero f k (by omega) i (by omega)
theorem zt_cnt_none {f : Nat → Bool} : ∀ k, (∀ i, i < k → f i = false) → zt_cnt f k = 0
  | 0, _ => rfl
  | k + 1, h => by
    show zt_cnt f k + (f k).toNat = 0
    rw [zt_cnt_none k (fun i hi => h i (by omega)), h k (by omega)]
    rfl
/-! ===== an Int64 as an unsigned number ===== -/
def zt_u (x : Int64) : Nat := x.toUInt64.toNat
theorem zt_u_lt (x : Int64) : zt_u x < 18446744073709551616 := x.toUInt64.toNat_lt
theorem zt_u_inj {x y : Int64} (h : zt_u x = zt_u y) : x = y := congrArg UInt64.toInt64 (UInt64.toNat_inj.mp h)
theorem zt_u_add (x y : Int64) : zt_u (x + y) = (zt_u x + zt_u y) % 18446744073709551616 := by
  show (x.toUInt64 + y.toUInt64).toNat = _
  exact UInt64.toNat_add _ _
theorem zt_u_sub {x y : Int64} (h : zt_u y ≤ zt_u x) : zt_u (x - y) = zt_u x - zt_u y := by
  show (x.toUInt64 - y.toUInt64).toNat = _
  exact UInt64.toNat_sub_of_le _ _ (UInt64.le_iff_toNat_le.mpr h)
theorem zt_u_mul (x y : Int64) : zt_u (x * y) = (zt_u x * zt_u y) % 18446744073709551616 := by
  show (x.toUInt64 * y.toUInt64).toNat = _
  exact UInt64.toNat_mul _ _
theorem zt_u_and (x y : Int64) : zt_u (x &&& y) = zt_u x &&& zt_u y := by
  show (x.toUInt64 &&& y.toUInt64).toNat = _
  exact UInt64.toNat_and _ _
theorem zt_u_xor (x y : Int64) : zt_u (x ^^^ y) = zt_u x ^^^ zt_u y := by
  show (x.toUInt64 ^^^ y.toUInt64).toNat = _
  exact UInt64.toNat_xor _ _
theorem zt_u_shr (x : Int64) (s : UInt64) : zt_u (x.toUInt64 >>> s).toInt64 = zt_u x / 2 ^ (s.toNat % 64) := by
  show (x.toUInt64 >>> s).toNat = _
  rw [UInt64.toNat_shiftRight, Nat.shiftRight_eq_div_pow]
  rfl
theorem zt_s1 (x : Int64) : zt_u (x.toUInt64 >>> ((1 : Int32).toInt64.toUInt64 &&& Int64.toUInt64 63)).toInt64 = zt_u x / 2 := by
  have h : ((1 : Int32).toInt64.toUInt64 &&& Int64.toUInt64 63).toNat % 64 = 1 := by decide
  rw [zt_u_shr, h]
theorem zt_s2 (x : Int64) : zt_u (x.toUInt64 >>> ((2 : Int32).toInt64.toUInt64 &&& Int64.toUInt64 63)).toInt64 = zt_u x / 4 := by
  have h : ((2 : Int32).toInt64.toUInt64 &&& Int64.toUInt64 63).toNat % 64 = 2 := by decide
  rw [zt_u_shr, h]
theorem zt_s4 (x : Int64) : zt_u (x.toUInt64 >>> ((4 : Int32).toInt64.toUInt64 &&& Int64.toUInt64 63)).toInt64 = zt_u x / 16 := by
  have h : ((4 : Int32).toInt64.toUInt64 &&& Int64.toUInt64 63).toNat % 64 = 4 := by decide
  rw [zt_u_shr, h]
theorem zt_s56 (x : Int64) : zt_u (x.toUInt64 >>> ((56 : Int32).toInt64.toUInt64 &&& Int64.toUInt64 63)).toInt64 = zt_u x / 72057594037927936 := by
  have h : ((56 : Int32).toInt64.toUInt64 &&& Int64.toUInt64 63).toNat % 64 = 56 := by decide
  rw [zt_u_shr, h]
theorem zt_u_lN {k : Nat} (h : k < 18446744073709551616) : zt_u (lN k) = k := by
  show (BitVec.ofNat 64 k).toNat = k
  rw [BitVec.toNat_ofNat]
  exact Nat.mod_eq_of_lt h
theorem zt_to32 {z : Int64} {k : Nat} (h : zt_u z = k) : z.toInt32 = nI k := by
  have hl := zt_u_lt z
  have e : z = lN k := zt_u_inj (by rw [zt_u_lN (by omega), h])
  rw [e, lN_i]
/-! ===== popcount ===== -/
def zt_pc (x : Int64) : Nat := zt_cnt (fun i => (zt_u x).testBit i) 64
theorem zt_pc_le (x : Int64) : zt_pc x ≤ 64 := zt_cnt_le _ 64
theorem zt_u_m1 : zt_u (-1) = 2 ^ 64 - 1 := by decide
theorem zt_pc_split (x y : Int64) : zt_pc (x &&& y) + zt_pc (x &&& (y ^^^ (-1))) = zt_pc x := by
  have h := zt_cnt_split (fun i => (zt_u x).testBit i) (fun i => (zt_u y).testBit i) 64
  have e1 : zt_pc (x &&& y) = zt_cnt (fun i => (zt_u x).testBit i && (zt_u y).testBit i) 64 :=
    zt_cnt_congr 64 (fun i _ => by rw [zt_u_and, Nat.testBit_and])
  have e2 : zt_pc (x &&& (y ^^^ (-1))) = zt_cnt (fun i => (zt_u x).testBit i && !(zt_u y).testBit i) 64 :=
    zt_cnt_congr 64 (fun i hi => by
      rw [zt_u_and, Nat.testBit_and, zt_u_xor, Nat.testBit_xor, zt_u_m1, Nat.testBit_two_pow_sub_one, decide_eq_true hi, Bool.xor_true])
  rw [e1, e2]
  exact h
theorem zt_pc_0 : zt_pc 0 = 0 := by decide
theorem zt_pc_eq0 {x : Int64} (h : zt_pc x = 0) : x = 0 := by
  apply zt_u_inj
  apply Nat.eq_of_testBit_eq
  intro i
  have e0 : zt_u 0 = 0 := by decide
  rw [e0, Nat.zero_testBit]
  by_cases hi : i < 64
  · exact zt_cnt_zero _ 64 h i hi
  · exact Nat.testBit_lt_two_pow (Nat.lt_of_lt_of_le (zt_u_lt x) (Nat.pow_le_pow_right (n := 2) (by decide) (show 64 ≤ i by omega)))
theorem zt_pc_pos {x : Int64} (h : ¬ x = 0) : 0 < zt_pc x := by
  rcases Nat.eq_zero_or_pos (zt_pc x) with e | e
  · exact absurd (zt_pc_eq0 e) h
  · exact e
/-! ===== bytes ===== -/
def zt_ev : List Nat → Nat
  | [] => 0
  | b :: l => b + 256 * zt_ev l
def zt_rep (m : Nat) : Nat → Nat
  | 0 => 0
  | n + 1 => m + 256 * zt_rep m n
theorem zt_tb {b : Nat} (hb : b < 256) (e i : Nat) : (b + 256 * e).testBit i = if i < 8 then b.testBit i else e.testBit (i - 8) := by
  rw [Nat.add_comm]
  exact Nat.testBit_two_pow_mul_add e (i := 8) hb i
theorem zt_land {d e : Nat} (hd : d < 256) (he : e < 256) (r s : Nat) : (d + 256 * r) &&& (e + 256 * s) = (d &&& e) + 256 * (r &&& s) := by
  apply Nat.eq_of_testBit_eq
  intro i
  have hde : d &&& e < 256 := Nat.lt_of_le_of_lt Nat.and_le_left hd
  rw [Nat.testBit_and, zt_tb hd, zt_tb he, zt_tb hde]
  by_cases h : i < 8
  · rw [if_pos h, if_pos h, if_pos h, Nat.testBit_and]
  · rw [if_neg h, if_neg h, if_neg h, Nat.testBit_and]
theorem zt_bytes : ∀ k n, n < 256 ^ k → ∃ l : List Nat, l.length = k ∧ (∀ b, b ∈ l → b < 256) ∧ n = zt_ev l
  | 0, n, h => ⟨[], rfl, fun b hb => absurd hb (by simp), by
      show n = 0
      have : n < 1 := h
      omega⟩
  | k + 1, n, h => by
    obtain ⟨l, h1, h2, h3⟩ := zt_bytes k (n / 256) (by
      rw [Nat.pow_succ] at h
      omega)
    refine ⟨n % 256 :: l, by rw [List.length_cons, h1], fun b hb => ?_, ?_⟩
    · rcases List.mem_cons.mp hb with e | e
      · omega
      · exact h2 b e
    · show n = n % 256 + 256 * zt_ev l
      omega
theorem zt_d2 : ∀ b, b < 256 → ∀ p, p < 2 → (b / 2 + 128 * p) &&& 85 = b / 2 &&& 85 := by decide +kernel
theorem zt_d4 : ∀ b, b < 256 → ∀ p, p < 4 → (b / 4 + 64 * p) &&& 51 = b / 4 &&& 51 := by decide +kernel
theorem zt_d16 : ∀ b, b < 69 → ∀ p, p < 5 → (b + b / 16 + 16 * p) &&& 15 = (b + b / 16) &&& 15 := by decide +kernel
theorem zt_m2 : ∀ l : List Nat, (∀ b, b ∈ l → b < 256) → (zt_ev l / 2) &&& zt_rep 85 l.length = zt_ev (l.map (fun b => b / 2 &&& 85))
  | [], _ => by decide
  | b :: l, h => by
    have hb := h b (List.mem_cons_self ..)
    have ih := zt_m2 l (fun c hc => h c (List.mem_cons_of_mem _ hc))
    show ((b + 256 * zt_ev l) / 2) &&& (85 + 256 * zt_rep 85 l.length) = (b / 2 &&& 85) + 256 * zt_ev (l.map (fun b => b / 2 &&& 85))
    rw [← ih, show (b + 256 * zt_ev l) / 2 = (b / 2 + 128 * (zt_ev l % 2)) + 256 * (zt_ev l / 2) by omega, zt_land (by omega) (by omega), zt_d2 b hb _ (by omega)]
theorem zt_m4 : ∀ l : List Nat, (∀ b, b ∈ l → b < 256) → (zt_ev l / 4) &&& zt_rep 51 l.length = zt_ev (l.map (fun b => b / 4 &&& 51))
  | [], _ => by decide
  | b :: l, h => by
    have hb := h b (List.mem_cons_self ..)
    have ih := zt_m4 l (fun c hc => h c (List.mem_cons_of_mem _ hc))
    show ((b + 256 * zt_ev l) / 4) &&& (51 + 256 * zt_rep 51 l.length) = (b / 4 &&& 51) + 256 * zt_ev (l.map (fun b => b / 4 &&& 51))
    rw [← ih, show (b + 256 * zt_ev l) / 4 = (b / 4 + 64 * (zt_ev l % 4)) + 256 * (zt_ev l / 4) by omega, zt_land (by omega) (by omega), zt_d4 b hb _ (by omega)]
theorem zt_m1 : ∀ l : List Nat, (∀ b, b ∈ l → b < 256) → (zt_ev l) &&& zt_rep 51 l.length = zt_ev (l.map (fun b => b &&& 51))
  | [], _ => by decide
  | b :: l, h => by
    have hb := h b (List.mem_cons_self ..)
    have ih := zt_m1 l (fun c hc => h c (List.mem_cons_of_mem _ hc))
    show (b + 256 * zt_ev l) &&& (51 + 256 * zt_rep 51 l.length) = (b &&& 51) + 256 * zt_ev (l.map (fun b => b &&& 51))
    rw [← ih, zt_land (by omega) (by omega)]
theorem zt_ev16 : ∀ l : List Nat, (∀ b, b ∈ l → b % 16 < 5) → zt_ev l % 16 < 5
  | [], _ => by decide
  | b :: l, h => by
    have hb := h b (List.mem_cons_self ..)
    show (b + 256 * zt_ev l) % 16 < 5
    omega
theorem zt_m16 : ∀ l : List Nat, (∀ b, b ∈ l → b < 69) → (∀ b, b ∈ l → b % 16 < 5) → (zt_ev l + zt_ev l / 16) &&& zt_rep 15 l.length = zt_ev (l.map (fun b => (b + b / 16) &&& 15))
  | [], _, _ => by decide
  | b :: l, h, h' => by
    have hb := h b (List.mem_cons_self ..)
    have he := zt_ev16 l (fun c hc => h' c (List.mem_cons_of_mem _ hc))
    have ih := zt_m16 l (fun c hc => h c (List.mem_cons_of_mem _ hc)) (fun c hc => h' c (List.mem_cons_of_mem _ hc))
    show ((b + 256 * zt_ev l) + (b + 256 * zt_ev l) / 16) &&& (15 + 256 * zt_rep 15 l.length) = ((b + b / 16) &&& 15) + 256 * zt_ev (l.map (fun b => (b + b / 16) &&& 15))
    rw [← ih, show (b + 256 * zt_ev l) + (b + 256 * zt_ev l) / 16 = (b + b / 16 + 16 * (zt_ev l % 16)) + 256 * (zt_ev l + zt_ev l / 16) by omega, zt_land (by omega) (by omega), zt_d16 b hb _ he]
theorem zt_evsub (f : Nat → Nat) (hf : ∀ b, f b ≤ b) : ∀ l : List Nat, zt_ev (l.map f) ≤ zt_ev l ∧ zt_ev l - zt_ev (l.map f) = zt_ev (l.map (fun b => b - f b))
  | [] => ⟨Nat.le_refl _, rfl⟩
  | b :: l => by
    obtain ⟨h1, h2⟩ := zt_evsub f hf l
    have hb := hf b
    constructor
    · show f b + 256 * zt_ev (l.map f) ≤ b + 256 * zt_ev l
      omega
    · show (b + 256 * zt_ev l) - (f b + 256 * zt_ev (l.map f)) = (b - f b) + 256 * zt_ev (l.map (fun b => b - f b))
      omega
theorem zt_evadd (f g : Nat → Nat) : ∀ l : List Nat, zt_ev (l.map f) + zt_ev (l.map g) = zt_ev (l.map (fun b => f b + g b))
  | [] => rfl
  | b :: l => by
    have ih := zt_evadd f g l
    show (f b + 256 * zt_ev (l.map f)) + (g b + 256 * zt_ev (l.map g)) = (f b + g b) + 256 * zt_ev (l.map (fun b => f b + g b))
    omega
def zt_h1 (b : Nat) : Nat := b - (b / 2 &&& 85)
def zt_h2 (b : Nat) : Nat := (b &&& 51) + (b / 4 &&& 51)
def zt_h3 (b : Nat) : Nat := (b + b / 16) &&& 15
theorem zt_h : ∀ b, b < 256 → zt_h1 b < 256 ∧ zt_h2 (zt_h1 b) < 69 ∧ zt_h2 (zt_h1 b) % 16 < 5 ∧ zt_h3 (zt_h2 (zt_h1 b)) = zt_cnt (fun i => b.testBit i) 8 := by decide +kernel
theorem zt_cnt_ev : ∀ l : List Nat, (∀ b, b ∈ l → b < 256) → zt_cnt (fun i => (zt_ev l).testBit i) (8 * l.length) = (l.map (fun b => zt_cnt (fun i => b.testBit i) 8)).sum
  | [], _ => rfl
  | b :: l, h => by
    have hb := h b (List.mem_cons_self ..)
    have ih := zt_cnt_ev l (fun c hc => h c (List.mem_cons_of_mem _ hc))
    rw [List.length_cons, show 8 * (l.length + 1) = 8 + 8 * l.length by omega, zt_cnt_add, List.map_cons, List.sum_cons, ← ih]
    congr 1
    · exact zt_cnt_congr 8 (fun i hi => by
        show (b + 256 * zt_ev l).testBit i = _
        rw [zt_tb hb, if_pos hi])
    · exact zt_cnt_congr _ (fun i hi => by
        show (b + 256 * zt_ev l).testBit (8 + i) = _
        rw [zt_tb hb, if_neg (by omega), Nat.add_sub_cancel_left])
theorem zt_divm {X A B r : Nat} (h : X = 18446744073709551616 * A + 72057594037927936 * B + r) (hB : B < 256) (hr : r < 72057594037927936) : X % 18446744073709551616 / 72057594037927936 = B := by
  omega
theorem zt_top {c0 c1 c2 c3 c4 c5 c6 c7 : Nat} (h0 : c0 ≤ 8) (h1 : c1 ≤ 8) (h2 : c2 ≤ 8) (h3 : c3 ≤ 8) (h4 : c4 ≤ 8) (h5 : c5 ≤ 8) (h6 : c6 ≤ 8) (h7 : c7 ≤ 8) :
    (zt_ev [c0, c1, c2, c3, c4, c5, c6, c7] * 72340172838076673) % 18446744073709551616 / 72057594037927936 = [c0, c1, c2, c3, c4, c5, c6, c7].sum := by
  have e : [c0, c1, c2, c3, c4, c5, c6, c7].sum = c0 + c1 + c2 + c3 + c4 + c5 + c6 + c7 := by
    simp only [List.sum_cons, List.sum_nil]
    omega
  rw [e]
  have e2 : zt_ev [c0, c1, c2, c3, c4, c5, c6, c7] = c0 + 256 * c1 + 65536 * c2 + 16777216 * c3 + 4294967296 * c4 + 1099511627776 * c5 + 281474976710656 * c6 + 72057594037927936 * c7 := by
    simp only [zt_ev]
    omega
  rw [e2]
  refine zt_divm (A := (c1 + c2 + c3 + c4 + c5 + c6 + c7) + 256 * (c2 + c3 + c4 + c5 + c6 + c7) + 65536 * (c3 + c4 + c5 + c6 + c7) + 16777216 * (c4 + c5 + c6 + c7) + 4294967296 * (c5 + c6 + c7) + 1099511627776 * (c6 + c7) + 281474976710656 * c7)
    (r := c0 + 256 * (c0 + c1) + 65536 * (c0 + c1 + c2) + 16777216 * (c0 + c1 + c2 + c3) + 4294967296 * (c0 + c1 + c2 + c3 + c4) + 1099511627776 * (c0 + c1 + c2 + c3 + c4 + c5) + 281474976710656 * (c0 + c1 + c2 + c3 + c4 + c5 + c6)) ?_ ?_ ?_
  · omega
  · omega
  · omega
theorem zt_len8 {l : List Nat} (h : l.length = 8) : ∃ c0 c1 c2 c3 c4 c5 c6 c7, l = [c0, c1, c2, c3, c4, c5, c6, c7] := by
  match l, h with
  | [c0, c1, c2, c3, c4, c5, c6, c7], _ => exact ⟨c0, c1, c2, c3, c4, c5, c6, c7, rfl⟩
theorem zt_ev_lt : ∀ l : List Nat, (∀ b, b ∈ l → b < 256) → zt_ev l < 256 ^ l.length
  | [], _ => by decide
  | b :: l, h => by
    have hb := h b (List.mem_cons_self ..)
    have ih := zt_ev_lt l (fun c hc => h c (List.mem_cons_of_mem _ hc))
    show b + 256 * zt_ev l < 256 ^ (l.length + 1)
    rw [Nat.pow_succ]
    omega
/-- what ones computes -/
theorem zt_swar (x y1 y2 y3 : Int64)
    (e1 : y1 = x - (((x.toUInt64 >>> ((1 : Int32).toInt64.toUInt64 &&& Int64.toUInt64 63)).toInt64) &&& 6148914691236517205))
    (e2 : y2 = (y1 &&& 3689348814741910323) + (((y1.toUInt64 >>> ((2 : Int32).toInt64.toUInt64 &&& Int64.toUInt64 63)).toInt64) &&& 3689348814741910323))
    (e3 : y3 = (y2 + ((y2.toUInt64 >>> ((4 : Int32).toInt64.toUInt64 &&& Int64.toUInt64 63)).toInt64)) &&& 1085102592571150095) :
    zt_u (((y3 * 72340172838076673).toUInt64 >>> ((56 : Int32).toInt64.toUInt64 &&& Int64.toUInt64 63)).toInt64) = zt_pc x := by
  obtain ⟨l, hl, hb, hx⟩ := zt_bytes 8 (zt_u x) (zt_u_lt x)
  have M1 : zt_u 6148914691236517205 = zt_rep 85 8 := by decide
  have M2 : zt_u 3689348814741910323 = zt_rep 51 8 := by decide
  have M4 : zt_u 1085102592571150095 = zt_rep 15 8 := by decide
  have M8 : zt_u 72340172838076673 = 72340172838076673 := by decide
  have hle : ∀ b : Nat, (b / 2 &&& 85) ≤ b := fun b => Nat.le_trans Nat.and_le_left (Nat.div_le_self _ _)
  obtain ⟨s1, s2⟩ := zt_evsub (fun b => b / 2 &&& 85) hle l
  have u1 : zt_u y1 = zt_ev (l.map zt_h1) := by
    have t : zt_u (((x.toUInt64 >>> ((1 : Int32).toInt64.toUInt64 &&& Int64.toUInt64 63)).toInt64) &&& 6148914691236517205) = zt_ev (l.map (fun b => b / 2 &&& 85)) := by
      rw [zt_u_and, zt_s1, M1, hx, ← hl, zt_m2 l hb]
    rw [e1, zt_u_sub (by rw [t, hx]; exact s1), t, hx, s2]
    rfl
  have b1 : ∀ b, b ∈ l.map zt_h1 → b < 256 := by
    intro b h
    obtain ⟨c, hc, rfl⟩ := List.mem_map.mp h
    exact (zt_h c (hb c hc)).1
  have l1 : (l.map zt_h1).length = 8 := by rw [List.length_map, hl]
  have b2 : ∀ b, b ∈ (l.map zt_h1).map zt_h2 → b < 69 := by
    intro b h
    rw [List.map_map] at h
    obtain ⟨c, hc, rfl⟩ := List.mem_map.mp h
    exact (zt_h c (hb c hc)).2.1
  have b2' : ∀ b, b ∈ (l.map zt_h1).map zt_h2 → b % 16 < 5 := by
    intro b h
    rw [List.map_map] at h
    obtain ⟨c, hc, rfl⟩ := List.mem_map.mp h
    exact (zt_h c (hb c hc)).2.2.1
  have l2 : ((l.map zt_h1).map zt_h2).length = 8 := by rw [List.length_map, l1]
  have u2 : zt_u y2 = zt_ev ((l.map zt_h1).map zt_h2) := by
    have t1 : zt_u (y1 &&& 3689348814741910323) = zt_ev ((l.map zt_h1).map (fun b => b &&& 51)) := by
      rw [zt_u_and, M2, u1, ← l1, zt_m1 _ b1]
    have t2 : zt_u (((y1.toUInt64 >>> ((2 : Int32).toInt64.toUInt64 &&& Int64.toUInt64 63)).toInt64) &&& 3689348814741910323) = zt_ev ((l.map zt_h1).map (fun b => b / 4 &&& 51)) := by
      rw [zt_u_and, zt_s2, M2, u1, ← l1, zt_m4 _ b1]
    rw [e2, zt_u_add, t1, t2, zt_evadd]
    refine Nat.mod_eq_of_lt ?_
    have := zt_ev_lt ((l.map zt_h1).map zt_h2) (fun b h => Nat.lt_trans (b2 b h) (by decide))
    rw [l2] at this
    exact this
  have u3 : zt_u y3 = zt_ev (((l.map zt_h1).map zt_h2).map zt_h3) := by
    have t : zt_u (y2 + ((y2.toUInt64 >>> ((4 : Int32).toInt64.toUInt64 &&& Int64.toUInt64 63)).toInt64)) = zt_ev ((l.map zt_h1).map zt_h2) + zt_ev ((l.map zt_h1).map zt_h2) / 16 := by
      rw [zt_u_add, zt_s4, u2]
      refine Nat.mod_eq_of_lt ?_
      obtain ⟨c0, c1, c2, c3, c4, c5, c6, c7, hc⟩ := zt_len8 l2
      rw [hc] at b2 ⊢
      have h7 := b2 c7 (by simp)
      have h6 := b2 c6 (by simp)
      have h5 := b2 c5 (by simp)
      have h4 := b2 c4 (by simp)
      have h3 := b2 c3 (by simp)
      have h2 := b2 c2 (by simp)
      have h1 := b2 c1 (by simp)
      have h0 := b2 c0 (by simp)
      simp only [zt_ev]
      omega
    rw [e3, zt_u_and, t, M4, ← l2, zt_m16 _ b2 b2']
    rfl
  have e4 : ((l.map zt_h1).map zt_h2).map zt_h3 = l.map (fun b => zt_cnt (fun i => b.testBit i) 8) := by
    rw [List.map_map, List.map_map]
    exact List.map_congr_left (fun b h => (zt_h b (hb b h)).2.2.2)
  rw [e4] at u3
  have l3 : (l.map (fun b => zt_cnt (fun i => b.testBit i) 8)).length = 8 := by rw [List.length_map, hl]
  have b3 : ∀ b, b ∈ l.map (fun b => zt_cnt (fun i => b.testBit i) 8) → b ≤ 8 := by
    intro b h
    obtain ⟨c, hc, rfl⟩ := List.mem_map.mp h
    exact zt_cnt_le _ 8
  have hpc : zt_pc x = (l.map (fun b => zt_cnt (fun i => b.testBit i) 8)).sum := by
    rw [← zt_cnt_ev l hb, ← hx, hl]
    rfl
  rw [zt_s56, zt_u_mul, u3, M8, hpc]
  obtain ⟨c0, c1, c2, c3, c4, c5, c6, c7, hc⟩ := zt_len8 l3
  rw [hc] at b3 ⊢
  exact zt_top (b3 c0 (by simp)) (b3 c1 (by simp)) (b3 c2 (by simp)) (b3 c3 (by simp)) (b3 c4 (by simp)) (b3 c5 (by simp)) (b3 c6 (by simp)) (b3 c7 (by simp))
theorem zt_ones {post : Int32 → Prop} {x : Int64} (h : post (nI (zt_pc x))) : wpX_ones post () x := by
  intro y1 e1 y2 e2 y3 e3
  rw [zt_to32 (zt_swar x y1 y2 y3 e1 e2 e3)]
  exact h
end
section
/-! ===== the sorted values of a set of rows ===== -/
theorem zt_ac (x y z : Int64) : (x &&& y) &&& z = (x &&& z) &&& y := by
  rw [Int64.and_assoc, Int64.and_comm y z, ← Int64.and_assoc]
/-- the values of the rows of R, in order; the digits from the highest down -/
def zt_T (R : Int64) : List Int64 → List Nat
  | [] => List.replicate (zt_pc R) 0
  | s :: ms => zt_T (R &&& (s ^^^ (-1))) ms ++ (zt_T (R &&& s) ms).map (fun v => v + 2 ^ ms.length)
theorem zt_T_len : ∀ (ms : List Int64) (R : Int64), (zt_T R ms).length = zt_pc R
  | [], R => List.length_replicate
  | s :: ms, R => by
    show (zt_T (R &&& (s ^^^ (-1))) ms ++ (zt_T (R &&& s) ms).map (fun v => v + 2 ^ ms.length)).length = _
    rw [List.length_append, List.length_map, zt_T_len ms, zt_T_len ms, ← zt_pc_split R s, Nat.add_comm]
theorem zt_T_mem {s : Int64} {ms : List Int64} {R : Int64} {v : Nat} (h : v ∈ zt_T R (s :: ms)) : v ∈ zt_T (R &&& (s ^^^ (-1))) ms ∨ ∃ w, w ∈ zt_T (R &&& s) ms ∧ w + 2 ^ ms.length = v := by
  have h' : v ∈ zt_T (R &&& (s ^^^ (-1))) ms ++ (zt_T (R &&& s) ms).map (fun v => v + 2 ^ ms.length) := h
  rcases List.mem_append.mp h' with h | h
  · exact Or.inl h
  · exact Or.inr (List.mem_map.mp h)
theorem zt_T_lt : ∀ (ms : List Int64) (R : Int64) (v : Nat), v ∈ zt_T R ms → v < 2 ^ ms.length
  | [], R, v, h => by
    have := (List.mem_replicate.mp h).2
    rw [this]
    decide
  | s :: ms, R, v, h => by
    rw [List.length_cons, Nat.pow_succ]
    rcases zt_T_mem h with h | ⟨w, hw, rfl⟩
    · have := zt_T_lt ms _ v h
      omega
    · have := zt_T_lt ms _ w hw
      omega
theorem zt_T_sorted : ∀ (ms : List Int64) (R : Int64), (zt_T R ms).Pairwise (fun a b => a ≤ b)
  | [], R => List.pairwise_replicate.mpr (Or.inr (Nat.le_refl 0))
  | s :: ms, R => by
    show (zt_T (R &&& (s ^^^ (-1))) ms ++ (zt_T (R &&& s) ms).map (fun v => v + 2 ^ ms.length)).Pairwise (fun a b => a ≤ b)
    rw [List.pairwise_append]
    refine ⟨zt_T_sorted ms _, ?_, ?_⟩
    · rw [List.pairwise_map]
      exact (zt_T_sorted ms _).imp (fun h => Nat.add_le_add_right h _)
    · intro a ha b hb
      obtain ⟨w, hw, rfl⟩ := List.mem_map.mp hb
      have := zt_T_lt ms _ a ha
      omega
/-! the sum -/
def zt_S (R : Int64) : List Int64 → Nat
  | [] => 0
  | s :: ms => 2 ^ ms.length * zt_pc (R &&& s) + zt_S R ms
theorem zt_S_split (s : Int64) : ∀ (ms : List Int64) (R : Int64), zt_S (R &&& (s ^^^ (-1))) ms + zt_S (R &&& s) ms = zt_S R ms
  | [], R => rfl
  | t :: ms, R => by
    have ih := zt_S_split s ms R
    have h := zt_pc_split (R &&& t) s
    show (2 ^ ms.length * zt_pc ((R &&& (s ^^^ (-1))) &&& t) + zt_S (R &&& (s ^^^ (-1))) ms) + (2 ^ ms.length * zt_pc ((R &&& s) &&& t) + zt_S (R &&& s) ms) = 2 ^ ms.length * zt_pc (R &&& t) + zt_S R ms
    rw [← ih, ← h, zt_ac R s t, zt_ac R (s ^^^ (-1)) t, Nat.mul_add]
    omega
theorem zt_sum_map (c : Nat) : ∀ l : List Nat, (l.map (fun v => v + c)).sum = c * l.length + l.sum
  | [] => by simp
  | v :: l => by
    rw [List.map_cons, List.sum_cons, List.sum_cons, zt_sum_map c l, List.length_cons, Nat.mul_succ]
    omega
theorem zt_T_sum : ∀ (ms : List Int64) (R : Int64), (zt_T R ms).sum = zt_S R ms
  | [], R => by
    show (List.replicate (zt_pc R) 0).sum = 0
    simp
  | s :: ms, R => by
    show (zt_T (R &&& (s ^^^ (-1))) ms ++ (zt_T (R &&& s) ms).map (fun v => v + 2 ^ ms.length)).sum = 2 ^ ms.length * zt_pc (R &&& s) + zt_S R ms
    rw [List.sum_append_nat, zt_sum_map, zt_T_len, zt_T_sum ms, zt_T_sum ms, ← zt_S_split s ms R]
    omega
/-! how many different ones; p is the last one plus one -/
def zt_runs : Nat → List Nat → Nat
  | _, [] => 0
  | p, v :: l => (if v + 1 = p then 0 else 1) + zt_runs (v + 1) l
def zt_lst : Nat → List Nat → Nat
  | p, [] => p
  | _, v :: l => zt_lst (v + 1) l
theorem zt_runs_app (B : List Nat) : ∀ (A : List Nat) (p : Nat), zt_runs p (A ++ B) = zt_runs p A + zt_runs (zt_lst p A) B
  | [], p => by
    show zt_runs p B = 0 + zt_runs p B
    omega
  | v :: l, p => by
    show (if v + 1 = p then 0 else 1) + zt_runs (v + 1) (l ++ B) = ((if v + 1 = p then 0 else 1) + zt_runs (v + 1) l) + zt_runs (zt_lst (v + 1) l) B
    rw [zt_runs_app B l (v + 1)]
    omega
theorem zt_lst_or : ∀ (A : List Nat) (p : Nat), zt_lst p A = p ∨ ∃ v, v ∈ A ∧ zt_lst p A = v + 1
  | [], p => Or.inl rfl
  | v :: l, p => by
    rcases zt_lst_or l (v + 1) with h | ⟨w, hw, h⟩
    · exact Or.inr ⟨v, List.mem_cons_self .., h⟩
    · exact Or.inr ⟨w, List.mem_cons_of_mem _ hw, h⟩
theorem zt_runs_shift (c : Nat) : ∀ (l : List Nat) (p : Nat), zt_runs (p + c) (l.map (fun v => v + c)) = zt_runs p l
  | [], p => rfl
  | v :: l, p => by
    show (if v + c + 1 = p + c then 0 else 1) + zt_runs (v + c + 1) (l.map (fun v => v + c)) = (if v + 1 = p then 0 else 1) + zt_runs (v + 1) l
    rw [show v + c + 1 = (v + 1) + c by omega, zt_runs_shift c l (v + 1)]
    by_cases h : v + 1 = p
    · rw [if_pos h, if_pos (by omega)]
    · rw [if_neg h, if_neg (by omega)]
theorem zt_runs_new {l : List Nat} {p q : Nat} (hp : ∀ v, v ∈ l → ¬ v + 1 = p) (hq : ∀ v, v ∈ l → ¬ v + 1 = q) : zt_runs p l = zt_runs q l := by
  cases l with
  | nil => rfl
  | cons v l =>
    show (if v + 1 = p then 0 else 1) + zt_runs (v + 1) l = (if v + 1 = q then 0 else 1) + zt_runs (v + 1) l
    rw [if_neg (hp v (List.mem_cons_self ..)), if_neg (hq v (List.mem_cons_self ..))]
theorem zt_runs_rep : ∀ n, zt_runs 1 (List.replicate n 0) = 0
  | 0 => rfl
  | n + 1 => by
    show (if 0 + 1 = 1 then 0 else 1) + zt_runs (0 + 1) (List.replicate n 0) = 0
    rw [if_pos rfl, zt_runs_rep n]
/-- how many of the sets that the digits split R into have rows -/
def zt_D (R : Int64) : List Int64 → Nat
  | [] => if R = 0 then 0 else 1
  | s :: ms => zt_D (R &&& (s ^^^ (-1))) ms + zt_D (R &&& s) ms
theorem zt_T_runs : ∀ (ms : List Int64) (R : Int64) (p : Nat), (∀ v, v ∈ zt_T R ms → ¬ v + 1 = p) → zt_runs p (zt_T R ms) = zt_D R ms
  | [], R, p, h => by
    have h' : ∀ v, v ∈ List.replicate (zt_pc R) 0 → ¬ v + 1 = p := h
    show zt_runs p (List.replicate (zt_pc R) 0) = if R = 0 then 0 else 1
    by_cases e : R = 0
    · rw [if_pos e, e, zt_pc_0]
      rfl
    · have hpos := zt_pc_pos e
      rw [if_neg e]
      obtain ⟨n, hn⟩ : ∃ n, zt_pc R = n + 1 := ⟨zt_pc R - 1, by omega⟩
      rw [hn] at h' ⊢
      show (if 0 + 1 = p then 0 else 1) + zt_runs (0 + 1) (List.replicate n 0) = 1
      rw [if_neg (h' 0 (by rw [List.replicate_succ]; exact List.mem_cons_self ..)), zt_runs_rep n]
  | s :: ms, R, p, h => by
    have h1 : ∀ v, v ∈ zt_T (R &&& (s ^^^ (-1))) ms → ¬ v + 1 = p := fun v hv => h v (List.mem_append_left _ hv)
    show zt_runs p (zt_T (R &&& (s ^^^ (-1))) ms ++ (zt_T (R &&& s) ms).map (fun v => v + 2 ^ ms.length)) = zt_D (R &&& (s ^^^ (-1))) ms + zt_D (R &&& s) ms
    rw [zt_runs_app, zt_T_runs ms _ p h1]
    congr 1
    rw [← zt_T_runs ms (R &&& s) 0 (fun v _ => by omega), ← zt_runs_shift (2 ^ ms.length) (zt_T (R &&& s) ms) 0]
    refine zt_runs_new (fun v hv => ?_) (fun v hv => ?_)
    · rcases zt_lst_or (zt_T (R &&& (s ^^^ (-1))) ms) p with e | ⟨w, hw, e⟩
      · rw [e]
        exact h v (List.mem_append_right _ hv)
      · rw [e]
        have := zt_T_lt ms _ w hw
        obtain ⟨y, hy, rfl⟩ := List.mem_map.mp hv
        omega
    · obtain ⟨y, hy, rfl⟩ := List.mem_map.mp hv
      omega
theorem zt_D_0 : ∀ ms : List Int64, zt_D 0 ms = 0
  | [] => if_pos rfl
  | s :: ms => by
    show zt_D (0 &&& (s ^^^ (-1))) ms + zt_D (0 &&& s) ms = 0
    rw [Int64.zero_and, Int64.zero_and, zt_D_0 ms]
theorem zt_D_snoc (s : Int64) : ∀ (ms : List Int64) (R : Int64), zt_D R (ms ++ [s]) = zt_D (R &&& (s ^^^ (-1))) ms + zt_D (R &&& s) ms
  | [], R => rfl
  | t :: ms, R => by
    show zt_D (R &&& (t ^^^ (-1))) (ms ++ [s]) + zt_D (R &&& t) (ms ++ [s]) = (zt_D ((R &&& (s ^^^ (-1))) &&& (t ^^^ (-1))) ms + zt_D ((R &&& (s ^^^ (-1))) &&& t) ms) + (zt_D ((R &&& s) &&& (t ^^^ (-1))) ms + zt_D ((R &&& s) &&& t) ms)
    rw [zt_D_snoc s ms, zt_D_snoc s ms, zt_ac R (s ^^^ (-1)) (t ^^^ (-1)), zt_ac R (s ^^^ (-1)) t, zt_ac R s (t ^^^ (-1)), zt_ac R s t]
    omega
theorem zt_D_rev : ∀ (ms : List Int64) (R : Int64), zt_D R ms.reverse = zt_D R ms
  | [], R => rfl
  | s :: ms, R => by
    rw [List.reverse_cons, zt_D_snoc, zt_D_rev ms, zt_D_rev ms]
    rfl
/-! the digits of a column, up and down -/
def zt_up (f : Nat → Int64) (b : Nat) : Nat → List Int64
  | 0 => []
  | n + 1 => f b :: zt_up f (b + 1) n
def zt_dn (f : Nat → Int64) : Nat → List Int64
  | 0 => []
  | n + 1 => f n :: zt_dn f n
theorem zt_dn_len (f : Nat → Int64) : ∀ n, (zt_dn f n).length = n
  | 0 => rfl
  | n + 1 => by
    show (zt_dn f n).length + 1 = n + 1
    rw [zt_dn_len f n]
theorem zt_D_updn (f : Nat → Int64) (R : Int64) : zt_D R (zt_up f 0 8) = zt_D R (zt_dn f 8) := by
  rw [← zt_D_rev (zt_up f 0 8) R]
  rfl
/-! one place of the list -/
theorem zt_T_lo {s : Int64} {ms : List Int64} {R : Int64} {i : Nat} (h : i < zt_pc (R &&& (s ^^^ (-1)))) : (zt_T R (s :: ms)).getD i 0 = (zt_T (R &&& (s ^^^ (-1))) ms).getD i 0 := by
  show (zt_T (R &&& (s ^^^ (-1))) ms ++ (zt_T (R &&& s) ms).map (fun v => v + 2 ^ ms.length)).getD i 0 = _
  rw [List.getD_eq_getElem?_getD, List.getD_eq_getElem?_getD, List.getElem?_append_left (by rw [zt_T_len]; exact h)]
theorem zt_T_hi {s : Int64} {ms : List Int64} {R : Int64} {i : Nat} (h : zt_pc (R &&& (s ^^^ (-1))) ≤ i) (h2 : i < zt_pc R) : (zt_T R (s :: ms)).getD i 0 = (zt_T (R &&& s) ms).getD (i - zt_pc (R &&& (s ^^^ (-1)))) 0 + 2 ^ ms.length := by
  show (zt_T (R &&& (s ^^^ (-1))) ms ++ (zt_T (R &&& s) ms).map (fun v => v + 2 ^ ms.length)).getD i 0 = _
  have hs := zt_pc_split R s
  have hl := zt_T_len ms (R &&& s)
  rw [List.getD_eq_getElem?_getD, List.getD_eq_getElem?_getD, List.getElem?_append_right (by rw [zt_T_len]; exact h), zt_T_len, List.getElem?_map,
    List.getElem?_eq_getElem (show i - zt_pc (R &&& (s ^^^ (-1))) < (zt_T (R &&& s) ms).length by omega)]
  rfl
theorem zt_T_nil {R : Int64} {i : Nat} : (zt_T R []).getD i 0 = 0 := by
  show (List.replicate (zt_pc R) 0).getD i 0 = 0
  rw [List.getD_eq_getElem?_getD, List.getElem?_replicate]
  by_cases h : i < zt_pc R
  · rw [if_pos h]; rfl
  · rw [if_neg h]; rfl
theorem zt_drop {l : List Nat} {i : Nat} (h : i < l.length) : l.drop i = l.getD i 0 :: l.drop (i + 1) := by
  rw [List.drop_eq_getElem_cons h, List.getD_eq_getElem?_getD, List.getElem?_eq_getElem h]
  rfl
theorem zt_getD_mem {l : List Nat} {i : Nat} (h : i < l.length) : l.getD i 0 ∈ l := by
  rw [List.getD_eq_getElem?_getD, List.getElem?_eq_getElem h]
  exact List.getElem_mem h
/-! sums over an array of sets -/
def zt_Z (w : Int64 → Nat) (a : Nat → Int64) : Nat → Nat
  | 0 => 0
  | n + 1 => zt_Z w a n + w (a n)
theorem zt_Z_congr {w : Int64 → Nat} {a b : Nat → Int64} : ∀ n, (∀ j, j < n → a j = b j) → zt_Z w a n = zt_Z w b n
  | 0, _ => rfl
  | n + 1, h => by
    show zt_Z w a n + w (a n) = zt_Z w b n + w (b n)
    rw [zt_Z_congr n (fun j hj => h j (by omega)), h n (by omega)]
theorem zt_Z_upd {w : Int64 → Nat} {a : Nat → Int64} {n : Nat} {x : Int64} : zt_Z w (vp_updL a n x) (n + 1) = zt_Z w a n + w x := by
  show zt_Z w (vp_updL a n x) n + w (vp_updL a n x n) = _
  rw [pk_uLs, zt_Z_congr n (fun j hj => pk_uLn (show j ≠ n by omega))]
theorem zt_Z_ge {a : Nat → Int64} : ∀ n, (∀ j, j < n → ¬ a j = 0) → n ≤ zt_Z zt_pc a n
  | 0, _ => Nat.le_refl 0
  | n + 1, h => by
    have ih := zt_Z_ge n (fun j hj => h j (by omega))
    have hn := zt_pc_pos (h n (by omega))
    show n + 1 ≤ zt_Z zt_pc a n + zt_pc (a n)
    omega
theorem zt_Z_mono {w : Int64 → Nat} {a : Nat → Int64} {k : Nat} : ∀ n, k ≤ n → zt_Z w a k ≤ zt_Z w a n
  | 0, h => by
    have : k = 0 := by omega
    rw [this]
    exact Nat.le_refl _
  | n + 1, h => by
    by_cases e : k = n + 1
    · rw [e]
      exact Nat.le_refl _
    · have ih := zt_Z_mono (w := w) (a := a) (k := k) n (by omega)
      show zt_Z w a k ≤ zt_Z w a n + w (a n)
      omega
theorem zt_Z_one {a : Nat → Int64} : ∀ n, (∀ j, j < n → ¬ a j = 0) → zt_Z (fun x => zt_D x []) a n = n
  | 0, _ => rfl
  | n + 1, h => by
    show zt_Z (fun x => zt_D x []) a n + (if a n = 0 then 0 else 1) = n + 1
    rw [zt_Z_one n (fun j hj => h j (by omega)), if_neg (h n (by omega))]
end
section
section
variable {pr : Int64} {cn : Int32} {ls qe : Int64} {a1 : Nat → Int64} {a2 a3 a4 a5 a6 : Nat → Int32} {a7 : Nat → Int64} {a8 : Nat → Int32} {a9 a10 a11 : Nat → Int64}
theorem zt_nm1 {c : Nat} (h : c < 2 ^ 31) : ¬ nI c < (-1) := by
  intro z
  have z' := Int32.lt_iff_toInt_lt.mp z
  rw [nI_toInt h] at z'
  have e : (-1 : Int32).toInt = -1 := by decide
  omega
theorem zt_nm1' {c : Nat} (h : c < 2 ^ 31) : ¬ nI c ≤ (-1) := by
  intro z
  have z' := Int32.le_iff_toInt_le.mp z
  rw [nI_toInt h] at z'
  have e : (-1 : Int32).toInt = -1 := by decide
  omega
theorem zt_col8 {i b : Nat} : 8 * nI i + nI b = nI (8 * i + b) := by
  rw [show (8 : Int32) = nI 8 from rfl, pk_mul, nI_add]
theorem zt_isCol {post : Int32 → Prop} {i : Nat} (hi : i ≤ 2) (h : post 1) : wpX_isColumn post () (nI i) :=
  br_f (nI_pos (by omega)) (pk_lt 2 i (fun z => absurd z (by omega)) (fun _ => h))
theorem zt_isC {post : Int32 → Prop} {m c : Nat} (hm : m ≤ 16) (hc : c < m) (h : post 1) : wpX_isCondition post (pr, nI m, ls, qe, a1, a2, a3, a4, a5, a6, a7, a8, a9, a10, a11) (nI c) :=
  br_f (zt_nm1 (by omega)) (pk_le m c (fun z => absurd z (by omega)) (fun _ => h))
theorem zt_isC_no {post : Int32 → Prop} {m c : Nat} (hc : m ≤ c) (hc2 : c < 16) (h : post 0) : wpX_isCondition post (pr, nI m, ls, qe, a1, a2, a3, a4, a5, a6, a7, a8, a9, a10, a11) (nI c) :=
  br_f (zt_nm1 (by omega)) (pk_le m c (fun _ => h) (fun z => absurd z (by omega)))
theorem zt_isC_m1 {post : Int32 → Prop} {m : Nat} (hm : m ≤ 16) (h : post 1) : wpX_isCondition post (pr, nI m, ls, qe, a1, a2, a3, a4, a5, a6, a7, a8, a9, a10, a11) (-1) :=
  br_f (by decide) (br_f (zt_nm1' (by omega)) h)
theorem zt_chosen {post : Int64 → Prop} {h : Int32} (hp : ∀ r, post r) : wpX_chosen post (pr, cn, ls, qe, a1, a2, a3, a4, a5, a6, a7, a8, a9, a10, a11) h :=
  br_c (fun _ => hp _) (fun _ => br_c (fun _ => hp _) (fun _ => br_c (fun _ => hp _) (fun _ => br_c (fun _ => hp _) (fun _ => br_c (fun _ => hp _) (fun _ => hp _)))))
theorem zt_take {post : St1 → Prop} {i : Nat} (hi : i ≤ 2) (hp : ∀ t, post (pr, cn, ls, qe, a1, a2, a3, a4, a5, a6, a7, a8, t, a10, a11)) : wpX_takeColumn post (pr, cn, ls, qe, a1, a2, a3, a4, a5, a6, a7, a8, a9, a10, a11) (nI i) :=
  pk_loop (fun n b s => wX_takeColumn_2 post (nI i) pr cn ls qe n (nI b) a1 a2 a3 a4 a5 a6 a7 a8 s a10 a11) (fun _ _ => True) 8 0 a9 (by omega) trivial
    (fun n s _ => pk_le 8 8 (fun _ => nm_e (hp _)) (fun z => absurd z (by omega)))
    (fun n b s hb _ hw => pk_le 8 b (fun z => absurd z (by omega)) (fun _ => ⟨pk_in (8 * i + b) 24 (by omega) zt_col8, pk_in b 9 (by omega), nm_e (nm_r (nI_1 b) (hw _ trivial))⟩))
theorem zt_addc {post : St1 → Prop} {i j : Nat} (hi : i ≤ 2) (hj : j ≤ 2) (hp : ∀ t, post (pr, cn, ls, qe, a1, a2, a3, a4, a5, a6, a7, a8, t, a10, a11)) : wpX_addColumns post (pr, cn, ls, qe, a1, a2, a3, a4, a5, a6, a7, a8, a9, a10, a11) (nI i) (nI j) :=
  pk_loop (fun n b (s : Int64 × (Nat → Int64)) => wX_addColumns_5 post (nI i) (nI j) pr cn ls qe n s.1 (nI b) a1 a2 a3 a4 a5 a6 a7 a8 s.2 a10 a11) (fun _ _ => True) 8 0 (0, a9) (by omega) trivial
    (fun n s _ => pk_le 8 8 (fun _ => nm_e (hp _)) (fun z => absurd z (by omega)))
    (fun n b s hb _ hw => pk_le 8 b (fun z => absurd z (by omega)) (fun _ => ⟨pk_in (8 * i + b) 24 (by omega) zt_col8, nm_e ⟨pk_in (8 * j + b) 24 (by omega) zt_col8, nm_e ⟨pk_in b 9 (by omega), nm_e (nm_e (nm_r (nI_1 b) (hw (_, _) trivial)))⟩⟩⟩))
theorem zt_cwc45 {post : St1 → Prop} {k : Int32} (hp : ∀ l q, post (pr, cn, l, q, a1, a2, a3, a4, a5, a6, a7, a8, a9, a10, a11)) (x l q) (hx : x = nI 9 + (-1)) : wX_compareWithConstant_45 post k pr cn a1 a2 a3 a4 a5 a6 a7 a8 a9 a10 a11 10 x l q := by
  rw [hx]
  refine pk_loopD (fun n j (s : Int64 × Int64) => wX_compareWithConstant_45 post k pr cn a1 a2 a3 a4 a5 a6 a7 a8 a9 a10 a11 n (nI j + (-1)) s.1 s.2) (fun j _ => j ≤ 9) ?_ ?_ 9 (l, q) (by omega)
  · intro n s _
    exact br_t (by decide) (hp _ _)
  · intro n j s hj hw
    obtain ⟨l', q'⟩ := s
    show wX_compareWithConstant_45 post k pr cn a1 a2 a3 a4 a5 a6 a7 a8 a9 a10 a11 (n + 1) (nI (j + 1) + (-1)) l' q'
    rw [pk_m1]
    have K : vp_in (nI j) 9 := pk_in j 9 (by omega)
    exact br_f (nI_pos (by omega)) (br_c (fun _ => ⟨K, nm_e (nm_e (hw (_, _) (by omega)))⟩) (fun _ => ⟨K, nm_e ⟨K, nm_e (nm_e (hw (_, _) (by omega)))⟩⟩))
theorem zt_cwc {post : St1 → Prop} {k : Int32} (hp : ∀ l q, post (pr, cn, l, q, a1, a2, a3, a4, a5, a6, a7, a8, a9, a10, a11)) : wpX_compareWithConstant post (pr, cn, ls, qe, a1, a2, a3, a4, a5, a6, a7, a8, a9, a10, a11) k :=
  br_c (fun _ => br_c (fun _ => ⟨10, zt_cwc45 hp _ _ _ (by decide)⟩) (fun _ => hp _ _)) (fun _ => hp _ _)
theorem zt_cmp15 {post : St1 → Prop} {i i' : Nat} (hi : i ≤ 2) (hi' : i' ≤ 2) (hp : ∀ l q, post (pr, cn, l, q, a1, a2, a3, a4, a5, a6, a7, a8, a9, a10, a11)) (x l q) (hx : x = nI 8 + (-1)) : wX_compareColumns_15 post (nI i) (nI i') pr cn a1 a2 a3 a4 a5 a6 a7 a8 a9 a10 a11 9 x l q := by
  rw [hx]
  refine pk_loopD (fun n j (s : Int64 × Int64) => wX_compareColumns_15 post (nI i) (nI i') pr cn a1 a2 a3 a4 a5 a6 a7 a8 a9 a10 a11 n (nI j + (-1)) s.1 s.2) (fun j _ => j ≤ 8) ?_ ?_ 8 (l, q) (by omega)
  · intro n s _
    exact br_t (by decide) (hp _ _)
  · intro n j s hj hw
    obtain ⟨l', q'⟩ := s
    show wX_compareColumns_15 post (nI i) (nI i') pr cn a1 a2 a3 a4 a5 a6 a7 a8 a9 a10 a11 (n + 1) (nI (j + 1) + (-1)) l' q'
    rw [pk_m1]
    exact br_f (nI_pos (by omega)) ⟨pk_in (8 * i + j) 24 (by omega) zt_col8, nm_e ⟨pk_in (8 * i' + j) 24 (by omega) zt_col8, nm_e (nm_e (nm_e (nm_e (hw (_, _) (by omega)))))⟩⟩
theorem zt_cmpc {post : St1 → Prop} {i i' : Nat} (hi : i ≤ 2) (hi' : i' ≤ 2) (hp : ∀ l q, post (pr, cn, l, q, a1, a2, a3, a4, a5, a6, a7, a8, a9, a10, a11)) : wpX_compareColumns post (pr, cn, ls, qe, a1, a2, a3, a4, a5, a6, a7, a8, a9, a10, a11) (nI i) (nI i') :=
  ⟨9, zt_cmp15 hi hi' hp _ _ _ (by decide)⟩
/-- how a condition may stand at place k -/
def zt_ok (a2 a3 a4 : Nat → Int32) (k : Nat) : Prop :=
  (a2 k = 3 → vp_in (a3 k) 16 ∧ vp_in (a4 k) 16 ∧ (a3 k).toNatClampNeg < k ∧ (a4 k).toNatClampNeg < k) ∧
  (¬ a2 k = 3 → ∃ i j : Nat, i ≤ 2 ∧ j ≤ 2 ∧ a3 k = nI i ∧ a4 k = nI j)
def zt_jop (h : Int32) (l r : Int64) : Int64 := if h = 0 then l &&& r else if h = 1 then l ||| r else if h = 2 then l ^^^ r else l &&& (r ^^^ (-1))
theorem zt_work {post : Int64 → St1 → Prop} {k : Nat} (hk : k < 16) (ok : zt_ok a2 a3 a4 k)
    (h3 : a2 k = 3 → post (zt_jop (a5 k) (a7 (a3 k).toNatClampNeg) (a7 (a4 k).toNatClampNeg)) (pr, cn, ls, qe, a1, a2, a3, a4, a5, a6, a7, a8, a9, a10, a11))
    (hn : ∀ r l q t, ¬ a2 k = 3 → post r (pr, cn, l, q, a1, a2, a3, a4, a5, a6, a7, a8, t, a10, a11)) : wpX_workOut post (pr, cn, ls, qe, a1, a2, a3, a4, a5, a6, a7, a8, a9, a10, a11) (nI k) := by
  have K : vp_in (nI k) 16 := pk_in k 16 hk
  have C : (nI k).toNatClampNeg = k := nI_clamp (by omega)
  unfold wpX_workOut
  dsimp only
  rw [C]
  refine ⟨K, br_c (fun e => ?_) (fun e => ⟨K, br_c (fun e0 => ⟨K, ?_⟩) (fun e0 => ⟨K, br_c (fun e1 => ⟨K, K, ?_⟩) (fun e1 => ⟨K, K, ?_⟩)⟩)⟩)⟩
  · obtain ⟨i3, i4, _, _⟩ := ok.1 e
    have t := h3 e
    unfold zt_jop at t
    refine ⟨K, i3, nm_e ⟨K, i4, nm_e ⟨K, br_c (fun g => ?_) (fun g => ⟨K, br_c (fun g1 => ?_) (fun g1 => ⟨K, br_c (fun g2 => ?_) (fun g2 => ?_)⟩)⟩)⟩⟩⟩
    · rw [if_pos g] at t
      exact t
    · rw [if_neg g, if_pos g1] at t
      exact t
    · rw [if_neg g, if_neg g1, if_pos g2] at t
      exact t
    · rw [if_neg g, if_neg g1, if_neg g2] at t
      exact t
  · obtain ⟨i, j, hi, hj, e3, e4⟩ := ok.2 e
    rw [e3]
    exact zt_take hi (fun t => ⟨K, zt_cwc (fun l q => ⟨K, zt_chosen (fun r => hn r l q t e)⟩)⟩)
  · obtain ⟨i, j, hi, hj, e3, e4⟩ := ok.2 e
    rw [e3, e4]
    exact zt_cmpc hi hj (fun l q => ⟨K, zt_chosen (fun r => hn r l q a9 e)⟩)
  · obtain ⟨i, j, hi, hj, e3, e4⟩ := ok.2 e
    rw [e3, e4]
    exact zt_addc hi hj (fun t => ⟨K, zt_cwc (fun l q => ⟨K, zt_chosen (fun r => hn r l q t e)⟩)⟩)
/-- the invariant of the conditions: m of them -/
def zt_I (m : Nat) (pr : Int64) (a2 a3 a4 : Nat → Int32) (a7 : Nat → Int64) (a8 : Nat → Int32) : Prop :=
  m ≤ 16 ∧ (∀ k, k < m → zt_ok a2 a3 a4 k) ∧ (∀ k, k < m → ¬ a8 k = 0 → a7 k &&& pr = a7 k)
/-- what working out the conditions below i leaves: b7, b8 behind a7, a8 -/
def zt_Q (i : Nat) (pr : Int64) (a2 a3 a4 a5 : Nat → Int32) (a7 : Nat → Int64) (a8 : Nat → Int32) (b7 : Nat → Int64) (b8 : Nat → Int32) : Prop :=
  (∀ k, k < i → ¬ b8 k = 0) ∧ (∀ k, ¬ a8 k = 0 → b7 k = a7 k ∧ b8 k = a8 k) ∧ (∀ k, i ≤ k → b7 k = a7 k ∧ b8 k = a8 k) ∧
  (∀ k, k < i → a8 k = 0 → b7 k &&& pr = b7 k ∧ (a2 k = 3 → b7 k = zt_jop (a5 k) (b7 (a3 k).toNatClampNeg) (b7 (a4 k).toNatClampNeg) &&& pr))
theorem zt_Q_0 : zt_Q 0 pr a2 a3 a4 a5 a7 a8 a7 a8 :=
  ⟨fun k h => absurd h (by omega), fun k _ => ⟨rfl, rfl⟩, fun k _ => ⟨rfl, rfl⟩, fun k h => absurd h (by omega)⟩
theorem zt_Q_old {i : Nat} {b7 : Nat → Int64} {b8 : Nat → Int32} (h : zt_Q i pr a2 a3 a4 a5 a7 a8 b7 b8) (hb : ¬ b8 i = 0) : zt_Q (i + 1) pr a2 a3 a4 a5 a7 a8 b7 b8 := by
  obtain ⟨h1, h2, h3, h4⟩ := h
  refine ⟨fun k hk => ?_, h2, fun k hk => h3 k (by omega), fun k hk hz => ?_⟩
  · by_cases e : k = i
    · rw [e]
      exact hb
    · exact h1 k (by omega)
  · by_cases e : k = i
    · rw [e] at hz
      rw [(h3 i (Nat.le_refl i)).2] at hb
      exact absurd hz hb
    · exact h4 k (by omega) hz
theorem zt_Q_new {i m : Nat} {b7 : Nat → Int64} {b8 : Nat → Int32} {r : Int64} (hI : zt_I m pr a2 a3 a4 a7 a8) (hi : i < m) (h : zt_Q i pr a2 a3 a4 a5 a7 a8 b7 b8) (hb : b8 i = 0)
    (hr : a2 i = 3 → r = zt_jop (a5 i) (b7 (a3 i).toNatClampNeg) (b7 (a4 i).toNatClampNeg)) : zt_Q (i + 1) pr a2 a3 a4 a5 a7 a8 (vp_updL b7 i (r &&& pr)) (upd b8 i 1) := by
  obtain ⟨h1, h2, h3, h4⟩ := h
  have ha : a8 i = 0 := by rw [← (h3 i (Nat.le_refl i)).2]; exact hb
  refine ⟨fun k hk => ?_, fun k hk => ?_, fun k hk => ?_, fun k hk hz => ?_⟩
  · by_cases e : k = i
    · rw [e, pk_us]
      decide
    · rw [pk_un e]
      exact h1 k (by omega)
  · have e : k ≠ i := fun e => hk (by rw [e]; exact ha)
    rw [pk_un e, pk_uLn e]
    exact h2 k hk
  · have e : k ≠ i := by omega
    rw [pk_un e, pk_uLn e]
    exact h3 k (by omega)
  · by_cases e : k = i
    · rw [e, pk_uLs]
      refine ⟨by rw [Int64.and_assoc, Int64.and_self], fun z => ?_⟩
      obtain ⟨_, _, n3, n4⟩ := (hI.2.1 i hi).1 z
      rw [pk_uLn (by omega), pk_uLn (by omega), hr z]
    · rw [pk_uLn e]
      obtain ⟨g1, g2⟩ := h4 k (by omega) hz
      refine ⟨g1, fun z => ?_⟩
      obtain ⟨_, _, n3, n4⟩ := (hI.2.1 k (by omega)).1 z
      rw [pk_uLn (by omega), pk_uLn (by omega)]
      exact g2 z
theorem zt_I_Q {m i : Nat} {b7 : Nat → Int64} {b8 : Nat → Int32} (hI : zt_I m pr a2 a3 a4 a7 a8) (h : zt_Q i pr a2 a3 a4 a5 a7 a8 b7 b8) : zt_I m pr a2 a3 a4 b7 b8 := by
  refine ⟨hI.1, hI.2.1, fun k hk hz => ?_⟩
  obtain ⟨h1, h2, h3, h4⟩ := h
  by_cases e : a8 k = 0
  · by_cases e2 : k < i
    · exact (h4 k e2 e).1
    · exact absurd ((h3 k (by omega)).2.trans e) hz
  · rw [(h2 k e).1]
    exact hI.2.2 k hk e
theorem zt_rows {post : Int64 → St1 → Prop} {m c : Nat} (hI : zt_I m pr a2 a3 a4 a7 a8) (hc : c < m)
    (hp : ∀ l q b7 b8 t, zt_Q (c + 1) pr a2 a3 a4 a5 a7 a8 b7 b8 → post (b7 c) (pr, cn, l, q, a1, a2, a3, a4, a5, a6, b7, b8, t, a10, a11)) : wpX_rowsOf post (pr, cn, ls, qe, a1, a2, a3, a4, a5, a6, a7, a8, a9, a10, a11) (nI c) := by
  have hm := hI.1
  refine br_t (nI_pos' (by omega)) (pk_loop (fun n i (s : Int64 × Int64 × (Nat → Int64) × (Nat → Int32) × (Nat → Int64)) => wX_rowsOf_11 post (nI c) n (nI i) pr cn s.1 s.2.1 a1 a2 a3 a4 a5 a6 s.2.2.1 s.2.2.2.1 s.2.2.2.2 a10 a11)
    (fun i s => zt_Q i pr a2 a3 a4 a5 a7 a8 s.2.2.1 s.2.2.2.1) (c + 1) 0 (ls, qe, a7, a8, a9) (by omega) zt_Q_0 ?_ ?_)
  · intro n s h
    exact pk_lt c (c + 1) (fun _ => ⟨pk_in c 16 (by omega), by rw [nI_clamp (show c < 2 ^ 31 by omega)]; exact hp _ _ _ _ _ h⟩) (fun z => absurd z (by omega))
  · intro n i s hi h hw
    obtain ⟨l, q, b7, b8, t⟩ := s
    have K : vp_in (nI i) 16 := pk_in i 16 (by omega)
    have C : (nI i).toNatClampNeg = i := nI_clamp (by omega)
    refine pk_lt c i (fun z => absurd z (by omega)) (fun _ => ⟨K, ?_⟩)
    rw [C]
    refine br_c (fun z => ?_) (fun z => nm_r (nI_1 i) (hw (l, q, b7, b8, t) (zt_Q_old h z)))
    refine zt_work (by omega) (hI.2.1 i (by omega)) (fun e => ?_) (fun r l' q' t' e => ?_)
    · exact ⟨K, nm_e ⟨K, nm_e (nm_r (nI_1 i) (hw (_, _, _, _, _) (zt_Q_new hI (by omega) h z (fun _ => rfl))))⟩⟩
    · exact ⟨K, nm_e ⟨K, nm_e (nm_r (nI_1 i) (hw (_, _, _, _, _) (zt_Q_new hI (by omega) h z (fun g => absurd g e))))⟩⟩
/-- rowsOf e would give R and leave all as it is -/
def zt_Fr (m : Nat) (pr : Int64) (a7 : Nat → Int64) (a8 : Nat → Int32) (e : Int32) (R : Int64) : Prop :=
  m ≤ 16 ∧ ((e = -1 ∧ R = pr) ∨ ∃ c : Nat, c < m ∧ e = nI c ∧ (∀ k, k ≤ c → ¬ a8 k = 0) ∧ R = a7 c)
theorem zt_Fr_isC {post : Int32 → Prop} {m : Nat} {e : Int32} {R : Int64} (hf : zt_Fr m pr a7 a8 e R) (h : post 1) : wpX_isCondition post (pr, nI m, ls, qe, a1, a2, a3, a4, a5, a6, a7, a8, a9, a10, a11) e := by
  obtain ⟨hm, ⟨he, _⟩ | ⟨c, hc, he, _⟩⟩ := hf
  · rw [he]
    exact zt_isC_m1 hm h
  · rw [he]
    exact zt_isC hm hc h
theorem zt_Fr_rows {post : Int64 → St1 → Prop} {m : Nat} {e : Int32} {R : Int64} (hf : zt_Fr m pr a7 a8 e R) (h : post R (pr, cn, ls, qe, a1, a2, a3, a4, a5, a6, a7, a8, a9, a10, a11)) : wpX_rowsOf post (pr, cn, ls, qe, a1, a2, a3, a4, a5, a6, a7, a8, a9, a10, a11) e := by
  obtain ⟨hm, ⟨he, hR⟩ | ⟨c, hc, he, h8, hR⟩⟩ := hf
  · rw [he]
    rw [hR] at h
    exact br_f (by decide) h
  · rw [he]
    rw [hR] at h
    refine br_t (nI_pos' (by omega)) (pk_loop (σ := Unit) (fun n i _ => wX_rowsOf_11 post (nI c) n (nI i) pr cn ls qe a1 a2 a3 a4 a5 a6 a7 a8 a9 a10 a11) (fun _ _ => True) (c + 1) 0 () (by omega) trivial ?_ ?_)
    · intro n _ _
      exact pk_lt c (c + 1) (fun _ => ⟨pk_in c 16 (by omega), by rw [nI_clamp (show c < 2 ^ 31 by omega)]; exact h⟩) (fun z => absurd z (by omega))
    · intro n i _ hi _ hw
      exact pk_lt c i (fun z => absurd z (by omega)) (fun _ => ⟨pk_in i 16 (by omega), br_f (by rw [nI_clamp (show i < 2 ^ 31 by omega)]; exact h8 i (by omega)) (nm_r (nI_1 i) (hw () trivial))⟩)
theorem zt_Fr_rows2 {post : Int64 → St1 → Prop} {m : Nat} {e : Int32} {R : Int64} (hf : zt_Fr m pr a7 a8 e R) (h : post R (pr, cn, ls, qe, a1, a2, a3, a4, a5, a6, a7, a8, a9, a10, a11)) : wpX_rowsOf_2 post (pr, cn, ls, qe, a1, a2, a3, a4, a5, a6, a7, a8, a9, a10, a11) e := by
  obtain ⟨hm, ⟨he, hR⟩ | ⟨c, hc, he, h8, hR⟩⟩ := hf
  · rw [he]
    rw [hR] at h
    exact br_f (by decide) h
  · rw [he]
    rw [hR] at h
    refine br_t (nI_pos' (by omega)) (pk_loop (σ := Unit) (fun n i _ => wX_rowsOf_2_11 post (nI c) n (nI i) pr cn ls qe a1 a2 a3 a4 a5 a6 a7 a8 a9 a10 a11) (fun _ _ => True) (c + 1) 0 () (by omega) trivial ?_ ?_)
    · intro n _ _
      exact pk_lt c (c + 1) (fun _ => ⟨pk_in c 16 (by omega), by rw [nI_clamp (show c < 2 ^ 31 by omega)]; exact h⟩) (fun z => absurd z (by omega))
    · intro n i _ hi _ hw
      exact pk_lt c i (fun z => absurd z (by omega)) (fun _ => ⟨pk_in i 16 (by omega), br_f (by rw [nI_clamp (show i < 2 ^ 31 by omega)]; exact h8 i (by omega)) (nm_r (nI_1 i) (hw () trivial))⟩)
theorem zt_count {post : Int32 → St1 → Prop} {m c : Nat} (hI : zt_I m pr a2 a3 a4 a7 a8) (hc : c < m)
    (hp : ∀ l q b7 b8 t, zt_Q (c + 1) pr a2 a3 a4 a5 a7 a8 b7 b8 → post (nI (zt_pc (b7 c))) (pr, nI m, l, q, a1, a2, a3, a4, a5, a6, b7, b8, t, a10, a11)) : wpX_count post (pr, nI m, ls, qe, a1, a2, a3, a4, a5, a6, a7, a8, a9, a10, a11) (nI c) := by
  unfold wpX_count
  dsimp only
  refine zt_isC hI.1 hc (br_f (by decide) (zt_rows hI hc (fun l q b7 b8 t h => ?_)))
  exact zt_ones (hp l q b7 b8 t h)
theorem zt_count_no {post : Int32 → St1 → Prop} {m c : Nat} (hc : m ≤ c) (hc2 : c < 16) (h : post (-1) (pr, nI m, ls, qe, a1, a2, a3, a4, a5, a6, a7, a8, a9, a10, a11)) : wpX_count post (pr, nI m, ls, qe, a1, a2, a3, a4, a5, a6, a7, a8, a9, a10, a11) (nI c) := by
  unfold wpX_count
  dsimp only
  exact zt_isC_no hc hc2 (br_t rfl h)
theorem zt_count_fr {post : Int32 → St1 → Prop} {m : Nat} {e : Int32} {R : Int64} (hf : zt_Fr m pr a7 a8 e R) (h : post (nI (zt_pc R)) (pr, nI m, ls, qe, a1, a2, a3, a4, a5, a6, a7, a8, a9, a10, a11)) : wpX_count post (pr, nI m, ls, qe, a1, a2, a3, a4, a5, a6, a7, a8, a9, a10, a11) e := by
  unfold wpX_count
  dsimp only
  refine zt_Fr_isC hf (br_f (by decide) (zt_Fr_rows hf ?_))
  exact zt_ones h
end
end
section
section
variable {pr : Int64} {cn : Int32} {ls qe : Int64} {a1 : Nat → Int64} {a2 a3 a4 a5 a6 : Nat → Int32} {a7 : Nat → Int64} {a8 : Nat → Int32} {a9 a10 a11 : Nat → Int64}
/-! ===== sum ===== -/
theorem zt_sum30 {post : Int32 → St1 → Prop} {k : Nat} {R : Int64} (hk : k ≤ 2) {tot : Nat} (h : post (nI tot) (pr, cn, ls, qe, a1, a2, a3, a4, a5, a6, a7, a8, a9, a10, a11)) (ht : tot = zt_S R (zt_dn (fun b => a1 (8 * k + b)) 8)) (x : Int32) (hx : x = nI 8 + (-1)) (y : Int32) (hy : y = nI 0) :
    wX_sum_30 post (nI k) R pr cn ls qe a1 a2 a3 a4 a5 a6 a7 a8 a9 a10 a11 9 y x := by
  rw [hx, hy]
  refine pk_loopD (fun n j v => wX_sum_30 post (nI k) R pr cn ls qe a1 a2 a3 a4 a5 a6 a7 a8 a9 a10 a11 n (nI v) (nI j + (-1))) (fun j v => j ≤ 8 ∧ 2 ^ j * v + zt_S R (zt_dn (fun b => a1 (8 * k + b)) j) = tot) ?_ ?_ 8 0 ⟨by omega, by rw [ht]; omega⟩
  · intro n v hv
    have e : v = tot := by
      have h2 : 2 ^ 0 * v + 0 = tot := hv.2
      omega
    rw [← e] at h
    exact br_t (by decide) h
  · intro n j v hj hw
    show wX_sum_30 post (nI k) R pr cn ls qe a1 a2 a3 a4 a5 a6 a7 a8 a9 a10 a11 (n + 1) (nI v) (nI (j + 1) + (-1))
    rw [pk_m1]
    have C : (8 * nI k + nI j).toNatClampNeg = 8 * k + j := by rw [zt_col8]; exact nI_clamp (by omega)
    refine br_f (nI_pos (by omega)) ⟨pk_in (8 * k + j) 24 (by omega) zt_col8, ?_⟩
    rw [C]
    refine zt_ones (nm_r (e' := nI (2 * v + zt_pc (R &&& a1 (8 * k + j)))) (by rw [show (2 : Int32) = nI 2 from rfl, pk_mul, nI_add]) (nm_e (hw _ ⟨by omega, ?_⟩)))
    have h2 : 2 ^ (j + 1) * v + (2 ^ (zt_dn (fun b => a1 (8 * k + b)) j).length * zt_pc (R &&& a1 (8 * k + j)) + zt_S R (zt_dn (fun b => a1 (8 * k + b)) j)) = tot := hj.2
    rw [zt_dn_len, Nat.pow_succ, Nat.mul_assoc] at h2
    rw [Nat.mul_add]
    omega
theorem zt_sum {post : Int32 → St1 → Prop} {m k : Nat} {e : Int32} {R : Int64} (hf : zt_Fr m pr a7 a8 e R) (hk : k ≤ 2) (h : post (nI (zt_S R (zt_dn (fun b => a1 (8 * k + b)) 8))) (pr, nI m, ls, qe, a1, a2, a3, a4, a5, a6, a7, a8, a9, a10, a11)) : wpX_sum post (pr, nI m, ls, qe, a1, a2, a3, a4, a5, a6, a7, a8, a9, a10, a11) e (nI k) := by
  unfold wpX_sum
  dsimp only
  refine zt_isCol hk (br_f (by decide) (zt_Fr_isC hf (br_f (by decide) (zt_Fr_rows hf ?_))))
  exact ⟨9, zt_sum30 hk h rfl _ (by decide) _ rfl⟩
/-! ===== ranked ===== -/
theorem zt_or : ∀ j, j < 8 → ∀ v, v < 256 → v % 2 ^ (j + 1) = 0 → nI v ||| ((1 : Int32) <<< (nI j &&& 31)) = nI (v + 2 ^ j) := by decide +kernel
theorem zt_p2 {j v : Nat} (h : v % 2 ^ (j + 1) = 0) : v % 2 ^ j = 0 ∧ (v + 2 ^ j) % 2 ^ j = 0 := by
  have h1 : v % 2 ^ j = 0 := Nat.mod_eq_zero_of_dvd (Nat.dvd_trans (Nat.pow_dvd_pow 2 (Nat.le_succ j)) (Nat.dvd_of_mod_eq_zero h))
  exact ⟨h1, by rw [Nat.add_mod_right]; exact h1⟩
theorem zt_rk49 {post : Int32 → St1 → Prop} {k : Nat} {R : Int64} {i : Nat} (hk : k ≤ 2) (hi : i < zt_pc R) (h : post (nI ((zt_T R (zt_dn (fun b => a1 (8 * k + b)) 8)).getD i 0)) (pr, cn, ls, qe, a1, a2, a3, a4, a5, a6, a7, a8, a9, a10, a11)) (x : Int32) (hx : x = nI 8 + (-1)) (y : Int32) (hy : y = nI 0) :
    wX_ranked_49 post (nI k) pr cn ls qe a1 a2 a3 a4 a5 a6 a7 a8 a9 a10 a11 9 R (nI i) y x := by
  rw [hx, hy]
  refine pk_loopD (fun n j (s : Int64 × Nat × Nat) => wX_ranked_49 post (nI k) pr cn ls qe a1 a2 a3 a4 a5 a6 a7 a8 a9 a10 a11 n s.1 (nI s.2.1) (nI s.2.2) (nI j + (-1)))
    (fun j s => j ≤ 8 ∧ s.2.1 < zt_pc s.1 ∧ s.2.2 + (zt_T s.1 (zt_dn (fun b => a1 (8 * k + b)) j)).getD s.2.1 0 = (zt_T R (zt_dn (fun b => a1 (8 * k + b)) 8)).getD i 0 ∧ s.2.2 % 2 ^ j = 0 ∧ s.2.2 + 2 ^ j ≤ 256) ?_ ?_ 8 (R, i, 0) ⟨by omega, hi, Nat.zero_add _, rfl, Nat.le_refl 256⟩
  · intro n s hs
    obtain ⟨_, _, h3, _, _⟩ := hs
    have e : s.2.2 = (zt_T R (zt_dn (fun b => a1 (8 * k + b)) 8)).getD i 0 := by
      rw [← h3, show zt_dn (fun b => a1 (8 * k + b)) 0 = [] from rfl, zt_T_nil]
      rfl
    rw [← e] at h
    exact br_t (by decide) h
  · intro n j s hs hw
    obtain ⟨rows, rest, v⟩ := s
    obtain ⟨h1, h2, h3, h4, h5⟩ := hs
    have h1 : j + 1 ≤ 8 := h1
    have h2 : rest < zt_pc rows := h2
    have h3 : v + (zt_T rows (a1 (8 * k + j) :: zt_dn (fun b => a1 (8 * k + b)) j)).getD rest 0 = (zt_T R (zt_dn (fun b => a1 (8 * k + b)) 8)).getD i 0 := h3
    have h4 : v % 2 ^ (j + 1) = 0 := h4
    have h5 : v + 2 ^ (j + 1) ≤ 256 := h5
    have hle := zt_pc_le rows
    have hsp := zt_pc_split rows (a1 (8 * k + j))
    obtain ⟨p1, p2⟩ := zt_p2 h4
    show wX_ranked_49 post (nI k) pr cn ls qe a1 a2 a3 a4 a5 a6 a7 a8 a9 a10 a11 (n + 1) rows (nI rest) (nI v) (nI (j + 1) + (-1))
    rw [pk_m1]
    have C : (8 * nI k + nI j).toNatClampNeg = 8 * k + j := by rw [zt_col8]; exact nI_clamp (by omega)
    have K : vp_in (8 * nI k + nI j) 24 := pk_in (8 * k + j) 24 (by omega) zt_col8
    refine br_f (nI_pos (by omega)) ⟨K, ?_⟩
    rw [C]
    refine nm_e (zt_ones (pk_le (zt_pc (rows &&& (a1 (8 * k + j) ^^^ (-1)))) rest (fun z => ?_) (fun z => ?_)))
    · have h2j : 0 < 2 ^ j := Nat.two_pow_pos j
      have e5 : 2 ^ (j + 1) = 2 ^ j * 2 := Nat.pow_succ ..
      refine nm_r (pk_sub z) ⟨K, nm_e (nm_r (zt_or j (by omega) v (by omega) h4) (nm_e (hw (_, _, _) ⟨by omega, ?_, ?_, p2, ?_⟩)))⟩
      · show rest - zt_pc (rows &&& (a1 (8 * k + j) ^^^ (-1))) < zt_pc (rows &&& a1 (8 * k + j))
        omega
      · show v + 2 ^ j + (zt_T (rows &&& a1 (8 * k + j)) (zt_dn (fun b => a1 (8 * k + b)) j)).getD (rest - zt_pc (rows &&& (a1 (8 * k + j) ^^^ (-1)))) 0 = _
        rw [← h3, zt_T_hi z h2, zt_dn_len]
        omega
      · show v + 2 ^ j + 2 ^ j ≤ 256
        omega
    · have e5 : 2 ^ (j + 1) = 2 ^ j * 2 := Nat.pow_succ ..
      refine nm_e (hw (_, _, _) ⟨by omega, z, ?_, p1, ?_⟩)
      · show v + (zt_T (rows &&& (a1 (8 * k + j) ^^^ (-1))) (zt_dn (fun b => a1 (8 * k + b)) j)).getD rest 0 = _
        rw [← h3, zt_T_lo z]
      · show v + 2 ^ j ≤ 256
        omega
theorem zt_rk {post : Int32 → St1 → Prop} {m k i : Nat} {e : Int32} {R : Int64} (hf : zt_Fr m pr a7 a8 e R) (hk : k ≤ 2) (hi : i < zt_pc R) (h : post (nI ((zt_T R (zt_dn (fun b => a1 (8 * k + b)) 8)).getD i 0)) (pr, nI m, ls, qe, a1, a2, a3, a4, a5, a6, a7, a8, a9, a10, a11)) : wpX_ranked post (pr, nI m, ls, qe, a1, a2, a3, a4, a5, a6, a7, a8, a9, a10, a11) e (nI k) (nI i) := by
  have hle := zt_pc_le R
  unfold wpX_ranked
  dsimp only
  refine zt_isCol hk (br_f (by decide) (zt_Fr_isC hf (br_f (by decide) (br_t (nI_pos' (by omega)) (zt_Fr_rows hf ?_)))))
  refine zt_ones (pk_lt i (zt_pc R) (fun _ => ?_) (fun z => absurd z (by omega)))
  exact ⟨9, zt_rk49 hk hi h _ (by decide) _ rfl⟩
theorem zt_rk_no {post : Int32 → St1 → Prop} {m k i : Nat} {e : Int32} {R : Int64} (hf : zt_Fr m pr a7 a8 e R) (hk : k ≤ 2) (hi : i = zt_pc R) (h : post (-1) (pr, nI m, ls, qe, a1, a2, a3, a4, a5, a6, a7, a8, a9, a10, a11)) : wpX_ranked post (pr, nI m, ls, qe, a1, a2, a3, a4, a5, a6, a7, a8, a9, a10, a11) e (nI k) (nI i) := by
  have hle := zt_pc_le R
  unfold wpX_ranked
  dsimp only
  refine zt_isCol hk (br_f (by decide) (zt_Fr_isC hf (br_f (by decide) (br_t (nI_pos' (by omega)) (zt_Fr_rows hf ?_)))))
  exact zt_ones (pk_lt i (zt_pc R) (fun z => absurd z (by omega)) (fun _ => h))
/-! ===== splitSets and different ===== -/
/-- m sets with rows in h: their rows count P, their parts Q -/
def zt_K (rem : List Int64) (m : Nat) (h : Nat → Int64) (P Q : Nat) : Prop :=
  (∀ j, j < m → ¬ h j = 0) ∧ zt_Z zt_pc h m = P ∧ zt_Z (fun x => zt_D x rem) h m = Q
theorem zt_K_0 {rem : List Int64} {m : Nat} {h : Nat → Int64} {P Q : Nat} {x : Int64} (hx : x = 0) (hK : zt_K rem m h P Q) : zt_K rem m h (P + zt_pc x) (Q + zt_D x rem) := by
  rw [hx, zt_pc_0, zt_D_0]
  exact hK
theorem zt_K_1 {rem : List Int64} {m : Nat} {h : Nat → Int64} {P Q : Nat} {x : Int64} (hx : ¬ x = 0) (hK : zt_K rem m h P Q) : zt_K rem (m + 1) (vp_updL h m x) (P + zt_pc x) (Q + zt_D x rem) := by
  obtain ⟨h1, h2, h3⟩ := hK
  refine ⟨fun j hj => ?_, by rw [zt_Z_upd, h2], by rw [zt_Z_upd, h3]⟩
  by_cases e : j = m
  · rw [e, pk_uLs]
    exact hx
  · rw [pk_uLn e]
    exact h1 j (by omega)
theorem zt_K_lt {rem : List Int64} {m : Nat} {h : Nat → Int64} {P Q : Nat} {x : Int64} (hx : ¬ x = 0) (hK : zt_K rem m h P Q) (hP : P + zt_pc x ≤ 64) : m < 64 := by
  have h1 := zt_Z_ge m hK.1
  rw [hK.2.1] at h1
  have h2 := zt_pc_pos hx
  omega
theorem zt_s85 {post : Int32 → St1 → Prop} {m : Nat} (hm : m ≤ 64) (hp : ∀ b, (∀ j, j < m → b j = a11 j) → post (nI m) (pr, cn, ls, qe, a1, a2, a3, a4, a5, a6, a7, a8, a9, b, a11)) : ∃ n, wX_splitSets_85 post (nI m) pr cn ls qe n 0 a1 a2 a3 a4 a5 a6 a7 a8 a9 a10 a11 :=
  pk_loop (fun n k s => wX_splitSets_85 post (nI m) pr cn ls qe n (nI k) a1 a2 a3 a4 a5 a6 a7 a8 a9 s a11) (fun k s => ∀ j, j < k → s j = a11 j) m 0 a10 (by omega) (fun j hj => absurd hj (by omega))
    (fun n s h => pk_le m m (fun _ => hp s h) (fun z => absurd z (by omega)))
    (fun n k s hk h hw => pk_le m k (fun z => absurd z (by omega)) (fun _ => ⟨pk_in k 64 (by omega), pk_in k 64 (by omega), nm_r (by rw [nI_clamp (show k < 2 ^ 31 by omega)]) (nm_r (nI_1 k) (hw (vp_updL s k (a11 k)) (fun j hj => by
      by_cases e : j = k
      · rw [e, pk_uLs]
      · rw [pk_uLn e]
        exact h j (by omega))))⟩))
theorem zt_s57 {post : Int32 → St1 → Prop} {J : Int32 → Int32 → (Nat → Int64) → (Nat → Int32) → (Nat → Int32) → (Nat → Int32) → (Nat → Int32) → (Nat → Int32) → (Nat → Int64) → (Nat → Int32) → (Nat → Int64) → (Nat → Int64) → (Nat → Int64) → Prop} {x1 : Int32} {x2 x8 : Int64} {m k : Nat}
    (h0 : x8 = 0 → J (nI m) (nI (k + 1)) a1 a2 a3 a4 a5 a6 a7 a8 a9 a10 a11) (h1 : ¬ x8 = 0 → m < 64 ∧ J (nI (m + 1)) (nI (k + 1)) a1 a2 a3 a4 a5 a6 a7 a8 a9 a10 (vp_updL a11 m x8)) :
    wX_splitSets_57 post J x1 x2 (nI m) (nI k) x8 pr cn ls qe a1 a2 a3 a4 a5 a6 a7 a8 a9 a10 a11 := by
  unfold wX_splitSets_57
  refine br_c (fun z => nm_r (nI_1 k) (h0 z)) (fun z => ?_)
  obtain ⟨hm, hj⟩ := h1 z
  exact ⟨pk_in m 64 hm, nm_r (by rw [nI_clamp (show m < 2 ^ 31 by omega)]) (nm_r (nI_1 m) (nm_r (nI_1 k) hj))⟩
theorem zt_split {post : Int32 → St1 → Prop} {n : Nat} {s : Int64} {rem : List Int64} (hn : n ≤ 64) (hz : zt_Z zt_pc a10 n ≤ 64)
    (hp : ∀ m b10 b11, zt_K rem m b10 (zt_Z zt_pc a10 n) (zt_Z (fun x => zt_D x (s :: rem)) a10 n) → post (nI m) (pr, cn, ls, qe, a1, a2, a3, a4, a5, a6, a7, a8, a9, b10, b11)) : wpX_splitSets post (pr, cn, ls, qe, a1, a2, a3, a4, a5, a6, a7, a8, a9, a10, a11) (nI n) s := by
  refine pk_loop (fun f k (t : Nat × (Nat → Int64)) => wX_splitSets_6 post (nI n) s pr cn ls qe f (nI t.1) (nI k) a1 a2 a3 a4 a5 a6 a7 a8 a9 a10 t.2)
    (fun k t => zt_K rem t.1 t.2 (zt_Z zt_pc a10 k) (zt_Z (fun x => zt_D x (s :: rem)) a10 k)) n 0 (0, a11) (by omega) ⟨fun j hj => absurd hj (by omega), rfl, rfl⟩ ?_ ?_
  · intro f t hK
    obtain ⟨m, h⟩ := t
    have hm : m ≤ 64 := by
      have h1 := zt_Z_ge m hK.1
      rw [hK.2.1] at h1
      omega
    refine pk_le n n (fun _ => zt_s85 hm (fun b hb => hp m b h ?_)) (fun z => absurd z (by omega))
    refine ⟨fun j hj => by rw [hb j hj]; exact hK.1 j hj, ?_, ?_⟩
    · rw [zt_Z_congr m hb]
      exact hK.2.1
    · rw [zt_Z_congr m hb]
      exact hK.2.2
  · intro f k t hk hK hw
    obtain ⟨m, h⟩ := t
    have K : vp_in (nI k) 64 := pk_in k 64 (by omega)
    have C : (nI k).toNatClampNeg = k := nI_clamp (by omega)
    have hmo := zt_Z_mono (w := zt_pc) (a := a10) (k := k + 1) n (by omega)
    have hsp := zt_pc_split (a10 k) s
    have eP : zt_Z zt_pc a10 (k + 1) = zt_Z zt_pc a10 k + zt_pc (a10 k &&& s) + zt_pc (a10 k &&& (s ^^^ (-1))) := by
      show zt_Z zt_pc a10 k + zt_pc (a10 k) = _
      omega
    have eQ : zt_Z (fun x => zt_D x (s :: rem)) a10 (k + 1) = zt_Z (fun x => zt_D x (s :: rem)) a10 k + zt_D (a10 k &&& s) rem + zt_D (a10 k &&& (s ^^^ (-1))) rem := by
      show zt_Z (fun x => zt_D x (s :: rem)) a10 k + (zt_D (a10 k &&& (s ^^^ (-1))) rem + zt_D (a10 k &&& s) rem) = _
      omega
    have fin : ∀ m' h', zt_K rem m' h' (zt_Z zt_pc a10 k + zt_pc (a10 k &&& s)) (zt_Z (fun x => zt_D x (s :: rem)) a10 k + zt_D (a10 k &&& s) rem) →
        wX_splitSets_57 post (wX_splitSets_6 post (nI n) s pr cn ls qe f) (nI n) s (nI m') (nI k) (a10 k &&& (s ^^^ (-1))) pr cn ls qe a1 a2 a3 a4 a5 a6 a7 a8 a9 a10 h' := by
      intro m' h' hK'
      refine zt_s57 (fun z => hw (m', h') ?_) (fun z => ⟨zt_K_lt z hK' (by omega), hw (m' + 1, vp_updL h' m' (a10 k &&& (s ^^^ (-1)))) ?_⟩)
      · show zt_K rem m' h' (zt_Z zt_pc a10 (k + 1)) (zt_Z (fun x => zt_D x (s :: rem)) a10 (k + 1))
        rw [eP, eQ]
        exact zt_K_0 z hK'
      · show zt_K rem (m' + 1) (vp_updL h' m' (a10 k &&& (s ^^^ (-1)))) (zt_Z zt_pc a10 (k + 1)) (zt_Z (fun x => zt_D x (s :: rem)) a10 (k + 1))
        rw [eP, eQ]
        exact zt_K_1 z hK'
    refine pk_le n k (fun z => absurd z (by omega)) (fun _ => ⟨K, ?_⟩)
    rw [C]
    refine nm_e ⟨K, nm_e (br_c (fun z => fin m h (zt_K_0 z hK)) (fun z => ?_))⟩
    have hm : m < 64 := zt_K_lt z hK (by omega)
    exact ⟨pk_in m 64 hm, nm_r (by rw [nI_clamp (show m < 2 ^ 31 by omega)]) (nm_r (nI_1 m) (fin (m + 1) _ (zt_K_1 z hK)))⟩
theorem zt_d48 {post : Int32 → St1 → Prop} {k n0 : Nat} {D0 : Nat} (hk : k ≤ 2) (hK : zt_K (zt_up (fun b => a1 (8 * k + b)) 0 8) n0 a10 (zt_Z zt_pc a10 n0) D0) (hz : zt_Z zt_pc a10 n0 ≤ 64)
    (hp : ∀ b10 b11, post (nI D0) (pr, cn, ls, qe, a1, a2, a3, a4, a5, a6, a7, a8, a9, b10, b11)) (y : Int32) (hy : y = nI n0) : ∃ f, wX_different_48 post (nI k) f y 0 pr cn ls qe a1 a2 a3 a4 a5 a6 a7 a8 a9 a10 a11 := by
  rw [hy]
  refine pk_loop (fun f b (t : Nat × (Nat → Int64) × (Nat → Int64)) => wX_different_48 post (nI k) f (nI t.1) (nI b) pr cn ls qe a1 a2 a3 a4 a5 a6 a7 a8 a9 t.2.1 t.2.2)
    (fun b t => zt_K (zt_up (fun b => a1 (8 * k + b)) b (8 - b)) t.1 t.2.1 (zt_Z zt_pc a10 n0) D0) 8 0 (n0, a10, a11) (by omega) hK ?_ ?_
  · intro f t h
    obtain ⟨n, b10, b11⟩ := t
    have e : n = D0 := by
      have h3 : zt_Z (fun x => zt_D x []) b10 n = D0 := h.2.2
      rw [zt_Z_one n h.1] at h3
      exact h3
    refine pk_le 8 8 (fun _ => ?_) (fun z => absurd z (by omega))
    show post (nI n) (pr, cn, ls, qe, a1, a2, a3, a4, a5, a6, a7, a8, a9, b10, b11)
    rw [e]
    exact hp b10 b11
  · intro f b t hb h hw
    obtain ⟨n, b10, b11⟩ := t
    have C : (8 * nI k + nI b).toNatClampNeg = 8 * k + b := by rw [zt_col8]; exact nI_clamp (by omega)
    have h0 : zt_K (zt_up (fun b => a1 (8 * k + b)) b (8 - b)) n b10 (zt_Z zt_pc a10 n0) D0 := h
    rw [show 8 - b = (8 - (b + 1)) + 1 by omega] at h0
    obtain ⟨g1, g2, g3⟩ := h0
    have hz' : zt_Z zt_pc b10 n ≤ 64 := by omega
    have hn : n ≤ 64 := by
      have := zt_Z_ge n g1
      omega
    have g3 : zt_Z (fun x => zt_D x (a1 (8 * k + b) :: zt_up (fun b => a1 (8 * k + b)) (b + 1) (8 - (b + 1)))) b10 n = D0 := g3
    refine pk_le 8 b (fun z => absurd z (by omega)) (fun _ => ⟨pk_in (8 * k + b) 24 (by omega) zt_col8, ?_⟩)
    rw [C]
    refine zt_split (rem := zt_up (fun b => a1 (8 * k + b)) (b + 1) (8 - (b + 1))) hn hz' (fun m c10 c11 hK' => nm_r (nI_1 b) (hw (m, c10, c11) ?_))
    rw [g2, g3] at hK'
    exact hK'
theorem zt_diff {post : Int32 → St1 → Prop} {m k : Nat} {e : Int32} {R : Int64} (hf : zt_Fr m pr a7 a8 e R) (hk : k ≤ 2) (h : ∀ b10 b11, post (nI (zt_D R (zt_dn (fun b => a1 (8 * k + b)) 8))) (pr, nI m, ls, qe, a1, a2, a3, a4, a5, a6, a7, a8, a9, b10, b11)) : wpX_different post (pr, nI m, ls, qe, a1, a2, a3, a4, a5, a6, a7, a8, a9, a10, a11) e (nI k) := by
  unfold wpX_different
  dsimp only
  refine zt_isCol hk (br_f (by decide) (zt_Fr_isC hf (br_f (by decide) (zt_Fr_rows2 hf ?_))))
  refine nm_e ?_
  rw [← zt_D_updn] at h
  have e0 : vp_updL a10 0 R 0 = R := pk_uLs
  have hle := zt_pc_le R
  refine br_c (fun z => ?_) (fun z => ?_)
  · rw [e0] at z
    refine zt_d48 (n0 := 0) (D0 := zt_D R (zt_up (fun b => a1 (8 * k + b)) 0 8)) hk ⟨fun j hj => absurd hj (by omega), rfl, ?_⟩ (by show 0 ≤ 64; omega) h _ rfl
    rw [z, zt_D_0]
    rfl
  · rw [e0] at z
    refine zt_d48 (n0 := 1) (D0 := zt_D R (zt_up (fun b => a1 (8 * k + b)) 0 8)) hk ⟨fun j hj => ?_, rfl, ?_⟩ ?_ h _ rfl
    · rw [show j = 0 by omega, e0]
      exact z
    · show 0 + zt_D (vp_updL a10 0 R 0) _ = _
      rw [e0, Nat.zero_add]
    · show 0 + zt_pc (vp_updL a10 0 R 0) ≤ 64
      rw [e0]
      omega
/-! ===== the law's ranked ===== -/
theorem zt_lastle {p v : Nat} (hp : p < 2 ^ 30) (hv : v < 2 ^ 30) (h : p ≤ v + 1) : nI p + (-1) ≤ nI v := by
  cases p with
  | zero =>
    refine Int32.le_iff_toInt_le.mpr ?_
    rw [nI_toInt (by omega), show (nI 0 + (-1)).toInt = -1 by decide]
    omega
  | succ q =>
    rw [pk_m1]
    exact nI_le (by omega) (by omega)
theorem zt_lasteq {p v : Nat} (hp : p < 2 ^ 30) (hv : v < 2 ^ 30) : nI v = nI p + (-1) ↔ v + 1 = p := by
  cases p with
  | zero =>
    constructor
    · intro h
      have h2 := congrArg Int32.toInt h
      rw [nI_toInt (by omega), show (nI 0 + (-1)).toInt = -1 by decide] at h2
      omega
    · intro h
      omega
  | succ q =>
    rw [pk_m1, nI_eq (by omega) (by omega)]
    omega
theorem zt_82 {post : Int32 → St1 → Prop} {m k : Nat} {e : Int32} {R : Int64} (hf : zt_Fr m pr a7 a8 e R) (hk : k ≤ 2) {x3 x4 x5 : Int32} (e3 : x3 = nI (zt_pc R)) (e4 : x4 = nI (zt_S R (zt_dn (fun b => a1 (8 * k + b)) 8))) (e5 : x5 = nI (zt_D R (zt_dn (fun b => a1 (8 * k + b)) 8)))
    (h : ∀ b10 b11, post 1 (pr, nI m, ls, qe, a1, a2, a3, a4, a5, a6, a7, a8, a9, b10, b11)) : wL_ranked_82 post e (nI k) x3 x4 x5 pr (nI m) ls qe a1 a2 a3 a4 a5 a6 a7 a8 a9 a10 a11 := by
  unfold wL_ranked_82
  refine zt_sum hf hk (br_t e4.symm ?_)
  refine zt_diff hf hk (fun b10 b11 => br_t e5.symm ?_)
  rw [e3]
  exact zt_rk_no hf hk rfl (br_t rfl (h b10 b11))
theorem zt_Lrk {post : Int32 → St1 → Prop} {m k : Nat} {e : Int32} {R : Int64} (hf : zt_Fr m pr a7 a8 e R) (hk : k ≤ 2)
    (h : ∀ b10 b11, post 1 (pr, nI m, ls, qe, a1, a2, a3, a4, a5, a6, a7, a8, a9, b10, b11)) : wpL_ranked post (pr, nI m, ls, qe, a1, a2, a3, a4, a5, a6, a7, a8, a9, a10, a11) e (nI k) := by
  have hle := zt_pc_le R
  have hlen := zt_T_len (zt_dn (fun b => a1 (8 * k + b)) 8) R
  have hsum := zt_T_sum (zt_dn (fun b => a1 (8 * k + b)) 8) R
  have hrun := zt_T_runs (zt_dn (fun b => a1 (8 * k + b)) 8) R 0 (fun v _ => by omega)
  have hsrt := zt_T_sorted (zt_dn (fun b => a1 (8 * k + b)) 8) R
  have hlt : ∀ v, v ∈ zt_T R (zt_dn (fun b => a1 (8 * k + b)) 8) → v < 256 := zt_T_lt (zt_dn (fun b => a1 (8 * k + b)) 8) R
  have hrk : ∀ (post' : Int32 → St1 → Prop) (i : Nat), i < zt_pc R → post' (nI ((zt_T R (zt_dn (fun b => a1 (8 * k + b)) 8)).getD i 0)) (pr, nI m, ls, qe, a1, a2, a3, a4, a5, a6, a7, a8, a9, a10, a11) → wpX_ranked post' (pr, nI m, ls, qe, a1, a2, a3, a4, a5, a6, a7, a8, a9, a10, a11) e (nI k) (nI i) := fun post' i hi h' => zt_rk hf hk hi h'
  have h82 : ∀ x3 x4 x5 : Int32, x3 = nI (zt_pc R) → x4 = nI (zt_S R (zt_dn (fun b => a1 (8 * k + b)) 8)) → x5 = nI (zt_D R (zt_dn (fun b => a1 (8 * k + b)) 8)) → wL_ranked_82 post e (nI k) x3 x4 x5 pr (nI m) ls qe a1 a2 a3 a4 a5 a6 a7 a8 a9 a10 a11 := fun x3 x4 x5 e3 e4 e5 => zt_82 hf hk e3 e4 e5 h
  rw [← hsum, ← hrun] at h82
  generalize zt_T R (zt_dn (fun b => a1 (8 * k + b)) 8) = T at *
  unfold wpL_ranked
  dsimp only
  refine zt_count_fr hf ?_
  refine pk_loop (fun n i (s : Nat × Nat × Nat) => wL_ranked_18 post e (nI k) (nI (zt_pc R)) n (nI s.1) (nI s.2.1) (nI s.2.2 + (-1)) (nI i) pr (nI m) ls qe a1 a2 a3 a4 a5 a6 a7 a8 a9 a10 a11)
    (fun i s => s.1 + (T.drop i).sum = T.sum ∧ s.2.1 + zt_runs s.2.2 (T.drop i) = zt_runs 0 T ∧ (∀ v, v ∈ T.drop i → s.2.2 ≤ v + 1) ∧ s.2.2 ≤ 256) (zt_pc R) 0 (0, 0, 0) (by omega) ⟨Nat.zero_add _, Nat.zero_add _, fun v _ => Nat.zero_le _, Nat.zero_le _⟩ ?_ ?_
  · intro n s hs
    obtain ⟨h1, h2, _, _⟩ := hs
    rw [← hlen, List.drop_length] at h1 h2
    exact pk_le (zt_pc R) (zt_pc R) (fun _ => h82 _ _ _ rfl (by rw [← h1]; rfl) (by rw [← h2]; rfl)) (fun z => absurd z (by omega))
  · intro n i s hi hs hw
    obtain ⟨sm, ch, p⟩ := s
    obtain ⟨h1, h2, h3, h4⟩ := hs
    have hiT : i < T.length := by omega
    have hd := zt_drop hiT
    have hv := hlt _ (zt_getD_mem hiT)
    have hso : (T.drop i).Pairwise (fun a b => a ≤ b) := hsrt.sublist (List.drop_sublist i T)
    have h1 : sm + (T.drop i).sum = T.sum := h1
    have h2 : ch + zt_runs p (T.drop i) = zt_runs 0 T := h2
    have h3 : ∀ v, v ∈ T.drop i → p ≤ v + 1 := h3
    have h4 : p ≤ 256 := h4
    have hr : ∀ post' : Int32 → St1 → Prop, post' (nI (T.getD i 0)) (pr, nI m, ls, qe, a1, a2, a3, a4, a5, a6, a7, a8, a9, a10, a11) → wpX_ranked post' (pr, nI m, ls, qe, a1, a2, a3, a4, a5, a6, a7, a8, a9, a10, a11) e (nI k) (nI i) := fun post' => hrk post' i hi
    rw [hd] at h1 h2 h3 hso
    generalize T.getD i 0 = v at *
    have hpv := h3 v (List.mem_cons_self ..)
    rw [List.sum_cons] at h1
    have h2 : ch + ((if v + 1 = p then 0 else 1) + zt_runs (v + 1) (T.drop (i + 1))) = zt_runs 0 T := h2
    have h3' : ∀ w, w ∈ T.drop (i + 1) → v + 1 ≤ w + 1 := fun w hw' => Nat.succ_le_succ ((List.pairwise_cons.mp hso).1 w hw')
    have go : ∀ ch', ch' + zt_runs (v + 1) (T.drop (i + 1)) = zt_runs 0 T → wL_ranked_18 post e (nI k) (nI (zt_pc R)) n (nI (sm + v)) (nI ch') (nI v) (nI (i + 1)) pr (nI m) ls qe a1 a2 a3 a4 a5 a6 a7 a8 a9 a10 a11 := by
      intro ch' hch
      have t : wL_ranked_18 post e (nI k) (nI (zt_pc R)) n (nI (sm + v)) (nI ch') (nI (v + 1) + (-1)) (nI (i + 1)) pr (nI m) ls qe a1 a2 a3 a4 a5 a6 a7 a8 a9 a10 a11 := hw (sm + v, ch', v + 1) ⟨by
        show sm + v + (T.drop (i + 1)).sum = T.sum
        omega, hch, h3', by
        show v + 1 ≤ 256
        omega⟩
      rw [pk_m1] at t
      exact t
    refine pk_le (zt_pc R) i (fun z => absurd z (by omega)) (fun _ => pk_le 64 i (fun z => absurd z (by omega)) (fun _ => ?_))
    refine hr _ (br_f (nI_pos (by omega)) (br_t (zt_lastle (by omega) (by omega) hpv) ?_))
    refine br_c (fun z => ?_) (fun z => ?_)
    · have z' := (zt_lasteq (by omega) (by omega)).mp z
      rw [if_pos z', Nat.zero_add] at h2
      exact nm_r (nI_add sm v) (nm_r (nI_1 i) (go ch h2))
    · have z' : ¬ v + 1 = p := fun g => z ((zt_lasteq (by omega) (by omega)).mpr g)
      rw [if_neg z', ← Nat.add_assoc] at h2
      exact nm_r (nI_1 ch) (nm_r (nI_add sm v) (nm_r (nI_1 i) (go (ch + 1) h2)))
end
end
section
section
variable {pr : Int64} {cn : Int32} {ls qe : Int64} {a1 : Nat → Int64} {a2 a3 a4 a5 a6 : Nat → Int32} {a7 : Nat → Int64} {a8 : Nat → Int32} {a9 a10 a11 : Nat → Int64}
/-- the invariant of a state -/
def zt_Inv (u : St1) : Prop := match u with
  | (pr, cn, ls, qe, a1, a2, a3, a4, a5, a6, a7, a8, a9, a10, a11) => ∃ m : Nat, cn = nI m ∧ zt_I m pr a2 a3 a4 a7 a8
theorem zt_Inv_mk {m : Nat} (h : zt_I m pr a2 a3 a4 a7 a8) : zt_Inv (pr, nI m, ls, qe, a1, a2, a3, a4, a5, a6, a7, a8, a9, a10, a11) := ⟨m, rfl, h⟩
theorem zt_make {post : Int32 → St1 → Prop} {m : Nat} {p0 p1 p2 p3 p4 : Int32} (hm : m ≤ 16)
    (hy : m < 16 → post (nI m) (pr, nI (m + 1), ls, qe, a1, upd a2 m p0, upd a3 m p1, upd a4 m p2, upd a5 m p3, upd a6 m p4, a7, upd a8 m 0, a9, a10, a11))
    (hn : 16 ≤ m → post (-1) (pr, nI m, ls, qe, a1, a2, a3, a4, a5, a6, a7, a8, a9, a10, a11)) : wpX_make post (pr, nI m, ls, qe, a1, a2, a3, a4, a5, a6, a7, a8, a9, a10, a11) p0 p1 p2 p3 p4 := by
  unfold wpX_make
  dsimp only
  rw [nI_clamp (show m < 2 ^ 31 by omega)]
  refine pk_lt m 16 (fun z => ?_) hn
  have K : vp_in (nI m) 16 := pk_in m 16 z
  exact ⟨K, nm_e ⟨K, nm_e ⟨K, nm_e ⟨K, nm_e ⟨K, nm_e ⟨K, nm_e (nm_r (nI_1 m) (hy z))⟩⟩⟩⟩⟩⟩
theorem zt_ok_upd {m k : Nat} {x y z : Int32} (h : k ≠ m) (ok : zt_ok a2 a3 a4 k) : zt_ok (upd a2 m x) (upd a3 m y) (upd a4 m z) k := by
  unfold zt_ok
  rw [pk_un h, pk_un h, pk_un h]
  exact ok
theorem zt_I_make {m : Nat} {x y z : Int32} (hI : zt_I m pr a2 a3 a4 a7 a8) (hm : m < 16)
    (ok : (x = 3 → vp_in y 16 ∧ vp_in z 16 ∧ y.toNatClampNeg < m ∧ z.toNatClampNeg < m) ∧ (¬ x = 3 → ∃ i j : Nat, i ≤ 2 ∧ j ≤ 2 ∧ y = nI i ∧ z = nI j)) :
    zt_I (m + 1) pr (upd a2 m x) (upd a3 m y) (upd a4 m z) a7 (upd a8 m 0) := by
  refine ⟨by omega, fun k hk => ?_, fun k hk h8 => ?_⟩
  · by_cases e : k = m
    · rw [e]
      unfold zt_ok
      rw [pk_us, pk_us, pk_us]
      exact ok
    · exact zt_ok_upd e (hI.2.1 k (by omega))
  · by_cases e : k = m
    · rw [e, pk_us] at h8
      exact absurd rfl h8
    · rw [pk_un e] at h8
      exact hI.2.2 k (by omega) h8
theorem zt_okj {m q d : Nat} {x : Int32} (hx : x = 3) (hm : m ≤ 16) (hq : q < m) (hd : d < m) : (x = 3 → vp_in (nI q) 16 ∧ vp_in (nI d) 16 ∧ (nI q).toNatClampNeg < m ∧ (nI d).toNatClampNeg < m) ∧ (¬ x = 3 → ∃ i j : Nat, i ≤ 2 ∧ j ≤ 2 ∧ nI q = nI i ∧ nI d = nI j) :=
  ⟨fun _ => ⟨pk_in q 16 (by omega), pk_in d 16 (by omega), by rw [nI_clamp (by omega)]; exact hq, by rw [nI_clamp (by omega)]; exact hd⟩, fun h => absurd hx h⟩
theorem zt_join {post : Int32 → St1 → Prop} {m q h d : Nat} (hm : m ≤ 16) (hq : q < 16) (hh : h ≤ 3) (hd : d < 16)
    (hy : q < m → d < m → m < 16 → post (nI m) (pr, nI (m + 1), ls, qe, a1, upd a2 m 3, upd a3 m (nI q), upd a4 m (nI d), upd a5 m (nI h), upd a6 m 0, a7, upd a8 m 0, a9, a10, a11))
    (hn : ¬ (q < m ∧ d < m ∧ m < 16) → post (-1) (pr, nI m, ls, qe, a1, a2, a3, a4, a5, a6, a7, a8, a9, a10, a11)) : wpX_join post (pr, nI m, ls, qe, a1, a2, a3, a4, a5, a6, a7, a8, a9, a10, a11) (nI q) (nI h) (nI d) := by
  refine br_f (nI_pos (by omega)) (pk_le m q (fun z => hn (fun g => absurd g.1 (by omega))) (fun z1 => br_f (nI_pos (by omega)) (pk_le m d (fun z => hn (fun g => absurd g.2.1 (by omega))) (fun z2 => br_f (nI_pos (by omega)) (br_t ?_ ?_)))))
  · exact nI_le (b := 3) hh (by decide)
  · exact zt_make hm (fun z => hy z1 z2 z) (fun z => hn (fun g => absurd g.2.2 (by omega)))
/-! ===== the makers keep the invariant ===== -/
theorem zt_kjoin {post : Int32 → St1 → Prop} {q h d : Nat} (hs : zt_Inv (pr, cn, ls, qe, a1, a2, a3, a4, a5, a6, a7, a8, a9, a10, a11)) (hq : q < 16) (hh : h ≤ 3) (hd : d < 16) (hp : ∀ r s', zt_Inv s' → post r s') : wpX_join post (pr, cn, ls, qe, a1, a2, a3, a4, a5, a6, a7, a8, a9, a10, a11) (nI q) (nI h) (nI d) := by
  obtain ⟨m, rfl, hI⟩ := hs
  exact zt_join hI.1 hq hh hd (fun z1 z2 z => hp _ _ (zt_Inv_mk (zt_I_make hI z (zt_okj rfl hI.1 z1 z2)))) (fun _ => hp _ _ (zt_Inv_mk hI))
theorem zt_kcompare {post : Int32 → St1 → Prop} {i h : Nat} {c : Int32} (hs : zt_Inv (pr, cn, ls, qe, a1, a2, a3, a4, a5, a6, a7, a8, a9, a10, a11)) (hi : i ≤ 2) (hh : h ≤ 5) (hp : ∀ r s', zt_Inv s' → post r s') : wpX_compare post (pr, cn, ls, qe, a1, a2, a3, a4, a5, a6, a7, a8, a9, a10, a11) (nI i) (nI h) c := by
  obtain ⟨m, rfl, hI⟩ := hs
  unfold wpX_compare
  dsimp only
  refine zt_isCol hi (br_f (by decide) (br_f (nI_pos (by omega)) (br_t (nI_le (b := 5) hh (by decide)) ?_)))
  exact zt_make hI.1 (fun z => hp _ _ (zt_Inv_mk (zt_I_make hI z ⟨fun g => absurd g (by decide), fun _ => ⟨i, 0, hi, by omega, rfl, rfl⟩⟩))) (fun _ => hp _ _ (zt_Inv_mk hI))
theorem zt_kcolumns {post : Int32 → St1 → Prop} {i h j : Nat} (hs : zt_Inv (pr, cn, ls, qe, a1, a2, a3, a4, a5, a6, a7, a8, a9, a10, a11)) (hi : i ≤ 2) (hh : h ≤ 5) (hj : j ≤ 2) (hp : ∀ r s', zt_Inv s' → post r s') : wpX_columns post (pr, cn, ls, qe, a1, a2, a3, a4, a5, a6, a7, a8, a9, a10, a11) (nI i) (nI h) (nI j) := by
  obtain ⟨m, rfl, hI⟩ := hs
  unfold wpX_columns
  dsimp only
  refine zt_isCol hi (br_f (by decide) (zt_isCol hj (br_f (by decide) (br_f (nI_pos (by omega)) (br_t (nI_le (b := 5) hh (by decide)) ?_)))))
  exact zt_make hI.1 (fun z => hp _ _ (zt_Inv_mk (zt_I_make hI z ⟨fun g => absurd g (by decide), fun _ => ⟨i, j, hi, hj, rfl, rfl⟩⟩))) (fun _ => hp _ _ (zt_Inv_mk hI))
theorem zt_ksums {post : Int32 → St1 → Prop} {i j h : Nat} {c : Int32} (hs : zt_Inv (pr, cn, ls, qe, a1, a2, a3, a4, a5, a6, a7, a8, a9, a10, a11)) (hi : i ≤ 2) (hj : j ≤ 2) (hh : h ≤ 5) (hp : ∀ r s', zt_Inv s' → post r s') : wpX_sums post (pr, cn, ls, qe, a1, a2, a3, a4, a5, a6, a7, a8, a9, a10, a11) (nI i) (nI j) (nI h) c := by
  obtain ⟨m, rfl, hI⟩ := hs
  unfold wpX_sums
  dsimp only
  refine zt_isCol hi (br_f (by decide) (zt_isCol hj (br_f (by decide) (br_f (nI_pos (by omega)) (br_t (nI_le (b := 5) hh (by decide)) ?_)))))
  exact zt_make hI.1 (fun z => hp _ _ (zt_Inv_mk (zt_I_make hI z ⟨fun g => absurd g (by decide), fun _ => ⟨i, j, hi, hj, rfl, rfl⟩⟩))) (fun _ => hp _ _ (zt_Inv_mk hI))
/-! ===== rows ===== -/
theorem zt_forget {post : St1 → Prop} (hp : ∀ b, (∀ k, k < 16 → b k = 0) → post (pr, cn, ls, qe, a1, a2, a3, a4, a5, a6, a7, b, a9, a10, a11)) : wpX_forgetAnswers post (pr, cn, ls, qe, a1, a2, a3, a4, a5, a6, a7, a8, a9, a10, a11) :=
  pk_loop (fun n k s => wX_forgetAnswers_2 post pr cn ls qe n (nI k) a1 a2 a3 a4 a5 a6 a7 s a9 a10 a11) (fun k s => ∀ j, j < k → s j = 0) 16 0 a8 (by omega) (fun j hj => absurd hj (by omega))
    (fun n s h => pk_le 16 16 (fun _ => hp s h) (fun z => absurd z (by omega)))
    (fun n k s hk h hw => pk_le 16 k (fun z => absurd z (by omega)) (fun _ => ⟨pk_in k 16 hk, nm_r (by rw [nI_clamp (show k < 2 ^ 31 by omega)]) (nm_r (nI_1 k) (hw (upd s k 0) (fun j hj => by
      by_cases e : j = k
      · rw [e, pk_us]
      · rw [pk_un e]
        exact h j (by omega))))⟩))
theorem zt_I_forget {m : Nat} {pr' : Int64} {b : Nat → Int32} (hI : zt_I m pr a2 a3 a4 a7 a8) (hb : ∀ k, k < 16 → b k = 0) : zt_I m pr' a2 a3 a4 a7 b :=
  ⟨hI.1, hI.2.1, fun k hk h => absurd (hb k (by have := hI.1; omega)) h⟩
theorem zt_kclear {post : St1 → Prop} (hp : ∀ s', zt_Inv s' → post s') : wpX_clear post (pr, cn, ls, qe, a1, a2, a3, a4, a5, a6, a7, a8, a9, a10, a11) := by
  unfold wpX_clear
  dsimp only
  refine zt_forget (fun b hb => hp _ ⟨0, rfl, by omega, fun k hk => absurd hk (by omega), fun k hk => absurd hk (by omega)⟩)
theorem zt_kdrop {post : Int32 → St1 → Prop} {i : Nat} (hs : zt_Inv (pr, cn, ls, qe, a1, a2, a3, a4, a5, a6, a7, a8, a9, a10, a11)) (hi : i < 64) (hp : ∀ r s', zt_Inv s' → post r s') : wpX_drop post (pr, cn, ls, qe, a1, a2, a3, a4, a5, a6, a7, a8, a9, a10, a11) (nI i) := by
  obtain ⟨m, rfl, hI⟩ := hs
  refine br_f (nI_pos (by omega)) (br_t (nI_le (b := 63) (by omega) (by decide)) (nm_e (nm_e ?_)))
  exact zt_forget (fun b hb => hp _ _ (zt_Inv_mk (zt_I_forget hI hb)))
theorem zt_setc {post : St1 → Prop} {c : Nat} {x v : Int32} (hc : c ≤ 2) (hp : ∀ b, post (pr, cn, ls, qe, b, a2, a3, a4, a5, a6, a7, a8, a9, a10, a11)) : wpX_setColumn post (pr, cn, ls, qe, a1, a2, a3, a4, a5, a6, a7, a8, a9, a10, a11) x (nI c) v :=
  pk_loop (fun n b s => wX_setColumn_3 post x (nI c) v pr cn ls qe n (nI b) s a2 a3 a4 a5 a6 a7 a8 a9 a10 a11) (fun _ _ => True) 8 0 a1 (by omega) trivial
    (fun n s _ => pk_le 8 8 (fun _ => hp s) (fun z => absurd z (by omega)))
    (fun n b s hb _ hw => pk_le 8 b (fun z => absurd z (by omega)) (fun _ => nm_r zt_col8 ⟨pk_in (8 * c + b) 24 (by omega), pk_in (8 * c + b) 24 (by omega), nm_e (nm_r (nI_1 b) (hw _ trivial))⟩))
theorem zt_kput {post : Int32 → St1 → Prop} {i : Nat} {x y z : Int32} (hs : zt_Inv (pr, cn, ls, qe, a1, a2, a3, a4, a5, a6, a7, a8, a9, a10, a11)) (hi : i < 64) (hp : ∀ r s', zt_Inv s' → post r s') : wpX_put post (pr, cn, ls, qe, a1, a2, a3, a4, a5, a6, a7, a8, a9, a10, a11) (nI i) x y z := by
  obtain ⟨m, rfl, hI⟩ := hs
  refine br_f (nI_pos (by omega)) (br_t (nI_le (b := 63) (by omega) (by decide)) (nm_e ?_))
  refine zt_setc (c := 0) (by omega) (fun b0 => ?_)
  refine zt_setc (c := 1) (by omega) (fun b1 => ?_)
  refine zt_setc (c := 2) (by omega) (fun b2 => ?_)
  exact zt_forget (fun b hb => hp _ _ (zt_Inv_mk (zt_I_forget hI hb)))
/-! ===== parted ===== -/
theorem zt_parted {post : Int32 → St1 → Prop} {m q d : Nat} (hI : zt_I m pr a2 a3 a4 a7 a8) (hq : q < 16) (hd : d < 16) (hp : ∀ s', zt_Inv s' → post 1 s') : wpL_parted post (pr, nI m, ls, qe, a1, a2, a3, a4, a5, a6, a7, a8, a9, a10, a11) (nI q) (nI d) := by
  have hm := hI.1
  unfold wpL_parted
  dsimp only
  by_cases hqm : q < m
  · refine zt_count hI hqm (fun l1 q1 b7 b8 t1 hQ => ?_)
    have hI1 := zt_I_Q hI hQ
    dsimp only
    refine zt_join (h := 3) hm hq (by omega) hd (fun _ hdm h16 => ?_) (fun hno => ?_)
    · have hI2 := zt_I_make hI1 h16 (zt_okj (x := 3) rfl hm hqm hdm)
      dsimp only
      refine zt_join (h := 0) hI2.1 hq (by omega) hd (fun _ _ h17 => ?_) (fun hno2 => ?_)
      · have hI3 := zt_I_make hI2 h17 (zt_okj (x := 3) (q := q) (d := d) rfl hI2.1 (by omega) (by omega))
        dsimp only
        refine br_f (nI_pos (by omega)) (br_t (nI_pos' (by omega)) ?_)
        refine zt_count hI3 (c := m) (by omega) (fun l2 q2 c7 c8 t2 hQ2 => ?_)
        have hI4 := zt_I_Q hI3 hQ2
        dsimp only
        refine zt_count hI4 (c := m + 1) (by omega) (fun l3 q3 d7 d8 t3 hQ3 => ?_)
        have hI5 := zt_I_Q hI4 hQ3
        dsimp only
        obtain ⟨f1, f2, f3, f4⟩ := hQ2
        obtain ⟨g1, g2, g3, g4⟩ := hQ3
        have m1 : m ≠ m + 1 := by omega
        have n1 : q ≠ m := by omega
        have n2 : q ≠ m + 1 := by omega
        have h8q : ¬ b8 q = 0 := hQ.1 q (by omega)
        have e1 : c7 q = b7 q := (f2 q (by rw [pk_un n2, pk_un n1]; exact h8q)).1
        have e2 : c7 m = (c7 q &&& (c7 d ^^^ (-1))) &&& pr := by
          have t := (f4 m (by omega) (by rw [pk_un m1, pk_us])).2 (by rw [pk_un m1, pk_us])
          rw [pk_un m1, pk_us, pk_un m1, pk_us, pk_un m1, pk_us, nI_clamp (show q < 2 ^ 31 by omega), nI_clamp (show d < 2 ^ 31 by omega)] at t
          exact t
        have k8 : ∀ k, k < m + 1 → d7 k = c7 k := fun k hk => (g2 k (f1 k hk)).1
        have e3 : d7 (m + 1) = (c7 q &&& c7 d) &&& pr := by
          have z0 : c8 (m + 1) = 0 := by
            rw [(f3 (m + 1) (Nat.le_refl _)).2, pk_us]
          have t := (g4 (m + 1) (by omega) z0).2 (by rw [pk_us])
          rw [pk_us, pk_us, pk_us, nI_clamp (show q < 2 ^ 31 by omega), nI_clamp (show d < 2 ^ 31 by omega), k8 q (by omega), k8 d (by omega)] at t
          exact t
        have e4 : b7 q &&& pr = b7 q := hI1.2.2 q hqm h8q
        have hsum : zt_pc (c7 m) + zt_pc (d7 (m + 1)) = zt_pc (b7 q) := by
          have hs := zt_pc_split (c7 q &&& pr) (c7 d)
          rw [e1, e4] at hs
          rw [e2, e3, zt_ac (c7 q) _ pr, zt_ac (c7 q) _ pr, e1, e4]
          omega
        refine br_t (by rw [nI_add, hsum]) ?_
        refine zt_count hI5 (c := q) (by omega) (fun l4 q4 e7 e8 t4 hQ4 => br_t ?_ (hp _ (zt_Inv_mk (zt_I_Q hI5 hQ4))))
        rw [(hQ4.2.1 q (g1 q (by omega))).1, k8 q (by omega), e1]
      · exact br_f (nI_pos (by omega)) (br_f (by decide) (hp _ (zt_Inv_mk hI2)))
    · dsimp only
      exact zt_join (h := 0) hm hq (by omega) hd (fun z1 z2 z3 => absurd ⟨z1, z2, z3⟩ hno) (fun _ => br_t (by decide) (hp _ (zt_Inv_mk hI1)))
  · refine zt_count_no (by omega) hq ?_
    dsimp only
    refine zt_join (h := 3) hm hq (by omega) hd (fun z => absurd z hqm) (fun _ => ?_)
    dsimp only
    exact zt_join (h := 0) hm hq (by omega) hd (fun z => absurd z hqm) (fun _ => br_t (by decide) (hp _ (zt_Inv_mk hI)))
end
end
section
section
variable {pr : Int64} {cn : Int32} {ls qe : Int64} {a1 : Nat → Int64} {a2 a3 a4 a5 a6 : Nat → Int32} {a7 : Nat → Int64} {a8 : Nat → Int32} {a9 a10 a11 : Nat → Int64}
theorem zt_mod3 (x : Int32) : ∃ i : Nat, i ≤ 2 ∧ (x &&& 255) - (x &&& 255) / 3 * 3 = nI i := by
  obtain ⟨j, hj, e⟩ := pk_andE x (m := 255) 8 (by decide)
  have hj : j < 256 := hj
  refine ⟨j % 3, by omega, ?_⟩
  rw [e]
  exact pk_rem (d := 3) (by omega) (by decide) (by decide)
theorem zt_mod6 (x : Int32) : ∃ i : Nat, i ≤ 5 ∧ (x &&& 255) - (x &&& 255) / 6 * 6 = nI i := by
  obtain ⟨j, hj, e⟩ := pk_andE x (m := 255) 8 (by decide)
  have hj : j < 256 := hj
  refine ⟨j % 6, by omega, ?_⟩
  rw [e]
  exact pk_rem (d := 6) (by omega) (by decide) (by decide)
theorem zt_and15 (x : Int32) : ∃ i : Nat, i < 16 ∧ x &&& 15 = nI i := pk_andE x (m := 15) 4 (by decide)
theorem zt_and63 (x : Int32) : ∃ i : Nat, i < 64 ∧ x &&& 63 = nI i := pk_andE x (m := 63) 6 (by decide)
theorem zt_and3 (x : Int32) : ∃ i : Nat, i ≤ 3 ∧ x &&& 3 = nI i := by
  obtain ⟨j, hj, e⟩ := pk_andE x (m := 3) 2 (by decide)
  have hj : j < 4 := hj
  exact ⟨j, by omega, e⟩
theorem zt_314 {post : Int32 → Prop} {L : Nat} {xs : Nat → Int32} {J : Int32 → Int64 → Int32 → Int64 → Int64 → (Nat → Int64) → (Nat → Int32) → (Nat → Int32) → (Nat → Int32) → (Nat → Int32) → (Nat → Int32) → (Nat → Int64) → (Nat → Int32) → (Nat → Int64) → (Nat → Int64) → (Nat → Int64) → Prop} {x2 x4 x5 : Int32} {kc ks m : Nat}
    (hI : zt_I m pr a2 a3 a4 a7 a8) (hJ : ∀ pr cn ls qe a1 a2 a3 a4 a5 a6 a7 a8 a9 a10 a11, zt_Inv (pr, cn, ls, qe, a1, a2, a3, a4, a5, a6, a7, a8, a9, a10, a11) → J (x2 + 5) pr cn ls qe a1 a2 a3 a4 a5 a6 a7 a8 a9 a10 a11) : wL_law_314 post L xs J x2 x4 x5 kc ks pr (nI m) ls qe a1 a2 a3 a4 a5 a6 a7 a8 a9 a10 a11 := by
  obtain ⟨q, hq, eq⟩ := zt_and15 x4
  obtain ⟨d, hd, ed⟩ := zt_and15 x5
  unfold wL_law_314
  rw [eq, ed]
  refine zt_parted hI hq hd (fun s' hs' => ?_)
  obtain ⟨pr', cn', ls', qe', b1, b2, b3, b4, b5, b6, b7, b8, b9, b10, b11⟩ := s'
  exact br_f (by decide) (nm_e (hJ _ _ _ _ _ _ _ _ _ _ _ _ _ _ _ hs'))
theorem zt_277 {post : Int32 → Prop} {L : Nat} {xs : Nat → Int32} {J : Int32 → Int64 → Int32 → Int64 → Int64 → (Nat → Int64) → (Nat → Int32) → (Nat → Int32) → (Nat → Int32) → (Nat → Int32) → (Nat → Int32) → (Nat → Int64) → (Nat → Int32) → (Nat → Int64) → (Nat → Int64) → (Nat → Int64) → Prop} {x2 x4 x5 : Int32} {kc ks : Nat}
    (hs : zt_Inv (pr, cn, ls, qe, a1, a2, a3, a4, a5, a6, a7, a8, a9, a10, a11)) (hJ : ∀ pr cn ls qe a1 a2 a3 a4 a5 a6 a7 a8 a9 a10 a11, zt_Inv (pr, cn, ls, qe, a1, a2, a3, a4, a5, a6, a7, a8, a9, a10, a11) → J (x2 + 5) pr cn ls qe a1 a2 a3 a4 a5 a6 a7 a8 a9 a10 a11) : wL_law_277 post L xs J x2 x4 x5 kc ks pr cn ls qe a1 a2 a3 a4 a5 a6 a7 a8 a9 a10 a11 := by
  obtain ⟨m, rfl, hI⟩ := hs
  obtain ⟨q, hq, eq⟩ := zt_and15 x4
  obtain ⟨k, hk, ek⟩ := zt_mod3 x5
  have hm := hI.1
  unfold wL_law_277
  rw [ek]
  cases q with
  | zero =>
    refine nm_r (e' := -1) (by rw [eq]; decide) ?_
    have hf : zt_Fr m pr a7 a8 (-1) pr := ⟨hm, Or.inl ⟨rfl, rfl⟩⟩
    have hle := zt_pc_le pr
    refine zt_count_fr hf (br_f (nI_pos (by omega)) ⟨by decide, ?_⟩)
    exact zt_Lrk hf hk (fun b10 b11 => br_f (by decide) (zt_314 hI hJ))
  | succ c =>
    refine nm_r (e' := nI c) (by rw [eq]; exact nI_pred c) ?_
    by_cases hc : c < m
    · refine zt_count hI hc (fun l q' b7 b8 t hQ => ?_)
      have hI1 := zt_I_Q hI hQ
      have hf : zt_Fr m pr b7 b8 (nI c) (b7 c) := ⟨hm, Or.inr ⟨c, hc, rfl, fun k hk => hQ.1 k (by omega), rfl⟩⟩
      have hle := zt_pc_le (b7 c)
      refine br_f (nI_pos (by omega)) ⟨by decide, ?_⟩
      exact zt_Lrk hf hk (fun b10 b11 => br_f (by decide) (zt_314 hI1 hJ))
    · exact zt_count_no (by omega) (by omega) (br_t (by decide) (zt_314 hI hJ))
theorem zt_142 {post : Int32 → Prop} {L : Nat} {xs : Nat → Int32} {J : Int32 → Int64 → Int32 → Int64 → Int64 → (Nat → Int64) → (Nat → Int32) → (Nat → Int32) → (Nat → Int32) → (Nat → Int32) → (Nat → Int32) → (Nat → Int64) → (Nat → Int32) → (Nat → Int64) → (Nat → Int64) → (Nat → Int64) → Prop} {x2 z0 : Int32} {i h kc ks : Nat}
    (hs : zt_Inv (pr, cn, ls, qe, a1, a2, a3, a4, a5, a6, a7, a8, a9, a10, a11)) (hi : i ≤ 2) (hh : h ≤ 5) (hJ : ∀ pr cn ls qe a1 a2 a3 a4 a5 a6 a7 a8 a9 a10 a11, zt_Inv (pr, cn, ls, qe, a1, a2, a3, a4, a5, a6, a7, a8, a9, a10, a11) → J (x2 + 5) pr cn ls qe a1 a2 a3 a4 a5 a6 a7 a8 a9 a10 a11) : wL_law_142 post L xs J x2 z0 (nI h) (nI i) kc ks pr cn ls qe a1 a2 a3 a4 a5 a6 a7 a8 a9 a10 a11 := by
  unfold wL_law_142
  refine zt_kcompare hs hi hh (fun r s' hs' => ?_)
  obtain ⟨pr', cn', ls', qe', b1, b2, b3, b4, b5, b6, b7, b8, b9, b10, b11⟩ := s'
  exact nm_e (hJ _ _ _ _ _ _ _ _ _ _ _ _ _ _ _ hs')
theorem zt_step {post : Int32 → Prop} {L : Nat} {xs : Nat → Int32} {kc ks n i : Nat} (hL : L ≤ 260) (hi : i ≤ L) (h1 : post 1) (hs : zt_Inv (pr, cn, ls, qe, a1, a2, a3, a4, a5, a6, a7, a8, a9, a10, a11))
    (hJ : i + 5 ≤ L → ∀ pr cn ls qe a1 a2 a3 a4 a5 a6 a7 a8 a9 a10 a11, zt_Inv (pr, cn, ls, qe, a1, a2, a3, a4, a5, a6, a7, a8, a9, a10, a11) → wL_law_10 post L xs kc ks n (nI i + 5) pr cn ls qe a1 a2 a3 a4 a5 a6 a7 a8 a9 a10 a11) : wL_law_10 post L xs kc ks (n + 1) (nI i) pr cn ls qe a1 a2 a3 a4 a5 a6 a7 a8 a9 a10 a11 := by
  have e5 : nI i + 5 = nI (i + 5) := nI_add i 5
  refine pk_lt L (i + 5) (fun z => ?_) (fun z => ?_) rfl e5
  · obtain ⟨m, rfl, hI⟩ := hs
    have hf : zt_Fr m pr a7 a8 (-1) pr := ⟨hI.1, Or.inl ⟨rfl, rfl⟩⟩
    refine zt_Lrk (k := 0) hf (by omega) (fun b10 b11 => br_f (by decide) ?_)
    exact zt_Lrk (k := 2) hf (by omega) (fun c10 c11 => br_f (by decide) h1)
  · have hJ := hJ z
    refine ⟨pk_in i L (by omega), nm_e ⟨pk_in (i + 1) L (by omega) (nI_add i 1), nm_e ⟨pk_in (i + 2) L (by omega) (nI_add i 2), nm_e ⟨pk_in (i + 3) L (by omega) (nI_add i 3), nm_e ⟨pk_in (i + 4) L (by omega) (nI_add i 4), nm_e ?_⟩⟩⟩⟩⟩
    generalize xs (nI i + 1).toNatClampNeg = a
    generalize xs (nI i + 2).toNatClampNeg = b
    generalize xs (nI i + 3).toNatClampNeg = c
    generalize xs (nI i + 4).toNatClampNeg = d
    generalize xs (nI i).toNatClampNeg &&& 15 = k
    refine br_c (fun _ => br_c (fun _ => ?_) (fun _ => br_c (fun _ => ⟨by decide, by decide, ?_⟩) (fun _ => br_c (fun _ => ⟨by decide, by decide, by decide, ?_⟩) (fun _ => br_c (fun _ => ⟨by decide, by decide, by decide, ?_⟩) (fun _ => br_c (fun _ => ?_) (fun _ => br_c (fun _ => br_c (fun _ => ?_) (fun _ => ?_)) (fun _ => ?_))))))) (fun _ => ?_)
    · obtain ⟨u, hu, eu⟩ := zt_and15 a
      rw [eu]
      refine zt_kdrop hs (by omega) (fun r s' hs' => ?_)
      obtain ⟨pr', cn', ls', qe', b1, b2, b3, b4, b5, b6, b7, b8, b9, b10, b11⟩ := s'
      exact nm_e (hJ _ _ _ _ _ _ _ _ _ _ _ _ _ _ _ hs')
    · obtain ⟨u, hu, eu⟩ := zt_mod3 a
      obtain ⟨v, hv, ev⟩ := zt_mod6 b
      rw [eu, ev]
      exact br_c (fun _ => zt_142 hs hu hv hJ) (fun _ => zt_142 hs hu hv hJ)
    · obtain ⟨u, hu, eu⟩ := zt_mod3 a
      obtain ⟨v, hv, ev⟩ := zt_mod6 b
      obtain ⟨w, hw, ew⟩ := zt_mod3 c
      rw [eu, ev, ew]
      refine zt_kcolumns hs hu hv hw (fun r s' hs' => ?_)
      obtain ⟨pr', cn', ls', qe', b1, b2, b3, b4, b5, b6, b7, b8, b9, b10, b11⟩ := s'
      exact nm_e (hJ _ _ _ _ _ _ _ _ _ _ _ _ _ _ _ hs')
    · obtain ⟨u, hu, eu⟩ := zt_mod3 a
      obtain ⟨v, hv, ev⟩ := zt_mod6 b
      obtain ⟨w, hw, ew⟩ := zt_mod3 d
      rw [eu, ev, ew]
      refine zt_ksums hs hu hw hv (fun r s' hs' => ?_)
      obtain ⟨pr', cn', ls', qe', b1, b2, b3, b4, b5, b6, b7, b8, b9, b10, b11⟩ := s'
      exact nm_e (hJ _ _ _ _ _ _ _ _ _ _ _ _ _ _ _ hs')
    · obtain ⟨u, hu, eu⟩ := zt_and15 a
      obtain ⟨v, hv, ev⟩ := zt_and3 b
      obtain ⟨w, hw, ew⟩ := zt_and15 c
      rw [eu, ev, ew]
      refine zt_kjoin hs hu hv hw (fun r s' hs' => ?_)
      obtain ⟨pr', cn', ls', qe', b1, b2, b3, b4, b5, b6, b7, b8, b9, b10, b11⟩ := s'
      exact nm_e (hJ _ _ _ _ _ _ _ _ _ _ _ _ _ _ _ hs')
    · refine zt_kclear (fun s' hs' => ?_)
      obtain ⟨pr', cn', ls', qe', b1, b2, b3, b4, b5, b6, b7, b8, b9, b10, b11⟩ := s'
      exact nm_e (hJ _ _ _ _ _ _ _ _ _ _ _ _ _ _ _ hs')
    · exact zt_277 hs hJ
    · exact zt_277 hs hJ
    · obtain ⟨u, hu, eu⟩ := zt_and63 a
      rw [eu]
      refine zt_kput hs hu (fun r s' hs' => ?_)
      obtain ⟨pr', cn', ls', qe', b1, b2, b3, b4, b5, b6, b7, b8, b9, b10, b11⟩ := s'
      exact nm_e (hJ _ _ _ _ _ _ _ _ _ _ _ _ _ _ _ hs')
end
end
section
theorem i_vc (xs : Nat → Int32) (L : Nat) (hL : L ≤ 260) : wpL_law (fun r => r = 1) L xs := by
  refine ⟨11, 273, by decide, by decide, by decide, by decide, by decide, by decide, by decide, by decide, by decide, by decide, by decide, by decide, by decide, by decide, by decide, by decide, by decide, by decide, by decide, by decide, by decide, by decide, by decide, by decide, ?_⟩
  refine loop_m (fun n (s : Nat × St1) => wL_law_10 (fun r => r = 1) L xs (1 + 11) (15 + 273) n (nI s.1) s.2.1 s.2.2.1 s.2.2.2.1 s.2.2.2.2.1 s.2.2.2.2.2.1 s.2.2.2.2.2.2.1 s.2.2.2.2.2.2.2.1 s.2.2.2.2.2.2.2.2.1 s.2.2.2.2.2.2.2.2.2.1 s.2.2.2.2.2.2.2.2.2.2.1 s.2.2.2.2.2.2.2.2.2.2.2.1 s.2.2.2.2.2.2.2.2.2.2.2.2.1 s.2.2.2.2.2.2.2.2.2.2.2.2.2.1 s.2.2.2.2.2.2.2.2.2.2.2.2.2.2.1 s.2.2.2.2.2.2.2.2.2.2.2.2.2.2.2)
    (fun s => s.1 ≤ L ∧ zt_Inv s.2) (fun s => L - s.1) ?_ (0, (0, 0, 0, 0, (fun _ => 0), (fun _ => 0), (fun _ => 0), (fun _ => 0), (fun _ => 0), (fun _ => 0), (fun _ => 0), (fun _ => 0), (fun _ => 0), (fun _ => 0), (fun _ => 0)))
    ⟨Nat.zero_le L, 0, rfl, by omega, fun k hk => absurd hk (by omega), fun k hk => absurd hk (by omega)⟩
  intro n s hs hw
  obtain ⟨i, pr, cn, ls, qe, a1, a2, a3, a4, a5, a6, a7, a8, a9, a10, a11⟩ := s
  obtain ⟨hi, hI⟩ := hs
  have hi : i ≤ L := hi
  refine zt_step hL hi rfl hI (fun h5 pr cn ls qe a1 a2 a3 a4 a5 a6 a7 a8 a9 a10 a11 hI' => ?_)
  have t : wL_law_10 (fun r => r = 1) L xs (1 + 11) (15 + 273) n (nI (i + 5)) pr cn ls qe a1 a2 a3 a4 a5 a6 a7 a8 a9 a10 a11 := hw (i + 5, pr, cn, ls, qe, a1, a2, a3, a4, a5, a6, a7, a8, a9, a10, a11) ⟨h5, hI'⟩ (by
    show L - (i + 5) < L - i
    omega)
  rw [← nI_add i 5] at t
  exact t
end
