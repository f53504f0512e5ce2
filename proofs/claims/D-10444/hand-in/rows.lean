section
/-! ===== bits of an Int32 (these rows began as the family bt of laws/BITS.to-paste) ===== -/
def zb_bt (x : Int32) (i : Nat) : Bool := x.toBitVec.getLsbD i
theorem zb_ext {x y : Int32} (h : ∀ i, i < 32 → zb_bt x i = zb_bt y i) : x = y := Int32.toBitVec_inj.mp (BitVec.eq_of_getLsbD_eq (fun i hi => h i hi))
theorem zb_bor (x y : Int32) (i : Nat) : zb_bt (x ||| y) i = (zb_bt x i || zb_bt y i) := by unfold zb_bt; rw [Int32.toBitVec_or, BitVec.getLsbD_or]
theorem zb_band (x y : Int32) (i : Nat) : zb_bt (x &&& y) i = (zb_bt x i && zb_bt y i) := by unfold zb_bt; rw [Int32.toBitVec_and, BitVec.getLsbD_and]
theorem zb_bxor (x y : Int32) (i : Nat) : zb_bt (x ^^^ y) i = (zb_bt x i ^^ zb_bt y i) := by unfold zb_bt; rw [Int32.toBitVec_xor, BitVec.getLsbD_xor]
theorem zb_big {x : Int32} {i : Nat} (h : 32 ≤ i) : zb_bt x i = false := BitVec.getLsbD_of_ge _ _ h
theorem zb_b0 (i : Nat) : zb_bt 0 i = false := BitVec.getLsbD_zero
theorem zb_sl : ∀ n, n < 32 → ((nI n &&& 31).toBitVec.smod 32).toNat = n := by decide +kernel
theorem zb_bsshr (n : Nat) (hn : n < 32) (x : Int32) {i : Nat} (hi : i < 32) : zb_bt (x >>> (nI n &&& 31)) i = if n + i < 32 then zb_bt x (n + i) else zb_bt x 31 := by
  unfold zb_bt
  rw [Int32.toBitVec_shiftRight]
  show (x.toBitVec.sshiftRight ((nI n &&& 31).toBitVec.smod 32).toNat).getLsbD i = _
  rw [zb_sl n hn, BitVec.getLsbD_sshiftRight, BitVec.msb_eq_getLsbD_last]
  simp [hi]
theorem zb_b1 (i : Nat) : zb_bt 1 i = decide (i = 0) := by
  rcases Nat.lt_or_ge i 32 with h | h
  · exact (by decide +kernel : ∀ i, i < 32 → zb_bt 1 i = decide (i = 0)) i h
  · rw [zb_big h, decide_eq_false (by omega)]
theorem zb_one {l : Nat} (hl : l < 32) (i : Nat) : zb_bt ((1 : Int32) <<< (nI l &&& 31)) i = decide (i = l) := by
  rcases Nat.lt_or_ge i 32 with h | h
  · exact (by decide +kernel : ∀ l, l < 32 → ∀ i, i < 32 → zb_bt ((1 : Int32) <<< (nI l &&& 31)) i = decide (i = l)) l hl i h
  · rw [zb_big h, decide_eq_false (by omega)]
theorem zb_tst (x : Int32) {i : Nat} (hi : i < 32) : ((x >>> (nI i &&& 31)) &&& 1) = 0 ↔ zb_bt x i = false := by
  have e : zb_bt (x >>> (nI i &&& 31)) 0 = zb_bt x i := by
    rw [zb_bsshr i hi x (by omega), if_pos (by omega), Nat.add_zero]
  constructor
  · intro h
    have h2 : zb_bt ((x >>> (nI i &&& 31)) &&& 1) 0 = zb_bt 0 0 := by rw [h]
    rw [zb_band, e, zb_b1, zb_b0] at h2
    simpa using h2
  · intro h
    apply zb_ext
    intro k hk
    rw [zb_band, zb_b1, zb_b0]
    by_cases hk0 : k = 0
    · subst hk0; rw [e, h]; rfl
    · rw [decide_eq_false hk0, Bool.and_false]
theorem zb_ne0 {x : Int32} {i : Nat} (h : zb_bt x i = true) : x ≠ 0 := by
  intro e
  rw [e, zb_b0] at h
  exact absurd h (by decide)
/-! ===== xor algebra ===== -/
theorem zb_x1 (a b : Int32) : (a ^^^ b) ^^^ b = a := by rw [Int32.xor_assoc, Int32.xor_self, Int32.xor_zero]
theorem zb_x2 (a b : Int32) : a ^^^ (a ^^^ b) = b := by rw [← Int32.xor_assoc, Int32.xor_self, Int32.zero_xor]
theorem zb_x3 (a b c d : Int32) : (a ^^^ b) ^^^ (c ^^^ d) = (a ^^^ c) ^^^ (b ^^^ d) := by ac_rfl
theorem zb_x4 (a b c : Int32) : (a ^^^ c) ^^^ (b ^^^ c) = a ^^^ b := by rw [zb_x3, Int32.xor_self, Int32.xor_zero]
theorem zb_x5 (a b c : Int32) : (a ^^^ b) ^^^ c = (a ^^^ c) ^^^ b := by ac_rfl
/-- the XOR of f 0 .. f (n - 1) -/
def zb_sm (f : Nat → Int32) : Nat → Int32
  | 0 => 0
  | n + 1 => zb_sm f n ^^^ f n
theorem zb_sm_congr {f g : Nat → Int32} : ∀ n, (∀ i, i < n → f i = g i) → zb_sm f n = zb_sm g n
  | 0, _ => rfl
  | n + 1, h => by
    show zb_sm f n ^^^ f n = zb_sm g n ^^^ g n
    rw [zb_sm_congr n (fun i hi => h i (by omega)), h n (by omega)]
theorem zb_sm_xor (f g : Nat → Int32) : ∀ n, zb_sm (fun i => f i ^^^ g i) n = zb_sm f n ^^^ zb_sm g n
  | 0 => by show (0 : Int32) = 0 ^^^ 0; rw [Int32.xor_self]
  | n + 1 => by
    show zb_sm (fun i => f i ^^^ g i) n ^^^ (f n ^^^ g n) = (zb_sm f n ^^^ f n) ^^^ (zb_sm g n ^^^ g n)
    rw [zb_sm_xor f g n, zb_x3]
theorem zb_sm_0 {f : Nat → Int32} : ∀ n, (∀ i, i < n → f i = 0) → zb_sm f n = 0
  | 0, _ => rfl
  | n + 1, h => by
    show zb_sm f n ^^^ f n = 0
    rw [zb_sm_0 n (fun i hi => h i (by omega)), h n (by omega), Int32.xor_self]
theorem zb_sm_one {f : Nat → Int32} {l : Nat} : ∀ n, l < n → (∀ i, i < n → i ≠ l → f i = 0) → zb_sm f n = f l
  | 0, h, _ => absurd h (by omega)
  | n + 1, h, ho => by
    show zb_sm f n ^^^ f n = f l
    by_cases e : l = n
    · rw [zb_sm_0 n (fun i hi => ho i (by omega) (by omega)), e, Int32.zero_xor]
    · rw [zb_sm_one n (by omega) (fun i hi hn => ho i (by omega) hn), ho n (by omega) (by omega), Int32.xor_zero]
theorem zb_sm_cut {f : Nat → Int32} {k : Nat} : ∀ n, k ≤ n → (∀ i, k ≤ i → i < n → f i = 0) → zb_sm f n = zb_sm f k
  | 0, h, _ => by rw [show k = 0 by omega]
  | n + 1, h, ho => by
    by_cases e : k = n + 1
    · rw [e]
    · show zb_sm f n ^^^ f n = zb_sm f k
      rw [ho n (by omega) (by omega), Int32.xor_zero]
      exact zb_sm_cut n (by omega) (fun i hi hn => ho i hi (by omega))
/-- a symmetric table with an empty diagonal sums to nothing -/
theorem zb_sm_sym {g : Nat → Nat → Int32} : ∀ n, (∀ i j, i < n → j < n → g i j = g j i) → (∀ i, i < n → g i i = 0) → zb_sm (fun i => zb_sm (g i) n) n = 0
  | 0, _, _ => rfl
  | n + 1, hs, hd => by
    show zb_sm (fun i => zb_sm (g i) n ^^^ g i n) n ^^^ (zb_sm (g n) n ^^^ g n n) = 0
    rw [zb_sm_xor, zb_sm_sym n (fun i j hi hj => hs i j (by omega) (by omega)) (fun i hi => hd i (by omega)), hd n (by omega), Int32.xor_zero, Int32.zero_xor, zb_sm_congr (f := fun i => g i n) (g := g n) n (fun i hi => hs i n (by omega) (by omega)), Int32.xor_self]
theorem zb_sm_bit {f : Nat → Int32} {b : Nat} : ∀ n, zb_bt (zb_sm f n) b = true → ∃ i, i < n ∧ zb_bt (f i) b = true
  | 0, h => by
    have h : zb_bt 0 b = true := h
    rw [zb_b0] at h
    exact absurd h (by decide)
  | n + 1, h => by
    have h : zb_bt (zb_sm f n ^^^ f n) b = true := h
    rw [zb_bxor] at h
    cases hn : zb_bt (f n) b with
    | true => exact ⟨n, by omega, hn⟩
    | false =>
      rw [hn, Bool.xor_false] at h
      obtain ⟨i, hi, k⟩ := zb_sm_bit n h
      exact ⟨i, by omega, k⟩
theorem zb_or_xor {x y : Int32} (h : ∀ b, zb_bt x b = true → zb_bt y b = true → False) : x ||| y = x ^^^ y := by
  apply zb_ext
  intro b _
  rw [zb_bor, zb_bxor]
  have := h b
  revert this
  cases zb_bt x b <;> cases zb_bt y b <;> simp
/-! ===== the boundary of a word: the XOR of D b over its bits b below N ===== -/
def zb_bd (D : Nat → Int32) (N : Nat) (x : Int32) : Int32 := zb_sm (fun b => if zb_bt x b = true then D b else 0) N
theorem zb_bd_xor (D : Nat → Int32) (N : Nat) (x y : Int32) : zb_bd D N (x ^^^ y) = zb_bd D N x ^^^ zb_bd D N y := by
  unfold zb_bd
  rw [← zb_sm_xor]
  apply zb_sm_congr
  intro b hb
  show (if zb_bt (x ^^^ y) b = true then D b else 0) = (if zb_bt x b = true then D b else 0) ^^^ (if zb_bt y b = true then D b else 0)
  rw [zb_bxor]
  cases zb_bt x b <;> cases zb_bt y b <;> simp
theorem zb_bd_0 (D : Nat → Int32) (N : Nat) : zb_bd D N 0 = 0 := by
  apply zb_sm_0
  intro b hb
  rw [zb_b0]
  rfl
theorem zb_bd_one (D : Nat → Int32) {N l : Nat} (hl : l < N) (h32 : l < 32) : zb_bd D N ((1 : Int32) <<< (nI l &&& 31)) = D l := by
  unfold zb_bd
  rw [zb_sm_one N hl (l := l)]
  · show (if zb_bt ((1 : Int32) <<< (nI l &&& 31)) l = true then D l else 0) = D l
    rw [zb_one h32, decide_eq_true rfl, if_pos rfl]
  · intro i hi hn
    show (if zb_bt ((1 : Int32) <<< (nI l &&& 31)) i = true then D i else 0) = 0
    rw [zb_one h32, decide_eq_false hn]
    rfl
theorem zb_bd_sm (D : Nat → Int32) (N : Nat) (f : Nat → Int32) : ∀ n, zb_bd D N (zb_sm f n) = zb_sm (fun i => zb_bd D N (f i)) n
  | 0 => zb_bd_0 D N
  | n + 1 => by
    show zb_bd D N (zb_sm f n ^^^ f n) = zb_sm (fun i => zb_bd D N (f i)) n ^^^ zb_bd D N (f n)
    rw [zb_bd_xor, zb_bd_sm D N f n]
/-! ===== the greatest bit ===== -/
def zb_isL (x : Int32) (l : Nat) : Prop := zb_bt x l = true ∧ ∀ b, l < b → zb_bt x b = false
theorem zb_isL_uniq {x : Int32} {a b : Nat} (h : zb_isL x a) (k : zb_isL x b) : a = b := by
  rcases Nat.lt_trichotomy a b with z | z | z
  · have := h.2 b z
    rw [k.1] at this
    exact absurd this (by decide)
  · exact z
  · have := k.2 a z
    rw [h.1] at this
    exact absurd this (by decide)
theorem zb_isL_ne {x : Int32} {a : Nat} (h : zb_isL x a) : x ≠ 0 := zb_ne0 h.1
theorem zb_isL_ex' (x : Int32) : ∀ n, (∀ b, n ≤ b → zb_bt x b = false) → x = 0 ∨ ∃ l, l < n ∧ zb_isL x l
  | 0, h => Or.inl (zb_ext (fun i _ => by rw [h i (by omega), zb_b0]))
  | n + 1, h => by
    cases hb : zb_bt x n with
    | true => exact Or.inr ⟨n, by omega, hb, fun b hb => h b hb⟩
    | false =>
      rcases zb_isL_ex' x n (fun b hn => by
        by_cases e : b = n
        · rw [e]; exact hb
        · exact h b (by omega)) with z | ⟨l, hl, z⟩
      · exact Or.inl z
      · exact Or.inr ⟨l, by omega, z⟩
theorem zb_isL_ex {x : Int32} (h : x ≠ 0) : ∃ l, zb_isL x l := by
  rcases zb_isL_ex' x 32 (fun b hb => zb_big hb) with z | ⟨l, _, z⟩
  · exact absurd z h
  · exact ⟨l, z⟩
theorem zb_isL_xor {x y : Int32} {a b : Nat} (hx : zb_isL x a) (hy : zb_isL y b) (h : b < a) : zb_isL (x ^^^ y) a := by
  refine ⟨?_, fun c hc => ?_⟩
  · rw [zb_bxor, hx.1, hy.2 a h]; rfl
  · rw [zb_bxor, hx.2 c hc, hy.2 c (by omega)]; rfl
/-- the same greatest bit: it falls out of the sum -/
theorem zb_isL_drop {x y : Int32} {l : Nat} (hx : zb_isL x l) (hy : zb_isL y l) : ∀ b, l ≤ b → zb_bt (x ^^^ y) b = false := by
  intro b hb
  rw [zb_bxor]
  by_cases e : b = l
  · rw [e, hx.1, hy.1]; rfl
  · rw [hx.2 b (by omega), hy.2 b (by omega)]; rfl
/-! ===== the span of C 0 .. C (m - 1) ===== -/
def zb_Sp (C : Nat → Int32) : Nat → Int32 → Prop
  | 0, x => x = 0
  | m + 1, x => zb_Sp C m x ∨ zb_Sp C m (x ^^^ C m)
theorem zb_Sp_0 (C : Nat → Int32) : ∀ m, zb_Sp C m 0
  | 0 => rfl
  | m + 1 => Or.inl (zb_Sp_0 C m)
theorem zb_Sp_xor {C : Nat → Int32} : ∀ m x y, zb_Sp C m x → zb_Sp C m y → zb_Sp C m (x ^^^ y)
  | 0, x, y, hx, hy => by
    have hx : x = 0 := hx
    have hy : y = 0 := hy
    show x ^^^ y = 0
    rw [hx, hy, Int32.xor_self]
  | m + 1, x, y, hx, hy => by
    rcases hx with hx | hx <;> rcases hy with hy | hy
    · exact Or.inl (zb_Sp_xor m x y hx hy)
    · refine Or.inr ?_
      rw [Int32.xor_assoc]
      exact zb_Sp_xor m _ _ hx hy
    · refine Or.inr ?_
      rw [zb_x5]
      exact zb_Sp_xor m _ _ hx hy
    · refine Or.inl ?_
      rw [← zb_x4 x y (C m)]
      exact zb_Sp_xor m _ _ hx hy
theorem zb_Sp_mono {C : Nat → Int32} {k : Nat} {x : Int32} (h : zb_Sp C k x) : ∀ m, k ≤ m → zb_Sp C m x
  | 0, hk => by rw [show k = 0 by omega] at h; exact h
  | m + 1, hk => by
    by_cases e : k = m + 1
    · rw [← e]; exact h
    · exact Or.inl (zb_Sp_mono h m (by omega))
theorem zb_Sp_self (C : Nat → Int32) (i : Nat) : zb_Sp C (i + 1) (C i) := by
  refine Or.inr ?_
  rw [Int32.xor_self]
  exact zb_Sp_0 C i
theorem zb_Sp_congr {C C' : Nat → Int32} : ∀ m x, (∀ i, i < m → C' i = C i) → zb_Sp C m x → zb_Sp C' m x
  | 0, x, _, h => h
  | m + 1, x, e, h => by
    rcases h with h | h
    · exact Or.inl (zb_Sp_congr m x (fun i hi => e i (by omega)) h)
    · refine Or.inr ?_
      rw [e m (by omega)]
      exact zb_Sp_congr m _ (fun i hi => e i (by omega)) h
theorem zb_Sp_sm {C : Nat → Int32} {m : Nat} {f : Nat → Int32} : ∀ n, (∀ i, i < n → zb_Sp C m (f i)) → zb_Sp C m (zb_sm f n)
  | 0, _ => zb_Sp_0 C m
  | n + 1, h => zb_Sp_xor m _ _ (zb_Sp_sm n (fun i hi => h i (by omega))) (h n (by omega))
theorem zb_Sp_bd {C D : Nat → Int32} {N : Nat} : ∀ m x, (∀ i, i < m → zb_bd D N (C i) = 0) → zb_Sp C m x → zb_bd D N x = 0
  | 0, x, _, h => by
    have h : x = 0 := h
    rw [h, zb_bd_0]
  | m + 1, x, e, h => by
    rcases h with h | h
    · exact zb_Sp_bd m x (fun i hi => e i (by omega)) h
    · have := zb_Sp_bd m _ (fun i hi => e i (by omega)) h
      rw [zb_bd_xor, e m (by omega), Int32.xor_zero] at this
      exact this
/-- the greatest bit of a word in the span is the greatest bit of one of the columns, where these differ -/
theorem zb_Sp_low {C : Nat → Int32} : ∀ m x l, (∀ i j b, i < m → j < m → zb_isL (C i) b → zb_isL (C j) b → i = j) → zb_Sp C m x → zb_isL x l → ∃ i, i < m ∧ zb_isL (C i) l
  | 0, x, l, _, h, hl => absurd h (zb_isL_ne hl)
  | m + 1, x, l, hd, h, hl => by
    have hd' : ∀ i j b, i < m → j < m → zb_isL (C i) b → zb_isL (C j) b → i = j := fun i j b hi hj => hd i j b (by omega) (by omega)
    rcases h with h | h
    · obtain ⟨i, hi, k⟩ := zb_Sp_low m x l hd' h hl
      exact ⟨i, by omega, k⟩
    · by_cases e : C m = 0
      · rw [e, Int32.xor_zero] at h
        obtain ⟨i, hi, k⟩ := zb_Sp_low m x l hd' h hl
        exact ⟨i, by omega, k⟩
      · obtain ⟨c, hc⟩ := zb_isL_ex e
        rcases Nat.lt_trichotomy c l with z | z | z
        · obtain ⟨i, hi, k⟩ := zb_Sp_low m _ l hd' h (zb_isL_xor hl hc z)
          exact ⟨i, by omega, k⟩
        · exact ⟨m, by omega, z ▸ hc⟩
        · have hy : zb_isL (x ^^^ C m) c := by
            rw [Int32.xor_comm]
            exact zb_isL_xor hc hl z
          obtain ⟨i, hi, k⟩ := zb_Sp_low m _ c hd' h hy
          have := hd i m c (by omega) (by omega) k hc
          omega
end
section
/-! ===== pieces: words of six points ===== -/
def zb_pt (q : Nat) : Nat := q % 2 + q / 2 % 2 + q / 4 % 2 + q / 8 % 2 + q / 16 % 2 + q / 32 % 2
def zb_del (q p : Nat) : Nat := if q.testBit p = true then q - 2 ^ p else q
theorem zb_t1 : ∀ q, q < 64 → ∀ p, p < 6 → nI q &&& (((1 : Int32) <<< (nI p &&& 31)) ^^^ (-1)) = nI (zb_del q p) := by decide +kernel
theorem zb_t2 : ∀ q, q < 64 → ∀ p, p < 6 → zb_del q p < 64 := by decide +kernel
theorem zb_t3 : ∀ q, q < 64 → ∀ p, p < 6 → q.testBit p = true → zb_pt (zb_del q p) + 1 = zb_pt q ∧ zb_del q p < q := by decide +kernel
theorem zb_t3f {q p : Nat} (h : ¬ q.testBit p = true) : zb_del q p = q := if_neg h
theorem zb_t4' : ∀ q, q < 64 → ∀ p, p < 6 → ∀ r, r < 6 → (q.testBit p && (q.testBit r && decide (zb_del q p = zb_del q r))) = true → p = r := by decide +kernel
theorem zb_t4 {q p r : Nat} (hq : q < 64) (hp : p < 6) (hr : r < 6) (h1 : q.testBit p = true) (h2 : q.testBit r = true) (h3 : zb_del q p = zb_del q r) : p = r := zb_t4' q hq p hp r hr (by rw [h1, h2, decide_eq_true h3]; rfl)
theorem zb_t5' : ∀ q, q < 64 → ∀ p, p < 6 → ∀ r, r < 6 → (q.testBit p && (zb_del q p).testBit r) = true → (q.testBit r && ((zb_del q r).testBit p && decide (zb_del (zb_del q p) r = zb_del (zb_del q r) p))) = true := by decide +kernel
theorem zb_t5 {q p r : Nat} (hq : q < 64) (hp : p < 6) (hr : r < 6) (h1 : q.testBit p = true) (h2 : (zb_del q p).testBit r = true) : q.testBit r = true ∧ (zb_del q r).testBit p = true ∧ zb_del (zb_del q p) r = zb_del (zb_del q r) p := by
  have h := zb_t5' q hq p hp r hr (by rw [h1, h2]; rfl)
  rw [Bool.and_eq_true, Bool.and_eq_true, decide_eq_true_iff] at h
  exact h
theorem zb_t5d : ∀ q, q < 64 → ∀ p, p < 6 → q.testBit p = true → (zb_del q p).testBit p = false := by decide +kernel
theorem zb_t6 : ∀ q, q < 64 → ∀ p, p < 6 → (nI q >>> (nI p &&& 31)) &&& 1 = nI (q / 2 ^ p % 2) := by decide +kernel
theorem zb_t7 : ∀ q, q < 64 → 1 ≤ q → 1 ≤ zb_pt q := by decide +kernel
/-- a part of a piece -/
theorem zb_t8 : ∀ q, q < 64 → ∀ k, k < 64 → ((nI k &&& (nI q ^^^ (-1))) = 0 ↔ k &&& q = k) := by decide +kernel
theorem zb_t9 : ∀ q, q < 64 → ∀ k, k < 64 → k &&& q = k → zb_pt k ≤ zb_pt q := by decide +kernel
theorem zb_t10 : ∀ q, q < 64 → ∀ p, p < 6 → zb_del q p &&& q = zb_del q p := by decide +kernel
theorem zb_sub_tr {a b c : Nat} (h : a &&& b = a) (k : b &&& c = b) : a &&& c = a := by
  rw [← h, Nat.and_assoc, k]
/-! ===== the walk of points ===== -/
def zb_pp (q : Nat) : Nat → Nat
  | 0 => 0
  | p + 1 => zb_pp q p + q / 2 ^ p % 2
theorem zb_pp6 : ∀ q, q < 64 → zb_pp q 6 = zb_pt q := by decide +kernel
theorem zb_pt_le (q : Nat) : zb_pt q ≤ 6 := by unfold zb_pt; omega
theorem zb_points_w {post : Int32 → Prop} {q : Nat} (hq : q < 64) (H : post (nI (zb_pt q))) : wpX_points post () (nI q) := by
  refine loop_0 (fun n p x => wX_points_4 post (nI q) n x (nI p)) (fun p x => x = nI (zb_pp q p)) 6 0 rfl ?_ ?_
  · intro n x e
    refine pk_le 6 6 (fun _ => ?_) (fun z => absurd z (by omega))
    rw [e, zb_pp6 q hq]
    exact H
  · intro n p x hp e hw
    refine pk_le 6 p (fun z => absurd z (by omega)) (fun _ => nm_e (nm_r (nI_1 p) (hw _ ?_)))
    show x + ((nI q >>> (nI p &&& 31)) &&& 1) = nI (zb_pp q p + q / 2 ^ p % 2)
    rw [zb_t6 q hq p hp, e, nI_add]
/-! ===== the list and the places ===== -/
def zb_p (A : Nat → Int32) (i : Nat) : Nat := (A i).toNatClampNeg
def zb_e (B : Nat → Int32) (s : Nat) : Int32 := if s = 0 then 0 else (1 : Int32) <<< (B s &&& 31)
def zb_f (B : Nat → Int32) (q p : Nat) : Int32 := if q.testBit p = true then zb_e B (zb_del q p) else 0
def zb_D (A B : Nat → Int32) (i : Nat) : Int32 := zb_sm (zb_f B (zb_p A i)) 6
/-- what holds of the i-th piece -/
def zb_It (A B : Nat → Int32) (i : Nat) : Prop := 1 ≤ zb_p A i ∧ zb_p A i < 64 ∧ zb_pt (zb_p A i) ≤ 4 ∧ A i = nI (zb_p A i) ∧ B (zb_p A i) = nI i ∧ ∀ p, p < 6 → (zb_p A i).testBit p = true → zb_del (zb_p A i) p ≠ 0 → ∃ j, j < i ∧ zb_p A j = zb_del (zb_p A i) p
def zb_L (n : Nat) (A B : Nat → Int32) : Prop := n ≤ 26 ∧ (∀ i, i < n → zb_It A B i) ∧ (∀ q, q < 64 → B q = -2 ∨ ∃ i, i < n ∧ zb_p A i = q)
theorem zb_f_t {B : Nat → Int32} {q p : Nat} (h : q.testBit p = true) : zb_f B q p = zb_e B (zb_del q p) := if_pos h
theorem zb_f_f {B : Nat → Int32} {q p : Nat} (h : ¬ q.testBit p = true) : zb_f B q p = 0 := if_neg h
theorem zb_e_0 {B : Nat → Int32} {s : Nat} (h : s = 0) : zb_e B s = 0 := if_pos h
theorem zb_e_n {B : Nat → Int32} {s : Nat} (h : s ≠ 0) : zb_e B s = (1 : Int32) <<< (B s &&& 31) := if_neg h
theorem zb_f0 (B : Nat → Int32) (p : Nat) : zb_f B 0 p = 0 := zb_f_f (by rw [Nat.zero_testBit]; decide)
/-- a bit of a side's word -/
theorem zb_f_bit {n i p b : Nat} {A B : Nat → Int32} (h : zb_L n A B) (hi : i < n) (hp : p < 6) (hb : zb_bt (zb_f B (zb_p A i) p) b = true) : (zb_p A i).testBit p = true ∧ b < i ∧ zb_p A b = zb_del (zb_p A i) p := by
  have hn := h.1
  by_cases ht : (zb_p A i).testBit p = true
  · rw [zb_f_t ht] at hb
    by_cases hz : zb_del (zb_p A i) p = 0
    · rw [zb_e_0 hz, zb_b0] at hb
      exact absurd hb (by decide)
    · obtain ⟨j, hj, ej⟩ := (h.2.1 i hi).2.2.2.2.2 p hp ht hz
      have hB := (h.2.1 j (by omega)).2.2.2.2.1
      rw [ej] at hB
      rw [zb_e_n hz, hB, zb_one (by omega)] at hb
      have : b = j := of_decide_eq_true hb
      subst this
      exact ⟨ht, hj, ej⟩
  · rw [zb_f_f ht, zb_b0] at hb
    exact absurd hb (by decide)
theorem zb_D_bit {n i b : Nat} {A B : Nat → Int32} (h : zb_L n A B) (hi : i < n) (hb : zb_bt (zb_D A B i) b = true) : b < i ∧ zb_pt (zb_p A b) + 1 = zb_pt (zb_p A i) := by
  obtain ⟨p, hp, k⟩ := zb_sm_bit 6 hb
  obtain ⟨ht, hbi, e⟩ := zb_f_bit h hi hp k
  refine ⟨hbi, ?_⟩
  rw [e]
  exact (zb_t3 _ (h.2.1 i hi).2.1 p hp ht).1
/-- the boundary of a boundary is nothing -/
theorem zb_DD {n i : Nat} {A B : Nat → Int32} (h : zb_L n A B) (hi : i < n) : zb_bd (zb_D A B) n (zb_D A B i) = 0 := by
  have hn := h.1
  have hq := (h.2.1 i hi).2.1
  have hside := (h.2.1 i hi).2.2.2.2.2
  show zb_bd (zb_D A B) n (zb_sm (zb_f B (zb_p A i)) 6) = 0
  rw [zb_bd_sm]
  rw [zb_sm_congr (g := fun p => zb_sm (fun r => if (zb_p A i).testBit p = true then zb_f B (zb_del (zb_p A i) p) r else 0) 6) 6 ?_]
  · apply zb_sm_sym
    · intro p r hp hr
      show (if (zb_p A i).testBit p = true then zb_f B (zb_del (zb_p A i) p) r else 0) = (if (zb_p A i).testBit r = true then zb_f B (zb_del (zb_p A i) r) p else 0)
      have main : ∀ p r, p < 6 → r < 6 → (zb_p A i).testBit p = true → (zb_del (zb_p A i) p).testBit r = true → (if (zb_p A i).testBit p = true then zb_f B (zb_del (zb_p A i) p) r else 0) = (if (zb_p A i).testBit r = true then zb_f B (zb_del (zb_p A i) r) p else 0) := by
        intro p r hp hr h1 h2
        obtain ⟨g1, g2, g3⟩ := zb_t5 hq hp hr h1 h2
        rw [if_pos h1, if_pos g1, zb_f_t h2, zb_f_t g2, g3]
      by_cases c1 : (zb_p A i).testBit p = true ∧ (zb_del (zb_p A i) p).testBit r = true
      · exact main p r hp hr c1.1 c1.2
      · by_cases c2 : (zb_p A i).testBit r = true ∧ (zb_del (zb_p A i) r).testBit p = true
        · exact (main r p hr hp c2.1 c2.2).symm
        · have z : ∀ p r, ¬ ((zb_p A i).testBit p = true ∧ (zb_del (zb_p A i) p).testBit r = true) → (if (zb_p A i).testBit p = true then zb_f B (zb_del (zb_p A i) p) r else 0) = 0 := by
            intro p r hc
            by_cases d : (zb_p A i).testBit p = true
            · rw [if_pos d, zb_f_f (fun t => hc ⟨d, t⟩)]
            · rw [if_neg d]
          rw [z p r c1, z r p c2]
    · intro p hp
      show (if (zb_p A i).testBit p = true then zb_f B (zb_del (zb_p A i) p) p else 0) = 0
      by_cases d : (zb_p A i).testBit p = true
      · rw [if_pos d, zb_f_f (by rw [zb_t5d _ hq p hp d]; decide)]
      · rw [if_neg d]
  · intro p hp
    show zb_bd (zb_D A B) n (zb_f B (zb_p A i) p) = zb_sm (fun r => if (zb_p A i).testBit p = true then zb_f B (zb_del (zb_p A i) p) r else 0) 6
    by_cases d : (zb_p A i).testBit p = true
    · rw [zb_f_t d]
      by_cases hz : zb_del (zb_p A i) p = 0
      · rw [zb_e_0 hz, zb_bd_0]
        refine (zb_sm_0 6 (fun r _ => ?_)).symm
        show (if (zb_p A i).testBit p = true then zb_f B (zb_del (zb_p A i) p) r else 0) = 0
        rw [if_pos d, hz, zb_f0]
      · obtain ⟨j, hj, ej⟩ := hside p hp d hz
        have hB := (h.2.1 j (by omega)).2.2.2.2.1
        rw [ej] at hB
        rw [zb_e_n hz, hB, zb_bd_one _ (by omega) (by omega)]
        show zb_sm (zb_f B (zb_p A j)) 6 = _
        rw [ej]
        refine zb_sm_congr 6 (fun r _ => ?_)
        show zb_f B (zb_del (zb_p A i) p) r = (if (zb_p A i).testBit p = true then zb_f B (zb_del (zb_p A i) p) r else 0)
        rw [if_pos d]
    · rw [zb_f_f d, zb_bd_0]
      refine (zb_sm_0 6 (fun r _ => ?_)).symm
      show (if (zb_p A i).testBit p = true then zb_f B (zb_del (zb_p A i) p) r else 0) = 0
      rw [if_neg d]
/-! ===== the walks of dimension and sidesOf ===== -/
theorem zb_dim_w {post : Int32 → Prop} {c s : Int32} {A B C P K : Nat → Int32} {n i : Nat} (h : zb_L n A B) (hi : i < n) (H : post (nI (zb_pt (zb_p A i)) - 1)) : wpX_dimension post (c, s, A, B, C, P, K) (nI i) := by
  have hn := h.1
  obtain ⟨_, h2, _, h4, _⟩ := h.2.1 i hi
  refine ⟨pk_in i 26 (by omega), ?_⟩
  rw [nI_clamp (by omega), h4]
  exact zb_points_w h2 H
theorem zb_sides_w {post : Int32 → Prop} {c s : Int32} {A B C P K : Nat → Int32} {n i : Nat} (h : zb_L n A B) (hi : i < n) (H : post (zb_D A B i)) : wpX_sidesOf post (c, s, A, B, C, P, K) (nI i) := by
  have hn := h.1
  obtain ⟨h1, h2, h3, h4, h5, h6⟩ := h.2.1 i hi
  refine loop_0 (fun n p x => wX_sidesOf_4 post (nI i) c s A B C P K n x (nI p)) (fun p x => x = zb_sm (zb_f B (zb_p A i)) p) 6 0 rfl ?_ ?_
  · intro n x e
    refine pk_le 6 6 (fun _ => ?_) (fun z => absurd z (by omega))
    rw [e]
    exact H
  · intro m p x hp e hw
    have hd := zb_t2 _ h2 p hp
    refine pk_le 6 p (fun z => absurd z (by omega)) (fun _ => ⟨pk_in i 26 (by omega), ?_⟩)
    rw [nI_clamp (by omega), h4]
    refine nm_r (zb_t1 _ h2 p hp) ⟨pk_in i 26 (by omega), ?_⟩
    refine pk_eq (zb_del (zb_p A i) p) (zb_p A i) (fun z => nm_r (nI_1 p) (hw x ?_)) (fun z => ?_)
    · show x = zb_sm (zb_f B (zb_p A i)) p ^^^ zb_f B (zb_p A i) p
      rw [e]
      by_cases ht : (zb_p A i).testBit p = true
      · have := (zb_t3 _ h2 p hp ht).2
        omega
      · rw [zb_f_f ht, Int32.xor_zero]
    · have ht : (zb_p A i).testBit p = true := by
        by_cases ht : (zb_p A i).testBit p = true
        · exact ht
        · exact absurd (zb_t3f ht) z
      refine pk_eq (zb_del (zb_p A i) p) 0 (fun z0 => nm_r (nI_1 p) (hw x ?_)) (fun z0 => ⟨pk_in _ 64 hd, ?_⟩)
      · show x = zb_sm (zb_f B (zb_p A i)) p ^^^ zb_f B (zb_p A i) p
        rw [e, zb_f_t ht, zb_e_0 z0, Int32.xor_zero]
      · rw [nI_clamp (by omega)]
        refine nm_e (nm_r (nI_1 p) (hw _ ?_))
        show x ||| ((1 : Int32) <<< (B (zb_del (zb_p A i) p) &&& 31)) = zb_sm (zb_f B (zb_p A i)) p ^^^ zb_f B (zb_p A i) p
        rw [e, zb_f_t ht, zb_e_n z0]
        apply zb_or_xor
        intro b hb1 hb2
        obtain ⟨r, hr, hb1⟩ := zb_sm_bit p hb1
        obtain ⟨g1, g2, g3⟩ := zb_f_bit h hi (show r < 6 by omega) hb1
        have hb2' : zb_bt (zb_f B (zb_p A i) p) b = true := by
          rw [zb_f_t ht, zb_e_n z0]
          exact hb2
        obtain ⟨k1, k2, k3⟩ := zb_f_bit h hi hp hb2'
        have := zb_t4 h2 (show r < 6 by omega) hp g1 k1 (by rw [← g3, k3])
        omega
end
section
/-! ===== the solved part: C columns, P partners, K closer ===== -/
def zb_S (m : Nat) (D : Nat → Int32) (pt : Nat → Nat) (C P K : Nat → Int32) : Prop :=
  (∀ i, i < m → ∀ b, zb_bt (C i) b = true → b < i ∧ pt b + 1 = pt i) ∧
  (∀ i, i < m → zb_Sp C i (C i ^^^ D i)) ∧
  (∀ j l, j < m → zb_isL (C j) l → K l = nI j) ∧
  (∀ l, l < m → K l = -2 ∨ ∃ j, j < m ∧ K l = nI j ∧ zb_isL (C j) l) ∧
  (∀ x l, x < m → zb_isL (C x) l → P x = nI l) ∧
  (∀ x, x < m → C x = 0 → P x = K x)
theorem zb_S_0 (D : Nat → Int32) (pt : Nat → Nat) (C P K : Nat → Int32) : zb_S 0 D pt C P K :=
  ⟨fun i hi => absurd hi (by omega), fun i hi => absurd hi (by omega), fun j l hj => absurd hj (by omega), fun i hi => absurd hi (by omega), fun j l hj => absurd hj (by omega), fun i hi => absurd hi (by omega)⟩
theorem zb_S_congr {m : Nat} {D D' : Nat → Int32} {pt pt' : Nat → Nat} {C P K : Nat → Int32} (h : zb_S m D pt C P K) (hD : ∀ i, i < m → D' i = D i) (hp : ∀ i, i < m → pt' i = pt i) : zb_S m D' pt' C P K := by
  obtain ⟨s1, s2, s3, s4, s5, s6⟩ := h
  refine ⟨fun i hi b hb => ?_, fun i hi => ?_, s3, s4, s5, s6⟩
  · obtain ⟨k1, k2⟩ := s1 i hi b hb
    rw [hp b (by omega), hp i hi]
    exact ⟨k1, k2⟩
  · rw [hD i hi]
    exact s2 i hi
theorem zb_nI_ne {a : Nat} (h : a < 2 ^ 31) : nI a ≠ -2 := by
  intro e
  have := nI_pos h
  rw [e] at this
  exact this (by decide)
theorem zb_S_dist {m : Nat} {D : Nat → Int32} {pt : Nat → Nat} {C P K : Nat → Int32} (hm : m ≤ 26) (h : zb_S m D pt C P K) : ∀ i j b, i < m → j < m → zb_isL (C i) b → zb_isL (C j) b → i = j := by
  intro i j b hi hj h1 h2
  have e1 := h.2.2.1 i b hi h1
  have e2 := h.2.2.1 j b hj h2
  rw [e1] at e2
  exact (nI_eq (by omega) (by omega)).mp e2
theorem zb_S_bd {m N : Nat} {D : Nat → Int32} {pt : Nat → Nat} {C P K : Nat → Int32} (h : zb_S m D pt C P K) (hD : ∀ i, i < m → zb_bd D N (D i) = 0) : ∀ i, i < m → zb_bd D N (C i) = 0 := by
  intro i
  induction i using Nat.strongRecOn with
  | ind i ih =>
    intro hi
    have := zb_Sp_bd i _ (fun j hj => ih j hj (by omega)) (h.2.1 i hi)
    rw [zb_bd_xor, hD i hi, Int32.xor_zero] at this
    exact this
/-- THE LAW of the reduction: a cycle's greatest bit is a piece whose own column is empty -/
theorem zb_key {m N : Nat} {D : Nat → Int32} {pt : Nat → Nat} {C P K : Nat → Int32} (hm : m ≤ 26) (hN : m ≤ N) (h : zb_S m D pt C P K) {z : Int32} {l : Nat} (hz : zb_bd D N z = 0) (hl : zb_isL z l) (hlm : l < m) : C l = 0 := by
  have hDS : ∀ b, b < l → zb_Sp C l (D b) := by
    intro b hb
    refine zb_Sp_mono (k := b + 1) (Or.inr ?_) l hb
    rw [Int32.xor_comm]
    exact h.2.1 b (by omega)
  have hcut : zb_bd D N z = zb_bd D (l + 1) z := by
    refine zb_sm_cut N (by omega) (fun i hi _ => ?_)
    show (if zb_bt z i = true then D i else 0) = 0
    rw [hl.2 i (by omega)]
    rfl
  have hlast : zb_bd D (l + 1) z = zb_bd D l z ^^^ D l := by
    show zb_sm (fun b => if zb_bt z b = true then D b else 0) l ^^^ (if zb_bt z l = true then D l else 0) = _
    rw [hl.1, if_pos rfl]
    rfl
  rw [hcut, hlast] at hz
  have hDl : zb_bd D l z = D l := Int32.xor_eq_zero_iff.mp hz
  have hSl : zb_Sp C l (D l) := by
    rw [← hDl]
    refine zb_Sp_sm l (fun b hb => ?_)
    show zb_Sp C l (if zb_bt z b = true then D b else 0)
    by_cases c : zb_bt z b = true
    · rw [if_pos c]
      exact hDS b hb
    · rw [if_neg c]
      exact zb_Sp_0 C l
  have hC : zb_Sp C l (C l) := by
    have := zb_Sp_xor l _ _ (h.2.1 l hlm) hSl
    rw [zb_x1] at this
    exact this
  by_cases e : C l = 0
  · exact e
  · obtain ⟨c, hc⟩ := zb_isL_ex e
    have hd := zb_S_dist hm h
    obtain ⟨i, hi, k⟩ := zb_Sp_low l _ c (fun i j b hi hj => hd i j b (by omega) (by omega)) hC hc
    have := hd i l c (by omega) hlm k hc
    omega
/-! ===== one column more ===== -/
/-- what the reduction keeps of the column of i -/
def zb_Co (D : Nat → Int32) (pt : Nat → Nat) (C : Nat → Int32) (i : Nat) (x : Int32) : Prop := (∀ b, zb_bt x b = true → b < i ∧ pt b + 1 = pt i) ∧ zb_Sp C i (x ^^^ D i)
theorem zb_push0 {i : Nat} {D : Nat → Int32} {pt : Nat → Nat} {C P K : Nat → Int32} (h : zb_S i D pt C P K) (hx : zb_Co D pt C i 0) : zb_S (i + 1) D pt (upd C i 0) (upd P i (-2)) (upd K i (-2)) := by
  obtain ⟨s1, s2, s3, s4, s5, s6⟩ := h
  have eC : ∀ j, j < i → upd C i 0 j = C j := fun j hj => pk_un (by omega)
  refine ⟨fun j hj b hb => ?_, fun j hj => ?_, fun j l hj hl => ?_, fun l hl => ?_, fun x l hj hl => ?_, fun x hj hc => ?_⟩
  · by_cases e : j = i
    · subst e
      rw [pk_us, zb_b0] at hb
      exact absurd hb (by decide)
    · rw [pk_un e] at hb
      exact s1 j (by omega) b hb
  · by_cases e : j = i
    · subst e
      rw [pk_us]
      exact zb_Sp_congr j _ (fun a ha => eC a ha) hx.2
    · rw [pk_un e]
      exact zb_Sp_congr j _ (fun a ha => eC a (by omega)) (s2 j (by omega))
  · by_cases e : j = i
    · subst e
      rw [pk_us] at hl
      exact absurd rfl (zb_isL_ne hl)
    · rw [pk_un e] at hl
      have := (s1 j (by omega) l hl.1).1
      rw [pk_un (by omega)]
      exact s3 j l (by omega) hl
  · by_cases e : l = i
    · subst e
      exact Or.inl pk_us
    · rw [pk_un e]
      rcases s4 l (by omega) with k | ⟨j, hj, k1, k2⟩
      · exact Or.inl k
      · refine Or.inr ⟨j, by omega, k1, ?_⟩
        rw [eC j hj]
        exact k2
  · by_cases e : x = i
    · subst e
      rw [pk_us] at hl
      exact absurd rfl (zb_isL_ne hl)
    · rw [pk_un e] at hl
      rw [pk_un e]
      exact s5 x l (by omega) hl
  · by_cases e : x = i
    · subst e
      rw [pk_us, pk_us]
    · rw [pk_un e] at hc
      rw [pk_un e, pk_un e]
      exact s6 x (by omega) hc
theorem zb_push1 {i N l : Nat} {D : Nat → Int32} {pt : Nat → Nat} {C P K : Nat → Int32} {x : Int32} (hi : i < 26) (hN : i ≤ N) (hD : ∀ j, j < i + 1 → zb_bd D N (D j) = 0) (h : zb_S i D pt C P K) (hx : zb_Co D pt C i x) (hl : zb_isL x l) (hK : K l = -2) : zb_S (i + 1) D pt (upd C i x) (upd (upd (upd P i (-2)) l (nI i)) i (nI l)) (upd (upd K i (-2)) l (nI i)) := by
  have hli : l < i := (hx.1 l hl.1).1
  have hbx : zb_bd D N x = 0 := by
    have := zb_Sp_bd i _ (zb_S_bd h (fun j hj => hD j (by omega))) hx.2
    rw [zb_bd_xor, hD i (by omega), Int32.xor_zero] at this
    exact this
  have hCl : C l = 0 := zb_key (by omega) hN h hbx hl hli
  obtain ⟨s1, s2, s3, s4, s5, s6⟩ := h
  have eC : ∀ j, j < i → upd C i x j = C j := fun j hj => pk_un (by omega)
  refine ⟨fun j hj b hb => ?_, fun j hj => ?_, fun j a hj ha => ?_, fun a ha => ?_, fun y a hj ha => ?_, fun y hj hc => ?_⟩
  · by_cases e : j = i
    · subst e
      rw [pk_us] at hb
      exact hx.1 b hb
    · rw [pk_un e] at hb
      exact s1 j (by omega) b hb
  · by_cases e : j = i
    · subst e
      rw [pk_us]
      exact zb_Sp_congr j _ (fun a ha => eC a ha) hx.2
    · rw [pk_un e]
      exact zb_Sp_congr j _ (fun a ha => eC a (by omega)) (s2 j (by omega))
  · by_cases e : j = i
    · subst e
      rw [pk_us] at ha
      rw [zb_isL_uniq ha hl, pk_us]
    · rw [pk_un e] at ha
      have ea := (s1 j (by omega) a ha.1).1
      have eK := s3 j a (by omega) ha
      have hal : a ≠ l := by
        intro z
        rw [z, hK] at eK
        exact zb_nI_ne (show j < 2 ^ 31 by omega) eK.symm
      rw [pk_un hal, pk_un (by omega)]
      exact eK
  · by_cases e : a = l
    · subst e
      refine Or.inr ⟨i, by omega, pk_us, ?_⟩
      rw [pk_us]
      exact hl
    · rw [pk_un e]
      by_cases e2 : a = i
      · subst e2
        exact Or.inl pk_us
      · rw [pk_un e2]
        rcases s4 a (by omega) with k | ⟨j, hj, k1, k2⟩
        · exact Or.inl k
        · refine Or.inr ⟨j, by omega, k1, ?_⟩
          rw [eC j hj]
          exact k2
  · by_cases e : y = i
    · subst e
      rw [pk_us] at ha
      rw [zb_isL_uniq ha hl, pk_us]
    · rw [pk_un e] at ha
      have hyl : y ≠ l := by
        intro z
        rw [z] at ha
        exact zb_isL_ne ha hCl
      rw [pk_un e, pk_un hyl, pk_un e]
      exact s5 y a (by omega) ha
  · by_cases e : y = i
    · subst e
      rw [pk_us] at hc
      exact absurd hc (zb_isL_ne hl)
    · rw [pk_un e] at hc
      by_cases e2 : y = l
      · subst e2
        rw [pk_un e, pk_us, pk_us]
      · rw [pk_un e, pk_un e2, pk_un e, pk_un e2, pk_un e]
        exact s6 y (by omega) hc
/-- one step of the reduction -/
theorem zb_red {i j l : Nat} {D : Nat → Int32} {pt : Nat → Nat} {C P K : Nat → Int32} {x : Int32} (h : zb_S i D pt C P K) (hx : zb_Co D pt C i x) (hl : zb_isL x l) (hj : j < i) (hjl : zb_isL (C j) l) : zb_Co D pt C i (x ^^^ C j) := by
  obtain ⟨x1, x2⟩ := hx
  refine ⟨fun b hb => ?_, ?_⟩
  · rw [zb_bxor] at hb
    cases hxb : zb_bt x b with
    | true => exact x1 b hxb
    | false =>
      rw [hxb, Bool.false_xor] at hb
      obtain ⟨k1, k2⟩ := h.1 j hj b hb
      have e1 := (x1 l hl.1).2
      have e2 := (h.1 j hj l hjl.1).2
      omega
  · rw [zb_x5]
    exact zb_Sp_xor i _ _ x2 (zb_Sp_mono (zb_Sp_self C j) i hj)
/-! ===== the walks of lowest and solve ===== -/
theorem zb_lowest_w {post : Int32 → Prop} {x : Int32} {l : Nat} (hl : zb_isL x l) (h26 : l < 26) (H : post (nI l)) : wpX_lowest post () x := by
  have main : ∀ d k, k = l + d → k < 26 → wX_lowest_3 post x (d + 1) (nI k) := by
    intro d
    induction d with
    | zero =>
      intro k hk h
      have hk' : k = l := by omega
      subst hk'
      refine pk_le k 0 (fun _ => H) (fun _ => br_f ?_ H)
      rw [zb_tst x (by omega), hl.1]
      decide
    | succ d ih =>
      intro k hk h
      refine pk_le k 0 (fun z => absurd z (by omega)) (fun _ => br_t ?_ (nm_r ?_ (ih (k - 1) (by omega) (by omega))))
      · rw [zb_tst x (by omega)]
        exact hl.2 k (by omega)
      · exact sb_m1 (by omega)
  exact ⟨25 - l + 1, main (25 - l) 25 (by omega) (by omega)⟩
section
variable {post : St1 → Prop} {J : Int32 → (Nat → Int32) → (Nat → Int32) → (Nat → Int32) → (Nat → Int32) → (Nat → Int32) → Prop} {c s : Int32} {A B C P K : Nat → Int32} {n i : Nat}
theorem zb_87_w {x : Int32} (h : zb_L n A B) (hi : i < n) (hS : zb_S i (zb_D A B) (fun j => zb_pt (zb_p A j)) C P K) (hx : zb_Co (zb_D A B) (fun j => zb_pt (zb_p A j)) C i x) (hc : x = 0 ∨ ∃ l, zb_isL x l ∧ K l = -2)
    (H : ∀ C' P' K', zb_S (i + 1) (zb_D A B) (fun j => zb_pt (zb_p A j)) C' P' K' → J (nI (i + 1)) A B C' P' K') :
    wX_solve_87 post J (nI i) x c s A B C (upd P i (-2)) (upd K i (-2)) := by
  have hn := h.1
  refine ⟨pk_in i 26 (by omega), ?_⟩
  rw [nI_clamp (by omega)]
  refine nm_e ?_
  rcases hc with e | ⟨l, hl, hK⟩
  · subst e
    exact br_t rfl (nm_r (nI_1 i) (H _ _ _ (zb_push0 hS hx)))
  · have hli : l < i := (hx.1 l hl.1).1
    refine br_f (zb_isL_ne hl) (zb_lowest_w hl (by omega) ⟨pk_in l 26 (by omega), ?_⟩)
    rw [nI_clamp (by omega)]
    refine nm_e ⟨pk_in l 26 (by omega), nm_e ⟨pk_in i 26 (by omega), nm_e (nm_r (nI_1 i) (H _ _ _ ?_))⟩⟩
    exact zb_push1 (N := n) (by omega) (by omega) (fun j hj => zb_DD h (by omega)) hS hx hl hK
theorem zb_37_w (h : zb_L n A B) (hi : i < n) (hS : zb_S i (zb_D A B) (fun j => zb_pt (zb_p A j)) C P K)
    (H : ∀ C' P' K', zb_S (i + 1) (zb_D A B) (fun j => zb_pt (zb_p A j)) C' P' K' → J (nI (i + 1)) A B C' P' K') :
    ∃ fu, wX_solve_37 post J (nI i) c s A B C (upd P i (-2)) (upd K i (-2)) fu (zb_D A B i) 0 := by
  have hn := h.1
  refine loop_0 (fun n t x => wX_solve_37 post J (nI i) c s A B C (upd P i (-2)) (upd K i (-2)) n x (nI t)) (fun t x => zb_Co (zb_D A B) (fun j => zb_pt (zb_p A j)) C i x ∧ ∀ b, zb_bt x b = true → b + t < 26) 26 (zb_D A B i) ⟨⟨fun b hb => zb_D_bit h hi hb, ?_⟩, fun b hb => ?_⟩ ?_ ?_
  · rw [Int32.xor_self]
    exact zb_Sp_0 C i
  · have := (zb_D_bit h hi hb).1
    omega
  · intro m x hI
    refine pk_le 26 26 (fun _ => zb_87_w h hi hS hI.1 (Or.inl (zb_ext (fun b _ => ?_))) H) (fun z => absurd z (by omega))
    rw [zb_b0]
    cases hb : zb_bt x b with
    | false => rfl
    | true =>
      have := hI.2 b hb
      omega
  · intro m t x ht hI hw
    refine pk_le 26 t (fun z => absurd z (by omega)) (fun _ => br_c (fun z => zb_87_w h hi hS hI.1 (Or.inl z) H) (fun z => ?_))
    obtain ⟨l, hl⟩ := zb_isL_ex z
    have hli : l < i := (hI.1.1 l hl.1).1
    refine zb_lowest_w hl (by omega) ⟨pk_in l 26 (by omega), ?_⟩
    rw [nI_clamp (by omega), pk_un (show l ≠ i by omega)]
    rcases hS.2.2.2.1 l hli with k | ⟨j, hj, k1, k2⟩
    · refine br_f ?_ (zb_87_w h hi hS hI.1 (Or.inr ⟨l, hl, k⟩) H)
      rw [k]
      decide
    · rw [k1]
      refine br_t (nI_pos' (by omega)) ⟨pk_in l 26 (by omega), pk_in j 26 (by omega), ?_⟩
      rw [nI_clamp (by omega)]
      refine nm_e (nm_r (nI_1 t) (hw _ ⟨zb_red hS hI.1 hl hj k2, fun b hb => ?_⟩))
      have hlt := hI.2 l hl.1
      rcases Nat.lt_or_ge b l with hbl | hbl
      · omega
      · rw [zb_isL_drop hl k2 b hbl] at hb
        exact absurd hb (by decide)
end
theorem zb_solve_w {post : St1 → Prop} {A B C P K : Nat → Int32} {n m : Nat} (h : zb_L n A B) (hm : m ≤ n) (hS : zb_S m (zb_D A B) (fun j => zb_pt (zb_p A j)) C P K)
    (H : ∀ C' P' K', zb_S n (zb_D A B) (fun j => zb_pt (zb_p A j)) C' P' K' → post (nI n, nI n, A, B, C', P', K')) :
    wpX_solve post (nI n, nI m, A, B, C, P, K) := by
  have hn := h.1
  refine pk_loop (fun f i (u : (Nat → Int32) × (Nat → Int32) × (Nat → Int32)) => wX_solve_5 post (nI n) (nI m) f (nI i) A B u.1 u.2.1 u.2.2) (fun i u => zb_S i (zb_D A B) (fun j => zb_pt (zb_p A j)) u.1 u.2.1 u.2.2) n m (C, P, K) hm hS ?_ ?_
  · intro f u hu
    exact pk_le n n (fun _ => H _ _ _ hu) (fun z => absurd z (by omega))
  · intro f i u hi hu hw
    refine pk_le n i (fun z => absurd z (by omega)) (fun _ => ⟨pk_in i 26 (by omega), ?_⟩)
    rw [nI_clamp (by omega)]
    refine nm_e ⟨pk_in i 26 (by omega), nm_e (zb_sides_w h hi (zb_37_w h hi hu (fun C' P' K' hS' => hw (C', P', K') hS')))⟩
theorem zb_solve_n {post : St1 → Prop} {A B C P K : Nat → Int32} {n : Nat} (hn : n ≤ 26) (H : post (nI n, nI n, A, B, C, P, K)) : wpX_solve post (nI n, nI n, A, B, C, P, K) :=
  ⟨1, pk_le n n (fun _ => H) (fun z => absurd z (by omega))⟩
end
section
/-! ===== counts ===== -/
def zb_cnt (f : Nat → Bool) : Nat → Nat
  | 0 => 0
  | n + 1 => zb_cnt f n + (f n).toNat
theorem zb_cnt_le (f : Nat → Bool) : ∀ n, zb_cnt f n ≤ n
  | 0 => Nat.le_refl 0
  | n + 1 => by
    have := zb_cnt_le f n
    have h2 := Bool.toNat_le (f n)
    show zb_cnt f n + (f n).toNat ≤ n + 1
    omega
theorem zb_cnt_mono {f g : Nat → Bool} : ∀ n, (∀ a, a < n → f a = true → g a = true) → zb_cnt f n ≤ zb_cnt g n
  | 0, _ => Nat.le_refl 0
  | n + 1, h => by
    have := zb_cnt_mono n (fun a ha => h a (by omega))
    have h2 := h n (by omega)
    show zb_cnt f n + (f n).toNat ≤ zb_cnt g n + (g n).toNat
    cases hf : f n with
    | false => simp only [Bool.toNat_false]; omega
    | true => rw [h2 hf]; simp only [Bool.toNat_true]; omega
theorem zb_cnt_grow (f : Nat → Bool) {m : Nat} : ∀ n, m ≤ n → zb_cnt f m ≤ zb_cnt f n
  | 0, h => by rw [show m = 0 by omega]; exact Nat.le_refl _
  | n + 1, h => by
    by_cases e : m = n + 1
    · rw [e]; exact Nat.le_refl _
    · have := zb_cnt_grow f n (show m ≤ n by omega)
      show zb_cnt f m ≤ zb_cnt f n + (f n).toNat
      omega
def zb_ss (f : Nat → Int32) : Nat → Int32
  | 0 => 0
  | n + 1 => zb_ss f n + f n
theorem zb_ss_congr {f g : Nat → Int32} : ∀ n, (∀ a, a < n → f a = g a) → zb_ss f n = zb_ss g n
  | 0, _ => rfl
  | n + 1, h => by
    show zb_ss f n + f n = zb_ss g n + g n
    rw [zb_ss_congr n (fun a ha => h a (by omega)), h n (by omega)]
theorem zb_ss_one {f g : Nat → Int32} {l : Nat} : ∀ n, l < n → (∀ a, a < n → a ≠ l → f a = g a) → zb_ss f n = zb_ss g n + (f l - g l)
  | 0, h, _ => absurd h (by omega)
  | n + 1, h, ho => by
    show zb_ss f n + f n = zb_ss g n + g n + (f l - g l)
    by_cases e : l = n
    · subst e
      rw [zb_ss_congr l (fun a ha => ho a (by omega) (by omega))]
      grind
    · rw [zb_ss_one n (by omega) (fun a ha hn => ho a (by omega) hn), ho n (by omega) (by omega)]
      grind
/-- living: its column is empty, and no piece before T ends it -/
def zb_lb (C P : Nat → Int32) (T : Int32) (a : Nat) : Bool := decide (C a = 0) && !(decide (¬ P a < 0) && decide (¬ T ≤ P a))
def zb_lv (A C P : Nat → Int32) (T k : Int32) (a : Nat) : Bool := decide (nI (zb_pt (zb_p A a)) - 1 = k) && zb_lb C P T a
def zb_sgn (d : Nat) : Int32 := if (nI d - 1) &&& 1 = 0 then 1 else -1
def zb_sg (A : Nat → Int32) (a : Nat) : Int32 := zb_sgn (zb_pt (zb_p A a))
theorem zb_lb_n {C P : Nat → Int32} {T : Int32} {a : Nat} (h : C a ≠ 0) : zb_lb C P T a = false := by
  unfold zb_lb
  rw [decide_eq_false h, Bool.false_and]
theorem zb_lb_2 {C P : Nat → Int32} {T : Int32} {a : Nat} (h : C a = 0) (h2 : P a = -2) : zb_lb C P T a = true := by
  unfold zb_lb
  rw [decide_eq_true h, h2, decide_eq_false (show ¬ ¬ (-2 : Int32) < 0 by decide)]
  rfl
theorem zb_lb_p {C P : Nat → Int32} {t j a : Nat} (h : C a = 0) (h2 : P a = nI j) (hj : j < 2 ^ 31) (ht : t < 2 ^ 31) : zb_lb C P (nI t) a = decide (t ≤ j) := by
  unfold zb_lb
  rw [decide_eq_true h, h2, decide_eq_true (nI_pos hj), Bool.true_and, Bool.true_and]
  by_cases e : t ≤ j
  · rw [decide_eq_true e, decide_eq_false (fun z => z (nI_le e hj))]
    rfl
  · rw [decide_eq_false e, decide_eq_true (nI_ge (by omega) ht)]
    rfl
theorem zb_lv_mono {A C P : Nat → Int32} {lo hi : Nat} {k : Int32} (h : lo ≤ hi) (hh : hi < 2 ^ 31) (a : Nat) : zb_lv A C P (nI hi) k a = true → zb_lv A C P (nI lo) k a = true := by
  unfold zb_lv zb_lb
  intro z
  rw [Bool.and_eq_true, Bool.and_eq_true] at z
  obtain ⟨z1, z2, z3⟩ := z
  rw [z1, z2, Bool.true_and, Bool.true_and]
  by_cases c1 : P a < 0
  · rw [decide_eq_false (show ¬ ¬ P a < 0 from fun q => q c1)]
    rfl
  · rw [decide_eq_true c1, Bool.true_and] at z3
    by_cases c2 : nI hi ≤ P a
    · rw [decide_eq_false (show ¬ ¬ nI lo ≤ P a from fun q => q (Int32.le_trans (nI_le h hh) c2)), Bool.and_false]
      rfl
    · rw [decide_eq_true c2] at z3
      exact absurd z3 (by decide)
theorem zb_tab : ∀ d, d < 5 → 1 ≤ d → ∀ b : Bool, nI ((decide (nI d - 1 = 0) && b).toNat) - nI ((decide (nI d - 1 = 1) && b).toNat) + nI ((decide (nI d - 1 = 2) && b).toNat) - nI ((decide (nI d - 1 = 3) && b).toNat) = if b = true then zb_sgn d else 0 := by decide +kernel
theorem zb_sgn_s : ∀ d, d < 5 → zb_sgn (d + 1) = - zb_sgn d := by decide +kernel
theorem zb_alt {A C P : Nat → Int32} {T : Int32} : ∀ u, (∀ a, a < u → 1 ≤ zb_pt (zb_p A a) ∧ zb_pt (zb_p A a) ≤ 4) → nI (zb_cnt (zb_lv A C P T 0) u) - nI (zb_cnt (zb_lv A C P T 1) u) + nI (zb_cnt (zb_lv A C P T 2) u) - nI (zb_cnt (zb_lv A C P T 3) u) = zb_ss (fun a => if zb_lb C P T a = true then zb_sg A a else 0) u
  | 0, _ => by
    show nI 0 - nI 0 + nI 0 - nI 0 = 0
    decide
  | u + 1, h => by
    have ih := zb_alt (A := A) (C := C) (P := P) (T := T) u (fun a ha => h a (by omega))
    obtain ⟨h1, h2⟩ := h u (by omega)
    have tb := zb_tab (zb_pt (zb_p A u)) (by omega) h1 (zb_lb C P T u)
    show nI (zb_cnt (zb_lv A C P T 0) u + (zb_lv A C P T 0 u).toNat) - nI (zb_cnt (zb_lv A C P T 1) u + (zb_lv A C P T 1 u).toNat) + nI (zb_cnt (zb_lv A C P T 2) u + (zb_lv A C P T 2 u).toNat) - nI (zb_cnt (zb_lv A C P T 3) u + (zb_lv A C P T 3 u).toNat) = zb_ss (fun a => if zb_lb C P T a = true then zb_sg A a else 0) u + (if zb_lb C P T u = true then zb_sg A u else 0)
    have tb : nI (zb_lv A C P T 0 u).toNat - nI (zb_lv A C P T 1 u).toNat + nI (zb_lv A C P T 2 u).toNat - nI (zb_lv A C P T 3 u).toNat = (if zb_lb C P T u = true then zb_sg A u else 0) := tb
    rw [← ih, ← tb, ← nI_add, ← nI_add, ← nI_add, ← nI_add]
    grind
/-! ===== what holds of a solved state ===== -/
section
variable {n : Nat} {A B C P K : Nat → Int32}
theorem zb_pair0 (hS : zb_S n (zb_D A B) (fun j => zb_pt (zb_p A j)) C P K) {x : Nat} (hx : x < n) (hc : C x = 0) : P x = -2 ∨ ∃ y, y < n ∧ x < y ∧ P x = nI y ∧ zb_isL (C y) x := by
  obtain ⟨s1, s2, s3, s4, s5, s6⟩ := hS
  rw [s6 x hx hc]
  rcases s4 x hx with k | ⟨j, hj, k1, k2⟩
  · exact Or.inl k
  · exact Or.inr ⟨j, hj, (s1 j hj x k2.1).1, k1, k2⟩
theorem zb_pair1 (h : zb_L n A B) (hS : zb_S n (zb_D A B) (fun j => zb_pt (zb_p A j)) C P K) {x : Nat} (hx : x < n) (hc : C x ≠ 0) : ∃ l, l < x ∧ zb_isL (C x) l ∧ C l = 0 ∧ P x = nI l ∧ P l = nI x ∧ zb_pt (zb_p A l) + 1 = zb_pt (zb_p A x) := by
  obtain ⟨l, hl⟩ := zb_isL_ex hc
  obtain ⟨k1, k2⟩ := hS.1 x hx l hl.1
  have hz := zb_S_bd (N := n) hS (fun i hi => zb_DD h hi) x hx
  have hC := zb_key h.1 (Nat.le_refl n) hS hz hl (by omega)
  refine ⟨l, k1, hl, hC, hS.2.2.2.2.1 x l hx hl, ?_, k2⟩
  rw [hS.2.2.2.2.2 l (by omega) hC]
  exact hS.2.2.1 x l hx hl
theorem zb_pair (h : zb_L n A B) (hS : zb_S n (zb_D A B) (fun j => zb_pt (zb_p A j)) C P K) {x : Nat} (hx : x < n) : P x = -2 ∨ ∃ y, y < n ∧ P x = nI y ∧ P y = nI x := by
  by_cases hc : C x = 0
  · rcases zb_pair0 hS hx hc with k | ⟨y, hy, _, k1, k2⟩
    · exact Or.inl k
    · exact Or.inr ⟨y, hy, k1, hS.2.2.2.2.1 y x hy k2⟩
  · obtain ⟨l, h1, _, _, h4, h5, _⟩ := zb_pair1 h hS hx hc
    exact Or.inr ⟨l, by omega, h4, h5⟩
theorem zb_ptb (h : zb_L n A B) {a : Nat} (ha : a < n) : 1 ≤ zb_pt (zb_p A a) ∧ zb_pt (zb_p A a) ≤ 4 := by
  obtain ⟨h1, h2, h3, _⟩ := h.2.1 a ha
  exact ⟨zb_t7 _ h2 h1, h3⟩
theorem zb_eul (h : zb_L n A B) (hS : zb_S n (zb_D A B) (fun j => zb_pt (zb_p A j)) C P K) : ∀ t, t ≤ n → zb_ss (fun a => if zb_lb C P (nI t) a = true then zb_sg A a else 0) t = zb_ss (zb_sg A) t
  | 0, _ => rfl
  | t + 1, ht => by
    have hn := h.1
    have ih := zb_eul h hS t (by omega)
    show zb_ss (fun a => if zb_lb C P (nI (t + 1)) a = true then zb_sg A a else 0) t + (if zb_lb C P (nI (t + 1)) t = true then zb_sg A t else 0) = zb_ss (zb_sg A) t + zb_sg A t
    by_cases hc : C t = 0
    · have e1 : zb_lb C P (nI (t + 1)) t = true := by
        rcases zb_pair0 hS (show t < n by omega) hc with k | ⟨y, hy, hty, k1, k2⟩
        · exact zb_lb_2 hc k
        · rw [zb_lb_p hc k1 (by omega) (by omega)]
          exact decide_eq_true (by omega)
      rw [e1, if_pos rfl, ← ih]
      congr 1
      refine zb_ss_congr t (fun a ha => ?_)
      show (if zb_lb C P (nI (t + 1)) a = true then zb_sg A a else 0) = (if zb_lb C P (nI t) a = true then zb_sg A a else 0)
      have e2 : zb_lb C P (nI (t + 1)) a = zb_lb C P (nI t) a := by
        by_cases ca : C a = 0
        · rcases zb_pair0 hS (show a < n by omega) ca with k | ⟨y, hy, hay, k1, k2⟩
          · rw [zb_lb_2 ca k, zb_lb_2 ca k]
          · rw [zb_lb_p ca k1 (by omega) (by omega), zb_lb_p ca k1 (by omega) (by omega)]
            have : y ≠ t := by
              intro z
              rw [z, hc] at k2
              exact zb_isL_ne k2 rfl
            exact decide_eq_decide.mpr (by omega)
        · rw [zb_lb_n ca, zb_lb_n ca]
      rw [e2]
    · obtain ⟨l, hlt, hl, hCl, hP1, hP2, hpt⟩ := zb_pair1 h hS (show t < n by omega) hc
      have e1 : zb_lb C P (nI (t + 1)) t = false := zb_lb_n hc
      have e2 : zb_lb C P (nI (t + 1)) l = false := by
        rw [zb_lb_p hCl hP2 (by omega) (by omega)]
        exact decide_eq_false (by omega)
      have e3 : zb_lb C P (nI t) l = true := by
        rw [zb_lb_p hCl hP2 (by omega) (by omega)]
        exact decide_eq_true (by omega)
      have e4 : zb_sg A t = - zb_sg A l := by
        show zb_sgn (zb_pt (zb_p A t)) = - zb_sgn (zb_pt (zb_p A l))
        have := (zb_ptb h (show l < n by omega)).2
        rw [← hpt]
        exact zb_sgn_s _ (by omega)
      rw [zb_ss_one (g := fun a => if zb_lb C P (nI t) a = true then zb_sg A a else 0) t hlt ?_, ih]
      · show zb_ss (zb_sg A) t + ((if zb_lb C P (nI (t + 1)) l = true then zb_sg A l else 0) - (if zb_lb C P (nI t) l = true then zb_sg A l else 0)) + (if zb_lb C P (nI (t + 1)) t = true then zb_sg A t else 0) = zb_ss (zb_sg A) t + zb_sg A t
        rw [e1, e2, e3, e4, if_pos rfl]
        simp only [Bool.false_eq_true, if_false]
        grind
      · intro a ha hal
        show (if zb_lb C P (nI (t + 1)) a = true then zb_sg A a else 0) = (if zb_lb C P (nI t) a = true then zb_sg A a else 0)
        have e5 : zb_lb C P (nI (t + 1)) a = zb_lb C P (nI t) a := by
          by_cases ca : C a = 0
          · rcases zb_pair0 hS (show a < n by omega) ca with k | ⟨y, hy, hay, k1, k2⟩
            · rw [zb_lb_2 ca k, zb_lb_2 ca k]
            · rw [zb_lb_p ca k1 (by omega) (by omega), zb_lb_p ca k1 (by omega) (by omega)]
              have : y ≠ t := by
                intro z
                rw [z] at k2
                exact hal (zb_isL_uniq k2 hl)
              exact decide_eq_decide.mpr (by omega)
          · rw [zb_lb_n ca, zb_lb_n ca]
        rw [e5]
theorem zb_euler_eq (h : zb_L n A B) (hS : zb_S n (zb_D A B) (fun j => zb_pt (zb_p A j)) C P K) {t : Nat} (ht : t ≤ n) : zb_ss (zb_sg A) t = nI (zb_cnt (zb_lv A C P (nI t) 0) t) - nI (zb_cnt (zb_lv A C P (nI t) 1) t) + nI (zb_cnt (zb_lv A C P (nI t) 2) t) - nI (zb_cnt (zb_lv A C P (nI t) 3) t) := by
  rw [zb_alt t (fun a ha => zb_ptb h (by omega)), zb_eul h hS t ht]
end
end
section
/-! ===== the walks that ask: euler, living, holes, lasting, forever, partner ===== -/
theorem zb_euler_w {post : Int32 → Prop} {s : Int32} {A B C P K : Nat → Int32} {n t : Nat} (h : zb_L n A B) (ht : t ≤ n) (H : post (zb_ss (zb_sg A) t)) : wpX_euler post (nI n, s, A, B, C, P, K) (nI t) := by
  have hn := h.1
  refine br_f (nI_pos (by omega)) (br_t (nI_le ht (by omega)) ?_)
  refine loop_0 (fun f i x => wX_euler_20 post (nI t) (nI n) s A B C P K f x (nI i)) (fun i x => x = zb_ss (zb_sg A) i) t 0 rfl ?_ ?_
  · intro f x e
    refine pk_le t t (fun _ => ?_) (fun z => absurd z (by omega))
    rw [e]
    exact H
  · intro f i x hi e hw
    refine pk_le t i (fun z => absurd z (by omega)) (fun _ => zb_dim_w h (by omega) (br_c (fun z => nm_e (nm_r (nI_1 i) (hw _ ?_))) (fun z => nm_e (nm_r (nI_1 i) (hw _ ?_)))))
    · show x + 1 = zb_ss (zb_sg A) i + (if (nI (zb_pt (zb_p A i)) - 1) &&& 1 = 0 then 1 else -1)
      rw [e, if_pos z]
    · show x + (-1) = zb_ss (zb_sg A) i + (if (nI (zb_pt (zb_p A i)) - 1) &&& 1 = 0 then 1 else -1)
      rw [e, if_neg z]
section
variable {post : Int32 → St1 → Prop} {A B C P K : Nat → Int32} {n : Nat}
theorem zb_42_w {J : Int32 → Int32 → Prop} {x1 x2 x3 z0 f0 f1 : Int32} {c a : Nat} (h : zb_L n A B) (ha : a < n) (H : J (nI (c + (decide (nI (zb_pt (zb_p A a)) - 1 = x3) && (decide (C a = 0) && decide (z0 = 0))).toNat)) (nI (a + 1))) : wX_living_42 post J x1 x2 x3 (nI c) (nI a) z0 f0 f1 A B C P K := by
  have hn := h.1
  refine zb_dim_w h ha (br_c (fun e1 => ⟨pk_in a 26 (by omega), ?_⟩) (fun e1 => ?_))
  · rw [nI_clamp (by omega)]
    refine br_c (fun e2 => br_c (fun e3 => ?_) (fun e3 => ?_)) (fun e2 => ?_)
    · rw [decide_eq_true e1, decide_eq_true e2, decide_eq_true e3] at H
      have H : J (nI (c + 1)) (nI (a + 1)) := H
      exact nm_r (nI_1 c) (nm_r (nI_1 a) H)
    · rw [decide_eq_true e1, decide_eq_true e2, decide_eq_false e3] at H
      have H : J (nI c) (nI (a + 1)) := H
      exact nm_r (Int32.add_zero _) (nm_r (nI_1 a) H)
    · rw [decide_eq_true e1, decide_eq_false e2] at H
      have H : J (nI c) (nI (a + 1)) := H
      exact nm_r (Int32.add_zero _) (nm_r (nI_1 a) H)
  · rw [decide_eq_false e1] at H
    have H : J (nI c) (nI (a + 1)) := H
    exact nm_r (Int32.add_zero _) (nm_r (nI_1 a) H)
theorem zb_living_l {f0 f1 T k : Int32} {i : Nat} (h : zb_L n A B) (hi : i ≤ n) (H : post (nI (zb_cnt (zb_lv A C P T k) i)) (f0, f1, A, B, C, P, K)) : ∃ fu, wX_living_10 post (nI i) T k f0 f1 A B C P K fu 0 0 := by
  have hn := h.1
  refine loop_0 (fun f a x => wX_living_10 post (nI i) T k f0 f1 A B C P K f x (nI a)) (fun a x => x = nI (zb_cnt (zb_lv A C P T k) a)) i 0 rfl ?_ ?_
  · intro f x e
    refine pk_le i i (fun _ => ?_) (fun z => absurd z (by omega))
    rw [e]
    exact H
  · intro f a x ha e hw
    have hw' := hw _ rfl
    subst e
    refine pk_le i a (fun z => absurd z (by omega)) (fun _ => ⟨pk_in a 26 (by omega), ?_⟩)
    rw [nI_clamp (by omega)]
    refine br_c (fun z => ?_) (fun z => ⟨pk_in a 26 (by omega), br_c (fun z2 => ?_) (fun z2 => ?_)⟩)
    · have e : zb_lv A C P T k a = (decide (nI (zb_pt (zb_p A a)) - 1 = k) && (decide (C a = 0) && decide ((0 : Int32) = 0))) := by
        unfold zb_lv zb_lb
        rw [decide_eq_false (show ¬ ¬ P a < 0 from fun q => q z)]
        rfl
      refine zb_42_w h (by omega) ?_
      rw [← e]
      exact hw'
    · have e : zb_lv A C P T k a = (decide (nI (zb_pt (zb_p A a)) - 1 = k) && (decide (C a = 0) && decide ((0 : Int32) = 0))) := by
        unfold zb_lv zb_lb
        rw [decide_eq_false (show ¬ ¬ T ≤ P a from fun q => q z2), Bool.and_false]
        rfl
      refine zb_42_w h (by omega) ?_
      rw [← e]
      exact hw'
    · have e : zb_lv A C P T k a = (decide (nI (zb_pt (zb_p A a)) - 1 = k) && (decide (C a = 0) && decide ((1 : Int32) = 0))) := by
        unfold zb_lv zb_lb
        rw [decide_eq_true z2, decide_eq_true z]
        rfl
      refine zb_42_w h (by omega) ?_
      rw [← e]
      exact hw'
theorem zb_living_s {T k : Int32} {i : Nat} (h : zb_L n A B) (hi : i ≤ n) (H : post (nI (zb_cnt (zb_lv A C P T k) i)) (nI n, nI n, A, B, C, P, K)) : wpX_living post (nI n, nI n, A, B, C, P, K) (nI i) T k :=
  zb_solve_n h.1 (zb_living_l h hi H)
theorem zb_living_g {T k : Int32} {i m : Nat} (h : zb_L n A B) (hm : m ≤ n) (hS : zb_S m (zb_D A B) (fun j => zb_pt (zb_p A j)) C P K) (hi : i ≤ n) (H : ∀ C' P' K', zb_S n (zb_D A B) (fun j => zb_pt (zb_p A j)) C' P' K' → post (nI (zb_cnt (zb_lv A C' P' T k) i)) (nI n, nI n, A, B, C', P', K')) : wpX_living post (nI n, nI m, A, B, C, P, K) (nI i) T k :=
  zb_solve_w h hm hS (fun C' P' K' hS' => zb_living_l h hi (H C' P' K' hS'))
theorem zb_holes_s {k : Int32} {t : Nat} (h : zb_L n A B) (ht : t ≤ n) (k0 : ¬ k < 0) (k3 : k ≤ 3) (H : post (nI (zb_cnt (zb_lv A C P (nI t) k) t)) (nI n, nI n, A, B, C, P, K)) : wpX_holes post (nI n, nI n, A, B, C, P, K) (nI t) k := by
  have hn := h.1
  exact br_f (nI_pos (by omega)) (br_t (nI_le ht (by omega)) (br_f k0 (br_t k3 (zb_living_s h ht H))))
theorem zb_holes_g {k : Int32} {t m : Nat} (h : zb_L n A B) (hm : m ≤ n) (hS : zb_S m (zb_D A B) (fun j => zb_pt (zb_p A j)) C P K) (ht : t ≤ n) (k0 : ¬ k < 0) (k3 : k ≤ 3) (H : ∀ C' P' K', zb_S n (zb_D A B) (fun j => zb_pt (zb_p A j)) C' P' K' → post (nI (zb_cnt (zb_lv A C' P' (nI t) k) t)) (nI n, nI n, A, B, C', P', K')) : wpX_holes post (nI n, nI m, A, B, C, P, K) (nI t) k := by
  have hn := h.1
  exact br_f (nI_pos (by omega)) (br_t (nI_le ht (by omega)) (br_f k0 (br_t k3 (zb_living_g h hm hS ht H))))
theorem zb_lasting_s {k : Int32} {lo hi : Nat} (h : zb_L n A B) (hl : lo ≤ hi) (ht : hi ≤ n) (k0 : ¬ k < 0) (k3 : k ≤ 3) (H : post (nI (zb_cnt (zb_lv A C P (nI hi) k) lo)) (nI n, nI n, A, B, C, P, K)) : wpX_lasting post (nI n, nI n, A, B, C, P, K) (nI lo) (nI hi) k := by
  have hn := h.1
  exact br_f (nI_pos (by omega)) (br_f (nI_nlt hl (by omega)) (br_t (nI_le ht (by omega)) (br_f k0 (br_t k3 (zb_living_s h (by omega) H)))))
theorem zb_forever_s {k : Int32} (h : zb_L n A B) (k0 : ¬ k < 0) (k3 : k ≤ 3) (H : post (nI (zb_cnt (zb_lv A C P (nI n) k) n)) (nI n, nI n, A, B, C, P, K)) : wpX_forever post (nI n, nI n, A, B, C, P, K) k :=
  br_f k0 (br_t k3 (zb_living_s h (Nat.le_refl n) H))
theorem zb_partner_s {x : Nat} (hn : n ≤ 26) (hx : x < n) (H : post (P x) (nI n, nI n, A, B, C, P, K)) : wpX_partner post (nI n, nI n, A, B, C, P, K) (nI x) := by
  refine br_f (nI_pos (by omega)) (br_f (nI_ge hx (by omega)) (br_f (by decide) (zb_solve_n hn ⟨pk_in x 26 (by omega), ?_⟩)))
  rw [nI_clamp (by omega)]
  exact H
/-! ===== holds ===== -/
theorem zb_192_w (h : zb_L n A B) (hS : zb_S n (zb_D A B) (fun j => zb_pt (zb_p A j)) C P K) (H : post 1 (nI n, nI n, A, B, C, P, K)) : ∃ fu, wL_holds_192 post (nI n) fu 0 (nI n) (nI n) A B C P K := by
  have hn := h.1
  refine loop_0 (σ := Unit) (fun f x _ => wL_holds_192 post (nI n) f (nI x) (nI n) (nI n) A B C P K) (fun _ _ => True) n () trivial ?_ ?_
  · intro f _ _
    exact pk_le n n (fun _ => H) (fun z => absurd z (by omega))
  · intro f x _ hx _ hw
    have hw' := hw () trivial
    refine pk_le n x (fun z => absurd z (by omega)) (fun _ => zb_partner_s hn hx ?_)
    rcases zb_pair h hS hx with k | ⟨y, hy, k1, k2⟩
    · rw [k]
      refine br_f (by decide) (br_f (by decide) (br_f ?_ (br_t (by decide) (nm_r (nI_1 x) hw'))))
      intro z
      exact absurd (Int32.le_trans (nI_pos' (show n < 2 ^ 31 by omega)) z) (by decide)
    · rw [k1]
      have p0 := nI_pos (show y < 2 ^ 31 by omega)
      refine br_f (fun z => p0 (Int32.lt_trans z (by decide))) (br_f (fun z => p0 (by rw [z]; decide)) (br_f (nI_ge hy (by omega)) (br_f p0 (zb_partner_s hn hy (br_t k2 (nm_r (nI_1 x) hw'))))))
theorem zb_93_w {lo hi : Nat} (h : zb_L n A B) (hS : zb_S n (zb_D A B) (fun j => zb_pt (zb_p A j)) C P K) (hl : lo ≤ hi) (ht : hi ≤ n) (H : post 1 (nI n, nI n, A, B, C, P, K)) : ∃ fu, wL_holds_93 post (nI n) (nI lo) (nI hi) fu 0 (nI n) (nI n) A B C P K := by
  have hn := h.1
  refine loop_0 (σ := Unit) (fun f x _ => wL_holds_93 post (nI n) (nI lo) (nI hi) f (nI x) (nI n) (nI n) A B C P K) (fun _ _ => True) 4 () trivial ?_ ?_
  · intro f _ _
    exact pk_le 4 4 (fun _ => zb_192_w h hS H) (fun z => absurd z (by omega))
  · intro f k _ hk _ hw
    have hw' := hw () trivial
    have k0 : ¬ nI k < 0 := nI_pos (by omega)
    have k3 : nI k ≤ 3 := nI_le (b := 3) (by omega) (by omega)
    have c1 := zb_cnt_le (zb_lv A C P (nI hi) (nI k)) lo
    have c2 := zb_cnt_le (zb_lv A C P (nI lo) (nI k)) lo
    have c3 := zb_cnt_le (zb_lv A C P (nI hi) (nI k)) hi
    have m1 := zb_cnt_mono lo (fun a _ => zb_lv_mono (A := A) (C := C) (P := P) (k := nI k) hl (show hi < 2 ^ 31 by omega) a)
    have m2 := zb_cnt_grow (zb_lv A C P (nI hi) (nI k)) hi hl
    refine pk_le 4 k (fun z => absurd z (by omega)) (fun _ => zb_lasting_s h hl ht k0 k3 ?_)
    refine br_f (nI_pos (by omega)) (zb_holes_s h (by omega) k0 k3 ?_)
    refine br_f (nI_nlt m1 (by omega)) (zb_holes_s h ht k0 k3 ?_)
    refine br_t (nI_le m2 (by omega)) (zb_lasting_s h (Nat.le_refl hi) ht k0 k3 (zb_holes_s h ht k0 k3 ?_))
    refine br_t rfl (zb_forever_s h k0 k3 (zb_holes_s h (Nat.le_refl n) k0 k3 ?_))
    exact br_t rfl (nm_r (nI_1 k) hw')
theorem zb_48_w {lo hi m : Nat} (h : zb_L n A B) (hm : m ≤ n) (hS : zb_S m (zb_D A B) (fun j => zb_pt (zb_p A j)) C P K) (hl : lo ≤ hi) (ht : hi ≤ n) (H : ∀ C' P' K', zb_S n (zb_D A B) (fun j => zb_pt (zb_p A j)) C' P' K' → post 1 (nI n, nI n, A, B, C', P', K')) : wL_holds_48 post (nI n) (nI lo) (nI hi) (nI n) (nI m) A B C P K := by
  refine zb_euler_w h (show lo ≤ n by omega) (zb_holes_g h hm hS (by omega) (by decide) (by decide) (fun C' P' K' hS' => ?_))
  refine zb_holes_s h (by omega) (by decide) (by decide) (zb_holes_s h (by omega) (by decide) (by decide) (zb_holes_s h (by omega) (by decide) (by decide) ?_))
  exact br_t (zb_euler_eq h hS' (by omega)) (zb_93_w h hS' hl ht (H C' P' K' hS'))
theorem zb_31_w {lo z m : Nat} (h : zb_L n A B) (hm : m ≤ n) (hS : zb_S m (zb_D A B) (fun j => zb_pt (zb_p A j)) C P K) (hl : lo ≤ n) (hz : z < 2 ^ 30) (H : ∀ C' P' K', zb_S n (zb_D A B) (fun j => zb_pt (zb_p A j)) C' P' K' → post 1 (nI n, nI n, A, B, C', P', K')) : wL_holds_31 post (nI n) (nI lo) (nI z) (nI n) (nI m) A B C P K := by
  have hn := h.1
  have hr : z % (n + 1) < n + 1 := Nat.mod_lt _ (by omega)
  refine ⟨?_, ?_⟩
  · rw [nI_1]
    exact nI_ne0 (by omega) (by omega)
  · rw [nI_1]
    refine nm_r (pk_rem (by omega) (by omega) (by omega)) (pk_le lo (z % (n + 1)) (fun q => zb_48_w h hm hS q (by omega) H) (fun q => zb_48_w h hm hS (Nat.le_refl lo) hl H))
theorem zb_15_w {a b z m : Nat} (h : zb_L n A B) (hm : m ≤ n) (hS : zb_S m (zb_D A B) (fun j => zb_pt (zb_p A j)) C P K) (ha : a < 2 ^ 30) (hb : b < 2 ^ 30) (hz : z < 2 ^ 30) (H : ∀ C' P' K', zb_S n (zb_D A B) (fun j => zb_pt (zb_p A j)) C' P' K' → post 1 (nI n, nI n, A, B, C', P', K')) : wL_holds_15 post (nI a) (nI b) (nI n) (nI z) (nI n) (nI m) A B C P K := by
  have hn := h.1
  have hr : z % (n + 1) < n + 1 := Nat.mod_lt _ (by omega)
  refine ⟨?_, ?_⟩
  · rw [nI_1]
    exact nI_ne0 (by omega) (by omega)
  · rw [nI_1]
    refine nm_r (pk_rem (by omega) (by omega) (by omega)) (br_c (fun _ => zb_31_w h hm hS (by omega) ha H) (fun _ => zb_31_w h hm hS (by omega) hb H))
theorem zb_holds_w {a b m : Nat} (h : zb_L n A B) (hm : m ≤ n) (hS : zb_S m (zb_D A B) (fun j => zb_pt (zb_p A j)) C P K) (ha : a < 2 ^ 30) (hb : b < 2 ^ 30) (H : ∀ C' P' K', zb_S n (zb_D A B) (fun j => zb_pt (zb_p A j)) C' P' K' → post 1 (nI n, nI n, A, B, C', P', K')) : wpL_holds post (nI n, nI m, A, B, C, P, K) (nI a) (nI b) :=
  br_c (fun _ => zb_15_w h hm hS ha hb hb H) (fun _ => zb_15_w h hm hS ha hb ha H)
end
end
section
/-! ===== the invariant, and what changes it ===== -/
def zb_I (n m : Nat) (A B C P K : Nat → Int32) : Prop := zb_L n A B ∧ m ≤ n ∧ zb_S m (zb_D A B) (fun j => zb_pt (zb_p A j)) C P K
theorem zb_D_congr {n i : Nat} {A A' B B' : Nat → Int32} (h : zb_L n A B) (hi : i < n) (eA : A' i = A i) (eB : ∀ j, j < i → B' (zb_p A j) = B (zb_p A j)) : zb_D A' B' i = zb_D A B i := by
  have ep : zb_p A' i = zb_p A i := by unfold zb_p; rw [eA]
  unfold zb_D
  rw [ep]
  refine zb_sm_congr 6 (fun p hp => ?_)
  by_cases ht : (zb_p A i).testBit p = true
  · rw [zb_f_t ht, zb_f_t ht]
    by_cases hz : zb_del (zb_p A i) p = 0
    · rw [zb_e_0 hz, zb_e_0 hz]
    · obtain ⟨j, hj, ej⟩ := (h.2.1 i hi).2.2.2.2.2 p hp ht hz
      rw [zb_e_n hz, zb_e_n hz, ← ej, eB j hj]
  · rw [zb_f_f ht, zb_f_f ht]
/-- a place that is taken, a place that is free -/
theorem zb_taken {n q : Nat} {A B : Nat → Int32} (h : zb_L n A B) (hq : q < 64) (hB : ¬ B q < 0) : ∃ i, i < n ∧ zb_p A i = q := by
  rcases h.2.2 q hq with k | k
  · rw [k] at hB
    exact absurd (by decide) hB
  · exact k
theorem zb_free {n q : Nat} {A B : Nat → Int32} (h : zb_L n A B) (hq : q < 64) (hB : B q < 0) : B q = -2 := by
  have hn := h.1
  rcases h.2.2 q hq with k | ⟨i, hi, k⟩
  · exact k
  · have := (h.2.1 i hi).2.2.2.2.1
    rw [k] at this
    rw [this] at hB
    exact absurd hB (nI_pos (by omega))
theorem zb_inj {n i j : Nat} {A B : Nat → Int32} (h : zb_L n A B) (hi : i < n) (hj : j < n) (e : zb_p A i = zb_p A j) : i = j := by
  have hn := h.1
  have e1 := (h.2.1 i hi).2.2.2.2.1
  have e2 := (h.2.1 j hj).2.2.2.2.1
  rw [e, e2] at e1
  exact ((nI_eq (by omega) (by omega)).mp e1).symm
theorem zb_p_us {A : Nat → Int32} {n q : Nat} (hq : q < 64) : zb_p (upd A n (nI q)) n = q := by
  unfold zb_p
  rw [pk_us, nI_clamp (by omega)]
theorem zb_p_un {A : Nat → Int32} {n i : Nat} {x : Int32} (hi : i ≠ n) : zb_p (upd A n x) i = zb_p A i := by
  unfold zb_p
  rw [pk_un hi]
theorem zb_enter_I {n m q : Nat} {A B C P K : Nat → Int32} (h : zb_I n m A B C P K) (hn : n < 26) (h1 : 1 ≤ q) (h2 : q < 64) (h3 : zb_pt q ≤ 4) (hB : B q = -2) (hs : ∀ p, p < 6 → q.testBit p = true → zb_del q p ≠ 0 → ∃ j, j < n ∧ zb_p A j = zb_del q p) : zb_I (n + 1) m (upd A n (nI q)) (upd B q (nI n)) C P K := by
  obtain ⟨hL, hm, hS⟩ := h
  have hne : ∀ i, i < n → zb_p A i ≠ q := by
    intro i hi e
    have := (hL.2.1 i hi).2.2.2.2.1
    rw [e, hB] at this
    exact zb_nI_ne (show i < 2 ^ 31 by omega) this.symm
  have hpi : ∀ i, i < n → zb_p (upd A n (nI q)) i = zb_p A i := fun i hi => zb_p_un (by omega)
  refine ⟨⟨by omega, fun i hi => ?_, fun r hr => ?_⟩, by omega, zb_S_congr hS (fun i hi => ?_) (fun i hi => ?_)⟩
  · by_cases e : i = n
    · subst e
      unfold zb_It
      rw [zb_p_us h2, pk_us, pk_us]
      refine ⟨h1, h2, h3, rfl, rfl, fun p hp ht hz => ?_⟩
      obtain ⟨j, hj, ej⟩ := hs p hp ht hz
      exact ⟨j, hj, by rw [hpi j hj]; exact ej⟩
    · have hi' : i < n := by omega
      obtain ⟨g1, g2, g3, g4, g5, g6⟩ := hL.2.1 i hi'
      unfold zb_It
      rw [hpi i hi', pk_un e, pk_un (hne i hi')]
      refine ⟨g1, g2, g3, g4, g5, fun p hp ht hz => ?_⟩
      obtain ⟨j, hj, ej⟩ := g6 p hp ht hz
      exact ⟨j, hj, by rw [hpi j (by omega)]; exact ej⟩
  · by_cases e : r = q
    · subst e
      exact Or.inr ⟨n, by omega, zb_p_us h2⟩
    · rw [pk_un e]
      rcases hL.2.2 r hr with k | ⟨i, hi, k⟩
      · exact Or.inl k
      · exact Or.inr ⟨i, by omega, by rw [hpi i hi]; exact k⟩
  · exact zb_D_congr hL (by omega) (pk_un (by omega)) (fun j hj => pk_un (hne j (by omega)))
  · show zb_pt (zb_p (upd A n (nI q)) i) = zb_pt (zb_p A i)
    rw [hpi i (by omega)]
theorem zb_undo_I {n m m' : Nat} {A B C P K : Nat → Int32} (h : zb_I (n + 1) m A B C P K) (hm' : m' = 0 ∨ (m' = m ∧ m ≤ n)) : zb_I n m' A (upd B (zb_p A n) (-2)) C P K := by
  obtain ⟨hL, hm, hS⟩ := h
  have hn := hL.1
  have hne : ∀ i, i < n → zb_p A i ≠ zb_p A n := by
    intro i hi e
    have := zb_inj hL (show i < n + 1 by omega) (show n < n + 1 by omega) e
    omega
  refine ⟨⟨by omega, fun i hi => ?_, fun r hr => ?_⟩, by omega, ?_⟩
  · obtain ⟨g1, g2, g3, g4, g5, g6⟩ := hL.2.1 i (by omega)
    refine ⟨g1, g2, g3, g4, ?_, g6⟩
    rw [pk_un (hne i hi)]
    exact g5
  · by_cases e : r = zb_p A n
    · rw [e]
      exact Or.inl pk_us
    · rw [pk_un e]
      rcases hL.2.2 r hr with k | ⟨i, hi, k⟩
      · exact Or.inl k
      · refine Or.inr ⟨i, ?_, k⟩
        have : i ≠ n := fun z => e (by rw [← k, z])
        omega
  · rcases hm' with e | ⟨e, hmn⟩
    · rw [e]
      exact zb_S_0 _ _ _ _ _
    · rw [e]
      exact zb_S_congr hS (fun i hi => zb_D_congr hL (by omega) rfl (fun j hj => pk_un (hne j (by omega)))) (fun i hi => rfl)
/-! ===== the walks that change ===== -/
theorem zb_isPiece_w {post : Int32 → Prop} {x : Int32} (H0 : post 0) (H1 : ∀ q, x = nI q → 1 ≤ q → q < 64 → zb_pt q ≤ 4 → post 1) : wpX_isPiece post () x := by
  refine br_c (fun _ => H0) (fun z1 => br_c (fun _ => H0) (fun z2 => ?_))
  obtain ⟨q, hq, e⟩ := nI_of2 (x := x) (M := 63) (n := 63) (by decide) (fun z => z1 (Int32.lt_trans z (by decide))) (Int32.not_lt.mp z2)
  subst e
  have hq1 : 1 ≤ q := by
    rcases Nat.lt_or_ge q 1 with k | k
    · exact absurd (nI_lt (b := 1) k (by omega)) z1
    · exact k
  have hp := zb_pt_le q
  exact zb_points_w (by omega) (pk_lt 4 (zb_pt q) (fun _ => H0) (fun z => H1 q rfl hq1 (by omega) z))
theorem zb_hasSides_w {post : Int32 → Prop} {c s : Int32} {A B C P K : Nat → Int32} {q : Nat} (hq : q < 64) (H0 : post 0) (H1 : (∀ p, p < 6 → q.testBit p = true → zb_del q p ≠ 0 → 0 ≤ B (zb_del q p)) → post 1) : wpX_hasSides post (c, s, A, B, C, P, K) (nI q) := by
  refine loop_0 (σ := Unit) (fun f p _ => wX_hasSides_2 post (nI q) c s A B C P K f (nI p)) (fun p _ => ∀ r, r < p → q.testBit r = true → zb_del q r ≠ 0 → 0 ≤ B (zb_del q r)) 6 () (fun r hr => absurd hr (by omega)) ?_ ?_
  · intro f _ hI
    exact pk_le 6 6 (fun _ => H1 hI) (fun z => absurd z (by omega))
  · intro f p _ hp hI hw
    have hd := zb_t2 q hq p hp
    refine pk_le 6 p (fun z => absurd z (by omega)) (fun _ => nm_r (zb_t1 q hq p hp) ?_)
    refine pk_eq (zb_del q p) q (fun z => nm_r (nI_1 p) (hw () (fun r hr ht hz => ?_))) (fun z => ?_)
    · by_cases e : r = p
      · subst e
        have := (zb_t3 q hq r hp ht).2
        omega
      · exact hI r (by omega) ht hz
    · refine pk_eq (zb_del q p) 0 (fun z0 => nm_r (nI_1 p) (hw () (fun r hr ht hz => ?_))) (fun z0 => ⟨pk_in _ 64 hd, ?_⟩)
      · by_cases e : r = p
        · subst e
          exact absurd z0 hz
        · exact hI r (by omega) ht hz
      · rw [nI_clamp (by omega)]
        refine br_c (fun k => nm_r (nI_1 p) (hw () (fun r hr ht hz => ?_))) (fun _ => H0)
        by_cases e : r = p
        · subst e
          exact k
        · exact hI r (by omega) ht hz
theorem zb_enter_w {post : St1 → Prop} {s : Int32} {A B C P K : Nat → Int32} {n q : Nat} (hn : n < 26) (hq : q < 64) (H : post (nI (n + 1), s, upd A n (nI q), upd B q (nI n), C, P, K)) : wpX_enter post (nI n, s, A, B, C, P, K) (nI q) := by
  refine ⟨pk_in n 26 hn, ?_⟩
  rw [nI_clamp (by omega), nI_clamp (by omega)]
  exact nm_e ⟨pk_in q 64 hq, nm_e (nm_r (nI_1 n) H)⟩
section
variable {post : Int32 → St1 → Prop} {A B C P K : Nat → Int32} {n m : Nat}
theorem zb_add_w {x : Int32} (h : zb_I n m A B C P K) (H : ∀ r n' m' A' B' C' P' K', zb_I n' m' A' B' C' P' K' → post r (nI n', nI m', A', B', C', P', K')) : wpX_add post (nI n, nI m, A, B, C, P, K) x := by
  have hn := h.1.1
  unfold wpX_add
  dsimp only
  refine zb_isPiece_w ?_ ?_
  · exact br_t rfl (H _ _ _ _ _ _ _ _ h)
  intro q e h1 h2 h3
  refine br_f (by decide) ?_
  subst e
  refine ⟨pk_in q 64 h2, ?_⟩
  rw [nI_clamp (by omega)]
  refine br_c (fun z => zb_hasSides_w h2 (br_t rfl (H _ _ _ _ _ _ _ _ h)) (fun hs => br_f (by decide) (pk_eq n 26 (fun _ => H _ _ _ _ _ _ _ _ h) (fun hn' => zb_enter_w (by omega) h2 ?_)))) (fun _ => H _ _ _ _ _ _ _ _ h)
  refine H _ _ _ _ _ _ _ _ (zb_enter_I h (by omega) h1 h2 h3 (zb_free h.1 h2 z) (fun p hp ht hz => ?_))
  exact zb_taken h.1 (zb_t2 q h2 p hp) (Int32.not_lt.mpr (hs p hp ht hz))
theorem zb_undo_w (h : zb_I n m A B C P K) (H : ∀ r n' m' A' B' C' P' K', zb_I n' m' A' B' C' P' K' → post r (nI n', nI m', A', B', C', P', K')) : wpX_undo post (nI n, nI m, A, B, C, P, K) := by
  have hn := h.1.1
  refine pk_eq n 0 (fun _ => H _ _ _ _ _ _ _ _ h) (fun z => ?_)
  cases n with
  | zero => exact absurd rfl z
  | succ n =>
    have hm := h.2.1
    obtain ⟨g1, g2, g3, g4, g5, g6⟩ := h.1.2.1 n (by omega)
    refine nm_r (nI_pred n) ⟨pk_in n 26 (by omega), ?_⟩
    rw [nI_clamp (by omega), g4]
    refine ⟨pk_in _ 64 g2, ?_⟩
    rw [nI_clamp (by omega)]
    refine nm_e (pk_le m n (fun k => ⟨pk_in n 26 (by omega), H _ n m _ _ _ _ _ (zb_undo_I h (Or.inr ⟨rfl, k⟩))⟩) (fun k => ⟨pk_in n 26 (by omega), H _ n 0 _ _ _ _ _ (zb_undo_I h (Or.inl rfl))⟩))
/-- the fresh parts below k -/
def zb_fr (B : Nat → Int32) (q a : Nat) : Bool := decide (1 ≤ a) && (decide (a &&& q = a) && decide (¬ 0 ≤ B a))
theorem zb_fill65_w {B0 : Nat → Int32} {q : Nat} (h1 : 1 ≤ q) (h2 : q < 64) (h3 : zb_pt q ≤ 4) (h : zb_I n m A B0 C P K) (hc : n + zb_cnt (zb_fr B0 q) (q + 1) ≤ 26) (H : ∀ r n' m' A' B' C' P' K', zb_I n' m' A' B' C' P' K' → post r (nI n', nI m', A', B', C', P', K')) : ∃ fu, wX_fill_65 post (nI q) fu 1 (nI n) (nI m) A B0 C P K := by
  refine pk_loop (fun f i (u : Nat × (Nat → Int32) × (Nat → Int32)) => wX_fill_65 post (nI q) f (nI i) (nI u.1) (nI m) u.2.1 u.2.2 C P K)
    (fun i u => 1 ≤ i ∧ zb_I u.1 m u.2.1 u.2.2 C P K ∧ u.1 + zb_cnt (zb_fr B0 q) (q + 1) ≤ 26 + zb_cnt (zb_fr B0 q) i ∧ (∀ k, i ≤ k → u.2.2 k = B0 k) ∧ (∀ k, 1 ≤ k → k < i → k &&& q = k → ∃ j, j < u.1 ∧ zb_p u.2.1 j = k))
    (q + 1) 1 (n, A, B0) (by omega) ⟨by omega, h, ?_, fun _ _ => rfl, fun k hk1 hk2 => absurd hk2 (by omega)⟩ ?_ ?_
  · show n + zb_cnt (zb_fr B0 q) (q + 1) ≤ 26 + zb_cnt (zb_fr B0 q) 1
    omega
  · intro f u hu
    exact pk_lt q (q + 1) (fun _ => H _ _ _ _ _ _ _ _ hu.2.1) (fun z => absurd z (by omega))
  · intro f i u hi hu hw
    obtain ⟨n', A', B'⟩ := u
    obtain ⟨hi1, hI, hcn, hB, hpr⟩ := hu
    have hI : zb_I n' m A' B' C P K := hI
    have hcn : n' + zb_cnt (zb_fr B0 q) (q + 1) ≤ 26 + zb_cnt (zb_fr B0 q) i := hcn
    have hB : ∀ k, i ≤ k → B' k = B0 k := hB
    have hpr : ∀ k, 1 ≤ k → k < i → k &&& q = k → ∃ j, j < n' ∧ zb_p A' j = k := hpr
    have hn' := hI.1.1
    have g0 := zb_cnt_grow (zb_fr B0 q) (m := i) (i + 1) (by omega)
    have g1 := zb_cnt_grow (zb_fr B0 q) (m := i + 1) (q + 1) (by omega)
    refine pk_lt q i (fun z => absurd z (by omega)) (fun _ => ?_)
    refine ek_if (zb_t8 q h2 i (by omega)) (fun hs => ⟨pk_in i 64 (by omega), ?_⟩) (fun hs => nm_r (nI_1 i) (hw (n', A', B') ⟨by omega, hI, ?_, fun k hk => hB k (by omega), fun k hk1 hk2 hk3 => ?_⟩))
    · show (0 ≤ B' (nI i).toNatClampNeg → _) ∧ _
      rw [nI_clamp (by omega)]
      refine br_c (fun z => nm_r (nI_1 i) (hw (n', A', B') ⟨by omega, hI, ?_, fun k hk => hB k (by omega), fun k hk1 hk2 hk3 => ?_⟩)) (fun z => ?_)
      · show n' + zb_cnt (zb_fr B0 q) (q + 1) ≤ 26 + zb_cnt (zb_fr B0 q) (i + 1)
        omega
      · show ∃ j, j < n' ∧ zb_p A' j = k
        by_cases e : k = i
        · rw [e]
          exact zb_taken hI.1 (by omega) (Int32.not_lt.mpr z)
        · exact hpr k hk1 (by omega) hk3
      · have ef : zb_fr B0 q i = true := by
          unfold zb_fr
          rw [decide_eq_true hi1, decide_eq_true hs, ← hB i (Nat.le_refl i), decide_eq_true z]
          rfl
        have ec : zb_cnt (zb_fr B0 q) (i + 1) = zb_cnt (zb_fr B0 q) i + 1 := by
          show zb_cnt (zb_fr B0 q) i + (zb_fr B0 q i).toNat = _
          rw [ef]
          rfl
        have hlt : n' < 26 := by omega
        have hneg : B' i < 0 := Int32.not_le.mp z
        have hnew : zb_I (n' + 1) m (upd A' n' (nI i)) (upd B' i (nI n')) C P K := by
          refine zb_enter_I hI hlt hi1 (by omega) (Nat.le_trans (zb_t9 q h2 i (by omega) hs) h3) (zb_free hI.1 (by omega) hneg) (fun p hp ht hz => ?_)
          exact hpr _ (by omega) (zb_t3 i (by omega) p hp ht).2 (zb_sub_tr (zb_t10 i (by omega) p hp) hs)
        refine zb_enter_w hlt (by omega) (nm_r (nI_1 i) (hw (n' + 1, upd A' n' (nI i), upd B' i (nI n')) ⟨by omega, hnew, ?_, fun k hk => ?_, fun k hk1 hk2 hk3 => ?_⟩))
        · show n' + 1 + zb_cnt (zb_fr B0 q) (q + 1) ≤ 26 + zb_cnt (zb_fr B0 q) (i + 1)
          omega
        · show upd B' i (nI n') k = B0 k
          rw [pk_un (by omega)]
          exact hB k (by omega)
        · show ∃ j, j < n' + 1 ∧ zb_p (upd A' n' (nI i)) j = k
          by_cases e : k = i
          · rw [e]
            exact ⟨n', by omega, zb_p_us (by omega)⟩
          · obtain ⟨j, hj, ej⟩ := hpr k hk1 (by omega) hk3
            exact ⟨j, by omega, by rw [zb_p_un (by omega)]; exact ej⟩
    · show n' + zb_cnt (zb_fr B0 q) (q + 1) ≤ 26 + zb_cnt (zb_fr B0 q) (i + 1)
      omega
    · show ∃ j, j < n' ∧ zb_p A' j = k
      by_cases e : k = i
      · rw [e] at hk3
        exact absurd hk3 hs
      · exact hpr k hk1 (by omega) hk3
theorem zb_fill_w {x : Int32} (h : zb_I n m A B C P K) (H : ∀ r n' m' A' B' C' P' K', zb_I n' m' A' B' C' P' K' → post r (nI n', nI m', A', B', C', P', K')) : wpX_fill post (nI n, nI m, A, B, C, P, K) x := by
  have hn := h.1.1
  unfold wpX_fill
  dsimp only
  refine zb_isPiece_w ?_ ?_
  · exact br_t rfl (H _ _ _ _ _ _ _ _ h)
  intro q e h1 h2 h3
  refine br_f (by decide) ?_
  subst e
  refine pk_loop (fun f i x => wX_fill_13 post (nI q) (nI n) (nI m) A B C P K f x (nI i)) (fun i x => 1 ≤ i ∧ x = nI (zb_cnt (zb_fr B q) i)) (q + 1) 1 0 (by omega) ⟨by omega, rfl⟩ ?_ ?_
  · intro f x hx
    have hc := zb_cnt_le (zb_fr B q) (q + 1)
    refine pk_lt q (q + 1) (fun _ => ?_) (fun z => absurd z (by omega))
    rw [hx.2]
    exact pk_le (n + zb_cnt (zb_fr B q) (q + 1)) 26 (fun z => zb_fill65_w h1 h2 h3 h z H) (fun _ => H _ _ _ _ _ _ _ _ h) (nI_add _ _)
  · intro f i x hi hx hw
    obtain ⟨hi1, hx⟩ := hx
    refine pk_lt q i (fun z => absurd z (by omega)) (fun _ => ?_)
    refine ek_if (zb_t8 q h2 i (by omega)) (fun hs => ⟨pk_in i 64 (by omega), ?_⟩) (fun hs => nm_r (Int32.add_zero x) (nm_r (nI_1 i) (hw x ⟨by omega, ?_⟩)))
    · rw [nI_clamp (by omega)]
      refine br_c (fun z => nm_r (Int32.add_zero x) (nm_r (nI_1 i) (hw x ⟨by omega, ?_⟩))) (fun z => nm_e (nm_r (nI_1 i) (hw _ ⟨by omega, ?_⟩)))
      · have ef : zb_fr B q i = false := by
          unfold zb_fr
          rw [decide_eq_false (show ¬ ¬ 0 ≤ B i from fun y => y z), Bool.and_false, Bool.and_false]
        show x = nI (zb_cnt (zb_fr B q) i + (zb_fr B q i).toNat)
        rw [ef]
        exact hx
      · have ef : zb_fr B q i = true := by
          unfold zb_fr
          rw [decide_eq_true hi1, decide_eq_true hs, decide_eq_true z]
          rfl
        show x + 1 = nI (zb_cnt (zb_fr B q) i + (zb_fr B q i).toNat)
        rw [ef, hx]
        exact nI_1 _
    · have ef : zb_fr B q i = false := by
        unfold zb_fr
        rw [decide_eq_false hs, Bool.false_and, Bool.and_false]
      show x = nI (zb_cnt (zb_fr B q) i + (zb_fr B q i).toNat)
      rw [ef]
      exact hx
end
end
section
/-! ===== the law ===== -/
theorem zb_size_w {post : Int32 → Prop} {c s : Int32} {A B C P K : Nat → Int32} (H : post c) : wpX_size post (c, s, A, B, C, P, K) := H
theorem zb_cell_w {post : Int32 → Prop} {L k : Nat} {xs : Nat → Int32} (hL : L < 2 ^ 31) (hk : k < 2 ^ 31) (H : ∀ v, post v) : wpL_cell post L xs () (nI k) :=
  pk_le L k (fun _ => H 0) (fun z => ⟨pk_in k L z, H _⟩)
theorem zb_151_w {L k n m kc ks : Nat} {xs : Nat → Int32} {A B C P K : Nat → Int32} {c : Int32} {J : Int32 → Int32 → Int32 → (Nat → Int32) → (Nat → Int32) → (Nat → Int32) → (Nat → Int32) → (Nat → Int32) → Prop} (h : zb_I n m A B C P K) (H : ∀ n' m' A' B' C' P' K', zb_I n' m' A' B' C' P' K' → J (nI (k + 2)) (nI n') (nI m') A' B' C' P' K') : wL_law_151 (fun r => r = 1) L xs J (nI k) c kc ks (nI n) (nI m) A B C P K := by
  have e2 : nI k + 2 = nI (k + 2) := nI_add k 2
  refine br_c (fun _ => ?_) (fun _ => nm_r e2 (H _ _ _ _ _ _ _ h))
  obtain ⟨i, hi, ei⟩ := pk_andE (c >>> ((7 : Int32) &&& 31)) (m := 31) 5 (by decide)
  obtain ⟨j, hj, ej⟩ := pk_andE (c >>> ((12 : Int32) &&& 31)) (m := 31) 5 (by decide)
  rw [ei, ej]
  refine zb_holds_w h.1 h.2.1 h.2.2 (by omega) (by omega) (fun C' P' K' hS => br_f (by decide) (nm_r e2 (H _ _ _ _ _ _ _ ⟨h.1, Nat.le_refl n, hS⟩)))
theorem zb_law_w {L kc ks : Nat} {xs : Nat → Int32} (hL : L ≤ 260) : ∀ c k n m A B C P K, zb_I n m A B C P K → k ≤ 262 → L ≤ k + c → wL_law_10 (fun r => r = 1) L xs kc ks (c + 1) (nI k) (nI n) (nI m) A B C P K := by
  intro c
  induction c with
  | zero =>
    intro k n m A B C P K h hk hc
    have hn := h.1.1
    exact pk_le L k (fun _ => zb_size_w (zb_holds_w h.1 h.2.1 h.2.2 (by omega) (by omega) (fun _ _ _ _ => rfl))) (fun z => absurd z (by omega))
  | succ c ih =>
    intro k n m A B C P K h hk hc
    have hn := h.1.1
    refine pk_le L k (fun _ => zb_size_w (zb_holds_w h.1 h.2.1 h.2.2 (by omega) (by omega) (fun _ _ _ _ => rfl))) (fun z => ?_)
    refine zb_cell_w (by omega) (by omega) (fun v => ?_)
    rw [nI_1]
    refine zb_cell_w (by omega) (by omega) (fun w => nm_e ?_)
    have T : ∀ (r : Int32) n' m' A' B' C' P' K', zb_I n' m' A' B' C' P' K' → wL_law_151 (fun r => r = 1) L xs (wL_law_10 (fun r => r = 1) L xs kc ks (c + 1)) (nI k) v kc ks (nI n') (nI m') A' B' C' P' K' := fun _ n' m' A' B' C' P' K' h' => zb_151_w h' (fun n2 m2 A2 B2 C2 P2 K2 h2 => ih (k + 2) n2 m2 A2 B2 C2 P2 K2 h2 (by omega) (by omega))
    refine br_c (fun _ => br_c (fun _ => br_c (fun _ => br_c (fun _ => zb_undo_w h T) (fun _ => zb_fill_w h T)) (fun _ => ⟨by decide, by decide, zb_add_w h T⟩)) (fun _ => ⟨by decide, zb_add_w h T⟩)) (fun _ => zb_add_w h T)
theorem zb_init_w {post : St1 → Prop} {mc ms : Nat} (h1 : 5 ≤ mc) (h2 : 168 ≤ ms) (H : ∀ B, (∀ j, j < 64 → B j = -2) → post (0, 0, (fun _ => 0), B, (fun _ => 0), (fun _ => 0), (fun _ => 0))) : wpX_init post mc ms (0, 0) := by
  refine ⟨by omega, by omega, by omega, by omega, by omega, by omega, by omega, by omega, by omega, by omega, ?_⟩
  refine loop_0 (fun f i B => wX_init_46 post mc ms 5 168 0 0 f (nI i) (fun _ => 0) B (fun _ => 0) (fun _ => 0) (fun _ => 0)) (fun i B => ∀ j, j < i → B j = -2) 64 (fun _ => 0) (fun j hj => absurd hj (by omega)) ?_ ?_
  · intro f B hB
    exact pk_le 64 64 (fun _ => H B hB) (fun z => absurd z (by omega))
  · intro f i B hi hB hw
    refine pk_le 64 i (fun z => absurd z (by omega)) (fun _ => ⟨pk_in i 64 hi, ?_⟩)
    rw [nI_clamp (by omega)]
    refine nm_e (nm_r (nI_1 i) (hw _ (fun j hj => ?_)))
    by_cases e : j = i
    · rw [e, pk_us]
    · rw [pk_un e]
      exact hB j (by omega)
theorem i_vc (xs : Nat → Int32) (L : Nat) (hL : L ≤ 260) : wpL_law (fun r => r = 1) L xs := by
  refine ⟨5, 168, by decide, by decide, zb_init_w (by omega) (by omega) (fun B hB => ⟨L + 1, ?_⟩)⟩
  have h0 : zb_I 0 0 (fun _ => 0) B (fun _ => 0) (fun _ => 0) (fun _ => 0) := ⟨⟨by omega, fun i hi => absurd hi (by omega), fun q hq => Or.inl (hB q hq)⟩, by omega, zb_S_0 _ _ _ _ _⟩
  exact zb_law_w hL L 0 0 0 _ _ _ _ _ h0 (by omega) (by omega)
end
