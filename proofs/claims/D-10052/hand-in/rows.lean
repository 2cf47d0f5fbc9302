section
theorem wb_tb (n : Nat) : (lN n).toBitVec = BitVec.ofNat 64 n := rfl
theorem wb_inj {a b : Int64} (h : a.toBitVec = b.toBitVec) : a = b := Int64.toBitVec_inj.mp h
theorem wb_tn {n : Nat} (h : n < 2 ^ 64) : (lN n).toBitVec.toNat = n := by rw [wb_tb, BitVec.toNat_ofNat, Nat.mod_eq_of_lt h]
theorem wb_of (x : Int64) : ∃ n, n < 2 ^ 64 ∧ x = lN n := ⟨x.toBitVec.toNat, x.toBitVec.isLt, wb_inj (by rw [wb_tb]; simp)⟩
theorem wb_of32 (x : Int32) : ∃ n, n < 2 ^ 32 ∧ x = nI n := ⟨x.toBitVec.toNat, x.toBitVec.isLt, Int32.toBitVec_inj.mp (by show _ = BitVec.ofNat 32 _; simp)⟩
theorem wb_c : ∀ k, k < 64 → ((nI k).toInt64 &&& 63) = lN k := by decide +kernel
theorem wb_cu : ∀ k, k < 64 → ((nI k).toInt64.toUInt64 &&& Int64.toUInt64 63) = UInt64.ofNat k := by decide +kernel
theorem wb_sm : ∀ k, k < 64 → (BitVec.ofNat 64 k).smod 64 = BitVec.ofNat 64 k := by decide +kernel
theorem wb_lt2 {a b : Nat} (h : a < b) : 2 ^ a < 2 ^ b := Nat.pow_lt_pow_right (by decide) h
theorem wb_mod (n : Nat) : lN n = lN (n % 2 ^ 64) := wb_inj (by rw [wb_tb, wb_tb]; apply BitVec.eq_of_toNat_eq; rw [BitVec.toNat_ofNat, BitVec.toNat_ofNat, Nat.mod_mod])
theorem wb_shr {n k : Nat} (hn : n < 2 ^ 64) (hk : k < 64) : ((lN n).toUInt64 >>> ((nI k).toInt64.toUInt64 &&& Int64.toUInt64 63)).toInt64 = lN (n / 2 ^ k) := by
  rw [wb_cu k hk]
  apply wb_inj
  apply BitVec.eq_of_toNat_eq
  show ((lN n).toUInt64 >>> UInt64.ofNat k).toNat = (BitVec.ofNat 64 _).toNat
  have h1 : (UInt64.ofNat k).toNat = k := by
    show (BitVec.ofNat 64 k).toNat = k
    rw [BitVec.toNat_ofNat, Nat.mod_eq_of_lt (by omega)]
  have h2 : (lN n).toUInt64.toNat = n := wb_tn hn
  rw [UInt64.toNat_shiftRight, h1, h2, Nat.mod_eq_of_lt hk, Nat.shiftRight_eq_div_pow, BitVec.toNat_ofNat, Nat.mod_eq_of_lt (Nat.lt_of_le_of_lt (Nat.div_le_self _ _) hn)]
theorem wb_shl (n : Nat) {k : Nat} (hk : k < 64) : lN n <<< ((nI k).toInt64 &&& 63) = lN (n * 2 ^ k) := by
  rw [wb_c k hk]
  apply wb_inj
  rw [Int64.toBitVec_shiftLeft, wb_tb, wb_tb, wb_tb, wb_sm k hk]
  apply BitVec.eq_of_toNat_eq
  rw [BitVec.shiftLeft_eq', BitVec.toNat_shiftLeft, BitVec.toNat_ofNat, BitVec.toNat_ofNat, BitVec.toNat_ofNat, Nat.mod_eq_of_lt (show k < 2 ^ 64 by omega), Nat.shiftLeft_eq, Nat.mul_mod, Nat.mod_mod, ← Nat.mul_mod]
theorem wb_and {a b : Nat} (ha : a < 2 ^ 64) (hb : b < 2 ^ 64) : lN a &&& lN b = lN (a &&& b) := by
  apply wb_inj
  rw [Int64.toBitVec_and, wb_tb, wb_tb, wb_tb]
  apply BitVec.eq_of_toNat_eq
  rw [BitVec.toNat_and, BitVec.toNat_ofNat, BitVec.toNat_ofNat, BitVec.toNat_ofNat, Nat.mod_eq_of_lt ha, Nat.mod_eq_of_lt hb, Nat.mod_eq_of_lt (Nat.and_lt_two_pow _ hb)]
/-! ===== a long as a set of worlds ===== -/
/-- bit w of a long -/
def be_b (x : Int64) (w : Nat) : Bool := x.toBitVec.getLsbD w
theorem be_ext {x y : Int64} (h : ∀ w, w < 64 → be_b x w = be_b y w) : x = y :=
  Int64.toBitVec_inj.mp (BitVec.eq_of_getLsbD_eq (fun i hi => h i hi))
theorem be_and (x y : Int64) (w : Nat) : be_b (x &&& y) w = (be_b x w && be_b y w) := by
  unfold be_b
  rw [Int64.toBitVec_and, BitVec.getLsbD_and]
theorem be_or (x y : Int64) (w : Nat) : be_b (x ||| y) w = (be_b x w || be_b y w) := by
  unfold be_b
  rw [Int64.toBitVec_or, BitVec.getLsbD_or]
theorem be_xor (x y : Int64) (w : Nat) : be_b (x ^^^ y) w = (be_b x w ^^ be_b y w) := by
  unfold be_b
  rw [Int64.toBitVec_xor, BitVec.getLsbD_xor]
theorem be_not (x : Int64) {w : Nat} (hw : w < 64) : be_b (x ^^^ (-1)) w = !(be_b x w) := by
  have ha : (-1 : Int64).toBitVec = BitVec.allOnes 64 := by decide
  unfold be_b
  rw [Int64.toBitVec_xor, ha, BitVec.getLsbD_xor, BitVec.getLsbD_allOnes]
  simp [hw]
theorem be_0 (w : Nat) : be_b 0 w = false := by
  unfold be_b
  show (0#64).getLsbD w = false
  exact BitVec.getLsbD_zero
theorem be_1 (w : Nat) : be_b 1 w = decide (w = 0) := by
  unfold be_b
  show (1#64).getLsbD w = _
  rw [BitVec.getLsbD_one]
  simp
theorem be_big (x : Int64) {w : Nat} (h : 64 ≤ w) : be_b x w = false := BitVec.getLsbD_of_ge _ _ h
theorem be_shl (x : Int64) {k w : Nat} (hk : k < 64) (hw : w < 64) : be_b (x <<< ((nI k).toInt64 &&& 63)) w = (decide (k ≤ w) && be_b x (w - k)) := by
  unfold be_b
  rw [wb_c k hk, Int64.toBitVec_shiftLeft, wb_tb, wb_sm k hk, BitVec.shiftLeft_eq', BitVec.toNat_ofNat, Nat.mod_eq_of_lt (show k < 2 ^ 64 by omega), BitVec.getLsbD_shiftLeft]
  by_cases h : k ≤ w
  · simp [hw, h, Nat.not_lt.mpr h]
  · simp [h, Nat.lt_of_not_le h]
theorem be_shr (x : Int64) {k : Nat} (hk : k < 64) (w : Nat) : be_b ((x.toUInt64 >>> ((nI k).toInt64.toUInt64 &&& Int64.toUInt64 63)).toInt64) w = be_b x (k + w) := by
  have e : ((x.toUInt64 >>> ((nI k).toInt64.toUInt64 &&& Int64.toUInt64 63)).toInt64).toBitVec = x.toBitVec >>> k := by
    rw [wb_cu k hk]
    apply BitVec.eq_of_toNat_eq
    show (x.toUInt64 >>> UInt64.ofNat k).toNat = _
    have h1 : (UInt64.ofNat k).toNat = k := by
      show (BitVec.ofNat 64 k).toNat = k
      rw [BitVec.toNat_ofNat, Nat.mod_eq_of_lt (by omega)]
    rw [UInt64.toNat_shiftRight, h1, Nat.mod_eq_of_lt hk, BitVec.toNat_ushiftRight]
    rfl
  unfold be_b
  rw [e, BitVec.getLsbD_ushiftRight]
theorem be_ne0 {x : Int64} {w : Nat} (h : be_b x w = true) : x ≠ 0 := by
  intro e
  rw [e, be_0] at h
  exact absurd h (by decide)
theorem be_mem {x : Int64} (h : ¬ x = 0) : ∃ w, w < 64 ∧ be_b x w = true := by
  refine Classical.byContradiction (fun hc => h (be_ext (fun w hw => ?_)))
  rw [be_0]
  cases e : be_b x w
  · rfl
  · exact absurd ⟨w, hw, e⟩ hc
/-- the bit that has asks for -/
theorem be_has (s : Int64) {w : Nat} (hw : w < 64) : (((s.toUInt64 >>> ((nI w).toInt64.toUInt64 &&& Int64.toUInt64 63)).toInt64) &&& 1) = 1 ↔ be_b s w = true := by
  constructor
  · intro h
    have t := congrArg (fun x => be_b x 0) h
    rw [be_and, be_shr s hw, be_1] at t
    simpa using t
  · intro h
    refine be_ext (fun j _ => ?_)
    rw [be_and, be_shr s hw, be_1]
    by_cases e : j = 0
    · subst e
      rw [Nat.add_zero, h]
      rfl
    · simp [e]
/-- the six masks -/
def be_z : Nat → Int64
  | 0 => 6148914691236517205
  | 1 => 3689348814741910323
  | 2 => 1085102592571150095
  | 3 => 71777214294589695
  | 4 => 281470681808895
  | _ => 4294967295
theorem be_zb : ∀ v, v < 6 → ∀ w, w < 64 → be_b (be_z v) w = !(Nat.testBit w v) := by decide +kernel
theorem be_fl0 : ∀ v, v < 6 → ∀ w, w < 64 → Nat.testBit w v = false → (w + 2 ^ v = w ^^^ 2 ^ v ∧ (2 ^ v ≤ w → Nat.testBit (w - 2 ^ v) v = true)) := by decide +kernel
theorem be_fl1 : ∀ v, v < 6 → ∀ w, w < 64 → Nat.testBit w v = true → (2 ^ v ≤ w ∧ w - 2 ^ v = w ^^^ 2 ^ v ∧ Nat.testBit (w - 2 ^ v) v = false) := by decide +kernel
theorem be_xg : ∀ n, n < 7 → ∀ v, v < n → ∀ w, w < 64 → 2 ^ n ≤ w → 2 ^ n ≤ w ^^^ 2 ^ v := by decide +kernel
theorem be_xl : ∀ n, n < 7 → ∀ v, v < n → ∀ w, w < 2 ^ n → w ^^^ 2 ^ v < 2 ^ n := by decide +kernel
theorem be_xd : ∀ v, v < 6 → ∀ w, w < 64 → (w ^^^ 2 ^ v) / 2 ^ v = if w / 2 ^ v % 2 = 0 then w / 2 ^ v + 1 else w / 2 ^ v - 1 := by decide +kernel
theorem be_p6 : ∀ v, v < 6 → 2 ^ v < 64 := by decide
theorem be_p7 : ∀ n, n < 7 → 2 ^ n ≤ 64 := by decide
theorem be_one : ∀ v, v < 31 → (1 : Int32) <<< (nI v &&& 31) = nI (2 ^ v) := by decide +kernel
/-- every world of s with the value of v changed -/
def be_sw (s : Int64) (v : Nat) : Int64 := ((s &&& be_z v) <<< ((nI (2 ^ v)).toInt64 &&& 63)) ||| (((s.toUInt64 >>> ((nI (2 ^ v)).toInt64.toUInt64 &&& Int64.toUInt64 63)).toInt64) &&& be_z v)
theorem be_swb (s : Int64) {v w : Nat} (hv : v < 6) (hw : w < 64) : be_b (be_sw s v) w = be_b s (w ^^^ 2 ^ v) := by
  have hp := be_p6 v hv
  unfold be_sw
  rw [be_or, be_shl _ hp hw, be_and, be_and, be_shr _ hp, be_zb v hv w hw]
  cases hb : Nat.testBit w v
  · obtain ⟨h1, h2⟩ := be_fl0 v hv w hw hb
    by_cases h : 2 ^ v ≤ w
    · rw [be_zb v hv (w - 2 ^ v) (Nat.lt_of_le_of_lt (Nat.sub_le _ _) hw), h2 h, Nat.add_comm, h1]
      simp
    · rw [Nat.add_comm, h1]
      simp [h]
  · obtain ⟨h1, h2, h3⟩ := be_fl1 v hv w hw hb
    rw [be_zb v hv (w - 2 ^ v) (Nat.lt_of_le_of_lt (Nat.sub_le _ _) hw), h3, h2]
    simp [h1]
/-- no world at or above 2^n -/
def be_S (n : Nat) (x : Int64) : Prop := ∀ w, w < 64 → 2 ^ n ≤ w → be_b x w = false
def be_le (x y : Int64) : Prop := ∀ w, w < 64 → be_b x w = true → be_b y w = true
theorem be_le_rfl (x : Int64) : be_le x x := fun _ _ h => h
theorem be_le_tr {x y z : Int64} (h : be_le x y) (g : be_le y z) : be_le x z := fun w hw t => g w hw (h w hw t)
theorem be_le_or1 (x y : Int64) : be_le x (x ||| y) := fun w _ h => by rw [be_or, h]; rfl
theorem be_le_or2 (x y : Int64) : be_le y (x ||| y) := fun w _ h => by rw [be_or, h, Bool.or_true]
theorem be_le_and1 (x y : Int64) : be_le (x &&& y) x := fun w _ h => by rw [be_and] at h; exact (Bool.and_eq_true_iff.mp h).1
theorem be_le_and2 (x y : Int64) : be_le (x &&& y) y := fun w _ h => by rw [be_and] at h; exact (Bool.and_eq_true_iff.mp h).2
theorem be_le_S {n : Nat} {x y : Int64} (h : be_le x y) (hy : be_S n y) : be_S n x := by
  intro w hw hn
  cases e : be_b x w
  · rfl
  · have t := h w hw e
    rw [hy w hw hn] at t
    exact absurd t (by decide)
theorem be_le_0 {x : Int64} (h : be_le x 0) : x = 0 := by
  refine be_ext (fun w hw => ?_)
  rw [be_0]
  cases e : be_b x w
  · rfl
  · have t := h w hw e
    rw [be_0] at t
    exact absurd t (by decide)
theorem be_le_not {x y : Int64} (h : be_le x y) : x &&& (y ^^^ (-1)) = 0 := by
  refine be_ext (fun w hw => ?_)
  rw [be_0, be_and, be_not y hw]
  cases e : be_b x w
  · rfl
  · rw [h w hw e]
    rfl
theorem be_S_0 (n : Nat) : be_S n 0 := fun w _ _ => be_0 w
theorem be_S_or {n : Nat} {x y : Int64} (hx : be_S n x) (hy : be_S n y) : be_S n (x ||| y) := fun w hw h => by rw [be_or, hx w hw h, hy w hw h]; rfl
theorem be_S_xor {n : Nat} {x y : Int64} (hx : be_S n x) (hy : be_S n y) : be_S n (x ^^^ y) := fun w hw h => by rw [be_xor, hx w hw h, hy w hw h]; rfl
theorem be_S_and1 {n : Nat} {x : Int64} (y : Int64) (hx : be_S n x) : be_S n (x &&& y) := be_le_S (be_le_and1 x y) hx
theorem be_S_and2 {n : Nat} (x : Int64) {y : Int64} (hy : be_S n y) : be_S n (x &&& y) := be_le_S (be_le_and2 x y) hy
theorem be_S_sw {n v : Nat} {x : Int64} (hn : n < 7) (hv : v < n) (hx : be_S n x) : be_S n (be_sw x v) := by
  intro w hw h
  rw [be_swb x (by omega) hw]
  have g := be_xg n hn v hv w hw h
  by_cases e : w ^^^ 2 ^ v < 64
  · exact hx _ e g
  · exact be_big x (by omega)
theorem be_S_mem {n w : Nat} {x : Int64} (hx : be_S n x) (hw : w < 64) (h : be_b x w = true) : w < 2 ^ n := by
  rcases Nat.lt_or_ge w (2 ^ n) with z | z
  · exact z
  · rw [hx w hw z] at h
    exact absurd h (by decide)
/-- all worlds -/
def be_all (n : Nat) : Int64 := if n = 6 then (-1) else ((1 : Int64) <<< ((nI (2 ^ n)).toInt64 &&& 63)) - 1
theorem be_allb : ∀ n, n < 7 → ∀ w, w < 64 → 2 ^ n ≤ w → be_b (be_all n) w = false := by decide +kernel
theorem be_S_all {n : Nat} (hn : n < 7) : be_S n (be_all n) := be_allb n hn
/-- one growth step: what agrees with w0 from bit k + 1 on -/
theorem be_grow {n k w0 : Nat} {g g' : Int64} (hn : n < 7) (hk : k < n) (h : ∀ w, w < 2 ^ n → w / 2 ^ k = w0 / 2 ^ k → be_b g w = true) (h1 : be_le g g') (h2 : be_le (be_sw g k) g') :
    ∀ w, w < 2 ^ n → w / 2 ^ (k + 1) = w0 / 2 ^ (k + 1) → be_b g' w = true := by
  intro w hw e
  have hp := be_p7 n hn
  have hw6 : w < 64 := by omega
  rw [Nat.pow_succ, ← Nat.div_div_eq_div_mul, ← Nat.div_div_eq_div_mul] at e
  by_cases c : w / 2 ^ k = w0 / 2 ^ k
  · exact h1 w hw6 (h w hw c)
  · refine h2 w hw6 ?_
    rw [be_swb g (by omega) hw6]
    refine h _ (be_xl n hn k hk w hw) ?_
    rw [be_xd k (by omega) w hw6]
    generalize w / 2 ^ k = x at *
    generalize w0 / 2 ^ k = y at *
    by_cases p : x % 2 = 0
    · rw [if_pos p]
      omega
    · rw [if_neg p]
      omega
/-- the law's loops over the 64 worlds: bits below i are those of s -/
def be_I (s : Int64) (i : Nat) (x : Int64) : Prop := ∀ j, j < 64 → be_b x j = (decide (j < i) && be_b s j)
theorem be_I0 (s : Int64) : be_I s 0 0 := fun j _ => by rw [be_0]; simp
theorem be_I64 {s x : Int64} (h : be_I s 64 x) : x = s := be_ext (fun w hw => by rw [h w hw]; simp [hw])
theorem be_It {s x : Int64} {i : Nat} (h : be_I s i x) (hi : i < 64) (hb : be_b s i = true) : be_I s (i + 1) (x ||| ((1 : Int64) <<< ((nI i).toInt64 &&& 63))) := by
  intro j hj
  rw [be_or, h j hj, be_shl 1 hi hj, be_1]
  rcases Nat.lt_trichotomy j i with c | c | c
  · simp [c, show ¬ i ≤ j by omega, show j < i + 1 by omega]
  · subst c
    simp [hb]
  · simp [show ¬ j < i by omega, show ¬ j < i + 1 by omega, show ¬ j - i = 0 by omega]
theorem be_If {s x : Int64} {i : Nat} (h : be_I s i x) (hi : i < 64) (hb : be_b s i = false) : be_I s (i + 1) x := by
  intro j hj
  rw [h j hj]
  by_cases c : j = i
  · subst c
    simp [hb]
  · by_cases d : j < i
    · simp [d, show j < i + 1 by omega]
    · simp [d, show ¬ j < i + 1 by omega]
end
section
/-! ===== the count of bits, byte by byte, over the naturals ===== -/
def be_v : List Nat → Nat
  | [] => 0
  | b :: l => b + 256 * be_v l
theorem be_a8 (a m M : Nat) (hm : m < 256) : a &&& (m + 256 * M) = ((a % 256) &&& m) + 256 * ((a / 256) &&& M) := by
  have h1 : (a &&& (m + 256 * M)) % 2 ^ 8 = (a % 2 ^ 8) &&& ((m + 256 * M) % 2 ^ 8) := Nat.and_mod_two_pow
  have h2 : (a &&& (m + 256 * M)) / 2 ^ 8 = (a / 2 ^ 8) &&& ((m + 256 * M) / 2 ^ 8) := Nat.and_div_two_pow
  rw [show (m + 256 * M) % 2 ^ 8 = m by omega] at h1
  rw [show (m + 256 * M) / 2 ^ 8 = M by omega] at h2
  have h3 := Nat.mod_add_div (a &&& (m + 256 * M)) (2 ^ 8)
  rw [h1, h2] at h3
  exact h3.symm
theorem be_md (X Y : Nat) (h : X < 256) : (X + 256 * Y) % 256 = X ∧ (X + 256 * Y) / 256 = Y := by omega
/-- shift by s and mask, byte by byte -/
theorem be_sm (s p m : Nat) (hs : s * p = 256) (hp : 0 < s) (hm : m < 256) (h : ∀ b, b < 256 → ∀ r, r < s → (b / s + p * r) &&& m = (b / s) &&& m) :
    ∀ l : List Nat, (∀ b, b ∈ l → b < 256) → (be_v l / s) &&& be_v (l.map (fun _ => m)) = be_v (l.map (fun b => (b / s) &&& m)) := by
  intro l
  induction l with
  | nil =>
    intro _
    show (0 / s) &&& 0 = 0
    rw [Nat.and_zero]
  | cons b t ih =>
    intro hb
    have i := ih (fun c hc => hb c (List.mem_cons_of_mem _ hc))
    have hb0 := hb b List.mem_cons_self
    show ((b + 256 * be_v t) / s) &&& (m + 256 * be_v (t.map (fun _ => m))) = ((b / s) &&& m) + 256 * be_v (t.map (fun b => (b / s) &&& m))
    have e1 : (b + 256 * be_v t) / s = b / s + p * be_v t := by
      rw [← hs, Nat.mul_assoc, Nat.add_mul_div_left _ _ hp]
    have hbs : b / s < p := by
      rw [Nat.div_lt_iff_lt_mul hp, Nat.mul_comm, hs]
      exact hb0
    have e2 : be_v t = be_v t % s + s * (be_v t / s) := (Nat.mod_add_div _ _).symm
    have hr : be_v t % s < s := Nat.mod_lt _ hp
    have e3 : b / s + p * be_v t = (b / s + p * (be_v t % s)) + 256 * (be_v t / s) := by
      have e4 : p * be_v t = p * (be_v t % s) + p * (s * (be_v t / s)) := by
        rw [← Nat.mul_add, ← e2]
      rw [e4, ← Nat.mul_assoc, Nat.mul_comm p s, hs, Nat.add_assoc]
    have e5 : b / s + p * (be_v t % s) < 256 := by
      have q1 : p * (be_v t % s + 1) ≤ p * s := Nat.mul_le_mul_left p hr
      rw [Nat.mul_comm p s, hs, Nat.mul_add, Nat.mul_one] at q1
      omega
    rw [e1, e3, be_a8 _ _ _ hm]
    rw [(be_md _ (be_v t / s) e5).1, (be_md _ (be_v t / s) e5).2, h b hb0 _ hr, i]
theorem be_vadd (f g : Nat → Nat) : ∀ l : List Nat, be_v (l.map f) + be_v (l.map g) = be_v (l.map (fun b => f b + g b)) := by
  intro l
  induction l with
  | nil => rfl
  | cons b t ih =>
    show (f b + 256 * be_v (t.map f)) + (g b + 256 * be_v (t.map g)) = (f b + g b) + 256 * be_v (t.map (fun b => f b + g b))
    omega
theorem be_vsub (f : Nat → Nat) : ∀ l : List Nat, (∀ b, b ∈ l → f b ≤ b) → be_v (l.map (fun b => b - f b)) + be_v (l.map f) = be_v l := by
  intro l
  induction l with
  | nil => intro _; rfl
  | cons b t ih =>
    intro h
    have i := ih (fun c hc => h c (List.mem_cons_of_mem _ hc))
    have h0 := h b List.mem_cons_self
    show ((b - f b) + 256 * be_v (t.map (fun b => b - f b))) + (f b + 256 * be_v (t.map f)) = b + 256 * be_v t
    omega
theorem be_v16 : ∀ l : List Nat, (∀ c, c ∈ l → c % 16 ≤ 4 ∧ c / 16 ≤ 4) → be_v l % 16 ≤ 4 := by
  intro l h
  cases l with
  | nil => exact Nat.zero_le _
  | cons c t =>
    have h0 := (h c List.mem_cons_self).1
    show (c + 256 * be_v t) % 16 ≤ 4
    omega
theorem be_nib : ∀ l : List Nat, (∀ c, c ∈ l → c % 16 ≤ 4 ∧ c / 16 ≤ 4) → (be_v l + be_v l / 16) &&& be_v (l.map (fun _ => 15)) = be_v (l.map (fun c => (c + c / 16) &&& 15)) := by
  intro l
  induction l with
  | nil =>
    intro _
    rfl
  | cons c t ih =>
    intro h
    have ht := fun c hc => h c (List.mem_cons_of_mem _ hc)
    have i := ih ht
    have h0 := h c List.mem_cons_self
    have h1 := be_v16 t ht
    show ((c + 256 * be_v t) + (c + 256 * be_v t) / 16) &&& (15 + 256 * be_v (t.map (fun _ => 15))) = ((c + c / 16) &&& 15) + 256 * be_v (t.map (fun c => (c + c / 16) &&& 15))
    rw [be_a8 _ _ _ (by decide)]
    rw [show ((c + 256 * be_v t) + (c + 256 * be_v t) / 16) / 256 = be_v t + be_v t / 16 by omega, i,
      show ((c + 256 * be_v t) + (c + 256 * be_v t) / 16) % 256 = (c + c / 16) + 16 * (be_v t % 16) by omega]
    have q1 : ((c + c / 16) + 16 * (be_v t % 16)) &&& 15 = ((c + c / 16) + 16 * (be_v t % 16)) % 2 ^ 4 := Nat.and_two_pow_sub_one_eq_mod _ 4
    have q2 : (c + c / 16) &&& 15 = (c + c / 16) % 2 ^ 4 := Nat.and_two_pow_sub_one_eq_mod _ 4
    rw [q1, q2]
    omega
def be_f1 (b : Nat) : Nat := b - ((b / 2) &&& 85)
def be_f2 (b : Nat) : Nat := (be_f1 b &&& 51) + ((be_f1 b / 4) &&& 51)
def be_f3 (b : Nat) : Nat := (be_f2 b + be_f2 b / 16) &&& 15
theorem be_f : ∀ b, b < 256 → ((b / 2) &&& 85) ≤ b ∧ be_f1 b < 256 ∧ be_f2 b % 16 ≤ 4 ∧ be_f2 b / 16 ≤ 4 ∧ be_f3 b ≤ 8 ∧ (be_f3 b = 0 ↔ b = 0) := by decide +kernel
theorem be_m1 : ∀ b, b < 256 → ∀ r, r < 2 → (b / 2 + 128 * r) &&& 85 = (b / 2) &&& 85 := by decide +kernel
theorem be_m2 : ∀ b, b < 256 → ∀ r, r < 4 → (b / 4 + 64 * r) &&& 51 = (b / 4) &&& 51 := by decide +kernel
theorem be_m3 : ∀ b, b < 256 → ∀ r, r < 1 → (b / 1 + 256 * r) &&& 51 = (b / 1) &&& 51 := by decide +kernel
/-- the last step: the bytes' sum -/
theorem be_last (c0 c1 c2 c3 c4 c5 c6 c7 : Nat) (h0 : c0 ≤ 8) (h1 : c1 ≤ 8) (h2 : c2 ≤ 8) (h3 : c3 ≤ 8) (h4 : c4 ≤ 8) (h5 : c5 ≤ 8) (h6 : c6 ≤ 8) (h7 : c7 ≤ 8) :
    (be_v [c0, c1, c2, c3, c4, c5, c6, c7] * 72340172838076673) % 2 ^ 64 / 2 ^ 56 = c0 + c1 + c2 + c3 + c4 + c5 + c6 + c7 := by
  have e : be_v [c0, c1, c2, c3, c4, c5, c6, c7] * 72340172838076673 =
      (c0 + 2 ^ 8 * (c0 + c1) + 2 ^ 16 * (c0 + c1 + c2) + 2 ^ 24 * (c0 + c1 + c2 + c3) + 2 ^ 32 * (c0 + c1 + c2 + c3 + c4) + 2 ^ 40 * (c0 + c1 + c2 + c3 + c4 + c5) + 2 ^ 48 * (c0 + c1 + c2 + c3 + c4 + c5 + c6))
      + 2 ^ 56 * (c0 + c1 + c2 + c3 + c4 + c5 + c6 + c7)
      + 2 ^ 64 * ((c1 + c2 + c3 + c4 + c5 + c6 + c7) + 2 ^ 8 * (c2 + c3 + c4 + c5 + c6 + c7) + 2 ^ 16 * (c3 + c4 + c5 + c6 + c7) + 2 ^ 24 * (c4 + c5 + c6 + c7) + 2 ^ 32 * (c5 + c6 + c7) + 2 ^ 40 * (c6 + c7) + 2 ^ 48 * c7) := by
    simp only [be_v]
    omega
  rw [e]
  have b1 : c0 + 2 ^ 8 * (c0 + c1) + 2 ^ 16 * (c0 + c1 + c2) + 2 ^ 24 * (c0 + c1 + c2 + c3) + 2 ^ 32 * (c0 + c1 + c2 + c3 + c4) + 2 ^ 40 * (c0 + c1 + c2 + c3 + c4 + c5) + 2 ^ 48 * (c0 + c1 + c2 + c3 + c4 + c5 + c6) < 2 ^ 56 := by omega
  have b2 : c0 + c1 + c2 + c3 + c4 + c5 + c6 + c7 < 2 ^ 8 := by omega
  generalize c0 + 2 ^ 8 * (c0 + c1) + 2 ^ 16 * (c0 + c1 + c2) + 2 ^ 24 * (c0 + c1 + c2 + c3) + 2 ^ 32 * (c0 + c1 + c2 + c3 + c4) + 2 ^ 40 * (c0 + c1 + c2 + c3 + c4 + c5) + 2 ^ 48 * (c0 + c1 + c2 + c3 + c4 + c5 + c6) = R at b1 ⊢
  generalize (c1 + c2 + c3 + c4 + c5 + c6 + c7) + 2 ^ 8 * (c2 + c3 + c4 + c5 + c6 + c7) + 2 ^ 16 * (c3 + c4 + c5 + c6 + c7) + 2 ^ 24 * (c4 + c5 + c6 + c7) + 2 ^ 32 * (c5 + c6 + c7) + 2 ^ 40 * (c6 + c7) + 2 ^ 48 * c7 = Q
  generalize c0 + c1 + c2 + c3 + c4 + c5 + c6 + c7 = S at b2 ⊢
  omega
/-- eight bytes of a natural below 2^64 -/
theorem be_by (N : Nat) (h : N < 2 ^ 64) : ∃ b0 b1 b2 b3 b4 b5 b6 b7 : Nat, (∀ b, b ∈ [b0, b1, b2, b3, b4, b5, b6, b7] → b < 256) ∧ be_v [b0, b1, b2, b3, b4, b5, b6, b7] = N := by
  refine ⟨N % 256, N / 256 % 256, N / 256 / 256 % 256, N / 256 / 256 / 256 % 256, N / 256 / 256 / 256 / 256 % 256, N / 256 / 256 / 256 / 256 / 256 % 256, N / 256 / 256 / 256 / 256 / 256 / 256 % 256, N / 256 / 256 / 256 / 256 / 256 / 256 / 256 % 256, ?_, ?_⟩
  · intro b hb
    simp only [List.mem_cons, List.not_mem_nil, or_false] at hb
    rcases hb with e | e | e | e | e | e | e | e <;> rw [e] <;> exact Nat.mod_lt _ (by decide)
  · simp only [be_v]
    omega
/-- the count over naturals -/
theorem be_cnt (N : Nat) (h : N < 2 ^ 64) : ∃ A B C D m : Nat,
    (N / 2) &&& 6148914691236517205 = A ∧ A ≤ N ∧ N - A = B ∧
    (B &&& 3689348814741910323) + ((B / 4) &&& 3689348814741910323) = C ∧ C < 2 ^ 64 ∧ C + C / 16 < 2 ^ 64 ∧
    (C + C / 16) &&& 1085102592571150095 = D ∧ (D * 72340172838076673) % 2 ^ 64 / 2 ^ 56 = m ∧ m ≤ 64 ∧ (m = 0 ↔ N = 0) := by
  obtain ⟨b0, b1, b2, b3, b4, b5, b6, b7, hb, rfl⟩ := be_by N h
  have k5 : be_v ([b0, b1, b2, b3, b4, b5, b6, b7].map (fun _ => 85)) = 6148914691236517205 := by
    show be_v [85, 85, 85, 85, 85, 85, 85, 85] = _
    decide +kernel
  have s1 := be_sm 2 128 85 rfl (by decide) (by decide) be_m1 _ hb
  rw [k5] at s1
  have s2 := be_vsub (fun b => (b / 2) &&& 85) _ (fun b hc => (be_f b (hb b hc)).1)
  have hB : ∀ b, b ∈ [b0, b1, b2, b3, b4, b5, b6, b7].map be_f1 → b < 256 := by
    intro b hc
    obtain ⟨a, ha, rfl⟩ := List.mem_map.mp hc
    exact (be_f a (hb a ha)).2.1
  have s3 := be_sm 1 256 51 rfl (by decide) (by decide) be_m3 _ hB
  have s4 := be_sm 4 64 51 rfl (by decide) (by decide) be_m2 _ hB
  have k3' : be_v (([b0, b1, b2, b3, b4, b5, b6, b7].map be_f1).map (fun _ => 51)) = 3689348814741910323 := by
    show be_v [51, 51, 51, 51, 51, 51, 51, 51] = _
    decide +kernel
  rw [k3', Nat.div_one] at s3
  rw [k3'] at s4
  have s5 := be_vadd (fun b => b / 1 &&& 51) (fun b => b / 4 &&& 51) ([b0, b1, b2, b3, b4, b5, b6, b7].map be_f1)
  rw [← s3, ← s4] at s5
  have e5 : be_v (([b0, b1, b2, b3, b4, b5, b6, b7].map be_f1).map (fun b => (b / 1 &&& 51) + (b / 4 &&& 51))) = be_v ([b0, b1, b2, b3, b4, b5, b6, b7].map be_f2) := by
    simp only [List.map_cons, List.map_nil, Nat.div_one]
    rfl
  rw [e5] at s5
  have hC : ∀ c, c ∈ [b0, b1, b2, b3, b4, b5, b6, b7].map be_f2 → c % 16 ≤ 4 ∧ c / 16 ≤ 4 := by
    intro b hc
    obtain ⟨a, ha, rfl⟩ := List.mem_map.mp hc
    exact ⟨(be_f a (hb a ha)).2.2.1, (be_f a (hb a ha)).2.2.2.1⟩
  have s6 := be_nib _ hC
  have kF' : be_v (([b0, b1, b2, b3, b4, b5, b6, b7].map be_f2).map (fun _ => 15)) = 1085102592571150095 := by
    show be_v [15, 15, 15, 15, 15, 15, 15, 15] = _
    decide +kernel
  rw [kF'] at s6
  have e6 : be_v (([b0, b1, b2, b3, b4, b5, b6, b7].map be_f2).map (fun c => (c + c / 16) &&& 15)) = be_v [be_f3 b0, be_f3 b1, be_f3 b2, be_f3 b3, be_f3 b4, be_f3 b5, be_f3 b6, be_f3 b7] := rfl
  rw [e6] at s6
  have g0 := (be_f b0 (hb b0 (by simp))).2.2.2.2
  have g1 := (be_f b1 (hb b1 (by simp))).2.2.2.2
  have g2 := (be_f b2 (hb b2 (by simp))).2.2.2.2
  have g3 := (be_f b3 (hb b3 (by simp))).2.2.2.2
  have g4 := (be_f b4 (hb b4 (by simp))).2.2.2.2
  have g5 := (be_f b5 (hb b5 (by simp))).2.2.2.2
  have g6 := (be_f b6 (hb b6 (by simp))).2.2.2.2
  have g7 := (be_f b7 (hb b7 (by simp))).2.2.2.2
  have s7 := be_last (be_f3 b0) (be_f3 b1) (be_f3 b2) (be_f3 b3) (be_f3 b4) (be_f3 b5) (be_f3 b6) (be_f3 b7) g0.1 g1.1 g2.1 g3.1 g4.1 g5.1 g6.1 g7.1
  have hCv : be_v ([b0, b1, b2, b3, b4, b5, b6, b7].map be_f2) < 2 ^ 63 := by
    have c0 := hC (be_f2 b0) (by simp)
    have c1 := hC (be_f2 b1) (by simp)
    have c2 := hC (be_f2 b2) (by simp)
    have c3 := hC (be_f2 b3) (by simp)
    have c4 := hC (be_f2 b4) (by simp)
    have c5 := hC (be_f2 b5) (by simp)
    have c6 := hC (be_f2 b6) (by simp)
    have c7 := hC (be_f2 b7) (by simp)
    show be_f2 b0 + 256 * (be_f2 b1 + 256 * (be_f2 b2 + 256 * (be_f2 b3 + 256 * (be_f2 b4 + 256 * (be_f2 b5 + 256 * (be_f2 b6 + 256 * (be_f2 b7 + 256 * 0))))))) < 2 ^ 63
    omega
  have eB : be_v ([b0, b1, b2, b3, b4, b5, b6, b7].map (fun b => b - ((b / 2) &&& 85))) = be_v ([b0, b1, b2, b3, b4, b5, b6, b7].map be_f1) := rfl
  rw [eB] at s2
  refine ⟨be_v ([b0, b1, b2, b3, b4, b5, b6, b7].map (fun b => (b / 2) &&& 85)), be_v ([b0, b1, b2, b3, b4, b5, b6, b7].map be_f1), be_v ([b0, b1, b2, b3, b4, b5, b6, b7].map be_f2), _, _, s1, by omega, by omega, s5, by omega, by omega, s6, s7, by omega, ?_⟩
  have z0 := g0.2
  have z1 := g1.2
  have z2 := g2.2
  have z3 := g3.2
  have z4 := g4.2
  have z5 := g5.2
  have z6 := g6.2
  have z7 := g7.2
  show be_f3 b0 + be_f3 b1 + be_f3 b2 + be_f3 b3 + be_f3 b4 + be_f3 b5 + be_f3 b6 + be_f3 b7 = 0 ↔ b0 + 256 * (b1 + 256 * (b2 + 256 * (b3 + 256 * (b4 + 256 * (b5 + 256 * (b6 + 256 * (b7 + 256 * 0))))))) = 0
  constructor
  · intro q
    have y0 := z0.mp (by omega)
    have y1 := z1.mp (by omega)
    have y2 := z2.mp (by omega)
    have y3 := z3.mp (by omega)
    have y4 := z4.mp (by omega)
    have y5 := z5.mp (by omega)
    have y6 := z6.mp (by omega)
    have y7 := z7.mp (by omega)
    omega
  · intro q
    rw [z0.mpr (by omega), z1.mpr (by omega), z2.mpr (by omega), z3.mpr (by omega), z4.mpr (by omega), z5.mpr (by omega), z6.mpr (by omega), z7.mpr (by omega)]
/-- what ones answers -/
theorem be_ones {post : Int32 → Prop} {x : Int64} (H : ∀ m, m ≤ 64 → (m = 0 ↔ x = 0) → post (nI m)) : wpX_ones post () x := by
  obtain ⟨N, hN, rfl⟩ := wb_of x
  obtain ⟨A, B, C, D, m, h1, h2, h3, h4, h5, h6, h7, h8, h9, h10⟩ := be_cnt N hN
  have hA : A < 2 ^ 64 := by omega
  have hB : B < 2 ^ 64 := by omega
  have p1 : lN N - ((((lN N).toUInt64 >>> ((nI 1).toInt64.toUInt64 &&& Int64.toUInt64 63)).toInt64) &&& lN 6148914691236517205) = lN B := by
    rw [wb_shr hN (by decide), wb_and (by omega) (by decide), show N / 2 ^ 1 = N / 2 from rfl, h1, lN_sub h2, h3]
  have p2 : (lN B &&& lN 3689348814741910323) + ((((lN B).toUInt64 >>> ((nI 2).toInt64.toUInt64 &&& Int64.toUInt64 63)).toInt64) &&& lN 3689348814741910323) = lN C := by
    rw [wb_shr hB (by decide), wb_and hB (by decide), wb_and (by omega) (by decide), show B / 2 ^ 2 = B / 4 from rfl, lN_add, h4]
  have p3 : (lN C + (((lN C).toUInt64 >>> ((nI 4).toInt64.toUInt64 &&& Int64.toUInt64 63)).toInt64)) &&& lN 1085102592571150095 = lN D := by
    rw [wb_shr h5 (by decide), show C / 2 ^ 4 = C / 16 from rfl, lN_add, wb_and h6 (by decide), h7]
  have p4 : ((((lN D * lN 72340172838076673).toUInt64 >>> ((nI 56).toInt64.toUInt64 &&& Int64.toUInt64 63)).toInt64).toInt32) = nI m := by
    rw [lN_mul, wb_mod, wb_shr (Nat.mod_lt _ (by decide)) (by decide), h8, lN_i]
  refine nm_r p1 (nm_r p2 (nm_r p3 ?_))
  have t : post ((((lN D * lN 72340172838076673).toUInt64 >>> ((nI 56).toInt64.toUInt64 &&& Int64.toUInt64 63)).toInt64).toInt32) := by
    rw [p4]
    refine H m h9 ⟨fun z => ?_, fun z => ?_⟩
    · rw [h10.mp z]
      rfl
    · refine h10.mpr ?_
      have t := congrArg (fun y : Int64 => y.toBitVec.toNat) z
      rw [wb_tn hN] at t
      exact t
  exact t
end
section
section
variable {n d : Nat} {a1 a2 a3 a4 a5 : Nat → Int64}
/-- the object's state in use -/
abbrev be_U (n d : Nat) (a1 a2 a3 a4 a5 : Nat → Int64) : St2 := (nI n, nI d, nI (2 ^ n), be_all n, a1, a2, a3, a4, a5)
def be_Z (a3 : Nat → Int64) : Prop := ∀ v, v < 6 → a3 v = be_z v
/-- the picture: sizes, masks, and every belief and stack place holds worlds below 2^n alone -/
def be_K (n d : Nat) (a1 a2 a3 : Nat → Int64) : Prop := 2 ≤ n ∧ n < 7 ∧ d ≤ 8 ∧ be_Z a3 ∧ (∀ b, b < 3 → be_S n (a1 b)) ∧ (∀ j, j < 8 → be_S n (a2 j))
def be_Q (n : Nat) (post : Int32 → St2 → Prop) : Prop := ∀ (r : Int32) (d : Nat) (a1 a2 a3 a4 a5 : Nat → Int64), be_K n d a1 a2 a3 → post r (be_U n d a1 a2 a3 a4 a5)
theorem be_upS {n N i : Nat} {f : Nat → Int64} {x : Int64} (h : ∀ j, j < N → be_S n (f j)) (hx : be_S n x) : ∀ j, j < N → be_S n (vp_updL f i x j) := by
  intro j hj
  by_cases e : j = i
  · rw [e, pk_uLs]
    exact hx
  · rw [pk_uLn e]
    exact h j hj
theorem be_Kd {e : Nat} (k : be_K n d a1 a2 a3) (he : e ≤ 8) : be_K n e a1 a2 a3 := ⟨k.1, k.2.1, he, k.2.2.2⟩
theorem be_Ka1 {i : Nat} {x : Int64} (k : be_K n d a1 a2 a3) (hx : be_S n x) : be_K n d (vp_updL a1 i x) a2 a3 := ⟨k.1, k.2.1, k.2.2.1, k.2.2.2.1, be_upS k.2.2.2.2.1 hx, k.2.2.2.2.2⟩
theorem be_Ka2 {i : Nat} {x : Int64} (k : be_K n d a1 a2 a3) (hx : be_S n x) : be_K n d a1 (vp_updL a2 i x) a3 := ⟨k.1, k.2.1, k.2.2.1, k.2.2.2.1, k.2.2.2.2.1, be_upS k.2.2.2.2.2 hx⟩
theorem be_K1 {b : Nat} (k : be_K n d a1 a2 a3) (hb : b < 3) : be_S n (a1 (nI b).toNatClampNeg) := by
  rw [nI_clamp (by omega)]
  exact k.2.2.2.2.1 b hb
theorem be_pred {i : Nat} (h : 0 < i) : nI i - 1 = nI (i - 1) := pk_sub (b := 1) h
theorem be_K2 {e : Nat} (k : be_K n d a1 a2 a3) (h0 : 0 < e) (he : e ≤ 8) : be_S n (a2 (nI e - 1).toNatClampNeg) := by
  rw [be_pred h0, nI_clamp (by omega)]
  exact k.2.2.2.2.2 _ (by omega)
/-! ===== the small methods ===== -/
theorem be_isB {post : Int32 → Prop} {b : Nat} (hb : b < 3) (H : post 1) : wpX_isBelief post () (nI b) :=
  br_f (nI_pos (by omega)) (br_f (nI_nlt (a := 2) (b := b) (by omega) (by decide)) H)
theorem be_isV {post : Int32 → Prop} (hn : n < 7) {v : Nat} (hv : v < 2 ^ 31) (H1 : v < n → post 1) (H0 : n ≤ v → post 0) : wpX_isVar post (be_U n d a1 a2 a3 a4 a5) (nI v) :=
  br_f (nI_pos hv) (pk_le n v H0 H1)
theorem be_isW {post : Int32 → Prop} (hn : n < 7) {w : Nat} (hw : w < 64) (H1 : w < 2 ^ n → post 1) (H0 : 2 ^ n ≤ w → post 0) : wpX_isWorld post (be_U n d a1 a2 a3 a4 a5) (nI w) := by
  have hp := be_p7 n hn
  exact br_f (nI_pos (by omega)) (pk_le (2 ^ n) w H0 H1)
theorem be_hasw {post : Int32 → Prop} {s : Int64} {w : Nat} (hw : w < 64) (H1 : be_b s w = true → post 1) (H0 : be_b s w = false → post 0) : wpX_has post () s (nI w) :=
  br_c (fun h => H1 ((be_has s hw).mp h)) (fun h => H0 (by
    cases e : be_b s w
    · rfl
    · exact absurd ((be_has s hw).mpr e) h))
theorem be_pop {post : Int64 → St2 → Prop} (h0 : 0 < d) (h8 : d ≤ 8) (H : post (a2 (d - 1)) (be_U n (d - 1) a1 a2 a3 a4 a5)) : wpX_pop post (be_U n d a1 a2 a3 a4 a5) := by
  refine nm_r (be_pred h0) (And.intro (pk_in (d - 1) 8 (by omega)) ?_)
  rw [nI_clamp (show d - 1 < 2 ^ 31 by omega)]
  exact H
theorem be_become {post : Int32 → St2 → Prop} {b : Nat} (hb : b < 3) {s : Int64} (H : ∀ m, m ≤ 64 → (m = 0 ↔ s = 0) → post (nI m) (be_U n d (vp_updL a1 b s) a2 a3 a4 a5)) : wpX_become post (be_U n d a1 a2 a3 a4 a5) (nI b) s :=
  And.intro (pk_in b 3 hb) (nm_r (e' := vp_updL a1 b s) (by rw [nI_clamp (show b < 2 ^ 31 by omega)]) (be_ones H))
theorem be_swapped {post : Int64 → Prop} (hz : be_Z a3) {s : Int64} {v : Nat} (hv : v < 6) (h : post (be_sw s v)) : wpX_swapped post (be_U n d a1 a2 a3 a4 a5) s (nI v) := by
  refine nm_r (be_one v (by omega)) (And.intro (pk_in v 6 hv) (And.intro (pk_in v 6 hv) ?_))
  rw [nI_clamp (show v < 2 ^ 31 by omega), hz v hv]
  exact h
theorem be_grown {post : Int64 → Prop} (hn : n < 7) (hz : be_Z a3) {s : Int64} (H : ∀ g, be_le s g → (∀ v, v < n → be_le (be_sw s v) g) → post g) : wpX_grownOnce post (be_U n d a1 a2 a3 a4 a5) s := by
  refine pk_loop (fun f i g => wX_grownOnce_5 post s (nI n) (nI d) (nI (2 ^ n)) (be_all n) a1 a2 a3 a4 a5 f g (nI i)) (fun i g => be_le s g ∧ ∀ v, v < i → be_le (be_sw s v) g) n 0 s (Nat.zero_le _) ⟨be_le_rfl s, fun v hv => absurd hv (by omega)⟩ ?_ ?_
  · intro f g h
    exact pk_le n n (fun _ => H g h.1 h.2) (fun z => absurd z (by omega))
  · intro f i g hi h hw
    refine pk_le n i (fun z => absurd z (by omega)) (fun _ => be_swapped hz (by omega) (nm_e (nm_r (nI_1 i) (hw _ ⟨be_le_tr h.1 (be_le_or1 _ _), fun v hv => ?_⟩))))
    by_cases e : v = i
    · rw [e]
      exact be_le_or2 _ _
    · exact be_le_tr (h.2 v (by omega)) (be_le_or1 _ _)
theorem be_nearest {post : Int64 → Prop} (hn : n < 7) (h0 : 0 < n) (hz : be_Z a3) {s f : Int64} (hs : be_S n s) (hf : be_S n f) (H : ∀ r, be_le r f → (¬ f = 0 → ¬ r = 0) → (¬ (s &&& f) = 0 → r = (s &&& f)) → post r) : wpX_nearest post (be_U n d a1 a2 a3 a4 a5) s f := by
  refine br_c (fun e => ?_) (fun e => br_c (fun e' => ?_) (fun e' => ?_))
  · refine H f (be_le_rfl f) (fun t => t) (fun t => absurd ?_ t)
    rw [e]
    exact be_le_0 (be_le_and1 0 f)
  · refine H f (be_le_rfl f) (fun t => t) (fun t => absurd ?_ t)
    rw [e']
    exact be_le_0 (be_le_and2 s 0)
  · obtain ⟨w0, hw0, hb0⟩ := be_mem e
    have hw0n := be_S_mem hs hw0 hb0
    refine pk_loop (fun fu k g => wX_nearest_20 post f (nI n) (nI d) (nI (2 ^ n)) (be_all n) a1 a2 a3 a4 a5 fu g (nI k)) (fun k g => (k = 0 → g = s) ∧ (0 < k → (s &&& f) = 0) ∧ (∀ w, w < 2 ^ n → w / 2 ^ k = w0 / 2 ^ k → be_b g w = true)) n 0 s (Nat.zero_le _) ⟨fun _ => rfl, fun z => absurd z (by omega), fun w hw t => ?_⟩ ?_ ?_
    · rw [Nat.pow_zero, Nat.div_one, Nat.div_one] at t
      rw [t]
      exact hb0
    · intro fu g h
      refine pk_le n n (fun _ => H _ (be_le_and2 g f) (fun _ => ?_) (fun t => absurd (h.2.1 h0) t)) (fun z => absurd z (by omega))
      obtain ⟨w1, hw1, hb1⟩ := be_mem e'
      have hw1n := be_S_mem hf hw1 hb1
      have hg := h.2.2 w1 hw1n (by rw [Nat.div_eq_of_lt hw1n, Nat.div_eq_of_lt hw0n])
      exact be_ne0 (w := w1) (by rw [be_and, hg, hb1]; rfl)
    · intro fu k g hk h hw
      refine pk_le n k (fun z => absurd z (by omega)) (fun _ => br_c (fun c => ?_) (fun c => ?_))
      · refine be_grown hn hz (fun g' h1 h2 => nm_r (nI_1 k) (hw g' ⟨fun z => absurd z (by omega), fun _ => ?_, be_grow hn hk h.2.2 h1 (h2 k hk)⟩))
        by_cases z : k = 0
        · rw [← h.1 z]
          exact c
        · exact h.2.1 (by omega)
      · refine H _ (be_le_and2 g f) (fun _ => c) (fun t => ?_)
        by_cases z : k = 0
        · rw [h.1 z]
        · exact absurd (h.2.1 (by omega)) t
theorem be_shifted {post : Int64 → Prop} (hn : n < 7) (hz : be_Z a3) {s : Int64} (hs : be_S n s) {w : Int32} (H : ∀ r, be_S n r → post r) : wpX_shifted post (be_U n d a1 a2 a3 a4 a5) s w := by
  refine pk_loop (fun f i x => wX_shifted_6 post w (nI n) (nI d) (nI (2 ^ n)) (be_all n) a1 a2 a3 a4 a5 f x (nI i)) (fun _ x => be_S n x) n 0 s (Nat.zero_le _) hs ?_ ?_
  · intro f x h
    exact pk_le n n (fun _ => H x h) (fun z => absurd z (by omega))
  · intro f i x hi h hw
    exact pk_le n i (fun z => absurd z (by omega)) (fun _ => br_c (fun _ => be_swapped hz (by omega) (nm_r (nI_1 i) (hw _ (be_S_sw hn hi h)))) (fun _ => nm_r (nI_1 i) (hw _ h)))
theorem be_min {post : Int64 → Prop} (hn : n < 7) {s : Int64} (H : ∀ r, be_le r s → post r) : wpX_minimal post (be_U n d a1 a2 a3 a4 a5) s := by
  refine pk_loop (fun f i x => wX_minimal_5 post s (nI n) (nI d) (nI (2 ^ n)) (be_all n) a1 a2 a3 a4 a5 f x (nI i)) (fun _ _ => True) n 0 s (Nat.zero_le _) trivial ?_ ?_
  · intro f x _
    refine pk_le n n (fun _ => ?_) (fun z => absurd z (by omega))
    refine pk_loop (fun f i y => wX_minimal_43 post s x (nI n) (nI d) (nI (2 ^ n)) (be_all n) a1 a2 a3 a4 a5 f y (nI i)) (fun _ _ => True) n 0 0 (Nat.zero_le _) trivial ?_ ?_
    · intro f y _
      exact pk_le n n (fun _ => H _ (be_le_and1 _ _)) (fun z => absurd z (by omega))
    · intro f i y hi _ hw
      exact pk_le n i (fun z => absurd z (by omega)) (fun _ => ⟨pk_in i 6 (by omega), nm_e (nm_r (nI_1 i) (hw _ trivial))⟩)
  · intro f i y hi _ hw
    exact pk_le n i (fun z => absurd z (by omega)) (fun _ => ⟨pk_in i 6 (by omega), nm_e (nm_r (nI_1 i) (hw _ trivial))⟩)
theorem be_fill {post : St2 → Prop} (hn : n < 7) (hz : be_Z a3) {x y : Int64} (H : ∀ a4 a5, post (be_U n d a1 a2 a3 a4 a5)) : wpX_fillRings post (be_U n d a1 a2 a3 a4 a5) x y := by
  refine nm_e (nm_e ?_)
  refine pk_loop (σ := (Nat → Int64) × (Nat → Int64)) (fun f i s => wX_fillRings_17 post (nI n) (nI d) (nI (2 ^ n)) (be_all n) f (nI i) a1 a2 a3 s.1 s.2) (fun i _ => 1 ≤ i) (n + 1) 1 (vp_updL a4 0 x, vp_updL a5 0 y) (by omega) (by omega) ?_ ?_
  · intro f s _
    exact pk_lt n (n + 1) (fun _ => ⟨pk_in (n + 1) 8 (by omega) (nI_1 n), nm_e ⟨pk_in (n + 1) 8 (by omega) (nI_1 n), nm_e (H _ _)⟩⟩) (fun z => absurd z (by omega))
  · intro f i s hi h1 hw
    exact pk_lt n i (fun z => absurd z (by omega)) (fun _ => ⟨pk_in (i - 1) 8 (by omega) (be_pred (by omega)), be_grown hn hz (fun g _ _ => ⟨pk_in i 8 (by omega), nm_e ⟨pk_in (i - 1) 8 (by omega) (be_pred (by omega)), be_grown hn hz (fun g' _ _ => ⟨pk_in i 8 (by omega), nm_e (nm_r (nI_1 i) (hw (_, _) (by omega)))⟩)⟩⟩)⟩)
end
end
section
section
variable {n d : Nat} {a1 a2 a3 a4 a5 : Nat → Int64} {post : Int32 → St2 → Prop}
theorem be_atom (k : be_K n d a1 a2 a3) (H : be_Q n post) {v : Nat} {x : Int32} (hx : x = nI v) (hv : v < 2 ^ 31) : wpX_atom post (be_U n d a1 a2 a3 a4 a5) x := by
  subst hx
  have hn := k.2.1
  have hd := k.2.2.1
  unfold wpX_atom
  refine be_isV hn hv (fun z => br_f (by decide) ?_) (fun z => br_t rfl (H _ _ _ _ _ _ _ k))
  refine pk_eq d 8 (fun e => H _ _ _ _ _ _ _ k) (fun e => ⟨pk_in v 6 (by omega), pk_in d 8 (by omega), nm_e (nm_r (nI_1 d) (H _ _ _ _ _ _ _ ?_))⟩)
  exact be_Ka2 (be_Kd k (by omega)) (be_S_and1 _ (be_S_all hn))
theorem be_quote (k : be_K n d a1 a2 a3) (H : be_Q n post) {b : Nat} {x : Int32} (hx : x = nI b) (hb : b < 3) : wpX_quote post (be_U n d a1 a2 a3 a4 a5) x := by
  subst hx
  have hd := k.2.2.1
  unfold wpX_quote
  refine be_isB hb (br_f (by decide) ?_)
  refine pk_eq d 8 (fun e => H _ _ _ _ _ _ _ k) (fun e => ⟨pk_in b 3 hb, pk_in d 8 (by omega), nm_e (nm_r (nI_1 d) (H _ _ _ _ _ _ _ ?_))⟩)
  exact be_Ka2 (be_Kd k (by omega)) (be_K1 k hb)
theorem be_149 (k : be_K n d a1 a2 a3) (H : be_Q n post) (h0 : 0 < d) {x : Int64} (hx : be_S n x) : wX_connect_149 post x (nI n) (nI d) (nI (2 ^ n)) (be_all n) a1 a2 a3 a4 a5 := by
  have hd := k.2.2.1
  exact And.intro (pk_in (d - 1) 8 (by omega) (be_pred h0)) (nm_e (H _ _ _ _ _ _ _ (be_Ka2 k hx)))
theorem be_c24 (k : be_K n d a1 a2 a3) (H : be_Q n post) {c z : Nat} (hc : c < 5) (hz : 1 ≤ z) (hz2 : z ≤ 2) (hcz : c ≠ 0 → z = 2) : wX_connect_24 post (nI c) (nI z) (nI d) (nI n) (nI d) (nI (2 ^ n)) (be_all n) a1 a2 a3 a4 a5 := by
  have hn := k.2.1
  have hd := k.2.2.1
  refine pk_le z d (fun le => ?_) (fun _ => H _ _ _ _ _ _ _ k)
  refine And.intro (pk_in (d - 1) 8 (by omega) (be_pred (by omega))) (nm_e ?_)
  refine pk_eq c 0 (fun e => ⟨pk_in (d - 1) 8 (by omega) (be_pred (by omega)), nm_e (H _ _ _ _ _ _ _ (be_Ka2 k (be_S_and1 _ (be_S_all hn))))⟩) (fun e => ?_)
  have hz' := hcz e
  have k' : be_K n (d - 1) a1 a2 a3 := be_Kd k (by omega)
  have s2 : be_S n (a2 (nI d - 1).toNatClampNeg) := be_K2 k (by omega) hd
  have s4 : be_S n (a2 (nI (d - 1) - 1).toNatClampNeg) := be_K2 k (by omega) (by omega)
  refine nm_r (be_pred (by omega)) (And.intro (pk_in (d - 1 - 1) 8 (by omega) (be_pred (by omega))) (nm_e (nm_e ?_)))
  refine pk_eq c 2 (fun _ => nm_e (be_149 k' H (by omega) (be_S_or s4 s2))) (fun _ => ?_)
  refine pk_eq c 3 (fun _ => nm_e (be_149 k' H (by omega) (be_S_xor s4 s2))) (fun _ => ?_)
  exact pk_eq c 4 (fun _ => nm_e (be_149 k' H (by omega) (be_S_and1 _ (be_S_all hn)))) (fun _ => be_149 k' H (by omega) (be_S_and1 _ s4))
theorem be_connect (k : be_K n d a1 a2 a3) (H : be_Q n post) {c : Nat} {x : Int32} (hx : x = nI c) (hc : c < 5) : wpX_connect post (be_U n d a1 a2 a3 a4 a5) x := by
  subst hx
  refine br_f (nI_pos (by omega)) (br_t (nI_le (b := 4) (by omega) (by decide)) ?_)
  exact pk_eq c 0 (fun e => be_c24 (z := 1) k H hc (by omega) (by omega) (fun t => absurd e t)) (fun e => be_c24 (z := 2) k H hc (by omega) (by omega) (fun _ => rfl))
theorem be_expand (k : be_K n d a1 a2 a3) (H : be_Q n post) {b : Nat} {x : Int32} (hx : x = nI b) (hb : b < 3) : wpX_expand post (be_U n d a1 a2 a3 a4 a5) x := by
  subst hx
  have hd := k.2.2.1
  unfold wpX_expand
  refine be_isB hb (br_f (by decide) ?_)
  refine pk_eq d 0 (fun e => H _ _ _ _ _ _ _ k) (fun e => be_pop (by omega) hd ?_)
  refine And.intro (pk_in b 3 hb) (be_become hb (fun m _ _ => H _ _ _ _ _ _ _ ?_))
  exact be_Ka1 (be_Kd k (by omega)) (be_S_and1 _ (be_K1 k hb))
theorem be_66 (k : be_K n d a1 a2 a3) (H : be_Q n post) {b : Nat} (hb : b < 3) {x y : Int64} (hx : be_S n x) (hy : be_S n y) : wX_giveUp_66 post (nI b) x y (nI n) (nI d) (nI (2 ^ n)) (be_all n) a1 a2 a3 a4 a5 := by
  unfold wX_giveUp_66
  exact be_become hb (fun m _ _ => H _ _ _ _ _ _ _ (be_Ka1 k (be_S_or hx hy)))
theorem be_giveUp (k : be_K n d a1 a2 a3) (H : be_Q n post) {b : Nat} {x : Int32} (hx : x = nI b) (hb : b < 3) : wpX_giveUp post (be_U n d a1 a2 a3 a4 a5) x := by
  subst hx
  have hn := k.2.1
  have hn2 := k.1
  have hd := k.2.2.1
  have hz := k.2.2.2.1
  unfold wpX_giveUp
  refine be_isB hb (br_f (by decide) ?_)
  refine pk_eq d 0 (fun e => H _ _ _ _ _ _ _ k) (fun e => be_pop (by omega) hd ?_)
  have k' : be_K n (d - 1) a1 a2 a3 := be_Kd k (by omega)
  have sA := be_S_and1 (a2 (d - 1) ^^^ (-1)) (be_S_all hn)
  refine And.intro (pk_in b 3 hb) (nm_e (br_c (fun c => ?_) (fun c => be_66 k' H hb (be_K1 k hb) (be_S_0 n))))
  exact be_nearest hn (by omega) hz (be_K1 k hb) sA (fun r hr _ _ => be_66 k' H hb (be_K1 k hb) (be_le_S hr sA))
theorem be_forget (k : be_K n d a1 a2 a3) (H : be_Q n post) {b v : Nat} {x y : Int32} (hx : x = nI b) (hb : b < 3) (hy : y = nI v) (hv : v < 6) : wpX_forget post (be_U n d a1 a2 a3 a4 a5) x y := by
  subst hx hy
  have hn := k.2.1
  have hz := k.2.2.2.1
  unfold wpX_forget
  refine be_isB hb (br_f (by decide) ?_)
  refine be_isV hn (by omega) (fun z => br_f (by decide) ?_) (fun z => br_t rfl (H _ _ _ _ _ _ _ k))
  refine And.intro (pk_in b 3 hb) (be_swapped hz hv (And.intro (pk_in b 3 hb) (be_become hb (fun m _ _ => H _ _ _ _ _ _ _ ?_))))
  exact be_Ka1 k (be_S_or (be_K1 k hb) (be_S_sw hn z (be_K1 k hb)))
theorem be_copy (k : be_K n d a1 a2 a3) (H : be_Q n post) {a b : Nat} {x y : Int32} (hx : x = nI a) (ha : a < 3) (hy : y = nI b) (hb : b < 3) : wpX_copy post (be_U n d a1 a2 a3 a4 a5) x y := by
  subst hx hy
  unfold wpX_copy
  refine be_isB ha (br_f (by decide) ?_)
  refine be_isB hb (br_f (by decide) ?_)
  exact And.intro (pk_in a 3 ha) (be_become hb (fun m _ _ => H _ _ _ _ _ _ _ (be_Ka1 k (be_K1 k ha))))
theorem be_update (k : be_K n d a1 a2 a3) (H : be_Q n post) {b : Nat} {x : Int32} (hx : x = nI b) (hb : b < 3) : wpX_update post (be_U n d a1 a2 a3 a4 a5) x := by
  subst hx
  have hn := k.2.1
  have hd := k.2.2.1
  have hz := k.2.2.2.1
  have hp := be_p7 n hn
  unfold wpX_update
  refine be_isB hb (br_f (by decide) ?_)
  refine pk_eq d 0 (fun e => H _ _ _ _ _ _ _ k) (fun e => be_pop (by omega) hd ?_)
  have k' : be_K n (d - 1) a1 a2 a3 := be_Kd k (by omega)
  have sf : be_S n (a2 (d - 1)) := k.2.2.2.2.2 _ (by omega)
  refine And.intro (pk_in b 3 hb) (nm_e ?_)
  refine pk_loop (fun f w y => wX_update_38 post (nI b) (a2 (d - 1)) (a1 (nI b).toNatClampNeg) (nI n) (nI (d - 1)) (nI (2 ^ n)) (be_all n) a1 a2 a3 a4 a5 f y (nI w)) (fun _ y => be_S n y) (2 ^ n) 0 0 (Nat.zero_le _) (be_S_0 n) ?_ ?_
  · intro f y h
    exact pk_le (2 ^ n) (2 ^ n) (fun _ => be_become hb (fun m _ _ => H _ _ _ _ _ _ _ (be_Ka1 k' h))) (fun z => absurd z (by omega))
  · intro f w y hi h hw
    refine pk_le (2 ^ n) w (fun z => absurd z (by omega)) (fun _ => be_hasw (by omega) (fun _ => br_f (by decide) ?_) (fun _ => br_t rfl (nm_r (nI_1 w) (hw _ h))))
    exact be_shifted hn hz sf (fun r hr => be_min hn (fun r' h' => be_shifted hn hz (be_le_S h' hr) (fun r'' h'' => nm_e (nm_r (nI_1 w) (hw _ (be_S_or h h''))))))
theorem be_2n (n : Nat) : (2 : Int32) * nI n + 2 = nI (2 * n + 2) := by
  have e : nI 2 * nI n + nI 2 = nI (2 * n + 2) := by rw [pk_mul, nI_add]
  exact e
theorem be_76 {J : Int64 → Int32 → Prop} (hn : n < 7) {b : Nat} {f : Int64} {g : Nat} (hg : g ≤ 100) (hf : be_S n f) {x : Int64} (hx : be_S n x) (H : ∀ y, be_S n y → J y (nI (g + 1))) :
    ∃ fu, wX_merge_76 post J (nI b) f (nI g) (nI n) (nI d) (nI (2 ^ n)) (be_all n) a1 a2 a3 a4 a5 fu x 0 := by
  refine pk_loop (fun fu i y => wX_merge_76 post J (nI b) f (nI g) (nI n) (nI d) (nI (2 ^ n)) (be_all n) a1 a2 a3 a4 a5 fu y (nI i)) (fun _ y => be_S n y) (n + 2) 0 x (Nat.zero_le _) hx ?_ ?_
  · intro fu y h
    exact pk_lt (n + 1) (n + 2) (fun _ => nm_r (nI_1 g) (H y h)) (fun z => absurd z (by omega)) (nI_1 n)
  · intro fu i y hi h hw
    refine pk_lt (n + 1) i (fun z => absurd z (by omega)) (fun _ => ?_) (nI_1 n)
    by_cases c : g < i
    · exact nm_e (br_t (pk_sneg (by omega) c) (nm_r (nI_1 i) (hw _ h)))
    · refine nm_r (pk_sub (by omega)) (br_f (nI_pos (by omega)) ?_)
      exact pk_lt (n + 1) (g - i) (fun _ => nm_r (nI_1 i) (hw _ h)) (fun _ => ⟨pk_in i 8 (by omega), pk_in (g - i) 8 (by omega), nm_e (nm_r (nI_1 i) (hw _ (be_S_or h (be_S_and2 _ hf))))⟩) (nI_1 n)
theorem be_144 (k : be_K n d a1 a2 a3) (H : be_Q n post) {b : Nat} (hb : b < 3) {x : Int64} (hx : be_S n x) : wX_merge_144 post (nI b) x (nI n) (nI d) (nI (2 ^ n)) (be_all n) a1 a2 a3 a4 a5 := by
  unfold wX_merge_144
  exact be_become hb (fun m _ _ => H _ _ _ _ _ _ _ (be_Ka1 k hx))
theorem be_53 (k : be_K n d a1 a2 a3) (H : be_Q n post) {b : Nat} (hb : b < 3) {f : Int64} (hf : be_S n f) : ∃ fu, wX_merge_53 post (nI b) f (nI n) (nI d) (nI (2 ^ n)) (be_all n) a1 a2 a3 a4 a5 fu 0 0 := by
  have hn := k.2.1
  refine pk_loop (fun fu i y => wX_merge_53 post (nI b) f (nI n) (nI d) (nI (2 ^ n)) (be_all n) a1 a2 a3 a4 a5 fu y (nI i)) (fun _ y => be_S n y) (2 * n + 3) 0 0 (Nat.zero_le _) (be_S_0 n) ?_ ?_
  · intro fu y h
    exact pk_lt (2 * n + 2) (2 * n + 3) (fun _ => be_144 k H hb h) (fun z => absurd z (by omega)) (be_2n n)
  · intro fu i y hi h hw
    refine pk_lt (2 * n + 2) i (fun z => absurd z (by omega)) (fun _ => br_c (fun _ => ?_) (fun _ => be_144 k H hb h)) (be_2n n)
    exact be_76 hn (by omega) hf h (fun y' h' => hw y' h')
theorem be_merge (k : be_K n d a1 a2 a3) (H : be_Q n post) {a b : Nat} {x y : Int32} (hx : x = nI a) (ha : a < 3) (hy : y = nI b) (hb : b < 3) : wpX_merge post (be_U n d a1 a2 a3 a4 a5) x y := by
  subst hx hy
  have hn := k.2.1
  have hd := k.2.2.1
  have hz := k.2.2.2.1
  unfold wpX_merge
  refine be_isB ha (br_f (by decide) ?_)
  refine be_isB hb (br_f (by decide) ?_)
  refine pk_eq d 0 (fun e => H _ _ _ _ _ _ _ k) (fun e => be_pop (by omega) hd ?_)
  have k' : be_K n (d - 1) a1 a2 a3 := be_Kd k (by omega)
  exact And.intro (pk_in a 3 ha) (And.intro (pk_in b 3 hb) (be_fill hn hz (fun a4 a5 => be_53 k' H hb (k.2.2.2.2.2 _ (by omega)))))
end
end
section
section
variable {n d : Nat} {a1 a2 a3 a4 a5 : Nat → Int64}
theorem be_turn {post : St2 → Prop} (k : be_K n d a1 a2 a3) {op p q : Nat} (hop : op < 16) (hp : p < 16) (hq : q < 2 ^ 31) (H : ∀ (d : Nat) (a1 a2 a3 a4 a5 : Nat → Int64), be_K n d a1 a2 a3 → post (be_U n d a1 a2 a3 a4 a5)) :
    wpL_turn post (be_U n d a1 a2 a3 a4 a5) (nI op) (nI p) (nI q) := by
  have e6 : nI q - nI q / 6 * 6 = nI (q % 6) := pk_rem (d := 6) hq (by decide) (by decide)
  have e5 : nI q - nI q / 5 * 5 = nI (q % 5) := pk_rem (d := 5) hq (by decide) (by decide)
  have e3 : nI q - nI q / 3 * 3 = nI (q % 3) := pk_rem (d := 3) hq (by decide) (by decide)
  have m6 : q % 6 < 6 := Nat.mod_lt _ (by decide)
  have m5 : q % 5 < 5 := Nat.mod_lt _ (by decide)
  have m3 : q % 3 < 3 := Nat.mod_lt _ (by decide)
  have hb : p % 3 < 3 := Nat.mod_lt _ (by decide)
  have eb : nI p - nI p / 3 * 3 = nI (p % 3) := pk_rem (d := 3) (by omega) (by decide) (by decide)
  have h30 : ¬ (3 : Int32) = 0 := by decide
  have h50 : ¬ (5 : Int32) = 0 := by decide
  have h60 : ¬ (6 : Int32) = 0 := by decide
  refine And.intro h30 (nm_r eb ?_)
  refine pk_le 6 op (fun _ => ?_) (fun _ => And.intro h60 (be_atom k (fun _ _ _ _ _ _ _ t => H _ _ _ _ _ _ t) e6 (by omega)))
  refine pk_eq op 6 (fun _ => be_quote k (fun _ _ _ _ _ _ _ t => H _ _ _ _ _ _ t) rfl hb) (fun _ => ?_)
  refine pk_le 10 op (fun _ => ?_) (fun _ => And.intro h50 (be_connect k (fun _ _ _ _ _ _ _ t => H _ _ _ _ _ _ t) e5 m5))
  refine pk_eq op 10 (fun _ => be_expand k (fun _ _ _ _ _ _ _ t => H _ _ _ _ _ _ t) rfl hb) (fun _ => ?_)
  refine pk_eq op 11 (fun _ => be_update k (fun _ _ _ _ _ _ _ t => H _ _ _ _ _ _ t) rfl hb) (fun _ => ?_)
  refine pk_eq op 12 (fun _ => be_giveUp k (fun _ _ _ _ _ _ _ t => H _ _ _ _ _ _ t) rfl hb) (fun _ => ?_)
  refine pk_eq op 13 (fun _ => And.intro h60 (be_forget k (fun _ _ _ _ _ _ _ t => H _ _ _ _ _ _ t) rfl hb e6 m6)) (fun _ => ?_)
  exact pk_eq op 14 (fun _ => And.intro h30 (be_merge k (fun _ _ _ _ _ _ _ t => H _ _ _ _ _ _ t) e3 m3 rfl hb)) (fun _ => And.intro h30 (be_copy k (fun _ _ _ _ _ _ _ t => H _ _ _ _ _ _ t) e3 m3 rfl hb))
theorem be_holds {post : Int32 → Prop} (k : be_K n d a1 a2 a3) {b w : Nat} (hb : b < 3) (hw : w < 64) (H1 : be_b (a1 b) w = true → post 1) (H0 : be_b (a1 b) w = false → ∀ r, ¬ r = 1 → post r) : wpX_holds post (be_U n d a1 a2 a3 a4 a5) (nI b) (nI w) := by
  unfold wpX_holds
  refine be_isB hb (br_f (by decide) ?_)
  refine be_isW k.2.1 hw (fun z => br_f (by decide) (And.intro (pk_in b 3 hb) ?_)) (fun z => br_t rfl (H0 (k.2.2.2.2.1 b hb w hw z) _ (by decide)))
  rw [nI_clamp (show b < 2 ^ 31 by omega)]
  exact be_hasw hw (fun t => br_f (by decide) (H1 t)) (fun t => br_t rfl (H0 t _ (by decide)))
theorem be_held {post : Int64 → Prop} (k : be_K n d a1 a2 a3) {b : Nat} (hb : b < 3) (H : post (a1 b)) : wpL_heldBits post (be_U n d a1 a2 a3 a4 a5) (nI b) := by
  refine pk_loop (fun f i x => wL_heldBits_5 post (nI b) (nI n) (nI d) (nI (2 ^ n)) (be_all n) a1 a2 a3 a4 a5 f x (nI i)) (fun i x => be_I (a1 b) i x) 64 0 0 (Nat.zero_le _) (be_I0 _) ?_ ?_
  · intro f x h
    refine pk_le 64 64 (fun _ => ?_) (fun z => absurd z (by omega))
    rw [be_I64 h]
    exact H
  · intro f i x hi h hw
    exact pk_le 64 i (fun z => absurd z (by omega)) (fun _ => be_holds k hb hi (fun t => br_t rfl (nm_e (nm_r (nI_1 i) (hw _ (be_It h hi t))))) (fun t r hr => br_f hr (nm_r (nI_1 i) (hw _ (be_If h hi t)))))
theorem be_truth {post : Int32 → Prop} (k : be_K n d a1 a2 a3) {T : Int64} (h0 : d = 0 → T = 0) (h1 : 0 < d → T = a2 (d - 1)) {w : Nat} (hw : w < 64) (H1 : be_b T w = true → post 1) (H0 : be_b T w = false → ∀ r, ¬ r = 1 → post r) : wpX_truth post (be_U n d a1 a2 a3 a4 a5) (nI w) := by
  have hd := k.2.2.1
  refine pk_eq d 0 (fun e => H0 (by rw [h0 e, be_0]) _ (by decide)) (fun e => ?_)
  have hT := h1 (by omega)
  refine be_isW k.2.1 hw (fun z => br_f (by decide) (And.intro (pk_in (d - 1) 8 (by omega) (be_pred (by omega))) ?_)) (fun z => br_t rfl (H0 (by rw [hT]; exact k.2.2.2.2.2 _ (by omega) w hw z) _ (by decide)))
  rw [be_pred (show 0 < d by omega), nI_clamp (show d - 1 < 2 ^ 31 by omega), ← hT]
  exact be_hasw hw (fun t => br_f (by decide) (H1 t)) (fun t => br_t rfl (H0 t _ (by decide)))
theorem be_true {post : Int64 → Prop} (k : be_K n d a1 a2 a3) {T : Int64} (h0 : d = 0 → T = 0) (h1 : 0 < d → T = a2 (d - 1)) (H : post T) : wpL_trueBits post (be_U n d a1 a2 a3 a4 a5) := by
  have hd := k.2.2.1
  refine pk_loop (fun f i x => wL_trueBits_4 post (nI n) (nI d) (nI (2 ^ n)) (be_all n) a1 a2 a3 a4 a5 f x (nI i)) (fun i x => be_I T i x) 64 0 0 (Nat.zero_le _) (be_I0 _) ?_ ?_
  · intro f x h
    refine pk_le 64 64 (fun _ => ?_) (fun z => absurd z (by omega))
    rw [be_I64 h]
    exact H
  · intro f i x hi h hw
    exact pk_le 64 i (fun z => absurd z (by omega)) (fun _ => be_truth k h0 h1 hi (fun t => br_t rfl (nm_e (nm_r (nI_1 i) (hw _ (be_It h hi t))))) (fun t r hr => br_f hr (nm_r (nI_1 i) (hw _ (be_If h hi t)))))
theorem be_depth {post : Int32 → Prop} (H : post (nI d)) : wpX_depth post (be_U n d a1 a2 a3 a4 a5) := H
theorem be_rev0 {post : Int32 → St2 → Prop} {b : Nat} (hb : b < 3) (e : d = 0) (H : post (-2) (be_U n d a1 a2 a3 a4 a5)) : wpX_revise post (be_U n d a1 a2 a3 a4 a5) (nI b) := by
  unfold wpX_revise
  refine be_isB hb (br_f (by decide) (br_t ?_ H))
  rw [e]
  rfl
theorem be_rev1 {post : Int32 → St2 → Prop} (k : be_K n d a1 a2 a3) {b : Nat} (hb : b < 3) (e : 0 < d)
    (H : ∀ (r : Int64) (m : Nat), m ≤ 64 → (m = 0 ↔ r = 0) → be_le r (a2 (d - 1)) → (¬ a2 (d - 1) = 0 → ¬ r = 0) → (¬ (a1 b &&& a2 (d - 1)) = 0 → r = (a1 b &&& a2 (d - 1))) → post (nI m) (be_U n (d - 1) (vp_updL a1 b r) a2 a3 a4 a5)) :
    wpX_revise post (be_U n d a1 a2 a3 a4 a5) (nI b) := by
  have hn := k.2.1
  have hn2 := k.1
  have hd := k.2.2.1
  have hz := k.2.2.2.1
  unfold wpX_revise
  refine be_isB hb (br_f (by decide) ?_)
  refine pk_eq d 0 (fun z => absurd z (by omega)) (fun _ => be_pop e hd ?_)
  refine And.intro (pk_in b 3 hb) (be_nearest hn (by omega) hz (be_K1 k hb) (k.2.2.2.2.2 _ (by omega)) (fun r h1 h2 h3 => be_become hb (fun m hm hm0 => ?_)))
  rw [nI_clamp (show b < 2 ^ 31 by omega)] at h3
  exact H r m hm hm0 h1 h2 h3
theorem be_95 {post : Int32 → St2 → Prop} {x f r : Int64} {z y : Int32} (e : y = z) (h : ¬ (x &&& f) = 0 → r = (x &&& f)) (H : post 1 (be_U n d a1 a2 a3 a4 a5)) : wL_revised_95 post x f r z y (nI n) (nI d) (nI (2 ^ n)) (be_all n) a1 a2 a3 a4 a5 :=
  br_t e (nm_e (br_c (fun _ => H) (fun c => br_t (h c) H)))
theorem be_83 {post : Int32 → St2 → Prop} {x f r : Int64} {z : Int32} (h1 : f = 0 → z = 1) (h0 : ¬ f = 0 → z = 0) (h : ¬ (x &&& f) = 0 → r = (x &&& f)) (H : post 1 (be_U n d a1 a2 a3 a4 a5)) : wL_revised_83 post x f r z (nI n) (nI d) (nI (2 ^ n)) (be_all n) a1 a2 a3 a4 a5 :=
  br_c (fun e => be_95 (h1 e) h H) (fun e => be_95 (h0 e) h H)
theorem be_revised {post : Int32 → St2 → Prop} (k : be_K n d a1 a2 a3) (H : ∀ (d : Nat) (a1 a2 a3 a4 a5 : Nat → Int64), be_K n d a1 a2 a3 → post 1 (be_U n d a1 a2 a3 a4 a5)) {b : Nat} {x : Int32} (hx : x = nI b) (hb : b < 3) : wpL_revised post (be_U n d a1 a2 a3 a4 a5) x := by
  subst hx
  have hd := k.2.2.1
  refine be_held k hb ?_
  by_cases e : d = 0
  · refine be_true (T := 0) k (fun _ => rfl) (fun z => absurd z (by omega)) (be_depth (be_rev0 hb e ?_))
    exact br_t (by rw [e]; rfl) (br_t rfl (H _ _ _ _ _ _ k))
  · refine be_true (T := a2 (d - 1)) k (fun z => absurd z e) (fun _ => rfl) (be_depth (be_rev1 k hb (by omega) (fun r m hm hm0 h1 h2 h3 => ?_)))
    have sr : be_S n r := be_le_S h1 (k.2.2.2.2.2 _ (by omega))
    have k' : be_K n (d - 1) (vp_updL a1 b r) a2 a3 := be_Ka1 (be_Kd k (by omega)) sr
    refine br_f (nI_ne0 (by omega) (by omega)) (br_t (nI_pos' (by omega)) (be_held k' hb ?_))
    rw [pk_uLs]
    refine br_t (be_le_not h1) (pk_eq m 0 (fun z => ?_) (fun z => ?_))
    · refine be_83 (fun _ => rfl) (fun c => absurd (hm0.mp z) (h2 c)) h3 (H _ _ _ _ _ _ k')
    · refine be_83 (fun c => absurd (hm0.mpr ?_) z) (fun _ => rfl) h3 (H _ _ _ _ _ _ k')
      rw [c] at h1
      exact be_le_0 h1
/-! ===== the constructor ===== -/
theorem be_z6 : be_Z (vp_updL (vp_updL (vp_updL (vp_updL (vp_updL (vp_updL (fun _ => 0) 0 6148914691236517205) 1 3689348814741910323) 2 1085102592571150095) 3 71777214294589695) 4 281470681808895) 5 4294967295) := by
  intro v hv
  match v, hv with
  | 0, _ => rfl
  | 1, _ => rfl
  | 2, _ => rfl
  | 3, _ => rfl
  | 4, _ => rfl
  | 5, _ => rfl
  | v + 6, h => exact absurd h (by omega)
theorem be_106 {post : St2 → Prop} (h2 : 2 ≤ n) (hn : n < 7) (H : ∀ (a1 a2 a3 a4 a5 : Nat → Int64), be_K n 0 a1 a2 a3 → post (be_U n 0 a1 a2 a3 a4 a5)) :
    wX_init_106 post 5 33 (be_all n) 5 33 (nI n) 0 (nI (2 ^ n)) 0 (fun _ => 0) (fun _ => 0) (fun _ => 0) (fun _ => 0) (fun _ => 0) := by
  refine nm_e (nm_e (nm_e (nm_e (nm_e (nm_e ?_)))))
  refine pk_loop (fun f i s => wX_init_165 post 5 33 5 33 (nI n) 0 (nI (2 ^ n)) (be_all n) f (nI i) s (fun _ => 0) (vp_updL (vp_updL (vp_updL (vp_updL (vp_updL (vp_updL (fun _ => 0) 0 6148914691236517205) 1 3689348814741910323) 2 1085102592571150095) 3 71777214294589695) 4 281470681808895) 5 4294967295) (fun _ => 0) (fun _ => 0)) (fun _ s => ∀ j, j < 3 → be_S n (s j)) 3 0 (fun _ => 0) (Nat.zero_le _) (fun _ _ => be_S_0 n) ?_ ?_
  · intro f s h
    exact pk_le 3 3 (fun _ => H _ _ _ _ _ ⟨h2, hn, Nat.zero_le _, be_z6, h, fun _ _ => be_S_0 n⟩) (fun z => absurd z (by omega))
  · intro f i s hi h hw
    exact pk_le 3 i (fun z => absurd z (by omega)) (fun _ => ⟨pk_in i 3 hi, nm_e (nm_r (nI_1 i) (hw _ (be_upS h (be_S_all hn))))⟩)
theorem be_init {post : St2 → Prop} (h2 : 2 ≤ n) (hn : n < 7) (H : ∀ (a1 a2 a3 a4 a5 : Nat → Int64), be_K n 0 a1 a2 a3 → post (be_U n 0 a1 a2 a3 a4 a5)) : wpX_init post 5 33 (0, 0, 0, 0) (nI n) := by
  unfold wpX_init
  refine ⟨by decide, by decide, by decide, by decide, by decide, by decide, by decide, by decide, by decide, by decide, pk_le 2 n (fun _ => ?_) (fun z => absurd z (by omega))⟩
  refine br_t (nI_le (b := 6) (by omega) (by decide)) (nm_r (be_one n (by omega)) ?_)
  have t := be_106 h2 hn H
  refine pk_eq n 6 (fun e => ?_) (fun e => ?_)
  · have ea : be_all n = (-1) := if_pos e
    rw [ea] at t
    exact t
  · have ea : be_all n = ((1 : Int64) <<< ((nI (2 ^ n)).toInt64 &&& 63)) - 1 := if_neg e
    rw [ea] at t
    exact t
/-! ===== the law ===== -/
theorem be_cell {post : Int32 → Prop} {L : Nat} {xs : Nat → Int32} (hL : L ≤ 260) {k : Nat} {x : Int32} (hx : x = nI k) (hk : k < 2 ^ 31) (H : ∀ r, post r) : wpL_cell post L xs () x :=
  pk_le L k (fun _ => H _) (fun z => ⟨pk_in k L z hx, H _⟩) rfl hx
theorem be_loop (xs : Nat → Int32) (L : Nat) (hL : L ≤ 260) (kc ks : Nat) (k : be_K n d a1 a2 a3) : ∃ fu, wL_law_24 (fun r => r = 1) L xs kc ks fu 1 (nI n) (nI d) (nI (2 ^ n)) (be_all n) a1 a2 a3 a4 a5 := by
  refine loop_m (σ := Nat × Nat × (Nat → Int64) × (Nat → Int64) × (Nat → Int64) × (Nat → Int64) × (Nat → Int64))
    (fun f s => wL_law_24 (fun r => r = 1) L xs kc ks f (nI s.1) (nI n) (nI s.2.1) (nI (2 ^ n)) (be_all n) s.2.2.1 s.2.2.2.1 s.2.2.2.2.1 s.2.2.2.2.2.1 s.2.2.2.2.2.2)
    (fun s => s.1 ≤ 300 ∧ be_K n s.2.1 s.2.2.1 s.2.2.2.1 s.2.2.2.2.1) (fun s => 300 - s.1) ?_ (1, d, a1, a2, a3, a4, a5) ⟨(by decide : 1 ≤ 300), k⟩
  intro f s hI hw
  obtain ⟨i, d, a1, a2, a3, a4, a5⟩ := s
  obtain ⟨hi, K⟩ := hI
  have hi' : i ≤ 300 := hi
  have e2 : nI i + 2 = nI (i + 2) := nI_add i 2
  have go : i < L → ∀ (d : Nat) (a1 a2 a3 a4 a5 : Nat → Int64), be_K n d a1 a2 a3 → wL_law_24 (fun r => r = 1) L xs kc ks f (nI (i + 2)) (nI n) (nI d) (nI (2 ^ n)) (be_all n) a1 a2 a3 a4 a5 := by
    intro hl d a1 a2 a3 a4 a5 K
    refine hw (i + 2, d, a1, a2, a3, a4, a5) ⟨?_, K⟩ ?_
    · show i + 2 ≤ 300
      omega
    · show 300 - (i + 2) < 300 - i
      omega
  refine pk_le L i (fun _ => rfl) (fun z => be_cell hL rfl (by omega) (fun c => be_cell hL (nI_1 i) (by omega) (fun c' => ?_)))
  obtain ⟨q, hq, eq⟩ := pk_andE c' (m := 2147483647) 31 (by decide)
  obtain ⟨op, hop, eop⟩ := pk_andE c (m := 15) 4 (by decide)
  obtain ⟨p, hp, ep⟩ := pk_andE (c >>> ((4 : Int32) &&& 31)) (m := 15) 4 (by decide)
  have hp3 : p % 3 < 3 := Nat.mod_lt _ (by decide)
  have eb : nI p - nI p / 3 * 3 = nI (p % 3) := pk_rem (d := 3) (by omega) (by decide) (by decide)
  have h30 : ¬ (3 : Int32) = 0 := by decide
  refine nm_r eq (nm_r eop (nm_r ep (be_turn K hop hp hq (fun d a1 a2 a3 a4 a5 K' => ?_))))
  refine br_c (fun _ => And.intro h30 (be_revised K' (fun d a1 a2 a3 a4 a5 K2 => br_f (by decide) (nm_r e2 (go z _ _ _ _ _ _ K2))) eb hp3)) (fun _ => nm_r e2 (go z _ _ _ _ _ _ K'))
end
theorem i_vc (xs : Nat → Int32) (L : Nat) (hL : L ≤ 260) : wpL_law (fun r => r = 1) L xs := by
  unfold wpL_law
  refine be_cell (k := 0) hL rfl (by decide) (fun r => ?_)
  obtain ⟨j, hj, ej⟩ := pk_andE r (m := 2147483647) 31 (by decide)
  have h50 : ¬ (5 : Int32) = 0 := by decide
  have hm : j % 5 < 5 := Nat.mod_lt _ (by decide)
  have e5 : nI j - nI j / 5 * 5 = nI (j % 5) := pk_rem (d := 5) hj (by decide) (by decide)
  have e : 2 + ((r &&& 2147483647) - (r &&& 2147483647) / 5 * 5) = nI (2 + j % 5) := by
    rw [ej, e5]
    exact nI_add 2 (j % 5)
  exact And.intro h50 (nm_r e (Exists.intro 5 (Exists.intro 33 ⟨by decide, by decide, be_init (by omega) (by omega) (fun a1 a2 a3 a4 a5 k => be_loop xs L hL _ _ k)⟩)))
end
