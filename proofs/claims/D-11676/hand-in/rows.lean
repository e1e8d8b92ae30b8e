section
/-! numbers: an int is a natural n, meaning nI n (two's complement); an array of ints is one natural, 32 bits a place -/
def cb_gw (A i : Nat) : Nat := Nat.mod (Nat.shiftRight A (Nat.mul 32 i)) 4294967296
def cb_sw (A i v : Nat) : Nat := Nat.xor A (Nat.shiftLeft (Nat.xor (cb_gw A i) (Nat.mod v 4294967296)) (Nat.mul 32 i))
def cb_ar (A : Nat) : Nat → Int32 := fun j => nI (cb_gw A j)
def cb_cl (a : Nat) : Nat := cond (Nat.ble (Nat.mod a 4294967296) 2147483647) (Nat.mod a 4294967296) 0
def cb_rd (A i : Nat) : Nat := cb_gw A (cb_cl i)
def cb_wr (A i v : Nat) : Nat := cb_sw A (cb_cl i) v
def cb_add (a b : Nat) : Nat := Nat.add a b
def cb_mul (a b : Nat) : Nat := Nat.mul a b
def cb_sub (a b : Nat) : Nat := Nat.mod (Nat.add a (Nat.sub 4294967296 (Nat.mod b 4294967296))) 4294967296
def cb_div3 (a : Nat) : Nat := cond (Nat.ble (Nat.mod a 4294967296) 2147483647) (Nat.div (Nat.mod a 4294967296) 3) (Nat.sub 4294967296 (Nat.div (Nat.sub 4294967296 (Nat.mod a 4294967296)) 3))
def cb_shr1 (a : Nat) : Nat := cond (Nat.ble (Nat.mod a 4294967296) 2147483647) (Nat.div (Nat.mod a 4294967296) 2) (Nat.add (Nat.div (Nat.mod a 4294967296) 2) 2147483648)
def cb_and1 (a : Nat) : Nat := Nat.mod (Nat.mod a 4294967296) 2
def cb_eq (a b : Nat) : Bool := Nat.beq (Nat.mod a 4294967296) (Nat.mod b 4294967296)
def cb_le (a b : Nat) : Bool := Nat.ble (Nat.mod (Nat.add a 2147483648) 4294967296) (Nat.mod (Nat.add b 2147483648) 4294967296)
def cb_lt (a b : Nat) : Bool := Nat.ble (Nat.add (Nat.mod (Nat.add a 2147483648) 4294967296) 1) (Nat.mod (Nat.add b 2147483648) 4294967296)
def cb_in (i n : Nat) : Bool := cond (Nat.ble (Nat.mod i 4294967296) 2147483647) (Nat.ble (Nat.add (Nat.mod i 4294967296) 1) n) false
def cb_let (v : Nat) (Q : Nat → Bool) : Bool := Q v

/-! what they mean -/
theorem cb_ti1 {n : Nat} (h : n % 4294967296 < 2147483648) : (nI n).toInt = ((n % 4294967296 : Nat) : Int) := by
  show (Int32.ofNat n).toInt = _
  rw [Int32.toInt_ofNat', Int.bmod_def]
  simp only [Int32.size]
  split <;> omega
theorem cb_ti2 {n : Nat} (h : ¬ n % 4294967296 < 2147483648) : (nI n).toInt = ((n % 4294967296 : Nat) : Int) - 4294967296 := by
  show (Int32.ofNat n).toInt = _
  rw [Int32.toInt_ofNat', Int.bmod_def]
  simp only [Int32.size]
  split <;> omega
theorem cb_inj {x y : Int32} (h : x.toInt = y.toInt) : x = y := Int32.toInt_inj.mp h
theorem cb_of {a b : Nat} (h : a % 4294967296 = b % 4294967296) : nI a = nI b := by
  apply cb_inj
  by_cases ha : a % 4294967296 < 2147483648
  · rw [cb_ti1 ha, cb_ti1 (by omega), h]
  · rw [cb_ti2 ha, cb_ti2 (by omega), h]
theorem cb_nm (a : Nat) : nI (a % 4294967296) = nI a := cb_of (by omega)
theorem cb_eqN {a b : Nat} : nI a = nI b ↔ a % 4294967296 = b % 4294967296 := by
  constructor
  · intro h
    have h2 := congrArg Int32.toInt h
    by_cases ha : a % 4294967296 < 2147483648 <;> by_cases hb : b % 4294967296 < 2147483648
    · rw [cb_ti1 ha, cb_ti1 hb] at h2; omega
    · rw [cb_ti1 ha, cb_ti2 hb] at h2; omega
    · rw [cb_ti2 ha, cb_ti1 hb] at h2; omega
    · rw [cb_ti2 ha, cb_ti2 hb] at h2; omega
  · exact cb_of
theorem cb_leN {a b : Nat} : nI a ≤ nI b ↔ (a + 2147483648) % 4294967296 ≤ (b + 2147483648) % 4294967296 := by
  rw [Int32.le_iff_toInt_le]
  by_cases ha : a % 4294967296 < 2147483648 <;> by_cases hb : b % 4294967296 < 2147483648
  · rw [cb_ti1 ha, cb_ti1 hb]; omega
  · rw [cb_ti1 ha, cb_ti2 hb]; omega
  · rw [cb_ti2 ha, cb_ti1 hb]; omega
  · rw [cb_ti2 ha, cb_ti2 hb]; omega
theorem cb_ltN {a b : Nat} : nI a < nI b ↔ (a + 2147483648) % 4294967296 < (b + 2147483648) % 4294967296 := by
  rw [Int32.lt_iff_toInt_lt]
  by_cases ha : a % 4294967296 < 2147483648 <;> by_cases hb : b % 4294967296 < 2147483648
  · rw [cb_ti1 ha, cb_ti1 hb]; omega
  · rw [cb_ti1 ha, cb_ti2 hb]; omega
  · rw [cb_ti2 ha, cb_ti1 hb]; omega
  · rw [cb_ti2 ha, cb_ti2 hb]; omega
theorem cb_eq_iff {x y : Int32} {a b : Nat} (hx : x = nI a) (hy : y = nI b) : cb_eq a b = true ↔ x = y := by
  subst hx; subst hy
  rw [cb_eqN]
  exact ⟨fun h => Nat.eq_of_beq_eq_true h, fun h => by
    show Nat.beq (a % 4294967296) (b % 4294967296) = true
    rw [h]
    exact Nat.beq_refl _⟩
theorem cb_le_iff {x y : Int32} {a b : Nat} (hx : x = nI a) (hy : y = nI b) : cb_le a b = true ↔ x ≤ y := by
  subst hx; subst hy
  rw [cb_leN]
  exact ⟨Nat.le_of_ble_eq_true, Nat.ble_eq_true_of_le⟩
theorem cb_lt_iff {x y : Int32} {a b : Nat} (hx : x = nI a) (hy : y = nI b) : cb_lt a b = true ↔ x < y := by
  subst hx; subst hy
  rw [cb_ltN]
  exact ⟨Nat.le_of_ble_eq_true, Nat.ble_eq_true_of_le⟩
theorem cb_big {a : Nat} : Nat.ble (Nat.mod a 4294967296) 2147483647 = true ↔ a % 4294967296 < 2147483648 := by
  rw [Nat.ble_eq]
  show a % 4294967296 ≤ 2147483647 ↔ _
  omega
theorem cb_c1 {α : Type} {a : Nat} {x y : α} (h : a % 4294967296 < 2147483648) : cond (Nat.ble (Nat.mod a 4294967296) 2147483647) x y = x := by
  rw [cb_big.mpr h]; rfl
theorem cb_c2 {α : Type} {a : Nat} {x y : α} (h : ¬ a % 4294967296 < 2147483648) : cond (Nat.ble (Nat.mod a 4294967296) 2147483647) x y = y := by
  have : Nat.ble (Nat.mod a 4294967296) 2147483647 = false := by
    cases e : Nat.ble (Nat.mod a 4294967296) 2147483647 with
    | false => rfl
    | true => exact absurd (cb_big.mp e) h
  rw [this]; rfl
theorem cb_clN (a : Nat) : (nI a).toNatClampNeg = cb_cl a := by
  show (nI a).toInt.toNat = cb_cl a
  unfold cb_cl
  by_cases h : a % 4294967296 < 2147483648
  · rw [cb_ti1 h, cb_c1 h]; exact Int.toNat_natCast _
  · rw [cb_ti2 h, cb_c2 h]; omega
theorem cb_inN {x : Int32} {i n : Nat} (hx : x = nI i) (h : cb_in i n = true) : vp_in x n := by
  subst hx
  rw [vp_in_iff]
  unfold cb_in at h
  by_cases hi : i % 4294967296 < 2147483648
  · rw [cb_c1 hi] at h
    have h2 : i % 4294967296 + 1 ≤ n := Nat.le_of_ble_eq_true h
    rw [cb_ti1 hi]
    omega
  · rw [cb_c2 hi] at h
    exact absurd h Bool.false_ne_true
theorem cb_hadd {x y : Int32} {a b : Nat} (hx : x = nI a) (hy : y = nI b) : x + y = nI (cb_add a b) := by
  subst hx; subst hy
  exact (Int32.ofNat_add a b).symm
theorem cb_hmul {x y : Int32} {a b : Nat} (hx : x = nI a) (hy : y = nI b) : x * y = nI (cb_mul a b) := by
  subst hx; subst hy
  exact (Int32.ofNat_mul a b).symm
theorem cb_hsub {x y : Int32} {a b : Nat} (hx : x = nI a) (hy : y = nI b) : x - y = nI (cb_sub a b) := by
  subst hx; subst hy
  apply cb_inj
  rw [Int32.toInt_sub]
  show _ = (nI ((a + (4294967296 - b % 4294967296)) % 4294967296)).toInt
  rw [cb_nm, Int.bmod_def]
  by_cases ha : a % 4294967296 < 2147483648 <;> by_cases hb : b % 4294967296 < 2147483648 <;> by_cases hc : (a + (4294967296 - b % 4294967296)) % 4294967296 < 2147483648
  · rw [cb_ti1 ha, cb_ti1 hb, cb_ti1 hc]; split <;> omega
  · rw [cb_ti1 ha, cb_ti1 hb, cb_ti2 hc]; split <;> omega
  · rw [cb_ti1 ha, cb_ti2 hb, cb_ti1 hc]; split <;> omega
  · rw [cb_ti1 ha, cb_ti2 hb, cb_ti2 hc]; split <;> omega
  · rw [cb_ti2 ha, cb_ti1 hb, cb_ti1 hc]; split <;> omega
  · rw [cb_ti2 ha, cb_ti1 hb, cb_ti2 hc]; split <;> omega
  · rw [cb_ti2 ha, cb_ti2 hb, cb_ti1 hc]; split <;> omega
  · rw [cb_ti2 ha, cb_ti2 hb, cb_ti2 hc]; split <;> omega
theorem cb_hdiv3 {x : Int32} {a : Nat} (hx : x = nI a) : x / 3 = nI (cb_div3 a) := by
  subst hx
  apply cb_inj
  rw [Int32.toInt_div_of_ne_right _ _ (by decide), show (3 : Int32).toInt = 3 from by decide]
  unfold cb_div3
  by_cases ha : a % 4294967296 < 2147483648
  · rw [cb_c1 ha, cb_ti1 ha]
    show _ = (nI (a % 4294967296 / 3)).toInt
    rw [cb_ti1 (show a % 4294967296 / 3 % 4294967296 < 2147483648 by omega), Int.tdiv_eq_ediv_of_nonneg (by omega)]
    omega
  · rw [cb_c2 ha, cb_ti2 ha]
    show _ = (nI (4294967296 - (4294967296 - a % 4294967296) / 3)).toInt
    rw [show ((a % 4294967296 : Nat) : Int) - 4294967296 = -((4294967296 - a % 4294967296 : Nat) : Int) by omega, Int.neg_tdiv, Int.tdiv_eq_ediv_of_nonneg (by omega)]
    by_cases hc : (4294967296 - (4294967296 - a % 4294967296) / 3) % 4294967296 < 2147483648
    · rw [cb_ti1 hc]; omega
    · rw [cb_ti2 hc]; omega
theorem cb_hshr1 {x : Int32} {a : Nat} (hx : x = nI a) : x >>> ((1 : Int32) &&& 31) = nI (cb_shr1 a) := by
  subst hx
  apply cb_inj
  rw [pk_shr _ _ 1 (by decide), Int.shiftRight_eq_div_pow]
  unfold cb_shr1
  by_cases ha : a % 4294967296 < 2147483648
  · rw [cb_c1 ha, cb_ti1 ha]
    show _ = (nI (a % 4294967296 / 2)).toInt
    rw [cb_ti1 (show a % 4294967296 / 2 % 4294967296 < 2147483648 by omega)]
    omega
  · rw [cb_c2 ha, cb_ti2 ha]
    show _ = (nI (a % 4294967296 / 2 + 2147483648)).toInt
    rw [cb_ti2 (show ¬ (a % 4294967296 / 2 + 2147483648) % 4294967296 < 2147483648 by omega)]
    omega
theorem cb_hand1 {x : Int32} {a : Nat} (hx : x = nI a) : x &&& 1 = nI (cb_and1 a) := by
  subst hx
  exact pk_and (nI a) (m := 1) 1 (by decide)
theorem cb_hrd {x : Int32} {A a : Nat} (hx : x = nI a) : cb_ar A x.toNatClampNeg = nI (cb_rd A a) := by
  subst hx
  rw [cb_clN]; rfl
/-! the places of a big natural -/
theorem cb_gbit (A i b : Nat) : (cb_gw A i).testBit b = (decide (b < 32) && A.testBit (32 * i + b)) := by
  show (A >>> (32 * i) % 4294967296).testBit b = _
  rw [show 4294967296 = 2 ^ 32 from rfl, Nat.testBit_mod_two_pow, Nat.testBit_shiftRight]
theorem cb_sbit (A i v c : Nat) : (cb_sw A i v).testBit c = (A.testBit c ^^ (decide (32 * i ≤ c) && ((cb_gw A i).testBit (c - 32 * i) ^^ (v % 4294967296).testBit (c - 32 * i)))) := by
  show (A ^^^ ((cb_gw A i ^^^ (v % 4294967296)) <<< (32 * i))).testBit c = _
  rw [Nat.testBit_xor, Nat.testBit_shiftLeft, Nat.testBit_xor]
theorem cb_gs (A i v : Nat) : cb_gw (cb_sw A i v) i = v % 4294967296 := by
  apply Nat.eq_of_testBit_eq
  intro b
  rw [cb_gbit, cb_sbit, cb_gbit, show 32 * i + b - 32 * i = b by omega, show decide (32 * i ≤ 32 * i + b) = true from decide_eq_true (by omega), show 4294967296 = 2 ^ 32 from rfl, Nat.testBit_mod_two_pow]
  by_cases hb : b < 32
  · rw [decide_eq_true hb]
    cases A.testBit (32 * i + b) <;> cases v.testBit b <;> rfl
  · rw [decide_eq_false hb]; rfl
theorem cb_gn (A : Nat) {i j : Nat} (v : Nat) (hj : j ≠ i) : cb_gw (cb_sw A i v) j = cb_gw A j := by
  apply Nat.eq_of_testBit_eq
  intro b
  rw [cb_gbit, cb_gbit, cb_sbit]
  by_cases hb : b < 32
  · rw [decide_eq_true hb]
    by_cases hl : 32 * i ≤ 32 * j + b
    · have h1 : ¬ 32 * j + b - 32 * i < 32 := by omega
      rw [cb_gbit, show 4294967296 = 2 ^ 32 from rfl, Nat.testBit_mod_two_pow, decide_eq_false h1]
      cases A.testBit (32 * j + b) <;> simp
    · rw [decide_eq_false hl]
      cases A.testBit (32 * j + b) <;> rfl
  · rw [decide_eq_false hb]; rfl
theorem cb_hupd {x y : Int32} {A a v : Nat} (hx : x = nI a) (hy : y = nI v) : upd (cb_ar A) x.toNatClampNeg y = cb_ar (cb_wr A a v) := by
  subst hx; subst hy
  rw [cb_clN]
  funext j
  show (if j = cb_cl a then nI v else nI (cb_gw A j)) = nI (cb_gw (cb_sw A (cb_cl a) v) j)
  by_cases hj : j = cb_cl a
  · rw [if_pos hj, hj, cb_gs, cb_nm]
  · rw [if_neg hj, cb_gn A v hj]
theorem cb_ar0 : cb_ar 0 = (fun _ => 0) := by
  funext j
  show nI (cb_gw 0 j) = 0
  have : cb_gw 0 j = 0 := by
    show 0 >>> (32 * j) % 4294967296 = 0
    rw [Nat.zero_shiftRight]
  rw [this]; rfl
/-! the steps of a predicate -/
theorem ce_if {c A B : Prop} {b X Y : Bool} (hb : b = true ↔ c) (h : cond b X Y = true) (f : X = true → A) (g : Y = true → B) : (c → A) ∧ (¬ c → B) := by
  cases b with
  | true => exact ⟨fun _ => f h, fun hn => absurd (hb.mp rfl) hn⟩
  | false => exact ⟨fun hc => absurd (hb.mpr hc) Bool.false_ne_true, fun _ => g h⟩
theorem ce_in {x : Int32} {i n : Nat} {Q : Prop} {X : Bool} (hx : x = nI i) (h : cond (cb_in i n) X false = true) (f : X = true → Q) : vp_in x n ∧ Q := by
  cases e : cb_in i n with
  | true => rw [e] at h; exact ⟨cb_inN hx e, f h⟩
  | false => rw [e] at h; exact absurd h Bool.false_ne_true
theorem ce_int {e : Int32} {v : Nat} {P : Int32 → Prop} {Q : Nat → Bool} (he : e = nI v) (h : cb_let v Q = true) (f : ∀ x : Nat, Q x = true → P (nI x)) : ∀ y, y = e → P y := by
  intro y hy
  rw [hy, he]
  exact f v h
theorem ce_arr {e : Nat → Int32} {v : Nat} {P : (Nat → Int32) → Prop} {Q : Nat → Bool} (he : e = cb_ar v) (h : cb_let v Q = true) (f : ∀ x : Nat, Q x = true → P (cb_ar x)) : ∀ y, y = e → P y := by
  intro y hy
  rw [hy, he]
  exact f v h
theorem ce_no {A : Prop} (h : false = true) : A := absurd h Bool.false_ne_true
theorem ce_p1 {P : Int32 → Prop} {e : Int32} {r : Nat} (he : e = nI r) (h : P (nI r)) : P e := by
  rw [he]; exact h
theorem ce_p2 {σ : Type} {P : Int32 → σ → Prop} {e : Int32} {r : Nat} {u : σ} (he : e = nI r) (h : P (nI r) u) : P e u := by
  rw [he]; exact h
theorem cb_n3 : ¬ (3 : Int32) = 0 := by decide
theorem cb_m1 : (-1 : Int32) = nI 4294967295 := by decide
theorem cb_m2 : (-2 : Int32) = nI 4294967294 := by decide
theorem cb_m4 : (-4 : Int32) = nI 4294967292 := by decide
theorem cb_m5 : (-5 : Int32) = nI 4294967291 := by decide
end
section
def im_init_76 (K : Nat → Nat → Nat → Nat → Nat → Nat → Nat → Nat → Nat → Nat → Nat → Nat → Nat → Nat → Nat → Bool) (f0_count : Nat) (f0_known : Nat) (f0_made : Nat) (f0_done : Nat) (f0_loopCount : Nat) (f0_tired : Nat) (f0_waiting : Nat) : Nat → Nat → Nat → Nat → Nat → Nat → Nat → Nat → Nat → Nat → Bool
  | 0 => fun _ _ _ _ _ _ _ _ _ => false
  | n + 1 => fun x1 am7 am15 am24 am33 am42 am51 am60 am69 => (cond (cb_le 34 x1) (K f0_count f0_known f0_made f0_done f0_loopCount f0_tired f0_waiting am7 am15 am24 am33 am42 am51 am60 am69) (cond (cb_in x1 34) (cb_let (cb_wr am15 x1 4294967295) (fun am15_35 => (cb_let (cb_add x1 1) (fun x1_36 => (im_init_76 K f0_count f0_known f0_made f0_done f0_loopCount f0_tired f0_waiting n x1_36 am7 am15_35 am24 am33 am42 am51 am60 am69))))) false))
theorem sd_init_76 {post : St2 → Prop} {K : Nat → Nat → Nat → Nat → Nat → Nat → Nat → Nat → Nat → Nat → Nat → Nat → Nat → Nat → Nat → Bool} (hK : ∀ s0 s1 s2 s3 s4 s5 s6 s7 s8 s9 s10 s11 s12 s13 s14 : Nat, K s0 s1 s2 s3 s4 s5 s6 s7 s8 s9 s10 s11 s12 s13 s14 = true → post (nI s0, nI s1, nI s2, nI s3, nI s4, nI s5, nI s6, cb_ar s7, cb_ar s8, cb_ar s9, cb_ar s10, cb_ar s11, cb_ar s12, cb_ar s13, cb_ar s14)) (mc : Nat) (ms : Nat) (kc : Nat) (ks : Nat) (f0_count : Nat) (f0_known : Nat) (f0_made : Nat) (f0_done : Nat) (f0_loopCount : Nat) (f0_tired : Nat) (f0_waiting : Nat) : ∀ (n x1 am7 am15 am24 am33 am42 am51 am60 am69 : Nat), im_init_76 K f0_count f0_known f0_made f0_done f0_loopCount f0_tired f0_waiting n x1 am7 am15 am24 am33 am42 am51 am60 am69 = true → wX_init_76 post mc ms kc ks (nI f0_count) (nI f0_known) (nI f0_made) (nI f0_done) (nI f0_loopCount) (nI f0_tired) (nI f0_waiting) n (nI x1) (cb_ar am7) (cb_ar am15) (cb_ar am24) (cb_ar am33) (cb_ar am42) (cb_ar am51) (cb_ar am60) (cb_ar am69) := by
  intro n
  induction n with
  | zero =>
    intro x1 am7 am15 am24 am33 am42 am51 am60 am69 h
    exact ce_no h
  | succ n ih =>
    intro x1 am7 am15 am24 am33 am42 am51 am60 am69 h
    unfold im_init_76 at h
    unfold wX_init_76
    refine ce_if (cb_le_iff (rfl : (34 : Int32) = nI 34) rfl) h (fun h => ?_) (fun h => ?_)
    · exact hK f0_count f0_known f0_made f0_done f0_loopCount f0_tired f0_waiting am7 am15 am24 am33 am42 am51 am60 am69 h
    · refine ce_in rfl h (fun h => ?_)
      refine ce_arr (cb_hupd rfl cb_m1) h (fun am15_35 h => ?_)
      refine ce_int (cb_hadd rfl (rfl : (1 : Int32) = nI 1)) h (fun x1_36 h => ?_)
      exact ih x1_36 am7 am15_35 am24 am33 am42 am51 am60 am69 h
def im_init (K : Nat → Nat → Nat → Nat → Nat → Nat → Nat → Nat → Nat → Nat → Nat → Nat → Nat → Nat → Nat → Bool) : Bool := im_init_76 K 0 0 0 0 0 0 0 60 0 0 0 0 0 0 0 0 0
theorem sd_init {post : St2 → Prop} {K : Nat → Nat → Nat → Nat → Nat → Nat → Nat → Nat → Nat → Nat → Nat → Nat → Nat → Nat → Nat → Bool} (hK : ∀ s0 s1 s2 s3 s4 s5 s6 s7 s8 s9 s10 s11 s12 s13 s14 : Nat, K s0 s1 s2 s3 s4 s5 s6 s7 s8 s9 s10 s11 s12 s13 s14 = true → post (nI s0, nI s1, nI s2, nI s3, nI s4, nI s5, nI s6, cb_ar s7, cb_ar s8, cb_ar s9, cb_ar s10, cb_ar s11, cb_ar s12, cb_ar s13, cb_ar s14)) (mc ms : Nat) (hc : 8 ≤ mc) (hs : 4478 ≤ ms) (h : im_init K = true) : wpX_init post mc ms (0, 0, 0, 0, 0, 0, 0) := by
  unfold wpX_init
  have e := sd_init_76 hK mc ms 8 4478 0 0 0 0 0 0 0 60 0 0 0 0 0 0 0 0 0 h
  rw [cb_ar0] at e
  exact ⟨by omega, by omega, by omega, by omega, by omega, by omega, by omega, by omega, by omega, by omega, by omega, by omega, by omega, by omega, by omega, by omega, 60, e⟩
def im_cell (K : Nat → Nat → Nat → Nat → Nat → Nat → Nat → Nat → Nat → Nat → Nat → Nat → Nat → Nat → Nat → Nat → Bool) (f0_count f0_known f0_made f0_done f0_loopCount f0_tired f0_waiting a1 a2 a3 a4 a5 a6 a7 a8 : Nat) (p0 : Nat) : Bool := (cond (cb_lt p0 0) (K 4294967295 f0_count f0_known f0_made f0_done f0_loopCount f0_tired f0_waiting a1 a2 a3 a4 a5 a6 a7 a8) (cond (cb_le p0 2) (cond (cb_eq f0_count 10) (K 4294967294 f0_count f0_known f0_made f0_done f0_loopCount f0_tired f0_waiting a1 a2 a3 a4 a5 a6 a7 a8) (cond (cb_in f0_count 10) (cb_let (cb_wr a1 f0_count p0) (fun a1_5 => (cb_let (cb_add f0_count 1) (fun f_6 => (K (cb_sub f_6 1) f_6 0 f0_made f0_done f0_loopCount f0_tired f0_waiting a1_5 a2 a3 a4 a5 a6 a7 a8))))) false)) (K 4294967295 f0_count f0_known f0_made f0_done f0_loopCount f0_tired f0_waiting a1 a2 a3 a4 a5 a6 a7 a8)))
theorem sd_cell {post : Int32 → St2 → Prop} {K : Nat → Nat → Nat → Nat → Nat → Nat → Nat → Nat → Nat → Nat → Nat → Nat → Nat → Nat → Nat → Nat → Bool} (hK : ∀ r s0 s1 s2 s3 s4 s5 s6 s7 s8 s9 s10 s11 s12 s13 s14 : Nat, K r s0 s1 s2 s3 s4 s5 s6 s7 s8 s9 s10 s11 s12 s13 s14 = true → post (nI r) (nI s0, nI s1, nI s2, nI s3, nI s4, nI s5, nI s6, cb_ar s7, cb_ar s8, cb_ar s9, cb_ar s10, cb_ar s11, cb_ar s12, cb_ar s13, cb_ar s14)) (f0_count f0_known f0_made f0_done f0_loopCount f0_tired f0_waiting a1 a2 a3 a4 a5 a6 a7 a8 : Nat) {y_p0 : Int32} {p0 : Nat} (e_p0 : y_p0 = nI p0) (h : im_cell K f0_count f0_known f0_made f0_done f0_loopCount f0_tired f0_waiting a1 a2 a3 a4 a5 a6 a7 a8 p0 = true) : wpX_cell post (nI f0_count, nI f0_known, nI f0_made, nI f0_done, nI f0_loopCount, nI f0_tired, nI f0_waiting, cb_ar a1, cb_ar a2, cb_ar a3, cb_ar a4, cb_ar a5, cb_ar a6, cb_ar a7, cb_ar a8) y_p0 := by
  subst e_p0
  unfold im_cell at h
  unfold wpX_cell
  refine ce_if (cb_lt_iff rfl (rfl : (0 : Int32) = nI 0)) h (fun h => ?_) (fun h => ?_)
  · exact ce_p2 (P := post) cb_m1 (hK 4294967295 f0_count f0_known f0_made f0_done f0_loopCount f0_tired f0_waiting a1 a2 a3 a4 a5 a6 a7 a8 h)
  · refine ce_if (cb_le_iff rfl (rfl : (2 : Int32) = nI 2)) h (fun h => ?_) (fun h => ?_)
    · refine ce_if (cb_eq_iff rfl (rfl : (10 : Int32) = nI 10)) h (fun h => ?_) (fun h => ?_)
      · exact ce_p2 (P := post) cb_m2 (hK 4294967294 f0_count f0_known f0_made f0_done f0_loopCount f0_tired f0_waiting a1 a2 a3 a4 a5 a6 a7 a8 h)
      · refine ce_in rfl h (fun h => ?_)
        refine ce_arr (cb_hupd rfl rfl) h (fun a1_5 h => ?_)
        refine ce_int (cb_hadd rfl (rfl : (1 : Int32) = nI 1)) h (fun f_6 h => ?_)
        exact ce_p2 (P := post) (cb_hsub rfl (rfl : (1 : Int32) = nI 1)) (hK (cb_sub f_6 1) f_6 0 f0_made f0_done f0_loopCount f0_tired f0_waiting a1_5 a2 a3 a4 a5 a6 a7 a8 h)
    · exact ce_p2 (P := post) cb_m1 (hK 4294967295 f0_count f0_known f0_made f0_done f0_loopCount f0_tired f0_waiting a1 a2 a3 a4 a5 a6 a7 a8 h)
def im_clear_7 (K : Nat → Nat → Nat → Nat → Nat → Nat → Nat → Nat → Nat → Nat → Nat → Nat → Nat → Nat → Nat → Bool) (f0_count : Nat) (f0_known : Nat) (f0_made : Nat) (f0_done : Nat) (f0_loopCount : Nat) (f0_tired : Nat) (f0_waiting : Nat) : Nat → Nat → Nat → Nat → Nat → Nat → Nat → Nat → Nat → Nat → Bool
  | 0 => fun _ _ _ _ _ _ _ _ _ => false
  | n + 1 => fun x1 a1 a2 a3 a4 a5 a6 a7 a8 => (cond (cb_le 34 x1) (K f0_count 0 f0_made f0_done f0_loopCount f0_tired f0_waiting a1 a2 a3 a4 a5 a6 a7 a8) (cond (cb_in x1 34) (cb_let (cb_wr a2 x1 4294967295) (fun a2_3 => (cb_let (cb_add x1 1) (fun x1_4 => (im_clear_7 K f0_count f0_known f0_made f0_done f0_loopCount f0_tired f0_waiting n x1_4 a1 a2_3 a3 a4 a5 a6 a7 a8))))) false))
theorem sd_clear_7 {post : St2 → Prop} {K : Nat → Nat → Nat → Nat → Nat → Nat → Nat → Nat → Nat → Nat → Nat → Nat → Nat → Nat → Nat → Bool} (hK : ∀ s0 s1 s2 s3 s4 s5 s6 s7 s8 s9 s10 s11 s12 s13 s14 : Nat, K s0 s1 s2 s3 s4 s5 s6 s7 s8 s9 s10 s11 s12 s13 s14 = true → post (nI s0, nI s1, nI s2, nI s3, nI s4, nI s5, nI s6, cb_ar s7, cb_ar s8, cb_ar s9, cb_ar s10, cb_ar s11, cb_ar s12, cb_ar s13, cb_ar s14)) (f0_count : Nat) (f0_known : Nat) (f0_made : Nat) (f0_done : Nat) (f0_loopCount : Nat) (f0_tired : Nat) (f0_waiting : Nat) : ∀ (n x1 a1 a2 a3 a4 a5 a6 a7 a8 : Nat), im_clear_7 K f0_count f0_known f0_made f0_done f0_loopCount f0_tired f0_waiting n x1 a1 a2 a3 a4 a5 a6 a7 a8 = true → wX_clear_7 post (nI f0_count) (nI f0_known) (nI f0_made) (nI f0_done) (nI f0_loopCount) (nI f0_tired) (nI f0_waiting) n (nI x1) (cb_ar a1) (cb_ar a2) (cb_ar a3) (cb_ar a4) (cb_ar a5) (cb_ar a6) (cb_ar a7) (cb_ar a8) := by
  intro n
  induction n with
  | zero =>
    intro x1 a1 a2 a3 a4 a5 a6 a7 a8 h
    exact ce_no h
  | succ n ih =>
    intro x1 a1 a2 a3 a4 a5 a6 a7 a8 h
    unfold im_clear_7 at h
    unfold wX_clear_7
    refine ce_if (cb_le_iff (rfl : (34 : Int32) = nI 34) rfl) h (fun h => ?_) (fun h => ?_)
    · exact hK f0_count 0 f0_made f0_done f0_loopCount f0_tired f0_waiting a1 a2 a3 a4 a5 a6 a7 a8 h
    · refine ce_in rfl h (fun h => ?_)
      refine ce_arr (cb_hupd rfl cb_m1) h (fun a2_3 h => ?_)
      refine ce_int (cb_hadd rfl (rfl : (1 : Int32) = nI 1)) h (fun x1_4 h => ?_)
      exact ih x1_4 a1 a2_3 a3 a4 a5 a6 a7 a8 h
def im_clear (K : Nat → Nat → Nat → Nat → Nat → Nat → Nat → Nat → Nat → Nat → Nat → Nat → Nat → Nat → Nat → Bool) (f0_count f0_known f0_made f0_done f0_loopCount f0_tired f0_waiting a1 a2 a3 a4 a5 a6 a7 a8 : Nat) : Bool := (im_clear_7 K 0 f0_known f0_made f0_done f0_loopCount f0_tired f0_waiting 60 0 a1 a2 a3 a4 a5 a6 a7 a8)
theorem sd_clear {post : St2 → Prop} {K : Nat → Nat → Nat → Nat → Nat → Nat → Nat → Nat → Nat → Nat → Nat → Nat → Nat → Nat → Nat → Bool} (hK : ∀ s0 s1 s2 s3 s4 s5 s6 s7 s8 s9 s10 s11 s12 s13 s14 : Nat, K s0 s1 s2 s3 s4 s5 s6 s7 s8 s9 s10 s11 s12 s13 s14 = true → post (nI s0, nI s1, nI s2, nI s3, nI s4, nI s5, nI s6, cb_ar s7, cb_ar s8, cb_ar s9, cb_ar s10, cb_ar s11, cb_ar s12, cb_ar s13, cb_ar s14)) (f0_count f0_known f0_made f0_done f0_loopCount f0_tired f0_waiting a1 a2 a3 a4 a5 a6 a7 a8 : Nat) (h : im_clear K f0_count f0_known f0_made f0_done f0_loopCount f0_tired f0_waiting a1 a2 a3 a4 a5 a6 a7 a8 = true) : wpX_clear post (nI f0_count, nI f0_known, nI f0_made, nI f0_done, nI f0_loopCount, nI f0_tired, nI f0_waiting, cb_ar a1, cb_ar a2, cb_ar a3, cb_ar a4, cb_ar a5, cb_ar a6, cb_ar a7, cb_ar a8) := by
  unfold im_clear at h
  unfold wpX_clear
  refine ⟨60, ?_⟩
  exact sd_clear_7 hK 0 f0_known f0_made f0_done f0_loopCount f0_tired f0_waiting 60 0 a1 a2 a3 a4 a5 a6 a7 a8 h
def im_badPort (K : Nat → Bool) (f0_count f0_known f0_made f0_done f0_loopCount f0_tired f0_waiting a1 a2 a3 a4 a5 a6 a7 a8 : Nat) (p0 : Nat) : Bool := (cond (cb_lt p0 0) (K 1) (cond (cb_le p0 33) (cond (cb_lt p0 30) (cond (cb_le f0_count (cb_div3 p0)) (K 1) (cond (cb_in (cb_div3 p0) 10) (cond (cb_eq (cb_rd a1 (cb_div3 p0)) 2) (cond (cb_le (cb_sub p0 (cb_mul (cb_div3 p0) 3)) 0) (K 0) (K 1)) (K 0)) false)) (K 0)) (K 1)))
theorem sd_badPort {post : Int32 → Prop} {K : Nat → Bool} (hK : ∀ r : Nat, K r = true → post (nI r)) (f0_count f0_known f0_made f0_done f0_loopCount f0_tired f0_waiting a1 a2 a3 a4 a5 a6 a7 a8 : Nat) {y_p0 : Int32} {p0 : Nat} (e_p0 : y_p0 = nI p0) (h : im_badPort K f0_count f0_known f0_made f0_done f0_loopCount f0_tired f0_waiting a1 a2 a3 a4 a5 a6 a7 a8 p0 = true) : wpX_badPort post (nI f0_count, nI f0_known, nI f0_made, nI f0_done, nI f0_loopCount, nI f0_tired, nI f0_waiting, cb_ar a1, cb_ar a2, cb_ar a3, cb_ar a4, cb_ar a5, cb_ar a6, cb_ar a7, cb_ar a8) y_p0 := by
  subst e_p0
  unfold im_badPort at h
  unfold wpX_badPort
  refine ce_if (cb_lt_iff rfl (rfl : (0 : Int32) = nI 0)) h (fun h => ?_) (fun h => ?_)
  · exact ce_p1 (P := post) (rfl : (1 : Int32) = nI 1) (hK 1 h)
  · refine ce_if (cb_le_iff rfl (rfl : (33 : Int32) = nI 33)) h (fun h => ?_) (fun h => ?_)
    · refine ce_if (cb_lt_iff rfl (rfl : (30 : Int32) = nI 30)) h (fun h => ?_) (fun h => ?_)
      · refine ⟨cb_n3, ?_⟩
        refine ce_if (cb_le_iff rfl (cb_hdiv3 rfl)) h (fun h => ?_) (fun h => ?_)
        · exact ce_p1 (P := post) (rfl : (1 : Int32) = nI 1) (hK 1 h)
        · refine ⟨cb_n3, ?_⟩
          refine ce_in (cb_hdiv3 rfl) h (fun h => ?_)
          refine ce_if (cb_eq_iff (cb_hrd (cb_hdiv3 rfl)) (rfl : (2 : Int32) = nI 2)) h (fun h => ?_) (fun h => ?_)
          · refine ⟨cb_n3, ?_⟩
            refine ce_if (cb_le_iff (cb_hsub rfl (cb_hmul (cb_hdiv3 rfl) (rfl : (3 : Int32) = nI 3))) (rfl : (0 : Int32) = nI 0)) h (fun h => ?_) (fun h => ?_)
            · exact ce_p1 (P := post) (rfl : (0 : Int32) = nI 0) (hK 0 h)
            · exact ce_p1 (P := post) (rfl : (1 : Int32) = nI 1) (hK 1 h)
          · exact ce_p1 (P := post) (rfl : (0 : Int32) = nI 0) (hK 0 h)
      · exact ce_p1 (P := post) (rfl : (0 : Int32) = nI 0) (hK 0 h)
    · exact ce_p1 (P := post) (rfl : (1 : Int32) = nI 1) (hK 1 h)
def im_join (K : Nat → Nat → Nat → Nat → Nat → Nat → Nat → Nat → Nat → Nat → Nat → Nat → Nat → Nat → Nat → Nat → Bool) (f0_count f0_known f0_made f0_done f0_loopCount f0_tired f0_waiting a1 a2 a3 a4 a5 a6 a7 a8 : Nat) (p0 : Nat) (p1 : Nat) : Bool := (im_badPort (fun r_1 => (cond (cb_eq r_1 0) (im_badPort (fun r_3 => (cond (cb_eq r_3 0) (cond (cb_eq p0 p1) (K 4294967295 f0_count f0_known f0_made f0_done f0_loopCount f0_tired f0_waiting a1 a2 a3 a4 a5 a6 a7 a8) (cond (cb_in p0 34) (cond (cb_eq (cb_rd a2 p0) 4294967295) (cond (cb_in p1 34) (cond (cb_eq (cb_rd a2 p1) 4294967295) (cond (cb_in p0 34) (cb_let (cb_wr a2 p0 p1) (fun a2_11 => (cond (cb_in p1 34) (cb_let (cb_wr a2_11 p1 p0) (fun a2_13 => (K 0 f0_count 0 f0_made f0_done f0_loopCount f0_tired f0_waiting a1 a2_13 a3 a4 a5 a6 a7 a8))) false))) false) (K 4294967292 f0_count f0_known f0_made f0_done f0_loopCount f0_tired f0_waiting a1 a2 a3 a4 a5 a6 a7 a8)) false) (K 4294967292 f0_count f0_known f0_made f0_done f0_loopCount f0_tired f0_waiting a1 a2 a3 a4 a5 a6 a7 a8)) false)) (K 4294967295 f0_count f0_known f0_made f0_done f0_loopCount f0_tired f0_waiting a1 a2 a3 a4 a5 a6 a7 a8))) f0_count f0_known f0_made f0_done f0_loopCount f0_tired f0_waiting a1 a2 a3 a4 a5 a6 a7 a8 p1) (K 4294967295 f0_count f0_known f0_made f0_done f0_loopCount f0_tired f0_waiting a1 a2 a3 a4 a5 a6 a7 a8))) f0_count f0_known f0_made f0_done f0_loopCount f0_tired f0_waiting a1 a2 a3 a4 a5 a6 a7 a8 p0)
theorem sd_join {post : Int32 → St2 → Prop} {K : Nat → Nat → Nat → Nat → Nat → Nat → Nat → Nat → Nat → Nat → Nat → Nat → Nat → Nat → Nat → Nat → Bool} (hK : ∀ r s0 s1 s2 s3 s4 s5 s6 s7 s8 s9 s10 s11 s12 s13 s14 : Nat, K r s0 s1 s2 s3 s4 s5 s6 s7 s8 s9 s10 s11 s12 s13 s14 = true → post (nI r) (nI s0, nI s1, nI s2, nI s3, nI s4, nI s5, nI s6, cb_ar s7, cb_ar s8, cb_ar s9, cb_ar s10, cb_ar s11, cb_ar s12, cb_ar s13, cb_ar s14)) (f0_count f0_known f0_made f0_done f0_loopCount f0_tired f0_waiting a1 a2 a3 a4 a5 a6 a7 a8 : Nat) {y_p0 : Int32} {p0 : Nat} (e_p0 : y_p0 = nI p0) {y_p1 : Int32} {p1 : Nat} (e_p1 : y_p1 = nI p1) (h : im_join K f0_count f0_known f0_made f0_done f0_loopCount f0_tired f0_waiting a1 a2 a3 a4 a5 a6 a7 a8 p0 p1 = true) : wpX_join post (nI f0_count, nI f0_known, nI f0_made, nI f0_done, nI f0_loopCount, nI f0_tired, nI f0_waiting, cb_ar a1, cb_ar a2, cb_ar a3, cb_ar a4, cb_ar a5, cb_ar a6, cb_ar a7, cb_ar a8) y_p0 y_p1 := by
  subst e_p0
  subst e_p1
  unfold im_join at h
  unfold wpX_join
  refine sd_badPort (fun r_1 h => ?_) f0_count f0_known f0_made f0_done f0_loopCount f0_tired f0_waiting a1 a2 a3 a4 a5 a6 a7 a8 rfl h
  refine ce_if (cb_eq_iff rfl (rfl : (0 : Int32) = nI 0)) h (fun h => ?_) (fun h => ?_)
  · refine sd_badPort (fun r_3 h => ?_) f0_count f0_known f0_made f0_done f0_loopCount f0_tired f0_waiting a1 a2 a3 a4 a5 a6 a7 a8 rfl h
    refine ce_if (cb_eq_iff rfl (rfl : (0 : Int32) = nI 0)) h (fun h => ?_) (fun h => ?_)
    · refine ce_if (cb_eq_iff rfl rfl) h (fun h => ?_) (fun h => ?_)
      · exact ce_p2 (P := post) cb_m1 (hK 4294967295 f0_count f0_known f0_made f0_done f0_loopCount f0_tired f0_waiting a1 a2 a3 a4 a5 a6 a7 a8 h)
      · refine ce_in rfl h (fun h => ?_)
        refine ce_if (cb_eq_iff (cb_hrd rfl) cb_m1) h (fun h => ?_) (fun h => ?_)
        · refine ce_in rfl h (fun h => ?_)
          refine ce_if (cb_eq_iff (cb_hrd rfl) cb_m1) h (fun h => ?_) (fun h => ?_)
          · refine ce_in rfl h (fun h => ?_)
            refine ce_arr (cb_hupd rfl rfl) h (fun a2_11 h => ?_)
            refine ce_in rfl h (fun h => ?_)
            refine ce_arr (cb_hupd rfl rfl) h (fun a2_13 h => ?_)
            exact ce_p2 (P := post) (rfl : (0 : Int32) = nI 0) (hK 0 f0_count 0 f0_made f0_done f0_loopCount f0_tired f0_waiting a1 a2_13 a3 a4 a5 a6 a7 a8 h)
          · exact ce_p2 (P := post) cb_m4 (hK 4294967292 f0_count f0_known f0_made f0_done f0_loopCount f0_tired f0_waiting a1 a2 a3 a4 a5 a6 a7 a8 h)
        · exact ce_p2 (P := post) cb_m4 (hK 4294967292 f0_count f0_known f0_made f0_done f0_loopCount f0_tired f0_waiting a1 a2 a3 a4 a5 a6 a7 a8 h)
    · exact ce_p2 (P := post) cb_m1 (hK 4294967295 f0_count f0_known f0_made f0_done f0_loopCount f0_tired f0_waiting a1 a2 a3 a4 a5 a6 a7 a8 h)
  · exact ce_p2 (P := post) cb_m1 (hK 4294967295 f0_count f0_known f0_made f0_done f0_loopCount f0_tired f0_waiting a1 a2 a3 a4 a5 a6 a7 a8 h)
def im_cut (K : Nat → Nat → Nat → Nat → Nat → Nat → Nat → Nat → Nat → Nat → Nat → Nat → Nat → Nat → Nat → Nat → Bool) (f0_count f0_known f0_made f0_done f0_loopCount f0_tired f0_waiting a1 a2 a3 a4 a5 a6 a7 a8 : Nat) (p0 : Nat) : Bool := (im_badPort (fun r_1 => (cond (cb_eq r_1 0) (cond (cb_in p0 34) (cb_let (cb_rd a2 p0) (fun x2_4 => (cond (cb_eq x2_4 4294967295) (K 4294967292 f0_count f0_known f0_made f0_done f0_loopCount f0_tired f0_waiting a1 a2 a3 a4 a5 a6 a7 a8) (cond (cb_in p0 34) (cb_let (cb_wr a2 p0 4294967295) (fun a2_7 => (cond (cb_in x2_4 34) (cb_let (cb_wr a2_7 x2_4 4294967295) (fun a2_9 => (K x2_4 f0_count 0 f0_made f0_done f0_loopCount f0_tired f0_waiting a1 a2_9 a3 a4 a5 a6 a7 a8))) false))) false)))) false) (K 4294967295 f0_count f0_known f0_made f0_done f0_loopCount f0_tired f0_waiting a1 a2 a3 a4 a5 a6 a7 a8))) f0_count f0_known f0_made f0_done f0_loopCount f0_tired f0_waiting a1 a2 a3 a4 a5 a6 a7 a8 p0)
theorem sd_cut {post : Int32 → St2 → Prop} {K : Nat → Nat → Nat → Nat → Nat → Nat → Nat → Nat → Nat → Nat → Nat → Nat → Nat → Nat → Nat → Nat → Bool} (hK : ∀ r s0 s1 s2 s3 s4 s5 s6 s7 s8 s9 s10 s11 s12 s13 s14 : Nat, K r s0 s1 s2 s3 s4 s5 s6 s7 s8 s9 s10 s11 s12 s13 s14 = true → post (nI r) (nI s0, nI s1, nI s2, nI s3, nI s4, nI s5, nI s6, cb_ar s7, cb_ar s8, cb_ar s9, cb_ar s10, cb_ar s11, cb_ar s12, cb_ar s13, cb_ar s14)) (f0_count f0_known f0_made f0_done f0_loopCount f0_tired f0_waiting a1 a2 a3 a4 a5 a6 a7 a8 : Nat) {y_p0 : Int32} {p0 : Nat} (e_p0 : y_p0 = nI p0) (h : im_cut K f0_count f0_known f0_made f0_done f0_loopCount f0_tired f0_waiting a1 a2 a3 a4 a5 a6 a7 a8 p0 = true) : wpX_cut post (nI f0_count, nI f0_known, nI f0_made, nI f0_done, nI f0_loopCount, nI f0_tired, nI f0_waiting, cb_ar a1, cb_ar a2, cb_ar a3, cb_ar a4, cb_ar a5, cb_ar a6, cb_ar a7, cb_ar a8) y_p0 := by
  subst e_p0
  unfold im_cut at h
  unfold wpX_cut
  refine sd_badPort (fun r_1 h => ?_) f0_count f0_known f0_made f0_done f0_loopCount f0_tired f0_waiting a1 a2 a3 a4 a5 a6 a7 a8 rfl h
  refine ce_if (cb_eq_iff rfl (rfl : (0 : Int32) = nI 0)) h (fun h => ?_) (fun h => ?_)
  · refine ce_in rfl h (fun h => ?_)
    refine ce_int (cb_hrd rfl) h (fun x2_4 h => ?_)
    refine ce_if (cb_eq_iff rfl cb_m1) h (fun h => ?_) (fun h => ?_)
    · exact ce_p2 (P := post) cb_m4 (hK 4294967292 f0_count f0_known f0_made f0_done f0_loopCount f0_tired f0_waiting a1 a2 a3 a4 a5 a6 a7 a8 h)
    · refine ce_in rfl h (fun h => ?_)
      refine ce_arr (cb_hupd rfl cb_m1) h (fun a2_7 h => ?_)
      refine ce_in rfl h (fun h => ?_)
      refine ce_arr (cb_hupd rfl cb_m1) h (fun a2_9 h => ?_)
      exact ce_p2 (P := post) rfl (hK x2_4 f0_count 0 f0_made f0_done f0_loopCount f0_tired f0_waiting a1 a2_9 a3 a4 a5 a6 a7 a8 h)
  · exact ce_p2 (P := post) cb_m1 (hK 4294967295 f0_count f0_known f0_made f0_done f0_loopCount f0_tired f0_waiting a1 a2 a3 a4 a5 a6 a7 a8 h)
def im_isHead (K : Nat → Bool) (f0_count f0_known f0_made f0_done f0_loopCount f0_tired f0_waiting a1 a2 a3 a4 a5 a6 a7 a8 : Nat) (p0 : Nat) : Bool := (cond (cb_lt p0 0) (K 0) (cond (cb_le 1470 p0) (K 0) (cond (cb_eq (cb_sub p0 (cb_mul (cb_div3 p0) 3)) 0) (K 1) (K 0))))
theorem sd_isHead {post : Int32 → Prop} {K : Nat → Bool} (hK : ∀ r : Nat, K r = true → post (nI r)) (f0_count f0_known f0_made f0_done f0_loopCount f0_tired f0_waiting a1 a2 a3 a4 a5 a6 a7 a8 : Nat) {y_p0 : Int32} {p0 : Nat} (e_p0 : y_p0 = nI p0) (h : im_isHead K f0_count f0_known f0_made f0_done f0_loopCount f0_tired f0_waiting a1 a2 a3 a4 a5 a6 a7 a8 p0 = true) : wpX_isHead post (nI f0_count, nI f0_known, nI f0_made, nI f0_done, nI f0_loopCount, nI f0_tired, nI f0_waiting, cb_ar a1, cb_ar a2, cb_ar a3, cb_ar a4, cb_ar a5, cb_ar a6, cb_ar a7, cb_ar a8) y_p0 := by
  subst e_p0
  unfold im_isHead at h
  unfold wpX_isHead
  refine ce_if (cb_lt_iff rfl (rfl : (0 : Int32) = nI 0)) h (fun h => ?_) (fun h => ?_)
  · exact ce_p1 (P := post) (rfl : (0 : Int32) = nI 0) (hK 0 h)
  · refine ce_if (cb_le_iff (rfl : (1470 : Int32) = nI 1470) rfl) h (fun h => ?_) (fun h => ?_)
    · exact ce_p1 (P := post) (rfl : (0 : Int32) = nI 0) (hK 0 h)
    · refine ⟨cb_n3, ?_⟩
      refine ce_if (cb_eq_iff (cb_hsub rfl (cb_hmul (cb_hdiv3 rfl) (rfl : (3 : Int32) = nI 3))) (rfl : (0 : Int32) = nI 0)) h (fun h => ?_) (fun h => ?_)
      · exact ce_p1 (P := post) (rfl : (1 : Int32) = nI 1) (hK 1 h)
      · exact ce_p1 (P := post) (rfl : (0 : Int32) = nI 0) (hK 0 h)
def im_faces (K : Nat → Bool) (f0_count f0_known f0_made f0_done f0_loopCount f0_tired f0_waiting a1 a2 a3 a4 a5 a6 a7 a8 : Nat) (p0 : Nat) : Bool := (cond (cb_in p0 490) (cond (cb_eq (cb_rd a4 p0) 0) (cond (cb_in (cb_mul 3 p0) 1474) (im_isHead (fun r_4 => (cond (cb_eq r_4 0) (K 0) (K 1))) f0_count f0_known f0_made f0_done f0_loopCount f0_tired f0_waiting a1 a2 a3 a4 a5 a6 a7 a8 (cb_rd a5 (cb_mul 3 p0))) false) (K 0)) false)
theorem sd_faces {post : Int32 → Prop} {K : Nat → Bool} (hK : ∀ r : Nat, K r = true → post (nI r)) (f0_count f0_known f0_made f0_done f0_loopCount f0_tired f0_waiting a1 a2 a3 a4 a5 a6 a7 a8 : Nat) {y_p0 : Int32} {p0 : Nat} (e_p0 : y_p0 = nI p0) (h : im_faces K f0_count f0_known f0_made f0_done f0_loopCount f0_tired f0_waiting a1 a2 a3 a4 a5 a6 a7 a8 p0 = true) : wpX_faces post (nI f0_count, nI f0_known, nI f0_made, nI f0_done, nI f0_loopCount, nI f0_tired, nI f0_waiting, cb_ar a1, cb_ar a2, cb_ar a3, cb_ar a4, cb_ar a5, cb_ar a6, cb_ar a7, cb_ar a8) y_p0 := by
  subst e_p0
  unfold im_faces at h
  unfold wpX_faces
  refine ce_in rfl h (fun h => ?_)
  refine ce_if (cb_eq_iff (cb_hrd rfl) (rfl : (0 : Int32) = nI 0)) h (fun h => ?_) (fun h => ?_)
  · refine ce_in (cb_hmul (rfl : (3 : Int32) = nI 3) rfl) h (fun h => ?_)
    refine sd_isHead (fun r_4 h => ?_) f0_count f0_known f0_made f0_done f0_loopCount f0_tired f0_waiting a1 a2 a3 a4 a5 a6 a7 a8 (cb_hrd (cb_hmul (rfl : (3 : Int32) = nI 3) rfl)) h
    refine ce_if (cb_eq_iff rfl (rfl : (0 : Int32) = nI 0)) h (fun h => ?_) (fun h => ?_)
    · exact ce_p1 (P := post) (rfl : (0 : Int32) = nI 0) (hK 0 h)
    · exact ce_p1 (P := post) (rfl : (1 : Int32) = nI 1) (hK 1 h)
  · exact ce_p1 (P := post) (rfl : (0 : Int32) = nI 0) (hK 0 h)
def im_copyPort (K : Nat → Bool) (f0_count f0_known f0_made f0_done f0_loopCount f0_tired f0_waiting a1 a2 a3 a4 a5 a6 a7 a8 : Nat) (p0 : Nat) : Bool := (cond (cb_eq p0 4294967295) (K 4294967295) (cond (cb_le 30 p0) (K (cb_add (cb_sub p0 30) 1470)) (K p0)))
theorem sd_copyPort {post : Int32 → Prop} {K : Nat → Bool} (hK : ∀ r : Nat, K r = true → post (nI r)) (f0_count f0_known f0_made f0_done f0_loopCount f0_tired f0_waiting a1 a2 a3 a4 a5 a6 a7 a8 : Nat) {y_p0 : Int32} {p0 : Nat} (e_p0 : y_p0 = nI p0) (h : im_copyPort K f0_count f0_known f0_made f0_done f0_loopCount f0_tired f0_waiting a1 a2 a3 a4 a5 a6 a7 a8 p0 = true) : wpX_copyPort post (nI f0_count, nI f0_known, nI f0_made, nI f0_done, nI f0_loopCount, nI f0_tired, nI f0_waiting, cb_ar a1, cb_ar a2, cb_ar a3, cb_ar a4, cb_ar a5, cb_ar a6, cb_ar a7, cb_ar a8) y_p0 := by
  subst e_p0
  unfold im_copyPort at h
  unfold wpX_copyPort
  refine ce_if (cb_eq_iff rfl cb_m1) h (fun h => ?_) (fun h => ?_)
  · exact ce_p1 (P := post) cb_m1 (hK 4294967295 h)
  · refine ce_if (cb_le_iff (rfl : (30 : Int32) = nI 30) rfl) h (fun h => ?_) (fun h => ?_)
    · exact ce_p1 (P := post) (cb_hadd (cb_hsub rfl (rfl : (30 : Int32) = nI 30)) (rfl : (1470 : Int32) = nI 1470)) (hK (cb_add (cb_sub p0 30) 1470) h)
    · exact ce_p1 (P := post) rfl (hK p0 h)
def im_copyNet_101 (K : Nat → Nat → Nat → Nat → Nat → Nat → Nat → Nat → Nat → Nat → Nat → Nat → Nat → Nat → Nat → Bool) (f0_count : Nat) (f0_known : Nat) (f0_made : Nat) (f0_done : Nat) (f0_loopCount : Nat) (f0_tired : Nat) : Nat → Nat → Nat → Nat → Nat → Nat → Nat → Nat → Nat → Nat → Nat → Bool
  | 0 => fun _ _ _ _ _ _ _ _ _ _ => false
  | n + 1 => fun x1 f0_waiting a1 a2 a3 a4 a5 a6 a7 a8 => (cond (cb_le f0_count x1) (K f0_count f0_known f0_made f0_done f0_loopCount f0_tired f0_waiting a1 a2 a3 a4 a5 a6 a7 a8) (im_faces (fun r_4 => (cond (cb_eq r_4 0) (cb_let (cb_add x1 1) (fun x1_6 => (im_copyNet_101 K f0_count f0_known f0_made f0_done f0_loopCount f0_tired n x1_6 f0_waiting a1 a2 a3 a4 a5 a6 a7 a8))) (cond (cb_in f0_waiting 1000) (cb_let (cb_wr a6 f0_waiting x1) (fun a6_8 => (cb_let (cb_add f0_waiting 1) (fun f_9 => (cb_let (cb_add x1 1) (fun x1_10 => (im_copyNet_101 K f0_count f0_known f0_made f0_done f0_loopCount f0_tired n x1_10 f_9 a1 a2 a3 a4 a5 a6_8 a7 a8))))))) false))) f0_count f0_known f0_made f0_done f0_loopCount f0_tired f0_waiting a1 a2 a3 a4 a5 a6 a7 a8 x1))
theorem sd_copyNet_101 {post : St2 → Prop} {K : Nat → Nat → Nat → Nat → Nat → Nat → Nat → Nat → Nat → Nat → Nat → Nat → Nat → Nat → Nat → Bool} (hK : ∀ s0 s1 s2 s3 s4 s5 s6 s7 s8 s9 s10 s11 s12 s13 s14 : Nat, K s0 s1 s2 s3 s4 s5 s6 s7 s8 s9 s10 s11 s12 s13 s14 = true → post (nI s0, nI s1, nI s2, nI s3, nI s4, nI s5, nI s6, cb_ar s7, cb_ar s8, cb_ar s9, cb_ar s10, cb_ar s11, cb_ar s12, cb_ar s13, cb_ar s14)) (f0_count : Nat) (f0_known : Nat) (f0_made : Nat) (f0_done : Nat) (f0_loopCount : Nat) (f0_tired : Nat) : ∀ (n x1 f0_waiting a1 a2 a3 a4 a5 a6 a7 a8 : Nat), im_copyNet_101 K f0_count f0_known f0_made f0_done f0_loopCount f0_tired n x1 f0_waiting a1 a2 a3 a4 a5 a6 a7 a8 = true → wX_copyNet_101 post (nI f0_count) (nI f0_known) (nI f0_made) (nI f0_done) (nI f0_loopCount) (nI f0_tired) n (nI x1) (nI f0_waiting) (cb_ar a1) (cb_ar a2) (cb_ar a3) (cb_ar a4) (cb_ar a5) (cb_ar a6) (cb_ar a7) (cb_ar a8) := by
  intro n
  induction n with
  | zero =>
    intro x1 f0_waiting a1 a2 a3 a4 a5 a6 a7 a8 h
    exact ce_no h
  | succ n ih =>
    intro x1 f0_waiting a1 a2 a3 a4 a5 a6 a7 a8 h
    unfold im_copyNet_101 at h
    unfold wX_copyNet_101
    refine ce_if (cb_le_iff rfl rfl) h (fun h => ?_) (fun h => ?_)
    · exact hK f0_count f0_known f0_made f0_done f0_loopCount f0_tired f0_waiting a1 a2 a3 a4 a5 a6 a7 a8 h
    · refine sd_faces (fun r_4 h => ?_) f0_count f0_known f0_made f0_done f0_loopCount f0_tired f0_waiting a1 a2 a3 a4 a5 a6 a7 a8 rfl h
      refine ce_if (cb_eq_iff rfl (rfl : (0 : Int32) = nI 0)) h (fun h => ?_) (fun h => ?_)
      · refine ce_int (cb_hadd rfl (rfl : (1 : Int32) = nI 1)) h (fun x1_6 h => ?_)
        exact ih x1_6 f0_waiting a1 a2 a3 a4 a5 a6 a7 a8 h
      · refine ce_in rfl h (fun h => ?_)
        refine ce_arr (cb_hupd rfl rfl) h (fun a6_8 h => ?_)
        refine ce_int (cb_hadd rfl (rfl : (1 : Int32) = nI 1)) h (fun f_9 h => ?_)
        refine ce_int (cb_hadd rfl (rfl : (1 : Int32) = nI 1)) h (fun x1_10 h => ?_)
        exact ih x1_10 f_9 a1 a2 a3 a4 a5 a6_8 a7 a8 h
def im_copyNet_37 (K : Nat → Nat → Nat → Nat → Nat → Nat → Nat → Nat → Nat → Nat → Nat → Nat → Nat → Nat → Nat → Bool) (f0_count : Nat) (f0_known : Nat) (f0_made : Nat) (f0_done : Nat) (f0_loopCount : Nat) (f0_tired : Nat) (f0_waiting : Nat) : Nat → Nat → Nat → Nat → Nat → Nat → Nat → Nat → Nat → Nat → Bool
  | 0 => fun _ _ _ _ _ _ _ _ _ => false
  | n + 1 => fun x1 a1 a2 a3 a4 a5 a6 a7 a8 => (cond (cb_le 34 x1) (im_copyNet_101 K f0_count f0_known f0_count 0 0 0 60 0 0 a1 a2 a3 a4 a5 a6 a7 a8) (im_copyPort (fun r_11 => (cond (cb_in x1 34) (im_copyPort (fun r_13 => (cond (cb_in r_11 1474) (cb_let (cb_wr a5 r_11 r_13) (fun a5_15 => (cb_let (cb_add x1 1) (fun x1_16 => (im_copyNet_37 K f0_count f0_known f0_made f0_done f0_loopCount f0_tired f0_waiting n x1_16 a1 a2 a3 a4 a5_15 a6 a7 a8))))) false)) f0_count f0_known f0_made f0_done f0_loopCount f0_tired f0_waiting a1 a2 a3 a4 a5 a6 a7 a8 (cb_rd a2 x1)) false)) f0_count f0_known f0_made f0_done f0_loopCount f0_tired f0_waiting a1 a2 a3 a4 a5 a6 a7 a8 x1))
theorem sd_copyNet_37 {post : St2 → Prop} {K : Nat → Nat → Nat → Nat → Nat → Nat → Nat → Nat → Nat → Nat → Nat → Nat → Nat → Nat → Nat → Bool} (hK : ∀ s0 s1 s2 s3 s4 s5 s6 s7 s8 s9 s10 s11 s12 s13 s14 : Nat, K s0 s1 s2 s3 s4 s5 s6 s7 s8 s9 s10 s11 s12 s13 s14 = true → post (nI s0, nI s1, nI s2, nI s3, nI s4, nI s5, nI s6, cb_ar s7, cb_ar s8, cb_ar s9, cb_ar s10, cb_ar s11, cb_ar s12, cb_ar s13, cb_ar s14)) (f0_count : Nat) (f0_known : Nat) (f0_made : Nat) (f0_done : Nat) (f0_loopCount : Nat) (f0_tired : Nat) (f0_waiting : Nat) : ∀ (n x1 a1 a2 a3 a4 a5 a6 a7 a8 : Nat), im_copyNet_37 K f0_count f0_known f0_made f0_done f0_loopCount f0_tired f0_waiting n x1 a1 a2 a3 a4 a5 a6 a7 a8 = true → wX_copyNet_37 post (nI f0_count) (nI f0_known) (nI f0_made) (nI f0_done) (nI f0_loopCount) (nI f0_tired) (nI f0_waiting) n (nI x1) (cb_ar a1) (cb_ar a2) (cb_ar a3) (cb_ar a4) (cb_ar a5) (cb_ar a6) (cb_ar a7) (cb_ar a8) := by
  intro n
  induction n with
  | zero =>
    intro x1 a1 a2 a3 a4 a5 a6 a7 a8 h
    exact ce_no h
  | succ n ih =>
    intro x1 a1 a2 a3 a4 a5 a6 a7 a8 h
    unfold im_copyNet_37 at h
    unfold wX_copyNet_37
    refine ce_if (cb_le_iff (rfl : (34 : Int32) = nI 34) rfl) h (fun h => ?_) (fun h => ?_)
    · refine ⟨60, ?_⟩
      exact sd_copyNet_101 hK f0_count f0_known f0_count 0 0 0 60 0 0 a1 a2 a3 a4 a5 a6 a7 a8 h
    · refine sd_copyPort (fun r_11 h => ?_) f0_count f0_known f0_made f0_done f0_loopCount f0_tired f0_waiting a1 a2 a3 a4 a5 a6 a7 a8 rfl h
      refine ce_in rfl h (fun h => ?_)
      refine sd_copyPort (fun r_13 h => ?_) f0_count f0_known f0_made f0_done f0_loopCount f0_tired f0_waiting a1 a2 a3 a4 a5 a6 a7 a8 (cb_hrd rfl) h
      refine ce_in rfl h (fun h => ?_)
      refine ce_arr (cb_hupd rfl rfl) h (fun a5_15 h => ?_)
      refine ce_int (cb_hadd rfl (rfl : (1 : Int32) = nI 1)) h (fun x1_16 h => ?_)
      exact ih x1_16 a1 a2 a3 a4 a5_15 a6 a7 a8 h
def im_copyNet_2 (K : Nat → Nat → Nat → Nat → Nat → Nat → Nat → Nat → Nat → Nat → Nat → Nat → Nat → Nat → Nat → Bool) (f0_count : Nat) (f0_known : Nat) (f0_made : Nat) (f0_done : Nat) (f0_loopCount : Nat) (f0_tired : Nat) (f0_waiting : Nat) : Nat → Nat → Nat → Nat → Nat → Nat → Nat → Nat → Nat → Nat → Bool
  | 0 => fun _ _ _ _ _ _ _ _ _ => false
  | n + 1 => fun x1 a1 a2 a3 a4 a5 a6 a7 a8 => (cond (cb_le f0_count x1) (im_copyNet_37 K f0_count f0_known f0_made f0_done f0_loopCount f0_tired f0_waiting 60 0 a1 a2 a3 a4 a5 a6 a7 a8) (cond (cb_in x1 10) (cond (cb_in x1 490) (cb_let (cb_wr a3 x1 (cb_rd a1 x1)) (fun a3_19 => (cond (cb_in x1 490) (cb_let (cb_wr a4 x1 0) (fun a4_21 => (cb_let (cb_add x1 1) (fun x1_22 => (im_copyNet_2 K f0_count f0_known f0_made f0_done f0_loopCount f0_tired f0_waiting n x1_22 a1 a2 a3_19 a4_21 a5 a6 a7 a8))))) false))) false) false))
theorem sd_copyNet_2 {post : St2 → Prop} {K : Nat → Nat → Nat → Nat → Nat → Nat → Nat → Nat → Nat → Nat → Nat → Nat → Nat → Nat → Nat → Bool} (hK : ∀ s0 s1 s2 s3 s4 s5 s6 s7 s8 s9 s10 s11 s12 s13 s14 : Nat, K s0 s1 s2 s3 s4 s5 s6 s7 s8 s9 s10 s11 s12 s13 s14 = true → post (nI s0, nI s1, nI s2, nI s3, nI s4, nI s5, nI s6, cb_ar s7, cb_ar s8, cb_ar s9, cb_ar s10, cb_ar s11, cb_ar s12, cb_ar s13, cb_ar s14)) (f0_count : Nat) (f0_known : Nat) (f0_made : Nat) (f0_done : Nat) (f0_loopCount : Nat) (f0_tired : Nat) (f0_waiting : Nat) : ∀ (n x1 a1 a2 a3 a4 a5 a6 a7 a8 : Nat), im_copyNet_2 K f0_count f0_known f0_made f0_done f0_loopCount f0_tired f0_waiting n x1 a1 a2 a3 a4 a5 a6 a7 a8 = true → wX_copyNet_2 post (nI f0_count) (nI f0_known) (nI f0_made) (nI f0_done) (nI f0_loopCount) (nI f0_tired) (nI f0_waiting) n (nI x1) (cb_ar a1) (cb_ar a2) (cb_ar a3) (cb_ar a4) (cb_ar a5) (cb_ar a6) (cb_ar a7) (cb_ar a8) := by
  intro n
  induction n with
  | zero =>
    intro x1 a1 a2 a3 a4 a5 a6 a7 a8 h
    exact ce_no h
  | succ n ih =>
    intro x1 a1 a2 a3 a4 a5 a6 a7 a8 h
    unfold im_copyNet_2 at h
    unfold wX_copyNet_2
    refine ce_if (cb_le_iff rfl rfl) h (fun h => ?_) (fun h => ?_)
    · refine ⟨60, ?_⟩
      exact sd_copyNet_37 hK f0_count f0_known f0_made f0_done f0_loopCount f0_tired f0_waiting 60 0 a1 a2 a3 a4 a5 a6 a7 a8 h
    · refine ce_in rfl h (fun h => ?_)
      refine ce_in rfl h (fun h => ?_)
      refine ce_arr (cb_hupd rfl (cb_hrd rfl)) h (fun a3_19 h => ?_)
      refine ce_in rfl h (fun h => ?_)
      refine ce_arr (cb_hupd rfl (rfl : (0 : Int32) = nI 0)) h (fun a4_21 h => ?_)
      refine ce_int (cb_hadd rfl (rfl : (1 : Int32) = nI 1)) h (fun x1_22 h => ?_)
      exact ih x1_22 a1 a2 a3_19 a4_21 a5 a6 a7 a8 h
def im_copyNet (K : Nat → Nat → Nat → Nat → Nat → Nat → Nat → Nat → Nat → Nat → Nat → Nat → Nat → Nat → Nat → Bool) (f0_count f0_known f0_made f0_done f0_loopCount f0_tired f0_waiting a1 a2 a3 a4 a5 a6 a7 a8 : Nat) : Bool := (im_copyNet_2 K f0_count f0_known f0_made f0_done f0_loopCount f0_tired f0_waiting 60 0 a1 a2 a3 a4 a5 a6 a7 a8)
theorem sd_copyNet {post : St2 → Prop} {K : Nat → Nat → Nat → Nat → Nat → Nat → Nat → Nat → Nat → Nat → Nat → Nat → Nat → Nat → Nat → Bool} (hK : ∀ s0 s1 s2 s3 s4 s5 s6 s7 s8 s9 s10 s11 s12 s13 s14 : Nat, K s0 s1 s2 s3 s4 s5 s6 s7 s8 s9 s10 s11 s12 s13 s14 = true → post (nI s0, nI s1, nI s2, nI s3, nI s4, nI s5, nI s6, cb_ar s7, cb_ar s8, cb_ar s9, cb_ar s10, cb_ar s11, cb_ar s12, cb_ar s13, cb_ar s14)) (f0_count f0_known f0_made f0_done f0_loopCount f0_tired f0_waiting a1 a2 a3 a4 a5 a6 a7 a8 : Nat) (h : im_copyNet K f0_count f0_known f0_made f0_done f0_loopCount f0_tired f0_waiting a1 a2 a3 a4 a5 a6 a7 a8 = true) : wpX_copyNet post (nI f0_count, nI f0_known, nI f0_made, nI f0_done, nI f0_loopCount, nI f0_tired, nI f0_waiting, cb_ar a1, cb_ar a2, cb_ar a3, cb_ar a4, cb_ar a5, cb_ar a6, cb_ar a7, cb_ar a8) := by
  unfold im_copyNet at h
  unfold wpX_copyNet
  refine ⟨60, ?_⟩
  exact sd_copyNet_2 hK f0_count f0_known f0_made f0_done f0_loopCount f0_tired f0_waiting 60 0 a1 a2 a3 a4 a5 a6 a7 a8 h
def im_newCell_31 (K : Nat → Nat → Nat → Nat → Nat → Nat → Nat → Nat → Nat → Nat → Nat → Nat → Nat → Nat → Nat → Nat → Bool) (x2 : Nat) (f0_count : Nat) (f0_known : Nat) (f0_made : Nat) (f0_done : Nat) (f0_loopCount : Nat) (f0_tired : Nat) (f0_waiting : Nat) : Nat → Nat → Nat → Nat → Nat → Nat → Nat → Nat → Nat → Nat → Bool
  | 0 => fun _ _ _ _ _ _ _ _ _ => false
  | n + 1 => fun x3 a1 a2 a3 a4 a5 a6 a7 a8 => (cond (cb_le 3 x3) (K x2 f0_count f0_known f0_made f0_done f0_loopCount f0_tired f0_waiting a1 a2 a3 a4 a5 a6 a7 a8) (cond (cb_in (cb_add (cb_mul 3 x2) x3) 1474) (cb_let (cb_wr a5 (cb_add (cb_mul 3 x2) x3) 4294967295) (fun a5_8 => (cb_let (cb_add x3 1) (fun x3_9 => (im_newCell_31 K x2 f0_count f0_known f0_made f0_done f0_loopCount f0_tired f0_waiting n x3_9 a1 a2 a3 a4 a5_8 a6 a7 a8))))) false))
theorem sd_newCell_31 {post : Int32 → St2 → Prop} {K : Nat → Nat → Nat → Nat → Nat → Nat → Nat → Nat → Nat → Nat → Nat → Nat → Nat → Nat → Nat → Nat → Bool} (hK : ∀ r s0 s1 s2 s3 s4 s5 s6 s7 s8 s9 s10 s11 s12 s13 s14 : Nat, K r s0 s1 s2 s3 s4 s5 s6 s7 s8 s9 s10 s11 s12 s13 s14 = true → post (nI r) (nI s0, nI s1, nI s2, nI s3, nI s4, nI s5, nI s6, cb_ar s7, cb_ar s8, cb_ar s9, cb_ar s10, cb_ar s11, cb_ar s12, cb_ar s13, cb_ar s14)) {y_x2 : Int32} {x2 : Nat} (e_x2 : y_x2 = nI x2) (f0_count : Nat) (f0_known : Nat) (f0_made : Nat) (f0_done : Nat) (f0_loopCount : Nat) (f0_tired : Nat) (f0_waiting : Nat) : ∀ (n x3 a1 a2 a3 a4 a5 a6 a7 a8 : Nat), im_newCell_31 K x2 f0_count f0_known f0_made f0_done f0_loopCount f0_tired f0_waiting n x3 a1 a2 a3 a4 a5 a6 a7 a8 = true → wX_newCell_31 post y_x2 (nI f0_count) (nI f0_known) (nI f0_made) (nI f0_done) (nI f0_loopCount) (nI f0_tired) (nI f0_waiting) n (nI x3) (cb_ar a1) (cb_ar a2) (cb_ar a3) (cb_ar a4) (cb_ar a5) (cb_ar a6) (cb_ar a7) (cb_ar a8) := by
  subst e_x2
  intro n
  induction n with
  | zero =>
    intro x3 a1 a2 a3 a4 a5 a6 a7 a8 h
    exact ce_no h
  | succ n ih =>
    intro x3 a1 a2 a3 a4 a5 a6 a7 a8 h
    unfold im_newCell_31 at h
    unfold wX_newCell_31
    refine ce_if (cb_le_iff (rfl : (3 : Int32) = nI 3) rfl) h (fun h => ?_) (fun h => ?_)
    · exact ce_p2 (P := post) rfl (hK x2 f0_count f0_known f0_made f0_done f0_loopCount f0_tired f0_waiting a1 a2 a3 a4 a5 a6 a7 a8 h)
    · refine ce_in (cb_hadd (cb_hmul (rfl : (3 : Int32) = nI 3) rfl) rfl) h (fun h => ?_)
      refine ce_arr (cb_hupd (cb_hadd (cb_hmul (rfl : (3 : Int32) = nI 3) rfl) rfl) cb_m1) h (fun a5_8 h => ?_)
      refine ce_int (cb_hadd rfl (rfl : (1 : Int32) = nI 1)) h (fun x3_9 h => ?_)
      exact ih x3_9 a1 a2 a3 a4 a5_8 a6 a7 a8 h
def im_newCell (K : Nat → Nat → Nat → Nat → Nat → Nat → Nat → Nat → Nat → Nat → Nat → Nat → Nat → Nat → Nat → Nat → Bool) (f0_count f0_known f0_made f0_done f0_loopCount f0_tired f0_waiting a1 a2 a3 a4 a5 a6 a7 a8 : Nat) (p0 : Nat) : Bool := (cb_let (cb_add f0_made 1) (fun f_1 => (cond (cb_in f0_made 490) (cb_let (cb_wr a3 f0_made p0) (fun a3_3 => (cond (cb_in f0_made 490) (cb_let (cb_wr a4 f0_made 0) (fun a4_5 => (im_newCell_31 K f0_made f0_count f0_known f_1 f0_done f0_loopCount f0_tired f0_waiting 60 0 a1 a2 a3_3 a4_5 a5 a6 a7 a8))) false))) false)))
theorem sd_newCell {post : Int32 → St2 → Prop} {K : Nat → Nat → Nat → Nat → Nat → Nat → Nat → Nat → Nat → Nat → Nat → Nat → Nat → Nat → Nat → Nat → Bool} (hK : ∀ r s0 s1 s2 s3 s4 s5 s6 s7 s8 s9 s10 s11 s12 s13 s14 : Nat, K r s0 s1 s2 s3 s4 s5 s6 s7 s8 s9 s10 s11 s12 s13 s14 = true → post (nI r) (nI s0, nI s1, nI s2, nI s3, nI s4, nI s5, nI s6, cb_ar s7, cb_ar s8, cb_ar s9, cb_ar s10, cb_ar s11, cb_ar s12, cb_ar s13, cb_ar s14)) (f0_count f0_known f0_made f0_done f0_loopCount f0_tired f0_waiting a1 a2 a3 a4 a5 a6 a7 a8 : Nat) {y_p0 : Int32} {p0 : Nat} (e_p0 : y_p0 = nI p0) (h : im_newCell K f0_count f0_known f0_made f0_done f0_loopCount f0_tired f0_waiting a1 a2 a3 a4 a5 a6 a7 a8 p0 = true) : wpX_newCell post (nI f0_count, nI f0_known, nI f0_made, nI f0_done, nI f0_loopCount, nI f0_tired, nI f0_waiting, cb_ar a1, cb_ar a2, cb_ar a3, cb_ar a4, cb_ar a5, cb_ar a6, cb_ar a7, cb_ar a8) y_p0 := by
  subst e_p0
  unfold im_newCell at h
  unfold wpX_newCell
  refine ce_int (cb_hadd rfl (rfl : (1 : Int32) = nI 1)) h (fun f_1 h => ?_)
  refine ce_in rfl h (fun h => ?_)
  refine ce_arr (cb_hupd rfl rfl) h (fun a3_3 h => ?_)
  refine ce_in rfl h (fun h => ?_)
  refine ce_arr (cb_hupd rfl (rfl : (0 : Int32) = nI 0)) h (fun a4_5 h => ?_)
  refine ⟨60, ?_⟩
  exact sd_newCell_31 hK rfl f0_count f0_known f_1 f0_done f0_loopCount f0_tired f0_waiting 60 0 a1 a2 a3_3 a4_5 a5 a6 a7 a8 h
def im_wire (K : Nat → Nat → Nat → Nat → Nat → Nat → Nat → Nat → Nat → Nat → Nat → Nat → Nat → Nat → Nat → Bool) (f0_count f0_known f0_made f0_done f0_loopCount f0_tired f0_waiting a1 a2 a3 a4 a5 a6 a7 a8 : Nat) (p0 : Nat) (p1 : Nat) : Bool := (cond (cb_in p0 1474) (cb_let (cb_wr a5 p0 p1) (fun a5_2 => (cond (cb_in p1 1474) (cb_let (cb_wr a5_2 p1 p0) (fun a5_4 => (im_isHead (fun r_5 => (cond (cb_eq r_5 0) (K f0_count f0_known f0_made f0_done f0_loopCount f0_tired f0_waiting a1 a2 a3 a4 a5_4 a6 a7 a8) (im_isHead (fun r_7 => (cond (cb_eq r_7 0) (K f0_count f0_known f0_made f0_done f0_loopCount f0_tired f0_waiting a1 a2 a3 a4 a5_4 a6 a7 a8) (cond (cb_in f0_waiting 1000) (cb_let (cb_wr a6 f0_waiting (cb_div3 p0)) (fun a6_11 => (cb_let (cb_add f0_waiting 1) (fun f_12 => (K f0_count f0_known f0_made f0_done f0_loopCount f0_tired f_12 a1 a2 a3 a4 a5_4 a6_11 a7 a8))))) false))) f0_count f0_known f0_made f0_done f0_loopCount f0_tired f0_waiting a1 a2 a3 a4 a5_4 a6 a7 a8 p1))) f0_count f0_known f0_made f0_done f0_loopCount f0_tired f0_waiting a1 a2 a3 a4 a5_4 a6 a7 a8 p0))) false))) false)
theorem sd_wire {post : St2 → Prop} {K : Nat → Nat → Nat → Nat → Nat → Nat → Nat → Nat → Nat → Nat → Nat → Nat → Nat → Nat → Nat → Bool} (hK : ∀ s0 s1 s2 s3 s4 s5 s6 s7 s8 s9 s10 s11 s12 s13 s14 : Nat, K s0 s1 s2 s3 s4 s5 s6 s7 s8 s9 s10 s11 s12 s13 s14 = true → post (nI s0, nI s1, nI s2, nI s3, nI s4, nI s5, nI s6, cb_ar s7, cb_ar s8, cb_ar s9, cb_ar s10, cb_ar s11, cb_ar s12, cb_ar s13, cb_ar s14)) (f0_count f0_known f0_made f0_done f0_loopCount f0_tired f0_waiting a1 a2 a3 a4 a5 a6 a7 a8 : Nat) {y_p0 : Int32} {p0 : Nat} (e_p0 : y_p0 = nI p0) {y_p1 : Int32} {p1 : Nat} (e_p1 : y_p1 = nI p1) (h : im_wire K f0_count f0_known f0_made f0_done f0_loopCount f0_tired f0_waiting a1 a2 a3 a4 a5 a6 a7 a8 p0 p1 = true) : wpX_wire post (nI f0_count, nI f0_known, nI f0_made, nI f0_done, nI f0_loopCount, nI f0_tired, nI f0_waiting, cb_ar a1, cb_ar a2, cb_ar a3, cb_ar a4, cb_ar a5, cb_ar a6, cb_ar a7, cb_ar a8) y_p0 y_p1 := by
  subst e_p0
  subst e_p1
  unfold im_wire at h
  unfold wpX_wire
  refine ce_in rfl h (fun h => ?_)
  refine ce_arr (cb_hupd rfl rfl) h (fun a5_2 h => ?_)
  refine ce_in rfl h (fun h => ?_)
  refine ce_arr (cb_hupd rfl rfl) h (fun a5_4 h => ?_)
  refine sd_isHead (fun r_5 h => ?_) f0_count f0_known f0_made f0_done f0_loopCount f0_tired f0_waiting a1 a2 a3 a4 a5_4 a6 a7 a8 rfl h
  refine ce_if (cb_eq_iff rfl (rfl : (0 : Int32) = nI 0)) h (fun h => ?_) (fun h => ?_)
  · exact hK f0_count f0_known f0_made f0_done f0_loopCount f0_tired f0_waiting a1 a2 a3 a4 a5_4 a6 a7 a8 h
  · refine sd_isHead (fun r_7 h => ?_) f0_count f0_known f0_made f0_done f0_loopCount f0_tired f0_waiting a1 a2 a3 a4 a5_4 a6 a7 a8 rfl h
    refine ce_if (cb_eq_iff rfl (rfl : (0 : Int32) = nI 0)) h (fun h => ?_) (fun h => ?_)
    · exact hK f0_count f0_known f0_made f0_done f0_loopCount f0_tired f0_waiting a1 a2 a3 a4 a5_4 a6 a7 a8 h
    · refine ⟨cb_n3, ?_⟩
      refine ce_in rfl h (fun h => ?_)
      refine ce_arr (cb_hupd rfl (cb_hdiv3 rfl)) h (fun a6_11 h => ?_)
      refine ce_int (cb_hadd rfl (rfl : (1 : Int32) = nI 1)) h (fun f_12 h => ?_)
      exact hK f0_count f0_known f0_made f0_done f0_loopCount f0_tired f_12 a1 a2 a3 a4 a5_4 a6_11 a7 a8 h
def im_take (K : Nat → Nat → Nat → Nat → Nat → Nat → Nat → Nat → Nat → Nat → Nat → Nat → Nat → Nat → Nat → Bool) (f0_count f0_known f0_made f0_done f0_loopCount f0_tired f0_waiting a1 a2 a3 a4 a5 a6 a7 a8 : Nat) (p0 : Nat) (p1 : Nat) : Bool := (cond (cb_in p1 1474) (cb_let (cb_rd a5 p1) (fun x3_2 => (cond (cb_eq x3_2 4294967295) (cond (cb_in p0 1474) (cb_let (cb_wr a5 p0 4294967295) (fun a5_37 => (K f0_count f0_known f0_made f0_done f0_loopCount f0_tired f0_waiting a1 a2 a3 a4 a5_37 a6 a7 a8))) false) (im_wire (fun f0_count_5 f0_known_6 f0_made_7 f0_done_8 f0_loopCount_9 f0_tired_10 f0_waiting_11 am251_14 am252_17 am253_20 am254_23 am255_26 am256_29 am257_32 am258_35 => (K f0_count_5 f0_known_6 f0_made_7 f0_done_8 f0_loopCount_9 f0_tired_10 f0_waiting_11 am251_14 am252_17 am253_20 am254_23 am255_26 am256_29 am257_32 am258_35)) f0_count f0_known f0_made f0_done f0_loopCount f0_tired f0_waiting a1 a2 a3 a4 a5 a6 a7 a8 p0 x3_2)))) false)
theorem sd_take {post : St2 → Prop} {K : Nat → Nat → Nat → Nat → Nat → Nat → Nat → Nat → Nat → Nat → Nat → Nat → Nat → Nat → Nat → Bool} (hK : ∀ s0 s1 s2 s3 s4 s5 s6 s7 s8 s9 s10 s11 s12 s13 s14 : Nat, K s0 s1 s2 s3 s4 s5 s6 s7 s8 s9 s10 s11 s12 s13 s14 = true → post (nI s0, nI s1, nI s2, nI s3, nI s4, nI s5, nI s6, cb_ar s7, cb_ar s8, cb_ar s9, cb_ar s10, cb_ar s11, cb_ar s12, cb_ar s13, cb_ar s14)) (f0_count f0_known f0_made f0_done f0_loopCount f0_tired f0_waiting a1 a2 a3 a4 a5 a6 a7 a8 : Nat) {y_p0 : Int32} {p0 : Nat} (e_p0 : y_p0 = nI p0) {y_p1 : Int32} {p1 : Nat} (e_p1 : y_p1 = nI p1) (h : im_take K f0_count f0_known f0_made f0_done f0_loopCount f0_tired f0_waiting a1 a2 a3 a4 a5 a6 a7 a8 p0 p1 = true) : wpX_take post (nI f0_count, nI f0_known, nI f0_made, nI f0_done, nI f0_loopCount, nI f0_tired, nI f0_waiting, cb_ar a1, cb_ar a2, cb_ar a3, cb_ar a4, cb_ar a5, cb_ar a6, cb_ar a7, cb_ar a8) y_p0 y_p1 := by
  subst e_p0
  subst e_p1
  unfold im_take at h
  unfold wpX_take
  refine ce_in rfl h (fun h => ?_)
  refine ce_int (cb_hrd rfl) h (fun x3_2 h => ?_)
  refine ce_if (cb_eq_iff rfl cb_m1) h (fun h => ?_) (fun h => ?_)
  · refine ce_in rfl h (fun h => ?_)
    refine ce_arr (cb_hupd rfl cb_m1) h (fun a5_37 h => ?_)
    exact hK f0_count f0_known f0_made f0_done f0_loopCount f0_tired f0_waiting a1 a2 a3 a4 a5_37 a6 a7 a8 h
  · refine sd_wire (fun f0_count_5 f0_known_6 f0_made_7 f0_done_8 f0_loopCount_9 f0_tired_10 f0_waiting_11 am251_14 am252_17 am253_20 am254_23 am255_26 am256_29 am257_32 am258_35 h => ?_) f0_count f0_known f0_made f0_done f0_loopCount f0_tired f0_waiting a1 a2 a3 a4 a5 a6 a7 a8 rfl rfl h
    exact hK f0_count_5 f0_known_6 f0_made_7 f0_done_8 f0_loopCount_9 f0_tired_10 f0_waiting_11 am251_14 am252_17 am253_20 am254_23 am255_26 am256_29 am257_32 am258_35 h
def im_commute (K : Nat → Nat → Nat → Nat → Nat → Nat → Nat → Nat → Nat → Nat → Nat → Nat → Nat → Nat → Nat → Bool) (f0_count f0_known f0_made f0_done f0_loopCount f0_tired f0_waiting a1 a2 a3 a4 a5 a6 a7 a8 : Nat) (p0 : Nat) (p1 : Nat) : Bool := (im_newCell (fun r_1 f0_count_2 f0_known_3 f0_made_4 f0_done_5 f0_loopCount_6 f0_tired_7 f0_waiting_8 am21_11 am22_14 am23_17 am24_20 am25_23 am26_26 am27_29 am28_32 => (im_newCell (fun r_33 f0_count_34 f0_known_35 f0_made_36 f0_done_37 f0_loopCount_38 f0_tired_39 f0_waiting_40 am81_43 am82_46 am83_49 am84_52 am85_55 am86_58 am87_61 am88_64 => (im_newCell (fun r_65 f0_count_66 f0_known_67 f0_made_68 f0_done_69 f0_loopCount_70 f0_tired_71 f0_waiting_72 am151_75 am152_78 am153_81 am154_84 am155_87 am156_90 am157_93 am158_96 => (im_newCell (fun r_97 f0_count_98 f0_known_99 f0_made_100 f0_done_101 f0_loopCount_102 f0_tired_103 f0_waiting_104 am221_107 am222_110 am223_113 am224_116 am225_119 am226_122 am227_125 am228_128 => (im_take (fun f0_count_130 f0_known_131 f0_made_132 f0_done_133 f0_loopCount_134 f0_tired_135 f0_waiting_136 am361_139 am362_142 am363_145 am364_148 am365_151 am366_154 am367_157 am368_160 => (im_take (fun f0_count_162 f0_known_163 f0_made_164 f0_done_165 f0_loopCount_166 f0_tired_167 f0_waiting_168 am491_171 am492_174 am493_177 am494_180 am495_183 am496_186 am497_189 am498_192 => (im_take (fun f0_count_194 f0_known_195 f0_made_196 f0_done_197 f0_loopCount_198 f0_tired_199 f0_waiting_200 am621_203 am622_206 am623_209 am624_212 am625_215 am626_218 am627_221 am628_224 => (im_take (fun f0_count_226 f0_known_227 f0_made_228 f0_done_229 f0_loopCount_230 f0_tired_231 f0_waiting_232 am751_235 am752_238 am753_241 am754_244 am755_247 am756_250 am757_253 am758_256 => (im_wire (fun f0_count_258 f0_known_259 f0_made_260 f0_done_261 f0_loopCount_262 f0_tired_263 f0_waiting_264 am901_267 am902_270 am903_273 am904_276 am905_279 am906_282 am907_285 am908_288 => (im_wire (fun f0_count_290 f0_known_291 f0_made_292 f0_done_293 f0_loopCount_294 f0_tired_295 f0_waiting_296 am1051_299 am1052_302 am1053_305 am1054_308 am1055_311 am1056_314 am1057_317 am1058_320 => (im_wire (fun f0_count_322 f0_known_323 f0_made_324 f0_done_325 f0_loopCount_326 f0_tired_327 f0_waiting_328 am1211_331 am1212_334 am1213_337 am1214_340 am1215_343 am1216_346 am1217_349 am1218_352 => (im_wire (fun f0_count_354 f0_known_355 f0_made_356 f0_done_357 f0_loopCount_358 f0_tired_359 f0_waiting_360 am1371_363 am1372_366 am1373_369 am1374_372 am1375_375 am1376_378 am1377_381 am1378_384 => (K f0_count_354 f0_known_355 f0_made_356 f0_done_357 f0_loopCount_358 f0_tired_359 f0_waiting_360 am1371_363 am1372_366 am1373_369 am1374_372 am1375_375 am1376_378 am1377_381 am1378_384)) f0_count_322 f0_known_323 f0_made_324 f0_done_325 f0_loopCount_326 f0_tired_327 f0_waiting_328 am1211_331 am1212_334 am1213_337 am1214_340 am1215_343 am1216_346 am1217_349 am1218_352 (cb_add (cb_mul 3 r_33) 2) (cb_add (cb_mul 3 r_97) 2))) f0_count_290 f0_known_291 f0_made_292 f0_done_293 f0_loopCount_294 f0_tired_295 f0_waiting_296 am1051_299 am1052_302 am1053_305 am1054_308 am1055_311 am1056_314 am1057_317 am1058_320 (cb_add (cb_mul 3 r_33) 1) (cb_add (cb_mul 3 r_65) 2))) f0_count_258 f0_known_259 f0_made_260 f0_done_261 f0_loopCount_262 f0_tired_263 f0_waiting_264 am901_267 am902_270 am903_273 am904_276 am905_279 am906_282 am907_285 am908_288 (cb_add (cb_mul 3 r_1) 2) (cb_add (cb_mul 3 r_97) 1))) f0_count_226 f0_known_227 f0_made_228 f0_done_229 f0_loopCount_230 f0_tired_231 f0_waiting_232 am751_235 am752_238 am753_241 am754_244 am755_247 am756_250 am757_253 am758_256 (cb_add (cb_mul 3 r_1) 1) (cb_add (cb_mul 3 r_65) 1))) f0_count_194 f0_known_195 f0_made_196 f0_done_197 f0_loopCount_198 f0_tired_199 f0_waiting_200 am621_203 am622_206 am623_209 am624_212 am625_215 am626_218 am627_221 am628_224 (cb_mul 3 r_97) (cb_add (cb_mul 3 p1) 2))) f0_count_162 f0_known_163 f0_made_164 f0_done_165 f0_loopCount_166 f0_tired_167 f0_waiting_168 am491_171 am492_174 am493_177 am494_180 am495_183 am496_186 am497_189 am498_192 (cb_mul 3 r_65) (cb_add (cb_mul 3 p1) 1))) f0_count_130 f0_known_131 f0_made_132 f0_done_133 f0_loopCount_134 f0_tired_135 f0_waiting_136 am361_139 am362_142 am363_145 am364_148 am365_151 am366_154 am367_157 am368_160 (cb_mul 3 r_33) (cb_add (cb_mul 3 p0) 2))) f0_count_98 f0_known_99 f0_made_100 f0_done_101 f0_loopCount_102 f0_tired_103 f0_waiting_104 am221_107 am222_110 am223_113 am224_116 am225_119 am226_122 am227_125 am228_128 (cb_mul 3 r_1) (cb_add (cb_mul 3 p0) 1))) f0_count_66 f0_known_67 f0_made_68 f0_done_69 f0_loopCount_70 f0_tired_71 f0_waiting_72 am151_75 am152_78 am153_81 am154_84 am155_87 am156_90 am157_93 am158_96 0)) f0_count_34 f0_known_35 f0_made_36 f0_done_37 f0_loopCount_38 f0_tired_39 f0_waiting_40 am81_43 am82_46 am83_49 am84_52 am85_55 am86_58 am87_61 am88_64 0)) f0_count_2 f0_known_3 f0_made_4 f0_done_5 f0_loopCount_6 f0_tired_7 f0_waiting_8 am21_11 am22_14 am23_17 am24_20 am25_23 am26_26 am27_29 am28_32 1)) f0_count f0_known f0_made f0_done f0_loopCount f0_tired f0_waiting a1 a2 a3 a4 a5 a6 a7 a8 1)
theorem sd_commute {post : St2 → Prop} {K : Nat → Nat → Nat → Nat → Nat → Nat → Nat → Nat → Nat → Nat → Nat → Nat → Nat → Nat → Nat → Bool} (hK : ∀ s0 s1 s2 s3 s4 s5 s6 s7 s8 s9 s10 s11 s12 s13 s14 : Nat, K s0 s1 s2 s3 s4 s5 s6 s7 s8 s9 s10 s11 s12 s13 s14 = true → post (nI s0, nI s1, nI s2, nI s3, nI s4, nI s5, nI s6, cb_ar s7, cb_ar s8, cb_ar s9, cb_ar s10, cb_ar s11, cb_ar s12, cb_ar s13, cb_ar s14)) (f0_count f0_known f0_made f0_done f0_loopCount f0_tired f0_waiting a1 a2 a3 a4 a5 a6 a7 a8 : Nat) {y_p0 : Int32} {p0 : Nat} (e_p0 : y_p0 = nI p0) {y_p1 : Int32} {p1 : Nat} (e_p1 : y_p1 = nI p1) (h : im_commute K f0_count f0_known f0_made f0_done f0_loopCount f0_tired f0_waiting a1 a2 a3 a4 a5 a6 a7 a8 p0 p1 = true) : wpX_commute post (nI f0_count, nI f0_known, nI f0_made, nI f0_done, nI f0_loopCount, nI f0_tired, nI f0_waiting, cb_ar a1, cb_ar a2, cb_ar a3, cb_ar a4, cb_ar a5, cb_ar a6, cb_ar a7, cb_ar a8) y_p0 y_p1 := by
  subst e_p0
  subst e_p1
  unfold im_commute at h
  unfold wpX_commute
  refine sd_newCell (fun r_1 f0_count_2 f0_known_3 f0_made_4 f0_done_5 f0_loopCount_6 f0_tired_7 f0_waiting_8 am21_11 am22_14 am23_17 am24_20 am25_23 am26_26 am27_29 am28_32 h => ?_) f0_count f0_known f0_made f0_done f0_loopCount f0_tired f0_waiting a1 a2 a3 a4 a5 a6 a7 a8 (rfl : (1 : Int32) = nI 1) h
  refine sd_newCell (fun r_33 f0_count_34 f0_known_35 f0_made_36 f0_done_37 f0_loopCount_38 f0_tired_39 f0_waiting_40 am81_43 am82_46 am83_49 am84_52 am85_55 am86_58 am87_61 am88_64 h => ?_) f0_count_2 f0_known_3 f0_made_4 f0_done_5 f0_loopCount_6 f0_tired_7 f0_waiting_8 am21_11 am22_14 am23_17 am24_20 am25_23 am26_26 am27_29 am28_32 (rfl : (1 : Int32) = nI 1) h
  refine sd_newCell (fun r_65 f0_count_66 f0_known_67 f0_made_68 f0_done_69 f0_loopCount_70 f0_tired_71 f0_waiting_72 am151_75 am152_78 am153_81 am154_84 am155_87 am156_90 am157_93 am158_96 h => ?_) f0_count_34 f0_known_35 f0_made_36 f0_done_37 f0_loopCount_38 f0_tired_39 f0_waiting_40 am81_43 am82_46 am83_49 am84_52 am85_55 am86_58 am87_61 am88_64 (rfl : (0 : Int32) = nI 0) h
  refine sd_newCell (fun r_97 f0_count_98 f0_known_99 f0_made_100 f0_done_101 f0_loopCount_102 f0_tired_103 f0_waiting_104 am221_107 am222_110 am223_113 am224_116 am225_119 am226_122 am227_125 am228_128 h => ?_) f0_count_66 f0_known_67 f0_made_68 f0_done_69 f0_loopCount_70 f0_tired_71 f0_waiting_72 am151_75 am152_78 am153_81 am154_84 am155_87 am156_90 am157_93 am158_96 (rfl : (0 : Int32) = nI 0) h
  refine sd_take (fun f0_count_130 f0_known_131 f0_made_132 f0_done_133 f0_loopCount_134 f0_tired_135 f0_waiting_136 am361_139 am362_142 am363_145 am364_148 am365_151 am366_154 am367_157 am368_160 h => ?_) f0_count_98 f0_known_99 f0_made_100 f0_done_101 f0_loopCount_102 f0_tired_103 f0_waiting_104 am221_107 am222_110 am223_113 am224_116 am225_119 am226_122 am227_125 am228_128 (cb_hmul (rfl : (3 : Int32) = nI 3) rfl) (cb_hadd (cb_hmul (rfl : (3 : Int32) = nI 3) rfl) (rfl : (1 : Int32) = nI 1)) h
  refine sd_take (fun f0_count_162 f0_known_163 f0_made_164 f0_done_165 f0_loopCount_166 f0_tired_167 f0_waiting_168 am491_171 am492_174 am493_177 am494_180 am495_183 am496_186 am497_189 am498_192 h => ?_) f0_count_130 f0_known_131 f0_made_132 f0_done_133 f0_loopCount_134 f0_tired_135 f0_waiting_136 am361_139 am362_142 am363_145 am364_148 am365_151 am366_154 am367_157 am368_160 (cb_hmul (rfl : (3 : Int32) = nI 3) rfl) (cb_hadd (cb_hmul (rfl : (3 : Int32) = nI 3) rfl) (rfl : (2 : Int32) = nI 2)) h
  refine sd_take (fun f0_count_194 f0_known_195 f0_made_196 f0_done_197 f0_loopCount_198 f0_tired_199 f0_waiting_200 am621_203 am622_206 am623_209 am624_212 am625_215 am626_218 am627_221 am628_224 h => ?_) f0_count_162 f0_known_163 f0_made_164 f0_done_165 f0_loopCount_166 f0_tired_167 f0_waiting_168 am491_171 am492_174 am493_177 am494_180 am495_183 am496_186 am497_189 am498_192 (cb_hmul (rfl : (3 : Int32) = nI 3) rfl) (cb_hadd (cb_hmul (rfl : (3 : Int32) = nI 3) rfl) (rfl : (1 : Int32) = nI 1)) h
  refine sd_take (fun f0_count_226 f0_known_227 f0_made_228 f0_done_229 f0_loopCount_230 f0_tired_231 f0_waiting_232 am751_235 am752_238 am753_241 am754_244 am755_247 am756_250 am757_253 am758_256 h => ?_) f0_count_194 f0_known_195 f0_made_196 f0_done_197 f0_loopCount_198 f0_tired_199 f0_waiting_200 am621_203 am622_206 am623_209 am624_212 am625_215 am626_218 am627_221 am628_224 (cb_hmul (rfl : (3 : Int32) = nI 3) rfl) (cb_hadd (cb_hmul (rfl : (3 : Int32) = nI 3) rfl) (rfl : (2 : Int32) = nI 2)) h
  refine sd_wire (fun f0_count_258 f0_known_259 f0_made_260 f0_done_261 f0_loopCount_262 f0_tired_263 f0_waiting_264 am901_267 am902_270 am903_273 am904_276 am905_279 am906_282 am907_285 am908_288 h => ?_) f0_count_226 f0_known_227 f0_made_228 f0_done_229 f0_loopCount_230 f0_tired_231 f0_waiting_232 am751_235 am752_238 am753_241 am754_244 am755_247 am756_250 am757_253 am758_256 (cb_hadd (cb_hmul (rfl : (3 : Int32) = nI 3) rfl) (rfl : (1 : Int32) = nI 1)) (cb_hadd (cb_hmul (rfl : (3 : Int32) = nI 3) rfl) (rfl : (1 : Int32) = nI 1)) h
  refine sd_wire (fun f0_count_290 f0_known_291 f0_made_292 f0_done_293 f0_loopCount_294 f0_tired_295 f0_waiting_296 am1051_299 am1052_302 am1053_305 am1054_308 am1055_311 am1056_314 am1057_317 am1058_320 h => ?_) f0_count_258 f0_known_259 f0_made_260 f0_done_261 f0_loopCount_262 f0_tired_263 f0_waiting_264 am901_267 am902_270 am903_273 am904_276 am905_279 am906_282 am907_285 am908_288 (cb_hadd (cb_hmul (rfl : (3 : Int32) = nI 3) rfl) (rfl : (2 : Int32) = nI 2)) (cb_hadd (cb_hmul (rfl : (3 : Int32) = nI 3) rfl) (rfl : (1 : Int32) = nI 1)) h
  refine sd_wire (fun f0_count_322 f0_known_323 f0_made_324 f0_done_325 f0_loopCount_326 f0_tired_327 f0_waiting_328 am1211_331 am1212_334 am1213_337 am1214_340 am1215_343 am1216_346 am1217_349 am1218_352 h => ?_) f0_count_290 f0_known_291 f0_made_292 f0_done_293 f0_loopCount_294 f0_tired_295 f0_waiting_296 am1051_299 am1052_302 am1053_305 am1054_308 am1055_311 am1056_314 am1057_317 am1058_320 (cb_hadd (cb_hmul (rfl : (3 : Int32) = nI 3) rfl) (rfl : (1 : Int32) = nI 1)) (cb_hadd (cb_hmul (rfl : (3 : Int32) = nI 3) rfl) (rfl : (2 : Int32) = nI 2)) h
  refine sd_wire (fun f0_count_354 f0_known_355 f0_made_356 f0_done_357 f0_loopCount_358 f0_tired_359 f0_waiting_360 am1371_363 am1372_366 am1373_369 am1374_372 am1375_375 am1376_378 am1377_381 am1378_384 h => ?_) f0_count_322 f0_known_323 f0_made_324 f0_done_325 f0_loopCount_326 f0_tired_327 f0_waiting_328 am1211_331 am1212_334 am1213_337 am1214_340 am1215_343 am1216_346 am1217_349 am1218_352 (cb_hadd (cb_hmul (rfl : (3 : Int32) = nI 3) rfl) (rfl : (2 : Int32) = nI 2)) (cb_hadd (cb_hmul (rfl : (3 : Int32) = nI 3) rfl) (rfl : (2 : Int32) = nI 2)) h
  exact hK f0_count_354 f0_known_355 f0_made_356 f0_done_357 f0_loopCount_358 f0_tired_359 f0_waiting_360 am1371_363 am1372_366 am1373_369 am1374_372 am1375_375 am1376_378 am1377_381 am1378_384 h
def im_erase (K : Nat → Nat → Nat → Nat → Nat → Nat → Nat → Nat → Nat → Nat → Nat → Nat → Nat → Nat → Nat → Bool) (f0_count f0_known f0_made f0_done f0_loopCount f0_tired f0_waiting a1 a2 a3 a4 a5 a6 a7 a8 : Nat) (p0 : Nat) : Bool := (im_newCell (fun r_1 f0_count_2 f0_known_3 f0_made_4 f0_done_5 f0_loopCount_6 f0_tired_7 f0_waiting_8 am21_11 am22_14 am23_17 am24_20 am25_23 am26_26 am27_29 am28_32 => (im_take (fun f0_count_34 f0_known_35 f0_made_36 f0_done_37 f0_loopCount_38 f0_tired_39 f0_waiting_40 am151_43 am152_46 am153_49 am154_52 am155_55 am156_58 am157_61 am158_64 => (im_newCell (fun r_65 f0_count_66 f0_known_67 f0_made_68 f0_done_69 f0_loopCount_70 f0_tired_71 f0_waiting_72 am201_75 am202_78 am203_81 am204_84 am205_87 am206_90 am207_93 am208_96 => (im_take (fun f0_count_98 f0_known_99 f0_made_100 f0_done_101 f0_loopCount_102 f0_tired_103 f0_waiting_104 am331_107 am332_110 am333_113 am334_116 am335_119 am336_122 am337_125 am338_128 => (K f0_count_98 f0_known_99 f0_made_100 f0_done_101 f0_loopCount_102 f0_tired_103 f0_waiting_104 am331_107 am332_110 am333_113 am334_116 am335_119 am336_122 am337_125 am338_128)) f0_count_66 f0_known_67 f0_made_68 f0_done_69 f0_loopCount_70 f0_tired_71 f0_waiting_72 am201_75 am202_78 am203_81 am204_84 am205_87 am206_90 am207_93 am208_96 (cb_mul 3 r_65) (cb_add (cb_mul 3 p0) 2))) f0_count_34 f0_known_35 f0_made_36 f0_done_37 f0_loopCount_38 f0_tired_39 f0_waiting_40 am151_43 am152_46 am153_49 am154_52 am155_55 am156_58 am157_61 am158_64 2)) f0_count_2 f0_known_3 f0_made_4 f0_done_5 f0_loopCount_6 f0_tired_7 f0_waiting_8 am21_11 am22_14 am23_17 am24_20 am25_23 am26_26 am27_29 am28_32 (cb_mul 3 r_1) (cb_add (cb_mul 3 p0) 1))) f0_count f0_known f0_made f0_done f0_loopCount f0_tired f0_waiting a1 a2 a3 a4 a5 a6 a7 a8 2)
theorem sd_erase {post : St2 → Prop} {K : Nat → Nat → Nat → Nat → Nat → Nat → Nat → Nat → Nat → Nat → Nat → Nat → Nat → Nat → Nat → Bool} (hK : ∀ s0 s1 s2 s3 s4 s5 s6 s7 s8 s9 s10 s11 s12 s13 s14 : Nat, K s0 s1 s2 s3 s4 s5 s6 s7 s8 s9 s10 s11 s12 s13 s14 = true → post (nI s0, nI s1, nI s2, nI s3, nI s4, nI s5, nI s6, cb_ar s7, cb_ar s8, cb_ar s9, cb_ar s10, cb_ar s11, cb_ar s12, cb_ar s13, cb_ar s14)) (f0_count f0_known f0_made f0_done f0_loopCount f0_tired f0_waiting a1 a2 a3 a4 a5 a6 a7 a8 : Nat) {y_p0 : Int32} {p0 : Nat} (e_p0 : y_p0 = nI p0) (h : im_erase K f0_count f0_known f0_made f0_done f0_loopCount f0_tired f0_waiting a1 a2 a3 a4 a5 a6 a7 a8 p0 = true) : wpX_erase post (nI f0_count, nI f0_known, nI f0_made, nI f0_done, nI f0_loopCount, nI f0_tired, nI f0_waiting, cb_ar a1, cb_ar a2, cb_ar a3, cb_ar a4, cb_ar a5, cb_ar a6, cb_ar a7, cb_ar a8) y_p0 := by
  subst e_p0
  unfold im_erase at h
  unfold wpX_erase
  refine sd_newCell (fun r_1 f0_count_2 f0_known_3 f0_made_4 f0_done_5 f0_loopCount_6 f0_tired_7 f0_waiting_8 am21_11 am22_14 am23_17 am24_20 am25_23 am26_26 am27_29 am28_32 h => ?_) f0_count f0_known f0_made f0_done f0_loopCount f0_tired f0_waiting a1 a2 a3 a4 a5 a6 a7 a8 (rfl : (2 : Int32) = nI 2) h
  refine sd_take (fun f0_count_34 f0_known_35 f0_made_36 f0_done_37 f0_loopCount_38 f0_tired_39 f0_waiting_40 am151_43 am152_46 am153_49 am154_52 am155_55 am156_58 am157_61 am158_64 h => ?_) f0_count_2 f0_known_3 f0_made_4 f0_done_5 f0_loopCount_6 f0_tired_7 f0_waiting_8 am21_11 am22_14 am23_17 am24_20 am25_23 am26_26 am27_29 am28_32 (cb_hmul (rfl : (3 : Int32) = nI 3) rfl) (cb_hadd (cb_hmul (rfl : (3 : Int32) = nI 3) rfl) (rfl : (1 : Int32) = nI 1)) h
  refine sd_newCell (fun r_65 f0_count_66 f0_known_67 f0_made_68 f0_done_69 f0_loopCount_70 f0_tired_71 f0_waiting_72 am201_75 am202_78 am203_81 am204_84 am205_87 am206_90 am207_93 am208_96 h => ?_) f0_count_34 f0_known_35 f0_made_36 f0_done_37 f0_loopCount_38 f0_tired_39 f0_waiting_40 am151_43 am152_46 am153_49 am154_52 am155_55 am156_58 am157_61 am158_64 (rfl : (2 : Int32) = nI 2) h
  refine sd_take (fun f0_count_98 f0_known_99 f0_made_100 f0_done_101 f0_loopCount_102 f0_tired_103 f0_waiting_104 am331_107 am332_110 am333_113 am334_116 am335_119 am336_122 am337_125 am338_128 h => ?_) f0_count_66 f0_known_67 f0_made_68 f0_done_69 f0_loopCount_70 f0_tired_71 f0_waiting_72 am201_75 am202_78 am203_81 am204_84 am205_87 am206_90 am207_93 am208_96 (cb_hmul (rfl : (3 : Int32) = nI 3) rfl) (cb_hadd (cb_hmul (rfl : (3 : Int32) = nI 3) rfl) (rfl : (2 : Int32) = nI 2)) h
  exact hK f0_count_98 f0_known_99 f0_made_100 f0_done_101 f0_loopCount_102 f0_tired_103 f0_waiting_104 am331_107 am332_110 am333_113 am334_116 am335_119 am336_122 am337_125 am338_128 h
def im_fuse_76 (K : Nat → Nat → Nat → Nat → Nat → Nat → Nat → Nat → Nat → Nat → Nat → Nat → Nat → Nat → Nat → Bool) (x3 : Nat) (x4 : Nat) (f0_count : Nat) (f0_known : Nat) (f0_made : Nat) (f0_done : Nat) (f0_loopCount : Nat) (f0_tired : Nat) (f0_waiting : Nat) (a1 : Nat) (a2 : Nat) (a3 : Nat) (a4 : Nat) (a5 : Nat) (a6 : Nat) (a7 : Nat) (a8 : Nat) : Bool := (cond (cb_eq x3 4294967295) (K f0_count f0_known f0_made f0_done f0_loopCount f0_tired f0_waiting a1 a2 a3 a4 a5 a6 a7 a8) (im_wire (fun f0_count_10 f0_known_11 f0_made_12 f0_done_13 f0_loopCount_14 f0_tired_15 f0_waiting_16 am851_19 am852_22 am853_25 am854_28 am855_31 am856_34 am857_37 am858_40 => (K f0_count_10 f0_known_11 f0_made_12 f0_done_13 f0_loopCount_14 f0_tired_15 f0_waiting_16 am851_19 am852_22 am853_25 am854_28 am855_31 am856_34 am857_37 am858_40)) f0_count f0_known f0_made f0_done f0_loopCount f0_tired f0_waiting a1 a2 a3 a4 a5 a6 a7 a8 x3 x4))
theorem sd_fuse_76 {post : St2 → Prop} {K : Nat → Nat → Nat → Nat → Nat → Nat → Nat → Nat → Nat → Nat → Nat → Nat → Nat → Nat → Nat → Bool} (hK : ∀ s0 s1 s2 s3 s4 s5 s6 s7 s8 s9 s10 s11 s12 s13 s14 : Nat, K s0 s1 s2 s3 s4 s5 s6 s7 s8 s9 s10 s11 s12 s13 s14 = true → post (nI s0, nI s1, nI s2, nI s3, nI s4, nI s5, nI s6, cb_ar s7, cb_ar s8, cb_ar s9, cb_ar s10, cb_ar s11, cb_ar s12, cb_ar s13, cb_ar s14)) {y_x3 : Int32} {x3 : Nat} (e_x3 : y_x3 = nI x3) {y_x4 : Int32} {x4 : Nat} (e_x4 : y_x4 = nI x4) (f0_count : Nat) (f0_known : Nat) (f0_made : Nat) (f0_done : Nat) (f0_loopCount : Nat) (f0_tired : Nat) (f0_waiting : Nat) (a1 : Nat) (a2 : Nat) (a3 : Nat) (a4 : Nat) (a5 : Nat) (a6 : Nat) (a7 : Nat) (a8 : Nat) (h : im_fuse_76 K x3 x4 f0_count f0_known f0_made f0_done f0_loopCount f0_tired f0_waiting a1 a2 a3 a4 a5 a6 a7 a8 = true) : wX_fuse_76 post y_x3 y_x4 (nI f0_count) (nI f0_known) (nI f0_made) (nI f0_done) (nI f0_loopCount) (nI f0_tired) (nI f0_waiting) (cb_ar a1) (cb_ar a2) (cb_ar a3) (cb_ar a4) (cb_ar a5) (cb_ar a6) (cb_ar a7) (cb_ar a8) := by
  subst e_x3
  subst e_x4
  unfold im_fuse_76 at h
  unfold wX_fuse_76
  refine ce_if (cb_eq_iff rfl cb_m1) h (fun h => ?_) (fun h => ?_)
  · exact hK f0_count f0_known f0_made f0_done f0_loopCount f0_tired f0_waiting a1 a2 a3 a4 a5 a6 a7 a8 h
  · refine sd_wire (fun f0_count_10 f0_known_11 f0_made_12 f0_done_13 f0_loopCount_14 f0_tired_15 f0_waiting_16 am851_19 am852_22 am853_25 am854_28 am855_31 am856_34 am857_37 am858_40 h => ?_) f0_count f0_known f0_made f0_done f0_loopCount f0_tired f0_waiting a1 a2 a3 a4 a5 a6 a7 a8 rfl rfl h
    exact hK f0_count_10 f0_known_11 f0_made_12 f0_done_13 f0_loopCount_14 f0_tired_15 f0_waiting_16 am851_19 am852_22 am853_25 am854_28 am855_31 am856_34 am857_37 am858_40 h
def im_fuse_55 (K : Nat → Nat → Nat → Nat → Nat → Nat → Nat → Nat → Nat → Nat → Nat → Nat → Nat → Nat → Nat → Bool) (x3 : Nat) (x4 : Nat) (f0_count : Nat) (f0_known : Nat) (f0_made : Nat) (f0_done : Nat) (f0_loopCount : Nat) (f0_tired : Nat) (f0_waiting : Nat) (a1 : Nat) (a2 : Nat) (a3 : Nat) (a4 : Nat) (a5 : Nat) (a6 : Nat) (a7 : Nat) (a8 : Nat) : Bool := (cond (cb_eq x4 4294967295) (cond (cb_eq x3 4294967295) (im_fuse_76 K x3 x4 f0_count f0_known f0_made f0_done f0_loopCount f0_tired f0_waiting a1 a2 a3 a4 a5 a6 a7 a8) (cond (cb_in x3 1474) (cb_let (cb_wr a5 x3 4294967295) (fun a5_43 => (K f0_count f0_known f0_made f0_done f0_loopCount f0_tired f0_waiting a1 a2 a3 a4 a5_43 a6 a7 a8))) false)) (im_fuse_76 K x3 x4 f0_count f0_known f0_made f0_done f0_loopCount f0_tired f0_waiting a1 a2 a3 a4 a5 a6 a7 a8))
theorem sd_fuse_55 {post : St2 → Prop} {K : Nat → Nat → Nat → Nat → Nat → Nat → Nat → Nat → Nat → Nat → Nat → Nat → Nat → Nat → Nat → Bool} (hK : ∀ s0 s1 s2 s3 s4 s5 s6 s7 s8 s9 s10 s11 s12 s13 s14 : Nat, K s0 s1 s2 s3 s4 s5 s6 s7 s8 s9 s10 s11 s12 s13 s14 = true → post (nI s0, nI s1, nI s2, nI s3, nI s4, nI s5, nI s6, cb_ar s7, cb_ar s8, cb_ar s9, cb_ar s10, cb_ar s11, cb_ar s12, cb_ar s13, cb_ar s14)) {y_x3 : Int32} {x3 : Nat} (e_x3 : y_x3 = nI x3) {y_x4 : Int32} {x4 : Nat} (e_x4 : y_x4 = nI x4) (f0_count : Nat) (f0_known : Nat) (f0_made : Nat) (f0_done : Nat) (f0_loopCount : Nat) (f0_tired : Nat) (f0_waiting : Nat) (a1 : Nat) (a2 : Nat) (a3 : Nat) (a4 : Nat) (a5 : Nat) (a6 : Nat) (a7 : Nat) (a8 : Nat) (h : im_fuse_55 K x3 x4 f0_count f0_known f0_made f0_done f0_loopCount f0_tired f0_waiting a1 a2 a3 a4 a5 a6 a7 a8 = true) : wX_fuse_55 post y_x3 y_x4 (nI f0_count) (nI f0_known) (nI f0_made) (nI f0_done) (nI f0_loopCount) (nI f0_tired) (nI f0_waiting) (cb_ar a1) (cb_ar a2) (cb_ar a3) (cb_ar a4) (cb_ar a5) (cb_ar a6) (cb_ar a7) (cb_ar a8) := by
  subst e_x3
  subst e_x4
  unfold im_fuse_55 at h
  unfold wX_fuse_55
  refine ce_if (cb_eq_iff rfl cb_m1) h (fun h => ?_) (fun h => ?_)
  · refine ce_if (cb_eq_iff rfl cb_m1) h (fun h => ?_) (fun h => ?_)
    · exact sd_fuse_76 hK rfl rfl f0_count f0_known f0_made f0_done f0_loopCount f0_tired f0_waiting a1 a2 a3 a4 a5 a6 a7 a8 h
    · refine ce_in rfl h (fun h => ?_)
      refine ce_arr (cb_hupd rfl cb_m1) h (fun a5_43 h => ?_)
      exact hK f0_count f0_known f0_made f0_done f0_loopCount f0_tired f0_waiting a1 a2 a3 a4 a5_43 a6 a7 a8 h
  · exact sd_fuse_76 hK rfl rfl f0_count f0_known f0_made f0_done f0_loopCount f0_tired f0_waiting a1 a2 a3 a4 a5 a6 a7 a8 h
def im_fuse (K : Nat → Nat → Nat → Nat → Nat → Nat → Nat → Nat → Nat → Nat → Nat → Nat → Nat → Nat → Nat → Bool) (f0_count f0_known f0_made f0_done f0_loopCount f0_tired f0_waiting a1 a2 a3 a4 a5 a6 a7 a8 : Nat) (p0 : Nat) (p1 : Nat) : Bool := (cond (cb_in p0 1474) (cb_let (cb_rd a5 p0) (fun x3_2 => (cond (cb_in p1 1474) (cb_let (cb_rd a5 p1) (fun x4_4 => (cond (cb_eq x3_2 p1) (cb_let (cb_add f0_loopCount 1) (fun f_47 => (K f0_count f0_known f0_made f0_done f_47 f0_tired f0_waiting a1 a2 a3 a4 a5 a6 a7 a8))) (cond (cb_eq x3_2 4294967295) (cond (cb_eq x4_4 4294967295) (im_fuse_55 K x3_2 x4_4 f0_count f0_known f0_made f0_done f0_loopCount f0_tired f0_waiting a1 a2 a3 a4 a5 a6 a7 a8) (cond (cb_in x4_4 1474) (cb_let (cb_wr a5 x4_4 4294967295) (fun a5_46 => (K f0_count f0_known f0_made f0_done f0_loopCount f0_tired f0_waiting a1 a2 a3 a4 a5_46 a6 a7 a8))) false)) (im_fuse_55 K x3_2 x4_4 f0_count f0_known f0_made f0_done f0_loopCount f0_tired f0_waiting a1 a2 a3 a4 a5 a6 a7 a8))))) false))) false)
theorem sd_fuse {post : St2 → Prop} {K : Nat → Nat → Nat → Nat → Nat → Nat → Nat → Nat → Nat → Nat → Nat → Nat → Nat → Nat → Nat → Bool} (hK : ∀ s0 s1 s2 s3 s4 s5 s6 s7 s8 s9 s10 s11 s12 s13 s14 : Nat, K s0 s1 s2 s3 s4 s5 s6 s7 s8 s9 s10 s11 s12 s13 s14 = true → post (nI s0, nI s1, nI s2, nI s3, nI s4, nI s5, nI s6, cb_ar s7, cb_ar s8, cb_ar s9, cb_ar s10, cb_ar s11, cb_ar s12, cb_ar s13, cb_ar s14)) (f0_count f0_known f0_made f0_done f0_loopCount f0_tired f0_waiting a1 a2 a3 a4 a5 a6 a7 a8 : Nat) {y_p0 : Int32} {p0 : Nat} (e_p0 : y_p0 = nI p0) {y_p1 : Int32} {p1 : Nat} (e_p1 : y_p1 = nI p1) (h : im_fuse K f0_count f0_known f0_made f0_done f0_loopCount f0_tired f0_waiting a1 a2 a3 a4 a5 a6 a7 a8 p0 p1 = true) : wpX_fuse post (nI f0_count, nI f0_known, nI f0_made, nI f0_done, nI f0_loopCount, nI f0_tired, nI f0_waiting, cb_ar a1, cb_ar a2, cb_ar a3, cb_ar a4, cb_ar a5, cb_ar a6, cb_ar a7, cb_ar a8) y_p0 y_p1 := by
  subst e_p0
  subst e_p1
  unfold im_fuse at h
  unfold wpX_fuse
  refine ce_in rfl h (fun h => ?_)
  refine ce_int (cb_hrd rfl) h (fun x3_2 h => ?_)
  refine ce_in rfl h (fun h => ?_)
  refine ce_int (cb_hrd rfl) h (fun x4_4 h => ?_)
  refine ce_if (cb_eq_iff rfl rfl) h (fun h => ?_) (fun h => ?_)
  · refine ce_int (cb_hadd rfl (rfl : (1 : Int32) = nI 1)) h (fun f_47 h => ?_)
    exact hK f0_count f0_known f0_made f0_done f_47 f0_tired f0_waiting a1 a2 a3 a4 a5 a6 a7 a8 h
  · refine ce_if (cb_eq_iff rfl cb_m1) h (fun h => ?_) (fun h => ?_)
    · refine ce_if (cb_eq_iff rfl cb_m1) h (fun h => ?_) (fun h => ?_)
      · exact sd_fuse_55 hK rfl rfl f0_count f0_known f0_made f0_done f0_loopCount f0_tired f0_waiting a1 a2 a3 a4 a5 a6 a7 a8 h
      · refine ce_in rfl h (fun h => ?_)
        refine ce_arr (cb_hupd rfl cb_m1) h (fun a5_46 h => ?_)
        exact hK f0_count f0_known f0_made f0_done f0_loopCount f0_tired f0_waiting a1 a2 a3 a4 a5_46 a6 a7 a8 h
    · exact sd_fuse_55 hK rfl rfl f0_count f0_known f0_made f0_done f0_loopCount f0_tired f0_waiting a1 a2 a3 a4 a5 a6 a7 a8 h
def im_annihilate (K : Nat → Nat → Nat → Nat → Nat → Nat → Nat → Nat → Nat → Nat → Nat → Nat → Nat → Nat → Nat → Bool) (f0_count f0_known f0_made f0_done f0_loopCount f0_tired f0_waiting a1 a2 a3 a4 a5 a6 a7 a8 : Nat) (p0 : Nat) (p1 : Nat) : Bool := (im_fuse (fun f0_count_2 f0_known_3 f0_made_4 f0_done_5 f0_loopCount_6 f0_tired_7 f0_waiting_8 am111_11 am112_14 am113_17 am114_20 am115_23 am116_26 am117_29 am118_32 => (im_fuse (fun f0_count_34 f0_known_35 f0_made_36 f0_done_37 f0_loopCount_38 f0_tired_39 f0_waiting_40 am251_43 am252_46 am253_49 am254_52 am255_55 am256_58 am257_61 am258_64 => (K f0_count_34 f0_known_35 f0_made_36 f0_done_37 f0_loopCount_38 f0_tired_39 f0_waiting_40 am251_43 am252_46 am253_49 am254_52 am255_55 am256_58 am257_61 am258_64)) f0_count_2 f0_known_3 f0_made_4 f0_done_5 f0_loopCount_6 f0_tired_7 f0_waiting_8 am111_11 am112_14 am113_17 am114_20 am115_23 am116_26 am117_29 am118_32 (cb_add (cb_mul 3 p0) 2) (cb_add (cb_mul 3 p1) 2))) f0_count f0_known f0_made f0_done f0_loopCount f0_tired f0_waiting a1 a2 a3 a4 a5 a6 a7 a8 (cb_add (cb_mul 3 p0) 1) (cb_add (cb_mul 3 p1) 1))
theorem sd_annihilate {post : St2 → Prop} {K : Nat → Nat → Nat → Nat → Nat → Nat → Nat → Nat → Nat → Nat → Nat → Nat → Nat → Nat → Nat → Bool} (hK : ∀ s0 s1 s2 s3 s4 s5 s6 s7 s8 s9 s10 s11 s12 s13 s14 : Nat, K s0 s1 s2 s3 s4 s5 s6 s7 s8 s9 s10 s11 s12 s13 s14 = true → post (nI s0, nI s1, nI s2, nI s3, nI s4, nI s5, nI s6, cb_ar s7, cb_ar s8, cb_ar s9, cb_ar s10, cb_ar s11, cb_ar s12, cb_ar s13, cb_ar s14)) (f0_count f0_known f0_made f0_done f0_loopCount f0_tired f0_waiting a1 a2 a3 a4 a5 a6 a7 a8 : Nat) {y_p0 : Int32} {p0 : Nat} (e_p0 : y_p0 = nI p0) {y_p1 : Int32} {p1 : Nat} (e_p1 : y_p1 = nI p1) (h : im_annihilate K f0_count f0_known f0_made f0_done f0_loopCount f0_tired f0_waiting a1 a2 a3 a4 a5 a6 a7 a8 p0 p1 = true) : wpX_annihilate post (nI f0_count, nI f0_known, nI f0_made, nI f0_done, nI f0_loopCount, nI f0_tired, nI f0_waiting, cb_ar a1, cb_ar a2, cb_ar a3, cb_ar a4, cb_ar a5, cb_ar a6, cb_ar a7, cb_ar a8) y_p0 y_p1 := by
  subst e_p0
  subst e_p1
  unfold im_annihilate at h
  unfold wpX_annihilate
  refine sd_fuse (fun f0_count_2 f0_known_3 f0_made_4 f0_done_5 f0_loopCount_6 f0_tired_7 f0_waiting_8 am111_11 am112_14 am113_17 am114_20 am115_23 am116_26 am117_29 am118_32 h => ?_) f0_count f0_known f0_made f0_done f0_loopCount f0_tired f0_waiting a1 a2 a3 a4 a5 a6 a7 a8 (cb_hadd (cb_hmul (rfl : (3 : Int32) = nI 3) rfl) (rfl : (1 : Int32) = nI 1)) (cb_hadd (cb_hmul (rfl : (3 : Int32) = nI 3) rfl) (rfl : (1 : Int32) = nI 1)) h
  refine sd_fuse (fun f0_count_34 f0_known_35 f0_made_36 f0_done_37 f0_loopCount_38 f0_tired_39 f0_waiting_40 am251_43 am252_46 am253_49 am254_52 am255_55 am256_58 am257_61 am258_64 h => ?_) f0_count_2 f0_known_3 f0_made_4 f0_done_5 f0_loopCount_6 f0_tired_7 f0_waiting_8 am111_11 am112_14 am113_17 am114_20 am115_23 am116_26 am117_29 am118_32 (cb_hadd (cb_hmul (rfl : (3 : Int32) = nI 3) rfl) (rfl : (2 : Int32) = nI 2)) (cb_hadd (cb_hmul (rfl : (3 : Int32) = nI 3) rfl) (rfl : (2 : Int32) = nI 2)) h
  exact hK f0_count_34 f0_known_35 f0_made_36 f0_done_37 f0_loopCount_38 f0_tired_39 f0_waiting_40 am251_43 am252_46 am253_49 am254_52 am255_55 am256_58 am257_61 am258_64 h
def im_step_35 (K : Nat → Nat → Nat → Nat → Nat → Nat → Nat → Nat → Nat → Nat → Nat → Nat → Nat → Nat → Nat → Bool) (x1 : Nat) (x2 : Nat) (f0_count : Nat) (f0_known : Nat) (f0_made : Nat) (f0_done : Nat) (f0_loopCount : Nat) (f0_tired : Nat) (f0_waiting : Nat) (a1 : Nat) (a2 : Nat) (a3 : Nat) (a4 : Nat) (a5 : Nat) (a6 : Nat) (a7 : Nat) (a8 : Nat) : Bool := (cond (cb_in x1 490) (cond (cb_in x2 490) (cond (cb_eq (cb_rd a3 x1) (cb_rd a3 x2)) (im_annihilate (fun f0_count_145 f0_known_146 f0_made_147 f0_done_148 f0_loopCount_149 f0_tired_150 f0_waiting_151 am531_154 am532_157 am533_160 am534_163 am535_166 am536_169 am537_172 am538_175 => (K f0_count_145 f0_known_146 f0_made_147 f0_done_148 f0_loopCount_149 f0_tired_150 f0_waiting_151 am531_154 am532_157 am533_160 am534_163 am535_166 am536_169 am537_172 am538_175)) f0_count f0_known f0_made f0_done f0_loopCount f0_tired f0_waiting a1 a2 a3 a4 a5 a6 a7 a8 x1 x2) (cond (cb_in x1 490) (cond (cb_eq (cb_rd a3 x1) 2) (im_erase (fun f0_count_113 f0_known_114 f0_made_115 f0_done_116 f0_loopCount_117 f0_tired_118 f0_waiting_119 am711_122 am712_125 am713_128 am714_131 am715_134 am716_137 am717_140 am718_143 => (K f0_count_113 f0_known_114 f0_made_115 f0_done_116 f0_loopCount_117 f0_tired_118 f0_waiting_119 am711_122 am712_125 am713_128 am714_131 am715_134 am716_137 am717_140 am718_143)) f0_count f0_known f0_made f0_done f0_loopCount f0_tired f0_waiting a1 a2 a3 a4 a5 a6 a7 a8 x2) (cond (cb_in x2 490) (cond (cb_eq (cb_rd a3 x2) 2) (im_erase (fun f0_count_81 f0_known_82 f0_made_83 f0_done_84 f0_loopCount_85 f0_tired_86 f0_waiting_87 am891_90 am892_93 am893_96 am894_99 am895_102 am896_105 am897_108 am898_111 => (K f0_count_81 f0_known_82 f0_made_83 f0_done_84 f0_loopCount_85 f0_tired_86 f0_waiting_87 am891_90 am892_93 am893_96 am894_99 am895_102 am896_105 am897_108 am898_111)) f0_count f0_known f0_made f0_done f0_loopCount f0_tired f0_waiting a1 a2 a3 a4 a5 a6 a7 a8 x1) (cond (cb_in x1 490) (cond (cb_eq (cb_rd a3 x1) 0) (im_commute (fun f0_count_49 f0_known_50 f0_made_51 f0_done_52 f0_loopCount_53 f0_tired_54 f0_waiting_55 am1071_58 am1072_61 am1073_64 am1074_67 am1075_70 am1076_73 am1077_76 am1078_79 => (K f0_count_49 f0_known_50 f0_made_51 f0_done_52 f0_loopCount_53 f0_tired_54 f0_waiting_55 am1071_58 am1072_61 am1073_64 am1074_67 am1075_70 am1076_73 am1077_76 am1078_79)) f0_count f0_known f0_made f0_done f0_loopCount f0_tired f0_waiting a1 a2 a3 a4 a5 a6 a7 a8 x1 x2) (im_commute (fun f0_count_17 f0_known_18 f0_made_19 f0_done_20 f0_loopCount_21 f0_tired_22 f0_waiting_23 am1161_26 am1162_29 am1163_32 am1164_35 am1165_38 am1166_41 am1167_44 am1168_47 => (K f0_count_17 f0_known_18 f0_made_19 f0_done_20 f0_loopCount_21 f0_tired_22 f0_waiting_23 am1161_26 am1162_29 am1163_32 am1164_35 am1165_38 am1166_41 am1167_44 am1168_47)) f0_count f0_known f0_made f0_done f0_loopCount f0_tired f0_waiting a1 a2 a3 a4 a5 a6 a7 a8 x2 x1)) false)) false)) false)) false) false)
theorem sd_step_35 {post : St2 → Prop} {K : Nat → Nat → Nat → Nat → Nat → Nat → Nat → Nat → Nat → Nat → Nat → Nat → Nat → Nat → Nat → Bool} (hK : ∀ s0 s1 s2 s3 s4 s5 s6 s7 s8 s9 s10 s11 s12 s13 s14 : Nat, K s0 s1 s2 s3 s4 s5 s6 s7 s8 s9 s10 s11 s12 s13 s14 = true → post (nI s0, nI s1, nI s2, nI s3, nI s4, nI s5, nI s6, cb_ar s7, cb_ar s8, cb_ar s9, cb_ar s10, cb_ar s11, cb_ar s12, cb_ar s13, cb_ar s14)) {y_x1 : Int32} {x1 : Nat} (e_x1 : y_x1 = nI x1) {y_x2 : Int32} {x2 : Nat} (e_x2 : y_x2 = nI x2) (f0_count : Nat) (f0_known : Nat) (f0_made : Nat) (f0_done : Nat) (f0_loopCount : Nat) (f0_tired : Nat) (f0_waiting : Nat) (a1 : Nat) (a2 : Nat) (a3 : Nat) (a4 : Nat) (a5 : Nat) (a6 : Nat) (a7 : Nat) (a8 : Nat) (h : im_step_35 K x1 x2 f0_count f0_known f0_made f0_done f0_loopCount f0_tired f0_waiting a1 a2 a3 a4 a5 a6 a7 a8 = true) : wX_step_35 post y_x1 y_x2 (nI f0_count) (nI f0_known) (nI f0_made) (nI f0_done) (nI f0_loopCount) (nI f0_tired) (nI f0_waiting) (cb_ar a1) (cb_ar a2) (cb_ar a3) (cb_ar a4) (cb_ar a5) (cb_ar a6) (cb_ar a7) (cb_ar a8) := by
  subst e_x1
  subst e_x2
  unfold im_step_35 at h
  unfold wX_step_35
  refine ce_in rfl h (fun h => ?_)
  refine ce_in rfl h (fun h => ?_)
  refine ce_if (cb_eq_iff (cb_hrd rfl) (cb_hrd rfl)) h (fun h => ?_) (fun h => ?_)
  · refine sd_annihilate (fun f0_count_145 f0_known_146 f0_made_147 f0_done_148 f0_loopCount_149 f0_tired_150 f0_waiting_151 am531_154 am532_157 am533_160 am534_163 am535_166 am536_169 am537_172 am538_175 h => ?_) f0_count f0_known f0_made f0_done f0_loopCount f0_tired f0_waiting a1 a2 a3 a4 a5 a6 a7 a8 rfl rfl h
    exact hK f0_count_145 f0_known_146 f0_made_147 f0_done_148 f0_loopCount_149 f0_tired_150 f0_waiting_151 am531_154 am532_157 am533_160 am534_163 am535_166 am536_169 am537_172 am538_175 h
  · refine ce_in rfl h (fun h => ?_)
    refine ce_if (cb_eq_iff (cb_hrd rfl) (rfl : (2 : Int32) = nI 2)) h (fun h => ?_) (fun h => ?_)
    · refine sd_erase (fun f0_count_113 f0_known_114 f0_made_115 f0_done_116 f0_loopCount_117 f0_tired_118 f0_waiting_119 am711_122 am712_125 am713_128 am714_131 am715_134 am716_137 am717_140 am718_143 h => ?_) f0_count f0_known f0_made f0_done f0_loopCount f0_tired f0_waiting a1 a2 a3 a4 a5 a6 a7 a8 rfl h
      exact hK f0_count_113 f0_known_114 f0_made_115 f0_done_116 f0_loopCount_117 f0_tired_118 f0_waiting_119 am711_122 am712_125 am713_128 am714_131 am715_134 am716_137 am717_140 am718_143 h
    · refine ce_in rfl h (fun h => ?_)
      refine ce_if (cb_eq_iff (cb_hrd rfl) (rfl : (2 : Int32) = nI 2)) h (fun h => ?_) (fun h => ?_)
      · refine sd_erase (fun f0_count_81 f0_known_82 f0_made_83 f0_done_84 f0_loopCount_85 f0_tired_86 f0_waiting_87 am891_90 am892_93 am893_96 am894_99 am895_102 am896_105 am897_108 am898_111 h => ?_) f0_count f0_known f0_made f0_done f0_loopCount f0_tired f0_waiting a1 a2 a3 a4 a5 a6 a7 a8 rfl h
        exact hK f0_count_81 f0_known_82 f0_made_83 f0_done_84 f0_loopCount_85 f0_tired_86 f0_waiting_87 am891_90 am892_93 am893_96 am894_99 am895_102 am896_105 am897_108 am898_111 h
      · refine ce_in rfl h (fun h => ?_)
        refine ce_if (cb_eq_iff (cb_hrd rfl) (rfl : (0 : Int32) = nI 0)) h (fun h => ?_) (fun h => ?_)
        · refine sd_commute (fun f0_count_49 f0_known_50 f0_made_51 f0_done_52 f0_loopCount_53 f0_tired_54 f0_waiting_55 am1071_58 am1072_61 am1073_64 am1074_67 am1075_70 am1076_73 am1077_76 am1078_79 h => ?_) f0_count f0_known f0_made f0_done f0_loopCount f0_tired f0_waiting a1 a2 a3 a4 a5 a6 a7 a8 rfl rfl h
          exact hK f0_count_49 f0_known_50 f0_made_51 f0_done_52 f0_loopCount_53 f0_tired_54 f0_waiting_55 am1071_58 am1072_61 am1073_64 am1074_67 am1075_70 am1076_73 am1077_76 am1078_79 h
        · refine sd_commute (fun f0_count_17 f0_known_18 f0_made_19 f0_done_20 f0_loopCount_21 f0_tired_22 f0_waiting_23 am1161_26 am1162_29 am1163_32 am1164_35 am1165_38 am1166_41 am1167_44 am1168_47 h => ?_) f0_count f0_known f0_made f0_done f0_loopCount f0_tired f0_waiting a1 a2 a3 a4 a5 a6 a7 a8 rfl rfl h
          exact hK f0_count_17 f0_known_18 f0_made_19 f0_done_20 f0_loopCount_21 f0_tired_22 f0_waiting_23 am1161_26 am1162_29 am1163_32 am1164_35 am1165_38 am1166_41 am1167_44 am1168_47 h
def im_step (K : Nat → Nat → Nat → Nat → Nat → Nat → Nat → Nat → Nat → Nat → Nat → Nat → Nat → Nat → Nat → Bool) (f0_count f0_known f0_made f0_done f0_loopCount f0_tired f0_waiting a1 a2 a3 a4 a5 a6 a7 a8 : Nat) (p0 : Nat) (p1 : Nat) : Bool := (cond (cb_in p0 490) (cb_let (cb_wr a4 p0 1) (fun a4_2 => (cond (cb_in p1 490) (cb_let (cb_wr a4_2 p1 1) (fun a4_4 => (cond (cb_in p0 490) (cond (cb_eq (cb_rd a3 p0) 2) (cond (cb_in p1 490) (cond (cb_eq (cb_rd a3 p1) 2) (K f0_count f0_known f0_made f0_done f0_loopCount f0_tired f0_waiting a1 a2 a3 a4_4 a5 a6 a7 a8) (im_step_35 K p0 p1 f0_count f0_known f0_made f0_done f0_loopCount f0_tired f0_waiting a1 a2 a3 a4_4 a5 a6 a7 a8)) false) (im_step_35 K p0 p1 f0_count f0_known f0_made f0_done f0_loopCount f0_tired f0_waiting a1 a2 a3 a4_4 a5 a6 a7 a8)) false))) false))) false)
theorem sd_step {post : St2 → Prop} {K : Nat → Nat → Nat → Nat → Nat → Nat → Nat → Nat → Nat → Nat → Nat → Nat → Nat → Nat → Nat → Bool} (hK : ∀ s0 s1 s2 s3 s4 s5 s6 s7 s8 s9 s10 s11 s12 s13 s14 : Nat, K s0 s1 s2 s3 s4 s5 s6 s7 s8 s9 s10 s11 s12 s13 s14 = true → post (nI s0, nI s1, nI s2, nI s3, nI s4, nI s5, nI s6, cb_ar s7, cb_ar s8, cb_ar s9, cb_ar s10, cb_ar s11, cb_ar s12, cb_ar s13, cb_ar s14)) (f0_count f0_known f0_made f0_done f0_loopCount f0_tired f0_waiting a1 a2 a3 a4 a5 a6 a7 a8 : Nat) {y_p0 : Int32} {p0 : Nat} (e_p0 : y_p0 = nI p0) {y_p1 : Int32} {p1 : Nat} (e_p1 : y_p1 = nI p1) (h : im_step K f0_count f0_known f0_made f0_done f0_loopCount f0_tired f0_waiting a1 a2 a3 a4 a5 a6 a7 a8 p0 p1 = true) : wpX_step post (nI f0_count, nI f0_known, nI f0_made, nI f0_done, nI f0_loopCount, nI f0_tired, nI f0_waiting, cb_ar a1, cb_ar a2, cb_ar a3, cb_ar a4, cb_ar a5, cb_ar a6, cb_ar a7, cb_ar a8) y_p0 y_p1 := by
  subst e_p0
  subst e_p1
  unfold im_step at h
  unfold wpX_step
  refine ce_in rfl h (fun h => ?_)
  refine ce_arr (cb_hupd rfl (rfl : (1 : Int32) = nI 1)) h (fun a4_2 h => ?_)
  refine ce_in rfl h (fun h => ?_)
  refine ce_arr (cb_hupd rfl (rfl : (1 : Int32) = nI 1)) h (fun a4_4 h => ?_)
  refine ce_in rfl h (fun h => ?_)
  refine ce_if (cb_eq_iff (cb_hrd rfl) (rfl : (2 : Int32) = nI 2)) h (fun h => ?_) (fun h => ?_)
  · refine ce_in rfl h (fun h => ?_)
    refine ce_if (cb_eq_iff (cb_hrd rfl) (rfl : (2 : Int32) = nI 2)) h (fun h => ?_) (fun h => ?_)
    · exact hK f0_count f0_known f0_made f0_done f0_loopCount f0_tired f0_waiting a1 a2 a3 a4_4 a5 a6 a7 a8 h
    · exact sd_step_35 hK rfl rfl f0_count f0_known f0_made f0_done f0_loopCount f0_tired f0_waiting a1 a2 a3 a4_4 a5 a6 a7 a8 h
  · exact sd_step_35 hK rfl rfl f0_count f0_known f0_made f0_done f0_loopCount f0_tired f0_waiting a1 a2 a3 a4_4 a5 a6 a7 a8 h
def im_run_14 (K : Nat → Nat → Nat → Nat → Nat → Nat → Nat → Nat → Nat → Nat → Nat → Nat → Nat → Nat → Nat → Bool) : Nat → Nat → Nat → Nat → Nat → Nat → Nat → Nat → Nat → Nat → Nat → Nat → Nat → Nat → Nat → Nat → Nat → Bool
  | 0 => fun _ _ _ _ _ _ _ _ _ _ _ _ _ _ _ _ => false
  | n + 1 => fun x1 f0_count f0_known f0_made f0_done f0_loopCount f0_tired f0_waiting am91 am92 am93 am94 am95 am96 am97 am98 => (cond (cb_le 1000 x1) (K f0_count 1 f0_made f0_done f0_loopCount f0_tired f0_waiting am91 am92 am93 am94 am95 am96 am97 am98) (cond (cb_le f0_waiting 0) (K f0_count 1 f0_made f0_done f0_loopCount f0_tired f0_waiting am91 am92 am93 am94 am95 am96 am97 am98) (cb_let (cb_sub f0_waiting 1) (fun f_36 => (cond (cb_in f_36 1000) (cb_let (cb_rd am96 f_36) (fun x2_38 => (im_faces (fun r_39 => (cond (cb_eq r_39 0) (cb_let (cb_add x1 1) (fun x1_41 => (im_run_14 K n x1_41 f0_count f0_known f0_made f0_done f0_loopCount f0_tired f_36 am91 am92 am93 am94 am95 am96 am97 am98))) (cond (cb_eq f0_done 120) (cb_let (cb_add x1 1) (fun x1_79 => (im_run_14 K n x1_79 f0_count f0_known f0_made f0_done f0_loopCount 1 0 am91 am92 am93 am94 am95 am96 am97 am98))) (cb_let (cb_add f0_done 1) (fun f_43 => (cond (cb_in (cb_mul 3 x2_38) 1474) (im_step (fun f0_count_47 f0_known_48 f0_made_49 f0_done_50 f0_loopCount_51 f0_tired_52 f0_waiting_53 am1001_56 am1002_59 am1003_62 am1004_65 am1005_68 am1006_71 am1007_74 am1008_77 => (cb_let (cb_add x1 1) (fun x1_78 => (im_run_14 K n x1_78 f0_count_47 f0_known_48 f0_made_49 f0_done_50 f0_loopCount_51 f0_tired_52 f0_waiting_53 am1001_56 am1002_59 am1003_62 am1004_65 am1005_68 am1006_71 am1007_74 am1008_77)))) f0_count f0_known f0_made f_43 f0_loopCount f0_tired f_36 am91 am92 am93 am94 am95 am96 am97 am98 x2_38 (cb_div3 (cb_rd am95 (cb_mul 3 x2_38)))) false)))))) f0_count f0_known f0_made f0_done f0_loopCount f0_tired f_36 am91 am92 am93 am94 am95 am96 am97 am98 x2_38))) false)))))
theorem sd_run_14 {post : St2 → Prop} {K : Nat → Nat → Nat → Nat → Nat → Nat → Nat → Nat → Nat → Nat → Nat → Nat → Nat → Nat → Nat → Bool} (hK : ∀ s0 s1 s2 s3 s4 s5 s6 s7 s8 s9 s10 s11 s12 s13 s14 : Nat, K s0 s1 s2 s3 s4 s5 s6 s7 s8 s9 s10 s11 s12 s13 s14 = true → post (nI s0, nI s1, nI s2, nI s3, nI s4, nI s5, nI s6, cb_ar s7, cb_ar s8, cb_ar s9, cb_ar s10, cb_ar s11, cb_ar s12, cb_ar s13, cb_ar s14)) : ∀ (n x1 f0_count f0_known f0_made f0_done f0_loopCount f0_tired f0_waiting am91 am92 am93 am94 am95 am96 am97 am98 : Nat), im_run_14 K n x1 f0_count f0_known f0_made f0_done f0_loopCount f0_tired f0_waiting am91 am92 am93 am94 am95 am96 am97 am98 = true → wX_run_14 post n (nI x1) (nI f0_count) (nI f0_known) (nI f0_made) (nI f0_done) (nI f0_loopCount) (nI f0_tired) (nI f0_waiting) (cb_ar am91) (cb_ar am92) (cb_ar am93) (cb_ar am94) (cb_ar am95) (cb_ar am96) (cb_ar am97) (cb_ar am98) := by
  intro n
  induction n with
  | zero =>
    intro x1 f0_count f0_known f0_made f0_done f0_loopCount f0_tired f0_waiting am91 am92 am93 am94 am95 am96 am97 am98 h
    exact ce_no h
  | succ n ih =>
    intro x1 f0_count f0_known f0_made f0_done f0_loopCount f0_tired f0_waiting am91 am92 am93 am94 am95 am96 am97 am98 h
    unfold im_run_14 at h
    unfold wX_run_14
    refine ce_if (cb_le_iff (rfl : (1000 : Int32) = nI 1000) rfl) h (fun h => ?_) (fun h => ?_)
    · exact hK f0_count 1 f0_made f0_done f0_loopCount f0_tired f0_waiting am91 am92 am93 am94 am95 am96 am97 am98 h
    · refine ce_if (cb_le_iff rfl (rfl : (0 : Int32) = nI 0)) h (fun h => ?_) (fun h => ?_)
      · exact hK f0_count 1 f0_made f0_done f0_loopCount f0_tired f0_waiting am91 am92 am93 am94 am95 am96 am97 am98 h
      · refine ce_int (cb_hsub rfl (rfl : (1 : Int32) = nI 1)) h (fun f_36 h => ?_)
        refine ce_in rfl h (fun h => ?_)
        refine ce_int (cb_hrd rfl) h (fun x2_38 h => ?_)
        refine sd_faces (fun r_39 h => ?_) f0_count f0_known f0_made f0_done f0_loopCount f0_tired f_36 am91 am92 am93 am94 am95 am96 am97 am98 rfl h
        refine ce_if (cb_eq_iff rfl (rfl : (0 : Int32) = nI 0)) h (fun h => ?_) (fun h => ?_)
        · refine ce_int (cb_hadd rfl (rfl : (1 : Int32) = nI 1)) h (fun x1_41 h => ?_)
          exact ih x1_41 f0_count f0_known f0_made f0_done f0_loopCount f0_tired f_36 am91 am92 am93 am94 am95 am96 am97 am98 h
        · refine ce_if (cb_eq_iff rfl (rfl : (120 : Int32) = nI 120)) h (fun h => ?_) (fun h => ?_)
          · refine ce_int (cb_hadd rfl (rfl : (1 : Int32) = nI 1)) h (fun x1_79 h => ?_)
            exact ih x1_79 f0_count f0_known f0_made f0_done f0_loopCount 1 0 am91 am92 am93 am94 am95 am96 am97 am98 h
          · refine ce_int (cb_hadd rfl (rfl : (1 : Int32) = nI 1)) h (fun f_43 h => ?_)
            refine ce_in (cb_hmul (rfl : (3 : Int32) = nI 3) rfl) h (fun h => ?_)
            refine ⟨cb_n3, ?_⟩
            refine sd_step (fun f0_count_47 f0_known_48 f0_made_49 f0_done_50 f0_loopCount_51 f0_tired_52 f0_waiting_53 am1001_56 am1002_59 am1003_62 am1004_65 am1005_68 am1006_71 am1007_74 am1008_77 h => ?_) f0_count f0_known f0_made f_43 f0_loopCount f0_tired f_36 am91 am92 am93 am94 am95 am96 am97 am98 rfl (cb_hdiv3 (cb_hrd (cb_hmul (rfl : (3 : Int32) = nI 3) rfl))) h
            refine ce_int (cb_hadd rfl (rfl : (1 : Int32) = nI 1)) h (fun x1_78 h => ?_)
            exact ih x1_78 f0_count_47 f0_known_48 f0_made_49 f0_done_50 f0_loopCount_51 f0_tired_52 f0_waiting_53 am1001_56 am1002_59 am1003_62 am1004_65 am1005_68 am1006_71 am1007_74 am1008_77 h
def im_run (K : Nat → Nat → Nat → Nat → Nat → Nat → Nat → Nat → Nat → Nat → Nat → Nat → Nat → Nat → Nat → Bool) (f0_count f0_known f0_made f0_done f0_loopCount f0_tired f0_waiting a1 a2 a3 a4 a5 a6 a7 a8 : Nat) : Bool := (cond (cb_eq f0_known 0) (im_copyNet (fun f0_count_3 f0_known_4 f0_made_5 f0_done_6 f0_loopCount_7 f0_tired_8 f0_waiting_9 am91_12 am92_15 am93_18 am94_21 am95_24 am96_27 am97_30 am98_33 => (im_run_14 K 60 0 f0_count_3 f0_known_4 f0_made_5 f0_done_6 f0_loopCount_7 f0_tired_8 f0_waiting_9 am91_12 am92_15 am93_18 am94_21 am95_24 am96_27 am97_30 am98_33)) f0_count f0_known f0_made f0_done f0_loopCount f0_tired f0_waiting a1 a2 a3 a4 a5 a6 a7 a8) (K f0_count f0_known f0_made f0_done f0_loopCount f0_tired f0_waiting a1 a2 a3 a4 a5 a6 a7 a8))
theorem sd_run {post : St2 → Prop} {K : Nat → Nat → Nat → Nat → Nat → Nat → Nat → Nat → Nat → Nat → Nat → Nat → Nat → Nat → Nat → Bool} (hK : ∀ s0 s1 s2 s3 s4 s5 s6 s7 s8 s9 s10 s11 s12 s13 s14 : Nat, K s0 s1 s2 s3 s4 s5 s6 s7 s8 s9 s10 s11 s12 s13 s14 = true → post (nI s0, nI s1, nI s2, nI s3, nI s4, nI s5, nI s6, cb_ar s7, cb_ar s8, cb_ar s9, cb_ar s10, cb_ar s11, cb_ar s12, cb_ar s13, cb_ar s14)) (f0_count f0_known f0_made f0_done f0_loopCount f0_tired f0_waiting a1 a2 a3 a4 a5 a6 a7 a8 : Nat) (h : im_run K f0_count f0_known f0_made f0_done f0_loopCount f0_tired f0_waiting a1 a2 a3 a4 a5 a6 a7 a8 = true) : wpX_run post (nI f0_count, nI f0_known, nI f0_made, nI f0_done, nI f0_loopCount, nI f0_tired, nI f0_waiting, cb_ar a1, cb_ar a2, cb_ar a3, cb_ar a4, cb_ar a5, cb_ar a6, cb_ar a7, cb_ar a8) := by
  unfold im_run at h
  unfold wpX_run
  refine ce_if (cb_eq_iff rfl (rfl : (0 : Int32) = nI 0)) h (fun h => ?_) (fun h => ?_)
  · refine sd_copyNet (fun f0_count_3 f0_known_4 f0_made_5 f0_done_6 f0_loopCount_7 f0_tired_8 f0_waiting_9 am91_12 am92_15 am93_18 am94_21 am95_24 am96_27 am97_30 am98_33 h => ?_) f0_count f0_known f0_made f0_done f0_loopCount f0_tired f0_waiting a1 a2 a3 a4 a5 a6 a7 a8 h
    refine ⟨60, ?_⟩
    exact sd_run_14 hK 60 0 f0_count_3 f0_known_4 f0_made_5 f0_done_6 f0_loopCount_7 f0_tired_8 f0_waiting_9 am91_12 am92_15 am93_18 am94_21 am95_24 am96_27 am97_30 am98_33 h
  · exact hK f0_count f0_known f0_made f0_done f0_loopCount f0_tired f0_waiting a1 a2 a3 a4 a5 a6 a7 a8 h
end
section
def im_left_29 (K : Nat → Nat → Nat → Nat → Nat → Nat → Nat → Nat → Nat → Nat → Nat → Nat → Nat → Nat → Nat → Nat → Bool) (x1 : Nat) (f0_count : Nat) (f0_known : Nat) (f0_made : Nat) (f0_done : Nat) (f0_loopCount : Nat) (f0_tired : Nat) (f0_waiting : Nat) (am121 : Nat) (am122 : Nat) (am123 : Nat) (am124 : Nat) (am125 : Nat) (am126 : Nat) (am127 : Nat) (am128 : Nat) : Nat → Nat → Nat → Bool
  | 0 => fun _ _ => false
  | n + 1 => fun x2 x3 => (cond (cb_le f0_made x3) (K x2 f0_count f0_known f0_made f0_done f0_loopCount f0_tired f0_waiting am121 am122 am123 am124 am125 am126 am127 am128) (cond (cb_in x3 490) (cond (cb_eq (cb_rd am124 x3) 0) (cond (cb_in x3 490) (cond (cb_eq (cb_rd am123 x3) x1) (cb_let (cb_add x2 1) (fun x2_43 => (cb_let (cb_add x3 1) (fun x3_44 => (im_left_29 K x1 f0_count f0_known f0_made f0_done f0_loopCount f0_tired f0_waiting am121 am122 am123 am124 am125 am126 am127 am128 n x2_43 x3_44))))) (cb_let (cb_add x3 1) (fun x3_42 => (im_left_29 K x1 f0_count f0_known f0_made f0_done f0_loopCount f0_tired f0_waiting am121 am122 am123 am124 am125 am126 am127 am128 n x2 x3_42)))) false) (cb_let (cb_add x3 1) (fun x3_39 => (im_left_29 K x1 f0_count f0_known f0_made f0_done f0_loopCount f0_tired f0_waiting am121 am122 am123 am124 am125 am126 am127 am128 n x2 x3_39)))) false))
theorem sd_left_29 {post : Int32 → St2 → Prop} {K : Nat → Nat → Nat → Nat → Nat → Nat → Nat → Nat → Nat → Nat → Nat → Nat → Nat → Nat → Nat → Nat → Bool} (hK : ∀ r s0 s1 s2 s3 s4 s5 s6 s7 s8 s9 s10 s11 s12 s13 s14 : Nat, K r s0 s1 s2 s3 s4 s5 s6 s7 s8 s9 s10 s11 s12 s13 s14 = true → post (nI r) (nI s0, nI s1, nI s2, nI s3, nI s4, nI s5, nI s6, cb_ar s7, cb_ar s8, cb_ar s9, cb_ar s10, cb_ar s11, cb_ar s12, cb_ar s13, cb_ar s14)) {y_x1 : Int32} {x1 : Nat} (e_x1 : y_x1 = nI x1) (f0_count : Nat) (f0_known : Nat) (f0_made : Nat) (f0_done : Nat) (f0_loopCount : Nat) (f0_tired : Nat) (f0_waiting : Nat) (am121 : Nat) (am122 : Nat) (am123 : Nat) (am124 : Nat) (am125 : Nat) (am126 : Nat) (am127 : Nat) (am128 : Nat) : ∀ (n x2 x3 : Nat), im_left_29 K x1 f0_count f0_known f0_made f0_done f0_loopCount f0_tired f0_waiting am121 am122 am123 am124 am125 am126 am127 am128 n x2 x3 = true → wX_left_29 post y_x1 (nI f0_count) (nI f0_known) (nI f0_made) (nI f0_done) (nI f0_loopCount) (nI f0_tired) (nI f0_waiting) (cb_ar am121) (cb_ar am122) (cb_ar am123) (cb_ar am124) (cb_ar am125) (cb_ar am126) (cb_ar am127) (cb_ar am128) n (nI x2) (nI x3) := by
  subst e_x1
  intro n
  induction n with
  | zero =>
    intro x2 x3 h
    exact ce_no h
  | succ n ih =>
    intro x2 x3 h
    unfold im_left_29 at h
    unfold wX_left_29
    refine ce_if (cb_le_iff rfl rfl) h (fun h => ?_) (fun h => ?_)
    · exact ce_p2 (P := post) rfl (hK x2 f0_count f0_known f0_made f0_done f0_loopCount f0_tired f0_waiting am121 am122 am123 am124 am125 am126 am127 am128 h)
    · refine ce_in rfl h (fun h => ?_)
      refine ce_if (cb_eq_iff (cb_hrd rfl) (rfl : (0 : Int32) = nI 0)) h (fun h => ?_) (fun h => ?_)
      · refine ce_in rfl h (fun h => ?_)
        refine ce_if (cb_eq_iff (cb_hrd rfl) rfl) h (fun h => ?_) (fun h => ?_)
        · refine ce_int (cb_hadd rfl (rfl : (1 : Int32) = nI 1)) h (fun x2_43 h => ?_)
          refine ce_int (cb_hadd rfl (rfl : (1 : Int32) = nI 1)) h (fun x3_44 h => ?_)
          exact ih x2_43 x3_44 h
        · refine ce_int (cb_hadd rfl (rfl : (1 : Int32) = nI 1)) h (fun x3_42 h => ?_)
          exact ih x2 x3_42 h
      · refine ce_int (cb_hadd rfl (rfl : (1 : Int32) = nI 1)) h (fun x3_39 h => ?_)
        exact ih x2 x3_39 h
def im_left (K : Nat → Nat → Nat → Nat → Nat → Nat → Nat → Nat → Nat → Nat → Nat → Nat → Nat → Nat → Nat → Nat → Bool) (f0_count f0_known f0_made f0_done f0_loopCount f0_tired f0_waiting a1 a2 a3 a4 a5 a6 a7 a8 : Nat) (p0 : Nat) : Bool := (cond (cb_lt p0 0) (K 4294967295 f0_count f0_known f0_made f0_done f0_loopCount f0_tired f0_waiting a1 a2 a3 a4 a5 a6 a7 a8) (cond (cb_le p0 2) (im_run (fun f0_count_4 f0_known_5 f0_made_6 f0_done_7 f0_loopCount_8 f0_tired_9 f0_waiting_10 am121_13 am122_16 am123_19 am124_22 am125_25 am126_28 am127_31 am128_34 => (cond (cb_eq f0_tired_9 0) (im_left_29 K p0 f0_count_4 f0_known_5 f0_made_6 f0_done_7 f0_loopCount_8 f0_tired_9 f0_waiting_10 am121_13 am122_16 am123_19 am124_22 am125_25 am126_28 am127_31 am128_34 60 0 0) (K 4294967291 f0_count_4 f0_known_5 f0_made_6 f0_done_7 f0_loopCount_8 f0_tired_9 f0_waiting_10 am121_13 am122_16 am123_19 am124_22 am125_25 am126_28 am127_31 am128_34))) f0_count f0_known f0_made f0_done f0_loopCount f0_tired f0_waiting a1 a2 a3 a4 a5 a6 a7 a8) (K 4294967295 f0_count f0_known f0_made f0_done f0_loopCount f0_tired f0_waiting a1 a2 a3 a4 a5 a6 a7 a8)))
theorem sd_left {post : Int32 → St2 → Prop} {K : Nat → Nat → Nat → Nat → Nat → Nat → Nat → Nat → Nat → Nat → Nat → Nat → Nat → Nat → Nat → Nat → Bool} (hK : ∀ r s0 s1 s2 s3 s4 s5 s6 s7 s8 s9 s10 s11 s12 s13 s14 : Nat, K r s0 s1 s2 s3 s4 s5 s6 s7 s8 s9 s10 s11 s12 s13 s14 = true → post (nI r) (nI s0, nI s1, nI s2, nI s3, nI s4, nI s5, nI s6, cb_ar s7, cb_ar s8, cb_ar s9, cb_ar s10, cb_ar s11, cb_ar s12, cb_ar s13, cb_ar s14)) (f0_count f0_known f0_made f0_done f0_loopCount f0_tired f0_waiting a1 a2 a3 a4 a5 a6 a7 a8 : Nat) {y_p0 : Int32} {p0 : Nat} (e_p0 : y_p0 = nI p0) (h : im_left K f0_count f0_known f0_made f0_done f0_loopCount f0_tired f0_waiting a1 a2 a3 a4 a5 a6 a7 a8 p0 = true) : wpX_left post (nI f0_count, nI f0_known, nI f0_made, nI f0_done, nI f0_loopCount, nI f0_tired, nI f0_waiting, cb_ar a1, cb_ar a2, cb_ar a3, cb_ar a4, cb_ar a5, cb_ar a6, cb_ar a7, cb_ar a8) y_p0 := by
  subst e_p0
  unfold im_left at h
  unfold wpX_left
  refine ce_if (cb_lt_iff rfl (rfl : (0 : Int32) = nI 0)) h (fun h => ?_) (fun h => ?_)
  · exact ce_p2 (P := post) cb_m1 (hK 4294967295 f0_count f0_known f0_made f0_done f0_loopCount f0_tired f0_waiting a1 a2 a3 a4 a5 a6 a7 a8 h)
  · refine ce_if (cb_le_iff rfl (rfl : (2 : Int32) = nI 2)) h (fun h => ?_) (fun h => ?_)
    · refine sd_run (fun f0_count_4 f0_known_5 f0_made_6 f0_done_7 f0_loopCount_8 f0_tired_9 f0_waiting_10 am121_13 am122_16 am123_19 am124_22 am125_25 am126_28 am127_31 am128_34 h => ?_) f0_count f0_known f0_made f0_done f0_loopCount f0_tired f0_waiting a1 a2 a3 a4 a5 a6 a7 a8 h
      refine ce_if (cb_eq_iff rfl (rfl : (0 : Int32) = nI 0)) h (fun h => ?_) (fun h => ?_)
      · refine ⟨60, ?_⟩
        exact sd_left_29 hK rfl f0_count_4 f0_known_5 f0_made_6 f0_done_7 f0_loopCount_8 f0_tired_9 f0_waiting_10 am121_13 am122_16 am123_19 am124_22 am125_25 am126_28 am127_31 am128_34 60 0 0 h
      · exact ce_p2 (P := post) cb_m5 (hK 4294967291 f0_count_4 f0_known_5 f0_made_6 f0_done_7 f0_loopCount_8 f0_tired_9 f0_waiting_10 am121_13 am122_16 am123_19 am124_22 am125_25 am126_28 am127_31 am128_34 h)
    · exact ce_p2 (P := post) cb_m1 (hK 4294967295 f0_count f0_known f0_made f0_done f0_loopCount f0_tired f0_waiting a1 a2 a3 a4 a5 a6 a7 a8 h)
def im_named (K : Nat → Bool) (f0_count f0_known f0_made f0_done f0_loopCount f0_tired f0_waiting a1 a2 a3 a4 a5 a6 a7 a8 : Nat) (p0 : Nat) : Bool := (cond (cb_eq p0 4294967295) (K 9) (cond (cb_lt p0 1470) (cond (cb_in (cb_div3 p0) 490) (K (cb_add (cb_mul 3 (cb_rd a3 (cb_div3 p0))) (cb_sub p0 (cb_mul (cb_div3 p0) 3)))) false) (K (cb_sub (cb_add 10 p0) 1470))))
theorem sd_named {post : Int32 → Prop} {K : Nat → Bool} (hK : ∀ r : Nat, K r = true → post (nI r)) (f0_count f0_known f0_made f0_done f0_loopCount f0_tired f0_waiting a1 a2 a3 a4 a5 a6 a7 a8 : Nat) {y_p0 : Int32} {p0 : Nat} (e_p0 : y_p0 = nI p0) (h : im_named K f0_count f0_known f0_made f0_done f0_loopCount f0_tired f0_waiting a1 a2 a3 a4 a5 a6 a7 a8 p0 = true) : wpX_named post (nI f0_count, nI f0_known, nI f0_made, nI f0_done, nI f0_loopCount, nI f0_tired, nI f0_waiting, cb_ar a1, cb_ar a2, cb_ar a3, cb_ar a4, cb_ar a5, cb_ar a6, cb_ar a7, cb_ar a8) y_p0 := by
  subst e_p0
  unfold im_named at h
  unfold wpX_named
  refine ce_if (cb_eq_iff rfl cb_m1) h (fun h => ?_) (fun h => ?_)
  · exact ce_p1 (P := post) (rfl : (9 : Int32) = nI 9) (hK 9 h)
  · refine ce_if (cb_lt_iff rfl (rfl : (1470 : Int32) = nI 1470)) h (fun h => ?_) (fun h => ?_)
    · refine ⟨cb_n3, ?_⟩
      refine ce_in (cb_hdiv3 rfl) h (fun h => ?_)
      refine ⟨cb_n3, ?_⟩
      exact ce_p1 (P := post) (cb_hadd (cb_hmul (rfl : (3 : Int32) = nI 3) (cb_hrd (cb_hdiv3 rfl))) (cb_hsub rfl (cb_hmul (cb_hdiv3 rfl) (rfl : (3 : Int32) = nI 3)))) (hK (cb_add (cb_mul 3 (cb_rd a3 (cb_div3 p0))) (cb_sub p0 (cb_mul (cb_div3 p0) 3))) h)
    · exact ce_p1 (P := post) (cb_hsub (cb_hadd (rfl : (10 : Int32) = nI 10) rfl) (rfl : (1470 : Int32) = nI 1470)) (hK (cb_sub (cb_add 10 p0) 1470) h)
def im_exit_16 (K : Nat → Bool) (x3 : Nat) (z0 : Nat) (z1 : Nat) (f0_count : Nat) (f0_known : Nat) (f0_made : Nat) (f0_done : Nat) (f0_loopCount : Nat) (f0_tired : Nat) (f0_waiting : Nat) (a1 : Nat) (a2 : Nat) (a3 : Nat) (a4 : Nat) (a5 : Nat) (a6 : Nat) (a7 : Nat) (a8 : Nat) : Bool := (cb_let (cb_add z1 z0) (fun x4_5 => (cond (cb_le x4_5 2) (K (cb_add (cb_mul 3 x3) x4_5)) (K (cb_add (cb_mul 3 x3) (cb_sub x4_5 3))))))
theorem sd_exit_16 {post : Int32 → Prop} {K : Nat → Bool} (hK : ∀ r : Nat, K r = true → post (nI r)) {y_x3 : Int32} {x3 : Nat} (e_x3 : y_x3 = nI x3) {y_z0 : Int32} {z0 : Nat} (e_z0 : y_z0 = nI z0) {y_z1 : Int32} {z1 : Nat} (e_z1 : y_z1 = nI z1) (f0_count : Nat) (f0_known : Nat) (f0_made : Nat) (f0_done : Nat) (f0_loopCount : Nat) (f0_tired : Nat) (f0_waiting : Nat) (a1 : Nat) (a2 : Nat) (a3 : Nat) (a4 : Nat) (a5 : Nat) (a6 : Nat) (a7 : Nat) (a8 : Nat) (h : im_exit_16 K x3 z0 z1 f0_count f0_known f0_made f0_done f0_loopCount f0_tired f0_waiting a1 a2 a3 a4 a5 a6 a7 a8 = true) : wX_exit_16 post y_x3 y_z0 y_z1 (nI f0_count) (nI f0_known) (nI f0_made) (nI f0_done) (nI f0_loopCount) (nI f0_tired) (nI f0_waiting) (cb_ar a1) (cb_ar a2) (cb_ar a3) (cb_ar a4) (cb_ar a5) (cb_ar a6) (cb_ar a7) (cb_ar a8) := by
  subst e_x3
  subst e_z0
  subst e_z1
  unfold im_exit_16 at h
  unfold wX_exit_16
  refine ce_int (cb_hadd rfl rfl) h (fun x4_5 h => ?_)
  refine ce_if (cb_le_iff rfl (rfl : (2 : Int32) = nI 2)) h (fun h => ?_) (fun h => ?_)
  · exact ce_p1 (P := post) (cb_hadd (cb_hmul (rfl : (3 : Int32) = nI 3) rfl) rfl) (hK (cb_add (cb_mul 3 x3) x4_5) h)
  · exact ce_p1 (P := post) (cb_hadd (cb_hmul (rfl : (3 : Int32) = nI 3) rfl) (cb_hsub rfl (rfl : (3 : Int32) = nI 3))) (hK (cb_add (cb_mul 3 x3) (cb_sub x4_5 3)) h)
def im_exit (K : Nat → Bool) (f0_count f0_known f0_made f0_done f0_loopCount f0_tired f0_waiting a1 a2 a3 a4 a5 a6 a7 a8 : Nat) (p0 : Nat) (p1 : Nat) : Bool := (cb_let (cb_div3 p0) (fun x3_2 => (cond (cb_eq p1 0) (im_exit_16 K x3_2 2 (cb_sub p0 (cb_mul (cb_div3 p0) 3)) f0_count f0_known f0_made f0_done f0_loopCount f0_tired f0_waiting a1 a2 a3 a4 a5 a6 a7 a8) (im_exit_16 K x3_2 1 (cb_sub p0 (cb_mul (cb_div3 p0) 3)) f0_count f0_known f0_made f0_done f0_loopCount f0_tired f0_waiting a1 a2 a3 a4 a5 a6 a7 a8))))
theorem sd_exit {post : Int32 → Prop} {K : Nat → Bool} (hK : ∀ r : Nat, K r = true → post (nI r)) (f0_count f0_known f0_made f0_done f0_loopCount f0_tired f0_waiting a1 a2 a3 a4 a5 a6 a7 a8 : Nat) {y_p0 : Int32} {p0 : Nat} (e_p0 : y_p0 = nI p0) {y_p1 : Int32} {p1 : Nat} (e_p1 : y_p1 = nI p1) (h : im_exit K f0_count f0_known f0_made f0_done f0_loopCount f0_tired f0_waiting a1 a2 a3 a4 a5 a6 a7 a8 p0 p1 = true) : wpX_exit post (nI f0_count, nI f0_known, nI f0_made, nI f0_done, nI f0_loopCount, nI f0_tired, nI f0_waiting, cb_ar a1, cb_ar a2, cb_ar a3, cb_ar a4, cb_ar a5, cb_ar a6, cb_ar a7, cb_ar a8) y_p0 y_p1 := by
  subst e_p0
  subst e_p1
  unfold im_exit at h
  unfold wpX_exit
  refine ⟨cb_n3, ?_⟩
  refine ce_int (cb_hdiv3 rfl) h (fun x3_2 h => ?_)
  refine ⟨cb_n3, ?_⟩
  refine ce_if (cb_eq_iff rfl (rfl : (0 : Int32) = nI 0)) h (fun h => ?_) (fun h => ?_)
  · exact sd_exit_16 hK rfl (rfl : (2 : Int32) = nI 2) (cb_hsub rfl (cb_hmul (cb_hdiv3 rfl) (rfl : (3 : Int32) = nI 3))) f0_count f0_known f0_made f0_done f0_loopCount f0_tired f0_waiting a1 a2 a3 a4 a5 a6 a7 a8 h
  · exact sd_exit_16 hK rfl (rfl : (1 : Int32) = nI 1) (cb_hsub rfl (cb_hmul (cb_hdiv3 rfl) (rfl : (3 : Int32) = nI 3))) f0_count f0_known f0_made f0_done f0_loopCount f0_tired f0_waiting a1 a2 a3 a4 a5 a6 a7 a8 h
def im_walk_135 (K : Nat → Nat → Nat → Nat → Nat → Nat → Nat → Nat → Nat → Nat → Nat → Nat → Nat → Nat → Nat → Nat → Bool) (x3 : Nat) (f0_count : Nat) (f0_known : Nat) (f0_made : Nat) (f0_done : Nat) (f0_loopCount : Nat) (f0_tired : Nat) (f0_waiting : Nat) (am231 : Nat) (am232 : Nat) (am233 : Nat) (am234 : Nat) (am235 : Nat) (am236 : Nat) (am237 : Nat) (am238 : Nat) : Bool := (im_named (fun r_41 => (K r_41 f0_count f0_known f0_made f0_done f0_loopCount f0_tired f0_waiting am231 am232 am233 am234 am235 am236 am237 am238)) f0_count f0_known f0_made f0_done f0_loopCount f0_tired f0_waiting am231 am232 am233 am234 am235 am236 am237 am238 x3)
theorem sd_walk_135 {post : Int32 → St2 → Prop} {K : Nat → Nat → Nat → Nat → Nat → Nat → Nat → Nat → Nat → Nat → Nat → Nat → Nat → Nat → Nat → Nat → Bool} (hK : ∀ r s0 s1 s2 s3 s4 s5 s6 s7 s8 s9 s10 s11 s12 s13 s14 : Nat, K r s0 s1 s2 s3 s4 s5 s6 s7 s8 s9 s10 s11 s12 s13 s14 = true → post (nI r) (nI s0, nI s1, nI s2, nI s3, nI s4, nI s5, nI s6, cb_ar s7, cb_ar s8, cb_ar s9, cb_ar s10, cb_ar s11, cb_ar s12, cb_ar s13, cb_ar s14)) {y_x3 : Int32} {x3 : Nat} (e_x3 : y_x3 = nI x3) (f0_count : Nat) (f0_known : Nat) (f0_made : Nat) (f0_done : Nat) (f0_loopCount : Nat) (f0_tired : Nat) (f0_waiting : Nat) (am231 : Nat) (am232 : Nat) (am233 : Nat) (am234 : Nat) (am235 : Nat) (am236 : Nat) (am237 : Nat) (am238 : Nat) (h : im_walk_135 K x3 f0_count f0_known f0_made f0_done f0_loopCount f0_tired f0_waiting am231 am232 am233 am234 am235 am236 am237 am238 = true) : wX_walk_135 post y_x3 (nI f0_count) (nI f0_known) (nI f0_made) (nI f0_done) (nI f0_loopCount) (nI f0_tired) (nI f0_waiting) (cb_ar am231) (cb_ar am232) (cb_ar am233) (cb_ar am234) (cb_ar am235) (cb_ar am236) (cb_ar am237) (cb_ar am238) := by
  subst e_x3
  unfold im_walk_135 at h
  unfold wX_walk_135
  refine sd_named (fun r_41 h => ?_) f0_count f0_known f0_made f0_done f0_loopCount f0_tired f0_waiting am231 am232 am233 am234 am235 am236 am237 am238 rfl h
  exact ce_p2 (P := post) rfl (hK r_41 f0_count f0_known f0_made f0_done f0_loopCount f0_tired f0_waiting am231 am232 am233 am234 am235 am236 am237 am238 h)
def im_walk_89 (K : Nat → Nat → Nat → Nat → Nat → Nat → Nat → Nat → Nat → Nat → Nat → Nat → Nat → Nat → Nat → Nat → Bool) (x3 : Nat) (f0_count : Nat) (f0_known : Nat) (f0_made : Nat) (f0_done : Nat) (f0_loopCount : Nat) (f0_tired : Nat) (f0_waiting : Nat) (am231 : Nat) (am232 : Nat) (am233 : Nat) (am234 : Nat) (am235 : Nat) (am236 : Nat) (am237 : Nat) (am238 : Nat) : Bool := (im_named (fun r_44 => (K r_44 f0_count f0_known f0_made f0_done f0_loopCount f0_tired f0_waiting am231 am232 am233 am234 am235 am236 am237 am238)) f0_count f0_known f0_made f0_done f0_loopCount f0_tired f0_waiting am231 am232 am233 am234 am235 am236 am237 am238 x3)
theorem sd_walk_89 {post : Int32 → St2 → Prop} {K : Nat → Nat → Nat → Nat → Nat → Nat → Nat → Nat → Nat → Nat → Nat → Nat → Nat → Nat → Nat → Nat → Bool} (hK : ∀ r s0 s1 s2 s3 s4 s5 s6 s7 s8 s9 s10 s11 s12 s13 s14 : Nat, K r s0 s1 s2 s3 s4 s5 s6 s7 s8 s9 s10 s11 s12 s13 s14 = true → post (nI r) (nI s0, nI s1, nI s2, nI s3, nI s4, nI s5, nI s6, cb_ar s7, cb_ar s8, cb_ar s9, cb_ar s10, cb_ar s11, cb_ar s12, cb_ar s13, cb_ar s14)) {y_x3 : Int32} {x3 : Nat} (e_x3 : y_x3 = nI x3) (f0_count : Nat) (f0_known : Nat) (f0_made : Nat) (f0_done : Nat) (f0_loopCount : Nat) (f0_tired : Nat) (f0_waiting : Nat) (am231 : Nat) (am232 : Nat) (am233 : Nat) (am234 : Nat) (am235 : Nat) (am236 : Nat) (am237 : Nat) (am238 : Nat) (h : im_walk_89 K x3 f0_count f0_known f0_made f0_done f0_loopCount f0_tired f0_waiting am231 am232 am233 am234 am235 am236 am237 am238 = true) : wX_walk_89 post y_x3 (nI f0_count) (nI f0_known) (nI f0_made) (nI f0_done) (nI f0_loopCount) (nI f0_tired) (nI f0_waiting) (cb_ar am231) (cb_ar am232) (cb_ar am233) (cb_ar am234) (cb_ar am235) (cb_ar am236) (cb_ar am237) (cb_ar am238) := by
  subst e_x3
  unfold im_walk_89 at h
  unfold wX_walk_89
  refine sd_named (fun r_44 h => ?_) f0_count f0_known f0_made f0_done f0_loopCount f0_tired f0_waiting am231 am232 am233 am234 am235 am236 am237 am238 rfl h
  exact ce_p2 (P := post) rfl (hK r_44 f0_count f0_known f0_made f0_done f0_loopCount f0_tired f0_waiting am231 am232 am233 am234 am235 am236 am237 am238 h)
def im_walk_110 (K : Nat → Nat → Nat → Nat → Nat → Nat → Nat → Nat → Nat → Nat → Nat → Nat → Nat → Nat → Nat → Nat → Bool) (J53 : Nat → Nat → Nat → Bool) (x4 : Nat) (x5 : Nat) (z0 : Nat) (z1 : Nat) (f0_count : Nat) (f0_known : Nat) (f0_made : Nat) (f0_done : Nat) (f0_loopCount : Nat) (f0_tired : Nat) (f0_waiting : Nat) (am231 : Nat) (am232 : Nat) (am233 : Nat) (am234 : Nat) (am235 : Nat) (am236 : Nat) (am237 : Nat) (am238 : Nat) : Bool := (im_exit (fun r_50 => (cond (cb_in r_50 1474) (cb_let (cb_rd am235 r_50) (fun x3_52 => (cb_let (cb_shr1 x4) (fun x4_53 => (cb_let (cb_add x5 1) (fun x5_54 => (J53 x3_52 x4_53 x5_54))))))) false)) f0_count f0_known f0_made f0_done f0_loopCount f0_tired f0_waiting am231 am232 am233 am234 am235 am236 am237 am238 z1 z0)
theorem sd_walk_110 {post : Int32 → St2 → Prop} {K : Nat → Nat → Nat → Nat → Nat → Nat → Nat → Nat → Nat → Nat → Nat → Nat → Nat → Nat → Nat → Nat → Bool} (hK : ∀ r s0 s1 s2 s3 s4 s5 s6 s7 s8 s9 s10 s11 s12 s13 s14 : Nat, K r s0 s1 s2 s3 s4 s5 s6 s7 s8 s9 s10 s11 s12 s13 s14 = true → post (nI r) (nI s0, nI s1, nI s2, nI s3, nI s4, nI s5, nI s6, cb_ar s7, cb_ar s8, cb_ar s9, cb_ar s10, cb_ar s11, cb_ar s12, cb_ar s13, cb_ar s14)) {y_J53 : Int32 → Int32 → Int32 → Prop} {J53 : Nat → Nat → Nat → Bool} (hJ53 : ∀ j0 j1 j2 : Nat, J53 j0 j1 j2 = true → y_J53 (nI j0) (nI j1) (nI j2)) {y_x4 : Int32} {x4 : Nat} (e_x4 : y_x4 = nI x4) {y_x5 : Int32} {x5 : Nat} (e_x5 : y_x5 = nI x5) {y_z0 : Int32} {z0 : Nat} (e_z0 : y_z0 = nI z0) {y_z1 : Int32} {z1 : Nat} (e_z1 : y_z1 = nI z1) (f0_count : Nat) (f0_known : Nat) (f0_made : Nat) (f0_done : Nat) (f0_loopCount : Nat) (f0_tired : Nat) (f0_waiting : Nat) (am231 : Nat) (am232 : Nat) (am233 : Nat) (am234 : Nat) (am235 : Nat) (am236 : Nat) (am237 : Nat) (am238 : Nat) (h : im_walk_110 K J53 x4 x5 z0 z1 f0_count f0_known f0_made f0_done f0_loopCount f0_tired f0_waiting am231 am232 am233 am234 am235 am236 am237 am238 = true) : wX_walk_110 post y_J53 y_x4 y_x5 y_z0 y_z1 (nI f0_count) (nI f0_known) (nI f0_made) (nI f0_done) (nI f0_loopCount) (nI f0_tired) (nI f0_waiting) (cb_ar am231) (cb_ar am232) (cb_ar am233) (cb_ar am234) (cb_ar am235) (cb_ar am236) (cb_ar am237) (cb_ar am238) := by
  subst e_x4
  subst e_x5
  subst e_z0
  subst e_z1
  unfold im_walk_110 at h
  unfold wX_walk_110
  refine sd_exit (fun r_50 h => ?_) f0_count f0_known f0_made f0_done f0_loopCount f0_tired f0_waiting am231 am232 am233 am234 am235 am236 am237 am238 rfl rfl h
  refine ce_in rfl h (fun h => ?_)
  refine ce_int (cb_hrd rfl) h (fun x3_52 h => ?_)
  refine ce_int (cb_hshr1 rfl) h (fun x4_53 h => ?_)
  refine ce_int (cb_hadd rfl (rfl : (1 : Int32) = nI 1)) h (fun x5_54 h => ?_)
  exact hJ53 x3_52 x4_53 x5_54 h
def im_walk_53 (K : Nat → Nat → Nat → Nat → Nat → Nat → Nat → Nat → Nat → Nat → Nat → Nat → Nat → Nat → Nat → Nat → Bool) (f0_count : Nat) (f0_known : Nat) (f0_made : Nat) (f0_done : Nat) (f0_loopCount : Nat) (f0_tired : Nat) (f0_waiting : Nat) (am231 : Nat) (am232 : Nat) (am233 : Nat) (am234 : Nat) (am235 : Nat) (am236 : Nat) (am237 : Nat) (am238 : Nat) : Nat → Nat → Nat → Nat → Bool
  | 0 => fun _ _ _ => false
  | n + 1 => fun x3 x4 x5 => (cond (cb_le 12 x5) (im_walk_135 K x3 f0_count f0_known f0_made f0_done f0_loopCount f0_tired f0_waiting am231 am232 am233 am234 am235 am236 am237 am238) (cond (cb_le x4 0) (im_walk_135 K x3 f0_count f0_known f0_made f0_done f0_loopCount f0_tired f0_waiting am231 am232 am233 am234 am235 am236 am237 am238) (cond (cb_eq x3 4294967295) (im_walk_89 K x3 f0_count f0_known f0_made f0_done f0_loopCount f0_tired f0_waiting am231 am232 am233 am234 am235 am236 am237 am238) (cond (cb_le 1470 x3) (im_walk_89 K x3 f0_count f0_known f0_made f0_done f0_loopCount f0_tired f0_waiting am231 am232 am233 am234 am235 am236 am237 am238) (cond (cb_in (cb_div3 x3) 490) (cond (cb_eq (cb_rd am233 (cb_div3 x3)) 2) (im_walk_89 K x3 f0_count f0_known f0_made f0_done f0_loopCount f0_tired f0_waiting am231 am232 am233 am234 am235 am236 am237 am238) (cond (cb_eq (cb_and1 x4) 1) (im_walk_110 K (im_walk_53 K f0_count f0_known f0_made f0_done f0_loopCount f0_tired f0_waiting am231 am232 am233 am234 am235 am236 am237 am238 n) x4 x5 1 x3 f0_count f0_known f0_made f0_done f0_loopCount f0_tired f0_waiting am231 am232 am233 am234 am235 am236 am237 am238) (im_walk_110 K (im_walk_53 K f0_count f0_known f0_made f0_done f0_loopCount f0_tired f0_waiting am231 am232 am233 am234 am235 am236 am237 am238 n) x4 x5 0 x3 f0_count f0_known f0_made f0_done f0_loopCount f0_tired f0_waiting am231 am232 am233 am234 am235 am236 am237 am238))) false)))))
theorem sd_walk_53 {post : Int32 → St2 → Prop} {K : Nat → Nat → Nat → Nat → Nat → Nat → Nat → Nat → Nat → Nat → Nat → Nat → Nat → Nat → Nat → Nat → Bool} (hK : ∀ r s0 s1 s2 s3 s4 s5 s6 s7 s8 s9 s10 s11 s12 s13 s14 : Nat, K r s0 s1 s2 s3 s4 s5 s6 s7 s8 s9 s10 s11 s12 s13 s14 = true → post (nI r) (nI s0, nI s1, nI s2, nI s3, nI s4, nI s5, nI s6, cb_ar s7, cb_ar s8, cb_ar s9, cb_ar s10, cb_ar s11, cb_ar s12, cb_ar s13, cb_ar s14)) (f0_count : Nat) (f0_known : Nat) (f0_made : Nat) (f0_done : Nat) (f0_loopCount : Nat) (f0_tired : Nat) (f0_waiting : Nat) (am231 : Nat) (am232 : Nat) (am233 : Nat) (am234 : Nat) (am235 : Nat) (am236 : Nat) (am237 : Nat) (am238 : Nat) : ∀ (n x3 x4 x5 : Nat), im_walk_53 K f0_count f0_known f0_made f0_done f0_loopCount f0_tired f0_waiting am231 am232 am233 am234 am235 am236 am237 am238 n x3 x4 x5 = true → wX_walk_53 post (nI f0_count) (nI f0_known) (nI f0_made) (nI f0_done) (nI f0_loopCount) (nI f0_tired) (nI f0_waiting) (cb_ar am231) (cb_ar am232) (cb_ar am233) (cb_ar am234) (cb_ar am235) (cb_ar am236) (cb_ar am237) (cb_ar am238) n (nI x3) (nI x4) (nI x5) := by
  intro n
  induction n with
  | zero =>
    intro x3 x4 x5 h
    exact ce_no h
  | succ n ih =>
    intro x3 x4 x5 h
    unfold im_walk_53 at h
    unfold wX_walk_53
    refine ce_if (cb_le_iff (rfl : (12 : Int32) = nI 12) rfl) h (fun h => ?_) (fun h => ?_)
    · exact sd_walk_135 hK rfl f0_count f0_known f0_made f0_done f0_loopCount f0_tired f0_waiting am231 am232 am233 am234 am235 am236 am237 am238 h
    · refine ce_if (cb_le_iff rfl (rfl : (0 : Int32) = nI 0)) h (fun h => ?_) (fun h => ?_)
      · exact sd_walk_135 hK rfl f0_count f0_known f0_made f0_done f0_loopCount f0_tired f0_waiting am231 am232 am233 am234 am235 am236 am237 am238 h
      · refine ce_if (cb_eq_iff rfl cb_m1) h (fun h => ?_) (fun h => ?_)
        · exact sd_walk_89 hK rfl f0_count f0_known f0_made f0_done f0_loopCount f0_tired f0_waiting am231 am232 am233 am234 am235 am236 am237 am238 h
        · refine ce_if (cb_le_iff (rfl : (1470 : Int32) = nI 1470) rfl) h (fun h => ?_) (fun h => ?_)
          · exact sd_walk_89 hK rfl f0_count f0_known f0_made f0_done f0_loopCount f0_tired f0_waiting am231 am232 am233 am234 am235 am236 am237 am238 h
          · refine ⟨cb_n3, ?_⟩
            refine ce_in (cb_hdiv3 rfl) h (fun h => ?_)
            refine ce_if (cb_eq_iff (cb_hrd (cb_hdiv3 rfl)) (rfl : (2 : Int32) = nI 2)) h (fun h => ?_) (fun h => ?_)
            · exact sd_walk_89 hK rfl f0_count f0_known f0_made f0_done f0_loopCount f0_tired f0_waiting am231 am232 am233 am234 am235 am236 am237 am238 h
            · refine ce_if (cb_eq_iff (cb_hand1 rfl) (rfl : (1 : Int32) = nI 1)) h (fun h => ?_) (fun h => ?_)
              · exact sd_walk_110 hK (fun j0 j1 j2 h => ih j0 j1 j2 h) rfl rfl (rfl : (1 : Int32) = nI 1) rfl f0_count f0_known f0_made f0_done f0_loopCount f0_tired f0_waiting am231 am232 am233 am234 am235 am236 am237 am238 h
              · exact sd_walk_110 hK (fun j0 j1 j2 h => ih j0 j1 j2 h) rfl rfl (rfl : (0 : Int32) = nI 0) rfl f0_count f0_known f0_made f0_done f0_loopCount f0_tired f0_waiting am231 am232 am233 am234 am235 am236 am237 am238 h
def im_walk (K : Nat → Nat → Nat → Nat → Nat → Nat → Nat → Nat → Nat → Nat → Nat → Nat → Nat → Nat → Nat → Nat → Bool) (f0_count f0_known f0_made f0_done f0_loopCount f0_tired f0_waiting a1 a2 a3 a4 a5 a6 a7 a8 : Nat) (p0 : Nat) (p1 : Nat) : Bool := (cond (cb_lt p0 0) (K 4294967295 f0_count f0_known f0_made f0_done f0_loopCount f0_tired f0_waiting a1 a2 a3 a4 a5 a6 a7 a8) (cond (cb_lt 3 p0) (K 4294967295 f0_count f0_known f0_made f0_done f0_loopCount f0_tired f0_waiting a1 a2 a3 a4 a5 a6 a7 a8) (cond (cb_lt p1 0) (K 4294967295 f0_count f0_known f0_made f0_done f0_loopCount f0_tired f0_waiting a1 a2 a3 a4 a5 a6 a7 a8) (cond (cb_le p1 4095) (im_run (fun f0_count_6 f0_known_7 f0_made_8 f0_done_9 f0_loopCount_10 f0_tired_11 f0_waiting_12 am231_15 am232_18 am233_21 am234_24 am235_27 am236_30 am237_33 am238_36 => (cond (cb_eq f0_tired_11 0) (cond (cb_in (cb_add 1470 p0) 1474) (cb_let (cb_rd am235_27 (cb_add 1470 p0)) (fun x3_39 => (im_walk_53 K f0_count_6 f0_known_7 f0_made_8 f0_done_9 f0_loopCount_10 f0_tired_11 f0_waiting_12 am231_15 am232_18 am233_21 am234_24 am235_27 am236_30 am237_33 am238_36 60 x3_39 p1 0))) false) (K 4294967291 f0_count_6 f0_known_7 f0_made_8 f0_done_9 f0_loopCount_10 f0_tired_11 f0_waiting_12 am231_15 am232_18 am233_21 am234_24 am235_27 am236_30 am237_33 am238_36))) f0_count f0_known f0_made f0_done f0_loopCount f0_tired f0_waiting a1 a2 a3 a4 a5 a6 a7 a8) (K 4294967295 f0_count f0_known f0_made f0_done f0_loopCount f0_tired f0_waiting a1 a2 a3 a4 a5 a6 a7 a8)))))
theorem sd_walk {post : Int32 → St2 → Prop} {K : Nat → Nat → Nat → Nat → Nat → Nat → Nat → Nat → Nat → Nat → Nat → Nat → Nat → Nat → Nat → Nat → Bool} (hK : ∀ r s0 s1 s2 s3 s4 s5 s6 s7 s8 s9 s10 s11 s12 s13 s14 : Nat, K r s0 s1 s2 s3 s4 s5 s6 s7 s8 s9 s10 s11 s12 s13 s14 = true → post (nI r) (nI s0, nI s1, nI s2, nI s3, nI s4, nI s5, nI s6, cb_ar s7, cb_ar s8, cb_ar s9, cb_ar s10, cb_ar s11, cb_ar s12, cb_ar s13, cb_ar s14)) (f0_count f0_known f0_made f0_done f0_loopCount f0_tired f0_waiting a1 a2 a3 a4 a5 a6 a7 a8 : Nat) {y_p0 : Int32} {p0 : Nat} (e_p0 : y_p0 = nI p0) {y_p1 : Int32} {p1 : Nat} (e_p1 : y_p1 = nI p1) (h : im_walk K f0_count f0_known f0_made f0_done f0_loopCount f0_tired f0_waiting a1 a2 a3 a4 a5 a6 a7 a8 p0 p1 = true) : wpX_walk post (nI f0_count, nI f0_known, nI f0_made, nI f0_done, nI f0_loopCount, nI f0_tired, nI f0_waiting, cb_ar a1, cb_ar a2, cb_ar a3, cb_ar a4, cb_ar a5, cb_ar a6, cb_ar a7, cb_ar a8) y_p0 y_p1 := by
  subst e_p0
  subst e_p1
  unfold im_walk at h
  unfold wpX_walk
  refine ce_if (cb_lt_iff rfl (rfl : (0 : Int32) = nI 0)) h (fun h => ?_) (fun h => ?_)
  · exact ce_p2 (P := post) cb_m1 (hK 4294967295 f0_count f0_known f0_made f0_done f0_loopCount f0_tired f0_waiting a1 a2 a3 a4 a5 a6 a7 a8 h)
  · refine ce_if (cb_lt_iff (rfl : (3 : Int32) = nI 3) rfl) h (fun h => ?_) (fun h => ?_)
    · exact ce_p2 (P := post) cb_m1 (hK 4294967295 f0_count f0_known f0_made f0_done f0_loopCount f0_tired f0_waiting a1 a2 a3 a4 a5 a6 a7 a8 h)
    · refine ce_if (cb_lt_iff rfl (rfl : (0 : Int32) = nI 0)) h (fun h => ?_) (fun h => ?_)
      · exact ce_p2 (P := post) cb_m1 (hK 4294967295 f0_count f0_known f0_made f0_done f0_loopCount f0_tired f0_waiting a1 a2 a3 a4 a5 a6 a7 a8 h)
      · refine ce_if (cb_le_iff rfl (rfl : (4095 : Int32) = nI 4095)) h (fun h => ?_) (fun h => ?_)
        · refine sd_run (fun f0_count_6 f0_known_7 f0_made_8 f0_done_9 f0_loopCount_10 f0_tired_11 f0_waiting_12 am231_15 am232_18 am233_21 am234_24 am235_27 am236_30 am237_33 am238_36 h => ?_) f0_count f0_known f0_made f0_done f0_loopCount f0_tired f0_waiting a1 a2 a3 a4 a5 a6 a7 a8 h
          refine ce_if (cb_eq_iff rfl (rfl : (0 : Int32) = nI 0)) h (fun h => ?_) (fun h => ?_)
          · refine ce_in (cb_hadd (rfl : (1470 : Int32) = nI 1470) rfl) h (fun h => ?_)
            refine ce_int (cb_hrd (cb_hadd (rfl : (1470 : Int32) = nI 1470) rfl)) h (fun x3_39 h => ?_)
            refine ⟨60, ?_⟩
            exact sd_walk_53 hK f0_count_6 f0_known_7 f0_made_8 f0_done_9 f0_loopCount_10 f0_tired_11 f0_waiting_12 am231_15 am232_18 am233_21 am234_24 am235_27 am236_30 am237_33 am238_36 60 x3_39 p1 0 h
          · exact ce_p2 (P := post) cb_m5 (hK 4294967291 f0_count_6 f0_known_7 f0_made_8 f0_done_9 f0_loopCount_10 f0_tired_11 f0_waiting_12 am231_15 am232_18 am233_21 am234_24 am235_27 am236_30 am237_33 am238_36 h)
        · exact ce_p2 (P := post) cb_m1 (hK 4294967295 f0_count f0_known f0_made f0_done f0_loopCount f0_tired f0_waiting a1 a2 a3 a4 a5 a6 a7 a8 h)
def im_enter (K : Nat → Nat → Nat → Nat → Nat → Nat → Nat → Nat → Nat → Nat → Nat → Nat → Nat → Nat → Nat → Nat → Bool) (f0_count f0_known f0_made f0_done f0_loopCount f0_tired f0_waiting a1 a2 a3 a4 a5 a6 a7 a8 : Nat) (p0 : Nat) (p1 : Nat) : Bool := (cond (cb_eq p0 4294967295) (K p1 f0_count f0_known f0_made f0_done f0_loopCount f0_tired f0_waiting a1 a2 a3 a4 a5 a6 a7 a8) (cond (cb_le 1470 p0) (K p1 f0_count f0_known f0_made f0_done f0_loopCount f0_tired f0_waiting a1 a2 a3 a4 a5 a6 a7 a8) (cond (cb_in (cb_div3 p0) 490) (cond (cb_eq (cb_rd a7 (cb_div3 p0)) 0) (cond (cb_in (cb_div3 p0) 490) (cb_let (cb_wr a7 (cb_div3 p0) 1) (fun a7_8 => (cond (cb_in p1 490) (cb_let (cb_wr a8 p1 (cb_div3 p0)) (fun a8_11 => (K (cb_add p1 1) f0_count f0_known f0_made f0_done f0_loopCount f0_tired f0_waiting a1 a2 a3 a4 a5 a6 a7_8 a8_11))) false))) false) (K p1 f0_count f0_known f0_made f0_done f0_loopCount f0_tired f0_waiting a1 a2 a3 a4 a5 a6 a7 a8)) false)))
theorem sd_enter {post : Int32 → St2 → Prop} {K : Nat → Nat → Nat → Nat → Nat → Nat → Nat → Nat → Nat → Nat → Nat → Nat → Nat → Nat → Nat → Nat → Bool} (hK : ∀ r s0 s1 s2 s3 s4 s5 s6 s7 s8 s9 s10 s11 s12 s13 s14 : Nat, K r s0 s1 s2 s3 s4 s5 s6 s7 s8 s9 s10 s11 s12 s13 s14 = true → post (nI r) (nI s0, nI s1, nI s2, nI s3, nI s4, nI s5, nI s6, cb_ar s7, cb_ar s8, cb_ar s9, cb_ar s10, cb_ar s11, cb_ar s12, cb_ar s13, cb_ar s14)) (f0_count f0_known f0_made f0_done f0_loopCount f0_tired f0_waiting a1 a2 a3 a4 a5 a6 a7 a8 : Nat) {y_p0 : Int32} {p0 : Nat} (e_p0 : y_p0 = nI p0) {y_p1 : Int32} {p1 : Nat} (e_p1 : y_p1 = nI p1) (h : im_enter K f0_count f0_known f0_made f0_done f0_loopCount f0_tired f0_waiting a1 a2 a3 a4 a5 a6 a7 a8 p0 p1 = true) : wpX_enter post (nI f0_count, nI f0_known, nI f0_made, nI f0_done, nI f0_loopCount, nI f0_tired, nI f0_waiting, cb_ar a1, cb_ar a2, cb_ar a3, cb_ar a4, cb_ar a5, cb_ar a6, cb_ar a7, cb_ar a8) y_p0 y_p1 := by
  subst e_p0
  subst e_p1
  unfold im_enter at h
  unfold wpX_enter
  refine ce_if (cb_eq_iff rfl cb_m1) h (fun h => ?_) (fun h => ?_)
  · exact ce_p2 (P := post) rfl (hK p1 f0_count f0_known f0_made f0_done f0_loopCount f0_tired f0_waiting a1 a2 a3 a4 a5 a6 a7 a8 h)
  · refine ce_if (cb_le_iff (rfl : (1470 : Int32) = nI 1470) rfl) h (fun h => ?_) (fun h => ?_)
    · exact ce_p2 (P := post) rfl (hK p1 f0_count f0_known f0_made f0_done f0_loopCount f0_tired f0_waiting a1 a2 a3 a4 a5 a6 a7 a8 h)
    · refine ⟨cb_n3, ?_⟩
      refine ce_in (cb_hdiv3 rfl) h (fun h => ?_)
      refine ce_if (cb_eq_iff (cb_hrd (cb_hdiv3 rfl)) (rfl : (0 : Int32) = nI 0)) h (fun h => ?_) (fun h => ?_)
      · refine ⟨cb_n3, ?_⟩
        refine ce_in (cb_hdiv3 rfl) h (fun h => ?_)
        refine ce_arr (cb_hupd (cb_hdiv3 rfl) (rfl : (1 : Int32) = nI 1)) h (fun a7_8 h => ?_)
        refine ⟨cb_n3, ?_⟩
        refine ce_in rfl h (fun h => ?_)
        refine ce_arr (cb_hupd rfl (cb_hdiv3 rfl)) h (fun a8_11 h => ?_)
        exact ce_p2 (P := post) (cb_hadd rfl (rfl : (1 : Int32) = nI 1)) (hK (cb_add p1 1) f0_count f0_known f0_made f0_done f0_loopCount f0_tired f0_waiting a1 a2 a3 a4 a5 a6 a7_8 a8_11 h)
      · exact ce_p2 (P := post) rfl (hK p1 f0_count f0_known f0_made f0_done f0_loopCount f0_tired f0_waiting a1 a2 a3 a4 a5 a6 a7 a8 h)
def im_reach_81 (K : Nat → Nat → Nat → Nat → Nat → Nat → Nat → Nat → Nat → Nat → Nat → Nat → Nat → Nat → Nat → Nat → Bool) (J66 : Nat → Nat → Nat → Nat → Nat → Nat → Nat → Nat → Nat → Nat → Nat → Nat → Nat → Nat → Nat → Nat → Nat → Bool) (x3 : Nat) : Nat → Nat → Nat → Nat → Nat → Nat → Nat → Nat → Nat → Nat → Nat → Nat → Nat → Nat → Nat → Nat → Nat → Nat → Bool
  | 0 => fun _ _ _ _ _ _ _ _ _ _ _ _ _ _ _ _ _ => false
  | n + 1 => fun x2 x4 f0_count f0_known f0_made f0_done f0_loopCount f0_tired f0_waiting am601 am602 am603 am604 am605 am606 am607 am608 => (cond (cb_le 3 x4) (cb_let (cb_add x3 1) (fun x3_73 => (J66 x2 x3_73 f0_count f0_known f0_made f0_done f0_loopCount f0_tired f0_waiting am601 am602 am603 am604 am605 am606 am607 am608))) (cond (cb_in x3 490) (cond (cb_in (cb_add (cb_mul 3 (cb_rd am608 x3)) x4) 1474) (im_enter (fun r_76 f0_count_77 f0_known_78 f0_made_79 f0_done_80 f0_loopCount_81 f0_tired_82 f0_waiting_83 am1051_86 am1052_89 am1053_92 am1054_95 am1055_98 am1056_101 am1057_104 am1058_107 => (cb_let (cb_add x4 1) (fun x4_108 => (im_reach_81 K J66 x3 n r_76 x4_108 f0_count_77 f0_known_78 f0_made_79 f0_done_80 f0_loopCount_81 f0_tired_82 f0_waiting_83 am1051_86 am1052_89 am1053_92 am1054_95 am1055_98 am1056_101 am1057_104 am1058_107)))) f0_count f0_known f0_made f0_done f0_loopCount f0_tired f0_waiting am601 am602 am603 am604 am605 am606 am607 am608 (cb_rd am605 (cb_add (cb_mul 3 (cb_rd am608 x3)) x4)) x2) false) false))
theorem sd_reach_81 {post : Int32 → St2 → Prop} {K : Nat → Nat → Nat → Nat → Nat → Nat → Nat → Nat → Nat → Nat → Nat → Nat → Nat → Nat → Nat → Nat → Bool} (hK : ∀ r s0 s1 s2 s3 s4 s5 s6 s7 s8 s9 s10 s11 s12 s13 s14 : Nat, K r s0 s1 s2 s3 s4 s5 s6 s7 s8 s9 s10 s11 s12 s13 s14 = true → post (nI r) (nI s0, nI s1, nI s2, nI s3, nI s4, nI s5, nI s6, cb_ar s7, cb_ar s8, cb_ar s9, cb_ar s10, cb_ar s11, cb_ar s12, cb_ar s13, cb_ar s14)) {y_J66 : Int32 → Int32 → Int32 → Int32 → Int32 → Int32 → Int32 → Int32 → Int32 → (Nat → Int32) → (Nat → Int32) → (Nat → Int32) → (Nat → Int32) → (Nat → Int32) → (Nat → Int32) → (Nat → Int32) → (Nat → Int32) → Prop} {J66 : Nat → Nat → Nat → Nat → Nat → Nat → Nat → Nat → Nat → Nat → Nat → Nat → Nat → Nat → Nat → Nat → Nat → Bool} (hJ66 : ∀ j0 j1 j2 j3 j4 j5 j6 j7 j8 j9 j10 j11 j12 j13 j14 j15 j16 : Nat, J66 j0 j1 j2 j3 j4 j5 j6 j7 j8 j9 j10 j11 j12 j13 j14 j15 j16 = true → y_J66 (nI j0) (nI j1) (nI j2) (nI j3) (nI j4) (nI j5) (nI j6) (nI j7) (nI j8) (cb_ar j9) (cb_ar j10) (cb_ar j11) (cb_ar j12) (cb_ar j13) (cb_ar j14) (cb_ar j15) (cb_ar j16)) {y_x3 : Int32} {x3 : Nat} (e_x3 : y_x3 = nI x3) : ∀ (n x2 x4 f0_count f0_known f0_made f0_done f0_loopCount f0_tired f0_waiting am601 am602 am603 am604 am605 am606 am607 am608 : Nat), im_reach_81 K J66 x3 n x2 x4 f0_count f0_known f0_made f0_done f0_loopCount f0_tired f0_waiting am601 am602 am603 am604 am605 am606 am607 am608 = true → wX_reach_81 post y_J66 y_x3 n (nI x2) (nI x4) (nI f0_count) (nI f0_known) (nI f0_made) (nI f0_done) (nI f0_loopCount) (nI f0_tired) (nI f0_waiting) (cb_ar am601) (cb_ar am602) (cb_ar am603) (cb_ar am604) (cb_ar am605) (cb_ar am606) (cb_ar am607) (cb_ar am608) := by
  subst e_x3
  intro n
  induction n with
  | zero =>
    intro x2 x4 f0_count f0_known f0_made f0_done f0_loopCount f0_tired f0_waiting am601 am602 am603 am604 am605 am606 am607 am608 h
    exact ce_no h
  | succ n ih =>
    intro x2 x4 f0_count f0_known f0_made f0_done f0_loopCount f0_tired f0_waiting am601 am602 am603 am604 am605 am606 am607 am608 h
    unfold im_reach_81 at h
    unfold wX_reach_81
    refine ce_if (cb_le_iff (rfl : (3 : Int32) = nI 3) rfl) h (fun h => ?_) (fun h => ?_)
    · refine ce_int (cb_hadd rfl (rfl : (1 : Int32) = nI 1)) h (fun x3_73 h => ?_)
      exact hJ66 x2 x3_73 f0_count f0_known f0_made f0_done f0_loopCount f0_tired f0_waiting am601 am602 am603 am604 am605 am606 am607 am608 h
    · refine ce_in rfl h (fun h => ?_)
      refine ce_in (cb_hadd (cb_hmul (rfl : (3 : Int32) = nI 3) (cb_hrd rfl)) rfl) h (fun h => ?_)
      refine sd_enter (fun r_76 f0_count_77 f0_known_78 f0_made_79 f0_done_80 f0_loopCount_81 f0_tired_82 f0_waiting_83 am1051_86 am1052_89 am1053_92 am1054_95 am1055_98 am1056_101 am1057_104 am1058_107 h => ?_) f0_count f0_known f0_made f0_done f0_loopCount f0_tired f0_waiting am601 am602 am603 am604 am605 am606 am607 am608 (cb_hrd (cb_hadd (cb_hmul (rfl : (3 : Int32) = nI 3) (cb_hrd rfl)) rfl)) rfl h
      refine ce_int (cb_hadd rfl (rfl : (1 : Int32) = nI 1)) h (fun x4_108 h => ?_)
      exact ih r_76 x4_108 f0_count_77 f0_known_78 f0_made_79 f0_done_80 f0_loopCount_81 f0_tired_82 f0_waiting_83 am1051_86 am1052_89 am1053_92 am1054_95 am1055_98 am1056_101 am1057_104 am1058_107 h
def im_reach_66 (K : Nat → Nat → Nat → Nat → Nat → Nat → Nat → Nat → Nat → Nat → Nat → Nat → Nat → Nat → Nat → Nat → Bool) : Nat → Nat → Nat → Nat → Nat → Nat → Nat → Nat → Nat → Nat → Nat → Nat → Nat → Nat → Nat → Nat → Nat → Nat → Bool
  | 0 => fun _ _ _ _ _ _ _ _ _ _ _ _ _ _ _ _ _ => false
  | n + 1 => fun x2 x3 f0_count f0_known f0_made f0_done f0_loopCount f0_tired f0_waiting am601 am602 am603 am604 am605 am606 am607 am608 => (cond (cb_le x2 x3) (K x2 f0_count f0_known f0_made f0_done f0_loopCount f0_tired f0_waiting am601 am602 am603 am604 am605 am606 am607 am608) (cond (cb_le 490 x3) (K x2 f0_count f0_known f0_made f0_done f0_loopCount f0_tired f0_waiting am601 am602 am603 am604 am605 am606 am607 am608) (im_reach_81 K (im_reach_66 K n) x3 60 x2 0 f0_count f0_known f0_made f0_done f0_loopCount f0_tired f0_waiting am601 am602 am603 am604 am605 am606 am607 am608)))
theorem sd_reach_66 {post : Int32 → St2 → Prop} {K : Nat → Nat → Nat → Nat → Nat → Nat → Nat → Nat → Nat → Nat → Nat → Nat → Nat → Nat → Nat → Nat → Bool} (hK : ∀ r s0 s1 s2 s3 s4 s5 s6 s7 s8 s9 s10 s11 s12 s13 s14 : Nat, K r s0 s1 s2 s3 s4 s5 s6 s7 s8 s9 s10 s11 s12 s13 s14 = true → post (nI r) (nI s0, nI s1, nI s2, nI s3, nI s4, nI s5, nI s6, cb_ar s7, cb_ar s8, cb_ar s9, cb_ar s10, cb_ar s11, cb_ar s12, cb_ar s13, cb_ar s14)) : ∀ (n x2 x3 f0_count f0_known f0_made f0_done f0_loopCount f0_tired f0_waiting am601 am602 am603 am604 am605 am606 am607 am608 : Nat), im_reach_66 K n x2 x3 f0_count f0_known f0_made f0_done f0_loopCount f0_tired f0_waiting am601 am602 am603 am604 am605 am606 am607 am608 = true → wX_reach_66 post n (nI x2) (nI x3) (nI f0_count) (nI f0_known) (nI f0_made) (nI f0_done) (nI f0_loopCount) (nI f0_tired) (nI f0_waiting) (cb_ar am601) (cb_ar am602) (cb_ar am603) (cb_ar am604) (cb_ar am605) (cb_ar am606) (cb_ar am607) (cb_ar am608) := by
  intro n
  induction n with
  | zero =>
    intro x2 x3 f0_count f0_known f0_made f0_done f0_loopCount f0_tired f0_waiting am601 am602 am603 am604 am605 am606 am607 am608 h
    exact ce_no h
  | succ n ih =>
    intro x2 x3 f0_count f0_known f0_made f0_done f0_loopCount f0_tired f0_waiting am601 am602 am603 am604 am605 am606 am607 am608 h
    unfold im_reach_66 at h
    unfold wX_reach_66
    refine ce_if (cb_le_iff rfl rfl) h (fun h => ?_) (fun h => ?_)
    · exact ce_p2 (P := post) rfl (hK x2 f0_count f0_known f0_made f0_done f0_loopCount f0_tired f0_waiting am601 am602 am603 am604 am605 am606 am607 am608 h)
    · refine ce_if (cb_le_iff (rfl : (490 : Int32) = nI 490) rfl) h (fun h => ?_) (fun h => ?_)
      · exact ce_p2 (P := post) rfl (hK x2 f0_count f0_known f0_made f0_done f0_loopCount f0_tired f0_waiting am601 am602 am603 am604 am605 am606 am607 am608 h)
      · refine ⟨60, ?_⟩
        exact sd_reach_81 hK (fun j0 j1 j2 j3 j4 j5 j6 j7 j8 j9 j10 j11 j12 j13 j14 j15 j16 h => ih j0 j1 j2 j3 j4 j5 j6 j7 j8 j9 j10 j11 j12 j13 j14 j15 j16 h) rfl 60 x2 0 f0_count f0_known f0_made f0_done f0_loopCount f0_tired f0_waiting am601 am602 am603 am604 am605 am606 am607 am608 h
def im_reach_27 (K : Nat → Nat → Nat → Nat → Nat → Nat → Nat → Nat → Nat → Nat → Nat → Nat → Nat → Nat → Nat → Nat → Bool) (x1 : Nat) (f0_count : Nat) (f0_known : Nat) (f0_made : Nat) (f0_done : Nat) (f0_loopCount : Nat) (f0_tired : Nat) (f0_waiting : Nat) : Nat → Nat → Nat → Nat → Nat → Nat → Nat → Nat → Nat → Nat → Bool
  | 0 => fun _ _ _ _ _ _ _ _ _ => false
  | n + 1 => fun x2 am121 am122 am123 am124 am125 am126 am127 am128 => (cond (cb_le f0_made x2) (cond (cb_in (cb_add 1470 x1) 1474) (im_enter (fun r_38 f0_count_39 f0_known_40 f0_made_41 f0_done_42 f0_loopCount_43 f0_tired_44 f0_waiting_45 am601_48 am602_51 am603_54 am604_57 am605_60 am606_63 am607_66 am608_69 => (im_reach_66 K 60 r_38 0 f0_count_39 f0_known_40 f0_made_41 f0_done_42 f0_loopCount_43 f0_tired_44 f0_waiting_45 am601_48 am602_51 am603_54 am604_57 am605_60 am606_63 am607_66 am608_69)) f0_count f0_known f0_made f0_done f0_loopCount f0_tired f0_waiting am121 am122 am123 am124 am125 am126 am127 am128 (cb_rd am125 (cb_add 1470 x1)) 0) false) (cond (cb_in x2 490) (cb_let (cb_wr am127 x2 0) (fun am127_110 => (cb_let (cb_add x2 1) (fun x2_111 => (im_reach_27 K x1 f0_count f0_known f0_made f0_done f0_loopCount f0_tired f0_waiting n x2_111 am121 am122 am123 am124 am125 am126 am127_110 am128))))) false))
theorem sd_reach_27 {post : Int32 → St2 → Prop} {K : Nat → Nat → Nat → Nat → Nat → Nat → Nat → Nat → Nat → Nat → Nat → Nat → Nat → Nat → Nat → Nat → Bool} (hK : ∀ r s0 s1 s2 s3 s4 s5 s6 s7 s8 s9 s10 s11 s12 s13 s14 : Nat, K r s0 s1 s2 s3 s4 s5 s6 s7 s8 s9 s10 s11 s12 s13 s14 = true → post (nI r) (nI s0, nI s1, nI s2, nI s3, nI s4, nI s5, nI s6, cb_ar s7, cb_ar s8, cb_ar s9, cb_ar s10, cb_ar s11, cb_ar s12, cb_ar s13, cb_ar s14)) {y_x1 : Int32} {x1 : Nat} (e_x1 : y_x1 = nI x1) (f0_count : Nat) (f0_known : Nat) (f0_made : Nat) (f0_done : Nat) (f0_loopCount : Nat) (f0_tired : Nat) (f0_waiting : Nat) : ∀ (n x2 am121 am122 am123 am124 am125 am126 am127 am128 : Nat), im_reach_27 K x1 f0_count f0_known f0_made f0_done f0_loopCount f0_tired f0_waiting n x2 am121 am122 am123 am124 am125 am126 am127 am128 = true → wX_reach_27 post y_x1 (nI f0_count) (nI f0_known) (nI f0_made) (nI f0_done) (nI f0_loopCount) (nI f0_tired) (nI f0_waiting) n (nI x2) (cb_ar am121) (cb_ar am122) (cb_ar am123) (cb_ar am124) (cb_ar am125) (cb_ar am126) (cb_ar am127) (cb_ar am128) := by
  subst e_x1
  intro n
  induction n with
  | zero =>
    intro x2 am121 am122 am123 am124 am125 am126 am127 am128 h
    exact ce_no h
  | succ n ih =>
    intro x2 am121 am122 am123 am124 am125 am126 am127 am128 h
    unfold im_reach_27 at h
    unfold wX_reach_27
    refine ce_if (cb_le_iff rfl rfl) h (fun h => ?_) (fun h => ?_)
    · refine ce_in (cb_hadd (rfl : (1470 : Int32) = nI 1470) rfl) h (fun h => ?_)
      refine sd_enter (fun r_38 f0_count_39 f0_known_40 f0_made_41 f0_done_42 f0_loopCount_43 f0_tired_44 f0_waiting_45 am601_48 am602_51 am603_54 am604_57 am605_60 am606_63 am607_66 am608_69 h => ?_) f0_count f0_known f0_made f0_done f0_loopCount f0_tired f0_waiting am121 am122 am123 am124 am125 am126 am127 am128 (cb_hrd (cb_hadd (rfl : (1470 : Int32) = nI 1470) rfl)) (rfl : (0 : Int32) = nI 0) h
      refine ⟨60, ?_⟩
      exact sd_reach_66 hK 60 r_38 0 f0_count_39 f0_known_40 f0_made_41 f0_done_42 f0_loopCount_43 f0_tired_44 f0_waiting_45 am601_48 am602_51 am603_54 am604_57 am605_60 am606_63 am607_66 am608_69 h
    · refine ce_in rfl h (fun h => ?_)
      refine ce_arr (cb_hupd rfl (rfl : (0 : Int32) = nI 0)) h (fun am127_110 h => ?_)
      refine ce_int (cb_hadd rfl (rfl : (1 : Int32) = nI 1)) h (fun x2_111 h => ?_)
      exact ih x2_111 am121 am122 am123 am124 am125 am126 am127_110 am128 h
def im_reach (K : Nat → Nat → Nat → Nat → Nat → Nat → Nat → Nat → Nat → Nat → Nat → Nat → Nat → Nat → Nat → Nat → Bool) (f0_count f0_known f0_made f0_done f0_loopCount f0_tired f0_waiting a1 a2 a3 a4 a5 a6 a7 a8 : Nat) (p0 : Nat) : Bool := (cond (cb_lt p0 0) (K 4294967295 f0_count f0_known f0_made f0_done f0_loopCount f0_tired f0_waiting a1 a2 a3 a4 a5 a6 a7 a8) (cond (cb_le p0 3) (im_run (fun f0_count_4 f0_known_5 f0_made_6 f0_done_7 f0_loopCount_8 f0_tired_9 f0_waiting_10 am121_13 am122_16 am123_19 am124_22 am125_25 am126_28 am127_31 am128_34 => (cond (cb_eq f0_tired_9 0) (im_reach_27 K p0 f0_count_4 f0_known_5 f0_made_6 f0_done_7 f0_loopCount_8 f0_tired_9 f0_waiting_10 60 0 am121_13 am122_16 am123_19 am124_22 am125_25 am126_28 am127_31 am128_34) (K 4294967291 f0_count_4 f0_known_5 f0_made_6 f0_done_7 f0_loopCount_8 f0_tired_9 f0_waiting_10 am121_13 am122_16 am123_19 am124_22 am125_25 am126_28 am127_31 am128_34))) f0_count f0_known f0_made f0_done f0_loopCount f0_tired f0_waiting a1 a2 a3 a4 a5 a6 a7 a8) (K 4294967295 f0_count f0_known f0_made f0_done f0_loopCount f0_tired f0_waiting a1 a2 a3 a4 a5 a6 a7 a8)))
theorem sd_reach {post : Int32 → St2 → Prop} {K : Nat → Nat → Nat → Nat → Nat → Nat → Nat → Nat → Nat → Nat → Nat → Nat → Nat → Nat → Nat → Nat → Bool} (hK : ∀ r s0 s1 s2 s3 s4 s5 s6 s7 s8 s9 s10 s11 s12 s13 s14 : Nat, K r s0 s1 s2 s3 s4 s5 s6 s7 s8 s9 s10 s11 s12 s13 s14 = true → post (nI r) (nI s0, nI s1, nI s2, nI s3, nI s4, nI s5, nI s6, cb_ar s7, cb_ar s8, cb_ar s9, cb_ar s10, cb_ar s11, cb_ar s12, cb_ar s13, cb_ar s14)) (f0_count f0_known f0_made f0_done f0_loopCount f0_tired f0_waiting a1 a2 a3 a4 a5 a6 a7 a8 : Nat) {y_p0 : Int32} {p0 : Nat} (e_p0 : y_p0 = nI p0) (h : im_reach K f0_count f0_known f0_made f0_done f0_loopCount f0_tired f0_waiting a1 a2 a3 a4 a5 a6 a7 a8 p0 = true) : wpX_reach post (nI f0_count, nI f0_known, nI f0_made, nI f0_done, nI f0_loopCount, nI f0_tired, nI f0_waiting, cb_ar a1, cb_ar a2, cb_ar a3, cb_ar a4, cb_ar a5, cb_ar a6, cb_ar a7, cb_ar a8) y_p0 := by
  subst e_p0
  unfold im_reach at h
  unfold wpX_reach
  refine ce_if (cb_lt_iff rfl (rfl : (0 : Int32) = nI 0)) h (fun h => ?_) (fun h => ?_)
  · exact ce_p2 (P := post) cb_m1 (hK 4294967295 f0_count f0_known f0_made f0_done f0_loopCount f0_tired f0_waiting a1 a2 a3 a4 a5 a6 a7 a8 h)
  · refine ce_if (cb_le_iff rfl (rfl : (3 : Int32) = nI 3)) h (fun h => ?_) (fun h => ?_)
    · refine sd_run (fun f0_count_4 f0_known_5 f0_made_6 f0_done_7 f0_loopCount_8 f0_tired_9 f0_waiting_10 am121_13 am122_16 am123_19 am124_22 am125_25 am126_28 am127_31 am128_34 h => ?_) f0_count f0_known f0_made f0_done f0_loopCount f0_tired f0_waiting a1 a2 a3 a4 a5 a6 a7 a8 h
      refine ce_if (cb_eq_iff rfl (rfl : (0 : Int32) = nI 0)) h (fun h => ?_) (fun h => ?_)
      · refine ⟨60, ?_⟩
        exact sd_reach_27 hK rfl f0_count_4 f0_known_5 f0_made_6 f0_done_7 f0_loopCount_8 f0_tired_9 f0_waiting_10 60 0 am121_13 am122_16 am123_19 am124_22 am125_25 am126_28 am127_31 am128_34 h
      · exact ce_p2 (P := post) cb_m5 (hK 4294967291 f0_count_4 f0_known_5 f0_made_6 f0_done_7 f0_loopCount_8 f0_tired_9 f0_waiting_10 am121_13 am122_16 am123_19 am124_22 am125_25 am126_28 am127_31 am128_34 h)
    · exact ce_p2 (P := post) cb_m1 (hK 4294967295 f0_count f0_known f0_made f0_done f0_loopCount f0_tired f0_waiting a1 a2 a3 a4 a5 a6 a7 a8 h)
def im_cells (K : Nat → Bool) (f0_count f0_known f0_made f0_done f0_loopCount f0_tired f0_waiting a1 a2 a3 a4 a5 a6 a7 a8 : Nat) : Bool := (K f0_count)
theorem sd_cells {post : Int32 → Prop} {K : Nat → Bool} (hK : ∀ r : Nat, K r = true → post (nI r)) (f0_count f0_known f0_made f0_done f0_loopCount f0_tired f0_waiting a1 a2 a3 a4 a5 a6 a7 a8 : Nat) (h : im_cells K f0_count f0_known f0_made f0_done f0_loopCount f0_tired f0_waiting a1 a2 a3 a4 a5 a6 a7 a8 = true) : wpX_cells post (nI f0_count, nI f0_known, nI f0_made, nI f0_done, nI f0_loopCount, nI f0_tired, nI f0_waiting, cb_ar a1, cb_ar a2, cb_ar a3, cb_ar a4, cb_ar a5, cb_ar a6, cb_ar a7, cb_ar a8) := by
  unfold im_cells at h
  unfold wpX_cells
  exact ce_p1 (P := post) rfl (hK f0_count h)
def im_steps (K : Nat → Nat → Nat → Nat → Nat → Nat → Nat → Nat → Nat → Nat → Nat → Nat → Nat → Nat → Nat → Nat → Bool) (f0_count f0_known f0_made f0_done f0_loopCount f0_tired f0_waiting a1 a2 a3 a4 a5 a6 a7 a8 : Nat) : Bool := (im_run (fun f0_count_2 f0_known_3 f0_made_4 f0_done_5 f0_loopCount_6 f0_tired_7 f0_waiting_8 am11_11 am12_14 am13_17 am14_20 am15_23 am16_26 am17_29 am18_32 => (cond (cb_eq f0_tired_7 0) (K f0_done_5 f0_count_2 f0_known_3 f0_made_4 f0_done_5 f0_loopCount_6 f0_tired_7 f0_waiting_8 am11_11 am12_14 am13_17 am14_20 am15_23 am16_26 am17_29 am18_32) (K 4294967291 f0_count_2 f0_known_3 f0_made_4 f0_done_5 f0_loopCount_6 f0_tired_7 f0_waiting_8 am11_11 am12_14 am13_17 am14_20 am15_23 am16_26 am17_29 am18_32))) f0_count f0_known f0_made f0_done f0_loopCount f0_tired f0_waiting a1 a2 a3 a4 a5 a6 a7 a8)
theorem sd_steps {post : Int32 → St2 → Prop} {K : Nat → Nat → Nat → Nat → Nat → Nat → Nat → Nat → Nat → Nat → Nat → Nat → Nat → Nat → Nat → Nat → Bool} (hK : ∀ r s0 s1 s2 s3 s4 s5 s6 s7 s8 s9 s10 s11 s12 s13 s14 : Nat, K r s0 s1 s2 s3 s4 s5 s6 s7 s8 s9 s10 s11 s12 s13 s14 = true → post (nI r) (nI s0, nI s1, nI s2, nI s3, nI s4, nI s5, nI s6, cb_ar s7, cb_ar s8, cb_ar s9, cb_ar s10, cb_ar s11, cb_ar s12, cb_ar s13, cb_ar s14)) (f0_count f0_known f0_made f0_done f0_loopCount f0_tired f0_waiting a1 a2 a3 a4 a5 a6 a7 a8 : Nat) (h : im_steps K f0_count f0_known f0_made f0_done f0_loopCount f0_tired f0_waiting a1 a2 a3 a4 a5 a6 a7 a8 = true) : wpX_steps post (nI f0_count, nI f0_known, nI f0_made, nI f0_done, nI f0_loopCount, nI f0_tired, nI f0_waiting, cb_ar a1, cb_ar a2, cb_ar a3, cb_ar a4, cb_ar a5, cb_ar a6, cb_ar a7, cb_ar a8) := by
  unfold im_steps at h
  unfold wpX_steps
  refine sd_run (fun f0_count_2 f0_known_3 f0_made_4 f0_done_5 f0_loopCount_6 f0_tired_7 f0_waiting_8 am11_11 am12_14 am13_17 am14_20 am15_23 am16_26 am17_29 am18_32 h => ?_) f0_count f0_known f0_made f0_done f0_loopCount f0_tired f0_waiting a1 a2 a3 a4 a5 a6 a7 a8 h
  refine ce_if (cb_eq_iff rfl (rfl : (0 : Int32) = nI 0)) h (fun h => ?_) (fun h => ?_)
  · exact ce_p2 (P := post) rfl (hK f0_done_5 f0_count_2 f0_known_3 f0_made_4 f0_done_5 f0_loopCount_6 f0_tired_7 f0_waiting_8 am11_11 am12_14 am13_17 am14_20 am15_23 am16_26 am17_29 am18_32 h)
  · exact ce_p2 (P := post) cb_m5 (hK 4294967291 f0_count_2 f0_known_3 f0_made_4 f0_done_5 f0_loopCount_6 f0_tired_7 f0_waiting_8 am11_11 am12_14 am13_17 am14_20 am15_23 am16_26 am17_29 am18_32 h)
def im_open_45 (K : Nat → Nat → Nat → Nat → Nat → Nat → Nat → Nat → Nat → Nat → Nat → Nat → Nat → Nat → Nat → Nat → Bool) (J18 : Nat → Nat → Bool) (x2 : Nat) (x3 : Nat) (f0_count : Nat) (f0_known : Nat) (f0_made : Nat) (f0_done : Nat) (f0_loopCount : Nat) (f0_tired : Nat) (f0_waiting : Nat) (am11 : Nat) (am12 : Nat) (am13 : Nat) (am14 : Nat) (am15 : Nat) (am16 : Nat) (am17 : Nat) (am18 : Nat) : Nat → Nat → Nat → Bool
  | 0 => fun _ _ => false
  | n + 1 => fun x1 x4 => (cond (cb_le x3 x4) (cb_let (cb_add x2 1) (fun x2_38 => (J18 x1 x2_38))) (cond (cb_in x2 490) (cond (cb_eq (cb_rd am14 x2) 0) (cond (cb_in (cb_add (cb_mul 3 x2) x4) 1474) (cond (cb_eq (cb_rd am15 (cb_add (cb_mul 3 x2) x4)) 4294967295) (cb_let (cb_add x1 1) (fun x1_45 => (cb_let (cb_add x4 1) (fun x4_46 => (im_open_45 K J18 x2 x3 f0_count f0_known f0_made f0_done f0_loopCount f0_tired f0_waiting am11 am12 am13 am14 am15 am16 am17 am18 n x1_45 x4_46))))) (cb_let (cb_add x4 1) (fun x4_44 => (im_open_45 K J18 x2 x3 f0_count f0_known f0_made f0_done f0_loopCount f0_tired f0_waiting am11 am12 am13 am14 am15 am16 am17 am18 n x1 x4_44)))) false) (cb_let (cb_add x4 1) (fun x4_41 => (im_open_45 K J18 x2 x3 f0_count f0_known f0_made f0_done f0_loopCount f0_tired f0_waiting am11 am12 am13 am14 am15 am16 am17 am18 n x1 x4_41)))) false))
theorem sd_open_45 {post : Int32 → St2 → Prop} {K : Nat → Nat → Nat → Nat → Nat → Nat → Nat → Nat → Nat → Nat → Nat → Nat → Nat → Nat → Nat → Nat → Bool} (hK : ∀ r s0 s1 s2 s3 s4 s5 s6 s7 s8 s9 s10 s11 s12 s13 s14 : Nat, K r s0 s1 s2 s3 s4 s5 s6 s7 s8 s9 s10 s11 s12 s13 s14 = true → post (nI r) (nI s0, nI s1, nI s2, nI s3, nI s4, nI s5, nI s6, cb_ar s7, cb_ar s8, cb_ar s9, cb_ar s10, cb_ar s11, cb_ar s12, cb_ar s13, cb_ar s14)) {y_J18 : Int32 → Int32 → Prop} {J18 : Nat → Nat → Bool} (hJ18 : ∀ j0 j1 : Nat, J18 j0 j1 = true → y_J18 (nI j0) (nI j1)) {y_x2 : Int32} {x2 : Nat} (e_x2 : y_x2 = nI x2) {y_x3 : Int32} {x3 : Nat} (e_x3 : y_x3 = nI x3) (f0_count : Nat) (f0_known : Nat) (f0_made : Nat) (f0_done : Nat) (f0_loopCount : Nat) (f0_tired : Nat) (f0_waiting : Nat) (am11 : Nat) (am12 : Nat) (am13 : Nat) (am14 : Nat) (am15 : Nat) (am16 : Nat) (am17 : Nat) (am18 : Nat) : ∀ (n x1 x4 : Nat), im_open_45 K J18 x2 x3 f0_count f0_known f0_made f0_done f0_loopCount f0_tired f0_waiting am11 am12 am13 am14 am15 am16 am17 am18 n x1 x4 = true → wX_open_45 post y_J18 y_x2 y_x3 (nI f0_count) (nI f0_known) (nI f0_made) (nI f0_done) (nI f0_loopCount) (nI f0_tired) (nI f0_waiting) (cb_ar am11) (cb_ar am12) (cb_ar am13) (cb_ar am14) (cb_ar am15) (cb_ar am16) (cb_ar am17) (cb_ar am18) n (nI x1) (nI x4) := by
  subst e_x2
  subst e_x3
  intro n
  induction n with
  | zero =>
    intro x1 x4 h
    exact ce_no h
  | succ n ih =>
    intro x1 x4 h
    unfold im_open_45 at h
    unfold wX_open_45
    refine ce_if (cb_le_iff rfl rfl) h (fun h => ?_) (fun h => ?_)
    · refine ce_int (cb_hadd rfl (rfl : (1 : Int32) = nI 1)) h (fun x2_38 h => ?_)
      exact hJ18 x1 x2_38 h
    · refine ce_in rfl h (fun h => ?_)
      refine ce_if (cb_eq_iff (cb_hrd rfl) (rfl : (0 : Int32) = nI 0)) h (fun h => ?_) (fun h => ?_)
      · refine ce_in (cb_hadd (cb_hmul (rfl : (3 : Int32) = nI 3) rfl) rfl) h (fun h => ?_)
        refine ce_if (cb_eq_iff (cb_hrd (cb_hadd (cb_hmul (rfl : (3 : Int32) = nI 3) rfl) rfl)) cb_m1) h (fun h => ?_) (fun h => ?_)
        · refine ce_int (cb_hadd rfl (rfl : (1 : Int32) = nI 1)) h (fun x1_45 h => ?_)
          refine ce_int (cb_hadd rfl (rfl : (1 : Int32) = nI 1)) h (fun x4_46 h => ?_)
          exact ih x1_45 x4_46 h
        · refine ce_int (cb_hadd rfl (rfl : (1 : Int32) = nI 1)) h (fun x4_44 h => ?_)
          exact ih x1 x4_44 h
      · refine ce_int (cb_hadd rfl (rfl : (1 : Int32) = nI 1)) h (fun x4_41 h => ?_)
        exact ih x1 x4_41 h
def im_open_18 (K : Nat → Nat → Nat → Nat → Nat → Nat → Nat → Nat → Nat → Nat → Nat → Nat → Nat → Nat → Nat → Nat → Bool) (f0_count : Nat) (f0_known : Nat) (f0_made : Nat) (f0_done : Nat) (f0_loopCount : Nat) (f0_tired : Nat) (f0_waiting : Nat) (am11 : Nat) (am12 : Nat) (am13 : Nat) (am14 : Nat) (am15 : Nat) (am16 : Nat) (am17 : Nat) (am18 : Nat) : Nat → Nat → Nat → Bool
  | 0 => fun _ _ => false
  | n + 1 => fun x1 x2 => (cond (cb_le f0_made x2) (K x1 f0_count f0_known f0_made f0_done f0_loopCount f0_tired f0_waiting am11 am12 am13 am14 am15 am16 am17 am18) (cond (cb_in x2 490) (cond (cb_eq (cb_rd am13 x2) 2) (im_open_45 K (im_open_18 K f0_count f0_known f0_made f0_done f0_loopCount f0_tired f0_waiting am11 am12 am13 am14 am15 am16 am17 am18 n) x2 1 f0_count f0_known f0_made f0_done f0_loopCount f0_tired f0_waiting am11 am12 am13 am14 am15 am16 am17 am18 60 x1 0) (im_open_45 K (im_open_18 K f0_count f0_known f0_made f0_done f0_loopCount f0_tired f0_waiting am11 am12 am13 am14 am15 am16 am17 am18 n) x2 3 f0_count f0_known f0_made f0_done f0_loopCount f0_tired f0_waiting am11 am12 am13 am14 am15 am16 am17 am18 60 x1 0)) false))
theorem sd_open_18 {post : Int32 → St2 → Prop} {K : Nat → Nat → Nat → Nat → Nat → Nat → Nat → Nat → Nat → Nat → Nat → Nat → Nat → Nat → Nat → Nat → Bool} (hK : ∀ r s0 s1 s2 s3 s4 s5 s6 s7 s8 s9 s10 s11 s12 s13 s14 : Nat, K r s0 s1 s2 s3 s4 s5 s6 s7 s8 s9 s10 s11 s12 s13 s14 = true → post (nI r) (nI s0, nI s1, nI s2, nI s3, nI s4, nI s5, nI s6, cb_ar s7, cb_ar s8, cb_ar s9, cb_ar s10, cb_ar s11, cb_ar s12, cb_ar s13, cb_ar s14)) (f0_count : Nat) (f0_known : Nat) (f0_made : Nat) (f0_done : Nat) (f0_loopCount : Nat) (f0_tired : Nat) (f0_waiting : Nat) (am11 : Nat) (am12 : Nat) (am13 : Nat) (am14 : Nat) (am15 : Nat) (am16 : Nat) (am17 : Nat) (am18 : Nat) : ∀ (n x1 x2 : Nat), im_open_18 K f0_count f0_known f0_made f0_done f0_loopCount f0_tired f0_waiting am11 am12 am13 am14 am15 am16 am17 am18 n x1 x2 = true → wX_open_18 post (nI f0_count) (nI f0_known) (nI f0_made) (nI f0_done) (nI f0_loopCount) (nI f0_tired) (nI f0_waiting) (cb_ar am11) (cb_ar am12) (cb_ar am13) (cb_ar am14) (cb_ar am15) (cb_ar am16) (cb_ar am17) (cb_ar am18) n (nI x1) (nI x2) := by
  intro n
  induction n with
  | zero =>
    intro x1 x2 h
    exact ce_no h
  | succ n ih =>
    intro x1 x2 h
    unfold im_open_18 at h
    unfold wX_open_18
    refine ce_if (cb_le_iff rfl rfl) h (fun h => ?_) (fun h => ?_)
    · exact ce_p2 (P := post) rfl (hK x1 f0_count f0_known f0_made f0_done f0_loopCount f0_tired f0_waiting am11 am12 am13 am14 am15 am16 am17 am18 h)
    · refine ce_in rfl h (fun h => ?_)
      refine ce_if (cb_eq_iff (cb_hrd rfl) (rfl : (2 : Int32) = nI 2)) h (fun h => ?_) (fun h => ?_)
      · refine ⟨60, ?_⟩
        exact sd_open_45 hK (fun j0 j1 h => ih j0 j1 h) rfl (rfl : (1 : Int32) = nI 1) f0_count f0_known f0_made f0_done f0_loopCount f0_tired f0_waiting am11 am12 am13 am14 am15 am16 am17 am18 60 x1 0 h
      · refine ⟨60, ?_⟩
        exact sd_open_45 hK (fun j0 j1 h => ih j0 j1 h) rfl (rfl : (3 : Int32) = nI 3) f0_count f0_known f0_made f0_done f0_loopCount f0_tired f0_waiting am11 am12 am13 am14 am15 am16 am17 am18 60 x1 0 h
def im_open (K : Nat → Nat → Nat → Nat → Nat → Nat → Nat → Nat → Nat → Nat → Nat → Nat → Nat → Nat → Nat → Nat → Bool) (f0_count f0_known f0_made f0_done f0_loopCount f0_tired f0_waiting a1 a2 a3 a4 a5 a6 a7 a8 : Nat) : Bool := (im_run (fun f0_count_2 f0_known_3 f0_made_4 f0_done_5 f0_loopCount_6 f0_tired_7 f0_waiting_8 am11_11 am12_14 am13_17 am14_20 am15_23 am16_26 am17_29 am18_32 => (cond (cb_eq f0_tired_7 0) (im_open_18 K f0_count_2 f0_known_3 f0_made_4 f0_done_5 f0_loopCount_6 f0_tired_7 f0_waiting_8 am11_11 am12_14 am13_17 am14_20 am15_23 am16_26 am17_29 am18_32 60 0 0) (K 4294967291 f0_count_2 f0_known_3 f0_made_4 f0_done_5 f0_loopCount_6 f0_tired_7 f0_waiting_8 am11_11 am12_14 am13_17 am14_20 am15_23 am16_26 am17_29 am18_32))) f0_count f0_known f0_made f0_done f0_loopCount f0_tired f0_waiting a1 a2 a3 a4 a5 a6 a7 a8)
theorem sd_open {post : Int32 → St2 → Prop} {K : Nat → Nat → Nat → Nat → Nat → Nat → Nat → Nat → Nat → Nat → Nat → Nat → Nat → Nat → Nat → Nat → Bool} (hK : ∀ r s0 s1 s2 s3 s4 s5 s6 s7 s8 s9 s10 s11 s12 s13 s14 : Nat, K r s0 s1 s2 s3 s4 s5 s6 s7 s8 s9 s10 s11 s12 s13 s14 = true → post (nI r) (nI s0, nI s1, nI s2, nI s3, nI s4, nI s5, nI s6, cb_ar s7, cb_ar s8, cb_ar s9, cb_ar s10, cb_ar s11, cb_ar s12, cb_ar s13, cb_ar s14)) (f0_count f0_known f0_made f0_done f0_loopCount f0_tired f0_waiting a1 a2 a3 a4 a5 a6 a7 a8 : Nat) (h : im_open K f0_count f0_known f0_made f0_done f0_loopCount f0_tired f0_waiting a1 a2 a3 a4 a5 a6 a7 a8 = true) : wpX_open post (nI f0_count, nI f0_known, nI f0_made, nI f0_done, nI f0_loopCount, nI f0_tired, nI f0_waiting, cb_ar a1, cb_ar a2, cb_ar a3, cb_ar a4, cb_ar a5, cb_ar a6, cb_ar a7, cb_ar a8) := by
  unfold im_open at h
  unfold wpX_open
  refine sd_run (fun f0_count_2 f0_known_3 f0_made_4 f0_done_5 f0_loopCount_6 f0_tired_7 f0_waiting_8 am11_11 am12_14 am13_17 am14_20 am15_23 am16_26 am17_29 am18_32 h => ?_) f0_count f0_known f0_made f0_done f0_loopCount f0_tired f0_waiting a1 a2 a3 a4 a5 a6 a7 a8 h
  refine ce_if (cb_eq_iff rfl (rfl : (0 : Int32) = nI 0)) h (fun h => ?_) (fun h => ?_)
  · refine ⟨60, ?_⟩
    exact sd_open_18 hK f0_count_2 f0_known_3 f0_made_4 f0_done_5 f0_loopCount_6 f0_tired_7 f0_waiting_8 am11_11 am12_14 am13_17 am14_20 am15_23 am16_26 am17_29 am18_32 60 0 0 h
  · exact ce_p2 (P := post) cb_m5 (hK 4294967291 f0_count_2 f0_known_3 f0_made_4 f0_done_5 f0_loopCount_6 f0_tired_7 f0_waiting_8 am11_11 am12_14 am13_17 am14_20 am15_23 am16_26 am17_29 am18_32 h)
def im_facing_4 (K : Nat → Bool) (f0_count : Nat) (f0_known : Nat) (f0_made : Nat) (f0_done : Nat) (f0_loopCount : Nat) (f0_tired : Nat) (f0_waiting : Nat) (a1 : Nat) (a2 : Nat) (a3 : Nat) (a4 : Nat) (a5 : Nat) (a6 : Nat) (a7 : Nat) (a8 : Nat) : Nat → Nat → Nat → Bool
  | 0 => fun _ _ => false
  | n + 1 => fun x1 x2 => (cond (cb_le f0_count x2) (K x1) (cond (cb_in (cb_mul 3 x2) 34) (cb_let (cb_rd a2 (cb_mul 3 x2)) (fun x3_3 => (cond (cb_eq x3_3 4294967295) (cb_let (cb_add x2 1) (fun x2_5 => (im_facing_4 K f0_count f0_known f0_made f0_done f0_loopCount f0_tired f0_waiting a1 a2 a3 a4 a5 a6 a7 a8 n x1 x2_5))) (cond (cb_le 30 x3_3) (cb_let (cb_add x2 1) (fun x2_7 => (im_facing_4 K f0_count f0_known f0_made f0_done f0_loopCount f0_tired f0_waiting a1 a2 a3 a4 a5 a6 a7 a8 n x1 x2_7))) (cond (cb_eq (cb_sub x3_3 (cb_mul (cb_div3 x3_3) 3)) 0) (cond (cb_le x3_3 (cb_mul 3 x2)) (cb_let (cb_add x2 1) (fun x2_12 => (im_facing_4 K f0_count f0_known f0_made f0_done f0_loopCount f0_tired f0_waiting a1 a2 a3 a4 a5 a6 a7 a8 n x1 x2_12))) (cb_let (cb_add x1 1) (fun x1_13 => (cb_let (cb_add x2 1) (fun x2_14 => (im_facing_4 K f0_count f0_known f0_made f0_done f0_loopCount f0_tired f0_waiting a1 a2 a3 a4 a5 a6 a7 a8 n x1_13 x2_14)))))) (cb_let (cb_add x2 1) (fun x2_10 => (im_facing_4 K f0_count f0_known f0_made f0_done f0_loopCount f0_tired f0_waiting a1 a2 a3 a4 a5 a6 a7 a8 n x1 x2_10)))))))) false))
theorem sd_facing_4 {post : Int32 → Prop} {K : Nat → Bool} (hK : ∀ r : Nat, K r = true → post (nI r)) (f0_count : Nat) (f0_known : Nat) (f0_made : Nat) (f0_done : Nat) (f0_loopCount : Nat) (f0_tired : Nat) (f0_waiting : Nat) (a1 : Nat) (a2 : Nat) (a3 : Nat) (a4 : Nat) (a5 : Nat) (a6 : Nat) (a7 : Nat) (a8 : Nat) : ∀ (n x1 x2 : Nat), im_facing_4 K f0_count f0_known f0_made f0_done f0_loopCount f0_tired f0_waiting a1 a2 a3 a4 a5 a6 a7 a8 n x1 x2 = true → wX_facing_4 post (nI f0_count) (nI f0_known) (nI f0_made) (nI f0_done) (nI f0_loopCount) (nI f0_tired) (nI f0_waiting) (cb_ar a1) (cb_ar a2) (cb_ar a3) (cb_ar a4) (cb_ar a5) (cb_ar a6) (cb_ar a7) (cb_ar a8) n (nI x1) (nI x2) := by
  intro n
  induction n with
  | zero =>
    intro x1 x2 h
    exact ce_no h
  | succ n ih =>
    intro x1 x2 h
    unfold im_facing_4 at h
    unfold wX_facing_4
    refine ce_if (cb_le_iff rfl rfl) h (fun h => ?_) (fun h => ?_)
    · exact ce_p1 (P := post) rfl (hK x1 h)
    · refine ce_in (cb_hmul (rfl : (3 : Int32) = nI 3) rfl) h (fun h => ?_)
      refine ce_int (cb_hrd (cb_hmul (rfl : (3 : Int32) = nI 3) rfl)) h (fun x3_3 h => ?_)
      refine ce_if (cb_eq_iff rfl cb_m1) h (fun h => ?_) (fun h => ?_)
      · refine ce_int (cb_hadd rfl (rfl : (1 : Int32) = nI 1)) h (fun x2_5 h => ?_)
        exact ih x1 x2_5 h
      · refine ce_if (cb_le_iff (rfl : (30 : Int32) = nI 30) rfl) h (fun h => ?_) (fun h => ?_)
        · refine ce_int (cb_hadd rfl (rfl : (1 : Int32) = nI 1)) h (fun x2_7 h => ?_)
          exact ih x1 x2_7 h
        · refine ⟨cb_n3, ?_⟩
          refine ce_if (cb_eq_iff (cb_hsub rfl (cb_hmul (cb_hdiv3 rfl) (rfl : (3 : Int32) = nI 3))) (rfl : (0 : Int32) = nI 0)) h (fun h => ?_) (fun h => ?_)
          · refine ce_if (cb_le_iff rfl (cb_hmul (rfl : (3 : Int32) = nI 3) rfl)) h (fun h => ?_) (fun h => ?_)
            · refine ce_int (cb_hadd rfl (rfl : (1 : Int32) = nI 1)) h (fun x2_12 h => ?_)
              exact ih x1 x2_12 h
            · refine ce_int (cb_hadd rfl (rfl : (1 : Int32) = nI 1)) h (fun x1_13 h => ?_)
              refine ce_int (cb_hadd rfl (rfl : (1 : Int32) = nI 1)) h (fun x2_14 h => ?_)
              exact ih x1_13 x2_14 h
          · refine ce_int (cb_hadd rfl (rfl : (1 : Int32) = nI 1)) h (fun x2_10 h => ?_)
            exact ih x1 x2_10 h
def im_facing (K : Nat → Bool) (f0_count f0_known f0_made f0_done f0_loopCount f0_tired f0_waiting a1 a2 a3 a4 a5 a6 a7 a8 : Nat) : Bool := (im_facing_4 K f0_count f0_known f0_made f0_done f0_loopCount f0_tired f0_waiting a1 a2 a3 a4 a5 a6 a7 a8 60 0 0)
theorem sd_facing {post : Int32 → Prop} {K : Nat → Bool} (hK : ∀ r : Nat, K r = true → post (nI r)) (f0_count f0_known f0_made f0_done f0_loopCount f0_tired f0_waiting a1 a2 a3 a4 a5 a6 a7 a8 : Nat) (h : im_facing K f0_count f0_known f0_made f0_done f0_loopCount f0_tired f0_waiting a1 a2 a3 a4 a5 a6 a7 a8 = true) : wpX_facing post (nI f0_count, nI f0_known, nI f0_made, nI f0_done, nI f0_loopCount, nI f0_tired, nI f0_waiting, cb_ar a1, cb_ar a2, cb_ar a3, cb_ar a4, cb_ar a5, cb_ar a6, cb_ar a7, cb_ar a8) := by
  unfold im_facing at h
  unfold wpX_facing
  refine ⟨60, ?_⟩
  exact sd_facing_4 hK f0_count f0_known f0_made f0_done f0_loopCount f0_tired f0_waiting a1 a2 a3 a4 a5 a6 a7 a8 60 0 0 h
def im_loops (K : Nat → Nat → Nat → Nat → Nat → Nat → Nat → Nat → Nat → Nat → Nat → Nat → Nat → Nat → Nat → Nat → Bool) (f0_count f0_known f0_made f0_done f0_loopCount f0_tired f0_waiting a1 a2 a3 a4 a5 a6 a7 a8 : Nat) : Bool := (im_run (fun f0_count_2 f0_known_3 f0_made_4 f0_done_5 f0_loopCount_6 f0_tired_7 f0_waiting_8 am11_11 am12_14 am13_17 am14_20 am15_23 am16_26 am17_29 am18_32 => (cond (cb_eq f0_tired_7 0) (K f0_loopCount_6 f0_count_2 f0_known_3 f0_made_4 f0_done_5 f0_loopCount_6 f0_tired_7 f0_waiting_8 am11_11 am12_14 am13_17 am14_20 am15_23 am16_26 am17_29 am18_32) (K 4294967291 f0_count_2 f0_known_3 f0_made_4 f0_done_5 f0_loopCount_6 f0_tired_7 f0_waiting_8 am11_11 am12_14 am13_17 am14_20 am15_23 am16_26 am17_29 am18_32))) f0_count f0_known f0_made f0_done f0_loopCount f0_tired f0_waiting a1 a2 a3 a4 a5 a6 a7 a8)
theorem sd_loops {post : Int32 → St2 → Prop} {K : Nat → Nat → Nat → Nat → Nat → Nat → Nat → Nat → Nat → Nat → Nat → Nat → Nat → Nat → Nat → Nat → Bool} (hK : ∀ r s0 s1 s2 s3 s4 s5 s6 s7 s8 s9 s10 s11 s12 s13 s14 : Nat, K r s0 s1 s2 s3 s4 s5 s6 s7 s8 s9 s10 s11 s12 s13 s14 = true → post (nI r) (nI s0, nI s1, nI s2, nI s3, nI s4, nI s5, nI s6, cb_ar s7, cb_ar s8, cb_ar s9, cb_ar s10, cb_ar s11, cb_ar s12, cb_ar s13, cb_ar s14)) (f0_count f0_known f0_made f0_done f0_loopCount f0_tired f0_waiting a1 a2 a3 a4 a5 a6 a7 a8 : Nat) (h : im_loops K f0_count f0_known f0_made f0_done f0_loopCount f0_tired f0_waiting a1 a2 a3 a4 a5 a6 a7 a8 = true) : wpX_loops post (nI f0_count, nI f0_known, nI f0_made, nI f0_done, nI f0_loopCount, nI f0_tired, nI f0_waiting, cb_ar a1, cb_ar a2, cb_ar a3, cb_ar a4, cb_ar a5, cb_ar a6, cb_ar a7, cb_ar a8) := by
  unfold im_loops at h
  unfold wpX_loops
  refine sd_run (fun f0_count_2 f0_known_3 f0_made_4 f0_done_5 f0_loopCount_6 f0_tired_7 f0_waiting_8 am11_11 am12_14 am13_17 am14_20 am15_23 am16_26 am17_29 am18_32 h => ?_) f0_count f0_known f0_made f0_done f0_loopCount f0_tired f0_waiting a1 a2 a3 a4 a5 a6 a7 a8 h
  refine ce_if (cb_eq_iff rfl (rfl : (0 : Int32) = nI 0)) h (fun h => ?_) (fun h => ?_)
  · exact ce_p2 (P := post) rfl (hK f0_loopCount_6 f0_count_2 f0_known_3 f0_made_4 f0_done_5 f0_loopCount_6 f0_tired_7 f0_waiting_8 am11_11 am12_14 am13_17 am14_20 am15_23 am16_26 am17_29 am18_32 h)
  · exact ce_p2 (P := post) cb_m5 (hK 4294967291 f0_count_2 f0_known_3 f0_made_4 f0_done_5 f0_loopCount_6 f0_tired_7 f0_waiting_8 am11_11 am12_14 am13_17 am14_20 am15_23 am16_26 am17_29 am18_32 h)
theorem ce_cf {b X : Bool} (h : cond b false X = true) : ¬ b = true ∧ X = true := by
  cases b with
  | true => exact ce_no h
  | false => exact ⟨Bool.false_ne_true, h⟩
def im_walkE (K : Nat → Nat → Nat → Nat → Nat → Nat → Nat → Nat → Nat → Nat → Nat → Nat → Nat → Nat → Nat → Nat → Bool) (f0_count f0_known f0_made f0_done f0_loopCount f0_tired f0_waiting a1 a2 a3 a4 a5 a6 a7 a8 : Nat) (p0 : Nat) : Bool := (cond (cb_lt p0 0) false (cond (cb_lt 3 p0) false (im_run (fun f0_count_1 f0_known_1 f0_made_1 f0_done_1 f0_loopCount_1 f0_tired_1 f0_waiting_1 a1_1 a2_1 a3_1 a4_1 a5_1 a6_1 a7_1 a8_1 => (cond (cb_eq f0_tired_1 0) (cond (cb_in (cb_add 1470 p0) 1474) (cb_let (cb_rd a5_1 (cb_add 1470 p0)) (fun x3 => (cond (cb_eq x3 4294967295) false (cond (cb_lt x3 1470) false (im_named (fun r => K r f0_count_1 f0_known_1 f0_made_1 f0_done_1 f0_loopCount_1 f0_tired_1 f0_waiting_1 a1_1 a2_1 a3_1 a4_1 a5_1 a6_1 a7_1 a8_1) f0_count_1 f0_known_1 f0_made_1 f0_done_1 f0_loopCount_1 f0_tired_1 f0_waiting_1 a1_1 a2_1 a3_1 a4_1 a5_1 a6_1 a7_1 a8_1 x3))))) false) false)) f0_count f0_known f0_made f0_done f0_loopCount f0_tired f0_waiting a1 a2 a3 a4 a5 a6 a7 a8)))
theorem sd_walkE {post : Int32 → St2 → Prop} {K : Nat → Nat → Nat → Nat → Nat → Nat → Nat → Nat → Nat → Nat → Nat → Nat → Nat → Nat → Nat → Nat → Bool} (hK : ∀ r s0 s1 s2 s3 s4 s5 s6 s7 s8 s9 s10 s11 s12 s13 s14 : Nat, K r s0 s1 s2 s3 s4 s5 s6 s7 s8 s9 s10 s11 s12 s13 s14 = true → post (nI r) (nI s0, nI s1, nI s2, nI s3, nI s4, nI s5, nI s6, cb_ar s7, cb_ar s8, cb_ar s9, cb_ar s10, cb_ar s11, cb_ar s12, cb_ar s13, cb_ar s14)) (f0_count f0_known f0_made f0_done f0_loopCount f0_tired f0_waiting a1 a2 a3 a4 a5 a6 a7 a8 : Nat) {y_p0 : Int32} {p0 : Nat} (e_p0 : y_p0 = nI p0) {p1 : Nat} (h6 : p1 < 4096) {y_p1 : Int32} (e_p1 : y_p1 = nI p1) (h : im_walkE K f0_count f0_known f0_made f0_done f0_loopCount f0_tired f0_waiting a1 a2 a3 a4 a5 a6 a7 a8 p0 = true) : wpX_walk post (nI f0_count, nI f0_known, nI f0_made, nI f0_done, nI f0_loopCount, nI f0_tired, nI f0_waiting, cb_ar a1, cb_ar a2, cb_ar a3, cb_ar a4, cb_ar a5, cb_ar a6, cb_ar a7, cb_ar a8) y_p0 y_p1 := by
  subst e_p0
  subst e_p1
  unfold im_walkE at h
  unfold wpX_walk
  refine ce_if (cb_lt_iff rfl (rfl : (0 : Int32) = nI 0)) h ce_no (fun h => ?_)
  refine ce_if (cb_lt_iff (rfl : (3 : Int32) = nI 3) rfl) h ce_no (fun h => ?_)
  refine br_f (nI_pos (Nat.lt_trans h6 (by decide))) ?_
  refine br_t (nI_le (b := 4095) (Nat.le_of_lt_succ h6) (by decide)) ?_
  refine sd_run (fun f0_count_1 f0_known_1 f0_made_1 f0_done_1 f0_loopCount_1 f0_tired_1 f0_waiting_1 a1_1 a2_1 a3_1 a4_1 a5_1 a6_1 a7_1 a8_1 h => ?_) f0_count f0_known f0_made f0_done f0_loopCount f0_tired f0_waiting a1 a2 a3 a4 a5 a6 a7 a8 h
  refine ce_if (cb_eq_iff rfl (rfl : (0 : Int32) = nI 0)) h (fun h => ?_) ce_no
  refine ce_in (cb_hadd (rfl : (1470 : Int32) = nI 1470) rfl) h (fun h => ?_)
  refine ce_int (cb_hrd (cb_hadd (rfl : (1470 : Int32) = nI 1470) rfl)) h (fun x3 h => ?_)
  have h1 := ce_cf h
  have h2 := ce_cf h1.2
  have n1 : ¬ nI x3 = -1 := fun z => h1.1 ((cb_eq_iff rfl cb_m1).mpr z)
  have n2 : ¬ nI x3 < 1470 := fun z => h2.1 ((cb_lt_iff rfl (rfl : (1470 : Int32) = nI 1470)).mpr z)
  have g1 : wX_walk_135 post (nI x3) (nI f0_count_1) (nI f0_known_1) (nI f0_made_1) (nI f0_done_1) (nI f0_loopCount_1) (nI f0_tired_1) (nI f0_waiting_1) (cb_ar a1_1) (cb_ar a2_1) (cb_ar a3_1) (cb_ar a4_1) (cb_ar a5_1) (cb_ar a6_1) (cb_ar a7_1) (cb_ar a8_1) := by
    unfold wX_walk_135
    exact sd_named (fun r h => hK r f0_count_1 f0_known_1 f0_made_1 f0_done_1 f0_loopCount_1 f0_tired_1 f0_waiting_1 a1_1 a2_1 a3_1 a4_1 a5_1 a6_1 a7_1 a8_1 h) f0_count_1 f0_known_1 f0_made_1 f0_done_1 f0_loopCount_1 f0_tired_1 f0_waiting_1 a1_1 a2_1 a3_1 a4_1 a5_1 a6_1 a7_1 a8_1 rfl h2.2
  have g2 : wX_walk_89 post (nI x3) (nI f0_count_1) (nI f0_known_1) (nI f0_made_1) (nI f0_done_1) (nI f0_loopCount_1) (nI f0_tired_1) (nI f0_waiting_1) (cb_ar a1_1) (cb_ar a2_1) (cb_ar a3_1) (cb_ar a4_1) (cb_ar a5_1) (cb_ar a6_1) (cb_ar a7_1) (cb_ar a8_1) := by
    unfold wX_walk_89
    exact sd_named (fun r h => hK r f0_count_1 f0_known_1 f0_made_1 f0_done_1 f0_loopCount_1 f0_tired_1 f0_waiting_1 a1_1 a2_1 a3_1 a4_1 a5_1 a6_1 a7_1 a8_1 h) f0_count_1 f0_known_1 f0_made_1 f0_done_1 f0_loopCount_1 f0_tired_1 f0_waiting_1 a1_1 a2_1 a3_1 a4_1 a5_1 a6_1 a7_1 a8_1 rfl h2.2
  refine ⟨1, ?_⟩
  unfold wX_walk_53
  refine br_f (by decide) ?_
  refine br_c (fun _ => g1) (fun _ => ?_)
  refine br_f n1 ?_
  exact br_t (Int32.not_lt.mp n2) g2
end
section
def im_lawOf_953 (x8 : Nat) : Nat → Nat → Nat → Nat → Nat → Nat → Nat → Nat → Nat → Nat → Nat → Nat → Nat → Nat → Nat → Nat → Nat → Nat → Bool
  | 0 => fun _ _ _ _ _ _ _ _ _ _ _ _ _ _ _ _ _ => false
  | n + 1 => fun x7 x9 fm0_count fm0_known fm0_made fm0_done fm0_loopCount fm0_tired fm0_waiting am7401 am7402 am7403 am7404 am7405 am7406 am7407 am7408 => (cond (cb_le 8 x9) (cond (cb_eq x7 0) false (im_cell (fun r_152 fm0_count_153 fm0_known_154 fm0_made_155 fm0_done_156 fm0_loopCount_157 fm0_tired_158 fm0_waiting_159 am10081_162 am10082_165 am10083_168 am10084_171 am10085_174 am10086_177 am10087_180 am10088_183 => (cond (cb_eq r_152 4294967294) (im_cell (fun r_185 fm0_count_186 fm0_known_187 fm0_made_188 fm0_done_189 fm0_loopCount_190 fm0_tired_191 fm0_waiting_192 am10181_195 am10182_198 am10183_201 am10184_204 am10185_207 am10186_210 am10187_213 am10188_216 => (cond (cb_eq r_185 4294967295) (im_join (fun r_218 fm0_count_219 fm0_known_220 fm0_made_221 fm0_done_222 fm0_loopCount_223 fm0_tired_224 fm0_waiting_225 am10301_228 am10302_231 am10303_234 am10304_237 am10305_240 am10306_243 am10307_246 am10308_249 => (cond (cb_eq r_218 4294967295) (im_join (fun r_251 fm0_count_252 fm0_known_253 fm0_made_254 fm0_done_255 fm0_loopCount_256 fm0_tired_257 fm0_waiting_258 am10411_261 am10412_264 am10413_267 am10414_270 am10415_273 am10416_276 am10417_279 am10418_282 => (cond (cb_eq r_251 4294967295) (im_join (fun r_284 fm0_count_285 fm0_known_286 fm0_made_287 fm0_done_288 fm0_loopCount_289 fm0_tired_290 fm0_waiting_291 am10531_294 am10532_297 am10533_300 am10534_303 am10535_306 am10536_309 am10537_312 am10538_315 => (cond (cb_eq r_284 4294967295) (im_cut (fun r_317 fm0_count_318 fm0_known_319 fm0_made_320 fm0_done_321 fm0_loopCount_322 fm0_tired_323 fm0_waiting_324 am10631_327 am10632_330 am10633_333 am10634_336 am10635_339 am10636_342 am10637_345 am10638_348 => (cond (cb_eq r_317 4294967295) (im_left (fun r_350 fm0_count_351 fm0_known_352 fm0_made_353 fm0_done_354 fm0_loopCount_355 fm0_tired_356 fm0_waiting_357 am10721_360 am10722_363 am10723_366 am10724_369 am10725_372 am10726_375 am10727_378 am10728_381 => (cond (cb_eq r_350 4294967295) (im_walk (fun r_383 fm0_count_384 fm0_known_385 fm0_made_386 fm0_done_387 fm0_loopCount_388 fm0_tired_389 fm0_waiting_390 am10821_393 am10822_396 am10823_399 am10824_402 am10825_405 am10826_408 am10827_411 am10828_414 => (cond (cb_eq r_383 4294967295) (im_walk (fun r_416 fm0_count_417 fm0_known_418 fm0_made_419 fm0_done_420 fm0_loopCount_421 fm0_tired_422 fm0_waiting_423 am10941_426 am10942_429 am10943_432 am10944_435 am10945_438 am10946_441 am10947_444 am10948_447 => (cond (cb_eq r_416 4294967295) (im_reach (fun r_449 fm0_count_450 fm0_known_451 fm0_made_452 fm0_done_453 fm0_loopCount_454 fm0_tired_455 fm0_waiting_456 am11031_459 am11032_462 am11033_465 am11034_468 am11035_471 am11036_474 am11037_477 am11038_480 => (cond (cb_eq r_449 4294967295) (im_cells (fun r_482 => (cond (cb_eq r_482 10) true false)) fm0_count_450 fm0_known_451 fm0_made_452 fm0_done_453 fm0_loopCount_454 fm0_tired_455 fm0_waiting_456 am11031_459 am11032_462 am11033_465 am11034_468 am11035_471 am11036_474 am11037_477 am11038_480) false)) fm0_count_417 fm0_known_418 fm0_made_419 fm0_done_420 fm0_loopCount_421 fm0_tired_422 fm0_waiting_423 am10941_426 am10942_429 am10943_432 am10944_435 am10945_438 am10946_441 am10947_444 am10948_447 4294967295) false)) fm0_count_384 fm0_known_385 fm0_made_386 fm0_done_387 fm0_loopCount_388 fm0_tired_389 fm0_waiting_390 am10821_393 am10822_396 am10823_399 am10824_402 am10825_405 am10826_408 am10827_411 am10828_414 0 4096) false)) fm0_count_351 fm0_known_352 fm0_made_353 fm0_done_354 fm0_loopCount_355 fm0_tired_356 fm0_waiting_357 am10721_360 am10722_363 am10723_366 am10724_369 am10725_372 am10726_375 am10727_378 am10728_381 4 0) false)) fm0_count_318 fm0_known_319 fm0_made_320 fm0_done_321 fm0_loopCount_322 fm0_tired_323 fm0_waiting_324 am10631_327 am10632_330 am10633_333 am10634_336 am10635_339 am10636_342 am10637_345 am10638_348 3) false)) fm0_count_285 fm0_known_286 fm0_made_287 fm0_done_288 fm0_loopCount_289 fm0_tired_290 fm0_waiting_291 am10531_294 am10532_297 am10533_300 am10534_303 am10535_306 am10536_309 am10537_312 am10538_315 29) false)) fm0_count_252 fm0_known_253 fm0_made_254 fm0_done_255 fm0_loopCount_256 fm0_tired_257 fm0_waiting_258 am10411_261 am10412_264 am10413_267 am10414_270 am10415_273 am10416_276 am10417_279 am10418_282 28 30) false)) fm0_count_219 fm0_known_220 fm0_made_221 fm0_done_222 fm0_loopCount_223 fm0_tired_224 fm0_waiting_225 am10301_228 am10302_231 am10303_234 am10304_237 am10305_240 am10306_243 am10307_246 am10308_249 34 0) false)) fm0_count_186 fm0_known_187 fm0_made_188 fm0_done_189 fm0_loopCount_190 fm0_tired_191 fm0_waiting_192 am10181_195 am10182_198 am10183_201 am10184_204 am10185_207 am10186_210 am10187_213 am10188_216 30 30) false)) fm0_count_153 fm0_known_154 fm0_made_155 fm0_done_156 fm0_loopCount_157 fm0_tired_158 fm0_waiting_159 am10081_162 am10082_165 am10083_168 am10084_171 am10085_174 am10086_177 am10087_180 am10088_183 3) false)) fm0_count fm0_known fm0_made fm0_done fm0_loopCount fm0_tired fm0_waiting am7401 am7402 am7403 am7404 am7405 am7406 am7407 am7408 0)) (cond (cb_eq x7 0) false (cond (cb_lt 9 (cb_add x9 x8)) (cb_let (cb_add x9 1) (fun x9_487 => (im_lawOf_953 x8 n 1 x9_487 fm0_count fm0_known fm0_made fm0_done fm0_loopCount fm0_tired fm0_waiting am7401 am7402 am7403 am7404 am7405 am7406 am7407 am7408))) (im_cell (fun r_488 fm0_count_489 fm0_known_490 fm0_made_491 fm0_done_492 fm0_loopCount_493 fm0_tired_494 fm0_waiting_495 am9771_498 am9772_501 am9773_504 am9774_507 am9775_510 am9776_513 am9777_516 am9778_519 => (cond (cb_eq r_488 (cb_add x9 x8)) (cb_let (cb_add x9 1) (fun x9_522 => (im_lawOf_953 x8 n 1 x9_522 fm0_count_489 fm0_known_490 fm0_made_491 fm0_done_492 fm0_loopCount_493 fm0_tired_494 fm0_waiting_495 am9771_498 am9772_501 am9773_504 am9774_507 am9775_510 am9776_513 am9777_516 am9778_519))) false)) fm0_count fm0_known fm0_made fm0_done fm0_loopCount fm0_tired fm0_waiting am7401 am7402 am7403 am7404 am7405 am7406 am7407 am7408 2))))
theorem sd_lawOf_953 {post : Int32 → St0 → Prop} (hp : post 1 ()) (mc : Nat) (ms : Nat) {y_x8 : Int32} {x8 : Nat} (e_x8 : y_x8 = nI x8) (kc : Nat) (ks : Nat) : ∀ (n x7 x9 fm0_count fm0_known fm0_made fm0_done fm0_loopCount fm0_tired fm0_waiting am7401 am7402 am7403 am7404 am7405 am7406 am7407 am7408 : Nat), im_lawOf_953 x8 n x7 x9 fm0_count fm0_known fm0_made fm0_done fm0_loopCount fm0_tired fm0_waiting am7401 am7402 am7403 am7404 am7405 am7406 am7407 am7408 = true → wL_lawOf_953 post mc ms y_x8 kc ks n (nI x7) (nI x9) (nI fm0_count) (nI fm0_known) (nI fm0_made) (nI fm0_done) (nI fm0_loopCount) (nI fm0_tired) (nI fm0_waiting) (cb_ar am7401) (cb_ar am7402) (cb_ar am7403) (cb_ar am7404) (cb_ar am7405) (cb_ar am7406) (cb_ar am7407) (cb_ar am7408) := by
  subst e_x8
  intro n
  induction n with
  | zero =>
    intro x7 x9 fm0_count fm0_known fm0_made fm0_done fm0_loopCount fm0_tired fm0_waiting am7401 am7402 am7403 am7404 am7405 am7406 am7407 am7408 h
    exact ce_no h
  | succ n ih =>
    intro x7 x9 fm0_count fm0_known fm0_made fm0_done fm0_loopCount fm0_tired fm0_waiting am7401 am7402 am7403 am7404 am7405 am7406 am7407 am7408 h
    unfold im_lawOf_953 at h
    unfold wL_lawOf_953
    refine ce_if (cb_le_iff (rfl : (8 : Int32) = nI 8) rfl) h (fun h => ?_) (fun h => ?_)
    · refine ce_if (cb_eq_iff rfl (rfl : (0 : Int32) = nI 0)) h ce_no (fun h => ?_)
      refine sd_cell (fun r_152 fm0_count_153 fm0_known_154 fm0_made_155 fm0_done_156 fm0_loopCount_157 fm0_tired_158 fm0_waiting_159 am10081_162 am10082_165 am10083_168 am10084_171 am10085_174 am10086_177 am10087_180 am10088_183 h => ?_) fm0_count fm0_known fm0_made fm0_done fm0_loopCount fm0_tired fm0_waiting am7401 am7402 am7403 am7404 am7405 am7406 am7407 am7408 (rfl : (0 : Int32) = nI 0) h
      refine ce_if (cb_eq_iff rfl cb_m2) h (fun h => ?_) ce_no
      refine sd_cell (fun r_185 fm0_count_186 fm0_known_187 fm0_made_188 fm0_done_189 fm0_loopCount_190 fm0_tired_191 fm0_waiting_192 am10181_195 am10182_198 am10183_201 am10184_204 am10185_207 am10186_210 am10187_213 am10188_216 h => ?_) fm0_count_153 fm0_known_154 fm0_made_155 fm0_done_156 fm0_loopCount_157 fm0_tired_158 fm0_waiting_159 am10081_162 am10082_165 am10083_168 am10084_171 am10085_174 am10086_177 am10087_180 am10088_183 (rfl : (3 : Int32) = nI 3) h
      refine ce_if (cb_eq_iff rfl cb_m1) h (fun h => ?_) ce_no
      refine sd_join (fun r_218 fm0_count_219 fm0_known_220 fm0_made_221 fm0_done_222 fm0_loopCount_223 fm0_tired_224 fm0_waiting_225 am10301_228 am10302_231 am10303_234 am10304_237 am10305_240 am10306_243 am10307_246 am10308_249 h => ?_) fm0_count_186 fm0_known_187 fm0_made_188 fm0_done_189 fm0_loopCount_190 fm0_tired_191 fm0_waiting_192 am10181_195 am10182_198 am10183_201 am10184_204 am10185_207 am10186_210 am10187_213 am10188_216 (rfl : (30 : Int32) = nI 30) (rfl : (30 : Int32) = nI 30) h
      refine ce_if (cb_eq_iff rfl cb_m1) h (fun h => ?_) ce_no
      refine sd_join (fun r_251 fm0_count_252 fm0_known_253 fm0_made_254 fm0_done_255 fm0_loopCount_256 fm0_tired_257 fm0_waiting_258 am10411_261 am10412_264 am10413_267 am10414_270 am10415_273 am10416_276 am10417_279 am10418_282 h => ?_) fm0_count_219 fm0_known_220 fm0_made_221 fm0_done_222 fm0_loopCount_223 fm0_tired_224 fm0_waiting_225 am10301_228 am10302_231 am10303_234 am10304_237 am10305_240 am10306_243 am10307_246 am10308_249 (rfl : (34 : Int32) = nI 34) (rfl : (0 : Int32) = nI 0) h
      refine ce_if (cb_eq_iff rfl cb_m1) h (fun h => ?_) ce_no
      refine sd_join (fun r_284 fm0_count_285 fm0_known_286 fm0_made_287 fm0_done_288 fm0_loopCount_289 fm0_tired_290 fm0_waiting_291 am10531_294 am10532_297 am10533_300 am10534_303 am10535_306 am10536_309 am10537_312 am10538_315 h => ?_) fm0_count_252 fm0_known_253 fm0_made_254 fm0_done_255 fm0_loopCount_256 fm0_tired_257 fm0_waiting_258 am10411_261 am10412_264 am10413_267 am10414_270 am10415_273 am10416_276 am10417_279 am10418_282 (rfl : (28 : Int32) = nI 28) (rfl : (30 : Int32) = nI 30) h
      refine ce_if (cb_eq_iff rfl cb_m1) h (fun h => ?_) ce_no
      refine sd_cut (fun r_317 fm0_count_318 fm0_known_319 fm0_made_320 fm0_done_321 fm0_loopCount_322 fm0_tired_323 fm0_waiting_324 am10631_327 am10632_330 am10633_333 am10634_336 am10635_339 am10636_342 am10637_345 am10638_348 h => ?_) fm0_count_285 fm0_known_286 fm0_made_287 fm0_done_288 fm0_loopCount_289 fm0_tired_290 fm0_waiting_291 am10531_294 am10532_297 am10533_300 am10534_303 am10535_306 am10536_309 am10537_312 am10538_315 (rfl : (29 : Int32) = nI 29) h
      refine ce_if (cb_eq_iff rfl cb_m1) h (fun h => ?_) ce_no
      refine sd_left (fun r_350 fm0_count_351 fm0_known_352 fm0_made_353 fm0_done_354 fm0_loopCount_355 fm0_tired_356 fm0_waiting_357 am10721_360 am10722_363 am10723_366 am10724_369 am10725_372 am10726_375 am10727_378 am10728_381 h => ?_) fm0_count_318 fm0_known_319 fm0_made_320 fm0_done_321 fm0_loopCount_322 fm0_tired_323 fm0_waiting_324 am10631_327 am10632_330 am10633_333 am10634_336 am10635_339 am10636_342 am10637_345 am10638_348 (rfl : (3 : Int32) = nI 3) h
      refine ce_if (cb_eq_iff rfl cb_m1) h (fun h => ?_) ce_no
      refine sd_walk (fun r_383 fm0_count_384 fm0_known_385 fm0_made_386 fm0_done_387 fm0_loopCount_388 fm0_tired_389 fm0_waiting_390 am10821_393 am10822_396 am10823_399 am10824_402 am10825_405 am10826_408 am10827_411 am10828_414 h => ?_) fm0_count_351 fm0_known_352 fm0_made_353 fm0_done_354 fm0_loopCount_355 fm0_tired_356 fm0_waiting_357 am10721_360 am10722_363 am10723_366 am10724_369 am10725_372 am10726_375 am10727_378 am10728_381 (rfl : (4 : Int32) = nI 4) (rfl : (0 : Int32) = nI 0) h
      refine ce_if (cb_eq_iff rfl cb_m1) h (fun h => ?_) ce_no
      refine sd_walk (fun r_416 fm0_count_417 fm0_known_418 fm0_made_419 fm0_done_420 fm0_loopCount_421 fm0_tired_422 fm0_waiting_423 am10941_426 am10942_429 am10943_432 am10944_435 am10945_438 am10946_441 am10947_444 am10948_447 h => ?_) fm0_count_384 fm0_known_385 fm0_made_386 fm0_done_387 fm0_loopCount_388 fm0_tired_389 fm0_waiting_390 am10821_393 am10822_396 am10823_399 am10824_402 am10825_405 am10826_408 am10827_411 am10828_414 (rfl : (0 : Int32) = nI 0) (rfl : (4096 : Int32) = nI 4096) h
      refine ce_if (cb_eq_iff rfl cb_m1) h (fun h => ?_) ce_no
      refine sd_reach (fun r_449 fm0_count_450 fm0_known_451 fm0_made_452 fm0_done_453 fm0_loopCount_454 fm0_tired_455 fm0_waiting_456 am11031_459 am11032_462 am11033_465 am11034_468 am11035_471 am11036_474 am11037_477 am11038_480 h => ?_) fm0_count_417 fm0_known_418 fm0_made_419 fm0_done_420 fm0_loopCount_421 fm0_tired_422 fm0_waiting_423 am10941_426 am10942_429 am10943_432 am10944_435 am10945_438 am10946_441 am10947_444 am10948_447 cb_m1 h
      refine ce_if (cb_eq_iff rfl cb_m1) h (fun h => ?_) ce_no
      refine sd_cells (fun r_482 h => ?_) fm0_count_450 fm0_known_451 fm0_made_452 fm0_done_453 fm0_loopCount_454 fm0_tired_455 fm0_waiting_456 am11031_459 am11032_462 am11033_465 am11034_468 am11035_471 am11036_474 am11037_477 am11038_480 h
      refine ce_if (cb_eq_iff rfl (rfl : (10 : Int32) = nI 10)) h (fun h => ?_) ce_no
      exact hp
    · refine ce_if (cb_eq_iff rfl (rfl : (0 : Int32) = nI 0)) h ce_no (fun h => ?_)
      refine ce_if (cb_lt_iff (rfl : (9 : Int32) = nI 9) (cb_hadd rfl rfl)) h (fun h => ?_) (fun h => ?_)
      · refine ce_int (cb_hadd rfl (rfl : (1 : Int32) = nI 1)) h (fun x9_487 h => ?_)
        exact ih 1 x9_487 fm0_count fm0_known fm0_made fm0_done fm0_loopCount fm0_tired fm0_waiting am7401 am7402 am7403 am7404 am7405 am7406 am7407 am7408 h
      · refine sd_cell (fun r_488 fm0_count_489 fm0_known_490 fm0_made_491 fm0_done_492 fm0_loopCount_493 fm0_tired_494 fm0_waiting_495 am9771_498 am9772_501 am9773_504 am9774_507 am9775_510 am9776_513 am9777_516 am9778_519 h => ?_) fm0_count fm0_known fm0_made fm0_done fm0_loopCount fm0_tired fm0_waiting am7401 am7402 am7403 am7404 am7405 am7406 am7407 am7408 (rfl : (2 : Int32) = nI 2) h
        refine ce_if (cb_eq_iff rfl (cb_hadd rfl rfl)) h (fun h => ?_) ce_no
        refine ce_int (cb_hadd rfl (rfl : (1 : Int32) = nI 1)) h (fun x9_522 h => ?_)
        exact ih 1 x9_522 fm0_count_489 fm0_known_490 fm0_made_491 fm0_done_492 fm0_loopCount_493 fm0_tired_494 fm0_waiting_495 am9771_498 am9772_501 am9773_504 am9774_507 am9775_510 am9776_513 am9777_516 am9778_519 h
def im_lawOf_840 (x4 : Nat) (x8 : Nat) : Nat → Nat → Nat → Nat → Nat → Nat → Nat → Nat → Nat → Nat → Nat → Nat → Nat → Nat → Nat → Nat → Nat → Nat → Bool
  | 0 => fun _ _ _ _ _ _ _ _ _ _ _ _ _ _ _ _ _ => false
  | n + 1 => fun x7 x9 fm0_count fm0_known fm0_made fm0_done fm0_loopCount fm0_tired fm0_waiting am7401 am7402 am7403 am7404 am7405 am7406 am7407 am7408 => (cond (cb_le 8 x9) (cond (cb_eq x7 0) false (im_steps (fun r_523 fm0_count_524 fm0_known_525 fm0_made_526 fm0_done_527 fm0_loopCount_528 fm0_tired_529 fm0_waiting_530 am8971_533 am8972_536 am8973_539 am8974_542 am8975_545 am8976_548 am8977_551 am8978_554 => (cond (cb_eq r_523 (cb_sub x8 1)) (im_left (fun r_556 fm0_count_557 fm0_known_558 fm0_made_559 fm0_done_560 fm0_loopCount_561 fm0_tired_562 fm0_waiting_563 am9101_566 am9102_569 am9103_572 am9104_575 am9105_578 am9106_581 am9107_584 am9108_587 => (cond (cb_eq r_556 0) (im_left (fun r_589 fm0_count_590 fm0_known_591 fm0_made_592 fm0_done_593 fm0_loopCount_594 fm0_tired_595 fm0_waiting_596 am9181_599 am9182_602 am9183_605 am9184_608 am9185_611 am9186_614 am9187_617 am9188_620 => (cond (cb_eq r_589 x8) (im_open (fun r_622 fm0_count_623 fm0_known_624 fm0_made_625 fm0_done_626 fm0_loopCount_627 fm0_tired_628 fm0_waiting_629 am9271_632 am9272_635 am9273_638 am9274_641 am9275_644 am9276_647 am9277_650 am9278_653 => (cond (cb_eq r_622 x8) (im_facing (fun r_655 => (cond (cb_eq r_655 1) (im_lawOf_953 x8 60 1 0 fm0_count_623 fm0_known_624 fm0_made_625 fm0_done_626 fm0_loopCount_627 fm0_tired_628 fm0_waiting_629 am9271_632 am9272_635 am9273_638 am9274_641 am9275_644 am9276_647 am9277_650 am9278_653) false)) fm0_count_623 fm0_known_624 fm0_made_625 fm0_done_626 fm0_loopCount_627 fm0_tired_628 fm0_waiting_629 am9271_632 am9272_635 am9273_638 am9274_641 am9275_644 am9276_647 am9277_650 am9278_653) false)) fm0_count_590 fm0_known_591 fm0_made_592 fm0_done_593 fm0_loopCount_594 fm0_tired_595 fm0_waiting_596 am9181_599 am9182_602 am9183_605 am9184_608 am9185_611 am9186_614 am9187_617 am9188_620) false)) fm0_count_557 fm0_known_558 fm0_made_559 fm0_done_560 fm0_loopCount_561 fm0_tired_562 fm0_waiting_563 am9101_566 am9102_569 am9103_572 am9104_575 am9105_578 am9106_581 am9107_584 am9108_587 2) false)) fm0_count_524 fm0_known_525 fm0_made_526 fm0_done_527 fm0_loopCount_528 fm0_tired_529 fm0_waiting_530 am8971_533 am8972_536 am8973_539 am8974_542 am8975_545 am8976_548 am8977_551 am8978_554 x4) false)) fm0_count fm0_known fm0_made fm0_done fm0_loopCount fm0_tired fm0_waiting am7401 am7402 am7403 am7404 am7405 am7406 am7407 am7408)) (cond (cb_eq x7 0) false (cond (cb_le (cb_sub x8 1) x9) (cb_let (cb_add x9 1) (fun x9_660 => (im_lawOf_840 x4 x8 n 1 x9_660 fm0_count fm0_known fm0_made fm0_done fm0_loopCount fm0_tired fm0_waiting am7401 am7402 am7403 am7404 am7405 am7406 am7407 am7408))) (im_join (fun r_661 fm0_count_662 fm0_known_663 fm0_made_664 fm0_done_665 fm0_loopCount_666 fm0_tired_667 fm0_waiting_668 am8721_671 am8722_674 am8723_677 am8724_680 am8725_683 am8726_686 am8727_689 am8728_692 => (cond (cb_eq r_661 0) (cb_let (cb_add x9 1) (fun x9_695 => (im_lawOf_840 x4 x8 n 1 x9_695 fm0_count_662 fm0_known_663 fm0_made_664 fm0_done_665 fm0_loopCount_666 fm0_tired_667 fm0_waiting_668 am8721_671 am8722_674 am8723_677 am8724_680 am8725_683 am8726_686 am8727_689 am8728_692))) false)) fm0_count fm0_known fm0_made fm0_done fm0_loopCount fm0_tired fm0_waiting am7401 am7402 am7403 am7404 am7405 am7406 am7407 am7408 (cb_sub (cb_mul 3 x9) 2) (cb_mul 3 x9)))))
theorem sd_lawOf_840 {post : Int32 → St0 → Prop} (hp : post 1 ()) (mc : Nat) (ms : Nat) {y_x4 : Int32} {x4 : Nat} (e_x4 : y_x4 = nI x4) {y_x8 : Int32} {x8 : Nat} (e_x8 : y_x8 = nI x8) (kc : Nat) (ks : Nat) : ∀ (n x7 x9 fm0_count fm0_known fm0_made fm0_done fm0_loopCount fm0_tired fm0_waiting am7401 am7402 am7403 am7404 am7405 am7406 am7407 am7408 : Nat), im_lawOf_840 x4 x8 n x7 x9 fm0_count fm0_known fm0_made fm0_done fm0_loopCount fm0_tired fm0_waiting am7401 am7402 am7403 am7404 am7405 am7406 am7407 am7408 = true → wL_lawOf_840 post mc ms y_x4 y_x8 kc ks n (nI x7) (nI x9) (nI fm0_count) (nI fm0_known) (nI fm0_made) (nI fm0_done) (nI fm0_loopCount) (nI fm0_tired) (nI fm0_waiting) (cb_ar am7401) (cb_ar am7402) (cb_ar am7403) (cb_ar am7404) (cb_ar am7405) (cb_ar am7406) (cb_ar am7407) (cb_ar am7408) := by
  subst e_x4
  subst e_x8
  intro n
  induction n with
  | zero =>
    intro x7 x9 fm0_count fm0_known fm0_made fm0_done fm0_loopCount fm0_tired fm0_waiting am7401 am7402 am7403 am7404 am7405 am7406 am7407 am7408 h
    exact ce_no h
  | succ n ih =>
    intro x7 x9 fm0_count fm0_known fm0_made fm0_done fm0_loopCount fm0_tired fm0_waiting am7401 am7402 am7403 am7404 am7405 am7406 am7407 am7408 h
    unfold im_lawOf_840 at h
    unfold wL_lawOf_840
    refine ce_if (cb_le_iff (rfl : (8 : Int32) = nI 8) rfl) h (fun h => ?_) (fun h => ?_)
    · refine ce_if (cb_eq_iff rfl (rfl : (0 : Int32) = nI 0)) h ce_no (fun h => ?_)
      refine sd_steps (fun r_523 fm0_count_524 fm0_known_525 fm0_made_526 fm0_done_527 fm0_loopCount_528 fm0_tired_529 fm0_waiting_530 am8971_533 am8972_536 am8973_539 am8974_542 am8975_545 am8976_548 am8977_551 am8978_554 h => ?_) fm0_count fm0_known fm0_made fm0_done fm0_loopCount fm0_tired fm0_waiting am7401 am7402 am7403 am7404 am7405 am7406 am7407 am7408 h
      refine ce_if (cb_eq_iff rfl (cb_hsub rfl (rfl : (1 : Int32) = nI 1))) h (fun h => ?_) ce_no
      refine sd_left (fun r_556 fm0_count_557 fm0_known_558 fm0_made_559 fm0_done_560 fm0_loopCount_561 fm0_tired_562 fm0_waiting_563 am9101_566 am9102_569 am9103_572 am9104_575 am9105_578 am9106_581 am9107_584 am9108_587 h => ?_) fm0_count_524 fm0_known_525 fm0_made_526 fm0_done_527 fm0_loopCount_528 fm0_tired_529 fm0_waiting_530 am8971_533 am8972_536 am8973_539 am8974_542 am8975_545 am8976_548 am8977_551 am8978_554 rfl h
      refine ce_if (cb_eq_iff rfl (rfl : (0 : Int32) = nI 0)) h (fun h => ?_) ce_no
      refine sd_left (fun r_589 fm0_count_590 fm0_known_591 fm0_made_592 fm0_done_593 fm0_loopCount_594 fm0_tired_595 fm0_waiting_596 am9181_599 am9182_602 am9183_605 am9184_608 am9185_611 am9186_614 am9187_617 am9188_620 h => ?_) fm0_count_557 fm0_known_558 fm0_made_559 fm0_done_560 fm0_loopCount_561 fm0_tired_562 fm0_waiting_563 am9101_566 am9102_569 am9103_572 am9104_575 am9105_578 am9106_581 am9107_584 am9108_587 (rfl : (2 : Int32) = nI 2) h
      refine ce_if (cb_eq_iff rfl rfl) h (fun h => ?_) ce_no
      refine sd_open (fun r_622 fm0_count_623 fm0_known_624 fm0_made_625 fm0_done_626 fm0_loopCount_627 fm0_tired_628 fm0_waiting_629 am9271_632 am9272_635 am9273_638 am9274_641 am9275_644 am9276_647 am9277_650 am9278_653 h => ?_) fm0_count_590 fm0_known_591 fm0_made_592 fm0_done_593 fm0_loopCount_594 fm0_tired_595 fm0_waiting_596 am9181_599 am9182_602 am9183_605 am9184_608 am9185_611 am9186_614 am9187_617 am9188_620 h
      refine ce_if (cb_eq_iff rfl rfl) h (fun h => ?_) ce_no
      refine sd_facing (fun r_655 h => ?_) fm0_count_623 fm0_known_624 fm0_made_625 fm0_done_626 fm0_loopCount_627 fm0_tired_628 fm0_waiting_629 am9271_632 am9272_635 am9273_638 am9274_641 am9275_644 am9276_647 am9277_650 am9278_653 h
      refine ce_if (cb_eq_iff rfl (rfl : (1 : Int32) = nI 1)) h (fun h => ?_) ce_no
      refine ⟨60, ?_⟩
      exact sd_lawOf_953 hp _ _ rfl _ _ 60 1 0 fm0_count_623 fm0_known_624 fm0_made_625 fm0_done_626 fm0_loopCount_627 fm0_tired_628 fm0_waiting_629 am9271_632 am9272_635 am9273_638 am9274_641 am9275_644 am9276_647 am9277_650 am9278_653 h
    · refine ce_if (cb_eq_iff rfl (rfl : (0 : Int32) = nI 0)) h ce_no (fun h => ?_)
      refine ce_if (cb_le_iff (cb_hsub rfl (rfl : (1 : Int32) = nI 1)) rfl) h (fun h => ?_) (fun h => ?_)
      · refine ce_int (cb_hadd rfl (rfl : (1 : Int32) = nI 1)) h (fun x9_660 h => ?_)
        exact ih 1 x9_660 fm0_count fm0_known fm0_made fm0_done fm0_loopCount fm0_tired fm0_waiting am7401 am7402 am7403 am7404 am7405 am7406 am7407 am7408 h
      · refine sd_join (fun r_661 fm0_count_662 fm0_known_663 fm0_made_664 fm0_done_665 fm0_loopCount_666 fm0_tired_667 fm0_waiting_668 am8721_671 am8722_674 am8723_677 am8724_680 am8725_683 am8726_686 am8727_689 am8728_692 h => ?_) fm0_count fm0_known fm0_made fm0_done fm0_loopCount fm0_tired fm0_waiting am7401 am7402 am7403 am7404 am7405 am7406 am7407 am7408 (cb_hsub (cb_hmul (rfl : (3 : Int32) = nI 3) rfl) (rfl : (2 : Int32) = nI 2)) (cb_hmul (rfl : (3 : Int32) = nI 3) rfl) h
        refine ce_if (cb_eq_iff rfl (rfl : (0 : Int32) = nI 0)) h (fun h => ?_) ce_no
        refine ce_int (cb_hadd rfl (rfl : (1 : Int32) = nI 1)) h (fun x9_695 h => ?_)
        exact ih 1 x9_695 fm0_count_662 fm0_known_663 fm0_made_664 fm0_done_665 fm0_loopCount_666 fm0_tired_667 fm0_waiting_668 am8721_671 am8722_674 am8723_677 am8724_680 am8725_683 am8726_686 am8727_689 am8728_692 h
def im_lawOf_754 (x4 : Nat) (x8 : Nat) : Nat → Nat → Nat → Nat → Nat → Nat → Nat → Nat → Nat → Nat → Nat → Nat → Nat → Nat → Nat → Nat → Nat → Nat → Bool
  | 0 => fun _ _ _ _ _ _ _ _ _ _ _ _ _ _ _ _ _ => false
  | n + 1 => fun x7 x9 fm0_count fm0_known fm0_made fm0_done fm0_loopCount fm0_tired fm0_waiting am7401 am7402 am7403 am7404 am7405 am7406 am7407 am7408 => (cond (cb_le 8 x9) (cond (cb_eq x7 0) false (im_cell (fun r_696 fm0_count_697 fm0_known_698 fm0_made_699 fm0_done_700 fm0_loopCount_701 fm0_tired_702 fm0_waiting_703 am8061_706 am8062_709 am8063_712 am8064_715 am8065_718 am8066_721 am8067_724 am8068_727 => (cond (cb_eq r_696 (cb_sub x8 1)) (im_join (fun r_729 fm0_count_730 fm0_known_731 fm0_made_732 fm0_done_733 fm0_loopCount_734 fm0_tired_735 fm0_waiting_736 am8241_739 am8242_742 am8243_745 am8244_748 am8245_751 am8246_754 am8247_757 am8248_760 => (cond (cb_eq r_729 0) (im_lawOf_840 x4 x8 60 1 1 fm0_count_730 fm0_known_731 fm0_made_732 fm0_done_733 fm0_loopCount_734 fm0_tired_735 fm0_waiting_736 am8241_739 am8242_742 am8243_745 am8244_748 am8245_751 am8246_754 am8247_757 am8248_760) false)) fm0_count_697 fm0_known_698 fm0_made_699 fm0_done_700 fm0_loopCount_701 fm0_tired_702 fm0_waiting_703 am8061_706 am8062_709 am8063_712 am8064_715 am8065_718 am8066_721 am8067_724 am8068_727 (cb_sub (cb_mul 3 x8) 3) 0) false)) fm0_count fm0_known fm0_made fm0_done fm0_loopCount fm0_tired fm0_waiting am7401 am7402 am7403 am7404 am7405 am7406 am7407 am7408 2)) (cond (cb_eq x7 0) false (cond (cb_le (cb_sub x8 1) x9) (cb_let (cb_add x9 1) (fun x9_765 => (im_lawOf_754 x4 x8 n 1 x9_765 fm0_count fm0_known fm0_made fm0_done fm0_loopCount fm0_tired fm0_waiting am7401 am7402 am7403 am7404 am7405 am7406 am7407 am7408))) (im_cell (fun r_766 fm0_count_767 fm0_known_768 fm0_made_769 fm0_done_770 fm0_loopCount_771 fm0_tired_772 fm0_waiting_773 am7781_776 am7782_779 am7783_782 am7784_785 am7785_788 am7786_791 am7787_794 am7788_797 => (cond (cb_eq r_766 x9) (cb_let (cb_add x9 1) (fun x9_800 => (im_lawOf_754 x4 x8 n 1 x9_800 fm0_count_767 fm0_known_768 fm0_made_769 fm0_done_770 fm0_loopCount_771 fm0_tired_772 fm0_waiting_773 am7781_776 am7782_779 am7783_782 am7784_785 am7785_788 am7786_791 am7787_794 am7788_797))) false)) fm0_count fm0_known fm0_made fm0_done fm0_loopCount fm0_tired fm0_waiting am7401 am7402 am7403 am7404 am7405 am7406 am7407 am7408 x4))))
theorem sd_lawOf_754 {post : Int32 → St0 → Prop} (hp : post 1 ()) (mc : Nat) (ms : Nat) {y_x4 : Int32} {x4 : Nat} (e_x4 : y_x4 = nI x4) {y_x8 : Int32} {x8 : Nat} (e_x8 : y_x8 = nI x8) (kc : Nat) (ks : Nat) : ∀ (n x7 x9 fm0_count fm0_known fm0_made fm0_done fm0_loopCount fm0_tired fm0_waiting am7401 am7402 am7403 am7404 am7405 am7406 am7407 am7408 : Nat), im_lawOf_754 x4 x8 n x7 x9 fm0_count fm0_known fm0_made fm0_done fm0_loopCount fm0_tired fm0_waiting am7401 am7402 am7403 am7404 am7405 am7406 am7407 am7408 = true → wL_lawOf_754 post mc ms y_x4 y_x8 kc ks n (nI x7) (nI x9) (nI fm0_count) (nI fm0_known) (nI fm0_made) (nI fm0_done) (nI fm0_loopCount) (nI fm0_tired) (nI fm0_waiting) (cb_ar am7401) (cb_ar am7402) (cb_ar am7403) (cb_ar am7404) (cb_ar am7405) (cb_ar am7406) (cb_ar am7407) (cb_ar am7408) := by
  subst e_x4
  subst e_x8
  intro n
  induction n with
  | zero =>
    intro x7 x9 fm0_count fm0_known fm0_made fm0_done fm0_loopCount fm0_tired fm0_waiting am7401 am7402 am7403 am7404 am7405 am7406 am7407 am7408 h
    exact ce_no h
  | succ n ih =>
    intro x7 x9 fm0_count fm0_known fm0_made fm0_done fm0_loopCount fm0_tired fm0_waiting am7401 am7402 am7403 am7404 am7405 am7406 am7407 am7408 h
    unfold im_lawOf_754 at h
    unfold wL_lawOf_754
    refine ce_if (cb_le_iff (rfl : (8 : Int32) = nI 8) rfl) h (fun h => ?_) (fun h => ?_)
    · refine ce_if (cb_eq_iff rfl (rfl : (0 : Int32) = nI 0)) h ce_no (fun h => ?_)
      refine sd_cell (fun r_696 fm0_count_697 fm0_known_698 fm0_made_699 fm0_done_700 fm0_loopCount_701 fm0_tired_702 fm0_waiting_703 am8061_706 am8062_709 am8063_712 am8064_715 am8065_718 am8066_721 am8067_724 am8068_727 h => ?_) fm0_count fm0_known fm0_made fm0_done fm0_loopCount fm0_tired fm0_waiting am7401 am7402 am7403 am7404 am7405 am7406 am7407 am7408 (rfl : (2 : Int32) = nI 2) h
      refine ce_if (cb_eq_iff rfl (cb_hsub rfl (rfl : (1 : Int32) = nI 1))) h (fun h => ?_) ce_no
      refine sd_join (fun r_729 fm0_count_730 fm0_known_731 fm0_made_732 fm0_done_733 fm0_loopCount_734 fm0_tired_735 fm0_waiting_736 am8241_739 am8242_742 am8243_745 am8244_748 am8245_751 am8246_754 am8247_757 am8248_760 h => ?_) fm0_count_697 fm0_known_698 fm0_made_699 fm0_done_700 fm0_loopCount_701 fm0_tired_702 fm0_waiting_703 am8061_706 am8062_709 am8063_712 am8064_715 am8065_718 am8066_721 am8067_724 am8068_727 (cb_hsub (cb_hmul (rfl : (3 : Int32) = nI 3) rfl) (rfl : (3 : Int32) = nI 3)) (rfl : (0 : Int32) = nI 0) h
      refine ce_if (cb_eq_iff rfl (rfl : (0 : Int32) = nI 0)) h (fun h => ?_) ce_no
      refine ⟨60, ?_⟩
      exact sd_lawOf_840 hp _ _ rfl rfl _ _ 60 1 1 fm0_count_730 fm0_known_731 fm0_made_732 fm0_done_733 fm0_loopCount_734 fm0_tired_735 fm0_waiting_736 am8241_739 am8242_742 am8243_745 am8244_748 am8245_751 am8246_754 am8247_757 am8248_760 h
    · refine ce_if (cb_eq_iff rfl (rfl : (0 : Int32) = nI 0)) h ce_no (fun h => ?_)
      refine ce_if (cb_le_iff (cb_hsub rfl (rfl : (1 : Int32) = nI 1)) rfl) h (fun h => ?_) (fun h => ?_)
      · refine ce_int (cb_hadd rfl (rfl : (1 : Int32) = nI 1)) h (fun x9_765 h => ?_)
        exact ih 1 x9_765 fm0_count fm0_known fm0_made fm0_done fm0_loopCount fm0_tired fm0_waiting am7401 am7402 am7403 am7404 am7405 am7406 am7407 am7408 h
      · refine sd_cell (fun r_766 fm0_count_767 fm0_known_768 fm0_made_769 fm0_done_770 fm0_loopCount_771 fm0_tired_772 fm0_waiting_773 am7781_776 am7782_779 am7783_782 am7784_785 am7785_788 am7786_791 am7787_794 am7788_797 h => ?_) fm0_count fm0_known fm0_made fm0_done fm0_loopCount fm0_tired fm0_waiting am7401 am7402 am7403 am7404 am7405 am7406 am7407 am7408 rfl h
        refine ce_if (cb_eq_iff rfl rfl) h (fun h => ?_) ce_no
        refine ce_int (cb_hadd rfl (rfl : (1 : Int32) = nI 1)) h (fun x9_800 h => ?_)
        exact ih 1 x9_800 fm0_count_767 fm0_known_768 fm0_made_769 fm0_done_770 fm0_loopCount_771 fm0_tired_772 fm0_waiting_773 am7781_776 am7782_779 am7783_782 am7784_785 am7785_788 am7786_791 am7787_794 am7788_797 h
def im_lawOf_737 (x1 : Nat) (x4 : Nat) (z0 : Nat) (fm0_count : Nat) (fm0_known : Nat) (fm0_made : Nat) (fm0_done : Nat) (fm0_loopCount : Nat) (fm0_tired : Nat) (fm0_waiting : Nat) (am3981 : Nat) (am3982 : Nat) (am3983 : Nat) (am3984 : Nat) (am3985 : Nat) (am3986 : Nat) (am3987 : Nat) (am3988 : Nat) : Bool := (im_clear (fun fm0_count_114 fm0_known_115 fm0_made_116 fm0_done_117 fm0_loopCount_118 fm0_tired_119 fm0_waiting_120 am7401_123 am7402_126 am7403_129 am7404_132 am7405_135 am7406_138 am7407_141 am7408_144 => (cb_let (cb_add 2 x1) (fun x8_145 => (im_lawOf_754 x4 x8_145 60 z0 0 fm0_count_114 fm0_known_115 fm0_made_116 fm0_done_117 fm0_loopCount_118 fm0_tired_119 fm0_waiting_120 am7401_123 am7402_126 am7403_129 am7404_132 am7405_135 am7406_138 am7407_141 am7408_144)))) fm0_count fm0_known fm0_made fm0_done fm0_loopCount fm0_tired fm0_waiting am3981 am3982 am3983 am3984 am3985 am3986 am3987 am3988)
theorem sd_lawOf_737 {post : Int32 → St0 → Prop} (hp : post 1 ()) (mc : Nat) (ms : Nat) {y_x1 : Int32} {x1 : Nat} (e_x1 : y_x1 &&& 7 = nI x1) {y_x4 : Int32} {x4 : Nat} (e_x4 : y_x4 = nI x4) {y_z0 : Int32} {z0 : Nat} (e_z0 : y_z0 = nI z0) (kc : Nat) (ks : Nat) (fm0_count : Nat) (fm0_known : Nat) (fm0_made : Nat) (fm0_done : Nat) (fm0_loopCount : Nat) (fm0_tired : Nat) (fm0_waiting : Nat) (am3981 : Nat) (am3982 : Nat) (am3983 : Nat) (am3984 : Nat) (am3985 : Nat) (am3986 : Nat) (am3987 : Nat) (am3988 : Nat) (h : im_lawOf_737 x1 x4 z0 fm0_count fm0_known fm0_made fm0_done fm0_loopCount fm0_tired fm0_waiting am3981 am3982 am3983 am3984 am3985 am3986 am3987 am3988 = true) : wL_lawOf_737 post mc ms y_x1 y_x4 y_z0 kc ks (nI fm0_count) (nI fm0_known) (nI fm0_made) (nI fm0_done) (nI fm0_loopCount) (nI fm0_tired) (nI fm0_waiting) (cb_ar am3981) (cb_ar am3982) (cb_ar am3983) (cb_ar am3984) (cb_ar am3985) (cb_ar am3986) (cb_ar am3987) (cb_ar am3988) := by
  subst e_x4
  subst e_z0
  unfold im_lawOf_737 at h
  unfold wL_lawOf_737
  refine sd_clear (fun fm0_count_114 fm0_known_115 fm0_made_116 fm0_done_117 fm0_loopCount_118 fm0_tired_119 fm0_waiting_120 am7401_123 am7402_126 am7403_129 am7404_132 am7405_135 am7406_138 am7407_141 am7408_144 h => ?_) fm0_count fm0_known fm0_made fm0_done fm0_loopCount fm0_tired fm0_waiting am3981 am3982 am3983 am3984 am3985 am3986 am3987 am3988 h
  refine ce_int (cb_hadd (rfl : (2 : Int32) = nI 2) e_x1) h (fun x8_145 h => ?_)
  refine ⟨60, ?_⟩
  exact sd_lawOf_754 hp _ _ rfl rfl _ _ 60 z0 0 fm0_count_114 fm0_known_115 fm0_made_116 fm0_done_117 fm0_loopCount_118 fm0_tired_119 fm0_waiting_120 am7401_123 am7402_126 am7403_129 am7404_132 am7405_135 am7406_138 am7407_141 am7408_144 h
def im_lawOf_660 (x1 : Nat) (x4 : Nat) (z0 : Nat) (fm0_count : Nat) (fm0_known : Nat) (fm0_made : Nat) (fm0_done : Nat) (fm0_loopCount : Nat) (fm0_tired : Nat) (fm0_waiting : Nat) (am3981 : Nat) (am3982 : Nat) (am3983 : Nat) (am3984 : Nat) (am3985 : Nat) (am3986 : Nat) (am3987 : Nat) (am3988 : Nat) : Bool := (cond (cb_eq z0 0) false (im_cut (fun r_801 fm0_count_802 fm0_known_803 fm0_made_804 fm0_done_805 fm0_loopCount_806 fm0_tired_807 fm0_waiting_808 am6701_811 am6702_814 am6703_817 am6704_820 am6705_823 am6706_826 am6707_829 am6708_832 => (cond (cb_eq r_801 1) (im_cut (fun r_834 fm0_count_835 fm0_known_836 fm0_made_837 fm0_done_838 fm0_loopCount_839 fm0_tired_840 fm0_waiting_841 am6801_844 am6802_847 am6803_850 am6804_853 am6805_856 am6806_859 am6807_862 am6808_865 => (cond (cb_eq r_834 2) (im_cell (fun r_867 fm0_count_868 fm0_known_869 fm0_made_870 fm0_done_871 fm0_loopCount_872 fm0_tired_873 fm0_waiting_874 am6891_877 am6892_880 am6893_883 am6894_886 am6895_889 am6896_892 am6897_895 am6898_898 => (cond (cb_eq r_867 2) (im_join (fun r_900 fm0_count_901 fm0_known_902 fm0_made_903 fm0_done_904 fm0_loopCount_905 fm0_tired_906 fm0_waiting_907 am7001_910 am7002_913 am7003_916 am7004_919 am7005_922 am7006_925 am7007_928 am7008_931 => (cond (cb_eq r_900 0) (im_steps (fun r_933 fm0_count_934 fm0_known_935 fm0_made_936 fm0_done_937 fm0_loopCount_938 fm0_tired_939 fm0_waiting_940 am7071_943 am7072_946 am7073_949 am7074_952 am7075_955 am7076_958 am7077_961 am7078_964 => (cond (cb_eq r_933 2) (im_left (fun r_966 fm0_count_967 fm0_known_968 fm0_made_969 fm0_done_970 fm0_loopCount_971 fm0_tired_972 fm0_waiting_973 am7161_976 am7162_979 am7163_982 am7164_985 am7165_988 am7166_991 am7167_994 am7168_997 => (cond (cb_eq r_966 2) (im_left (fun r_999 fm0_count_1000 fm0_known_1001 fm0_made_1002 fm0_done_1003 fm0_loopCount_1004 fm0_tired_1005 fm0_waiting_1006 am7251_1009 am7252_1012 am7253_1015 am7254_1018 am7255_1021 am7256_1024 am7257_1027 am7258_1030 => (cond (cb_eq r_999 1) (im_lawOf_737 x1 x4 1 fm0_count_1000 fm0_known_1001 fm0_made_1002 fm0_done_1003 fm0_loopCount_1004 fm0_tired_1005 fm0_waiting_1006 am7251_1009 am7252_1012 am7253_1015 am7254_1018 am7255_1021 am7256_1024 am7257_1027 am7258_1030) false)) fm0_count_967 fm0_known_968 fm0_made_969 fm0_done_970 fm0_loopCount_971 fm0_tired_972 fm0_waiting_973 am7161_976 am7162_979 am7163_982 am7164_985 am7165_988 am7166_991 am7167_994 am7168_997 1) false)) fm0_count_934 fm0_known_935 fm0_made_936 fm0_done_937 fm0_loopCount_938 fm0_tired_939 fm0_waiting_940 am7071_943 am7072_946 am7073_949 am7074_952 am7075_955 am7076_958 am7077_961 am7078_964 2) false)) fm0_count_901 fm0_known_902 fm0_made_903 fm0_done_904 fm0_loopCount_905 fm0_tired_906 fm0_waiting_907 am7001_910 am7002_913 am7003_916 am7004_919 am7005_922 am7006_925 am7007_928 am7008_931) false)) fm0_count_868 fm0_known_869 fm0_made_870 fm0_done_871 fm0_loopCount_872 fm0_tired_873 fm0_waiting_874 am6891_877 am6892_880 am6893_883 am6894_886 am6895_889 am6896_892 am6897_895 am6898_898 6 1) false)) fm0_count_835 fm0_known_836 fm0_made_837 fm0_done_838 fm0_loopCount_839 fm0_tired_840 fm0_waiting_841 am6801_844 am6802_847 am6803_850 am6804_853 am6805_856 am6806_859 am6807_862 am6808_865 2) false)) fm0_count_802 fm0_known_803 fm0_made_804 fm0_done_805 fm0_loopCount_806 fm0_tired_807 fm0_waiting_808 am6701_811 am6702_814 am6703_817 am6704_820 am6705_823 am6706_826 am6707_829 am6708_832 31) false)) fm0_count fm0_known fm0_made fm0_done fm0_loopCount fm0_tired fm0_waiting am3981 am3982 am3983 am3984 am3985 am3986 am3987 am3988 30))
theorem sd_lawOf_660 {post : Int32 → St0 → Prop} (hp : post 1 ()) (mc : Nat) (ms : Nat) {y_x1 : Int32} {x1 : Nat} (e_x1 : y_x1 &&& 7 = nI x1) {y_x4 : Int32} {x4 : Nat} (e_x4 : y_x4 = nI x4) {y_z0 : Int32} {z0 : Nat} (e_z0 : y_z0 = nI z0) (kc : Nat) (ks : Nat) (fm0_count : Nat) (fm0_known : Nat) (fm0_made : Nat) (fm0_done : Nat) (fm0_loopCount : Nat) (fm0_tired : Nat) (fm0_waiting : Nat) (am3981 : Nat) (am3982 : Nat) (am3983 : Nat) (am3984 : Nat) (am3985 : Nat) (am3986 : Nat) (am3987 : Nat) (am3988 : Nat) (h : im_lawOf_660 x1 x4 z0 fm0_count fm0_known fm0_made fm0_done fm0_loopCount fm0_tired fm0_waiting am3981 am3982 am3983 am3984 am3985 am3986 am3987 am3988 = true) : wL_lawOf_660 post mc ms y_x1 y_x4 y_z0 kc ks (nI fm0_count) (nI fm0_known) (nI fm0_made) (nI fm0_done) (nI fm0_loopCount) (nI fm0_tired) (nI fm0_waiting) (cb_ar am3981) (cb_ar am3982) (cb_ar am3983) (cb_ar am3984) (cb_ar am3985) (cb_ar am3986) (cb_ar am3987) (cb_ar am3988) := by
  subst e_x4
  subst e_z0
  unfold im_lawOf_660 at h
  unfold wL_lawOf_660
  refine ce_if (cb_eq_iff rfl (rfl : (0 : Int32) = nI 0)) h ce_no (fun h => ?_)
  refine sd_cut (fun r_801 fm0_count_802 fm0_known_803 fm0_made_804 fm0_done_805 fm0_loopCount_806 fm0_tired_807 fm0_waiting_808 am6701_811 am6702_814 am6703_817 am6704_820 am6705_823 am6706_826 am6707_829 am6708_832 h => ?_) fm0_count fm0_known fm0_made fm0_done fm0_loopCount fm0_tired fm0_waiting am3981 am3982 am3983 am3984 am3985 am3986 am3987 am3988 (rfl : (30 : Int32) = nI 30) h
  refine ce_if (cb_eq_iff rfl (rfl : (1 : Int32) = nI 1)) h (fun h => ?_) ce_no
  refine sd_cut (fun r_834 fm0_count_835 fm0_known_836 fm0_made_837 fm0_done_838 fm0_loopCount_839 fm0_tired_840 fm0_waiting_841 am6801_844 am6802_847 am6803_850 am6804_853 am6805_856 am6806_859 am6807_862 am6808_865 h => ?_) fm0_count_802 fm0_known_803 fm0_made_804 fm0_done_805 fm0_loopCount_806 fm0_tired_807 fm0_waiting_808 am6701_811 am6702_814 am6703_817 am6704_820 am6705_823 am6706_826 am6707_829 am6708_832 (rfl : (31 : Int32) = nI 31) h
  refine ce_if (cb_eq_iff rfl (rfl : (2 : Int32) = nI 2)) h (fun h => ?_) ce_no
  refine sd_cell (fun r_867 fm0_count_868 fm0_known_869 fm0_made_870 fm0_done_871 fm0_loopCount_872 fm0_tired_873 fm0_waiting_874 am6891_877 am6892_880 am6893_883 am6894_886 am6895_889 am6896_892 am6897_895 am6898_898 h => ?_) fm0_count_835 fm0_known_836 fm0_made_837 fm0_done_838 fm0_loopCount_839 fm0_tired_840 fm0_waiting_841 am6801_844 am6802_847 am6803_850 am6804_853 am6805_856 am6806_859 am6807_862 am6808_865 (rfl : (2 : Int32) = nI 2) h
  refine ce_if (cb_eq_iff rfl (rfl : (2 : Int32) = nI 2)) h (fun h => ?_) ce_no
  refine sd_join (fun r_900 fm0_count_901 fm0_known_902 fm0_made_903 fm0_done_904 fm0_loopCount_905 fm0_tired_906 fm0_waiting_907 am7001_910 am7002_913 am7003_916 am7004_919 am7005_922 am7006_925 am7007_928 am7008_931 h => ?_) fm0_count_868 fm0_known_869 fm0_made_870 fm0_done_871 fm0_loopCount_872 fm0_tired_873 fm0_waiting_874 am6891_877 am6892_880 am6893_883 am6894_886 am6895_889 am6896_892 am6897_895 am6898_898 (rfl : (6 : Int32) = nI 6) (rfl : (1 : Int32) = nI 1) h
  refine ce_if (cb_eq_iff rfl (rfl : (0 : Int32) = nI 0)) h (fun h => ?_) ce_no
  refine sd_steps (fun r_933 fm0_count_934 fm0_known_935 fm0_made_936 fm0_done_937 fm0_loopCount_938 fm0_tired_939 fm0_waiting_940 am7071_943 am7072_946 am7073_949 am7074_952 am7075_955 am7076_958 am7077_961 am7078_964 h => ?_) fm0_count_901 fm0_known_902 fm0_made_903 fm0_done_904 fm0_loopCount_905 fm0_tired_906 fm0_waiting_907 am7001_910 am7002_913 am7003_916 am7004_919 am7005_922 am7006_925 am7007_928 am7008_931 h
  refine ce_if (cb_eq_iff rfl (rfl : (2 : Int32) = nI 2)) h (fun h => ?_) ce_no
  refine sd_left (fun r_966 fm0_count_967 fm0_known_968 fm0_made_969 fm0_done_970 fm0_loopCount_971 fm0_tired_972 fm0_waiting_973 am7161_976 am7162_979 am7163_982 am7164_985 am7165_988 am7166_991 am7167_994 am7168_997 h => ?_) fm0_count_934 fm0_known_935 fm0_made_936 fm0_done_937 fm0_loopCount_938 fm0_tired_939 fm0_waiting_940 am7071_943 am7072_946 am7073_949 am7074_952 am7075_955 am7076_958 am7077_961 am7078_964 (rfl : (2 : Int32) = nI 2) h
  refine ce_if (cb_eq_iff rfl (rfl : (2 : Int32) = nI 2)) h (fun h => ?_) ce_no
  refine sd_left (fun r_999 fm0_count_1000 fm0_known_1001 fm0_made_1002 fm0_done_1003 fm0_loopCount_1004 fm0_tired_1005 fm0_waiting_1006 am7251_1009 am7252_1012 am7253_1015 am7254_1018 am7255_1021 am7256_1024 am7257_1027 am7258_1030 h => ?_) fm0_count_967 fm0_known_968 fm0_made_969 fm0_done_970 fm0_loopCount_971 fm0_tired_972 fm0_waiting_973 am7161_976 am7162_979 am7163_982 am7164_985 am7165_988 am7166_991 am7167_994 am7168_997 (rfl : (1 : Int32) = nI 1) h
  refine ce_if (cb_eq_iff rfl (rfl : (1 : Int32) = nI 1)) h (fun h => ?_) ce_no
  exact sd_lawOf_737 hp _ _ e_x1 rfl (rfl : (1 : Int32) = nI 1) _ _ fm0_count_1000 fm0_known_1001 fm0_made_1002 fm0_done_1003 fm0_loopCount_1004 fm0_tired_1005 fm0_waiting_1006 am7251_1009 am7252_1012 am7253_1015 am7254_1018 am7255_1021 am7256_1024 am7257_1027 am7258_1030 h
def im_lawOf_484 (x1 : Nat) (x4 : Nat) (z0 : Nat) (fm0_count : Nat) (fm0_known : Nat) (fm0_made : Nat) (fm0_done : Nat) (fm0_loopCount : Nat) (fm0_tired : Nat) (fm0_waiting : Nat) (am3981 : Nat) (am3982 : Nat) (am3983 : Nat) (am3984 : Nat) (am3985 : Nat) (am3986 : Nat) (am3987 : Nat) (am3988 : Nat) : Bool := (cond (cb_eq z0 0) false (im_steps (fun r_1032 fm0_count_1033 fm0_known_1034 fm0_made_1035 fm0_done_1036 fm0_loopCount_1037 fm0_tired_1038 fm0_waiting_1039 am4921_1042 am4922_1045 am4923_1048 am4924_1051 am4925_1054 am4926_1057 am4927_1060 am4928_1063 => (cond (cb_eq r_1032 1) (im_left (fun r_1065 fm0_count_1066 fm0_known_1067 fm0_made_1068 fm0_done_1069 fm0_loopCount_1070 fm0_tired_1071 fm0_waiting_1072 am5011_1075 am5012_1078 am5013_1081 am5014_1084 am5015_1087 am5016_1090 am5017_1093 am5018_1096 => (cond (cb_eq r_1065 2) (im_left (fun r_1098 fm0_count_1099 fm0_known_1100 fm0_made_1101 fm0_done_1102 fm0_loopCount_1103 fm0_tired_1104 fm0_waiting_1105 am5101_1108 am5102_1111 am5103_1114 am5104_1117 am5105_1120 am5106_1123 am5107_1126 am5108_1129 => (cond (cb_eq r_1098 2) (im_open (fun r_1131 fm0_count_1132 fm0_known_1133 fm0_made_1134 fm0_done_1135 fm0_loopCount_1136 fm0_tired_1137 fm0_waiting_1138 am5181_1141 am5182_1144 am5183_1147 am5184_1150 am5185_1153 am5186_1156 am5187_1159 am5188_1162 => (cond (cb_eq r_1131 0) (im_walk (fun r_1164 fm0_count_1165 fm0_known_1166 fm0_made_1167 fm0_done_1168 fm0_loopCount_1169 fm0_tired_1170 fm0_waiting_1171 am5271_1174 am5272_1177 am5273_1180 am5274_1183 am5275_1186 am5276_1189 am5277_1192 am5278_1195 => (cond (cb_eq r_1164 3) (im_walk (fun r_1197 fm0_count_1198 fm0_known_1199 fm0_made_1200 fm0_done_1201 fm0_loopCount_1202 fm0_tired_1203 fm0_waiting_1204 am5371_1207 am5372_1210 am5373_1213 am5374_1216 am5375_1219 am5376_1222 am5377_1225 am5378_1228 => (cond (cb_eq r_1197 3) (im_walk (fun r_1230 fm0_count_1231 fm0_known_1232 fm0_made_1233 fm0_done_1234 fm0_loopCount_1235 fm0_tired_1236 fm0_waiting_1237 am5471_1240 am5472_1243 am5473_1246 am5474_1249 am5475_1252 am5476_1255 am5477_1258 am5478_1261 => (cond (cb_eq r_1230 0) (im_walk (fun r_1263 fm0_count_1264 fm0_known_1265 fm0_made_1266 fm0_done_1267 fm0_loopCount_1268 fm0_tired_1269 fm0_waiting_1270 am5561_1273 am5562_1276 am5563_1279 am5564_1282 am5565_1285 am5566_1288 am5567_1291 am5568_1294 => (cond (cb_eq r_1263 0) (im_walk (fun r_1296 fm0_count_1297 fm0_known_1298 fm0_made_1299 fm0_done_1300 fm0_loopCount_1301 fm0_tired_1302 fm0_waiting_1303 am5651_1306 am5652_1309 am5653_1312 am5654_1315 am5655_1318 am5656_1321 am5657_1324 am5658_1327 => (cond (cb_eq r_1296 1) (im_walk (fun r_1329 fm0_count_1330 fm0_known_1331 fm0_made_1332 fm0_done_1333 fm0_loopCount_1334 fm0_tired_1335 fm0_waiting_1336 am5751_1339 am5752_1342 am5753_1345 am5754_1348 am5755_1351 am5756_1354 am5757_1357 am5758_1360 => (cond (cb_eq r_1329 5) (im_walk (fun r_1362 fm0_count_1363 fm0_known_1364 fm0_made_1365 fm0_done_1366 fm0_loopCount_1367 fm0_tired_1368 fm0_waiting_1369 am5851_1372 am5852_1375 am5853_1378 am5854_1381 am5855_1384 am5856_1387 am5857_1390 am5858_1393 => (cond (cb_eq r_1362 2) (im_walk (fun r_1395 fm0_count_1396 fm0_known_1397 fm0_made_1398 fm0_done_1399 fm0_loopCount_1400 fm0_tired_1401 fm0_waiting_1402 am5951_1405 am5952_1408 am5953_1411 am5954_1414 am5955_1417 am5956_1420 am5957_1423 am5958_1426 => (cond (cb_eq r_1395 13) (im_walk (fun r_1428 fm0_count_1429 fm0_known_1430 fm0_made_1431 fm0_done_1432 fm0_loopCount_1433 fm0_tired_1434 fm0_waiting_1435 am6061_1438 am6062_1441 am6063_1444 am6064_1447 am6065_1450 am6066_1453 am6067_1456 am6068_1459 => (cond (cb_eq r_1428 4) (im_walk (fun r_1461 fm0_count_1462 fm0_known_1463 fm0_made_1464 fm0_done_1465 fm0_loopCount_1466 fm0_tired_1467 fm0_waiting_1468 am6161_1471 am6162_1474 am6163_1477 am6164_1480 am6165_1483 am6166_1486 am6167_1489 am6168_1492 => (cond (cb_eq r_1461 11) (im_reach (fun r_1494 fm0_count_1495 fm0_known_1496 fm0_made_1497 fm0_done_1498 fm0_loopCount_1499 fm0_tired_1500 fm0_waiting_1501 am6261_1504 am6262_1507 am6263_1510 am6264_1513 am6265_1516 am6266_1519 am6267_1522 am6268_1525 => (cond (cb_eq r_1494 4) (im_walk (fun r_1527 fm0_count_1528 fm0_known_1529 fm0_made_1530 fm0_done_1531 fm0_loopCount_1532 fm0_tired_1533 fm0_waiting_1534 am6361_1537 am6362_1540 am6363_1543 am6364_1546 am6365_1549 am6366_1552 am6367_1555 am6368_1558 => (cond (cb_eq r_1527 12) (im_walk (fun r_1560 fm0_count_1561 fm0_known_1562 fm0_made_1563 fm0_done_1564 fm0_loopCount_1565 fm0_tired_1566 fm0_waiting_1567 am6471_1570 am6472_1573 am6473_1576 am6474_1579 am6475_1582 am6476_1585 am6477_1588 am6478_1591 => (cond (cb_eq r_1560 13) (im_lawOf_660 x1 x4 1 fm0_count_1561 fm0_known_1562 fm0_made_1563 fm0_done_1564 fm0_loopCount_1565 fm0_tired_1566 fm0_waiting_1567 am6471_1570 am6472_1573 am6473_1576 am6474_1579 am6475_1582 am6476_1585 am6477_1588 am6478_1591) false)) fm0_count_1528 fm0_known_1529 fm0_made_1530 fm0_done_1531 fm0_loopCount_1532 fm0_tired_1533 fm0_waiting_1534 am6361_1537 am6362_1540 am6363_1543 am6364_1546 am6365_1549 am6366_1552 am6367_1555 am6368_1558 0 4) false)) fm0_count_1495 fm0_known_1496 fm0_made_1497 fm0_done_1498 fm0_loopCount_1499 fm0_tired_1500 fm0_waiting_1501 am6261_1504 am6262_1507 am6263_1510 am6264_1513 am6265_1516 am6266_1519 am6267_1522 am6268_1525 0 5) false)) fm0_count_1462 fm0_known_1463 fm0_made_1464 fm0_done_1465 fm0_loopCount_1466 fm0_tired_1467 fm0_waiting_1468 am6161_1471 am6162_1474 am6163_1477 am6164_1480 am6165_1483 am6166_1486 am6167_1489 am6168_1492 0) false)) fm0_count_1429 fm0_known_1430 fm0_made_1431 fm0_done_1432 fm0_loopCount_1433 fm0_tired_1434 fm0_waiting_1435 am6061_1438 am6062_1441 am6063_1444 am6064_1447 am6065_1450 am6066_1453 am6067_1456 am6068_1459 3 2) false)) fm0_count_1396 fm0_known_1397 fm0_made_1398 fm0_done_1399 fm0_loopCount_1400 fm0_tired_1401 fm0_waiting_1402 am5951_1405 am5952_1408 am5953_1411 am5954_1414 am5955_1417 am5956_1420 am5957_1423 am5958_1426 2 1) false)) fm0_count_1363 fm0_known_1364 fm0_made_1365 fm0_done_1366 fm0_loopCount_1367 fm0_tired_1368 fm0_waiting_1369 am5851_1372 am5852_1375 am5853_1378 am5854_1381 am5855_1384 am5856_1387 am5857_1390 am5858_1393 1 2) false)) fm0_count_1330 fm0_known_1331 fm0_made_1332 fm0_done_1333 fm0_loopCount_1334 fm0_tired_1335 fm0_waiting_1336 am5751_1339 am5752_1342 am5753_1345 am5754_1348 am5755_1351 am5756_1354 am5757_1357 am5758_1360 1 1) false)) fm0_count_1297 fm0_known_1298 fm0_made_1299 fm0_done_1300 fm0_loopCount_1301 fm0_tired_1302 fm0_waiting_1303 am5651_1306 am5652_1309 am5653_1312 am5654_1315 am5655_1318 am5656_1321 am5657_1324 am5658_1327 0 2) false)) fm0_count_1264 fm0_known_1265 fm0_made_1266 fm0_done_1267 fm0_loopCount_1268 fm0_tired_1269 fm0_waiting_1270 am5561_1273 am5562_1276 am5563_1279 am5564_1282 am5565_1285 am5566_1288 am5567_1291 am5568_1294 0 1) false)) fm0_count_1231 fm0_known_1232 fm0_made_1233 fm0_done_1234 fm0_loopCount_1235 fm0_tired_1236 fm0_waiting_1237 am5471_1240 am5472_1243 am5473_1246 am5474_1249 am5475_1252 am5476_1255 am5477_1258 am5478_1261 3 0) false)) fm0_count_1198 fm0_known_1199 fm0_made_1200 fm0_done_1201 fm0_loopCount_1202 fm0_tired_1203 fm0_waiting_1204 am5371_1207 am5372_1210 am5373_1213 am5374_1216 am5375_1219 am5376_1222 am5377_1225 am5378_1228 2 0) false)) fm0_count_1165 fm0_known_1166 fm0_made_1167 fm0_done_1168 fm0_loopCount_1169 fm0_tired_1170 fm0_waiting_1171 am5271_1174 am5272_1177 am5273_1180 am5274_1183 am5275_1186 am5276_1189 am5277_1192 am5278_1195 1 0) false)) fm0_count_1132 fm0_known_1133 fm0_made_1134 fm0_done_1135 fm0_loopCount_1136 fm0_tired_1137 fm0_waiting_1138 am5181_1141 am5182_1144 am5183_1147 am5184_1150 am5185_1153 am5186_1156 am5187_1159 am5188_1162 0 0) false)) fm0_count_1099 fm0_known_1100 fm0_made_1101 fm0_done_1102 fm0_loopCount_1103 fm0_tired_1104 fm0_waiting_1105 am5101_1108 am5102_1111 am5103_1114 am5104_1117 am5105_1120 am5106_1123 am5107_1126 am5108_1129) false)) fm0_count_1066 fm0_known_1067 fm0_made_1068 fm0_done_1069 fm0_loopCount_1070 fm0_tired_1071 fm0_waiting_1072 am5011_1075 am5012_1078 am5013_1081 am5014_1084 am5015_1087 am5016_1090 am5017_1093 am5018_1096 1) false)) fm0_count_1033 fm0_known_1034 fm0_made_1035 fm0_done_1036 fm0_loopCount_1037 fm0_tired_1038 fm0_waiting_1039 am4921_1042 am4922_1045 am4923_1048 am4924_1051 am4925_1054 am4926_1057 am4927_1060 am4928_1063 0) false)) fm0_count fm0_known fm0_made fm0_done fm0_loopCount fm0_tired fm0_waiting am3981 am3982 am3983 am3984 am3985 am3986 am3987 am3988))
theorem sd_lawOf_484 {post : Int32 → St0 → Prop} (hp : post 1 ()) (mc : Nat) (ms : Nat) {y_x1 : Int32} {x1 : Nat} (e_x1 : y_x1 &&& 7 = nI x1) {y_x4 : Int32} {x4 : Nat} (e_x4 : y_x4 = nI x4) {y_z0 : Int32} {z0 : Nat} (e_z0 : y_z0 = nI z0) (kc : Nat) (ks : Nat) (fm0_count : Nat) (fm0_known : Nat) (fm0_made : Nat) (fm0_done : Nat) (fm0_loopCount : Nat) (fm0_tired : Nat) (fm0_waiting : Nat) (am3981 : Nat) (am3982 : Nat) (am3983 : Nat) (am3984 : Nat) (am3985 : Nat) (am3986 : Nat) (am3987 : Nat) (am3988 : Nat) (h : im_lawOf_484 x1 x4 z0 fm0_count fm0_known fm0_made fm0_done fm0_loopCount fm0_tired fm0_waiting am3981 am3982 am3983 am3984 am3985 am3986 am3987 am3988 = true) : wL_lawOf_484 post mc ms y_x1 y_x4 y_z0 kc ks (nI fm0_count) (nI fm0_known) (nI fm0_made) (nI fm0_done) (nI fm0_loopCount) (nI fm0_tired) (nI fm0_waiting) (cb_ar am3981) (cb_ar am3982) (cb_ar am3983) (cb_ar am3984) (cb_ar am3985) (cb_ar am3986) (cb_ar am3987) (cb_ar am3988) := by
  subst e_x4
  subst e_z0
  unfold im_lawOf_484 at h
  unfold wL_lawOf_484
  refine ce_if (cb_eq_iff rfl (rfl : (0 : Int32) = nI 0)) h ce_no (fun h => ?_)
  refine sd_steps (fun r_1032 fm0_count_1033 fm0_known_1034 fm0_made_1035 fm0_done_1036 fm0_loopCount_1037 fm0_tired_1038 fm0_waiting_1039 am4921_1042 am4922_1045 am4923_1048 am4924_1051 am4925_1054 am4926_1057 am4927_1060 am4928_1063 h => ?_) fm0_count fm0_known fm0_made fm0_done fm0_loopCount fm0_tired fm0_waiting am3981 am3982 am3983 am3984 am3985 am3986 am3987 am3988 h
  refine ce_if (cb_eq_iff rfl (rfl : (1 : Int32) = nI 1)) h (fun h => ?_) ce_no
  refine sd_left (fun r_1065 fm0_count_1066 fm0_known_1067 fm0_made_1068 fm0_done_1069 fm0_loopCount_1070 fm0_tired_1071 fm0_waiting_1072 am5011_1075 am5012_1078 am5013_1081 am5014_1084 am5015_1087 am5016_1090 am5017_1093 am5018_1096 h => ?_) fm0_count_1033 fm0_known_1034 fm0_made_1035 fm0_done_1036 fm0_loopCount_1037 fm0_tired_1038 fm0_waiting_1039 am4921_1042 am4922_1045 am4923_1048 am4924_1051 am4925_1054 am4926_1057 am4927_1060 am4928_1063 (rfl : (0 : Int32) = nI 0) h
  refine ce_if (cb_eq_iff rfl (rfl : (2 : Int32) = nI 2)) h (fun h => ?_) ce_no
  refine sd_left (fun r_1098 fm0_count_1099 fm0_known_1100 fm0_made_1101 fm0_done_1102 fm0_loopCount_1103 fm0_tired_1104 fm0_waiting_1105 am5101_1108 am5102_1111 am5103_1114 am5104_1117 am5105_1120 am5106_1123 am5107_1126 am5108_1129 h => ?_) fm0_count_1066 fm0_known_1067 fm0_made_1068 fm0_done_1069 fm0_loopCount_1070 fm0_tired_1071 fm0_waiting_1072 am5011_1075 am5012_1078 am5013_1081 am5014_1084 am5015_1087 am5016_1090 am5017_1093 am5018_1096 (rfl : (1 : Int32) = nI 1) h
  refine ce_if (cb_eq_iff rfl (rfl : (2 : Int32) = nI 2)) h (fun h => ?_) ce_no
  refine sd_open (fun r_1131 fm0_count_1132 fm0_known_1133 fm0_made_1134 fm0_done_1135 fm0_loopCount_1136 fm0_tired_1137 fm0_waiting_1138 am5181_1141 am5182_1144 am5183_1147 am5184_1150 am5185_1153 am5186_1156 am5187_1159 am5188_1162 h => ?_) fm0_count_1099 fm0_known_1100 fm0_made_1101 fm0_done_1102 fm0_loopCount_1103 fm0_tired_1104 fm0_waiting_1105 am5101_1108 am5102_1111 am5103_1114 am5104_1117 am5105_1120 am5106_1123 am5107_1126 am5108_1129 h
  refine ce_if (cb_eq_iff rfl (rfl : (0 : Int32) = nI 0)) h (fun h => ?_) ce_no
  refine sd_walk (fun r_1164 fm0_count_1165 fm0_known_1166 fm0_made_1167 fm0_done_1168 fm0_loopCount_1169 fm0_tired_1170 fm0_waiting_1171 am5271_1174 am5272_1177 am5273_1180 am5274_1183 am5275_1186 am5276_1189 am5277_1192 am5278_1195 h => ?_) fm0_count_1132 fm0_known_1133 fm0_made_1134 fm0_done_1135 fm0_loopCount_1136 fm0_tired_1137 fm0_waiting_1138 am5181_1141 am5182_1144 am5183_1147 am5184_1150 am5185_1153 am5186_1156 am5187_1159 am5188_1162 (rfl : (0 : Int32) = nI 0) (rfl : (0 : Int32) = nI 0) h
  refine ce_if (cb_eq_iff rfl (rfl : (3 : Int32) = nI 3)) h (fun h => ?_) ce_no
  refine sd_walk (fun r_1197 fm0_count_1198 fm0_known_1199 fm0_made_1200 fm0_done_1201 fm0_loopCount_1202 fm0_tired_1203 fm0_waiting_1204 am5371_1207 am5372_1210 am5373_1213 am5374_1216 am5375_1219 am5376_1222 am5377_1225 am5378_1228 h => ?_) fm0_count_1165 fm0_known_1166 fm0_made_1167 fm0_done_1168 fm0_loopCount_1169 fm0_tired_1170 fm0_waiting_1171 am5271_1174 am5272_1177 am5273_1180 am5274_1183 am5275_1186 am5276_1189 am5277_1192 am5278_1195 (rfl : (1 : Int32) = nI 1) (rfl : (0 : Int32) = nI 0) h
  refine ce_if (cb_eq_iff rfl (rfl : (3 : Int32) = nI 3)) h (fun h => ?_) ce_no
  refine sd_walk (fun r_1230 fm0_count_1231 fm0_known_1232 fm0_made_1233 fm0_done_1234 fm0_loopCount_1235 fm0_tired_1236 fm0_waiting_1237 am5471_1240 am5472_1243 am5473_1246 am5474_1249 am5475_1252 am5476_1255 am5477_1258 am5478_1261 h => ?_) fm0_count_1198 fm0_known_1199 fm0_made_1200 fm0_done_1201 fm0_loopCount_1202 fm0_tired_1203 fm0_waiting_1204 am5371_1207 am5372_1210 am5373_1213 am5374_1216 am5375_1219 am5376_1222 am5377_1225 am5378_1228 (rfl : (2 : Int32) = nI 2) (rfl : (0 : Int32) = nI 0) h
  refine ce_if (cb_eq_iff rfl (rfl : (0 : Int32) = nI 0)) h (fun h => ?_) ce_no
  refine sd_walk (fun r_1263 fm0_count_1264 fm0_known_1265 fm0_made_1266 fm0_done_1267 fm0_loopCount_1268 fm0_tired_1269 fm0_waiting_1270 am5561_1273 am5562_1276 am5563_1279 am5564_1282 am5565_1285 am5566_1288 am5567_1291 am5568_1294 h => ?_) fm0_count_1231 fm0_known_1232 fm0_made_1233 fm0_done_1234 fm0_loopCount_1235 fm0_tired_1236 fm0_waiting_1237 am5471_1240 am5472_1243 am5473_1246 am5474_1249 am5475_1252 am5476_1255 am5477_1258 am5478_1261 (rfl : (3 : Int32) = nI 3) (rfl : (0 : Int32) = nI 0) h
  refine ce_if (cb_eq_iff rfl (rfl : (0 : Int32) = nI 0)) h (fun h => ?_) ce_no
  refine sd_walk (fun r_1296 fm0_count_1297 fm0_known_1298 fm0_made_1299 fm0_done_1300 fm0_loopCount_1301 fm0_tired_1302 fm0_waiting_1303 am5651_1306 am5652_1309 am5653_1312 am5654_1315 am5655_1318 am5656_1321 am5657_1324 am5658_1327 h => ?_) fm0_count_1264 fm0_known_1265 fm0_made_1266 fm0_done_1267 fm0_loopCount_1268 fm0_tired_1269 fm0_waiting_1270 am5561_1273 am5562_1276 am5563_1279 am5564_1282 am5565_1285 am5566_1288 am5567_1291 am5568_1294 (rfl : (0 : Int32) = nI 0) (rfl : (1 : Int32) = nI 1) h
  refine ce_if (cb_eq_iff rfl (rfl : (1 : Int32) = nI 1)) h (fun h => ?_) ce_no
  refine sd_walk (fun r_1329 fm0_count_1330 fm0_known_1331 fm0_made_1332 fm0_done_1333 fm0_loopCount_1334 fm0_tired_1335 fm0_waiting_1336 am5751_1339 am5752_1342 am5753_1345 am5754_1348 am5755_1351 am5756_1354 am5757_1357 am5758_1360 h => ?_) fm0_count_1297 fm0_known_1298 fm0_made_1299 fm0_done_1300 fm0_loopCount_1301 fm0_tired_1302 fm0_waiting_1303 am5651_1306 am5652_1309 am5653_1312 am5654_1315 am5655_1318 am5656_1321 am5657_1324 am5658_1327 (rfl : (0 : Int32) = nI 0) (rfl : (2 : Int32) = nI 2) h
  refine ce_if (cb_eq_iff rfl (rfl : (5 : Int32) = nI 5)) h (fun h => ?_) ce_no
  refine sd_walk (fun r_1362 fm0_count_1363 fm0_known_1364 fm0_made_1365 fm0_done_1366 fm0_loopCount_1367 fm0_tired_1368 fm0_waiting_1369 am5851_1372 am5852_1375 am5853_1378 am5854_1381 am5855_1384 am5856_1387 am5857_1390 am5858_1393 h => ?_) fm0_count_1330 fm0_known_1331 fm0_made_1332 fm0_done_1333 fm0_loopCount_1334 fm0_tired_1335 fm0_waiting_1336 am5751_1339 am5752_1342 am5753_1345 am5754_1348 am5755_1351 am5756_1354 am5757_1357 am5758_1360 (rfl : (1 : Int32) = nI 1) (rfl : (1 : Int32) = nI 1) h
  refine ce_if (cb_eq_iff rfl (rfl : (2 : Int32) = nI 2)) h (fun h => ?_) ce_no
  refine sd_walk (fun r_1395 fm0_count_1396 fm0_known_1397 fm0_made_1398 fm0_done_1399 fm0_loopCount_1400 fm0_tired_1401 fm0_waiting_1402 am5951_1405 am5952_1408 am5953_1411 am5954_1414 am5955_1417 am5956_1420 am5957_1423 am5958_1426 h => ?_) fm0_count_1363 fm0_known_1364 fm0_made_1365 fm0_done_1366 fm0_loopCount_1367 fm0_tired_1368 fm0_waiting_1369 am5851_1372 am5852_1375 am5853_1378 am5854_1381 am5855_1384 am5856_1387 am5857_1390 am5858_1393 (rfl : (1 : Int32) = nI 1) (rfl : (2 : Int32) = nI 2) h
  refine ce_if (cb_eq_iff rfl (rfl : (13 : Int32) = nI 13)) h (fun h => ?_) ce_no
  refine sd_walk (fun r_1428 fm0_count_1429 fm0_known_1430 fm0_made_1431 fm0_done_1432 fm0_loopCount_1433 fm0_tired_1434 fm0_waiting_1435 am6061_1438 am6062_1441 am6063_1444 am6064_1447 am6065_1450 am6066_1453 am6067_1456 am6068_1459 h => ?_) fm0_count_1396 fm0_known_1397 fm0_made_1398 fm0_done_1399 fm0_loopCount_1400 fm0_tired_1401 fm0_waiting_1402 am5951_1405 am5952_1408 am5953_1411 am5954_1414 am5955_1417 am5956_1420 am5957_1423 am5958_1426 (rfl : (2 : Int32) = nI 2) (rfl : (1 : Int32) = nI 1) h
  refine ce_if (cb_eq_iff rfl (rfl : (4 : Int32) = nI 4)) h (fun h => ?_) ce_no
  refine sd_walk (fun r_1461 fm0_count_1462 fm0_known_1463 fm0_made_1464 fm0_done_1465 fm0_loopCount_1466 fm0_tired_1467 fm0_waiting_1468 am6161_1471 am6162_1474 am6163_1477 am6164_1480 am6165_1483 am6166_1486 am6167_1489 am6168_1492 h => ?_) fm0_count_1429 fm0_known_1430 fm0_made_1431 fm0_done_1432 fm0_loopCount_1433 fm0_tired_1434 fm0_waiting_1435 am6061_1438 am6062_1441 am6063_1444 am6064_1447 am6065_1450 am6066_1453 am6067_1456 am6068_1459 (rfl : (3 : Int32) = nI 3) (rfl : (2 : Int32) = nI 2) h
  refine ce_if (cb_eq_iff rfl (rfl : (11 : Int32) = nI 11)) h (fun h => ?_) ce_no
  refine sd_reach (fun r_1494 fm0_count_1495 fm0_known_1496 fm0_made_1497 fm0_done_1498 fm0_loopCount_1499 fm0_tired_1500 fm0_waiting_1501 am6261_1504 am6262_1507 am6263_1510 am6264_1513 am6265_1516 am6266_1519 am6267_1522 am6268_1525 h => ?_) fm0_count_1462 fm0_known_1463 fm0_made_1464 fm0_done_1465 fm0_loopCount_1466 fm0_tired_1467 fm0_waiting_1468 am6161_1471 am6162_1474 am6163_1477 am6164_1480 am6165_1483 am6166_1486 am6167_1489 am6168_1492 (rfl : (0 : Int32) = nI 0) h
  refine ce_if (cb_eq_iff rfl (rfl : (4 : Int32) = nI 4)) h (fun h => ?_) ce_no
  refine sd_walk (fun r_1527 fm0_count_1528 fm0_known_1529 fm0_made_1530 fm0_done_1531 fm0_loopCount_1532 fm0_tired_1533 fm0_waiting_1534 am6361_1537 am6362_1540 am6363_1543 am6364_1546 am6365_1549 am6366_1552 am6367_1555 am6368_1558 h => ?_) fm0_count_1495 fm0_known_1496 fm0_made_1497 fm0_done_1498 fm0_loopCount_1499 fm0_tired_1500 fm0_waiting_1501 am6261_1504 am6262_1507 am6263_1510 am6264_1513 am6265_1516 am6266_1519 am6267_1522 am6268_1525 (rfl : (0 : Int32) = nI 0) (rfl : (5 : Int32) = nI 5) h
  refine ce_if (cb_eq_iff rfl (rfl : (12 : Int32) = nI 12)) h (fun h => ?_) ce_no
  refine sd_walk (fun r_1560 fm0_count_1561 fm0_known_1562 fm0_made_1563 fm0_done_1564 fm0_loopCount_1565 fm0_tired_1566 fm0_waiting_1567 am6471_1570 am6472_1573 am6473_1576 am6474_1579 am6475_1582 am6476_1585 am6477_1588 am6478_1591 h => ?_) fm0_count_1528 fm0_known_1529 fm0_made_1530 fm0_done_1531 fm0_loopCount_1532 fm0_tired_1533 fm0_waiting_1534 am6361_1537 am6362_1540 am6363_1543 am6364_1546 am6365_1549 am6366_1552 am6367_1555 am6368_1558 (rfl : (0 : Int32) = nI 0) (rfl : (4 : Int32) = nI 4) h
  refine ce_if (cb_eq_iff rfl (rfl : (13 : Int32) = nI 13)) h (fun h => ?_) ce_no
  exact sd_lawOf_660 hp _ _ e_x1 rfl (rfl : (1 : Int32) = nI 1) _ _ fm0_count_1561 fm0_known_1562 fm0_made_1563 fm0_done_1564 fm0_loopCount_1565 fm0_tired_1566 fm0_waiting_1567 am6471_1570 am6472_1573 am6473_1576 am6474_1579 am6475_1582 am6476_1585 am6477_1588 am6478_1591 h
def im_lawOf_395 (x1 : Nat) (x4 : Nat) (z0 : Nat) (fm0_count : Nat) (fm0_known : Nat) (fm0_made : Nat) (fm0_done : Nat) (fm0_loopCount : Nat) (fm0_tired : Nat) (fm0_waiting : Nat) (am291 : Nat) (am292 : Nat) (am293 : Nat) (am294 : Nat) (am295 : Nat) (am296 : Nat) (am297 : Nat) (am298 : Nat) : Bool := (im_clear (fun fm0_count_79 fm0_known_80 fm0_made_81 fm0_done_82 fm0_loopCount_83 fm0_tired_84 fm0_waiting_85 am3981_88 am3982_91 am3983_94 am3984_97 am3985_100 am3986_103 am3987_106 am3988_109 => (cond (cb_eq z0 0) false (im_cells (fun r_1593 => (cond (cb_eq r_1593 0) (im_cell (fun r_1595 fm0_count_1596 fm0_known_1597 fm0_made_1598 fm0_done_1599 fm0_loopCount_1600 fm0_tired_1601 fm0_waiting_1602 am4151_1605 am4152_1608 am4153_1611 am4154_1614 am4155_1617 am4156_1620 am4157_1623 am4158_1626 => (cond (cb_eq r_1595 0) (im_cell (fun r_1628 fm0_count_1629 fm0_known_1630 fm0_made_1631 fm0_done_1632 fm0_loopCount_1633 fm0_tired_1634 fm0_waiting_1635 am4231_1638 am4232_1641 am4233_1644 am4234_1647 am4235_1650 am4236_1653 am4237_1656 am4238_1659 => (cond (cb_eq r_1628 1) (im_join (fun r_1661 fm0_count_1662 fm0_known_1663 fm0_made_1664 fm0_done_1665 fm0_loopCount_1666 fm0_tired_1667 fm0_waiting_1668 am4331_1671 am4332_1674 am4333_1677 am4334_1680 am4335_1683 am4336_1686 am4337_1689 am4338_1692 => (cond (cb_eq r_1661 0) (im_join (fun r_1694 fm0_count_1695 fm0_known_1696 fm0_made_1697 fm0_done_1698 fm0_loopCount_1699 fm0_tired_1700 fm0_waiting_1701 am4431_1704 am4432_1707 am4433_1710 am4434_1713 am4435_1716 am4436_1719 am4437_1722 am4438_1725 => (cond (cb_eq r_1694 0) (im_join (fun r_1727 fm0_count_1728 fm0_known_1729 fm0_made_1730 fm0_done_1731 fm0_loopCount_1732 fm0_tired_1733 fm0_waiting_1734 am4531_1737 am4532_1740 am4533_1743 am4534_1746 am4535_1749 am4536_1752 am4537_1755 am4538_1758 => (cond (cb_eq r_1727 0) (im_join (fun r_1760 fm0_count_1761 fm0_known_1762 fm0_made_1763 fm0_done_1764 fm0_loopCount_1765 fm0_tired_1766 fm0_waiting_1767 am4631_1770 am4632_1773 am4633_1776 am4634_1779 am4635_1782 am4636_1785 am4637_1788 am4638_1791 => (cond (cb_eq r_1760 0) (im_join (fun r_1793 fm0_count_1794 fm0_known_1795 fm0_made_1796 fm0_done_1797 fm0_loopCount_1798 fm0_tired_1799 fm0_waiting_1800 am4731_1803 am4732_1806 am4733_1809 am4734_1812 am4735_1815 am4736_1818 am4737_1821 am4738_1824 => (cond (cb_eq r_1793 0) (im_lawOf_484 x1 x4 1 fm0_count_1794 fm0_known_1795 fm0_made_1796 fm0_done_1797 fm0_loopCount_1798 fm0_tired_1799 fm0_waiting_1800 am4731_1803 am4732_1806 am4733_1809 am4734_1812 am4735_1815 am4736_1818 am4737_1821 am4738_1824) false)) fm0_count_1761 fm0_known_1762 fm0_made_1763 fm0_done_1764 fm0_loopCount_1765 fm0_tired_1766 fm0_waiting_1767 am4631_1770 am4632_1773 am4633_1776 am4634_1779 am4635_1782 am4636_1785 am4637_1788 am4638_1791 5 33) false)) fm0_count_1728 fm0_known_1729 fm0_made_1730 fm0_done_1731 fm0_loopCount_1732 fm0_tired_1733 fm0_waiting_1734 am4531_1737 am4532_1740 am4533_1743 am4534_1746 am4535_1749 am4536_1752 am4537_1755 am4538_1758 4 32) false)) fm0_count_1695 fm0_known_1696 fm0_made_1697 fm0_done_1698 fm0_loopCount_1699 fm0_tired_1700 fm0_waiting_1701 am4431_1704 am4432_1707 am4433_1710 am4434_1713 am4435_1716 am4436_1719 am4437_1722 am4438_1725 2 31) false)) fm0_count_1662 fm0_known_1663 fm0_made_1664 fm0_done_1665 fm0_loopCount_1666 fm0_tired_1667 fm0_waiting_1668 am4331_1671 am4332_1674 am4333_1677 am4334_1680 am4335_1683 am4336_1686 am4337_1689 am4338_1692 1 30) false)) fm0_count_1629 fm0_known_1630 fm0_made_1631 fm0_done_1632 fm0_loopCount_1633 fm0_tired_1634 fm0_waiting_1635 am4231_1638 am4232_1641 am4233_1644 am4234_1647 am4235_1650 am4236_1653 am4237_1656 am4238_1659 0 3) false)) fm0_count_1596 fm0_known_1597 fm0_made_1598 fm0_done_1599 fm0_loopCount_1600 fm0_tired_1601 fm0_waiting_1602 am4151_1605 am4152_1608 am4153_1611 am4154_1614 am4155_1617 am4156_1620 am4157_1623 am4158_1626 1) false)) fm0_count_79 fm0_known_80 fm0_made_81 fm0_done_82 fm0_loopCount_83 fm0_tired_84 fm0_waiting_85 am3981_88 am3982_91 am3983_94 am3984_97 am3985_100 am3986_103 am3987_106 am3988_109 0) false)) fm0_count_79 fm0_known_80 fm0_made_81 fm0_done_82 fm0_loopCount_83 fm0_tired_84 fm0_waiting_85 am3981_88 am3982_91 am3983_94 am3984_97 am3985_100 am3986_103 am3987_106 am3988_109))) fm0_count fm0_known fm0_made fm0_done fm0_loopCount fm0_tired fm0_waiting am291 am292 am293 am294 am295 am296 am297 am298)
theorem sd_lawOf_395 {post : Int32 → St0 → Prop} (hp : post 1 ()) (mc : Nat) (ms : Nat) {y_x1 : Int32} {x1 : Nat} (e_x1 : y_x1 &&& 7 = nI x1) {y_x4 : Int32} {x4 : Nat} (e_x4 : y_x4 = nI x4) {y_z0 : Int32} {z0 : Nat} (e_z0 : y_z0 = nI z0) (kc : Nat) (ks : Nat) (fm0_count : Nat) (fm0_known : Nat) (fm0_made : Nat) (fm0_done : Nat) (fm0_loopCount : Nat) (fm0_tired : Nat) (fm0_waiting : Nat) (am291 : Nat) (am292 : Nat) (am293 : Nat) (am294 : Nat) (am295 : Nat) (am296 : Nat) (am297 : Nat) (am298 : Nat) (h : im_lawOf_395 x1 x4 z0 fm0_count fm0_known fm0_made fm0_done fm0_loopCount fm0_tired fm0_waiting am291 am292 am293 am294 am295 am296 am297 am298 = true) : wL_lawOf_395 post mc ms y_x1 y_x4 y_z0 kc ks (nI fm0_count) (nI fm0_known) (nI fm0_made) (nI fm0_done) (nI fm0_loopCount) (nI fm0_tired) (nI fm0_waiting) (cb_ar am291) (cb_ar am292) (cb_ar am293) (cb_ar am294) (cb_ar am295) (cb_ar am296) (cb_ar am297) (cb_ar am298) := by
  subst e_x4
  subst e_z0
  unfold im_lawOf_395 at h
  unfold wL_lawOf_395
  refine sd_clear (fun fm0_count_79 fm0_known_80 fm0_made_81 fm0_done_82 fm0_loopCount_83 fm0_tired_84 fm0_waiting_85 am3981_88 am3982_91 am3983_94 am3984_97 am3985_100 am3986_103 am3987_106 am3988_109 h => ?_) fm0_count fm0_known fm0_made fm0_done fm0_loopCount fm0_tired fm0_waiting am291 am292 am293 am294 am295 am296 am297 am298 h
  refine ce_if (cb_eq_iff rfl (rfl : (0 : Int32) = nI 0)) h ce_no (fun h => ?_)
  refine sd_cells (fun r_1593 h => ?_) fm0_count_79 fm0_known_80 fm0_made_81 fm0_done_82 fm0_loopCount_83 fm0_tired_84 fm0_waiting_85 am3981_88 am3982_91 am3983_94 am3984_97 am3985_100 am3986_103 am3987_106 am3988_109 h
  refine ce_if (cb_eq_iff rfl (rfl : (0 : Int32) = nI 0)) h (fun h => ?_) ce_no
  refine sd_cell (fun r_1595 fm0_count_1596 fm0_known_1597 fm0_made_1598 fm0_done_1599 fm0_loopCount_1600 fm0_tired_1601 fm0_waiting_1602 am4151_1605 am4152_1608 am4153_1611 am4154_1614 am4155_1617 am4156_1620 am4157_1623 am4158_1626 h => ?_) fm0_count_79 fm0_known_80 fm0_made_81 fm0_done_82 fm0_loopCount_83 fm0_tired_84 fm0_waiting_85 am3981_88 am3982_91 am3983_94 am3984_97 am3985_100 am3986_103 am3987_106 am3988_109 (rfl : (0 : Int32) = nI 0) h
  refine ce_if (cb_eq_iff rfl (rfl : (0 : Int32) = nI 0)) h (fun h => ?_) ce_no
  refine sd_cell (fun r_1628 fm0_count_1629 fm0_known_1630 fm0_made_1631 fm0_done_1632 fm0_loopCount_1633 fm0_tired_1634 fm0_waiting_1635 am4231_1638 am4232_1641 am4233_1644 am4234_1647 am4235_1650 am4236_1653 am4237_1656 am4238_1659 h => ?_) fm0_count_1596 fm0_known_1597 fm0_made_1598 fm0_done_1599 fm0_loopCount_1600 fm0_tired_1601 fm0_waiting_1602 am4151_1605 am4152_1608 am4153_1611 am4154_1614 am4155_1617 am4156_1620 am4157_1623 am4158_1626 (rfl : (1 : Int32) = nI 1) h
  refine ce_if (cb_eq_iff rfl (rfl : (1 : Int32) = nI 1)) h (fun h => ?_) ce_no
  refine sd_join (fun r_1661 fm0_count_1662 fm0_known_1663 fm0_made_1664 fm0_done_1665 fm0_loopCount_1666 fm0_tired_1667 fm0_waiting_1668 am4331_1671 am4332_1674 am4333_1677 am4334_1680 am4335_1683 am4336_1686 am4337_1689 am4338_1692 h => ?_) fm0_count_1629 fm0_known_1630 fm0_made_1631 fm0_done_1632 fm0_loopCount_1633 fm0_tired_1634 fm0_waiting_1635 am4231_1638 am4232_1641 am4233_1644 am4234_1647 am4235_1650 am4236_1653 am4237_1656 am4238_1659 (rfl : (0 : Int32) = nI 0) (rfl : (3 : Int32) = nI 3) h
  refine ce_if (cb_eq_iff rfl (rfl : (0 : Int32) = nI 0)) h (fun h => ?_) ce_no
  refine sd_join (fun r_1694 fm0_count_1695 fm0_known_1696 fm0_made_1697 fm0_done_1698 fm0_loopCount_1699 fm0_tired_1700 fm0_waiting_1701 am4431_1704 am4432_1707 am4433_1710 am4434_1713 am4435_1716 am4436_1719 am4437_1722 am4438_1725 h => ?_) fm0_count_1662 fm0_known_1663 fm0_made_1664 fm0_done_1665 fm0_loopCount_1666 fm0_tired_1667 fm0_waiting_1668 am4331_1671 am4332_1674 am4333_1677 am4334_1680 am4335_1683 am4336_1686 am4337_1689 am4338_1692 (rfl : (1 : Int32) = nI 1) (rfl : (30 : Int32) = nI 30) h
  refine ce_if (cb_eq_iff rfl (rfl : (0 : Int32) = nI 0)) h (fun h => ?_) ce_no
  refine sd_join (fun r_1727 fm0_count_1728 fm0_known_1729 fm0_made_1730 fm0_done_1731 fm0_loopCount_1732 fm0_tired_1733 fm0_waiting_1734 am4531_1737 am4532_1740 am4533_1743 am4534_1746 am4535_1749 am4536_1752 am4537_1755 am4538_1758 h => ?_) fm0_count_1695 fm0_known_1696 fm0_made_1697 fm0_done_1698 fm0_loopCount_1699 fm0_tired_1700 fm0_waiting_1701 am4431_1704 am4432_1707 am4433_1710 am4434_1713 am4435_1716 am4436_1719 am4437_1722 am4438_1725 (rfl : (2 : Int32) = nI 2) (rfl : (31 : Int32) = nI 31) h
  refine ce_if (cb_eq_iff rfl (rfl : (0 : Int32) = nI 0)) h (fun h => ?_) ce_no
  refine sd_join (fun r_1760 fm0_count_1761 fm0_known_1762 fm0_made_1763 fm0_done_1764 fm0_loopCount_1765 fm0_tired_1766 fm0_waiting_1767 am4631_1770 am4632_1773 am4633_1776 am4634_1779 am4635_1782 am4636_1785 am4637_1788 am4638_1791 h => ?_) fm0_count_1728 fm0_known_1729 fm0_made_1730 fm0_done_1731 fm0_loopCount_1732 fm0_tired_1733 fm0_waiting_1734 am4531_1737 am4532_1740 am4533_1743 am4534_1746 am4535_1749 am4536_1752 am4537_1755 am4538_1758 (rfl : (4 : Int32) = nI 4) (rfl : (32 : Int32) = nI 32) h
  refine ce_if (cb_eq_iff rfl (rfl : (0 : Int32) = nI 0)) h (fun h => ?_) ce_no
  refine sd_join (fun r_1793 fm0_count_1794 fm0_known_1795 fm0_made_1796 fm0_done_1797 fm0_loopCount_1798 fm0_tired_1799 fm0_waiting_1800 am4731_1803 am4732_1806 am4733_1809 am4734_1812 am4735_1815 am4736_1818 am4737_1821 am4738_1824 h => ?_) fm0_count_1761 fm0_known_1762 fm0_made_1763 fm0_done_1764 fm0_loopCount_1765 fm0_tired_1766 fm0_waiting_1767 am4631_1770 am4632_1773 am4633_1776 am4634_1779 am4635_1782 am4636_1785 am4637_1788 am4638_1791 (rfl : (5 : Int32) = nI 5) (rfl : (33 : Int32) = nI 33) h
  refine ce_if (cb_eq_iff rfl (rfl : (0 : Int32) = nI 0)) h (fun h => ?_) ce_no
  exact sd_lawOf_484 hp _ _ e_x1 rfl (rfl : (1 : Int32) = nI 1) _ _ fm0_count_1794 fm0_known_1795 fm0_made_1796 fm0_done_1797 fm0_loopCount_1798 fm0_tired_1799 fm0_waiting_1800 am4731_1803 am4732_1806 am4733_1809 am4734_1812 am4735_1815 am4736_1818 am4737_1821 am4738_1824 h
def im_lawOf_220 (x1 : Nat) (x4 : Nat) (x5 : Nat) (z0 : Nat) (fm0_count : Nat) (fm0_known : Nat) (fm0_made : Nat) (fm0_done : Nat) (fm0_loopCount : Nat) (fm0_tired : Nat) (fm0_waiting : Nat) (am291 : Nat) (am292 : Nat) (am293 : Nat) (am294 : Nat) (am295 : Nat) (am296 : Nat) (am297 : Nat) (am298 : Nat) : Bool := (cond (cb_eq z0 0) false (im_cut (fun r_1826 fm0_count_1827 fm0_known_1828 fm0_made_1829 fm0_done_1830 fm0_loopCount_1831 fm0_tired_1832 fm0_waiting_1833 am2291_1836 am2292_1839 am2293_1842 am2294_1845 am2295_1848 am2296_1851 am2297_1854 am2298_1857 => (cond (cb_eq r_1826 30) (im_cut (fun r_1859 fm0_count_1860 fm0_known_1861 fm0_made_1862 fm0_done_1863 fm0_loopCount_1864 fm0_tired_1865 fm0_waiting_1866 am2431_1869 am2432_1872 am2433_1875 am2434_1878 am2435_1881 am2436_1884 am2437_1887 am2438_1890 => (cond (cb_eq r_1859 5) (im_walk (fun r_1892 fm0_count_1893 fm0_known_1894 fm0_made_1895 fm0_done_1896 fm0_loopCount_1897 fm0_tired_1898 fm0_waiting_1899 am2561_1902 am2562_1905 am2563_1908 am2564_1911 am2565_1914 am2566_1917 am2567_1920 am2568_1923 => (cond (cb_eq r_1892 9) (im_walk (fun r_1925 fm0_count_1926 fm0_known_1927 fm0_made_1928 fm0_done_1929 fm0_loopCount_1930 fm0_tired_1931 fm0_waiting_1932 am2671_1935 am2672_1938 am2673_1941 am2674_1944 am2675_1947 am2676_1950 am2677_1953 am2678_1956 => (cond (cb_eq r_1925 9) (im_cut (fun r_1958 fm0_count_1959 fm0_known_1960 fm0_made_1961 fm0_done_1962 fm0_loopCount_1963 fm0_tired_1964 fm0_waiting_1965 am2781_1968 am2782_1971 am2783_1974 am2784_1977 am2785_1980 am2786_1983 am2787_1986 am2788_1989 => (cond (cb_eq r_1958 2) (im_join (fun r_1991 fm0_count_1992 fm0_known_1993 fm0_made_1994 fm0_done_1995 fm0_loopCount_1996 fm0_tired_1997 fm0_waiting_1998 am2881_2001 am2882_2004 am2883_2007 am2884_2010 am2885_2013 am2886_2016 am2887_2019 am2888_2022 => (cond (cb_eq r_1991 0) (im_join (fun r_2024 fm0_count_2025 fm0_known_2026 fm0_made_2027 fm0_done_2028 fm0_loopCount_2029 fm0_tired_2030 fm0_waiting_2031 am2981_2034 am2982_2037 am2983_2040 am2984_2043 am2985_2046 am2986_2049 am2987_2052 am2988_2055 => (cond (cb_eq r_2024 0) (im_loops (fun r_2057 fm0_count_2058 fm0_known_2059 fm0_made_2060 fm0_done_2061 fm0_loopCount_2062 fm0_tired_2063 fm0_waiting_2064 am3051_2067 am3052_2070 am3053_2073 am3054_2076 am3055_2079 am3056_2082 am3057_2085 am3058_2088 => (cond (cb_eq r_2057 1) (im_walkE (fun r_2090 fm0_count_2091 fm0_known_2092 fm0_made_2093 fm0_done_2094 fm0_loopCount_2095 fm0_tired_2096 fm0_waiting_2097 am3161_2100 am3162_2103 am3163_2106 am3164_2109 am3165_2112 am3166_2115 am3167_2118 am3168_2121 => (cond (cb_eq r_2090 (cb_add 12 x5)) (im_cut (fun r_2123 fm0_count_2124 fm0_known_2125 fm0_made_2126 fm0_done_2127 fm0_loopCount_2128 fm0_tired_2129 fm0_waiting_2130 am3291_2133 am3292_2136 am3293_2139 am3294_2142 am3295_2145 am3296_2148 am3297_2151 am3298_2154 => (cond (cb_eq r_2123 (cb_add 32 x5)) (im_cut (fun r_2156 fm0_count_2157 fm0_known_2158 fm0_made_2159 fm0_done_2160 fm0_loopCount_2161 fm0_tired_2162 fm0_waiting_2163 am3421_2166 am3422_2169 am3423_2172 am3424_2175 am3425_2178 am3426_2181 am3427_2184 am3428_2187 => (cond (cb_eq r_2156 30) (im_join (fun r_2189 fm0_count_2190 fm0_known_2191 fm0_made_2192 fm0_done_2193 fm0_loopCount_2194 fm0_tired_2195 fm0_waiting_2196 am3531_2199 am3532_2202 am3533_2205 am3534_2208 am3535_2211 am3536_2214 am3537_2217 am3538_2220 => (cond (cb_eq r_2189 0) (im_loops (fun r_2222 fm0_count_2223 fm0_known_2224 fm0_made_2225 fm0_done_2226 fm0_loopCount_2227 fm0_tired_2228 fm0_waiting_2229 am3601_2232 am3602_2235 am3603_2238 am3604_2241 am3605_2244 am3606_2247 am3607_2250 am3608_2253 => (cond (cb_eq r_2222 2) (im_cells (fun r_2255 => (cond (cb_eq r_2255 2) (im_steps (fun r_2257 fm0_count_2258 fm0_known_2259 fm0_made_2260 fm0_done_2261 fm0_loopCount_2262 fm0_tired_2263 fm0_waiting_2264 am3761_2267 am3762_2270 am3763_2273 am3764_2276 am3765_2279 am3766_2282 am3767_2285 am3768_2288 => (cond (cb_eq r_2257 1) (im_open (fun r_2290 fm0_count_2291 fm0_known_2292 fm0_made_2293 fm0_done_2294 fm0_loopCount_2295 fm0_tired_2296 fm0_waiting_2297 am3841_2300 am3842_2303 am3843_2306 am3844_2309 am3845_2312 am3846_2315 am3847_2318 am3848_2321 => (cond (cb_eq r_2290 0) (im_lawOf_395 x1 x4 1 fm0_count_2291 fm0_known_2292 fm0_made_2293 fm0_done_2294 fm0_loopCount_2295 fm0_tired_2296 fm0_waiting_2297 am3841_2300 am3842_2303 am3843_2306 am3844_2309 am3845_2312 am3846_2315 am3847_2318 am3848_2321) false)) fm0_count_2258 fm0_known_2259 fm0_made_2260 fm0_done_2261 fm0_loopCount_2262 fm0_tired_2263 fm0_waiting_2264 am3761_2267 am3762_2270 am3763_2273 am3764_2276 am3765_2279 am3766_2282 am3767_2285 am3768_2288) false)) fm0_count_2223 fm0_known_2224 fm0_made_2225 fm0_done_2226 fm0_loopCount_2227 fm0_tired_2228 fm0_waiting_2229 am3601_2232 am3602_2235 am3603_2238 am3604_2241 am3605_2244 am3606_2247 am3607_2250 am3608_2253) false)) fm0_count_2223 fm0_known_2224 fm0_made_2225 fm0_done_2226 fm0_loopCount_2227 fm0_tired_2228 fm0_waiting_2229 am3601_2232 am3602_2235 am3603_2238 am3604_2241 am3605_2244 am3606_2247 am3607_2250 am3608_2253) false)) fm0_count_2190 fm0_known_2191 fm0_made_2192 fm0_done_2193 fm0_loopCount_2194 fm0_tired_2195 fm0_waiting_2196 am3531_2199 am3532_2202 am3533_2205 am3534_2208 am3535_2211 am3536_2214 am3537_2217 am3538_2220) false)) fm0_count_2157 fm0_known_2158 fm0_made_2159 fm0_done_2160 fm0_loopCount_2161 fm0_tired_2162 fm0_waiting_2163 am3421_2166 am3422_2169 am3423_2172 am3424_2175 am3425_2178 am3426_2181 am3427_2184 am3428_2187 1 4) false)) fm0_count_2124 fm0_known_2125 fm0_made_2126 fm0_done_2127 fm0_loopCount_2128 fm0_tired_2129 fm0_waiting_2130 am3291_2133 am3292_2136 am3293_2139 am3294_2142 am3295_2145 am3296_2148 am3297_2151 am3298_2154 1) false)) fm0_count_2091 fm0_known_2092 fm0_made_2093 fm0_done_2094 fm0_loopCount_2095 fm0_tired_2096 fm0_waiting_2097 am3161_2100 am3162_2103 am3163_2106 am3164_2109 am3165_2112 am3166_2115 am3167_2118 am3168_2121 4) false)) fm0_count_2058 fm0_known_2059 fm0_made_2060 fm0_done_2061 fm0_loopCount_2062 fm0_tired_2063 fm0_waiting_2064 am3051_2067 am3052_2070 am3053_2073 am3054_2076 am3055_2079 am3056_2082 am3057_2085 am3058_2088 0) false)) fm0_count_2025 fm0_known_2026 fm0_made_2027 fm0_done_2028 fm0_loopCount_2029 fm0_tired_2030 fm0_waiting_2031 am2981_2034 am2982_2037 am2983_2040 am2984_2043 am2985_2046 am2986_2049 am2987_2052 am2988_2055) false)) fm0_count_1992 fm0_known_1993 fm0_made_1994 fm0_done_1995 fm0_loopCount_1996 fm0_tired_1997 fm0_waiting_1998 am2881_2001 am2882_2004 am2883_2007 am2884_2010 am2885_2013 am2886_2016 am2887_2019 am2888_2022 1 30) false)) fm0_count_1959 fm0_known_1960 fm0_made_1961 fm0_done_1962 fm0_loopCount_1963 fm0_tired_1964 fm0_waiting_1965 am2781_1968 am2782_1971 am2783_1974 am2784_1977 am2785_1980 am2786_1983 am2787_1986 am2788_1989 2 5) false)) fm0_count_1926 fm0_known_1927 fm0_made_1928 fm0_done_1929 fm0_loopCount_1930 fm0_tired_1931 fm0_waiting_1932 am2671_1935 am2672_1938 am2673_1941 am2674_1944 am2675_1947 am2676_1950 am2677_1953 am2678_1956 31) false)) fm0_count_1893 fm0_known_1894 fm0_made_1895 fm0_done_1896 fm0_loopCount_1897 fm0_tired_1898 fm0_waiting_1899 am2561_1902 am2562_1905 am2563_1908 am2564_1911 am2565_1914 am2566_1917 am2567_1920 am2568_1923 1 0) false)) fm0_count_1860 fm0_known_1861 fm0_made_1862 fm0_done_1863 fm0_loopCount_1864 fm0_tired_1865 fm0_waiting_1866 am2431_1869 am2432_1872 am2433_1875 am2434_1878 am2435_1881 am2436_1884 am2437_1887 am2438_1890 (cb_add 2 x5) 0) false)) fm0_count_1827 fm0_known_1828 fm0_made_1829 fm0_done_1830 fm0_loopCount_1831 fm0_tired_1832 fm0_waiting_1833 am2291_1836 am2292_1839 am2293_1842 am2294_1845 am2295_1848 am2296_1851 am2297_1854 am2298_1857 (cb_sub 33 x5)) false)) fm0_count fm0_known fm0_made fm0_done fm0_loopCount fm0_tired fm0_waiting am291 am292 am293 am294 am295 am296 am297 am298 1))
theorem sd_lawOf_220 {post : Int32 → St0 → Prop} (hp : post 1 ()) (mc : Nat) (ms : Nat) {y_x1 : Int32} {x1 : Nat} (e_x1 : y_x1 &&& 7 = nI x1) {y_x4 : Int32} {x4 : Nat} (e_x4 : y_x4 = nI x4) {y_x5 : Int32} {x5 : Nat} (e_x5 : y_x5 = nI x5) {x6 : Nat} (h6 : x6 < 4096) {y_x6 : Int32} (e_x6 : y_x6 = nI x6) {y_z0 : Int32} {z0 : Nat} (e_z0 : y_z0 = nI z0) (kc : Nat) (ks : Nat) (fm0_count : Nat) (fm0_known : Nat) (fm0_made : Nat) (fm0_done : Nat) (fm0_loopCount : Nat) (fm0_tired : Nat) (fm0_waiting : Nat) (am291 : Nat) (am292 : Nat) (am293 : Nat) (am294 : Nat) (am295 : Nat) (am296 : Nat) (am297 : Nat) (am298 : Nat) (h : im_lawOf_220 x1 x4 x5 z0 fm0_count fm0_known fm0_made fm0_done fm0_loopCount fm0_tired fm0_waiting am291 am292 am293 am294 am295 am296 am297 am298 = true) : wL_lawOf_220 post mc ms y_x1 y_x4 y_x5 y_x6 y_z0 kc ks (nI fm0_count) (nI fm0_known) (nI fm0_made) (nI fm0_done) (nI fm0_loopCount) (nI fm0_tired) (nI fm0_waiting) (cb_ar am291) (cb_ar am292) (cb_ar am293) (cb_ar am294) (cb_ar am295) (cb_ar am296) (cb_ar am297) (cb_ar am298) := by
  subst e_x4
  subst e_x5
  subst e_z0
  unfold im_lawOf_220 at h
  unfold wL_lawOf_220
  refine ce_if (cb_eq_iff rfl (rfl : (0 : Int32) = nI 0)) h ce_no (fun h => ?_)
  refine sd_cut (fun r_1826 fm0_count_1827 fm0_known_1828 fm0_made_1829 fm0_done_1830 fm0_loopCount_1831 fm0_tired_1832 fm0_waiting_1833 am2291_1836 am2292_1839 am2293_1842 am2294_1845 am2295_1848 am2296_1851 am2297_1854 am2298_1857 h => ?_) fm0_count fm0_known fm0_made fm0_done fm0_loopCount fm0_tired fm0_waiting am291 am292 am293 am294 am295 am296 am297 am298 (rfl : (1 : Int32) = nI 1) h
  refine ce_if (cb_eq_iff rfl (rfl : (30 : Int32) = nI 30)) h (fun h => ?_) ce_no
  refine sd_cut (fun r_1859 fm0_count_1860 fm0_known_1861 fm0_made_1862 fm0_done_1863 fm0_loopCount_1864 fm0_tired_1865 fm0_waiting_1866 am2431_1869 am2432_1872 am2433_1875 am2434_1878 am2435_1881 am2436_1884 am2437_1887 am2438_1890 h => ?_) fm0_count_1827 fm0_known_1828 fm0_made_1829 fm0_done_1830 fm0_loopCount_1831 fm0_tired_1832 fm0_waiting_1833 am2291_1836 am2292_1839 am2293_1842 am2294_1845 am2295_1848 am2296_1851 am2297_1854 am2298_1857 (cb_hsub (rfl : (33 : Int32) = nI 33) rfl) h
  refine ce_if (cb_eq_iff rfl (rfl : (5 : Int32) = nI 5)) h (fun h => ?_) ce_no
  refine sd_walk (fun r_1892 fm0_count_1893 fm0_known_1894 fm0_made_1895 fm0_done_1896 fm0_loopCount_1897 fm0_tired_1898 fm0_waiting_1899 am2561_1902 am2562_1905 am2563_1908 am2564_1911 am2565_1914 am2566_1917 am2567_1920 am2568_1923 h => ?_) fm0_count_1860 fm0_known_1861 fm0_made_1862 fm0_done_1863 fm0_loopCount_1864 fm0_tired_1865 fm0_waiting_1866 am2431_1869 am2432_1872 am2433_1875 am2434_1878 am2435_1881 am2436_1884 am2437_1887 am2438_1890 (cb_hadd (rfl : (2 : Int32) = nI 2) rfl) (rfl : (0 : Int32) = nI 0) h
  refine ce_if (cb_eq_iff rfl (rfl : (9 : Int32) = nI 9)) h (fun h => ?_) ce_no
  refine sd_walk (fun r_1925 fm0_count_1926 fm0_known_1927 fm0_made_1928 fm0_done_1929 fm0_loopCount_1930 fm0_tired_1931 fm0_waiting_1932 am2671_1935 am2672_1938 am2673_1941 am2674_1944 am2675_1947 am2676_1950 am2677_1953 am2678_1956 h => ?_) fm0_count_1893 fm0_known_1894 fm0_made_1895 fm0_done_1896 fm0_loopCount_1897 fm0_tired_1898 fm0_waiting_1899 am2561_1902 am2562_1905 am2563_1908 am2564_1911 am2565_1914 am2566_1917 am2567_1920 am2568_1923 (rfl : (1 : Int32) = nI 1) (rfl : (0 : Int32) = nI 0) h
  refine ce_if (cb_eq_iff rfl (rfl : (9 : Int32) = nI 9)) h (fun h => ?_) ce_no
  refine sd_cut (fun r_1958 fm0_count_1959 fm0_known_1960 fm0_made_1961 fm0_done_1962 fm0_loopCount_1963 fm0_tired_1964 fm0_waiting_1965 am2781_1968 am2782_1971 am2783_1974 am2784_1977 am2785_1980 am2786_1983 am2787_1986 am2788_1989 h => ?_) fm0_count_1926 fm0_known_1927 fm0_made_1928 fm0_done_1929 fm0_loopCount_1930 fm0_tired_1931 fm0_waiting_1932 am2671_1935 am2672_1938 am2673_1941 am2674_1944 am2675_1947 am2676_1950 am2677_1953 am2678_1956 (rfl : (31 : Int32) = nI 31) h
  refine ce_if (cb_eq_iff rfl (rfl : (2 : Int32) = nI 2)) h (fun h => ?_) ce_no
  refine sd_join (fun r_1991 fm0_count_1992 fm0_known_1993 fm0_made_1994 fm0_done_1995 fm0_loopCount_1996 fm0_tired_1997 fm0_waiting_1998 am2881_2001 am2882_2004 am2883_2007 am2884_2010 am2885_2013 am2886_2016 am2887_2019 am2888_2022 h => ?_) fm0_count_1959 fm0_known_1960 fm0_made_1961 fm0_done_1962 fm0_loopCount_1963 fm0_tired_1964 fm0_waiting_1965 am2781_1968 am2782_1971 am2783_1974 am2784_1977 am2785_1980 am2786_1983 am2787_1986 am2788_1989 (rfl : (2 : Int32) = nI 2) (rfl : (5 : Int32) = nI 5) h
  refine ce_if (cb_eq_iff rfl (rfl : (0 : Int32) = nI 0)) h (fun h => ?_) ce_no
  refine sd_join (fun r_2024 fm0_count_2025 fm0_known_2026 fm0_made_2027 fm0_done_2028 fm0_loopCount_2029 fm0_tired_2030 fm0_waiting_2031 am2981_2034 am2982_2037 am2983_2040 am2984_2043 am2985_2046 am2986_2049 am2987_2052 am2988_2055 h => ?_) fm0_count_1992 fm0_known_1993 fm0_made_1994 fm0_done_1995 fm0_loopCount_1996 fm0_tired_1997 fm0_waiting_1998 am2881_2001 am2882_2004 am2883_2007 am2884_2010 am2885_2013 am2886_2016 am2887_2019 am2888_2022 (rfl : (1 : Int32) = nI 1) (rfl : (30 : Int32) = nI 30) h
  refine ce_if (cb_eq_iff rfl (rfl : (0 : Int32) = nI 0)) h (fun h => ?_) ce_no
  refine sd_loops (fun r_2057 fm0_count_2058 fm0_known_2059 fm0_made_2060 fm0_done_2061 fm0_loopCount_2062 fm0_tired_2063 fm0_waiting_2064 am3051_2067 am3052_2070 am3053_2073 am3054_2076 am3055_2079 am3056_2082 am3057_2085 am3058_2088 h => ?_) fm0_count_2025 fm0_known_2026 fm0_made_2027 fm0_done_2028 fm0_loopCount_2029 fm0_tired_2030 fm0_waiting_2031 am2981_2034 am2982_2037 am2983_2040 am2984_2043 am2985_2046 am2986_2049 am2987_2052 am2988_2055 h
  refine ce_if (cb_eq_iff rfl (rfl : (1 : Int32) = nI 1)) h (fun h => ?_) ce_no
  refine sd_walkE (fun r_2090 fm0_count_2091 fm0_known_2092 fm0_made_2093 fm0_done_2094 fm0_loopCount_2095 fm0_tired_2096 fm0_waiting_2097 am3161_2100 am3162_2103 am3163_2106 am3164_2109 am3165_2112 am3166_2115 am3167_2118 am3168_2121 h => ?_) fm0_count_2058 fm0_known_2059 fm0_made_2060 fm0_done_2061 fm0_loopCount_2062 fm0_tired_2063 fm0_waiting_2064 am3051_2067 am3052_2070 am3053_2073 am3054_2076 am3055_2079 am3056_2082 am3057_2085 am3058_2088 (rfl : (0 : Int32) = nI 0) h6 e_x6 h
  refine ce_if (cb_eq_iff rfl (cb_hadd (rfl : (12 : Int32) = nI 12) rfl)) h (fun h => ?_) ce_no
  refine sd_cut (fun r_2123 fm0_count_2124 fm0_known_2125 fm0_made_2126 fm0_done_2127 fm0_loopCount_2128 fm0_tired_2129 fm0_waiting_2130 am3291_2133 am3292_2136 am3293_2139 am3294_2142 am3295_2145 am3296_2148 am3297_2151 am3298_2154 h => ?_) fm0_count_2091 fm0_known_2092 fm0_made_2093 fm0_done_2094 fm0_loopCount_2095 fm0_tired_2096 fm0_waiting_2097 am3161_2100 am3162_2103 am3163_2106 am3164_2109 am3165_2112 am3166_2115 am3167_2118 am3168_2121 (rfl : (4 : Int32) = nI 4) h
  refine ce_if (cb_eq_iff rfl (cb_hadd (rfl : (32 : Int32) = nI 32) rfl)) h (fun h => ?_) ce_no
  refine sd_cut (fun r_2156 fm0_count_2157 fm0_known_2158 fm0_made_2159 fm0_done_2160 fm0_loopCount_2161 fm0_tired_2162 fm0_waiting_2163 am3421_2166 am3422_2169 am3423_2172 am3424_2175 am3425_2178 am3426_2181 am3427_2184 am3428_2187 h => ?_) fm0_count_2124 fm0_known_2125 fm0_made_2126 fm0_done_2127 fm0_loopCount_2128 fm0_tired_2129 fm0_waiting_2130 am3291_2133 am3292_2136 am3293_2139 am3294_2142 am3295_2145 am3296_2148 am3297_2151 am3298_2154 (rfl : (1 : Int32) = nI 1) h
  refine ce_if (cb_eq_iff rfl (rfl : (30 : Int32) = nI 30)) h (fun h => ?_) ce_no
  refine sd_join (fun r_2189 fm0_count_2190 fm0_known_2191 fm0_made_2192 fm0_done_2193 fm0_loopCount_2194 fm0_tired_2195 fm0_waiting_2196 am3531_2199 am3532_2202 am3533_2205 am3534_2208 am3535_2211 am3536_2214 am3537_2217 am3538_2220 h => ?_) fm0_count_2157 fm0_known_2158 fm0_made_2159 fm0_done_2160 fm0_loopCount_2161 fm0_tired_2162 fm0_waiting_2163 am3421_2166 am3422_2169 am3423_2172 am3424_2175 am3425_2178 am3426_2181 am3427_2184 am3428_2187 (rfl : (1 : Int32) = nI 1) (rfl : (4 : Int32) = nI 4) h
  refine ce_if (cb_eq_iff rfl (rfl : (0 : Int32) = nI 0)) h (fun h => ?_) ce_no
  refine sd_loops (fun r_2222 fm0_count_2223 fm0_known_2224 fm0_made_2225 fm0_done_2226 fm0_loopCount_2227 fm0_tired_2228 fm0_waiting_2229 am3601_2232 am3602_2235 am3603_2238 am3604_2241 am3605_2244 am3606_2247 am3607_2250 am3608_2253 h => ?_) fm0_count_2190 fm0_known_2191 fm0_made_2192 fm0_done_2193 fm0_loopCount_2194 fm0_tired_2195 fm0_waiting_2196 am3531_2199 am3532_2202 am3533_2205 am3534_2208 am3535_2211 am3536_2214 am3537_2217 am3538_2220 h
  refine ce_if (cb_eq_iff rfl (rfl : (2 : Int32) = nI 2)) h (fun h => ?_) ce_no
  refine sd_cells (fun r_2255 h => ?_) fm0_count_2223 fm0_known_2224 fm0_made_2225 fm0_done_2226 fm0_loopCount_2227 fm0_tired_2228 fm0_waiting_2229 am3601_2232 am3602_2235 am3603_2238 am3604_2241 am3605_2244 am3606_2247 am3607_2250 am3608_2253 h
  refine ce_if (cb_eq_iff rfl (rfl : (2 : Int32) = nI 2)) h (fun h => ?_) ce_no
  refine sd_steps (fun r_2257 fm0_count_2258 fm0_known_2259 fm0_made_2260 fm0_done_2261 fm0_loopCount_2262 fm0_tired_2263 fm0_waiting_2264 am3761_2267 am3762_2270 am3763_2273 am3764_2276 am3765_2279 am3766_2282 am3767_2285 am3768_2288 h => ?_) fm0_count_2223 fm0_known_2224 fm0_made_2225 fm0_done_2226 fm0_loopCount_2227 fm0_tired_2228 fm0_waiting_2229 am3601_2232 am3602_2235 am3603_2238 am3604_2241 am3605_2244 am3606_2247 am3607_2250 am3608_2253 h
  refine ce_if (cb_eq_iff rfl (rfl : (1 : Int32) = nI 1)) h (fun h => ?_) ce_no
  refine sd_open (fun r_2290 fm0_count_2291 fm0_known_2292 fm0_made_2293 fm0_done_2294 fm0_loopCount_2295 fm0_tired_2296 fm0_waiting_2297 am3841_2300 am3842_2303 am3843_2306 am3844_2309 am3845_2312 am3846_2315 am3847_2318 am3848_2321 h => ?_) fm0_count_2258 fm0_known_2259 fm0_made_2260 fm0_done_2261 fm0_loopCount_2262 fm0_tired_2263 fm0_waiting_2264 am3761_2267 am3762_2270 am3763_2273 am3764_2276 am3765_2279 am3766_2282 am3767_2285 am3768_2288 h
  refine ce_if (cb_eq_iff rfl (rfl : (0 : Int32) = nI 0)) h (fun h => ?_) ce_no
  exact sd_lawOf_395 hp _ _ e_x1 rfl (rfl : (1 : Int32) = nI 1) _ _ fm0_count_2291 fm0_known_2292 fm0_made_2293 fm0_done_2294 fm0_loopCount_2295 fm0_tired_2296 fm0_waiting_2297 am3841_2300 am3842_2303 am3843_2306 am3844_2309 am3845_2312 am3846_2315 am3847_2318 am3848_2321 h
def im_lawOf_125 (x1 : Nat) (x4 : Nat) (x5 : Nat) (z0 : Nat) (fm0_count : Nat) (fm0_known : Nat) (fm0_made : Nat) (fm0_done : Nat) (fm0_loopCount : Nat) (fm0_tired : Nat) (fm0_waiting : Nat) (am291 : Nat) (am292 : Nat) (am293 : Nat) (am294 : Nat) (am295 : Nat) (am296 : Nat) (am297 : Nat) (am298 : Nat) : Bool := (cond (cb_eq z0 0) false (im_steps (fun r_2323 fm0_count_2324 fm0_known_2325 fm0_made_2326 fm0_done_2327 fm0_loopCount_2328 fm0_tired_2329 fm0_waiting_2330 am1331_2333 am1332_2336 am1333_2339 am1334_2342 am1335_2345 am1336_2348 am1337_2351 am1338_2354 => (cond (cb_eq r_2323 1) (im_left (fun r_2356 fm0_count_2357 fm0_known_2358 fm0_made_2359 fm0_done_2360 fm0_loopCount_2361 fm0_tired_2362 fm0_waiting_2363 am1431_2366 am1432_2369 am1433_2372 am1434_2375 am1435_2378 am1436_2381 am1437_2384 am1438_2387 => (cond (cb_eq r_2356 0) (im_walkE (fun r_2389 fm0_count_2390 fm0_known_2391 fm0_made_2392 fm0_done_2393 fm0_loopCount_2394 fm0_tired_2395 fm0_waiting_2396 am1531_2399 am1532_2402 am1533_2405 am1534_2408 am1535_2411 am1536_2414 am1537_2417 am1538_2420 => (cond (cb_eq r_2389 (cb_add 12 x5)) (im_walkE (fun r_2422 fm0_count_2423 fm0_known_2424 fm0_made_2425 fm0_done_2426 fm0_loopCount_2427 fm0_tired_2428 fm0_waiting_2429 am1681_2432 am1682_2435 am1683_2438 am1684_2441 am1685_2444 am1686_2447 am1687_2450 am1688_2453 => (cond (cb_eq r_2422 (cb_sub 13 x5)) (im_walk (fun r_2455 fm0_count_2456 fm0_known_2457 fm0_made_2458 fm0_done_2459 fm0_loopCount_2460 fm0_tired_2461 fm0_waiting_2462 am1821_2465 am1822_2468 am1823_2471 am1824_2474 am1825_2477 am1826_2480 am1827_2483 am1828_2486 => (cond (cb_eq r_2455 (cb_sub 11 x5)) (im_open (fun r_2488 fm0_count_2489 fm0_known_2490 fm0_made_2491 fm0_done_2492 fm0_loopCount_2493 fm0_tired_2494 fm0_waiting_2495 am1941_2498 am1942_2501 am1943_2504 am1944_2507 am1945_2510 am1946_2513 am1947_2516 am1948_2519 => (cond (cb_eq r_2488 0) (im_reach (fun r_2521 fm0_count_2522 fm0_known_2523 fm0_made_2524 fm0_done_2525 fm0_loopCount_2526 fm0_tired_2527 fm0_waiting_2528 am2021_2531 am2022_2534 am2023_2537 am2024_2540 am2025_2543 am2026_2546 am2027_2549 am2028_2552 => (cond (cb_eq r_2521 0) (im_loops (fun r_2554 fm0_count_2555 fm0_known_2556 fm0_made_2557 fm0_done_2558 fm0_loopCount_2559 fm0_tired_2560 fm0_waiting_2561 am2091_2564 am2092_2567 am2093_2570 am2094_2573 am2095_2576 am2096_2579 am2097_2582 am2098_2585 => (cond (cb_eq r_2554 0) (im_lawOf_220 x1 x4 x5 1 fm0_count_2555 fm0_known_2556 fm0_made_2557 fm0_done_2558 fm0_loopCount_2559 fm0_tired_2560 fm0_waiting_2561 am2091_2564 am2092_2567 am2093_2570 am2094_2573 am2095_2576 am2096_2579 am2097_2582 am2098_2585) false)) fm0_count_2522 fm0_known_2523 fm0_made_2524 fm0_done_2525 fm0_loopCount_2526 fm0_tired_2527 fm0_waiting_2528 am2021_2531 am2022_2534 am2023_2537 am2024_2540 am2025_2543 am2026_2546 am2027_2549 am2028_2552) false)) fm0_count_2489 fm0_known_2490 fm0_made_2491 fm0_done_2492 fm0_loopCount_2493 fm0_tired_2494 fm0_waiting_2495 am1941_2498 am1942_2501 am1943_2504 am1944_2507 am1945_2510 am1946_2513 am1947_2516 am1948_2519 0) false)) fm0_count_2456 fm0_known_2457 fm0_made_2458 fm0_done_2459 fm0_loopCount_2460 fm0_tired_2461 fm0_waiting_2462 am1821_2465 am1822_2468 am1823_2471 am1824_2474 am1825_2477 am1826_2480 am1827_2483 am1828_2486) false)) fm0_count_2423 fm0_known_2424 fm0_made_2425 fm0_done_2426 fm0_loopCount_2427 fm0_tired_2428 fm0_waiting_2429 am1681_2432 am1682_2435 am1683_2438 am1684_2441 am1685_2444 am1686_2447 am1687_2450 am1688_2453 3 0) false)) fm0_count_2390 fm0_known_2391 fm0_made_2392 fm0_done_2393 fm0_loopCount_2394 fm0_tired_2395 fm0_waiting_2396 am1531_2399 am1532_2402 am1533_2405 am1534_2408 am1535_2411 am1536_2414 am1537_2417 am1538_2420 1) false)) fm0_count_2357 fm0_known_2358 fm0_made_2359 fm0_done_2360 fm0_loopCount_2361 fm0_tired_2362 fm0_waiting_2363 am1431_2366 am1432_2369 am1433_2372 am1434_2375 am1435_2378 am1436_2381 am1437_2384 am1438_2387 0) false)) fm0_count_2324 fm0_known_2325 fm0_made_2326 fm0_done_2327 fm0_loopCount_2328 fm0_tired_2329 fm0_waiting_2330 am1331_2333 am1332_2336 am1333_2339 am1334_2342 am1335_2345 am1336_2348 am1337_2351 am1338_2354 x4) false)) fm0_count fm0_known fm0_made fm0_done fm0_loopCount fm0_tired fm0_waiting am291 am292 am293 am294 am295 am296 am297 am298))
theorem sd_lawOf_125 {post : Int32 → St0 → Prop} (hp : post 1 ()) (mc : Nat) (ms : Nat) {y_x1 : Int32} {x1 : Nat} (e_x1 : y_x1 &&& 7 = nI x1) {y_x4 : Int32} {x4 : Nat} (e_x4 : y_x4 = nI x4) {y_x5 : Int32} {x5 : Nat} (e_x5 : y_x5 = nI x5) {x6 : Nat} (h6 : x6 < 4096) {y_x6 : Int32} (e_x6 : y_x6 = nI x6) {y_z0 : Int32} {z0 : Nat} (e_z0 : y_z0 = nI z0) (kc : Nat) (ks : Nat) (fm0_count : Nat) (fm0_known : Nat) (fm0_made : Nat) (fm0_done : Nat) (fm0_loopCount : Nat) (fm0_tired : Nat) (fm0_waiting : Nat) (am291 : Nat) (am292 : Nat) (am293 : Nat) (am294 : Nat) (am295 : Nat) (am296 : Nat) (am297 : Nat) (am298 : Nat) (h : im_lawOf_125 x1 x4 x5 z0 fm0_count fm0_known fm0_made fm0_done fm0_loopCount fm0_tired fm0_waiting am291 am292 am293 am294 am295 am296 am297 am298 = true) : wL_lawOf_125 post mc ms y_x1 y_x4 y_x5 y_x6 y_z0 kc ks (nI fm0_count) (nI fm0_known) (nI fm0_made) (nI fm0_done) (nI fm0_loopCount) (nI fm0_tired) (nI fm0_waiting) (cb_ar am291) (cb_ar am292) (cb_ar am293) (cb_ar am294) (cb_ar am295) (cb_ar am296) (cb_ar am297) (cb_ar am298) := by
  subst e_x4
  subst e_x5
  subst e_z0
  unfold im_lawOf_125 at h
  unfold wL_lawOf_125
  refine ce_if (cb_eq_iff rfl (rfl : (0 : Int32) = nI 0)) h ce_no (fun h => ?_)
  refine sd_steps (fun r_2323 fm0_count_2324 fm0_known_2325 fm0_made_2326 fm0_done_2327 fm0_loopCount_2328 fm0_tired_2329 fm0_waiting_2330 am1331_2333 am1332_2336 am1333_2339 am1334_2342 am1335_2345 am1336_2348 am1337_2351 am1338_2354 h => ?_) fm0_count fm0_known fm0_made fm0_done fm0_loopCount fm0_tired fm0_waiting am291 am292 am293 am294 am295 am296 am297 am298 h
  refine ce_if (cb_eq_iff rfl (rfl : (1 : Int32) = nI 1)) h (fun h => ?_) ce_no
  refine sd_left (fun r_2356 fm0_count_2357 fm0_known_2358 fm0_made_2359 fm0_done_2360 fm0_loopCount_2361 fm0_tired_2362 fm0_waiting_2363 am1431_2366 am1432_2369 am1433_2372 am1434_2375 am1435_2378 am1436_2381 am1437_2384 am1438_2387 h => ?_) fm0_count_2324 fm0_known_2325 fm0_made_2326 fm0_done_2327 fm0_loopCount_2328 fm0_tired_2329 fm0_waiting_2330 am1331_2333 am1332_2336 am1333_2339 am1334_2342 am1335_2345 am1336_2348 am1337_2351 am1338_2354 rfl h
  refine ce_if (cb_eq_iff rfl (rfl : (0 : Int32) = nI 0)) h (fun h => ?_) ce_no
  refine sd_walkE (fun r_2389 fm0_count_2390 fm0_known_2391 fm0_made_2392 fm0_done_2393 fm0_loopCount_2394 fm0_tired_2395 fm0_waiting_2396 am1531_2399 am1532_2402 am1533_2405 am1534_2408 am1535_2411 am1536_2414 am1537_2417 am1538_2420 h => ?_) fm0_count_2357 fm0_known_2358 fm0_made_2359 fm0_done_2360 fm0_loopCount_2361 fm0_tired_2362 fm0_waiting_2363 am1431_2366 am1432_2369 am1433_2372 am1434_2375 am1435_2378 am1436_2381 am1437_2384 am1438_2387 (rfl : (0 : Int32) = nI 0) h6 e_x6 h
  refine ce_if (cb_eq_iff rfl (cb_hadd (rfl : (12 : Int32) = nI 12) rfl)) h (fun h => ?_) ce_no
  refine sd_walkE (fun r_2422 fm0_count_2423 fm0_known_2424 fm0_made_2425 fm0_done_2426 fm0_loopCount_2427 fm0_tired_2428 fm0_waiting_2429 am1681_2432 am1682_2435 am1683_2438 am1684_2441 am1685_2444 am1686_2447 am1687_2450 am1688_2453 h => ?_) fm0_count_2390 fm0_known_2391 fm0_made_2392 fm0_done_2393 fm0_loopCount_2394 fm0_tired_2395 fm0_waiting_2396 am1531_2399 am1532_2402 am1533_2405 am1534_2408 am1535_2411 am1536_2414 am1537_2417 am1538_2420 (rfl : (1 : Int32) = nI 1) h6 e_x6 h
  refine ce_if (cb_eq_iff rfl (cb_hsub (rfl : (13 : Int32) = nI 13) rfl)) h (fun h => ?_) ce_no
  refine sd_walk (fun r_2455 fm0_count_2456 fm0_known_2457 fm0_made_2458 fm0_done_2459 fm0_loopCount_2460 fm0_tired_2461 fm0_waiting_2462 am1821_2465 am1822_2468 am1823_2471 am1824_2474 am1825_2477 am1826_2480 am1827_2483 am1828_2486 h => ?_) fm0_count_2423 fm0_known_2424 fm0_made_2425 fm0_done_2426 fm0_loopCount_2427 fm0_tired_2428 fm0_waiting_2429 am1681_2432 am1682_2435 am1683_2438 am1684_2441 am1685_2444 am1686_2447 am1687_2450 am1688_2453 (rfl : (3 : Int32) = nI 3) (rfl : (0 : Int32) = nI 0) h
  refine ce_if (cb_eq_iff rfl (cb_hsub (rfl : (11 : Int32) = nI 11) rfl)) h (fun h => ?_) ce_no
  refine sd_open (fun r_2488 fm0_count_2489 fm0_known_2490 fm0_made_2491 fm0_done_2492 fm0_loopCount_2493 fm0_tired_2494 fm0_waiting_2495 am1941_2498 am1942_2501 am1943_2504 am1944_2507 am1945_2510 am1946_2513 am1947_2516 am1948_2519 h => ?_) fm0_count_2456 fm0_known_2457 fm0_made_2458 fm0_done_2459 fm0_loopCount_2460 fm0_tired_2461 fm0_waiting_2462 am1821_2465 am1822_2468 am1823_2471 am1824_2474 am1825_2477 am1826_2480 am1827_2483 am1828_2486 h
  refine ce_if (cb_eq_iff rfl (rfl : (0 : Int32) = nI 0)) h (fun h => ?_) ce_no
  refine sd_reach (fun r_2521 fm0_count_2522 fm0_known_2523 fm0_made_2524 fm0_done_2525 fm0_loopCount_2526 fm0_tired_2527 fm0_waiting_2528 am2021_2531 am2022_2534 am2023_2537 am2024_2540 am2025_2543 am2026_2546 am2027_2549 am2028_2552 h => ?_) fm0_count_2489 fm0_known_2490 fm0_made_2491 fm0_done_2492 fm0_loopCount_2493 fm0_tired_2494 fm0_waiting_2495 am1941_2498 am1942_2501 am1943_2504 am1944_2507 am1945_2510 am1946_2513 am1947_2516 am1948_2519 (rfl : (0 : Int32) = nI 0) h
  refine ce_if (cb_eq_iff rfl (rfl : (0 : Int32) = nI 0)) h (fun h => ?_) ce_no
  refine sd_loops (fun r_2554 fm0_count_2555 fm0_known_2556 fm0_made_2557 fm0_done_2558 fm0_loopCount_2559 fm0_tired_2560 fm0_waiting_2561 am2091_2564 am2092_2567 am2093_2570 am2094_2573 am2095_2576 am2096_2579 am2097_2582 am2098_2585 h => ?_) fm0_count_2522 fm0_known_2523 fm0_made_2524 fm0_done_2525 fm0_loopCount_2526 fm0_tired_2527 fm0_waiting_2528 am2021_2531 am2022_2534 am2023_2537 am2024_2540 am2025_2543 am2026_2546 am2027_2549 am2028_2552 h
  refine ce_if (cb_eq_iff rfl (rfl : (0 : Int32) = nI 0)) h (fun h => ?_) ce_no
  exact sd_lawOf_220 hp _ _ e_x1 rfl rfl h6 e_x6 (rfl : (1 : Int32) = nI 1) _ _ fm0_count_2555 fm0_known_2556 fm0_made_2557 fm0_done_2558 fm0_loopCount_2559 fm0_tired_2560 fm0_waiting_2561 am2091_2564 am2092_2567 am2093_2570 am2094_2573 am2095_2576 am2096_2579 am2097_2582 am2098_2585 h
def im_lawOf (x1 x4 x5 : Nat) : Bool := (im_init (fun fm0_count_5 fm0_known_6 fm0_made_7 fm0_done_8 fm0_loopCount_9 fm0_tired_10 fm0_waiting_11 am41_14 am42_17 am43_20 am44_23 am45_26 am46_29 am47_32 am48_35 => (im_cell (fun r_43 fm0_count_44 fm0_known_45 fm0_made_46 fm0_done_47 fm0_loopCount_48 fm0_tired_49 fm0_waiting_50 am291_53 am292_56 am293_59 am294_62 am295_65 am296_68 am297_71 am298_74 => (cond (cb_eq r_43 0) (im_cell (fun r_2587 fm0_count_2588 fm0_known_2589 fm0_made_2590 fm0_done_2591 fm0_loopCount_2592 fm0_tired_2593 fm0_waiting_2594 am381_2597 am382_2600 am383_2603 am384_2606 am385_2609 am386_2612 am387_2615 am388_2618 => (cond (cb_eq r_2587 1) (im_join (fun r_2620 fm0_count_2621 fm0_known_2622 fm0_made_2623 fm0_done_2624 fm0_loopCount_2625 fm0_tired_2626 fm0_waiting_2627 am481_2630 am482_2633 am483_2636 am484_2639 am485_2642 am486_2645 am487_2648 am488_2651 => (cond (cb_eq r_2620 0) (im_join (fun r_2653 fm0_count_2654 fm0_known_2655 fm0_made_2656 fm0_done_2657 fm0_loopCount_2658 fm0_tired_2659 fm0_waiting_2660 am581_2663 am582_2666 am583_2669 am584_2672 am585_2675 am586_2678 am587_2681 am588_2684 => (cond (cb_eq r_2653 0) (im_join (fun r_2686 fm0_count_2687 fm0_known_2688 fm0_made_2689 fm0_done_2690 fm0_loopCount_2691 fm0_tired_2692 fm0_waiting_2693 am681_2696 am682_2699 am683_2702 am684_2705 am685_2708 am686_2711 am687_2714 am688_2717 => (cond (cb_eq r_2686 0) (im_join (fun r_2719 fm0_count_2720 fm0_known_2721 fm0_made_2722 fm0_done_2723 fm0_loopCount_2724 fm0_tired_2725 fm0_waiting_2726 am811_2729 am812_2732 am813_2735 am814_2738 am815_2741 am816_2744 am817_2747 am818_2750 => (cond (cb_eq r_2719 0) (im_join (fun r_2752 fm0_count_2753 fm0_known_2754 fm0_made_2755 fm0_done_2756 fm0_loopCount_2757 fm0_tired_2758 fm0_waiting_2759 am941_2762 am942_2765 am943_2768 am944_2771 am945_2774 am946_2777 am947_2780 am948_2783 => (cond (cb_eq r_2752 0) (im_join (fun r_2785 fm0_count_2786 fm0_known_2787 fm0_made_2788 fm0_done_2789 fm0_loopCount_2790 fm0_tired_2791 fm0_waiting_2792 am1041_2795 am1042_2798 am1043_2801 am1044_2804 am1045_2807 am1046_2810 am1047_2813 am1048_2816 => (cond (cb_eq r_2785 4294967292) (im_facing (fun r_2818 => (cond (cb_eq r_2818 1) (im_lawOf_125 x1 x4 x5 1 fm0_count_2786 fm0_known_2787 fm0_made_2788 fm0_done_2789 fm0_loopCount_2790 fm0_tired_2791 fm0_waiting_2792 am1041_2795 am1042_2798 am1043_2801 am1044_2804 am1045_2807 am1046_2810 am1047_2813 am1048_2816) false)) fm0_count_2786 fm0_known_2787 fm0_made_2788 fm0_done_2789 fm0_loopCount_2790 fm0_tired_2791 fm0_waiting_2792 am1041_2795 am1042_2798 am1043_2801 am1044_2804 am1045_2807 am1046_2810 am1047_2813 am1048_2816) false)) fm0_count_2753 fm0_known_2754 fm0_made_2755 fm0_done_2756 fm0_loopCount_2757 fm0_tired_2758 fm0_waiting_2759 am941_2762 am942_2765 am943_2768 am944_2771 am945_2774 am946_2777 am947_2780 am948_2783 5 30) false)) fm0_count_2720 fm0_known_2721 fm0_made_2722 fm0_done_2723 fm0_loopCount_2724 fm0_tired_2725 fm0_waiting_2726 am811_2729 am812_2732 am813_2735 am814_2738 am815_2741 am816_2744 am817_2747 am818_2750 5 (cb_sub 33 x5)) false)) fm0_count_2687 fm0_known_2688 fm0_made_2689 fm0_done_2690 fm0_loopCount_2691 fm0_tired_2692 fm0_waiting_2693 am681_2696 am682_2699 am683_2702 am684_2705 am685_2708 am686_2711 am687_2714 am688_2717 4 (cb_add 32 x5)) false)) fm0_count_2654 fm0_known_2655 fm0_made_2656 fm0_done_2657 fm0_loopCount_2658 fm0_tired_2659 fm0_waiting_2660 am581_2663 am582_2666 am583_2669 am584_2672 am585_2675 am586_2678 am587_2681 am588_2684 2 31) false)) fm0_count_2621 fm0_known_2622 fm0_made_2623 fm0_done_2624 fm0_loopCount_2625 fm0_tired_2626 fm0_waiting_2627 am481_2630 am482_2633 am483_2636 am484_2639 am485_2642 am486_2645 am487_2648 am488_2651 1 30) false)) fm0_count_2588 fm0_known_2589 fm0_made_2590 fm0_done_2591 fm0_loopCount_2592 fm0_tired_2593 fm0_waiting_2594 am381_2597 am382_2600 am383_2603 am384_2606 am385_2609 am386_2612 am387_2615 am388_2618 0 3) false)) fm0_count_44 fm0_known_45 fm0_made_46 fm0_done_47 fm0_loopCount_48 fm0_tired_49 fm0_waiting_50 am291_53 am292_56 am293_59 am294_62 am295_65 am296_68 am297_71 am298_74 x4) false)) fm0_count_5 fm0_known_6 fm0_made_7 fm0_done_8 fm0_loopCount_9 fm0_tired_10 fm0_waiting_11 am41_14 am42_17 am43_20 am44_23 am45_26 am46_29 am47_32 am48_35 x4)))
theorem sd_lawOf {post : Int32 → St0 → Prop} (hp : post 1 ()) (mc ms : Nat) (hc : 9 ≤ mc) (hs : 4493 ≤ ms) (p0 p1 p2 : Int32) {x1 x4 x5 x6 : Nat} (e_x1 : p1 &&& 7 = nI x1) (e4 : p0 &&& 1 = nI x4) (e5 : (p0 >>> ((1 : Int32) &&& 31)) &&& 1 = nI x5) (h6 : x6 < 4096) (e6 : p2 &&& 63 = nI x6) (h : im_lawOf x1 x4 x5 = true) : wpL_lawOf post mc ms () p0 p1 p2 := by
  have e_x6 : nI x6 = nI x6 := rfl
  unfold im_lawOf at h
  unfold wpL_lawOf
  refine ⟨by omega, by omega, 8, 4478, by omega, by omega, ?_⟩
  refine sd_init (fun fm0_count_5 fm0_known_6 fm0_made_7 fm0_done_8 fm0_loopCount_9 fm0_tired_10 fm0_waiting_11 am41_14 am42_17 am43_20 am44_23 am45_26 am46_29 am47_32 am48_35 h => ?_) 8 4478 (by omega) (by omega) h
  refine nm_r e4 ?_
  refine nm_r e5 ?_
  refine nm_r e6 ?_
  refine sd_cell (fun r_43 fm0_count_44 fm0_known_45 fm0_made_46 fm0_done_47 fm0_loopCount_48 fm0_tired_49 fm0_waiting_50 am291_53 am292_56 am293_59 am294_62 am295_65 am296_68 am297_71 am298_74 h => ?_) fm0_count_5 fm0_known_6 fm0_made_7 fm0_done_8 fm0_loopCount_9 fm0_tired_10 fm0_waiting_11 am41_14 am42_17 am43_20 am44_23 am45_26 am46_29 am47_32 am48_35 rfl h
  refine ce_if (cb_eq_iff rfl (rfl : (0 : Int32) = nI 0)) h (fun h => ?_) ce_no
  refine sd_cell (fun r_2587 fm0_count_2588 fm0_known_2589 fm0_made_2590 fm0_done_2591 fm0_loopCount_2592 fm0_tired_2593 fm0_waiting_2594 am381_2597 am382_2600 am383_2603 am384_2606 am385_2609 am386_2612 am387_2615 am388_2618 h => ?_) fm0_count_44 fm0_known_45 fm0_made_46 fm0_done_47 fm0_loopCount_48 fm0_tired_49 fm0_waiting_50 am291_53 am292_56 am293_59 am294_62 am295_65 am296_68 am297_71 am298_74 rfl h
  refine ce_if (cb_eq_iff rfl (rfl : (1 : Int32) = nI 1)) h (fun h => ?_) ce_no
  refine sd_join (fun r_2620 fm0_count_2621 fm0_known_2622 fm0_made_2623 fm0_done_2624 fm0_loopCount_2625 fm0_tired_2626 fm0_waiting_2627 am481_2630 am482_2633 am483_2636 am484_2639 am485_2642 am486_2645 am487_2648 am488_2651 h => ?_) fm0_count_2588 fm0_known_2589 fm0_made_2590 fm0_done_2591 fm0_loopCount_2592 fm0_tired_2593 fm0_waiting_2594 am381_2597 am382_2600 am383_2603 am384_2606 am385_2609 am386_2612 am387_2615 am388_2618 (rfl : (0 : Int32) = nI 0) (rfl : (3 : Int32) = nI 3) h
  refine ce_if (cb_eq_iff rfl (rfl : (0 : Int32) = nI 0)) h (fun h => ?_) ce_no
  refine sd_join (fun r_2653 fm0_count_2654 fm0_known_2655 fm0_made_2656 fm0_done_2657 fm0_loopCount_2658 fm0_tired_2659 fm0_waiting_2660 am581_2663 am582_2666 am583_2669 am584_2672 am585_2675 am586_2678 am587_2681 am588_2684 h => ?_) fm0_count_2621 fm0_known_2622 fm0_made_2623 fm0_done_2624 fm0_loopCount_2625 fm0_tired_2626 fm0_waiting_2627 am481_2630 am482_2633 am483_2636 am484_2639 am485_2642 am486_2645 am487_2648 am488_2651 (rfl : (1 : Int32) = nI 1) (rfl : (30 : Int32) = nI 30) h
  refine ce_if (cb_eq_iff rfl (rfl : (0 : Int32) = nI 0)) h (fun h => ?_) ce_no
  refine sd_join (fun r_2686 fm0_count_2687 fm0_known_2688 fm0_made_2689 fm0_done_2690 fm0_loopCount_2691 fm0_tired_2692 fm0_waiting_2693 am681_2696 am682_2699 am683_2702 am684_2705 am685_2708 am686_2711 am687_2714 am688_2717 h => ?_) fm0_count_2654 fm0_known_2655 fm0_made_2656 fm0_done_2657 fm0_loopCount_2658 fm0_tired_2659 fm0_waiting_2660 am581_2663 am582_2666 am583_2669 am584_2672 am585_2675 am586_2678 am587_2681 am588_2684 (rfl : (2 : Int32) = nI 2) (rfl : (31 : Int32) = nI 31) h
  refine ce_if (cb_eq_iff rfl (rfl : (0 : Int32) = nI 0)) h (fun h => ?_) ce_no
  refine sd_join (fun r_2719 fm0_count_2720 fm0_known_2721 fm0_made_2722 fm0_done_2723 fm0_loopCount_2724 fm0_tired_2725 fm0_waiting_2726 am811_2729 am812_2732 am813_2735 am814_2738 am815_2741 am816_2744 am817_2747 am818_2750 h => ?_) fm0_count_2687 fm0_known_2688 fm0_made_2689 fm0_done_2690 fm0_loopCount_2691 fm0_tired_2692 fm0_waiting_2693 am681_2696 am682_2699 am683_2702 am684_2705 am685_2708 am686_2711 am687_2714 am688_2717 (rfl : (4 : Int32) = nI 4) (cb_hadd (rfl : (32 : Int32) = nI 32) rfl) h
  refine ce_if (cb_eq_iff rfl (rfl : (0 : Int32) = nI 0)) h (fun h => ?_) ce_no
  refine sd_join (fun r_2752 fm0_count_2753 fm0_known_2754 fm0_made_2755 fm0_done_2756 fm0_loopCount_2757 fm0_tired_2758 fm0_waiting_2759 am941_2762 am942_2765 am943_2768 am944_2771 am945_2774 am946_2777 am947_2780 am948_2783 h => ?_) fm0_count_2720 fm0_known_2721 fm0_made_2722 fm0_done_2723 fm0_loopCount_2724 fm0_tired_2725 fm0_waiting_2726 am811_2729 am812_2732 am813_2735 am814_2738 am815_2741 am816_2744 am817_2747 am818_2750 (rfl : (5 : Int32) = nI 5) (cb_hsub (rfl : (33 : Int32) = nI 33) rfl) h
  refine ce_if (cb_eq_iff rfl (rfl : (0 : Int32) = nI 0)) h (fun h => ?_) ce_no
  refine sd_join (fun r_2785 fm0_count_2786 fm0_known_2787 fm0_made_2788 fm0_done_2789 fm0_loopCount_2790 fm0_tired_2791 fm0_waiting_2792 am1041_2795 am1042_2798 am1043_2801 am1044_2804 am1045_2807 am1046_2810 am1047_2813 am1048_2816 h => ?_) fm0_count_2753 fm0_known_2754 fm0_made_2755 fm0_done_2756 fm0_loopCount_2757 fm0_tired_2758 fm0_waiting_2759 am941_2762 am942_2765 am943_2768 am944_2771 am945_2774 am946_2777 am947_2780 am948_2783 (rfl : (5 : Int32) = nI 5) (rfl : (30 : Int32) = nI 30) h
  refine ce_if (cb_eq_iff rfl cb_m4) h (fun h => ?_) ce_no
  refine sd_facing (fun r_2818 h => ?_) fm0_count_2786 fm0_known_2787 fm0_made_2788 fm0_done_2789 fm0_loopCount_2790 fm0_tired_2791 fm0_waiting_2792 am1041_2795 am1042_2798 am1043_2801 am1044_2804 am1045_2807 am1046_2810 am1047_2813 am1048_2816 h
  refine ce_if (cb_eq_iff rfl (rfl : (1 : Int32) = nI 1)) h (fun h => ?_) ce_no
  exact sd_lawOf_125 hp _ _ e_x1 rfl rfl h6 e_x6 (rfl : (1 : Int32) = nI 1) _ _ fm0_count_2786 fm0_known_2787 fm0_made_2788 fm0_done_2789 fm0_loopCount_2790 fm0_tired_2791 fm0_waiting_2792 am1041_2795 am1042_2798 am1043_2801 am1044_2804 am1045_2807 am1046_2810 am1047_2813 am1048_2816 h
end
section
theorem cl_run : ∀ x1, x1 < 8 → ∀ x4, x4 < 2 → ∀ x5, x5 < 2 → im_lawOf x1 x4 x5 = true := by decide +kernel
end
section
theorem cl_at {post : Int32 → Prop} {L : Nat} {xs : Nat → Int32} (hL : L ≤ 3) (k : Nat) (hk : k < 3) (H : ∀ r, post r) {y : Int32} (hy : y = nI k) : wpL_cellAt post L xs () y := by
  subst hy
  unfold wpL_cellAt
  refine br_c (fun _ => H _) (fun hn => ⟨?_, H _⟩)
  have h2 : ¬ nI L ≤ nI k := hn
  rw [nI_leI (by omega) (by omega)] at h2
  exact vp_in_nI (by omega) (by omega)
theorem cl_top (r1 r2 r3 : Int32) : wpL_lawOf (fun r _ => r = 1) 1898 30368 () r1 r2 r3 := by
  obtain ⟨x1, h1, e1⟩ := pk_andE r2 (m := 7) 3 (by decide)
  obtain ⟨x4, h4, e4⟩ := pk_andE r1 (m := 1) 1 (by decide)
  obtain ⟨x5, h5, e5⟩ := pk_andE (r1 >>> ((1 : Int32) &&& 31)) (m := 1) 1 (by decide)
  obtain ⟨x6, h6, e6⟩ := pk_andE r3 (m := 63) 6 (by decide)
  exact sd_lawOf (post := fun r _ => r = 1) rfl 1898 30368 (by decide) (by decide) r1 r2 r3 e1 e4 e5 (Nat.lt_trans h6 (by decide)) e6 (cl_run x1 h1 x4 h4 x5 h5)
theorem i_vc (xs : Nat → Int32) (L : Nat) (hL : L ≤ 3) : wpL_law (fun r => r = 1) L xs := by
  unfold wpL_law
  exact cl_at hL 0 (by decide) (fun r1 => cl_at hL 1 (by decide) (fun r2 => cl_at hL 2 (by decide) (fun r3 => ⟨1898, 30368, by decide, by decide, cl_top r1 r2 r3⟩) rfl) rfl) rfl
end
