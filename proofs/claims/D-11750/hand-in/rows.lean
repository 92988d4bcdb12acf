section
theorem s_l : ∀ n, n < 32 → ((nI n &&& 31).toBitVec.smod 32).toNat = n := by decide +kernel
theorem nx_and (a b : Nat) : nI a &&& nI b = nI (a &&& b) := by
  apply Int32.toBitVec_inj.1
  show BitVec.ofNat 32 a &&& BitVec.ofNat 32 b = BitVec.ofNat 32 (a &&& b)
  apply BitVec.eq_of_getLsbD_eq
  intro i hi
  simp [hi]
/-! ===== lN n to 2^64: shifts, and, or, masks, one bit ===== -/
theorem wb_tb (n : Nat) : (lN n).toBitVec = BitVec.ofNat 64 n := rfl
theorem wb_inj {a b : Int64} (h : a.toBitVec = b.toBitVec) : a = b := Int64.toBitVec_inj.mp h
theorem wb_tn {n : Nat} (h : n < 2 ^ 64) : (lN n).toBitVec.toNat = n := by rw [wb_tb, BitVec.toNat_ofNat, Nat.mod_eq_of_lt h]
theorem wb_c : ∀ k, k < 64 → ((nI k).toInt64 &&& 63) = lN k := by decide +kernel
theorem wb_cu : ∀ k, k < 64 → ((nI k).toInt64.toUInt64 &&& Int64.toUInt64 63) = UInt64.ofNat k := by decide +kernel
theorem wb_sm : ∀ k, k < 64 → (BitVec.ofNat 64 k).smod 64 = BitVec.ofNat 64 k := by decide +kernel
theorem wb_pw {a b : Nat} (h : a ≤ b) : 2 ^ b = 2 ^ a * 2 ^ (b - a) := by rw [← Nat.pow_add]; congr 1; omega
theorem wb_lt2 {a b : Nat} (h : a < b) : 2 ^ a < 2 ^ b := Nat.pow_lt_pow_right (by decide) h
theorem wb_mod (n : Nat) : lN n = lN (n % 2 ^ 64) := wb_inj (by rw [wb_tb, wb_tb]; apply BitVec.eq_of_toNat_eq; rw [BitVec.toNat_ofNat, BitVec.toNat_ofNat, Nat.mod_mod])
theorem wb_shr {n k : Nat} (hn : n < 2 ^ 64) (hk : k < 64) : ((lN n).toUInt64 >>> ((nI k).toInt64.toUInt64 &&& Int64.toUInt64 63)).toInt64 = lN (n / 2 ^ k) := by
  rw [wb_cu k hk]
  apply wb_inj
  apply BitVec.eq_of_toNat_eq
  show ((lN n).toUInt64 >>> UInt64.ofNat k).toNat = (BitVec.ofNat 64 _).toNat
  have h1 : (UInt64.ofNat k).toNat = k := by
    show (BitVec.ofNat 64 k).toNat = k
    rw [BitVec.toNat_ofNat, Nat.mod_eq_of_lt (by omega)]
  have h2 : (lN n).toUInt64.toNat = n := wb_tn hn
  rw [UInt64.toNat_shiftRight, h1, h2, Nat.mod_eq_of_lt hk, Nat.shiftRight_eq_div_pow, BitVec.toNat_ofNat, Nat.mod_eq_of_lt (Nat.lt_of_le_of_lt (Nat.div_le_self _ _) hn)]
theorem wb_shl (n : Nat) {k : Nat} (hk : k < 64) : lN n <<< ((nI k).toInt64 &&& 63) = lN (n * 2 ^ k) := by
  rw [wb_c k hk]
  apply wb_inj
  rw [Int64.toBitVec_shiftLeft, wb_tb, wb_tb, wb_tb, wb_sm k hk]
  apply BitVec.eq_of_toNat_eq
  rw [BitVec.shiftLeft_eq', BitVec.toNat_shiftLeft, BitVec.toNat_ofNat, BitVec.toNat_ofNat, BitVec.toNat_ofNat, Nat.mod_eq_of_lt (show k < 2 ^ 64 by omega), Nat.shiftLeft_eq, Nat.mul_mod, Nat.mod_mod, ← Nat.mul_mod]
theorem wb_and {a b : Nat} (ha : a < 2 ^ 64) (hb : b < 2 ^ 64) : lN a &&& lN b = lN (a &&& b) := by
  apply wb_inj
  rw [Int64.toBitVec_and, wb_tb, wb_tb, wb_tb]
  apply BitVec.eq_of_toNat_eq
  rw [BitVec.toNat_and, BitVec.toNat_ofNat, BitVec.toNat_ofNat, BitVec.toNat_ofNat, Nat.mod_eq_of_lt ha, Nat.mod_eq_of_lt hb, Nat.mod_eq_of_lt (Nat.and_lt_two_pow _ hb)]
theorem wb_or {a b : Nat} (ha : a < 2 ^ 64) (hb : b < 2 ^ 64) : lN a ||| lN b = lN (a ||| b) := by
  apply wb_inj
  rw [Int64.toBitVec_or, wb_tb, wb_tb, wb_tb]
  apply BitVec.eq_of_toNat_eq
  rw [BitVec.toNat_or, BitVec.toNat_ofNat, BitVec.toNat_ofNat, BitVec.toNat_ofNat, Nat.mod_eq_of_lt ha, Nat.mod_eq_of_lt hb, Nat.mod_eq_of_lt (Nat.or_lt_two_pow ha hb)]
theorem wb_mask {n k : Nat} (hn : n < 2 ^ 64) (hk : k < 64) : lN n &&& lN (2 ^ k - 1) = lN (n % 2 ^ k) := by
  rw [wb_and hn (by have := wb_lt2 hk; omega), Nat.and_two_pow_sub_one_eq_mod]
theorem wb_a1 {n : Nat} (hn : n < 2 ^ 64) : lN n &&& 1 = lN (n % 2) := wb_mask (k := 1) hn (by decide)
theorem wb_bit {n k : Nat} (hn : n < 2 ^ 64) (hk : k < 64) : ((lN n).toUInt64 >>> ((nI k).toInt64.toUInt64 &&& Int64.toUInt64 63)).toInt64 &&& 1 = lN (n / 2 ^ k % 2) := by
  rw [wb_shr hn hk, wb_a1 (Nat.lt_of_le_of_lt (Nat.div_le_self _ _) hn)]
/-! ===== rows of my own ===== -/
theorem ar_or (a b : Nat) : nI a ||| nI b = nI (a ||| b) := by
  apply Int32.toBitVec_inj.1
  show BitVec.ofNat 32 a ||| BitVec.ofNat 32 b = BitVec.ofNat 32 (a ||| b)
  apply BitVec.eq_of_getLsbD_eq
  intro i hi
  simp [hi]
/-- one bit of a window held in an int -/
theorem ar_bit {W k : Nat} (hW : W < 256) (hk : k < 32) : (nI W >>> (nI k &&& 31)) &&& 1 = nI (W / 2 ^ k % 2) := by
  have h1 : W / 2 ^ k ≤ W := Nat.div_le_self _ _
  rw [pk_shrN (by omega) _ k (s_l k hk)]
  exact pk_andN (by omega) 1 (by decide)
/-- how many of the lowest j bits are set -/
def ar_o (W : Nat) : Nat → Nat
  | 0 => 0
  | j + 1 => ar_o W j + W / 2 ^ j % 2
def ar_n1 (p : Int64) : Int64 := p - (((p.toUInt64 >>> ((1 : Int32).toInt64.toUInt64 &&& Int64.toUInt64 63)).toInt64) &&& 6148914691236517205)
def ar_n2 (x : Int64) : Int64 := (x &&& 3689348814741910323) + (((x.toUInt64 >>> ((2 : Int32).toInt64.toUInt64 &&& Int64.toUInt64 63)).toInt64) &&& 3689348814741910323)
def ar_n3 (x : Int64) : Int64 := (x + ((x.toUInt64 >>> ((4 : Int32).toInt64.toUInt64 &&& Int64.toUInt64 63)).toInt64)) &&& 1085102592571150095
def ar_n4 (x : Int64) : Int32 := (((x * 72340172838076673).toUInt64 >>> ((56 : Int32).toInt64.toUInt64 &&& Int64.toUInt64 63)).toInt64).toInt32
theorem ar_n : ∀ W, W < 256 → ar_n4 (ar_n3 (ar_n2 (ar_n1 (lN W)))) = nI (ar_o W 8) := by decide +kernel
theorem ar_sub {a b c e : Nat} (h : a + e = c + b) : nI a - nI b = nI c - nI e := by
  have h2 : nI a + nI e = nI c + nI b := by rw [nI_add, nI_add, h]
  grind
theorem ar_ad (k a b : Nat) : nI k * nI a + nI b = nI (k * a + b) := by rw [pk_mul, nI_add]
/-- the number's distance from the window's lower edge -/
theorem ar_low {T lo : Nat} (hT : T < 2 ^ 20) (hlo : lo < 256) : ∃ d, d < 256 ∧ (T + d) % 256 = (lo + 7) % 256 ∧ (nI lo - (nI T - 7)) &&& 255 = nI d := by
  refine ⟨(nI lo - (nI T - 7)).toBitVec.toNat % 2 ^ 8, Nat.mod_lt _ (by decide), ?_, pk_and _ 8 (by decide)⟩
  show (T + (BitVec.ofNat 32 lo - (BitVec.ofNat 32 T - BitVec.ofNat 32 7)).toNat % 2 ^ 8) % 256 = (lo + 7) % 256
  rw [BitVec.toNat_sub, BitVec.toNat_sub, BitVec.toNat_ofNat, BitVec.toNat_ofNat, BitVec.toNat_ofNat]
  omega
theorem ar_num (T d : Nat) : nI T - 7 + nI d = nI (T + d) - nI 7 := by
  rw [← nI_add]
  show nI T - nI 7 + nI d = nI T + nI d - nI 7
  grind
theorem ar_early {t : Nat} (h : t < 8) : nI t - nI 7 < 1 := by
  rw [Int32.lt_iff_toInt_lt, pk_sub_toInt (by omega) (by decide), show (1 : Int32).toInt = 1 from by decide]
  omega
theorem ar_nearly {t : Nat} (h : t < 8) : ¬ 1 ≤ nI t - nI 7 := by
  rw [Int32.le_iff_toInt_le, pk_sub_toInt (by omega) (by decide), show (1 : Int32).toInt = 1 from by decide]
  omega
end
section
/-- how many numbers below m are accepted -/
def ar_c (A : Nat → Bool) : Nat → Nat
  | 0 => 0
  | m + 1 => ar_c A m + (if A m = true then 1 else 0)
theorem ar_c_mono (A : Nat → Bool) {a b : Nat} (h : a ≤ b) : ar_c A a ≤ ar_c A b := by
  induction h with
  | refl => exact Nat.le_refl _
  | step h ih => exact Nat.le_trans ih (Nat.le_add_right _ _)
theorem ar_c_lt (A : Nat → Bool) {a b : Nat} (h : a < b) (ha : A a = true) : ar_c A a < ar_c A b := by
  have h1 := ar_c_mono A (show a + 1 ≤ b from h)
  have e : ar_c A (a + 1) = ar_c A a + 1 := by
    show _ + _ = _
    rw [if_pos ha]
  omega
theorem ar_c_up (A : Nat → Bool) {T m : Nat} (hA : ∀ x, T < x → A x = false) (h : T ≤ m) : ar_c A (m + 1) = ar_c A (T + 1) := by
  induction h with
  | refl => rfl
  | @step m h ih =>
    show ar_c A (m + 1) + (if A (m + 1) = true then 1 else 0) = _
    have h2 : T < m + 1 := Nat.lt_succ_of_le h
    rw [hA _ h2, ih]
    simp
/-- one more number is accepted -/
def ar_a (A : Nat → Bool) (s : Nat) : Nat → Bool := fun x => if x = s then true else A x
theorem ar_a_s (A : Nat → Bool) (s : Nat) : ar_a A s s = true := by simp [ar_a]
theorem ar_a_n (A : Nat → Bool) {s x : Nat} (h : x ≠ s) : ar_a A s x = A x := by simp [ar_a, h]
theorem ar_c_a {A : Nat → Bool} {s : Nat} (h : A s = false) (m : Nat) : ar_c (ar_a A s) m = ar_c A m + (if s < m then 1 else 0) := by
  induction m with
  | zero => simp [ar_c]
  | succ m ih =>
    show ar_c (ar_a A s) m + (if ar_a A s m = true then 1 else 0) = ar_c A m + (if A m = true then 1 else 0) + (if s < m + 1 then 1 else 0)
    rw [ih]
    by_cases e : m = s
    · subst e
      rw [ar_a_s, h]
      simp
    · rw [ar_a_n A e]
      by_cases g : s < m
      · rw [if_pos g, if_pos (show s < m + 1 by omega)]
        omega
      · rw [if_neg g, if_neg (show ¬ s < m + 1 by omega)]
        omega
/-- the picture: T the top, W the window, n how many are accepted, A the accepted numbers -/
def ar_P (T W n : Nat) (A : Nat → Bool) : Prop := W < 256 ∧ A 0 = false ∧ (∀ x, T < x → A x = false) ∧ ar_c A (T + 1) = n ∧ ∀ k, k < 8 → W.testBit k = (decide (k ≤ T) && A (T - k))
theorem ar_P0 : ar_P 0 0 0 (fun _ => false) := by
  refine ⟨by decide, rfl, fun _ _ => rfl, rfl, fun k _ => ?_⟩
  simp
theorem ar_seen {T W n S : Nat} {A : Nat → Bool} (h : ar_P T W n A) (h1 : S ≤ T) (h2 : T ≤ S + 7) : W / 2 ^ (T - S) % 2 = (if A S = true then 1 else 0) := by
  have h3 := h.2.2.2.2 (T - S) (by omega)
  rw [Nat.testBit_eq_decide_div_mod_eq, show T - (T - S) = S by omega, decide_eq_true (show T - S ≤ T by omega), Bool.true_and] at h3
  rw [← h3]
  have h4 : W / 2 ^ (T - S) % 2 < 2 := Nat.mod_lt _ (by decide)
  by_cases e : W / 2 ^ (T - S) % 2 = 1
  · simp [e]
  · simp [e]
    omega
/-- what stands behind the window, and the window -/
theorem ar_cw {T W n : Nat} {A : Nat → Bool} (h : ar_P T W n A) : ar_c A (T - 7) + ar_o W 8 = n := by
  have key : ∀ j, j ≤ 8 → ar_c A (T + 1 - j) + ar_o W j = n := by
    intro j
    induction j with
    | zero => exact fun _ => h.2.2.2.1
    | succ j ih =>
      intro hj
      have i1 := ih (by omega)
      have b := h.2.2.2.2 j (by omega)
      show ar_c A (T + 1 - (j + 1)) + (ar_o W j + W / 2 ^ j % 2) = n
      by_cases e : j ≤ T
      · have s := ar_seen (S := T - j) h (by omega) (by omega)
        rw [show T - (T - j) = j by omega] at s
        rw [show T + 1 - j = (T - j) + 1 by omega] at i1
        have i2 : ar_c A (T - j) + (if A (T - j) = true then 1 else 0) + ar_o W j = n := i1
        rw [show T + 1 - (j + 1) = T - j by omega, s]
        omega
      · rw [Nat.testBit_eq_decide_div_mod_eq, decide_eq_false e, Bool.false_and, decide_eq_false_iff_not] at b
        have b2 : W / 2 ^ j % 2 < 2 := Nat.mod_lt _ (by decide)
        rw [show T + 1 - j = 0 by omega] at i1
        rw [show T + 1 - (j + 1) = 0 by omega]
        omega
  have k8 := key 8 (by omega)
  rw [show T + 1 - 8 = T - 7 by omega] at k8
  exact k8
theorem ar_c1 {A : Nat → Bool} (h : A 0 = false) : ar_c A 1 = 0 := by
  show 0 + (if A 0 = true then 1 else 0) = 0
  rw [h]
  simp
/-- accepted within the window -/
theorem ar_in {T W n S : Nat} {A : Nat → Bool} (h : ar_P T W n A) (h0 : 1 ≤ S) (h1 : S ≤ T) (h2 : T ≤ S + 7) (hA : A S = false) : ar_P T (W ||| 2 ^ (T - S)) (n + 1) (ar_a A S) := by
  obtain ⟨p1, p2, p3, p4, p5⟩ := h
  refine ⟨Nat.or_lt_two_pow (n := 8) p1 (Nat.pow_lt_pow_right (by decide) (by omega)), ?_, ?_, ?_, ?_⟩
  · rw [ar_a_n A (by omega)]
    exact p2
  · intro x hx
    rw [ar_a_n A (by omega)]
    exact p3 x hx
  · rw [ar_c_a hA, p4, if_pos (by omega)]
  · intro k hk
    rw [Nat.testBit_or, Nat.testBit_two_pow, p5 k hk]
    by_cases e : T - S = k
    · rw [show T - k = S by omega, ar_a_s, decide_eq_true e, decide_eq_true (show k ≤ T by omega)]
      simp
    · rw [decide_eq_false e, Bool.or_false]
      by_cases g : k ≤ T
      · rw [ar_a_n A (by omega)]
      · rw [decide_eq_false g, Bool.false_and, Bool.false_and]
/-- accepted a little ahead -/
theorem ar_up {T W n S : Nat} {A : Nat → Bool} (h : ar_P T W n A) (h1 : T < S) (h2 : S - T ≤ 7) : ar_P S (W * 2 ^ (S - T) % 256 ||| 1) (n + 1) (ar_a A S) := by
  obtain ⟨p1, p2, p3, p4, p5⟩ := h
  refine ⟨Nat.or_lt_two_pow (n := 8) (Nat.mod_lt _ (by decide)) (by decide), ?_, ?_, ?_, ?_⟩
  · rw [ar_a_n A (by omega)]
    exact p2
  · intro x hx
    rw [ar_a_n A (by omega)]
    exact p3 x (by omega)
  · rw [ar_c_a (p3 S h1), ar_c_up A p3 (by omega), p4, if_pos (by omega)]
  · intro k hk
    rw [Nat.testBit_or, show (256 : Nat) = 2 ^ 8 from rfl, Nat.testBit_mod_two_pow, Nat.testBit_mul_two_pow, decide_eq_true hk, Bool.true_and]
    by_cases e : k = 0
    · subst e
      rw [Nat.sub_zero, ar_a_s]
      simp
    · rw [show Nat.testBit 1 k = false from by rw [show (1 : Nat) = 2 ^ 0 from rfl, Nat.testBit_two_pow]; exact decide_eq_false (by omega), Bool.or_false]
      by_cases g : S - T ≤ k
      · rw [decide_eq_true g, Bool.true_and, p5 _ (by omega), show T - (k - (S - T)) = S - k by omega]
        by_cases q : k ≤ S
        · rw [ar_a_n A (by omega), decide_eq_true q, decide_eq_true (show k - (S - T) ≤ T by omega)]
        · rw [decide_eq_false q, decide_eq_false (show ¬ k - (S - T) ≤ T by omega), Bool.false_and, Bool.false_and]
      · rw [decide_eq_false g, Bool.false_and, ar_a_n A (by omega), p3 _ (by omega), Bool.and_false]
/-- accepted far ahead -/
theorem ar_far {T W n S : Nat} {A : Nat → Bool} (h : ar_P T W n A) (h1 : T < S) (h2 : 7 < S - T) : ar_P S 1 (n + 1) (ar_a A S) := by
  obtain ⟨p1, p2, p3, p4, p5⟩ := h
  refine ⟨by decide, ?_, ?_, ?_, ?_⟩
  · rw [ar_a_n A (by omega)]
    exact p2
  · intro x hx
    rw [ar_a_n A (by omega)]
    exact p3 x (by omega)
  · rw [ar_c_a (p3 S h1), ar_c_up A p3 (by omega), p4, if_pos (by omega)]
  · intro k hk
    by_cases e : k = 0
    · subst e
      rw [Nat.sub_zero, ar_a_s]
      simp
    · rw [show Nat.testBit 1 k = false from by rw [show (1 : Nat) = 2 ^ 0 from rfl, Nat.testBit_two_pow]; exact decide_eq_false (by omega), ar_a_n A (by omega), p3 _ (by omega), Bool.and_false]
/-- the new top and the new window -/
def ar_T (T S : Nat) : Nat := if S ≤ T then T else S
def ar_W (T W S : Nat) : Nat := if S ≤ T then W ||| 2 ^ (T - S) else if S - T ≤ 7 then W * 2 ^ (S - T) % 256 ||| 1 else 1
theorem ar_acc {T W n S : Nat} {A : Nat → Bool} (h : ar_P T W n A) (h0 : 1 ≤ S) (h2 : T ≤ S + 7) (hA : A S = false) : ar_P (ar_T T S) (ar_W T W S) (n + 1) (ar_a A S) := by
  unfold ar_T ar_W
  by_cases e : S ≤ T
  · rw [if_pos e, if_pos e]
    exact ar_in h h0 e h2 hA
  · rw [if_neg e, if_neg e]
    by_cases g : S - T ≤ 7
    · rw [if_pos g]
      exact ar_up h (by omega) g
    · rw [if_neg g]
      exact ar_far h (by omega) (by omega)
/-- the list: sorted, distinct -/
def ar_L (A : Nat → Bool) (n : Nat) (f : Nat → Int32) : Prop := ∃ m : Nat → Nat, ∀ j, j < n → f j = nI (m j) ∧ A (m j) = true ∧ ar_c A (m j) = j
theorem ar_L0 (A : Nat → Bool) (f : Nat → Int32) : ar_L A 0 f := ⟨fun _ => 0, fun j hj => absurd hj (by omega)⟩
theorem ar_ins {A : Nat → Bool} {n S : Nat} {f f' : Nat → Int32} (h : ar_L A n f) (hA : A S = false) (hc : ar_c A S ≤ n)
    (h1 : ∀ j, j < ar_c A S → f' j = f j) (h2 : f' (ar_c A S) = nI S) (h3 : ∀ j, ar_c A S ≤ j → j < n → f' (j + 1) = f j) : ar_L (ar_a A S) (n + 1) f' := by
  obtain ⟨m, hm⟩ := h
  refine ⟨fun j => if j < ar_c A S then m j else if j = ar_c A S then S else m (j - 1), fun j hj => ?_⟩
  by_cases a : j < ar_c A S
  · obtain ⟨e1, e2, e3⟩ := hm j (by omega)
    have lt : m j < S := by
      rcases Nat.lt_or_ge (m j) S with z | z
      · exact z
      · have := ar_c_mono A z
        omega
    dsimp only
    rw [if_pos a, h1 j a, ar_a_n A (by omega), ar_c_a hA, if_neg (by omega)]
    exact ⟨e1, e2, e3⟩
  · by_cases b : j = ar_c A S
    · dsimp only
      rw [if_neg a, if_pos b, ar_a_s, ar_c_a hA, if_neg (by omega), b]
      exact ⟨h2, rfl, rfl⟩
    · obtain ⟨e1, e2, e3⟩ := hm (j - 1) (by omega)
      have ge : S < m (j - 1) := by
        rcases Nat.lt_or_ge S (m (j - 1)) with z | z
        · exact z
        · have ne : m (j - 1) ≠ S := by
            intro q
            rw [q, hA] at e2
            exact absurd e2 (by decide)
          have := ar_c_lt A (show m (j - 1) < S by omega) e2
          omega
      have h4 := h3 (j - 1) (by omega) (by omega)
      rw [show j - 1 + 1 = j by omega] at h4
      dsimp only
      rw [if_neg a, if_neg b, h4, ar_a_n A (by omega), ar_c_a hA, if_pos ge]
      exact ⟨e1, e2, by omega⟩
/-- the first gap, at j + 1: from k = 7 - j on -/
def ar_g (T W : Nat) : Nat → Nat
  | 0 => 0
  | j + 1 => if T ≤ 7 - j then 0 else if W / 2 ^ (7 - j) % 2 = 0 then T - (7 - j) else ar_g T W j
theorem ar_g0 (T W j : Nat) (h : T ≤ 8 - j) : ar_g T W j = 0 := by
  cases j with
  | zero => rfl
  | succ j =>
    unfold ar_g
    exact if_pos (by omega)
theorem ar_ole (W : Nat) {i j : Nat} (h : i ≤ j) : ar_o W i ≤ ar_o W j := by
  induction h with
  | refl => exact Nat.le_refl _
  | step h ih => exact Nat.le_trans ih (Nat.le_add_right _ _)
theorem ar_o8 (W : Nat) {j : Nat} : ar_o W j ≤ j := by
  induction j with
  | zero => exact Nat.le_refl _
  | succ j ih =>
    show ar_o W j + W / 2 ^ j % 2 ≤ j + 1
    have : W / 2 ^ j % 2 < 2 := Nat.mod_lt _ (by decide)
    omega
theorem ar_gle (T W j : Nat) : ar_g T W j ≤ T := by
  induction j with
  | zero => exact Nat.zero_le _
  | succ j ih =>
    unfold ar_g
    split
    · omega
    · split
      · omega
      · exact ih
end
section
/-- a state that matches the picture; g: the count of good verdicts -/
def ar_S (l T W n g : Nat) (A : Nat → Bool) (u : St2) : Prop := match u with
  | (w, mv, a1, a2, a3, a4, a5, _, a7, a8) => w = nI 8 ∧ mv = lN 255 ∧ a1 l = nI (T / 256) ∧ a2 l = nI (T % 256) ∧ a3 l = lN W ∧ a4 l = nI n ∧ ar_L A n (fun j => a5 (60 * l + j)) ∧ a7 l = nI 60 ∧ a8 (6 * l + 1) = nI g
section
variable {w : Int32} {mv : Int64} {a1 a2 : Nat → Int32} {a3 : Nat → Int64} {a4 a5 a6 a7 a8 : Nat → Int32} {l T W n g : Nat} {A : Nat → Bool}
theorem ar_isLine {post : Int32 → Prop} (hl : l < 4) (H : post 1) : wpX_isLine post () (nI l) :=
  br_f (nI_pos (by omega)) (br_f (nI_nlt (a := 3) (by omega) (by decide)) H)
theorem ar_isLow {post : Int32 → Prop} {lo : Nat} (hl : lo < 256) (H : post 1) : wpX_isLow post () (nI lo) :=
  br_f (nI_pos (by omega)) (br_f (nI_nlt (a := 255) (by omega) (by decide)) H)
theorem ar_ones {post : Int32 → Prop} (hW : W < 256) (H : post (nI (ar_o W 8))) : wpX_ones post () (lN W) := by
  intro x1 e1 x2 e2 x3 e3
  rw [e3, e2, e1]
  have h2 : post (ar_n4 (ar_n3 (ar_n2 (ar_n1 (lN W))))) := by
    rw [ar_n W hW]
    exact H
  exact h2
theorem ar_topOf {post : Int32 → Prop} (hl : l < 4) (h1 : a1 l = nI (T / 256)) (h2 : a2 l = nI (T % 256)) (H : post (nI T)) : wpX_topOf post (w, mv, a1, a2, a3, a4, a5, a6, a7, a8) (nI l) := by
  have cl : (nI l).toNatClampNeg = l := nI_clamp (by omega)
  have e : 256 * nI (T / 256) + nI (T % 256) = nI T := by
    have e2 := ar_ad 256 (T / 256) (T % 256)
    rw [Nat.div_add_mod] at e2
    exact e2
  refine ⟨pk_in l 4 hl, pk_in l 4 hl, ?_⟩
  rw [cl, h1, h2, e]
  exact H
theorem ar_top {post : Int32 → Prop} (hl : l < 4) (h1 : a1 l = nI (T / 256)) (h2 : a2 l = nI (T % 256)) (H : post (nI T)) : wpX_top post (w, mv, a1, a2, a3, a4, a5, a6, a7, a8) (nI l) := by
  unfold wpX_top
  exact ar_isLine hl (br_f (by decide) (ar_topOf hl h1 h2 H))
theorem ar_inWindow {post : Int32 → Prop} (hl : l < 4) (hW : W < 256) (h3 : a3 l = lN W) (H : post (nI (ar_o W 8))) : wpX_inWindow post (w, mv, a1, a2, a3, a4, a5, a6, a7, a8) (nI l) := by
  have cl : (nI l).toNatClampNeg = l := nI_clamp (by omega)
  unfold wpX_inWindow
  refine ar_isLine hl (br_f (by decide) ⟨pk_in l 4 hl, ?_⟩)
  rw [cl, h3]
  exact ar_ones hW H
theorem ar_accepted {post : Int32 → Prop} (hl : l < 4) (h4 : a4 l = nI n) (H : post (nI n)) : wpX_accepted post (w, mv, a1, a2, a3, a4, a5, a6, a7, a8) (nI l) := by
  have cl : (nI l).toNatClampNeg = l := nI_clamp (by omega)
  unfold wpX_accepted
  refine ar_isLine hl (br_f (by decide) ⟨pk_in l 4 hl, ?_⟩)
  rw [cl, h4]
  exact H
theorem ar_count {post : Int32 → Prop} (hl : l < 4) (h8 : a8 (6 * l + 1) = nI g) (H : post (nI g)) : wpX_count post (w, mv, a1, a2, a3, a4, a5, a6, a7, a8) (nI l) 1 := by
  have e : 6 * nI l + 1 = nI (6 * l + 1) := ar_ad 6 l 1
  unfold wpX_count
  refine ar_isLine hl (br_f (by decide) (br_f (by decide) (br_f (by decide) ?_)))
  rw [e, nI_clamp (by omega), h8]
  exact ⟨vp_in_nI (by omega) (by decide), H⟩
theorem ar_place13 {post : Int32 → Prop} {q : Nat} (hl : l < 4) (hn : n ≤ 8) (hq : q < 2 ^ 30) (hb : ∀ x, A x = true → x < 2 ^ 30) (hL : ar_L A n (fun j => a5 (60 * l + j))) (H : post (nI (ar_c A q))) :
    ∀ (r fr to k : Nat), to - fr < r → to - fr + k ≤ 8 → fr ≤ ar_c A q → ar_c A q ≤ to → to ≤ n → wX_place_13 post (nI l) (nI q) w mv a1 a2 a3 a4 a5 a6 a7 a8 r (nI fr) (nI to) (nI k) := by
  obtain ⟨m, hm⟩ := hL
  intro r
  induction r with
  | zero => exact fun fr to k h _ _ _ _ => absurd h (by omega)
  | succ r ih =>
    intro fr to k h1 h2 h3 h4 h5
    refine pk_le 8 k (fun z => ?_) (fun z => pk_le to fr (fun y => ?_) (fun y => ?_))
    · have e : ar_c A q = fr := by omega
      rw [e] at H
      exact H
    · have e : ar_c A q = fr := by omega
      rw [e] at H
      exact H
    · have em : (nI fr + nI to) >>> ((1 : Int32) &&& 31) = nI ((fr + to) / 2) := by
        rw [nI_add]
        exact pk_shrN (by omega) _ 1 (by decide)
      have ea : 60 * nI l + nI ((fr + to) / 2) = nI (60 * l + (fr + to) / 2) := ar_ad 60 l _
      obtain ⟨e1, e2, e3⟩ := hm ((fr + to) / 2) (by omega)
      have e1' : a5 (60 * l + (fr + to) / 2) = nI (m ((fr + to) / 2)) := e1
      have hx := hb _ e2
      refine nm_r em ?_
      rw [ea, nI_clamp (by omega), e1']
      refine ⟨vp_in_nI (by omega) (by decide), pk_le q (m ((fr + to) / 2)) (fun t => nm_r (nI_1 k) ?_) (fun t => nm_r (nI_1 _) (nm_r (nI_1 k) ?_))⟩
      · have := ar_c_mono A t
        exact ih fr ((fr + to) / 2) (k + 1) (by omega) (by omega) (by omega) (by omega) (by omega)
      · have := ar_c_lt A t e2
        exact ih ((fr + to) / 2 + 1) to (k + 1) (by omega) (by omega) (by omega) (by omega) (by omega)
theorem ar_place {post : Int32 → Prop} {q : Nat} (hl : l < 4) (hn : n ≤ 8) (hq : q < 2 ^ 30) (hb : ∀ x, A x = true → x < 2 ^ 30) (h4 : a4 l = nI n) (hL : ar_L A n (fun j => a5 (60 * l + j))) (hc : ar_c A q ≤ n) (H : post (nI (ar_c A q))) :
    wpX_place post (w, mv, a1, a2, a3, a4, a5, a6, a7, a8) (nI l) (nI q) := by
  have cl : (nI l).toNatClampNeg = l := nI_clamp (by omega)
  unfold wpX_place
  exact ⟨pk_in l 4 hl, nm_r (e' := nI n) (by rw [cl]; exact h4) ⟨n + 1, ar_place13 hl hn hq hb hL H (n + 1) 0 n 0 (by omega) (by omega) (by omega) hc (by omega)⟩⟩
theorem ar_acc100 {post : St2 → Prop} {S p : Nat} {f : Nat → Int32} (hl : l < 4) (hn : n < 8) (h4 : a4 l = nI n)
    (H : ∀ b, (∀ j, j < p → b (60 * l + j) = f j) → b (60 * l + p) = nI S → (∀ j, p ≤ j → j < n → b (60 * l + (j + 1)) = f j) → post (w, mv, a1, a2, a3, upd a4 l (nI (n + 1)), b, a6, a7, a8)) :
    ∀ (r k : Nat) (b : Nat → Int32), p ≤ k → k ≤ n → k - p < r → (∀ j, j < k → b (60 * l + j) = f j) → (∀ j, k ≤ j → j < n → b (60 * l + (j + 1)) = f j) → wX_accept_100 post (nI l) (nI S) (nI p) w mv r (nI k) a1 a2 a3 a4 b a6 a7 a8 := by
  have cl : (nI l).toNatClampNeg = l := nI_clamp (by omega)
  intro r
  induction r with
  | zero => exact fun k b _ _ h _ _ => absurd h (by omega)
  | succ r ih =>
    intro k b h1 h2 h3 h5 h6
    refine pk_le k p (fun z => ?_) (fun z => ?_)
    · have e : k = p := by omega
      subst e
      have ea : 60 * nI l + nI k = nI (60 * l + k) := ar_ad 60 l k
      rw [ea, nI_clamp (by omega), cl, h4, nI_1]
      refine ⟨vp_in_nI (by omega) (by decide), nm_e ⟨pk_in l 4 hl, pk_in l 4 hl, nm_e (H _ (fun j hj => ?_) pk_us (fun j hj hj2 => ?_))⟩⟩
      · rw [pk_un (by omega)]
        exact h5 j hj
      · rw [pk_un (by omega)]
        exact h6 j hj hj2
    · obtain ⟨k, rfl⟩ : ∃ q, k = q + 1 := ⟨k - 1, by omega⟩
      have ea : 60 * nI l + nI (k + 1) = nI (60 * l + k + 1) := ar_ad 60 l (k + 1)
      rw [ea, nI_pred, nI_clamp (by omega), nI_clamp (by omega)]
      refine ⟨vp_in_nI (by omega) (by decide), vp_in_nI (by omega) (by decide), nm_e (nm_r (pk_m1 k) (ih k _ (by omega) (by omega) (by omega) (fun j hj => ?_) (fun j hj hj2 => ?_)))⟩
      · rw [pk_un (by omega)]
        exact h5 j (by omega)
      · by_cases e : j = k
        · subst e
          rw [show 60 * l + (j + 1) = 60 * l + j + 1 from rfl, pk_us]
          exact h5 j (by omega)
        · rw [pk_un (by omega)]
          exact h6 j (by omega) hj2
theorem ar_acc84 {post : St2 → Prop} {S : Nat} (hl : l < 4) (hn : n < 8) (hS : S < 2 ^ 30) (hb : ∀ x, A x = true → x < 2 ^ 30) (h4 : a4 l = nI n) (hL : ar_L A n (fun j => a5 (60 * l + j))) (hc : ar_c A S ≤ n) (hA : A S = false)
    (H : ∀ b, ar_L (ar_a A S) (n + 1) (fun j => b (60 * l + j)) → post (w, mv, a1, a2, a3, upd a4 l (nI (n + 1)), b, a6, a7, a8)) : wX_accept_84 post (nI l) (nI S) w mv a1 a2 a3 a4 a5 a6 a7 a8 := by
  have cl : (nI l).toNatClampNeg = l := nI_clamp (by omega)
  unfold wX_accept_84
  refine ar_place hl (by omega) hS hb h4 hL hc ?_
  refine ⟨pk_in l 4 hl, nm_r (e' := nI n) (by rw [cl]; exact h4) ⟨n + 1, ?_⟩⟩
  exact ar_acc100 (f := fun j => a5 (60 * l + j)) hl hn h4 (fun b q1 q2 q3 => H b (ar_ins hL hA hc q1 q2 q3)) (n + 1) n a5 hc (Nat.le_refl _) (by omega) (fun j _ => rfl) (fun j z1 z2 => absurd z1 (by omega))
theorem ar_acc42 {post : St2 → Prop} {S W' : Nat} {z : Int64} (hl : l < 4) (hn : n < 8) (hS : S < 2 ^ 30) (hz : z = lN W') (hb : ∀ x, A x = true → x < 2 ^ 30) (h4 : a4 l = nI n) (hL : ar_L A n (fun j => a5 (60 * l + j))) (hc : ar_c A S ≤ n) (hA : A S = false)
    (H : ∀ b, ar_L (ar_a A S) (n + 1) (fun j => b (60 * l + j)) → post (w, mv, upd a1 l (nI (S / 256)), upd a2 l (nI (S % 256)), vp_updL a3 l (lN W'), upd a4 l (nI (n + 1)), b, a6, a7, a8)) : wX_accept_42 post (nI l) (nI S) z (nI l) w mv a1 a2 a3 a4 a5 a6 a7 a8 := by
  have cl : (nI l).toNatClampNeg = l := nI_clamp (by omega)
  have e1 : nI S >>> ((8 : Int32) &&& 31) = nI (S / 256) := pk_shrN (by omega) _ 8 (by decide)
  have e2 : nI S &&& 255 = nI (S % 256) := pk_andN (by omega) 8 (by decide)
  unfold wX_accept_42
  rw [cl, e1, e2, hz]
  exact ⟨pk_in l 4 hl, nm_e ⟨pk_in l 4 hl, nm_e ⟨pk_in l 4 hl, nm_e (ar_acc84 hl hn hS hb h4 hL hc hA H)⟩⟩⟩
/-- the window moves -/
theorem ar_z {d : Nat} (hW : W < 256) (hd : d ≤ 63) : ((lN W <<< ((nI d).toInt64 &&& 63)) ||| 1) &&& lN 255 = lN (W * 2 ^ d % 256 ||| 1) := by
  have e : (W * 2 ^ d % 2 ^ 64) % 2 ^ 8 = W * 2 ^ d % 2 ^ 8 := Nat.mod_mod_of_dvd _ (by decide)
  have h64 : W * 2 ^ d % 2 ^ 64 < 2 ^ 64 := Nat.mod_lt _ (by decide)
  rw [wb_shl W (by omega), wb_mod (W * 2 ^ d), show (1 : Int64) = lN 1 from rfl, wb_or h64 (by decide)]
  have e2 := wb_mask (n := W * 2 ^ d % 2 ^ 64 ||| 1) (k := 8) (Nat.or_lt_two_pow h64 (by decide)) (by decide)
  rw [Nat.or_mod_two_pow, e] at e2
  exact e2
theorem ar_accept {post : St2 → Prop} {S : Nat} (hl : l < 4) (hT : T < 2 ^ 20) (hS : S < 2 ^ 20) (h0 : 1 ≤ S) (hTS : T ≤ S + 7) (hn : n < 8) (hP : ar_P T W n A) (hA : A S = false) (h : ar_S l T W n g A (w, mv, a1, a2, a3, a4, a5, a6, a7, a8))
    (H : ∀ u, ar_S l (ar_T T S) (ar_W T W S) (n + 1) g (ar_a A S) u → post u) : wpX_accept post (w, mv, a1, a2, a3, a4, a5, a6, a7, a8) (nI l) (nI S) := by
  obtain ⟨rfl, rfl, h1, h2, h3, h4, hL, h7, h8⟩ := h
  have cl : (nI l).toNatClampNeg = l := nI_clamp (by omega)
  have hW : W < 256 := hP.1
  have hb : ∀ x, A x = true → x < 2 ^ 30 := by
    intro x hx
    rcases Nat.lt_or_ge T x with z | z
    · rw [hP.2.2.1 x z] at hx
      exact absurd hx (by decide)
    · omega
  have hc : ar_c A S ≤ n := by
    rcases Nat.lt_or_ge T S with z | z
    · have q := ar_c_up A hP.2.2.1 (Nat.le_of_lt z)
      rw [hP.2.2.2.1] at q
      have := ar_c_mono A (show S ≤ S + 1 by omega)
      omega
    · have q := ar_c_mono A (show S ≤ T + 1 by omega)
      rw [hP.2.2.2.1] at q
      exact q
  unfold wpX_accept
  refine ar_topOf hl h1 h2 ?_
  rw [cl, h3]
  by_cases e : S ≤ T
  · have e1 : -(nI S - nI T) = nI (T - S) := by
      rw [← pk_sub e]
      grind
    have e2 : nI S - nI T ≤ 0 := by
      rw [Int32.le_iff_toInt_le, pk_sub_toInt (by omega) (by omega), show (0 : Int32).toInt = 0 from by decide]
      omega
    have e3 : lN W ||| ((1 : Int64) <<< ((nI (T - S)).toInt64 &&& 63)) = lN (W ||| 2 ^ (T - S)) := by
      rw [show (1 : Int64) = lN 1 from rfl, wb_shl 1 (by omega), Nat.one_mul, wb_or (by omega) (wb_lt2 (by omega))]
    have eT : ar_T T S = T := if_pos e
    have eW : ar_W T W S = W ||| 2 ^ (T - S) := if_pos e
    refine nm_e (br_t e2 ?_)
    rw [e1, e3]
    refine ⟨pk_in l 4 hl, pk_in l 4 hl, nm_e (ar_acc84 hl hn (by omega) hb h4 hL hc hA (fun b hLb => H _ ?_))⟩
    rw [eT, eW]
    exact ⟨rfl, rfl, h1, h2, pk_uLs, pk_us, hLb, h7, h8⟩
  · have eT : ar_T T S = S := if_neg e
    have eW : ar_W T W S = if S - T ≤ 7 then W * 2 ^ (S - T) % 256 ||| 1 else 1 := if_neg e
    have fin : ∀ b, ar_L (ar_a A S) (n + 1) (fun j => b (60 * l + j)) → post (nI 8, lN 255, upd a1 l (nI (S / 256)), upd a2 l (nI (S % 256)), vp_updL a3 l (lN (ar_W T W S)), upd a4 l (nI (n + 1)), b, a6, a7, a8) := by
      intro b hLb
      refine H _ ?_
      rw [eT]
      exact ⟨rfl, rfl, pk_us, pk_us, pk_uLs, pk_us, hLb, h7, h8⟩
    refine nm_r (pk_sub (show T ≤ S by omega)) (br_f (nI_nle (by omega) (by omega)) (pk_le (S - T) 63 (fun z => ⟨pk_in l 4 hl, ?_⟩) (fun z => ?_)))
    · refine ar_acc42 hl hn (by omega) ?_ hb h4 hL hc hA fin
      rw [ar_z hW z, eW]
      by_cases q : S - T ≤ 7
      · rw [if_pos q]
      · rw [if_neg q]
        have q2 : W * 2 ^ (S - T) % 256 = 0 := by
          rw [wb_pw (show 8 ≤ S - T by omega), ← Nat.mul_assoc, Nat.mul_comm W, Nat.mul_assoc]
          exact Nat.mul_mod_right 256 _
        rw [q2]
        rfl
    · refine ar_acc42 hl hn (by omega) ?_ hb h4 hL hc hA fin
      rw [eW, if_neg (by omega)]
      rfl
theorem ar_isSeen {post : Int32 → Prop} {S : Nat} (hl : l < 4) (hT : T < 2 ^ 20) (hS : S < 2 ^ 20) (hTS : T ≤ S + 7) (hP : ar_P T W n A) (h1 : a1 l = nI (T / 256)) (h2 : a2 l = nI (T % 256)) (h3 : a3 l = lN W)
    (Ht : A S = true → post 1) (Hf : A S = false → post 0) : wpX_isSeen post (w, mv, a1, a2, a3, a4, a5, a6, a7, a8) (nI l) (nI S) := by
  have cl : (nI l).toNatClampNeg = l := nI_clamp (by omega)
  have hW : W < 256 := hP.1
  unfold wpX_isSeen
  refine ar_topOf hl h1 h2 ?_
  rw [cl, h3]
  by_cases e : S ≤ T
  · refine nm_r (pk_sub e) (br_f (nI_pos (by omega)) ⟨pk_in l 4 hl, ?_⟩)
    rw [wb_bit (by omega) (by omega), ar_seen hP e hTS]
    by_cases a : A S = true
    · rw [if_pos a]
      exact br_t rfl (Ht a)
    · rw [if_neg a]
      exact br_f (by decide) (Hf (Bool.eq_false_iff.mpr a))
  · exact nm_e (br_t (pk_sneg (by omega) (by omega)) (Hf (hP.2.2.1 S (by omega))))
theorem ar_infer {post : Int32 → Prop} {lo d : Nat} (hl : l < 4) (hT : T < 2 ^ 20) (hlo : lo < 256) (hd : d < 256) (hm : (T + d) % 256 = (lo + 7) % 256) (hw : w = nI 8) (h1 : a1 l = nI (T / 256)) (h2 : a2 l = nI (T % 256)) (H : post (nI (T + d) - nI 7)) :
    wpX_infer post (w, mv, a1, a2, a3, a4, a5, a6, a7, a8) (nI l) (nI lo) := by
  have cl : (nI l).toNatClampNeg = l := nI_clamp (by omega)
  have e0 : nI (T % 256) - nI 8 + 1 = nI (T % 256) - nI 7 := by
    show nI (T % 256) - nI 8 + nI 1 = nI (T % 256) - nI 7
    have : nI 8 = nI 7 + nI 1 := rfl
    grind
  have eH : 256 * nI (T / 256) + nI lo = nI (256 * (T / 256) + lo) := ar_ad 256 (T / 256) lo
  have e00 : ∀ x : Int32, x = x - nI 0 := by
    intro x
    show x = x - 0
    simp
  subst hw
  unfold wpX_infer
  dsimp only
  rw [cl, h1, h2, e0]
  refine ⟨pk_in l 4 hl, ?_⟩
  by_cases c : T % 256 < 7
  · refine nm_e ⟨pk_in l 4 hl, nm_e (br_t (pk_sneg (by decide) c) (pk_lt lo (T % 256 + 249) (fun z => ?_) (fun z => nm_e ?_) rfl ?_))⟩
    · rw [eH, e00 (nI (256 * (T / 256) + lo)), ar_sub (show 256 * (T / 256) + lo + 7 = (T + d) + 0 by omega)]
      exact H
    · have e5 : 256 * (nI (T / 256) - 1) + nI lo = nI (256 * (T / 256) + lo) - nI 256 := by
        rw [← eH]
        show 256 * (nI (T / 256) - 1) + nI lo = 256 * nI (T / 256) + nI lo - 256
        grind
      rw [e5, ar_sub (show 256 * (T / 256) + lo + 7 = (T + d) + 256 by omega)]
      exact H
    · have e6 : nI (T % 256 + 249) = nI (T % 256) + 249 := (nI_add (T % 256) 249).symm
      rw [e6]
      show nI (T % 256) - 7 + 256 = nI (T % 256) + 249
      grind
  · refine nm_r (pk_sub (show 7 ≤ T % 256 by omega)) ⟨pk_in l 4 hl, nm_e (br_f (nI_pos (by omega)) (pk_lt lo (T % 256 - 7) (fun z => ?_) (fun z => ?_)))⟩
    · have e5 : 256 * (nI (T / 256) + 1) + nI lo = nI (256 * (T / 256 + 1) + lo) := by
        rw [nI_1]
        exact ar_ad 256 (T / 256 + 1) lo
      unfold wX_infer_40
      rw [e5, e00 (nI (256 * (T / 256 + 1) + lo)), ar_sub (show 256 * (T / 256 + 1) + lo + 7 = (T + d) + 0 by omega)]
      exact H
    · unfold wX_infer_40
      rw [eH, e00 (nI (256 * (T / 256) + lo)), ar_sub (show 256 * (T / 256) + lo + 7 = (T + d) + 0 by omega)]
      exact H
theorem ar_numberFor {post : Int32 → Prop} {lo d : Nat} (hl : l < 4) (hT : T < 2 ^ 20) (hlo : lo < 256) (hd : d < 256) (hm : (T + d) % 256 = (lo + 7) % 256) (hw : w = nI 8) (h1 : a1 l = nI (T / 256)) (h2 : a2 l = nI (T % 256)) (H : post (nI (T + d) - nI 7)) :
    wpX_numberFor post (w, mv, a1, a2, a3, a4, a5, a6, a7, a8) (nI l) (nI lo) := by
  unfold wpX_numberFor
  exact ar_isLine hl (br_f (by decide) (ar_isLow hlo (br_f (by decide) (ar_infer hl hT hlo hd hm hw h1 h2 H))))
theorem ar_j77 {post : Int32 → St2 → Prop} {v : Nat} (hl : l < 4) (hv : v ≤ 5) (H : post (nI v) (w, mv, a1, a2, a3, a4, a5, a6, a7, upd a8 (6 * l + v) (a8 (6 * l + v) + 1))) : wX_judge_77 post (nI l) (nI v) w mv a1 a2 a3 a4 a5 a6 a7 a8 := by
  have e : 6 * nI l + nI v = nI (6 * l + v) := ar_ad 6 l v
  unfold wX_judge_77
  rw [e, nI_clamp (by omega)]
  exact ⟨vp_in_nI (by omega) (by decide), vp_in_nI (by omega) (by decide), nm_e H⟩
/-- a verdict that isn't good -/
theorem ar_j77n {post : Int32 → St2 → Prop} {v : Nat} (hl : l < 4) (hv : v ≤ 5) (h1 : v ≠ 1) (h : ar_S l T W n g A (w, mv, a1, a2, a3, a4, a5, a6, a7, a8)) (H : ∀ u, ar_S l T W n g A u → post (nI v) u) : wX_judge_77 post (nI l) (nI v) w mv a1 a2 a3 a4 a5 a6 a7 a8 := by
  obtain ⟨r1, r2, r3, r4, r5, r6, r7, r8, r9⟩ := h
  refine ar_j77 hl hv (H _ ⟨r1, r2, r3, r4, r5, r6, r7, r8, ?_⟩)
  rw [pk_un (by omega)]
  exact r9
theorem ar_judge {post : Int32 → St2 → Prop} {lo d : Nat} {p2 : Int32} (hl : l < 4) (hT : T < 2 ^ 19) (hlo : lo < 256) (hd : d < 256) (hm : (T + d) % 256 = (lo + 7) % 256) (hn : n < 8) (hP : ar_P T W n A) (h : ar_S l T W n n A (w, mv, a1, a2, a3, a4, a5, a6, a7, a8))
    (H3 : T + d < 8 → ∀ u, ar_S l T W n n A u → post 3 u)
    (H2 : 8 ≤ T + d → A (T + d - 7) = true → ∀ u, ar_S l T W n n A u → post 2 u)
    (H4 : 8 ≤ T + d → A (T + d - 7) = false → p2 = 0 → ∀ u, ar_S l T W n n A u → post 4 u)
    (H1 : 8 ≤ T + d → A (T + d - 7) = false → ¬ p2 = 0 → ∀ u, ar_S l (ar_T T (T + d - 7)) (ar_W T W (T + d - 7)) (n + 1) (n + 1) (ar_a A (T + d - 7)) u → post 1 u) :
    wpX_judge post (w, mv, a1, a2, a3, a4, a5, a6, a7, a8) (nI l) (nI lo) p2 := by
  have cl : (nI l).toNatClampNeg = l := nI_clamp (by omega)
  have h' := h
  obtain ⟨r1, r2, r3, r4, r5, r6, r7, r8, r9⟩ := h'
  unfold wpX_judge
  refine ar_infer hl (by omega) hlo hd hm r1 r3 r4 ?_
  rw [cl, r6, r8]
  refine ⟨pk_in l 4 hl, pk_in l 4 hl, br_t (nI_lt (by omega) (by decide)) ?_⟩
  by_cases c : T + d < 8
  · exact br_f (ar_nearly c) (ar_j77n (v := 3) hl (by decide) (by decide) h (H3 c))
  · rw [pk_sub (show 7 ≤ T + d by omega)]
    refine br_t (nI_le (a := 1) (by omega) (by omega)) ?_
    refine ar_isSeen hl (by omega) (by omega) (by omega) hP r3 r4 r5 (fun s => ?_) (fun s => ?_)
    · exact br_f (by decide) (ar_j77n (v := 2) hl (by decide) (by decide) h (H2 (by omega) s))
    · refine br_t rfl (br_c (fun z => ?_) (fun z => ?_))
      · exact ar_j77n (v := 4) hl (by decide) (by decide) h (H4 (by omega) s z)
      · refine ar_accept hl (by omega) (by omega) (by omega) (by omega) hn hP s h (fun u hu => ?_)
        obtain ⟨w', mv', b1, b2, b3, b4, b5, b6, b7, b8⟩ := u
        obtain ⟨q1, q2, q3, q4, q5, q6, q7, q8, q9⟩ := hu
        refine ar_j77 (v := 1) hl (by decide) (H1 (by omega) s z _ ⟨q1, q2, q3, q4, q5, q6, q7, q8, ?_⟩)
        rw [pk_us, q9, nI_1]
theorem ar_receive {post : Int32 → St2 → Prop} {lo d : Nat} {p2 : Int32} (hl : l < 4) (hT : T < 2 ^ 19) (hlo : lo < 256) (hd : d < 256) (hm : (T + d) % 256 = (lo + 7) % 256) (hn : n < 8) (hP : ar_P T W n A) (h : ar_S l T W n n A (w, mv, a1, a2, a3, a4, a5, a6, a7, a8))
    (H3 : T + d < 8 → ∀ u, ar_S l T W n n A u → post 3 u)
    (H2 : 8 ≤ T + d → A (T + d - 7) = true → ∀ u, ar_S l T W n n A u → post 2 u)
    (H4 : 8 ≤ T + d → A (T + d - 7) = false → p2 = 0 → ∀ u, ar_S l T W n n A u → post 4 u)
    (H1 : 8 ≤ T + d → A (T + d - 7) = false → ¬ p2 = 0 → ∀ u, ar_S l (ar_T T (T + d - 7)) (ar_W T W (T + d - 7)) (n + 1) (n + 1) (ar_a A (T + d - 7)) u → post 1 u) :
    wpX_receive post (w, mv, a1, a2, a3, a4, a5, a6, a7, a8) (nI l) (nI lo) p2 := by
  unfold wpX_receive
  refine ar_isLine hl (br_f (by decide) (ar_isLow hlo (br_f (by decide) (br_c (fun z => ?_) (fun z => ?_)))))
  · unfold wX_receive_31
    exact ar_judge hl hT hlo hd hm hn hP h (fun c u hu => H3 c u hu) (fun c s u hu => H2 c s u hu) (fun c s _ u hu => H4 c s z u hu) (fun c s y u hu => absurd rfl y)
  · unfold wX_receive_31
    exact ar_judge hl hT hlo hd hm hn hP h (fun c u hu => H3 c u hu) (fun c s u hu => H2 c s u hu) (fun c s y u hu => absurd y (by decide)) (fun c s _ u hu => H1 c s z u hu)
theorem ar_lost {post : Int32 → Prop} (hl : l < 4) (hT : T < 2 ^ 20) (hn : n ≤ 8) (hP : ar_P T W n A) (h : ar_S l T W n g A (w, mv, a1, a2, a3, a4, a5, a6, a7, a8))
    (H0 : T ≤ 8 → post 0) (H1 : 8 < T → post (nI (T - 8) - nI (ar_c A (T - 7)))) : wpX_lost post (w, mv, a1, a2, a3, a4, a5, a6, a7, a8) (nI l) := by
  obtain ⟨rfl, rfl, h1, h2, h3, h4, hL, h7, h8⟩ := h
  unfold wpX_lost
  refine ar_isLine hl (br_f (by decide) (ar_topOf hl h1 h2 ?_))
  by_cases e : T ≤ 8
  · have e2 : ¬ 0 < nI T - nI 8 := by
      rw [Int32.lt_iff_toInt_lt, pk_sub_toInt (by omega) (by decide), show (0 : Int32).toInt = 0 from by decide]
      omega
    exact nm_e (br_f e2 (H0 e))
  · refine nm_r (pk_sub (show 8 ≤ T by omega)) (br_t (nI_lt (a := 0) (by omega) (by omega)) ?_)
    rw [nI_1, show T - 8 + 1 = T - 7 by omega]
    have hb : ∀ x, A x = true → x < 2 ^ 30 := by
      intro x hx
      rcases Nat.lt_or_ge T x with z | z
      · rw [hP.2.2.1 x z] at hx
        exact absurd hx (by decide)
      · omega
    have := ar_cw hP
    exact ar_place hl hn (by omega) hb h4 hL (by omega) (H1 (by omega))
theorem ar_gap17 {post : Int32 → Prop} (hl : l < 4) (hT : T < 2 ^ 20) (hW : W < 256) (h3 : a3 l = lN W) : ∀ (j r : Nat), j < r → j ≤ 7 → post (nI (ar_g T W j)) → wX_gap_17 post (nI l) (nI T) (nI 8) mv a1 a2 a3 a4 a5 a6 a7 a8 r (nI (8 - j)) := by
  have cl : (nI l).toNatClampNeg = l := nI_clamp (by omega)
  intro j
  induction j with
  | zero =>
    intro r hr _ H
    obtain ⟨r, rfl⟩ : ∃ q, r = q + 1 := ⟨r - 1, by omega⟩
    exact pk_le 8 8 (fun _ => H) (fun z => absurd z (by omega))
  | succ j ih =>
    intro r hr hj H
    obtain ⟨r, rfl⟩ : ∃ q, r = q + 1 := ⟨r - 1, by omega⟩
    have ek : 8 - (j + 1) = 7 - j := by omega
    unfold ar_g at H
    rw [ek]
    refine pk_le 8 (7 - j) (fun z => absurd z (by omega)) (fun _ => pk_le T (7 - j) (fun z => ?_) (fun z => ⟨pk_in l 4 hl, ?_⟩))
    · rw [if_pos z] at H
      exact H
    · rw [if_neg (by omega)] at H
      rw [cl, h3, wb_bit (by omega) (by omega)]
      have h2 : W / 2 ^ (7 - j) % 2 < 2 := Nat.mod_lt _ (by decide)
      by_cases b : W / 2 ^ (7 - j) % 2 = 0
      · rw [if_pos b] at H
        rw [b, pk_sub (show 7 - j ≤ T by omega)]
        exact br_t rfl H
      · rw [if_neg b] at H
        rw [show W / 2 ^ (7 - j) % 2 = 1 by omega]
        refine br_f (by decide) (nm_r (nI_1 _) ?_)
        rw [show 7 - j + 1 = 8 - j by omega]
        exact ih r (by omega) (by omega) H
theorem ar_gap {post : Int32 → Prop} (hl : l < 4) (hT : T < 2 ^ 20) (hW : W < 256) (hw : w = nI 8) (h1 : a1 l = nI (T / 256)) (h2 : a2 l = nI (T % 256)) (h3 : a3 l = lN W) (H : post (nI (ar_g T W 7))) : wpX_gap post (w, mv, a1, a2, a3, a4, a5, a6, a7, a8) (nI l) := by
  subst hw
  unfold wpX_gap
  exact ar_isLine hl (br_f (by decide) (ar_topOf hl h1 h2 ⟨8, ar_gap17 hl hT hW h3 7 8 (by decide) (by decide) H⟩))
end
end
section
section
variable {w : Int32} {mv : Int64} {a1 a2 : Nat → Int32} {a3 : Nat → Int64} {a4 a5 a6 a7 a8 : Nat → Int32} {l T W n g : Nat} {A : Nat → Bool}
variable {post : Int32 → St0 → Prop} {mc ms kc ks : Nat} {J28 : Int32 → Int32 → Int32 → Int32 → Int32 → Int64 → (Nat → Int32) → (Nat → Int32) → (Nat → Int64) → (Nat → Int32) → (Nat → Int32) → (Nat → Int32) → (Nat → Int32) → (Nat → Int32) → Prop} {x0 x1 x2 x8 x9 : Int32}
theorem ar_init {post : St2 → Prop} (hl : l < 4) (h1 : 8 ≤ mc) (h2 : 288 ≤ ms) (H : ∀ u, ar_S l 0 0 0 0 (fun _ => false) u → post u) : wpX_init post mc ms (0, 0) 8 := by
  refine ⟨by omega, by omega, by omega, by omega, by omega, by omega, by omega, by omega, by omega, by omega, by omega, by omega, by omega, by omega, by omega, by omega, br_t (by decide) ?_⟩
  unfold wX_init_74
  refine br_t (by decide) ?_
  unfold wX_init_92
  refine br_f (by decide) (nm_r (e' := lN 255) (by decide) ?_)
  exact pk_loop (fun n i s => wX_init_121 post mc ms 8 288 8 (lN 255) n (nI i) (fun _ => 0) (fun _ => 0) (fun _ => 0) (fun _ => 0) (fun _ => 0) s.1 s.2 (fun _ => 0)) (fun i s => ∀ j, j < i → s.2 j = nI 60) 4 0 ((fun _ => 0 : Nat → Int32), (fun _ => 0 : Nat → Int32)) (by omega) (fun j hj => absurd hj (by omega))
    (fun n s h => pk_le 4 4 (fun _ => H _ ⟨rfl, rfl, rfl, rfl, rfl, rfl, ar_L0 _ _, h l hl, rfl⟩) (fun z => absurd z (by omega)))
    (fun n i s hi h hw => pk_le 4 i (fun z => absurd z (by omega)) (fun _ => ⟨pk_in i 4 hi, nm_e ⟨pk_in i 4 hi, nm_e (nm_r (nI_1 i) (hw (_, _) (fun j hj => by
      show upd s.2 (nI i).toNatClampNeg 60 j = nI 60
      rw [nI_clamp (by omega)]
      by_cases e : j = i
      · rw [e, pk_us]
        rfl
      · rw [pk_un e]
        exact h j (by omega))))⟩⟩))
theorem ar_270 (hl : l < 4) (hT : T < 2 ^ 20) (hW : W < 256) (h : ar_S l T W n g A (w, mv, a1, a2, a3, a4, a5, a6, a7, a8)) (HJ : J28 (nI T) (nI W) x8 (x9 + 1) w mv a1 a2 a3 a4 a5 a6 a7 a8) :
    ∀ i, i ≤ 8 → ∀ p, p + ar_o W i = ar_o W 8 → wL_lawOf_270 post mc ms J28 x0 x1 x2 (nI l) (nI T) (nI W) x8 x9 kc ks w mv a1 a2 a3 a4 a5 a6 a7 a8 (i + 1) (nI p) (nI (ar_g T W (min (8 - i) 7))) (nI i - 1) := by
  obtain ⟨r1, r2, r3, r4, r5, r6, r7, r8, r9⟩ := h
  have em : ∀ x : Int32, x + (-1) = x - 1 := fun x => (Int32.sub_eq_add_neg x 1).symm
  intro i
  induction i with
  | zero =>
    intro _ p hp
    have e : nI (ar_o W 8) = nI p := by rw [← hp]; rfl
    have eg : min (8 - 0) 7 = 7 := rfl
    rw [eg]
    exact br_t (by decide) (ar_top hl r3 r4 (br_t rfl (ar_inWindow hl hW r5 (br_t e (ar_gap hl hT hW r1 r3 r4 r5 (br_t rfl (nm_e HJ)))))))
  | succ i ih =>
    intro hi p hp
    have hp2 : p + W / 2 ^ i % 2 + ar_o W i = ar_o W 8 := by
      have : p + (ar_o W i + W / 2 ^ i % 2) = ar_o W 8 := hp
      omega
    have i1 := ih (by omega) _ hp2
    rw [nI_pred]
    refine br_f (nI_pos (by omega)) ?_
    rw [ar_bit hW (by omega), nI_add]
    refine nm_e (pk_le i 0 (fun z => ?_) (fun z => ?_))
    · have e : i = 0 := by omega
      subst e
      exact nm_r (em _) i1
    · have eg : min (8 - (i + 1)) 7 = 7 - i := by omega
      have eg2 : min (8 - i) 7 = (7 - i) + 1 := by omega
      rw [eg]
      rw [eg2] at i1
      unfold ar_g at i1
      rw [show 7 - (7 - i) = i by omega] at i1
      by_cases t : T ≤ i
      · have e2 : nI T - nI i < 1 := by
          rw [Int32.lt_iff_toInt_lt, pk_sub_toInt (by omega) (by omega), show (1 : Int32).toInt = 1 from by decide]
          omega
        rw [if_pos t] at i1
        rw [ar_g0 T W (7 - i) (by omega)]
        exact br_t e2 (nm_r (em _) i1)
      · rw [if_neg t] at i1
        rw [pk_sub (show i ≤ T by omega)]
        refine br_f (nI_nlt (b := 1) (by omega) (by omega)) ?_
        have h2 : W / 2 ^ i % 2 < 2 := Nat.mod_lt _ (by decide)
        by_cases b : W / 2 ^ i % 2 = 0
        · rw [b]
          rw [if_pos b, b] at i1
          exact br_t rfl (nm_e (nm_r (em _) i1))
        · have b1 : W / 2 ^ i % 2 = 1 := by omega
          rw [b1]
          rw [if_neg b, b1] at i1
          exact br_f (by decide) (nm_r (em _) i1)
theorem ar_270x (hl : l < 4) (hT : T < 2 ^ 20) (hW : W < 256) (h : ar_S l T W n g A (w, mv, a1, a2, a3, a4, a5, a6, a7, a8)) (HJ : J28 (nI T) (nI W) x8 (x9 + 1) w mv a1 a2 a3 a4 a5 a6 a7 a8) :
    ∃ fu, wL_lawOf_270 post mc ms J28 x0 x1 x2 (nI l) (nI T) (nI W) x8 x9 kc ks w mv a1 a2 a3 a4 a5 a6 a7 a8 fu 0 0 7 := by
  have e := ar_270 (post := post) (mc := mc) (ms := ms) (kc := kc) (ks := ks) (x0 := x0) (x1 := x1) (x2 := x2) hl hT hW h HJ 8 (by decide) 0 (by omega)
  have e7 : nI 8 - 1 = 7 := by decide
  rw [e7] at e
  exact ⟨9, e⟩
/-- one packet is received; z0: the verdict that the law expects -/
theorem ar_175 {lo d : Nat} {x11 x13 z0 : Int32} (hl : l < 4) (hT : T < 2 ^ 19) (hlo : lo < 256) (hd : d < 256) (hm : (T + d) % 256 = (lo + 7) % 256) (hn : n < 8) (hP : ar_P T W n A) (h : ar_S l T W n n A (w, mv, a1, a2, a3, a4, a5, a6, a7, a8))
    (HJ : ∀ T' W' n' A' w' mv' b1 b2 b3 b4 b5 b6 b7 b8, T' ≤ T + 256 → n' ≤ n + 1 → ar_P T' W' n' A' → ar_S l T' W' n' n' A' (w', mv', b1, b2, b3, b4, b5, b6, b7, b8) → J28 (nI T') (nI W') (nI n') (x9 + 1) w' mv' b1 b2 b3 b4 b5 b6 b7 b8)
    (hz : (T + d < 8 ∧ z0 = 3) ∨ (8 ≤ T + d ∧ x13 = nI (T + d - 7) ∧ ((A (T + d - 7) = true ∧ z0 = 2) ∨ (A (T + d - 7) = false ∧ x11 = 0 ∧ z0 = 4) ∨ (A (T + d - 7) = false ∧ ¬ x11 = 0 ∧ z0 = 1)))) :
    wL_lawOf_175 post mc ms J28 x0 x1 x2 (nI l) (nI T) (nI W) (nI n) x9 (nI lo) x11 x13 z0 kc ks w mv a1 a2 a3 a4 a5 a6 a7 a8 := by
  have hW : W < 256 := hP.1
  unfold wL_lawOf_175
  refine ar_receive hl hT hlo hd hm hn hP h (fun c u hu => ?_) (fun c s u hu => ?_) (fun c s y u hu => ?_) (fun c s y u hu => ?_)
  · obtain ⟨w', mv', b1, b2, b3, b4, b5, b6, b7, b8⟩ := u
    have ez : z0 = 3 := by
      rcases hz with ⟨_, e⟩ | ⟨q, _⟩
      · exact e
      · omega
    subst ez
    exact br_t rfl (br_f (by decide) (ar_270x hl (by omega) hW hu (HJ T W n A _ _ _ _ _ _ _ _ _ _ (by omega) (by omega) hP hu)))
  · obtain ⟨w', mv', b1, b2, b3, b4, b5, b6, b7, b8⟩ := u
    have ez : z0 = 2 := by
      rcases hz with ⟨q, _⟩ | ⟨_, _, ⟨_, e⟩ | ⟨q, _⟩ | ⟨q, _⟩⟩
      · omega
      · exact e
      · rw [s] at q; exact absurd q (by decide)
      · rw [s] at q; exact absurd q (by decide)
    subst ez
    exact br_t rfl (br_f (by decide) (ar_270x hl (by omega) hW hu (HJ T W n A _ _ _ _ _ _ _ _ _ _ (by omega) (by omega) hP hu)))
  · obtain ⟨w', mv', b1, b2, b3, b4, b5, b6, b7, b8⟩ := u
    have ez : z0 = 4 := by
      rcases hz with ⟨q, _⟩ | ⟨_, _, ⟨q, _⟩ | ⟨_, _, e⟩ | ⟨_, q, _⟩⟩
      · omega
      · rw [s] at q; exact absurd q (by decide)
      · exact e
      · exact absurd y q
    subst ez
    exact br_t rfl (br_f (by decide) (ar_270x hl (by omega) hW hu (HJ T W n A _ _ _ _ _ _ _ _ _ _ (by omega) (by omega) hP hu)))
  · obtain ⟨w', mv', b1, b2, b3, b4, b5, b6, b7, b8⟩ := u
    have ez : x13 = nI (T + d - 7) ∧ z0 = 1 := by
      rcases hz with ⟨q, _⟩ | ⟨_, e1, ⟨q, _⟩ | ⟨_, q, _⟩ | ⟨_, _, e⟩⟩
      · omega
      · rw [s] at q; exact absurd q (by decide)
      · exact absurd q y
      · exact ⟨e1, e⟩
    obtain ⟨e13, ez⟩ := ez
    subst ez
    subst e13
    have hP' := ar_acc hP (show 1 ≤ T + d - 7 by omega) (show T ≤ T + d - 7 + 7 by omega) s
    have hW' : ar_W T W (T + d - 7) < 256 := hP'.1
    have hJ' := HJ _ _ _ _ _ _ _ _ _ _ _ _ _ _ (show ar_T T (T + d - 7) ≤ T + 256 by unfold ar_T; split <;> omega) (Nat.le_refl _) hP' hu
    refine br_t rfl (br_t rfl (nm_r (nI_1 n) (pk_le (T + d - 7) T (fun z => ?_) (fun z => ?_))))
    · have eT : ar_T T (T + d - 7) = T := if_pos z
      have eW : ar_W T W (T + d - 7) = W ||| 2 ^ (T - (T + d - 7)) := if_pos z
      have e1 : nI W ||| ((1 : Int32) <<< ((nI T - nI (T + d - 7)) &&& 31)) = nI (W ||| 2 ^ (T - (T + d - 7))) := by
        have e2 : (1 : Int32) <<< (nI (T - (T + d - 7)) &&& 31) = nI (1 * 2 ^ (T - (T + d - 7))) := pk_shlN (n := 1) _ _ (s_l _ (by omega)) (by rw [Nat.one_mul]; exact wb_lt2 (by omega))
        rw [pk_sub z, e2, Nat.one_mul, ar_or]
      rw [eT, eW] at hu hJ'
      rw [eW] at hW'
      exact nm_r e1 (ar_270x hl (by omega) hW' hu hJ')
    · have z2 : ¬ T + d - 7 ≤ T := by omega
      have eT : ar_T T (T + d - 7) = T + d - 7 := if_neg z2
      have eW : ar_W T W (T + d - 7) = if T + d - 7 - T ≤ 7 then W * 2 ^ (T + d - 7 - T) % 256 ||| 1 else 1 := if_neg z2
      rw [eT, eW] at hu hJ'
      rw [eW] at hW'
      rw [pk_sub (show T ≤ T + d - 7 by omega)]
      refine pk_le (T + d - 7 - T) 7 (fun y => ?_) (fun y => ?_)
      · rw [if_pos y] at hu hJ' hW'
        have b1 : 2 ^ (T + d - 7 - T) ≤ 2 ^ 7 := Nat.pow_le_pow_right (by decide) y
        have b2 : W * 2 ^ (T + d - 7 - T) ≤ 255 * 2 ^ 7 := Nat.mul_le_mul (by omega) b1
        have b3 : W * 2 ^ (T + d - 7 - T) < 2 ^ 32 := Nat.lt_of_le_of_lt b2 (by decide)
        have e1 : ((nI W <<< (nI (T + d - 7 - T) &&& 31)) &&& 255) ||| 1 = nI (W * 2 ^ (T + d - 7 - T) % 256 ||| 1) := by
          have e2 : nI (W * 2 ^ (T + d - 7 - T)) &&& 255 = nI (W * 2 ^ (T + d - 7 - T) % 256) := pk_andN b3 8 (by decide)
          rw [pk_shlN _ _ (s_l _ (by omega)) b3, e2]
          exact ar_or _ 1
        unfold wL_lawOf_239
        rw [e1]
        exact ar_270x hl (by omega) hW' hu hJ'
      · rw [if_neg (by omega)] at hu hJ' hW'
        unfold wL_lawOf_239
        exact ar_270x hl (by omega) hW' hu hJ'
theorem ar_61 {z0 : Int32} (hl : l < 4) (hT : T < 2 ^ 19) (hn : n < 8) (hP : ar_P T W n A) (h : ar_S l T W n n A (w, mv, a1, a2, a3, a4, a5, a6, a7, a8))
    (HJ : ∀ T' W' n' A' w' mv' b1 b2 b3 b4 b5 b6 b7 b8, T' ≤ T + 256 → n' ≤ n + 1 → ar_P T' W' n' A' → ar_S l T' W' n' n' A' (w', mv', b1, b2, b3, b4, b5, b6, b7, b8) → J28 (nI T') (nI W') (nI n') (x9 + 1) w' mv' b1 b2 b3 b4 b5 b6 b7 b8) :
    wL_lawOf_61 post mc ms J28 x0 x1 x2 (nI l) (nI T) (nI W) (nI n) x9 z0 kc ks w mv a1 a2 a3 a4 a5 a6 a7 a8 := by
  have hW : W < 256 := hP.1
  have h' := h
  obtain ⟨r1, r2, r3, r4, r5, r6, r7, r8, r9⟩ := h'
  obtain ⟨lo, hlo, elo⟩ := pk_andE z0 (m := 255) 8 (by decide)
  have hlo' : lo < 256 := hlo
  obtain ⟨d, hd, hm, ed⟩ := ar_low (show T < 2 ^ 20 by omega) hlo'
  unfold wL_lawOf_61
  refine nm_r elo (nm_e (nm_e (nm_r (e' := nI (T + d) - nI 7) (by rw [ed]; exact ar_num T d) ?_)))
  refine ar_numberFor hl (by omega) hlo' hd hm r1 r3 r4 (br_t rfl ?_)
  by_cases c : T + d < 8
  · refine br_t (ar_early c) ?_
    unfold wL_lawOf_143 wL_lawOf_144
    exact br_f (ar_nearly c) (ar_175 hl hT hlo' hd hm hn hP h HJ (Or.inl ⟨c, rfl⟩))
  · rw [pk_sub (show 7 ≤ T + d by omega)]
    have n1 : (1 : Int32) ≤ nI (T + d - 7) := nI_le (a := 1) (by omega) (by omega)
    have notseen : A (T + d - 7) = false → wL_lawOf_143 post mc ms J28 x0 x1 x2 (nI l) (nI T) (nI W) (nI n) x9 (nI lo) ((x2 >>> (x9 &&& 31)) &&& 1) (nI (T + d - 7)) kc ks w mv a1 a2 a3 a4 a5 a6 a7 a8 := by
      intro s
      unfold wL_lawOf_143 wL_lawOf_144
      exact br_t n1 (br_t rfl (br_c (fun y => ar_175 hl hT hlo' hd hm hn hP h HJ (Or.inr ⟨by omega, rfl, Or.inr (Or.inl ⟨s, y, rfl⟩)⟩)) (fun y => ar_175 hl hT hlo' hd hm hn hP h HJ (Or.inr ⟨by omega, rfl, Or.inr (Or.inr ⟨s, y, rfl⟩)⟩))))
    refine br_f (nI_nlt (b := 1) (by omega) (by omega)) (pk_lt T (T + d - 7) (fun z => notseen (hP.2.2.1 _ z)) (fun z => ?_))
    rw [pk_sub z, ar_bit hW (by omega), ar_seen hP z (by omega)]
    by_cases s : A (T + d - 7) = true
    · rw [if_pos s]
      refine br_t rfl ?_
      unfold wL_lawOf_144
      exact br_t n1 (br_f (by decide) (ar_175 hl hT hlo' hd hm hn hP h HJ (Or.inr ⟨by omega, rfl, Or.inl ⟨s, rfl⟩⟩)))
    · rw [if_neg s]
      exact br_f (by decide) (notseen (Bool.eq_false_iff.mpr s))
theorem ar_384 {z0 : Int32} (hl : l < 4) (hT : T < 2 ^ 20) (hn : n ≤ 8) (hP : ar_P T W n A) (h : ar_S l T W n n A (w, mv, a1, a2, a3, a4, a5, a6, a7, a8)) (hz : z0 = nI (T - 8)) (H : post 1 ()) :
    wL_lawOf_384 post mc ms (nI l) (nI n) z0 kc ks w mv a1 a2 a3 a4 a5 a6 a7 a8 := by
  have h' := h
  obtain ⟨r1, r2, r3, r4, r5, r6, r7, r8, r9⟩ := h'
  have hc := ar_cw hP
  have e : nI n - nI (ar_o W 8) = nI (ar_c A (T - 7)) := by
    rw [pk_sub (by omega)]
    congr 1
    omega
  have last : ∀ r : Int32, r = nI (T - 8) - nI (ar_c A (T - 7)) → (r = z0 - (nI n - nI (ar_o W 8)) → wpX_count (fun r_43 => (((r_43 = nI n → (post 1 ())) ∧ (¬ r_43 = nI n → (post 0 ()))))) (w, mv, a1, a2, a3, a4, a5, a6, a7, a8) (nI l) 1) ∧ (¬ r = z0 - (nI n - nI (ar_o W 8)) → post 0 ()) := by
    intro r hr
    refine br_t (by rw [hr, hz, e]) (ar_count hl r9 (br_t rfl H))
  unfold wL_lawOf_384
  refine ar_inWindow hl hP.1 r5 (ar_accepted hl r6 (br_t rfl (ar_lost hl hT hn hP h (fun q => last 0 ?_) (fun q => last _ rfl))))
  have c0 : ar_c A (T - 7) = 0 := by
    have m := ar_c_mono A (show T - 7 ≤ 1 by omega)
    rw [ar_c1 hP.2.1] at m
    omega
  rw [c0, show T - 8 = 0 by omega]
  decide
theorem ar_28 (hl : l < 4) (H : post 1 ()) : ∀ (r i T W n : Nat) (A : Nat → Bool) (w : Int32) (mv : Int64) (a1 a2 : Nat → Int32) (a3 : Nat → Int64) (a4 a5 a6 a7 a8 : Nat → Int32), i + r = 8 → T ≤ 256 * i → n ≤ i → ar_P T W n A → ar_S l T W n n A (w, mv, a1, a2, a3, a4, a5, a6, a7, a8) →
    wL_lawOf_28 post mc ms x0 x1 x2 (nI l) kc ks (r + 1) (nI T) (nI W) (nI n) (nI i) w mv a1 a2 a3 a4 a5 a6 a7 a8 := by
  intro r
  induction r with
  | zero =>
    intro i T W n A w mv a1 a2 a3 a4 a5 a6 a7 a8 hi hT hn hP h
    have ei : i = 8 := by omega
    subst ei
    refine pk_le 8 8 (fun _ => pk_le T 8 (fun z => ?_) (fun z => ?_)) (fun z => absurd z (by omega))
    · exact ar_384 hl (by omega) hn hP h (by rw [show T - 8 = 0 by omega]; rfl) H
    · exact ar_384 hl (by omega) hn hP h (pk_sub (show 8 ≤ T by omega)) H
  | succ r ih =>
    intro i T W n A w mv a1 a2 a3 a4 a5 a6 a7 a8 hi hT hn hP h
    have HJ : ∀ T' W' n' A' w' mv' b1 b2 b3 b4 b5 b6 b7 b8, T' ≤ T + 256 → n' ≤ n + 1 → ar_P T' W' n' A' → ar_S l T' W' n' n' A' (w', mv', b1, b2, b3, b4, b5, b6, b7, b8) → wL_lawOf_28 post mc ms x0 x1 x2 (nI l) kc ks (r + 1) (nI T') (nI W') (nI n') (nI i + 1) w' mv' b1 b2 b3 b4 b5 b6 b7 b8 := by
      intro T' W' n' A' w' mv' b1 b2 b3 b4 b5 b6 b7 b8 q1 q2 q3 q4
      rw [nI_1]
      exact ih (i + 1) T' W' n' A' w' mv' b1 b2 b3 b4 b5 b6 b7 b8 (by omega) (by omega) (by omega) q3 q4
    exact pk_le 8 i (fun z => absurd z (by omega)) (fun _ => pk_le 4 i (fun _ => ar_61 hl (by omega) (by omega) hP h HJ) (fun _ => ar_61 hl (by omega) (by omega) hP h HJ))
theorem ar_cell {post : Int32 → Prop} {L : Nat} {xs : Nat → Int32} (k : Nat) {p : Int32} (hL : L ≤ 4) (hk : k < 4) (hp : p = nI k) (H : ∀ r, post r) : wpL_cellAt post L xs () p := by
  subst hp
  exact pk_le L k (fun _ => H 0) (fun z => ⟨pk_in k L z, H _⟩)
theorem ar_lawOf {p0 p1 p2 p3 : Int32} (H : post 1 ()) : wpL_lawOf post 9 298 () p0 p1 p2 p3 := by
  obtain ⟨l, hl, el⟩ := pk_andE p3 (m := 3) 2 (by decide)
  have hl' : l < 4 := hl
  refine ⟨by omega, by omega, 8, 288, by omega, by omega, ?_⟩
  refine ar_init hl' (by omega) (by omega) (fun u hu => ?_)
  obtain ⟨w, mv, a1, a2, a3, a4, a5, a6, a7, a8⟩ := u
  exact nm_r el ⟨9, ar_28 hl' H 8 0 0 0 0 _ w mv a1 a2 a3 a4 a5 a6 a7 a8 (by omega) (by omega) (by omega) ar_P0 hu⟩
end
theorem i_vc (xs : Nat → Int32) (L : Nat) (hL : L ≤ 4) : wpL_law (fun r => r = 1) L xs := by
  unfold wpL_law
  refine ar_cell 0 hL (by omega) rfl (fun r1 => ar_cell 1 hL (by omega) rfl (fun r2 => ar_cell 2 hL (by omega) rfl (fun r3 => ar_cell 3 hL (by omega) rfl (fun r4 => ?_))))
  exact ⟨9, 298, by omega, by omega, ar_lawOf rfl⟩
end
