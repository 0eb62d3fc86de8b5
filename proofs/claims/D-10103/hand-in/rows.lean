section
/-! boxes as naturals of 18 bits: the six fields, and the two writers -/
def ra_fS (n : Nat) : Nat := n / 16384 % 16
def ra_tS (n : Nat) : Nat := n / 1024 % 16
def ra_fD (n : Nat) : Nat := n / 64 % 16
def ra_tD (n : Nat) : Nat := n / 4 % 16
def ra_fP (n : Nat) : Nat := n / 2 % 2
def ra_tP (n : Nat) : Nat := n % 2
def ra_wS (n f t : Nat) : Nat := n % 1024 + f * 16384 + t * 1024
def ra_wD (n f t : Nat) : Nat := n / 1024 * 1024 + n % 4 + f * 64 + t * 4
def ra_wP (n x : Nat) : Nat := n / 4 * 4 + x
theorem ra_lS (n : Nat) : ra_fS n < 16 ∧ ra_tS n < 16 := by unfold ra_fS ra_tS; omega
theorem ra_lD (n : Nat) : ra_fD n < 16 ∧ ra_tD n < 16 := by unfold ra_fD ra_tD; omega
theorem ra_lP (n : Nat) : ra_fP n < 2 ∧ ra_tP n < 2 := by unfold ra_fP ra_tP; omega
theorem ra_wS_fS {n f t : Nat} (hf : f < 16) (ht : t < 16) : ra_fS (ra_wS n f t) = f := by unfold ra_fS ra_wS; omega
theorem ra_wS_tS {n f t : Nat} (ht : t < 16) : ra_tS (ra_wS n f t) = t := by unfold ra_tS ra_wS; omega
theorem ra_wS_fD {n f t : Nat} : ra_fD (ra_wS n f t) = ra_fD n := by unfold ra_fD ra_wS; omega
theorem ra_wS_tD {n f t : Nat} : ra_tD (ra_wS n f t) = ra_tD n := by unfold ra_tD ra_wS; omega
theorem ra_wS_fP {n f t : Nat} : ra_fP (ra_wS n f t) = ra_fP n := by unfold ra_fP ra_wS; omega
theorem ra_wS_tP {n f t : Nat} : ra_tP (ra_wS n f t) = ra_tP n := by unfold ra_tP ra_wS; omega
theorem ra_wS_lt {n f t : Nat} (hf : f < 16) (ht : t < 16) : ra_wS n f t < 262144 := by unfold ra_wS; omega
theorem ra_wD_fS {n f t : Nat} (hf : f < 16) (ht : t < 16) : ra_fS (ra_wD n f t) = ra_fS n := by unfold ra_fS ra_wD; omega
theorem ra_wD_tS {n f t : Nat} (hf : f < 16) (ht : t < 16) : ra_tS (ra_wD n f t) = ra_tS n := by unfold ra_tS ra_wD; omega
theorem ra_wD_fD {n f t : Nat} (hf : f < 16) (ht : t < 16) : ra_fD (ra_wD n f t) = f := by unfold ra_fD ra_wD; omega
theorem ra_wD_tD {n f t : Nat} (ht : t < 16) : ra_tD (ra_wD n f t) = t := by unfold ra_tD ra_wD; omega
theorem ra_wD_fP {n f t : Nat} : ra_fP (ra_wD n f t) = ra_fP n := by unfold ra_fP ra_wD; omega
theorem ra_wD_tP {n f t : Nat} : ra_tP (ra_wD n f t) = ra_tP n := by unfold ra_tP ra_wD; omega
theorem ra_wD_lt {n f t : Nat} (hn : n < 262144) (hf : f < 16) (ht : t < 16) : ra_wD n f t < 262144 := by unfold ra_wD; omega
theorem ra_wP_fS {n x : Nat} (hx : x < 4) : ra_fS (ra_wP n x) = ra_fS n := by unfold ra_fS ra_wP; omega
theorem ra_wP_tS {n x : Nat} (hx : x < 4) : ra_tS (ra_wP n x) = ra_tS n := by unfold ra_tS ra_wP; omega
theorem ra_wP_fD {n x : Nat} (hx : x < 4) : ra_fD (ra_wP n x) = ra_fD n := by unfold ra_fD ra_wP; omega
theorem ra_wP_tD {n x : Nat} (hx : x < 4) : ra_tD (ra_wP n x) = ra_tD n := by unfold ra_tD ra_wP; omega
theorem ra_wP_fP {n x : Nat} (hx : x < 4) : ra_fP (ra_wP n x) = x / 2 := by unfold ra_fP ra_wP; omega
theorem ra_wP_tP {n x : Nat} : ra_tP (ra_wP n x) = x % 2 := by unfold ra_tP ra_wP; omega
theorem ra_wP_lt {n x : Nat} (hn : n < 262144) (hx : x < 4) : ra_wP n x < 262144 := by unfold ra_wP; omega
/-! bits of naturals -/
theorem ra_iand (a b : Nat) : nI a &&& nI b = nI (a &&& b) := by
  apply Int32.toBitVec_inj.1
  show BitVec.ofNat 32 a &&& BitVec.ofNat 32 b = BitVec.ofNat 32 (a &&& b)
  apply BitVec.eq_of_getLsbD_eq
  intro i hi
  simp [hi]
theorem ra_ior (a b : Nat) : nI a ||| nI b = nI (a ||| b) := by
  apply Int32.toBitVec_inj.1
  show BitVec.ofNat 32 a ||| BitVec.ofNat 32 b = BitVec.ofNat 32 (a ||| b)
  apply BitVec.eq_of_getLsbD_eq
  intro i hi
  simp [hi]
theorem ra_orS (k : Nat) {a b : Nat} (h : b < 2 ^ k) : b ||| a * 2 ^ k = a * 2 ^ k + b := by
  rw [Nat.mul_comm a, Nat.two_pow_add_eq_or_of_lt h, Nat.or_comm]
/-- a mask that clears the places from s up to m below 18 -/
theorem ra_clr {n M s m : Nat} (hn : n < 2 ^ 18) (hs : s ≤ m) (hM : ∀ i, i < 18 → Nat.testBit M i = decide (i < s ∨ m ≤ i)) : n &&& M = n / 2 ^ m * 2 ^ m + n % 2 ^ s := by
  have hlt : n % 2 ^ s < 2 ^ m := Nat.lt_of_lt_of_le (Nat.mod_lt _ (Nat.two_pow_pos s)) (Nat.pow_le_pow_right (by omega) hs)
  apply Nat.eq_of_testBit_eq
  intro i
  rw [Nat.testBit_and, Nat.mul_comm (n / 2 ^ m), Nat.testBit_two_pow_mul_add _ hlt, Nat.testBit_mod_two_pow, Nat.testBit_div_two_pow]
  by_cases hi : i < 18
  · rw [hM i hi]
    by_cases h1 : i < m
    · rw [if_pos h1]
      by_cases h2 : i < s
      · rw [decide_eq_true (Or.inl h2), decide_eq_true h2, Bool.and_true, Bool.true_and]
      · rw [decide_eq_false (by omega), decide_eq_false h2, Bool.and_false, Bool.false_and]
    · rw [if_neg h1, decide_eq_true (Or.inr (by omega)), Bool.and_true, show i - m + m = i by omega]
  · have hz : n.testBit i = false := Nat.testBit_lt_two_pow (Nat.lt_of_lt_of_le hn (Nat.pow_le_pow_right (by omega) (by omega)))
    rw [hz, Bool.false_and, Bool.and_false]
    by_cases h1 : i < m
    · rw [if_pos h1]
    · rw [if_neg h1, show i - m + m = i by omega, hz]
theorem ra_mD {n : Nat} (h : n < 262144) : n &&& 4294966275 = n / 1024 * 1024 + n % 4 := ra_clr (s := 2) (m := 10) h (by omega) (by decide +kernel)
theorem ra_mS {n : Nat} (h : n < 262144) : n &&& 4294706175 = n % 1024 := by
  have e := ra_clr (M := 4294706175) (s := 10) (m := 18) h (by omega) (by decide +kernel)
  rw [e]
  omega
theorem ra_mP {n : Nat} (h : n < 262144) : n &&& 4294967292 = n / 4 * 4 := by
  have e := ra_clr (M := 4294967292) (s := 0) (m := 2) h (by omega) (by decide +kernel)
  rw [e]
  omega
theorem ra_oS {x f t : Nat} (hx : x < 1024) (ht : t < 16) : (x ||| f * 2 ^ 14) ||| t * 2 ^ 10 = x + f * 16384 + t * 1024 := by
  rw [Nat.or_assoc, Nat.or_comm (f * 2 ^ 14), ← Nat.or_assoc, ra_orS 10 hx, ra_orS 14 (by omega)]
  omega
theorem ra_oD {h l f t : Nat} (hl : l < 4) (hf : f < 16) (ht : t < 16) : ((h * 1024 + l) ||| f * 2 ^ 6) ||| t * 2 ^ 2 = h * 1024 + l + f * 64 + t * 4 := by
  have e1 : h * 1024 + l = l ||| h * 2 ^ 10 := (ra_orS 10 (by omega)).symm
  have e2 : ((l ||| h * 2 ^ 10) ||| f * 2 ^ 6) ||| t * 2 ^ 2 = ((l ||| t * 2 ^ 2) ||| f * 2 ^ 6) ||| h * 2 ^ 10 := by ac_rfl
  rw [e1, e2, ra_orS 2 (by omega), ra_orS 6 (by omega), ra_orS 10 (by omega), ra_orS 10 (by omega)]
  omega
theorem ra_oP {n x : Nat} (hx : x < 4) : n / 4 * 4 ||| x = n / 4 * 4 + x := by
  rw [Nat.or_comm]
  exact ra_orS 2 hx
/-! the same over Int32 -/
theorem ra_ifS {n : Nat} (h : n < 262144) : (nI n >>> ((14 : Int32) &&& 31)) &&& 15 = nI (ra_fS n) := by
  rw [pk_shrN (by omega) _ 14 (by decide), pk_andN (by omega) 4 (by decide)]
  rfl
theorem ra_itS {n : Nat} (h : n < 262144) : (nI n >>> ((10 : Int32) &&& 31)) &&& 15 = nI (ra_tS n) := by
  rw [pk_shrN (by omega) _ 10 (by decide), pk_andN (by omega) 4 (by decide)]
  rfl
theorem ra_ifD {n : Nat} (h : n < 262144) : (nI n >>> ((6 : Int32) &&& 31)) &&& 15 = nI (ra_fD n) := by
  rw [pk_shrN (by omega) _ 6 (by decide), pk_andN (by omega) 4 (by decide)]
  rfl
theorem ra_itD {n : Nat} (h : n < 262144) : (nI n >>> ((2 : Int32) &&& 31)) &&& 15 = nI (ra_tD n) := by
  rw [pk_shrN (by omega) _ 2 (by decide), pk_andN (by omega) 4 (by decide)]
  rfl
theorem ra_ifP {n : Nat} (h : n < 262144) : (nI n >>> ((1 : Int32) &&& 31)) &&& 1 = nI (ra_fP n) := by
  rw [pk_shrN (by omega) _ 1 (by decide), pk_andN (by omega) 1 (by decide)]
  rfl
theorem ra_itP {n : Nat} (h : n < 262144) : nI n &&& 1 = nI (ra_tP n) := by
  rw [pk_andN (by omega) 1 (by decide)]
  rfl
theorem ra_iwS {n f t : Nat} (h : n < 262144) (hf : f < 16) (ht : t < 16) : ((nI n &&& 1023) ||| (nI f <<< ((14 : Int32) &&& 31))) ||| (nI t <<< ((10 : Int32) &&& 31)) = nI (ra_wS n f t) := by
  rw [pk_andN (by omega) 10 (by decide), pk_shlN _ 14 (by decide) (by omega), pk_shlN _ 10 (by decide) (by omega), ra_ior, ra_ior, ra_oS (by omega) ht]
  rfl
theorem ra_cD : (-1021 : Int32) = nI 4294966275 := by decide
theorem ra_cS : (-261121 : Int32) = nI 4294706175 := by decide
theorem ra_cP : (-4 : Int32) = nI 4294967292 := by decide
theorem ra_iwD {n f t : Nat} (h : n < 262144) (hf : f < 16) (ht : t < 16) : ((nI n &&& (-1021)) ||| (nI f <<< ((6 : Int32) &&& 31))) ||| (nI t <<< ((2 : Int32) &&& 31)) = nI (ra_wD n f t) := by
  rw [ra_cD, ra_iand, ra_mD h, pk_shlN _ 6 (by decide) (by omega), pk_shlN _ 2 (by decide) (by omega), ra_ior, ra_ior, ra_oD (by omega) hf ht]
  rfl
theorem ra_iwP0 {n : Nat} (h : n < 262144) : nI n &&& (-4) = nI (ra_wP n 0) := by
  rw [ra_cP, ra_iand, ra_mP h]
  rfl
theorem ra_iwP3 {n : Nat} (h : n < 262144) : nI n ||| 3 = nI (ra_wP n 3) := by
  have e : n = (n % 4) ||| (n / 4) * 2 ^ 2 := by rw [ra_orS 2 (by omega)]; omega
  have e3 : ∀ x, x < 4 → x ||| 3 = 3 := by decide
  show nI n ||| nI 3 = _
  rw [ra_ior]
  refine congrArg nI ?_
  rw [e, Nat.or_assoc, Nat.or_comm (n / 4 * 2 ^ 2), ← Nat.or_assoc, e3 _ (by omega), ← e, ra_orS 2 (by omega)]
  rfl
/-- the draft's two ranges and its set -/
theorem ra_idS {n f t : Nat} (h : n < 262144) (hf : f < 16) (ht : t < 16) : ((nI n &&& (((255 : Int32) <<< ((10 : Int32) &&& 31)) ^^^ (-1))) ||| (nI f <<< (((10 : Int32) + 4) &&& 31))) ||| (nI t <<< ((10 : Int32) &&& 31)) = nI (ra_wS n f t) := by
  rw [show (((255 : Int32) <<< ((10 : Int32) &&& 31)) ^^^ (-1)) = -261121 by decide, ra_cS, ra_iand, ra_mS h, pk_shlN _ 14 (by decide) (by omega), pk_shlN _ 10 (by decide) (by omega), ra_ior, ra_ior, ra_oS (by omega) ht]
  rfl
theorem ra_idD {n f t : Nat} (h : n < 262144) (hf : f < 16) (ht : t < 16) : ((nI n &&& (((255 : Int32) <<< ((2 : Int32) &&& 31)) ^^^ (-1))) ||| (nI f <<< (((2 : Int32) + 4) &&& 31))) ||| (nI t <<< ((2 : Int32) &&& 31)) = nI (ra_wD n f t) := by
  rw [show (((255 : Int32) <<< ((2 : Int32) &&& 31)) ^^^ (-1)) = -1021 by decide, ra_cD, ra_iand, ra_mD h, pk_shlN _ 6 (by decide) (by omega), pk_shlN _ 2 (by decide) (by omega), ra_ior, ra_ior, ra_oD (by omega) hf ht]
  rfl
theorem ra_idP {n x : Nat} (h : n < 262144) (hx : x < 4) : (nI n &&& (-4)) ||| nI x = nI (ra_wP n x) := by
  rw [ra_cP, ra_iand, ra_mP h, ra_ior, ra_oP hx]
  rfl
end
section
/-! packets and boxes: packet q stands for (q / 32, q / 2 % 16, q % 2) -/
def ra_sS (n q : Nat) : Prop := ra_fS n ≤ q / 32 ∧ q / 32 ≤ ra_tS n
def ra_sD (n q : Nat) : Prop := ra_fD n ≤ q / 2 % 16 ∧ q / 2 % 16 ≤ ra_tD n
def ra_sP (n q : Nat) : Prop := ra_fP n ≤ q % 2 ∧ q % 2 ≤ ra_tP n
def ra_In (n q : Nat) : Prop := ra_sS n q ∧ ra_sD n q ∧ ra_sP n q
def ra_ok (n : Nat) : Prop := n < 262144 ∧ ra_fS n ≤ ra_tS n ∧ ra_fD n ≤ ra_tD n ∧ ra_fP n ≤ ra_tP n
def ra_B (b : Int32) (q : Nat) : Prop := ra_In b.toNatClampNeg q
def ra_Ok (b : Int32) : Prop := ∃ n, b = nI n ∧ ra_ok n
def ra_meet (a b : Nat) : Prop := ra_fS a ≤ ra_tS b ∧ ra_fS b ≤ ra_tS a ∧ ra_fD a ≤ ra_tD b ∧ ra_fD b ≤ ra_tD a ∧ ra_fP a ≤ ra_tP b ∧ ra_fP b ≤ ra_tP a
theorem ra_B_nI {n : Nat} (h : n < 262144) (q : Nat) : ra_B (nI n) q ↔ ra_In n q := by
  unfold ra_B
  rw [nI_clamp (by omega)]
theorem ra_pt {s d p : Nat} (hd : d < 16) (hp : p < 2) : (32 * s + 2 * d + p) / 32 = s ∧ (32 * s + 2 * d + p) / 2 % 16 = d ∧ (32 * s + 2 * d + p) % 2 = p := by omega
theorem ra_meet_iff {a b : Nat} (ha : ra_ok a) (hb : ra_ok b) : ra_meet a b ↔ ∃ q, ra_In a q ∧ ra_In b q := by
  obtain ⟨_, a1, a2, a3⟩ := ha
  obtain ⟨_, b1, b2, b3⟩ := hb
  constructor
  · intro h
    obtain ⟨h1, h2, h3, h4, h5, h6⟩ := h
    have la := ra_lD a
    have lb := ra_lD b
    have pa := ra_lP a
    have pb := ra_lP b
    obtain ⟨e1, e2, e3⟩ := ra_pt (s := max (ra_fS a) (ra_fS b)) (d := max (ra_fD a) (ra_fD b)) (p := max (ra_fP a) (ra_fP b)) (by omega) (by omega)
    refine ⟨32 * max (ra_fS a) (ra_fS b) + 2 * max (ra_fD a) (ra_fD b) + max (ra_fP a) (ra_fP b), ?_, ?_⟩
    · unfold ra_In ra_sS ra_sD ra_sP
      rw [e1, e2, e3]
      omega
    · unfold ra_In ra_sS ra_sD ra_sP
      rw [e1, e2, e3]
      omega
  · intro h
    obtain ⟨q, h1, h2⟩ := h
    unfold ra_In ra_sS ra_sD ra_sP at h1 h2
    unfold ra_meet
    omega
/-- the lowest corner -/
def ra_co (n : Nat) : Nat := 32 * ra_fS n + 2 * ra_fD n + ra_fP n
theorem ra_co_lt (n : Nat) : ra_co n < 512 := by
  have h1 := ra_lS n
  have h2 := ra_lD n
  have h3 := ra_lP n
  unfold ra_co
  omega
theorem ra_co_in {n : Nat} (h : ra_ok n) : ra_In n (ra_co n) := by
  obtain ⟨_, a1, a2, a3⟩ := h
  have h2 := ra_lD n
  have h3 := ra_lP n
  obtain ⟨e1, e2, e3⟩ := ra_pt (s := ra_fS n) (d := ra_fD n) (p := ra_fP n) h2.1 h3.1
  unfold ra_In ra_sS ra_sD ra_sP ra_co
  rw [e1, e2, e3]
  omega
theorem ra_B_co {b : Int32} (h : ra_Ok b) : ra_B b (ra_co b.toNatClampNeg) := by
  obtain ⟨n, rfl, hn⟩ := h
  unfold ra_B
  rw [nI_clamp (by have := hn.1; omega)]
  exact ra_co_in hn
theorem ra_pig : ∀ (N c : Nat) (f : Nat → Nat), (∀ k, k < c → f k < N) → (∀ j k, j < c → k < c → f j = f k → j = k) → c ≤ N := by
  intro N
  induction N with
  | zero =>
    intro c f h _
    rcases Nat.eq_zero_or_pos c with e | e
    · omega
    · exact absurd (h 0 e) (by omega)
  | succ N ih =>
    intro c f h inj
    by_cases hx : ∃ k, k < c ∧ f k = N
    · obtain ⟨k0, hk0, e0⟩ := hx
      have hlast : ∀ k, k < c → k ≠ k0 → f k < N := by
        intro k hk hne
        have h1 := h k hk
        have h2 : f k ≠ N := fun e => hne (inj k k0 hk hk0 (by omega))
        omega
      have := ih (c - 1) (fun k => if k = k0 then f (c - 1) else f k) (by
        intro k hk
        by_cases e : k = k0
        · rw [if_pos e]
          exact hlast (c - 1) (by omega) (by omega)
        · rw [if_neg e]
          exact hlast k (by omega) e) (by
        intro j k hj hk e
        by_cases ej : j = k0
        · by_cases ek : k = k0
          · omega
          · rw [if_pos ej, if_neg ek] at e
            exact absurd (inj (c - 1) k (by omega) (by omega) e) (by omega)
        · by_cases ek : k = k0
          · rw [if_neg ej, if_pos ek] at e
            exact absurd (inj j (c - 1) (by omega) (by omega) e) (by omega)
          · rw [if_neg ej, if_neg ek] at e
            exact inj j k (by omega) (by omega) e)
      omega
    · have := ih c f (fun k hk => by
        have h1 := h k hk
        have h2 : f k ≠ N := fun e => hx ⟨k, hk, e⟩
        omega) inj
      omega
/-! a list of boxes that share no packet; P: the packets they hold -/
def ra_L (a : Nat → Int32) (c : Nat) (P : Nat → Prop) : Prop := (∀ k, k < c → ra_Ok (a k)) ∧ (∀ j k q, j < c → k < c → ra_B (a j) q → ra_B (a k) q → j = k) ∧ (∀ q, P q ↔ ∃ k, k < c ∧ ra_B (a k) q)
theorem ra_L_le {a : Nat → Int32} {c : Nat} {P : Nat → Prop} (h : ra_L a c P) : c ≤ 512 :=
  ra_pig 512 c (fun k => ra_co (a k).toNatClampNeg) (fun k _ => ra_co_lt _) (fun j k hj hk e => h.2.1 j k (ra_co (a j).toNatClampNeg) hj hk (ra_B_co (h.1 j hj)) (by
    have e' : ra_co (a j).toNatClampNeg = ra_co (a k).toNatClampNeg := e
    rw [e']
    exact ra_B_co (h.1 k hk)))
theorem ra_L_iff {a : Nat → Int32} {c : Nat} {P Q : Nat → Prop} (h : ra_L a c P) (e : ∀ q, Q q ↔ P q) : ra_L a c Q := ⟨h.1, h.2.1, fun q => (e q).trans (h.2.2 q)⟩
theorem ra_L_arr {a a' : Nat → Int32} {c : Nat} {P : Nat → Prop} (h : ra_L a c P) (e : ∀ k, k < c → a' k = a k) : ra_L a' c P := by
  refine ⟨fun k hk => ?_, fun j k q hj hk h1 h2 => ?_, fun q => ?_⟩
  · rw [e k hk]
    exact h.1 k hk
  · rw [e j hj] at h1
    rw [e k hk] at h2
    exact h.2.1 j k q hj hk h1 h2
  · rw [h.2.2 q]
    constructor
    · intro z
      obtain ⟨k, hk, hb⟩ := z
      exact ⟨k, hk, by rw [e k hk]; exact hb⟩
    · intro z
      obtain ⟨k, hk, hb⟩ := z
      exact ⟨k, hk, by rw [e k hk] at hb; exact hb⟩
theorem ra_L_0 {a : Nat → Int32} {P : Nat → Prop} (h : ∀ q, ¬ P q) : ra_L a 0 P :=
  ⟨fun k hk => absurd hk (by omega), fun j k q hj => absurd hj (by omega), fun q => ⟨fun z => absurd z (h q), fun z => by obtain ⟨k, hk, _⟩ := z; omega⟩⟩
theorem ra_L_c0 {a : Nat → Int32} {c : Nat} {P : Nat → Prop} (h : ra_L a c P) : c = 0 ↔ ∀ q, ¬ P q := by
  constructor
  · intro e q z
    obtain ⟨k, hk, _⟩ := (h.2.2 q).mp z
    omega
  · intro e
    rcases Nat.eq_zero_or_pos c with z | z
    · exact z
    · exact absurd ((h.2.2 _).mpr ⟨0, z, ra_B_co (h.1 0 z)⟩) (e _)
theorem ra_L_in {a : Nat → Int32} {c k q : Nat} {P : Nat → Prop} (h : ra_L a c P) (hk : k < c) (hb : ra_B (a k) q) : P q := (h.2.2 q).mpr ⟨k, hk, hb⟩
theorem ra_L_1 {a : Nat → Int32} (h : ra_Ok (a 0)) : ra_L a 1 (ra_B (a 0)) := by
  refine ⟨fun k hk => ?_, fun j k q hj hk _ _ => by omega, fun q => ⟨fun z => ⟨0, by omega, z⟩, fun z => ?_⟩⟩
  · rw [show k = 0 by omega]
    exact h
  · obtain ⟨k, hk, hb⟩ := z
    rw [show k = 0 by omega] at hb
    exact hb
theorem ra_L_add {a : Nat → Int32} {c : Nat} {P : Nat → Prop} {b : Int32} (h : ra_L a c P) (hb : ra_Ok b) (hd : ∀ q, ra_B b q → ¬ P q) : ra_L (upd a c b) (c + 1) (fun q => P q ∨ ra_B b q) := by
  refine ⟨fun k hk => ?_, fun j k q hj hk h1 h2 => ?_, fun q => ⟨fun z => ?_, fun z => ?_⟩⟩
  · by_cases e : k = c
    · rw [e, pk_us]
      exact hb
    · rw [pk_un e]
      exact h.1 k (by omega)
  · by_cases ej : j = c
    · by_cases ek : k = c
      · omega
      · rw [ej, pk_us] at h1
        rw [pk_un ek] at h2
        exact absurd (ra_L_in h (show k < c by omega) h2) (hd q h1)
    · by_cases ek : k = c
      · rw [ek, pk_us] at h2
        rw [pk_un ej] at h1
        exact absurd (ra_L_in h (show j < c by omega) h1) (hd q h2)
      · rw [pk_un ej] at h1
        rw [pk_un ek] at h2
        exact h.2.1 j k q (by omega) (by omega) h1 h2
  · rcases z with z | z
    · obtain ⟨k, hk, hq⟩ := (h.2.2 q).mp z
      exact ⟨k, by omega, by rw [pk_un (by omega)]; exact hq⟩
    · exact ⟨c, by omega, by rw [pk_us]; exact z⟩
  · obtain ⟨k, hk, hq⟩ := z
    by_cases e : k = c
    · rw [e, pk_us] at hq
      exact Or.inr hq
    · rw [pk_un e] at hq
      exact Or.inl (ra_L_in h (show k < c by omega) hq)
theorem ra_L_lt {a : Nat → Int32} {c : Nat} {P : Nat → Prop} {b : Int32} (h : ra_L a c P) (hb : ra_Ok b) (hd : ∀ q, ra_B b q → ¬ P q) : c < 512 := by
  have := ra_L_le (ra_L_add h hb hd)
  omega
/-! the boxes that the writers make -/
theorem ra_In_wS {n f t q : Nat} (hf : f < 16) (ht : t < 16) : ra_In (ra_wS n f t) q ↔ (f ≤ q / 32 ∧ q / 32 ≤ t) ∧ ra_sD n q ∧ ra_sP n q := by
  unfold ra_In ra_sS ra_sD ra_sP
  rw [ra_wS_fS hf ht, ra_wS_tS ht, ra_wS_fD, ra_wS_tD, ra_wS_fP, ra_wS_tP]
theorem ra_In_wD {n f t q : Nat} (hf : f < 16) (ht : t < 16) : ra_In (ra_wD n f t) q ↔ ra_sS n q ∧ (f ≤ q / 2 % 16 ∧ q / 2 % 16 ≤ t) ∧ ra_sP n q := by
  unfold ra_In ra_sS ra_sD ra_sP
  rw [ra_wD_fS hf ht, ra_wD_tS hf ht, ra_wD_fD hf ht, ra_wD_tD ht, ra_wD_fP, ra_wD_tP]
theorem ra_In_wP {n x q : Nat} (hx : x < 4) : ra_In (ra_wP n x) q ↔ ra_sS n q ∧ ra_sD n q ∧ (x / 2 ≤ q % 2 ∧ q % 2 ≤ x % 2) := by
  unfold ra_In ra_sS ra_sD ra_sP
  rw [ra_wP_fS hx, ra_wP_tS hx, ra_wP_fD hx, ra_wP_tD hx, ra_wP_fP hx, ra_wP_tP]
theorem ra_ok_wS {n f t : Nat} (h : ra_ok n) (ht : t < 16) (hft : f ≤ t) : ra_ok (ra_wS n f t) := by
  unfold ra_ok
  rw [ra_wS_fS (by omega) ht, ra_wS_tS ht, ra_wS_fD, ra_wS_tD, ra_wS_fP, ra_wS_tP]
  exact ⟨ra_wS_lt (by omega) ht, hft, h.2.2⟩
theorem ra_ok_wD {n f t : Nat} (h : ra_ok n) (ht : t < 16) (hft : f ≤ t) : ra_ok (ra_wD n f t) := by
  unfold ra_ok
  rw [ra_wD_fS (by omega) ht, ra_wD_tS (by omega) ht, ra_wD_fD (by omega) ht, ra_wD_tD ht, ra_wD_fP, ra_wD_tP]
  exact ⟨ra_wD_lt h.1 (by omega) ht, h.2.1, hft, h.2.2.2⟩
theorem ra_ok_wP {n x : Nat} (h : ra_ok n) (hx : x < 4) (hft : x / 2 ≤ x % 2) : ra_ok (ra_wP n x) := by
  unfold ra_ok
  rw [ra_wP_fS hx, ra_wP_tS hx, ra_wP_fD hx, ra_wP_tD hx, ra_wP_fP hx, ra_wP_tP]
  exact ⟨ra_wP_lt h.1 hx, h.2.1, h.2.2.1, hft⟩
end
section
/-! the leaves -/
theorem ra_fromS {post : Int32 → Prop} {u : St1} {n : Nat} (hn : n < 262144) (H : post (nI (ra_fS n))) : wpX_fromS post u (nI n) := by
  obtain ⟨d, rc, wc, pc, ac, sc, a1, a2, a3, a4, a5, a6⟩ := u
  unfold wpX_fromS
  rw [ra_ifS hn]
  exact H
theorem ra_toS {post : Int32 → Prop} {u : St1} {n : Nat} (hn : n < 262144) (H : post (nI (ra_tS n))) : wpX_toS post u (nI n) := by
  obtain ⟨d, rc, wc, pc, ac, sc, a1, a2, a3, a4, a5, a6⟩ := u
  unfold wpX_toS
  rw [ra_itS hn]
  exact H
theorem ra_fromD {post : Int32 → Prop} {u : St1} {n : Nat} (hn : n < 262144) (H : post (nI (ra_fD n))) : wpX_fromD post u (nI n) := by
  obtain ⟨d, rc, wc, pc, ac, sc, a1, a2, a3, a4, a5, a6⟩ := u
  unfold wpX_fromD
  rw [ra_ifD hn]
  exact H
theorem ra_toD {post : Int32 → Prop} {u : St1} {n : Nat} (hn : n < 262144) (H : post (nI (ra_tD n))) : wpX_toD post u (nI n) := by
  obtain ⟨d, rc, wc, pc, ac, sc, a1, a2, a3, a4, a5, a6⟩ := u
  unfold wpX_toD
  rw [ra_itD hn]
  exact H
theorem ra_fromP {post : Int32 → Prop} {u : St1} {n : Nat} (hn : n < 262144) (H : post (nI (ra_fP n))) : wpX_fromP post u (nI n) := by
  obtain ⟨d, rc, wc, pc, ac, sc, a1, a2, a3, a4, a5, a6⟩ := u
  unfold wpX_fromP
  rw [ra_ifP hn]
  exact H
theorem ra_toP {post : Int32 → Prop} {u : St1} {n : Nat} (hn : n < 262144) (H : post (nI (ra_tP n))) : wpX_toP post u (nI n) := by
  obtain ⟨d, rc, wc, pc, ac, sc, a1, a2, a3, a4, a5, a6⟩ := u
  unfold wpX_toP
  rw [ra_itP hn]
  exact H
theorem ra_withS {post : Int32 → Prop} {u : St1} {x y : Int32} {n f t : Nat} (hn : n < 262144) (hf : f < 16) (ht : t < 16) (hx : x = nI f) (hy : y = nI t) (H : post (nI (ra_wS n f t))) : wpX_withS post u (nI n) x y := by
  obtain ⟨d, rc, wc, pc, ac, sc, a1, a2, a3, a4, a5, a6⟩ := u
  subst hx hy
  unfold wpX_withS
  rw [ra_iwS hn hf ht]
  exact H
theorem ra_withD {post : Int32 → Prop} {u : St1} {x y : Int32} {n f t : Nat} (hn : n < 262144) (hf : f < 16) (ht : t < 16) (hx : x = nI f) (hy : y = nI t) (H : post (nI (ra_wD n f t))) : wpX_withD post u (nI n) x y := by
  obtain ⟨d, rc, wc, pc, ac, sc, a1, a2, a3, a4, a5, a6⟩ := u
  subst hx hy
  unfold wpX_withD
  rw [ra_iwD hn hf ht]
  exact H
theorem ra_meetsN {post : Int32 → Prop} {u : St1} {a b : Nat} (ha : a < 262144) (hb : b < 262144) (H1 : ra_meet a b → post 1) (H0 : ¬ ra_meet a b → post 0) : wpX_meets post u (nI a) (nI b) := by
  have la := ra_lS a
  have lb := ra_lS b
  have ka := ra_lD a
  have kb := ra_lD b
  have pa := ra_lP a
  have pb := ra_lP b
  obtain ⟨d, rc, wc, pc, ac, sc, a1, a2, a3, a4, a5, a6⟩ := u
  unfold wpX_meets
  refine ra_fromS ha (ra_toS hb (pk_lt (ra_tS b) (ra_fS a) (fun z => H0 (fun m => by unfold ra_meet at m; omega)) (fun z1 => ?_)))
  refine ra_fromS hb (ra_toS ha (pk_le (ra_fS b) (ra_tS a) (fun z2 => ?_) (fun z => H0 (fun m => by unfold ra_meet at m; omega))))
  refine ra_fromD ha (ra_toD hb (pk_lt (ra_tD b) (ra_fD a) (fun z => H0 (fun m => by unfold ra_meet at m; omega)) (fun z3 => ?_)))
  refine ra_fromD hb (ra_toD ha (pk_le (ra_fD b) (ra_tD a) (fun z4 => ?_) (fun z => H0 (fun m => by unfold ra_meet at m; omega))))
  refine ra_fromP ha (ra_toP hb (pk_lt (ra_tP b) (ra_fP a) (fun z => H0 (fun m => by unfold ra_meet at m; omega)) (fun z5 => ?_)))
  exact ra_fromP hb (ra_toP ha (pk_lt (ra_tP a) (ra_fP b) (fun z => H0 (fun m => by unfold ra_meet at m; omega)) (fun z6 => H1 (by unfold ra_meet; omega))))
theorem ra_meets {post : Int32 → Prop} {u : St1} {a b : Int32} (ha : ra_Ok a) (hb : ra_Ok b) (H1 : (∃ q, ra_B a q ∧ ra_B b q) → post 1) (H0 : (∀ q, ra_B a q → ¬ ra_B b q) → post 0) : wpX_meets post u a b := by
  obtain ⟨n, rfl, hn⟩ := ha
  obtain ⟨m, rfl, hm⟩ := hb
  have i := ra_meet_iff hn hm
  refine ra_meetsN hn.1 hm.1 (fun h => H1 ?_) (fun h => H0 (fun q h1 h2 => h ?_))
  · obtain ⟨q, h1, h2⟩ := i.mp h
    exact ⟨q, (ra_B_nI hn.1 q).mpr h1, (ra_B_nI hm.1 q).mpr h2⟩
  · exact i.mpr ⟨q, (ra_B_nI hn.1 q).mp h1, (ra_B_nI hm.1 q).mp h2⟩
theorem ra_lf {post : Int32 → Prop} {u : St1} {b : Int32} (h : ∀ r, post r) : wpX_fromS post u b ∧ wpX_toS post u b ∧ wpX_fromD post u b ∧ wpX_toD post u b ∧ wpX_fromP post u b ∧ wpX_toP post u b := by
  obtain ⟨d, rc, wc, pc, ac, sc, a1, a2, a3, a4, a5, a6⟩ := u
  exact ⟨h _, h _, h _, h _, h _, h _⟩
/-- meets and within, of which nothing is asked but that they answer 0 or 1 -/
theorem ra_meetsX {post : Int32 → Prop} {u : St1} {a b : Int32} (h0 : post 0) (h1 : post 1) : wpX_meets post u a b := by
  obtain ⟨d, rc, wc, pc, ac, sc, a1, a2, a3, a4, a5, a6⟩ := u
  exact br_c (fun _ => h0) (fun _ => br_c (fun _ => br_c (fun _ => h0) (fun _ => br_c (fun _ => br_c (fun _ => h0) (fun _ => br_c (fun _ => h0) (fun _ => h1))) (fun _ => h0))) (fun _ => h0))
theorem ra_withinX {post : Int32 → Prop} {u : St1} {a b : Int32} (h0 : post 0) (h1 : post 1) : wpX_within post u a b := by
  obtain ⟨d, rc, wc, pc, ac, sc, a1, a2, a3, a4, a5, a6⟩ := u
  exact br_c (fun _ => h0) (fun _ => br_c (fun _ => br_c (fun _ => h0) (fun _ => br_c (fun _ => br_c (fun _ => h0) (fun _ => br_c (fun _ => h0) (fun _ => h1))) (fun _ => h0))) (fun _ => h0))
theorem ra_volume {post : Int32 → Prop} {u : St1} {b : Int32} (hb : ra_Ok b) (H : ∀ v, 1 ≤ v → v ≤ 512 → post (nI v)) : wpX_volume post u b := by
  obtain ⟨n, rfl, hn⟩ := hb
  have la := ra_lS n
  have ka := ra_lD n
  have pa := ra_lP n
  obtain ⟨h0, h1, h2, h3⟩ := hn
  obtain ⟨d, rc, wc, pc, ac, sc, a1, a2, a3, a4, a5, a6⟩ := u
  unfold wpX_volume
  refine ra_toS h0 (ra_fromS h0 (nm_r (e' := nI (ra_tS n - ra_fS n + 1)) (by rw [pk_sub h1, nI_1]) ?_))
  refine ra_toD h0 (ra_fromD h0 (nm_r (e' := nI (ra_tD n - ra_fD n + 1)) (by rw [pk_sub h2, nI_1]) ?_))
  refine ra_toP h0 (ra_fromP h0 (nm_r (e' := nI (ra_tP n - ra_fP n + 1)) (by rw [pk_sub h3, nI_1]) ?_))
  rw [pk_mul, pk_mul]
  refine H _ ?_ ?_
  · exact Nat.mul_pos (Nat.mul_pos (by omega) (by omega)) (by omega)
  · exact Nat.le_trans (Nat.mul_le_mul (Nat.mul_le_mul (show _ ≤ 16 by omega) (show _ ≤ 16 by omega)) (show _ ≤ 2 by omega)) (by omega)
theorem ra_addPiece {post : St1 → Prop} {d rc wc ac sc : Int32} {a1 a2 a3 a4 a5 a6 : Nat → Int32} {pc : Nat} {P : Nat → Prop} {b : Int32} (hL : ra_L a4 pc P) (hb : ra_Ok b) (hd : ∀ q, ra_B b q → ¬ P q)
    (H : ∀ (pc' : Nat) (a4' : Nat → Int32), ra_L a4' pc' (fun q => P q ∨ ra_B b q) → post (d, rc, wc, nI pc', ac, sc, a1, a2, a3, a4', a5, a6)) : wpX_addPiece post (d, rc, wc, nI pc, ac, sc, a1, a2, a3, a4, a5, a6) b := by
  have hlt := ra_L_lt hL hb hd
  unfold wpX_addPiece
  refine And.intro (pk_in pc 512 hlt) ?_
  rw [nI_clamp (by omega)]
  exact nm_e (nm_r (nI_1 pc) (H _ _ (ra_L_add hL hb hd)))
/-! carveS -/
theorem ra_cS84 {post : Int32 → St1 → Prop} {d rc wc ac sc : Int32} {a1 a2 a3 a4 a5 a6 : Nat → Int32} {pc : Nat} {n f t : Nat} (hn : n < 262144) (hf : f < 16) (ht : t < 16) (H : post (nI (ra_wS n f t)) (d, rc, wc, nI pc, ac, sc, a1, a2, a3, a4, a5, a6)) : wX_carveS_84 post (nI n) (nI f) (nI t) d rc wc (nI pc) ac sc a1 a2 a3 a4 a5 a6 := by
  unfold wX_carveS_84
  exact ra_withS hn hf ht rfl rfl H
theorem ra_cS54 {post : Int32 → St1 → Prop} {d rc wc ac sc : Int32} {a1 a2 a3 a4 a5 a6 : Nat → Int32} {pc : Nat} {n f m : Nat} {P : Nat → Prop} (hn : ra_ok n) (hf1 : ra_fS n ≤ f) (hf2 : f ≤ ra_tS n) (hf3 : f ≤ ra_tS m) (hL : ra_L a4 pc P) (hd : ∀ q, ra_In n q → f ≤ q / 32 → ¬ P q)
    (H : ∀ (t pc' : Nat) (a4' : Nat → Int32), t = min (ra_tS n) (ra_tS m) → ra_L a4' pc' (fun q => P q ∨ (ra_In n q ∧ t < q / 32)) → post (nI (ra_wS n f t)) (d, rc, wc, nI pc', ac, sc, a1, a2, a3, a4', a5, a6)) :
    wX_carveS_54 post (nI n) (nI f) (nI (ra_tS n)) (nI (ra_tS m)) d rc wc (nI pc) ac sc a1 a2 a3 a4 a5 a6 := by
  have l1 := ra_lS n
  have l2 := ra_lS m
  unfold wX_carveS_54
  refine pk_le (ra_tS n) (ra_tS m) (fun z => ?_) (fun z => ?_)
  · refine ra_cS84 hn.1 (by omega) (by omega) (H _ _ _ (by omega) (ra_L_iff hL (fun q => ⟨fun h => ?_, Or.inl⟩)))
    rcases h with h | h
    · exact h
    · obtain ⟨h1, h2⟩ := h
      unfold ra_In ra_sS at h1
      omega
  · have hb : ra_ok (ra_wS n (ra_tS m + 1) (ra_tS n)) := ra_ok_wS hn (by omega) (by omega)
    have hs : ∀ q, ra_B (nI (ra_wS n (ra_tS m + 1) (ra_tS n))) q ↔ ra_In n q ∧ ra_tS m < q / 32 := by
      intro q
      rw [ra_B_nI hb.1, ra_In_wS (by omega) (by omega)]
      unfold ra_In ra_sS
      constructor
      · intro h
        refine ⟨⟨?_, ?_, ?_⟩, ?_⟩
        all_goals first | exact h.1 | exact h.2.1 | exact h.2.2 | omega
      · intro h
        refine ⟨?_, ?_, ?_⟩
        all_goals first | exact h.1.1 | exact h.1.2.1 | exact h.1.2.2 | omega
    refine ra_withS hn.1 (f := ra_tS m + 1) (t := ra_tS n) (by omega) (by omega) (nI_1 _) rfl ?_
    refine ra_addPiece hL ⟨_, rfl, hb⟩ (fun q h => hd q ((hs q).mp h).1 (by have := ((hs q).mp h).2; omega)) (fun pc' a4' h' => ?_)
    refine ra_cS84 hn.1 (by omega) (by omega) (H _ _ _ (by omega) (ra_L_iff h' (fun q => ?_)))
    rw [hs q]
theorem ra_carveS {post : Int32 → St1 → Prop} {d rc wc ac sc : Int32} {a1 a2 a3 a4 a5 a6 : Nat → Int32} {pc : Nat} {n m : Nat} {P : Nat → Prop} (hn : ra_ok n) (hm : ra_ok m) (ht : ra_meet n m) (hL : ra_L a4 pc P) (hd : ∀ q, ra_In n q → ¬ P q)
    (H : ∀ (n' pc' : Nat) (a4' : Nat → Int32), ra_ok n' → ra_meet n' m → (∀ q, ra_In n' q ↔ ra_In n q ∧ ra_sS m q) → ra_L a4' pc' (fun q => P q ∨ (ra_In n q ∧ ¬ ra_sS m q)) → post (nI n') (d, rc, wc, nI pc', ac, sc, a1, a2, a3, a4', a5, a6)) :
    wpX_carveS post (d, rc, wc, nI pc, ac, sc, a1, a2, a3, a4, a5, a6) (nI n) (nI m) := by
  have l1 := ra_lS n
  have l2 := ra_lS m
  have ht' := ht
  unfold ra_meet at ht'
  obtain ⟨okn, on1, on2, on3⟩ := id hn
  obtain ⟨okm, om1, om2, om3⟩ := id hm
  have fin : ∀ f t, f = max (ra_fS n) (ra_fS m) → t = min (ra_tS n) (ra_tS m) → ra_ok (ra_wS n f t) ∧ ra_meet (ra_wS n f t) m ∧ (∀ q, ra_In (ra_wS n f t) q ↔ ra_In n q ∧ ra_sS m q) := by
    intro f t ef et
    refine ⟨ra_ok_wS hn (by omega) (by omega), ?_, fun q => ?_⟩
    · unfold ra_meet
      rw [ra_wS_fS (by omega) (by omega), ra_wS_tS (by omega), ra_wS_fD, ra_wS_tD, ra_wS_fP, ra_wS_tP]
      omega
    · rw [ra_In_wS (by omega) (by omega)]
      unfold ra_In ra_sS
      constructor
      · intro h
        refine ⟨⟨?_, ?_, ?_⟩, ?_⟩
        all_goals first | exact h.1 | exact h.2.1 | exact h.2.2 | omega
      · intro h
        refine ⟨?_, ?_, ?_⟩
        all_goals first | exact h.1.1 | exact h.1.2.1 | exact h.1.2.2 | omega
  unfold wpX_carveS
  refine ra_fromS hn.1 (ra_toS hn.1 (ra_fromS hm.1 (ra_toS hm.1 (pk_le (ra_fS m) (ra_fS n) (fun z => ?_) (fun z => ?_)))))
  · refine ra_cS54 hn (Nat.le_refl _) (by omega) (by omega) hL (fun q h _ => hd q h) (fun t pc' a4' et hL' => ?_)
    obtain ⟨f1, f2, f3⟩ := fin (ra_fS n) t (by omega) et
    refine H _ _ _ f1 f2 f3 (ra_L_iff hL' (fun q => ?_))
    constructor
    · intro h
      rcases h with h | h
      · exact Or.inl h
      · refine Or.inr ⟨h.1, ?_⟩
        obtain ⟨h1, h2⟩ := h
        unfold ra_In ra_sS at h1
        unfold ra_sS at h2
        omega
    · intro h
      rcases h with h | h
      · exact Or.inl h
      · refine Or.inr ⟨h.1, ?_⟩
        obtain ⟨h1, h2⟩ := h
        unfold ra_In ra_sS at h1
        unfold ra_sS
        omega
  · have hb : ra_ok (ra_wS n (ra_fS n) (ra_fS m - 1)) := ra_ok_wS hn (by omega) (by omega)
    have hs : ∀ q, ra_B (nI (ra_wS n (ra_fS n) (ra_fS m - 1))) q ↔ ra_In n q ∧ q / 32 < ra_fS m := by
      intro q
      rw [ra_B_nI hb.1, ra_In_wS (by omega) (by omega)]
      unfold ra_In ra_sS
      constructor
      · intro h
        refine ⟨⟨?_, ?_, ?_⟩, ?_⟩
        all_goals first | exact h.1 | exact h.2.1 | exact h.2.2 | omega
      · intro h
        refine ⟨?_, ?_, ?_⟩
        all_goals first | exact h.1.1 | exact h.1.2.1 | exact h.1.2.2 | omega
    have e1 : nI (ra_fS m) - 1 = nI (ra_fS m - 1) := pk_sub (b := 1) (by omega)
    refine ra_withS hn.1 (f := ra_fS n) (t := ra_fS m - 1) (by omega) (by omega) rfl e1 ?_
    refine ra_addPiece hL ⟨_, rfl, hb⟩ (fun q h => hd q ((hs q).mp h).1) (fun pc1 a41 hL1 => ?_)
    refine ra_cS54 hn (by omega) (by omega) (by omega) hL1 (fun q h hq g => ?_) (fun t pc' a4' et hL' => ?_)
    · rcases g with g | g
      · exact hd q h g
      · have := ((hs q).mp g).2
        omega
    · obtain ⟨f1, f2, f3⟩ := fin (ra_fS m) t (by omega) et
      refine H _ _ _ f1 f2 f3 (ra_L_iff hL' (fun q => ?_))
      rw [hs q]
      constructor
      · intro h
        rcases h with h | h
        · exact Or.inl (Or.inl h)
        · obtain ⟨h1, h2⟩ := h
          by_cases g : q / 32 < ra_fS m
          · exact Or.inl (Or.inr ⟨h1, g⟩)
          · refine Or.inr ⟨h1, ?_⟩
            unfold ra_In ra_sS at h1
            unfold ra_sS at h2
            omega
      · intro h
        rcases h with (h | h) | h
        · exact Or.inl h
        · refine Or.inr ⟨h.1, ?_⟩
          have := h.2
          unfold ra_sS
          omega
        · refine Or.inr ⟨h.1, ?_⟩
          obtain ⟨h1, h2⟩ := h
          unfold ra_In ra_sS at h1
          unfold ra_sS
          omega
/-! carveD -/
theorem ra_cD84 {post : Int32 → St1 → Prop} {d rc wc ac sc : Int32} {a1 a2 a3 a4 a5 a6 : Nat → Int32} {pc : Nat} {n f t : Nat} (hn : n < 262144) (hf : f < 16) (ht : t < 16) (H : post (nI (ra_wD n f t)) (d, rc, wc, nI pc, ac, sc, a1, a2, a3, a4, a5, a6)) : wX_carveD_84 post (nI n) (nI f) (nI t) d rc wc (nI pc) ac sc a1 a2 a3 a4 a5 a6 := by
  unfold wX_carveD_84
  exact ra_withD hn hf ht rfl rfl H
theorem ra_cD54 {post : Int32 → St1 → Prop} {d rc wc ac sc : Int32} {a1 a2 a3 a4 a5 a6 : Nat → Int32} {pc : Nat} {n f m : Nat} {P : Nat → Prop} (hn : ra_ok n) (hf1 : ra_fD n ≤ f) (hf2 : f ≤ ra_tD n) (hf3 : f ≤ ra_tD m) (hL : ra_L a4 pc P) (hd : ∀ q, ra_In n q → f ≤ q / 2 % 16 → ¬ P q)
    (H : ∀ (t pc' : Nat) (a4' : Nat → Int32), t = min (ra_tD n) (ra_tD m) → ra_L a4' pc' (fun q => P q ∨ (ra_In n q ∧ t < q / 2 % 16)) → post (nI (ra_wD n f t)) (d, rc, wc, nI pc', ac, sc, a1, a2, a3, a4', a5, a6)) :
    wX_carveD_54 post (nI n) (nI f) (nI (ra_tD n)) (nI (ra_tD m)) d rc wc (nI pc) ac sc a1 a2 a3 a4 a5 a6 := by
  have l1 := ra_lD n
  have l2 := ra_lD m
  unfold wX_carveD_54
  refine pk_le (ra_tD n) (ra_tD m) (fun z => ?_) (fun z => ?_)
  · refine ra_cD84 hn.1 (by omega) (by omega) (H _ _ _ (by omega) (ra_L_iff hL (fun q => ⟨fun h => ?_, Or.inl⟩)))
    rcases h with h | h
    · exact h
    · obtain ⟨h1, h2⟩ := h
      unfold ra_In ra_sD at h1
      omega
  · have hb : ra_ok (ra_wD n (ra_tD m + 1) (ra_tD n)) := ra_ok_wD hn (by omega) (by omega)
    have hs : ∀ q, ra_B (nI (ra_wD n (ra_tD m + 1) (ra_tD n))) q ↔ ra_In n q ∧ ra_tD m < q / 2 % 16 := by
      intro q
      rw [ra_B_nI hb.1, ra_In_wD (by omega) (by omega)]
      unfold ra_In ra_sD
      constructor
      · intro h
        refine ⟨⟨?_, ?_, ?_⟩, ?_⟩
        all_goals first | exact h.1 | exact h.2.1 | exact h.2.2 | omega
      · intro h
        refine ⟨?_, ?_, ?_⟩
        all_goals first | exact h.1.1 | exact h.1.2.1 | exact h.1.2.2 | omega
    refine ra_withD hn.1 (f := ra_tD m + 1) (t := ra_tD n) (by omega) (by omega) (nI_1 _) rfl ?_
    refine ra_addPiece hL ⟨_, rfl, hb⟩ (fun q h => hd q ((hs q).mp h).1 (by have := ((hs q).mp h).2; omega)) (fun pc' a4' h' => ?_)
    refine ra_cD84 hn.1 (by omega) (by omega) (H _ _ _ (by omega) (ra_L_iff h' (fun q => ?_)))
    rw [hs q]
theorem ra_carveD {post : Int32 → St1 → Prop} {d rc wc ac sc : Int32} {a1 a2 a3 a4 a5 a6 : Nat → Int32} {pc : Nat} {n m : Nat} {P : Nat → Prop} (hn : ra_ok n) (hm : ra_ok m) (ht : ra_meet n m) (hL : ra_L a4 pc P) (hd : ∀ q, ra_In n q → ¬ P q)
    (H : ∀ (n' pc' : Nat) (a4' : Nat → Int32), ra_ok n' → ra_meet n' m → (∀ q, ra_In n' q ↔ ra_In n q ∧ ra_sD m q) → ra_L a4' pc' (fun q => P q ∨ (ra_In n q ∧ ¬ ra_sD m q)) → post (nI n') (d, rc, wc, nI pc', ac, sc, a1, a2, a3, a4', a5, a6)) :
    wpX_carveD post (d, rc, wc, nI pc, ac, sc, a1, a2, a3, a4, a5, a6) (nI n) (nI m) := by
  have l1 := ra_lD n
  have l2 := ra_lD m
  have ht' := ht
  unfold ra_meet at ht'
  obtain ⟨okn, on1, on2, on3⟩ := id hn
  obtain ⟨okm, om1, om2, om3⟩ := id hm
  have fin : ∀ f t, f = max (ra_fD n) (ra_fD m) → t = min (ra_tD n) (ra_tD m) → ra_ok (ra_wD n f t) ∧ ra_meet (ra_wD n f t) m ∧ (∀ q, ra_In (ra_wD n f t) q ↔ ra_In n q ∧ ra_sD m q) := by
    intro f t ef et
    refine ⟨ra_ok_wD hn (by omega) (by omega), ?_, fun q => ?_⟩
    · unfold ra_meet
      rw [ra_wD_fS (by omega) (by omega), ra_wD_tS (by omega) (by omega), ra_wD_fD (by omega) (by omega), ra_wD_tD (by omega), ra_wD_fP, ra_wD_tP]
      omega
    · rw [ra_In_wD (by omega) (by omega)]
      unfold ra_In ra_sD
      constructor
      · intro h
        refine ⟨⟨?_, ?_, ?_⟩, ?_⟩
        all_goals first | exact h.1 | exact h.2.1 | exact h.2.2 | omega
      · intro h
        refine ⟨?_, ?_, ?_⟩
        all_goals first | exact h.1.1 | exact h.1.2.1 | exact h.1.2.2 | omega
  unfold wpX_carveD
  refine ra_fromD hn.1 (ra_toD hn.1 (ra_fromD hm.1 (ra_toD hm.1 (pk_le (ra_fD m) (ra_fD n) (fun z => ?_) (fun z => ?_)))))
  · refine ra_cD54 hn (Nat.le_refl _) (by omega) (by omega) hL (fun q h _ => hd q h) (fun t pc' a4' et hL' => ?_)
    obtain ⟨f1, f2, f3⟩ := fin (ra_fD n) t (by omega) et
    refine H _ _ _ f1 f2 f3 (ra_L_iff hL' (fun q => ?_))
    constructor
    · intro h
      rcases h with h | h
      · exact Or.inl h
      · refine Or.inr ⟨h.1, ?_⟩
        obtain ⟨h1, h2⟩ := h
        unfold ra_In ra_sD at h1
        unfold ra_sD at h2
        omega
    · intro h
      rcases h with h | h
      · exact Or.inl h
      · refine Or.inr ⟨h.1, ?_⟩
        obtain ⟨h1, h2⟩ := h
        unfold ra_In ra_sD at h1
        unfold ra_sD
        omega
  · have hb : ra_ok (ra_wD n (ra_fD n) (ra_fD m - 1)) := ra_ok_wD hn (by omega) (by omega)
    have hs : ∀ q, ra_B (nI (ra_wD n (ra_fD n) (ra_fD m - 1))) q ↔ ra_In n q ∧ q / 2 % 16 < ra_fD m := by
      intro q
      rw [ra_B_nI hb.1, ra_In_wD (by omega) (by omega)]
      unfold ra_In ra_sD
      constructor
      · intro h
        refine ⟨⟨?_, ?_, ?_⟩, ?_⟩
        all_goals first | exact h.1 | exact h.2.1 | exact h.2.2 | omega
      · intro h
        refine ⟨?_, ?_, ?_⟩
        all_goals first | exact h.1.1 | exact h.1.2.1 | exact h.1.2.2 | omega
    have e1 : nI (ra_fD m) - 1 = nI (ra_fD m - 1) := pk_sub (b := 1) (by omega)
    refine ra_withD hn.1 (f := ra_fD n) (t := ra_fD m - 1) (by omega) (by omega) rfl e1 ?_
    refine ra_addPiece hL ⟨_, rfl, hb⟩ (fun q h => hd q ((hs q).mp h).1) (fun pc1 a41 hL1 => ?_)
    refine ra_cD54 hn (by omega) (by omega) (by omega) hL1 (fun q h hq g => ?_) (fun t pc' a4' et hL' => ?_)
    · rcases g with g | g
      · exact hd q h g
      · have := ((hs q).mp g).2
        omega
    · obtain ⟨f1, f2, f3⟩ := fin (ra_fD m) t (by omega) et
      refine H _ _ _ f1 f2 f3 (ra_L_iff hL' (fun q => ?_))
      rw [hs q]
      constructor
      · intro h
        rcases h with h | h
        · exact Or.inl (Or.inl h)
        · obtain ⟨h1, h2⟩ := h
          by_cases g : q / 2 % 16 < ra_fD m
          · exact Or.inl (Or.inr ⟨h1, g⟩)
          · refine Or.inr ⟨h1, ?_⟩
            unfold ra_In ra_sD at h1
            unfold ra_sD at h2
            omega
      · intro h
        rcases h with (h | h) | h
        · exact Or.inl h
        · refine Or.inr ⟨h.1, ?_⟩
          have := h.2
          unfold ra_sD
          omega
        · refine Or.inr ⟨h.1, ?_⟩
          obtain ⟨h1, h2⟩ := h
          unfold ra_In ra_sD at h1
          unfold ra_sD
          omega
/-! carve -/
theorem ra_c35 {post : St1 → Prop} {d rc wc ac sc : Int32} {a1 a2 a3 a4 a5 a6 : Nat → Int32} {pc : Nat} {n m : Nat} {P : Nat → Prop} (hn : ra_ok n) (hm : ra_ok m) (ht : ra_meet n m) (hL : ra_L a4 pc P) (hd : ∀ q, ra_In n q → ra_fP m ≤ q % 2 → ¬ P q)
    (H : ∀ (pc' : Nat) (a4' : Nat → Int32), ra_L a4' pc' (fun q => P q ∨ (ra_In n q ∧ ra_tP m < q % 2)) → post (d, rc, wc, nI pc', ac, sc, a1, a2, a3, a4', a5, a6)) :
    wX_carve_35 post (nI m) (nI n) d rc wc (nI pc) ac sc a1 a2 a3 a4 a5 a6 := by
  have l1 := ra_lP n
  have l2 := ra_lP m
  have om := hm.2.2.2
  unfold wX_carve_35
  refine ra_toP hn.1 (ra_toP hm.1 (pk_le (ra_tP n) (ra_tP m) (fun z => ?_) (fun z => ?_)))
  · refine H _ _ (ra_L_iff hL (fun q => ⟨fun h => ?_, Or.inl⟩))
    rcases h with h | h
    · exact h
    · obtain ⟨h1, h2⟩ := h
      unfold ra_In ra_sP at h1
      omega
  · have hb : ra_ok (ra_wP n 3) := ra_ok_wP hn (by omega) (by omega)
    have hs : ∀ q, ra_B (nI (ra_wP n 3)) q ↔ ra_In n q ∧ ra_tP m < q % 2 := by
      intro q
      rw [ra_B_nI hb.1, ra_In_wP (by omega)]
      have on := hn.2.2.2
      unfold ra_meet at ht
      unfold ra_In ra_sP
      constructor
      · intro h
        exact ⟨⟨h.1, h.2.1, by omega⟩, by omega⟩
      · intro h
        exact ⟨h.1.1, h.1.2.1, by omega⟩
    rw [ra_iwP3 hn.1]
    refine ra_addPiece hL ⟨_, rfl, hb⟩ (fun q h => hd q ((hs q).mp h).1 (by have := ((hs q).mp h).2; omega)) (fun pc' a4' h' => H _ _ (ra_L_iff h' (fun q => ?_)))
    rw [hs q]
theorem ra_carveN {post : St1 → Prop} {d rc wc ac sc : Int32} {a1 a2 a3 a4 a5 a6 : Nat → Int32} {pc : Nat} {n m : Nat} {P : Nat → Prop} (hn : ra_ok n) (hm : ra_ok m) (ht : ra_meet n m) (hL : ra_L a4 pc P) (hd : ∀ q, ra_In n q → ¬ P q)
    (H : ∀ (pc' : Nat) (a4' : Nat → Int32), ra_L a4' pc' (fun q => P q ∨ (ra_In n q ∧ ¬ ra_In m q)) → post (d, rc, wc, nI pc', ac, sc, a1, a2, a3, a4', a5, a6)) :
    wpX_carve post (d, rc, wc, nI pc, ac, sc, a1, a2, a3, a4, a5, a6) (nI n) (nI m) := by
  have lm := ra_lP m
  unfold wpX_carve
  refine ra_carveS hn hm ht hL hd (fun n1 pc1 a41 ok1 mt1 in1 L1 => ?_)
  refine ra_carveD ok1 hm mt1 L1 (fun q h g => ?_) (fun n2 pc2 a42 ok2 mt2 in2 L2 => ?_)
  · rcases g with g | g
    · exact hd q ((in1 q).mp h).1 g
    · exact g.2 ((in1 q).mp h).2
  have in3 : ∀ q, ra_In n2 q ↔ ra_In n q ∧ ra_sS m q ∧ ra_sD m q := fun q => by rw [in2 q, in1 q, and_assoc]
  have l2 := ra_lP n2
  have nd : ∀ q, ra_In n2 q → ¬ ((P q ∨ (ra_In n q ∧ ¬ ra_sS m q)) ∨ (ra_In n1 q ∧ ¬ ra_sD m q)) := by
    intro q h g
    have h3 := (in3 q).mp h
    rcases g with (g | g) | g
    · exact hd q h3.1 g
    · exact g.2 h3.2.1
    · exact g.2 h3.2.2
  have last : ∀ q, (((P q ∨ (ra_In n q ∧ ¬ ra_sS m q)) ∨ (ra_In n1 q ∧ ¬ ra_sD m q)) ∨ (ra_In n2 q ∧ ¬ ra_sP m q)) ↔ (P q ∨ (ra_In n q ∧ ¬ ra_In m q)) := by
    intro q
    rw [in3 q, in1 q]
    unfold ra_In
    constructor
    · intro h
      rcases h with ((h | h) | h) | h
      · exact Or.inl h
      · exact Or.inr ⟨h.1, fun g => h.2 g.1⟩
      · exact Or.inr ⟨h.1.1, fun g => h.2 g.2.1⟩
      · exact Or.inr ⟨h.1.1, fun g => h.2 g.2.2⟩
    · intro h
      rcases h with h | h
      · exact Or.inl (Or.inl (Or.inl h))
      · by_cases gs : ra_sS m q
        · by_cases gd : ra_sD m q
          · exact Or.inr ⟨⟨h.1, gs, gd⟩, fun gp => h.2 ⟨gs, gd, gp⟩⟩
          · exact Or.inl (Or.inr ⟨⟨h.1, gs⟩, gd⟩)
        · exact Or.inl (Or.inl (Or.inr ⟨h.1, gs⟩))
  refine ra_fromP ok2.1 (ra_fromP hm.1 (pk_le (ra_fP m) (ra_fP n2) (fun z => ?_) (fun z => ?_)))
  · refine ra_c35 ok2 hm mt2 L2 (fun q h _ => nd q h) (fun pc' a4' L' => H _ _ (ra_L_iff L' (fun q => ?_)))
    rw [← last q]
    constructor
    · intro h
      rcases h with h | h
      · exact Or.inl h
      · refine Or.inr ⟨h.1, ?_⟩
        obtain ⟨h1, h2⟩ := h
        unfold ra_In ra_sP at h1
        unfold ra_sP at h2
        omega
    · intro h
      rcases h with h | h
      · exact Or.inl h
      · refine Or.inr ⟨h.1, ?_⟩
        have := h.2
        unfold ra_sP
        omega
  · have hb : ra_ok (ra_wP n2 0) := ra_ok_wP ok2 (by omega) (by omega)
    have hs : ∀ q, ra_B (nI (ra_wP n2 0)) q ↔ ra_In n2 q ∧ q % 2 < ra_fP m := by
      intro q
      rw [ra_B_nI hb.1, ra_In_wP (by omega)]
      have on := ok2.2.2.2
      unfold ra_In ra_sP
      constructor
      · intro h
        exact ⟨⟨h.1, h.2.1, by omega⟩, by omega⟩
      · intro h
        exact ⟨h.1.1, h.1.2.1, by omega⟩
    rw [ra_iwP0 ok2.1]
    refine ra_addPiece L2 ⟨_, rfl, hb⟩ (fun q h => nd q ((hs q).mp h).1) (fun pc3 a43 L3 => ?_)
    refine ra_c35 ok2 hm mt2 L3 (fun q h hq g => ?_) (fun pc' a4' L' => H _ _ (ra_L_iff L' (fun q => ?_)))
    · rcases g with g | g
      · exact nd q h g
      · have := ((hs q).mp g).2
        omega
    · rw [← last q, hs q]
      constructor
      · intro h
        rcases h with h | h
        · exact Or.inl (Or.inl h)
        · obtain ⟨h1, h2⟩ := h
          by_cases g : q % 2 < ra_fP m
          · exact Or.inl (Or.inr ⟨h1, g⟩)
          · refine Or.inr ⟨h1, ?_⟩
            unfold ra_sP at h2
            omega
      · intro h
        rcases h with (h | h) | h
        · exact Or.inl h
        · refine Or.inr ⟨h.1, ?_⟩
          have := h.2
          unfold ra_sP
          omega
        · refine Or.inr ⟨h.1, ?_⟩
          have := h.2
          unfold ra_sP
          omega
theorem ra_carve {post : St1 → Prop} {d rc wc ac sc : Int32} {a1 a2 a3 a4 a5 a6 : Nat → Int32} {pc : Nat} {b c : Int32} {P : Nat → Prop} (hb : ra_Ok b) (hc : ra_Ok c) (ht : ∃ q, ra_B b q ∧ ra_B c q) (hL : ra_L a4 pc P) (hd : ∀ q, ra_B b q → ¬ P q)
    (H : ∀ (pc' : Nat) (a4' : Nat → Int32), ra_L a4' pc' (fun q => P q ∨ (ra_B b q ∧ ¬ ra_B c q)) → post (d, rc, wc, nI pc', ac, sc, a1, a2, a3, a4', a5, a6)) :
    wpX_carve post (d, rc, wc, nI pc, ac, sc, a1, a2, a3, a4, a5, a6) b c := by
  obtain ⟨n, rfl, hn⟩ := hb
  obtain ⟨m, rfl, hm⟩ := hc
  have e1 := ra_B_nI hn.1
  have e2 := ra_B_nI hm.1
  refine ra_carveN hn hm ((ra_meet_iff hn hm).mpr ?_) hL (fun q h => hd q ((e1 q).mpr h)) (fun pc' a4' L' => H _ _ (ra_L_iff L' (fun q => by rw [e1 q, e2 q])))
  obtain ⟨q, h1, h2⟩ := ht
  exact ⟨q, (e1 q).mp h1, (e2 q).mp h2⟩
end
section
theorem ra_fill {f s : Nat → Int32} {i k : Nat} {x : Int32} (hk : k = i) (h : ∀ j, j < i → s j = f j) (hx : x = f i) : ∀ j, j < i + 1 → upd s k x j = f j := by
  intro j hj
  rw [hk]
  by_cases e : j = i
  · rw [e, pk_us, hx]
  · rw [pk_un e]
    exact h j (by omega)
theorem ra_exS {i : Nat} {p : Nat → Prop} : (∃ k, k < i + 1 ∧ p k) ↔ ((∃ k, k < i ∧ p k) ∨ p i) := by
  constructor
  · intro h
    obtain ⟨k, hk, hp⟩ := h
    by_cases e : k = i
    · rw [e] at hp
      exact Or.inr hp
    · exact Or.inl ⟨k, by omega, hp⟩
  · intro h
    rcases h with h | h
    · obtain ⟨k, hk, hp⟩ := h
      exact ⟨k, by omega, hp⟩
    · exact ⟨i, by omega, h⟩
theorem ra_allS {i : Nat} {p : Nat → Prop} : (∀ k, k < i + 1 → p k) ↔ ((∀ k, k < i → p k) ∧ p i) := by
  constructor
  · intro h
    exact ⟨fun k hk => h k (by omega), h i (by omega)⟩
  · intro h k hk
    by_cases e : k = i
    · rw [e]
      exact h.2
    · exact h.1 k (by omega)
/-! subtract -/
theorem ra_s61 {post : St1 → Prop} {d rc wc ac sc : Int32} {a1 a2 a3 a4 a5 a6 : Nat → Int32} {pc : Nat} {P : Nat → Prop} (hL : ra_L a4 pc P)
    (H : ∀ a3' : Nat → Int32, ra_L a3' pc P → post (d, rc, nI pc, nI pc, ac, sc, a1, a2, a3', a4, a5, a6)) :
    ∃ n, wX_subtract_61 post d rc wc (nI pc) ac sc n 0 a1 a2 a3 a4 a5 a6 :=
  have hp := ra_L_le hL
  pk_loop (fun n i s => wX_subtract_61 post d rc wc (nI pc) ac sc n (nI i) a1 a2 s a4 a5 a6) (fun i s => ∀ j, j < i → s j = a4 j) pc 0 a3 (by omega) (fun j hj => absurd hj (by omega))
    (fun n s h => pk_le pc pc (fun _ => H s (ra_L_arr hL h)) (fun z => absurd z (by omega)))
    (fun n i s hi h hw => pk_le pc i (fun z => absurd z (by omega)) (fun _ => ⟨pk_in i 512 (by omega), pk_in i 512 (by omega), nm_e (nm_r (nI_1 i) (hw _ (ra_fill (nI_clamp (by omega)) h (by rw [nI_clamp (by omega)]))))⟩))
theorem ra_subtract {post : St1 → Prop} {d rc pc ac sc : Int32} {a1 a2 a3 a4 a5 a6 : Nat → Int32} {wc : Nat} {P : Nat → Prop} {c : Int32} (hL : ra_L a3 wc P) (hc : ra_Ok c)
    (H : ∀ (wc' : Nat) (pc' : Int32) (a3' a4' : Nat → Int32), ra_L a3' wc' (fun q => P q ∧ ¬ ra_B c q) → post (d, rc, nI wc', pc', ac, sc, a1, a2, a3', a4', a5, a6)) :
    wpX_subtract post (d, rc, nI wc, pc, ac, sc, a1, a2, a3, a4, a5, a6) c := by
  have hwc := ra_L_le hL
  unfold wpX_subtract
  refine pk_loop (σ := Nat × (Nat → Int32)) (fun n i s => wX_subtract_7 post c n (nI i) d rc (nI wc) (nI s.1) ac sc a1 a2 a3 s.2 a5 a6) (fun i s => ra_L s.2 s.1 (fun q => (∃ k, k < i ∧ ra_B (a3 k) q) ∧ ¬ ra_B c q)) wc 0 (0, a4) (by omega) ?_ ?_ ?_
  · exact ra_L_0 (fun q z => by obtain ⟨⟨k, hk, _⟩, _⟩ := z; omega)
  · intro n s h
    refine pk_le wc wc (fun _ => ?_) (fun z => absurd z (by omega))
    exact ra_s61 h (fun a3' h' => H _ _ _ _ (ra_L_iff h' (fun q => by rw [hL.2.2 q])))
  · intro n i s hi h hw
    have hok := hL.1 i hi
    have hdis : ∀ q, ra_B (a3 i) q → ¬ ((∃ k, k < i ∧ ra_B (a3 k) q) ∧ ¬ ra_B c q) := by
      intro q hq g
      obtain ⟨⟨k, hk, hb⟩, _⟩ := g
      have := hL.2.1 k i q (by omega) hi hb hq
      omega
    refine pk_le wc i (fun z => absurd z (by omega)) (fun _ => And.intro (pk_in i 512 (by omega)) ?_)
    rw [nI_clamp (show i < 2 ^ 31 by omega)]
    refine ra_meets hok hc (fun hm => br_f (by decide) (And.intro (pk_in i 512 (by omega)) ?_)) (fun hm => br_t rfl (And.intro (pk_in i 512 (by omega)) ?_))
    · refine ra_carve hok hc hm h hdis (fun pc' a4' L' => nm_r (nI_1 i) (hw (pc', a4') (ra_L_iff L' (fun q => ?_))))
      rw [ra_exS]
      constructor
      · intro g
        rcases g.1 with g1 | g1
        · exact Or.inl ⟨g1, g.2⟩
        · exact Or.inr ⟨g1, g.2⟩
      · intro g
        rcases g with g | g
        · exact ⟨Or.inl g.1, g.2⟩
        · exact ⟨Or.inr g.1, g.2⟩
    · refine ra_addPiece h hok hdis (fun pc' a4' L' => nm_r (nI_1 i) (hw (pc', a4') (ra_L_iff L' (fun q => ?_))))
      rw [ra_exS]
      constructor
      · intro g
        rcases g.1 with g1 | g1
        · exact Or.inl ⟨g1, g.2⟩
        · exact Or.inr g1
      · intro g
        rcases g with g | g
        · exact ⟨Or.inl g.1, g.2⟩
        · exact ⟨Or.inr g, hm q g⟩
/-! what a rule owns -/
def ra_own (a1 : Nat → Int32) (i q : Nat) : Prop := ra_B (a1 i) q ∧ ∀ k, k < i → ¬ ra_B (a1 k) q
theorem ra_carveOwned {post : St1 → Prop} {d rc wc pc ac sc : Int32} {a1 a2 a3 a4 a5 a6 : Nat → Int32} {i : Nat} (hi : i < 10) (hr : ∀ j, j ≤ i → ra_Ok (a1 j))
    (H : ∀ (wc' : Nat) (pc' : Int32) (a3' a4' : Nat → Int32), ra_L a3' wc' (ra_own a1 i) → post (d, rc, nI wc', pc', ac, sc, a1, a2, a3', a4', a5, a6)) :
    wpX_carveOwned post (d, rc, wc, pc, ac, sc, a1, a2, a3, a4, a5, a6) (nI i) := by
  unfold wpX_carveOwned
  refine And.intro (pk_in i 10 hi) ?_
  rw [nI_clamp (show i < 2 ^ 31 by omega)]
  unfold wpX_startWork
  refine nm_e ?_
  refine pk_loop (σ := Nat × Int32 × (Nat → Int32) × (Nat → Int32)) (fun n j s => wX_carveOwned_12 post (nI i) n (nI j) d rc (nI s.1) s.2.1 ac sc a1 a2 s.2.2.1 s.2.2.2 a5 a6) (fun j s => ra_L s.2.2.1 s.1 (fun q => ra_B (a1 i) q ∧ ∀ k, k < j → ¬ ra_B (a1 k) q)) i 0 (1, pc, upd a3 0 (a1 i), a4) (by omega) ?_ ?_ ?_
  · have h1 : ra_Ok (upd a3 0 (a1 i) 0) := by
      rw [pk_us]
      exact hr i (Nat.le_refl i)
    refine ra_L_iff (ra_L_1 h1) (fun q => ?_)
    show _ ↔ ra_B (upd a3 0 (a1 i) 0) q
    rw [pk_us]
    exact ⟨fun h => h.1, fun h => ⟨h, fun k hk => absurd hk (by omega)⟩⟩
  · intro n s h
    exact pk_le i i (fun _ => H _ _ _ _ h) (fun z => absurd z (by omega))
  · intro n j s hj h hw
    refine pk_le i j (fun z => absurd z (by omega)) (fun _ => And.intro (pk_in j 10 (by omega)) ?_)
    rw [nI_clamp (show j < 2 ^ 31 by omega)]
    refine ra_subtract h (hr j (by omega)) (fun wc' pc' a3' a4' L' => nm_r (nI_1 j) (hw (wc', pc', a3', a4') (ra_L_iff L' (fun q => ?_))))
    rw [ra_allS, and_assoc]
/-! replaceable -/
def ra_W (a1 : Nat → Int32) (i j q : Nat) : Prop := ra_own a1 i q ∧ ∀ k, i < k → k < j → ¬ ra_B (a1 k) q
def ra_Rep (a1 a2 : Nat → Int32) (rc i : Nat) : Prop := (∀ k, i < k → k < rc → ¬ a2 k = a2 i → ∀ q, ra_W a1 i k q → ¬ ra_B (a1 k) q) ∧ ((∀ q, ¬ ra_W a1 i rc q) ∨ a2 i = 0)
theorem ra_r64 {post : Int32 → St1 → Prop} {J : Int32 → Int32 → Int32 → Int32 → Int32 → Int32 → Int32 → (Nat → Int32) → (Nat → Int32) → (Nat → Int32) → (Nat → Int32) → (Nat → Int32) → (Nat → Int32) → Prop} {x1 d rc pc ac sc : Int32} {a1 a2 a3 a4 a5 a6 : Nat → Int32} {wc j : Nat} {P : Nat → Prop} (hj : j < 10) (hr : ra_Ok (a1 j)) (hL : ra_L a3 wc P)
    (H : ∀ (wc' : Nat) (pc' : Int32) (a3' a4' : Nat → Int32), ra_L a3' wc' (fun q => P q ∧ ¬ ra_B (a1 j) q) → J (nI (j + 1)) d rc (nI wc') pc' ac sc a1 a2 a3' a4' a5 a6) :
    wX_replaceable_64 post J x1 (nI j) d rc (nI wc) pc ac sc a1 a2 a3 a4 a5 a6 := by
  unfold wX_replaceable_64
  refine And.intro (pk_in j 10 hj) ?_
  rw [nI_clamp (show j < 2 ^ 31 by omega)]
  exact ra_subtract hL hr (fun wc' pc' a3' a4' L' => nm_r (nI_1 j) (H wc' pc' a3' a4' L'))
theorem ra_r29 {post : Int32 → St1 → Prop} {J : Int32 → Int32 → Int32 → Int32 → Int32 → Int32 → Int32 → (Nat → Int32) → (Nat → Int32) → (Nat → Int32) → (Nat → Int32) → (Nat → Int32) → (Nat → Int32) → Prop} {x1 d rc pc ac sc : Int32} {a1 a2 a3 a4 a5 a6 : Nat → Int32} {wc j : Nat} {P : Nat → Prop} (hj : j < 10) (hr : ra_Ok (a1 j)) (hL : ra_L a3 wc P)
    (H0 : (∃ q, P q ∧ ra_B (a1 j) q) → post 0 (d, rc, nI wc, pc, ac, sc, a1, a2, a3, a4, a5, a6))
    (H1 : (∀ q, P q → ¬ ra_B (a1 j) q) → wX_replaceable_64 post J x1 (nI j) d rc (nI wc) pc ac sc a1 a2 a3 a4 a5 a6) :
    ∃ n, wX_replaceable_29 post J x1 (nI j) d rc (nI wc) pc ac sc a1 a2 a3 a4 a5 a6 n 0 := by
  have hwc := ra_L_le hL
  refine pk_loop (σ := Unit) (fun n i _ => wX_replaceable_29 post J x1 (nI j) d rc (nI wc) pc ac sc a1 a2 a3 a4 a5 a6 n (nI i)) (fun i _ => ∀ k, k < i → ∀ q, ra_B (a3 k) q → ¬ ra_B (a1 j) q) wc 0 () (by omega) (fun k hk => absurd hk (by omega)) ?_ ?_
  · intro n s h
    refine pk_le wc wc (fun _ => H1 (fun q hq => ?_)) (fun z => absurd z (by omega))
    obtain ⟨k, hk, hb⟩ := (hL.2.2 q).mp hq
    exact h k hk q hb
  · intro n i s hi h hw
    refine pk_le wc i (fun z => absurd z (by omega)) (fun _ => And.intro (pk_in i 512 (by omega)) (And.intro (pk_in j 10 hj) ?_))
    rw [nI_clamp (show i < 2 ^ 31 by omega), nI_clamp (show j < 2 ^ 31 by omega)]
    refine ra_meets (hL.1 i hi) hr (fun hm => br_f (by decide) (H0 ?_)) (fun hm => br_t rfl (nm_r (nI_1 i) (hw () ?_)))
    · obtain ⟨q, h1, h2⟩ := hm
      exact ⟨q, ra_L_in hL hi h1, h2⟩
    · exact ra_allS.mpr ⟨h, hm⟩
theorem ra_replaceable {post : Int32 → St1 → Prop} {d pc ac sc : Int32} {a1 a2 a3 a4 a5 a6 : Nat → Int32} {wc rc i : Nat} (hrc : rc ≤ 10) (hi : i < rc) (hr : ∀ j, j < rc → ra_Ok (a1 j)) (hL : ra_L a3 wc (ra_own a1 i))
    (H1 : ra_Rep a1 a2 rc i → ∀ (wc' : Nat) (pc' : Int32) (a3' a4' : Nat → Int32), post 1 (d, nI rc, nI wc', pc', ac, sc, a1, a2, a3', a4', a5, a6))
    (H0 : ¬ ra_Rep a1 a2 rc i → ∀ (wc' : Nat) (pc' : Int32) (a3' a4' : Nat → Int32), post 0 (d, nI rc, nI wc', pc', ac, sc, a1, a2, a3', a4', a5, a6)) :
    wpX_replaceable post (d, nI rc, nI wc, pc, ac, sc, a1, a2, a3, a4, a5, a6) (nI i) := by
  have hci : (nI i).toNatClampNeg = i := nI_clamp (by omega)
  unfold wpX_replaceable
  refine nm_r (nI_1 i) ?_
  refine pk_loop (σ := Nat × Int32 × (Nat → Int32) × (Nat → Int32)) (fun n j s => wX_replaceable_4 post (nI i) n (nI j) d (nI rc) (nI s.1) s.2.1 ac sc a1 a2 s.2.2.1 s.2.2.2 a5 a6) (fun j s => i < j ∧ ra_L s.2.2.1 s.1 (ra_W a1 i j) ∧ (∀ k, i < k → k < j → ¬ a2 k = a2 i → ∀ q, ra_W a1 i k q → ¬ ra_B (a1 k) q)) rc (i + 1) (wc, pc, a3, a4) (by omega) ?_ ?_ ?_
  · refine ⟨Nat.lt_succ_self i, ra_L_iff hL (fun q => ?_), fun k h1 h2 => absurd h1 (by omega)⟩
    exact ⟨fun h => h.1, fun h => ⟨h, fun k h1 h2 => absurd h1 (by omega)⟩⟩
  · intro n s h
    obtain ⟨_, hL', hk⟩ := h
    have hle := ra_L_le hL'
    have hz := ra_L_c0 hL'
    refine pk_le rc rc (fun _ => ?_) (fun z => absurd z (by omega))
    refine pk_eq s.1 0 (fun z => H1 ⟨hk, Or.inl (hz.mp z)⟩ _ _ _ _) (fun z => And.intro (pk_in i 10 (by omega)) ?_)
    rw [hci]
    refine br_c (fun e => H1 ⟨hk, Or.inr e⟩ _ _ _ _) (fun e => H0 (fun g => ?_) _ _ _ _)
    rcases g.2 with g | g
    · exact z (hz.mpr g)
    · exact e g
  · intro n j s hj h hw
    obtain ⟨hij, hL', hk⟩ := h
    have next : ∀ (wc' : Nat) (pc' : Int32) (a3' a4' : Nat → Int32), (¬ a2 j = a2 i → ∀ q, ra_W a1 i j q → ¬ ra_B (a1 j) q) → ra_L a3' wc' (fun q => ra_W a1 i j q ∧ ¬ ra_B (a1 j) q) → wX_replaceable_4 post (nI i) n (nI (j + 1)) d (nI rc) (nI wc') pc' ac sc a1 a2 a3' a4' a5 a6 := by
      intro wc' pc' a3' a4' hok L'
      refine hw (wc', pc', a3', a4') ⟨by omega, ra_L_iff L' (fun q => ?_), fun k h1 h2 => ?_⟩
      · unfold ra_W
        constructor
        · intro g
          exact ⟨⟨g.1, fun k h1 h2 => g.2 k h1 (by omega)⟩, g.2 j hij (by omega)⟩
        · intro g
          refine ⟨g.1.1, fun k h1 h2 => ?_⟩
          by_cases e : k = j
          · rw [e]
            exact g.2
          · exact g.1.2 k h1 (by omega)
      · by_cases e : k = j
        · rw [e]
          exact hok
        · exact hk k h1 (by omega)
    refine pk_le rc j (fun z => absurd z (by omega)) (fun _ => And.intro (pk_in j 10 (by omega)) (And.intro (pk_in i 10 (by omega)) ?_))
    rw [hci, nI_clamp (show j < 2 ^ 31 by omega)]
    refine br_c (fun e => ra_r64 (by omega) (hr j hj) hL' (fun wc' pc' a3' a4' L' => next _ _ _ _ (fun g => absurd e g) L')) (fun e => ra_r29 (by omega) (hr j hj) hL' (fun g => H0 (fun w => ?_) _ _ _ _) (fun g => ra_r64 (by omega) (hr j hj) hL' (fun wc' pc' a3' a4' L' => next _ _ _ _ (fun _ => g) L')))
    obtain ⟨q, h1, h2⟩ := g
    exact w.1 j hij hj e q h1 h2
end
section
/-! overruled -/
theorem ra_o32 {post : Int32 → St1 → Prop} {J : Int32 → Int32 → Int32 → Int32 → Int32 → Int32 → Int32 → (Nat → Int32) → (Nat → Int32) → (Nat → Int32) → (Nat → Int32) → (Nat → Int32) → (Nat → Int32) → Prop} {d rc pc ac sc : Int32} {a1 a2 a3 a4 a5 a6 : Nat → Int32} {wc i j : Nat} (hi : i < 10) (hwc : wc ≤ 512)
    (HJ : J (nI (j + 1)) d rc (nI wc) pc ac sc a1 a2 a3 a4 a5 a6) (HP : post 1 (d, rc, nI wc, pc, ac, sc, a1, a2, a3, a4, a5, a6)) :
    ∃ n, wX_overruled_32 post J (nI i) (nI j) d rc (nI wc) pc ac sc a1 a2 a3 a4 a5 a6 n 0 := by
  refine pk_loop (σ := Unit) (fun n k _ => wX_overruled_32 post J (nI i) (nI j) d rc (nI wc) pc ac sc a1 a2 a3 a4 a5 a6 n (nI k)) (fun _ _ => True) wc 0 () (by omega) trivial ?_ ?_
  · intro n s h
    exact pk_le wc wc (fun _ => nm_r (nI_1 j) HJ) (fun z => absurd z (by omega))
  · intro n k s hk h hw
    refine pk_le wc k (fun z => absurd z (by omega)) (fun _ => And.intro (pk_in k 512 (by omega)) (And.intro (pk_in i 10 hi) ?_))
    exact ra_meetsX (br_t rfl (nm_r (nI_1 k) (hw () trivial))) (br_f (by decide) HP)
theorem ra_overruled {post : Int32 → St1 → Prop} {d rc wc pc ac sc : Int32} {a1 a2 a3 a4 a5 a6 : Nat → Int32} {i : Nat} (hi : i < 10) (hr : ∀ j, j ≤ i → ra_Ok (a1 j))
    (H : ∀ r : Int32, (r = 0 ∨ r = 1) → ∀ (wc' pc' : Int32) (a3' a4' : Nat → Int32), post r (d, rc, wc', pc', ac, sc, a1, a2, a3', a4', a5, a6)) :
    wpX_overruled post (d, rc, wc, pc, ac, sc, a1, a2, a3, a4, a5, a6) (nI i) := by
  unfold wpX_overruled
  refine pk_loop (σ := Int32 × Int32 × (Nat → Int32) × (Nat → Int32)) (fun n j s => wX_overruled_2 post (nI i) n (nI j) d rc s.1 s.2.1 ac sc a1 a2 s.2.2.1 s.2.2.2 a5 a6) (fun _ _ => True) i 0 (wc, pc, a3, a4) (by omega) trivial ?_ ?_
  · intro n s h
    exact pk_le i i (fun _ => H 0 (Or.inl rfl) _ _ _ _) (fun z => absurd z (by omega))
  · intro n j s hj h hw
    refine pk_le i j (fun z => absurd z (by omega)) (fun _ => And.intro (pk_in j 10 (by omega)) (And.intro (pk_in i 10 hi) ?_))
    refine br_c (fun _ => nm_r (nI_1 j) (hw s trivial)) (fun _ => ?_)
    refine ra_carveOwned (by omega) (fun k hk => hr k (by omega)) (fun wc' pc' a3' a4' L' => ?_)
    exact ra_o32 hi (ra_L_le L') (hw (nI wc', pc', a3', a4') trivial) (H 1 (Or.inr rfl) _ _ _ _)
/-! fault -/
theorem ra_f50 {post : Int32 → St1 → Prop} {d rc wc pc ac sc : Int32} {a1 a2 a3 a4 a5 a6 : Nat → Int32} {i : Nat} (hi : i < 10)
    (H0 : post 0 (d, rc, wc, pc, ac, sc, a1, a2, a3, a4, a5, a6)) (H4 : post 4 (d, rc, wc, pc, ac, sc, a1, a2, a3, a4, a5, a6)) (H5 : post 5 (d, rc, wc, pc, ac, sc, a1, a2, a3, a4, a5, a6)) :
    ∃ n, wX_fault_50 post (nI i) d rc wc pc ac sc a1 a2 a3 a4 a5 a6 n 0 0 := by
  refine pk_loop (σ := Int32) (fun n j s => wX_fault_50 post (nI i) d rc wc pc ac sc a1 a2 a3 a4 a5 a6 n s (nI j)) (fun _ _ => True) i 0 0 (by omega) trivial ?_ ?_
  · intro n s h
    exact pk_le i i (fun _ => br_c (fun _ => H0) (fun _ => H5)) (fun z => absurd z (by omega))
  · intro n j s hj h hw
    refine pk_le i j (fun z => absurd z (by omega)) (fun _ => And.intro (pk_in j 10 (by omega)) (And.intro (pk_in i 10 hi) ?_))
    refine br_c (fun _ => nm_r (nI_1 j) (hw s trivial)) (fun _ => And.intro (pk_in i 10 hi) (And.intro (pk_in j 10 (by omega)) ?_))
    refine ra_meetsX (br_t rfl (nm_r (nI_1 j) (hw s trivial))) (br_f (by decide) (And.intro (pk_in j 10 (by omega)) (And.intro (pk_in i 10 hi) ?_)))
    refine ra_withinX (br_t rfl (And.intro (pk_in i 10 hi) (And.intro (pk_in j 10 (by omega)) ?_))) (br_f (by decide) (nm_r (nI_1 j) (hw 1 trivial)))
    exact ra_withinX (br_t rfl H4) (br_f (by decide) (nm_r (nI_1 j) (hw s trivial)))
def ra_Red (a1 a2 : Nat → Int32) (rc i : Nat) : Prop := (∀ q, ¬ ra_own a1 i q) ∨ ra_Rep a1 a2 rc i
theorem ra_fault {post : Int32 → St1 → Prop} {d wc pc ac sc : Int32} {a1 a2 a3 a4 a5 a6 : Nat → Int32} {rc i : Nat} (hrc : rc ≤ 10) (hi : i < rc) (hr : ∀ j, j < rc → ra_Ok (a1 j))
    (H : ∀ r : Int32, ¬ r = -1 → ((r = 2 ∨ r = 3 ∨ r = 1) ↔ ra_Red a1 a2 rc i) → ∀ (wc' pc' : Int32) (a3' a4' : Nat → Int32), post r (d, nI rc, wc', pc', ac, sc, a1, a2, a3', a4', a5, a6)) :
    wpX_fault post (d, nI rc, wc, pc, ac, sc, a1, a2, a3, a4, a5, a6) (nI i) := by
  unfold wpX_fault wpX_isRule
  refine pk_lt i 0 (fun z => absurd z (by omega)) (fun _ => pk_le rc i (fun z => absurd z (by omega)) (fun _ => br_f (by decide) ?_))
  refine ra_carveOwned (by omega) (fun k hk => hr k (by omega)) (fun wc1 pc1 a31 a41 L1 => ?_)
  have hle := ra_L_le L1
  have hz := ra_L_c0 L1
  refine pk_eq wc1 0 (fun z => ?_) (fun z => ?_)
  · have hR : ra_Red a1 a2 rc i := Or.inl (hz.mp z)
    refine ra_overruled (by omega) (fun k hk => hr k (by omega)) (fun r hr01 wc' pc' a3' a4' => ?_)
    exact br_c (fun _ => H 2 (by decide) ⟨fun _ => hR, fun _ => by decide⟩ _ _ _ _) (fun _ => H 1 (by decide) ⟨fun _ => hR, fun _ => by decide⟩ _ _ _ _)
  · refine ra_replaceable hrc hi hr L1 (fun hR wc' pc' a3' a4' => ?_) (fun hR wc' pc' a3' a4' => ?_)
    · exact br_f (by decide) (H 3 (by decide) ⟨fun _ => Or.inr hR, fun _ => by decide⟩ _ _ _ _)
    · have hN : ¬ ra_Red a1 a2 rc i := fun g => by
        rcases g with g | g
        · exact z (hz.mpr g)
        · exact hR g
      refine br_t rfl (ra_f50 (by omega) ?_ ?_ ?_)
      · exact H 0 (by decide) ⟨fun g => absurd g (by decide), fun g => absurd g hN⟩ _ _ _ _
      · exact H 4 (by decide) ⟨fun g => absurd g (by decide), fun g => absurd g hN⟩ _ _ _ _
      · exact H 5 (by decide) ⟨fun g => absurd g (by decide), fun g => absurd g hN⟩ _ _ _ _
theorem ra_faultN {post : Int32 → St1 → Prop} {d wc pc ac sc : Int32} {a1 a2 a3 a4 a5 a6 : Nat → Int32} {rc i : Nat} (hrc : rc ≤ 10) (hi : rc ≤ i) (hi' : i < 10)
    (H : post (-1) (d, nI rc, wc, pc, ac, sc, a1, a2, a3, a4, a5, a6)) :
    wpX_fault post (d, nI rc, wc, pc, ac, sc, a1, a2, a3, a4, a5, a6) (nI i) := by
  unfold wpX_fault wpX_isRule
  exact pk_lt i 0 (fun z => absurd z (by omega)) (fun _ => pk_le rc i (fun _ => br_t rfl H) (fun z => absurd z (by omega)))
end
section
/-! the allowed packets -/
def ra_All (a1 a2 : Nat → Int32) (n q : Nat) : Prop := ∃ i, i < n ∧ ¬ a2 i = 0 ∧ ra_own a1 i q
theorem ra_own_dis {a1 : Nat → Int32} {i j q : Nat} (h : ra_own a1 i q) (h' : ra_own a1 j q) : i = j := by
  rcases Nat.lt_or_ge i j with z | z
  · exact absurd h.1 (h'.2 i z)
  · rcases Nat.lt_or_ge j i with z' | z'
    · exact absurd h'.1 (h.2 j z')
    · omega
theorem ra_g34 {post : St1 → Prop} {J : Int32 → Int32 → Int32 → Int32 → Int32 → Int32 → Int32 → (Nat → Int32) → (Nat → Int32) → (Nat → Int32) → (Nat → Int32) → (Nat → Int32) → (Nat → Int32) → Prop} {d rc pc sc : Int32} {a1 a2 a3 a4 a5 a6 : Nat → Int32} {wc ac i : Nat} {P Q : Nat → Prop} (hL : ra_L a3 wc P) (hA : ra_L a5 ac Q) (hd : ∀ q, P q → ¬ Q q)
    (H : ∀ (ac' : Nat) (a5' : Nat → Int32), ra_L a5' ac' (fun q => Q q ∨ P q) → J (nI (i + 1)) d rc (nI wc) pc (nI ac') sc a1 a2 a3 a4 a5' a6) :
    ∃ n, wX_gatherAllowed_34 post J (nI i) d rc (nI wc) pc sc n 0 (nI ac) a1 a2 a3 a4 a5 a6 := by
  have hwc := ra_L_le hL
  refine pk_loop (σ := Nat × (Nat → Int32)) (fun n k s => wX_gatherAllowed_34 post J (nI i) d rc (nI wc) pc sc n (nI k) (nI s.1) a1 a2 a3 a4 s.2 a6) (fun k s => ra_L s.2 s.1 (fun q => Q q ∨ ∃ j, j < k ∧ ra_B (a3 j) q)) wc 0 (ac, a5) (by omega) ?_ ?_ ?_
  · refine ra_L_iff hA (fun q => ⟨fun h => ?_, Or.inl⟩)
    rcases h with h | h
    · exact h
    · obtain ⟨j, hj, _⟩ := h
      omega
  · intro n s h
    refine pk_le wc wc (fun _ => nm_r (nI_1 i) (H _ _ (ra_L_iff h (fun q => ?_)))) (fun z => absurd z (by omega))
    rw [hL.2.2 q]
  · intro n k s hk h hw
    have hok := hL.1 k hk
    have hdis : ∀ q, ra_B (a3 k) q → ¬ (Q q ∨ ∃ j, j < k ∧ ra_B (a3 j) q) := by
      intro q hq g
      rcases g with g | g
      · exact hd q (ra_L_in hL hk hq) g
      · obtain ⟨j, hj, hb⟩ := g
        have := hL.2.1 j k q (by omega) hk hb hq
        omega
    have hlt := ra_L_lt h hok hdis
    refine pk_le wc k (fun z => absurd z (by omega)) (fun _ => And.intro (pk_in k 512 (by omega)) (And.intro (pk_in s.1 512 hlt) ?_))
    rw [nI_clamp (show k < 2 ^ 31 by omega), nI_clamp (show s.1 < 2 ^ 31 by omega)]
    refine nm_e (nm_r (nI_1 s.1) (nm_r (nI_1 k) (hw (s.1 + 1, upd s.2 s.1 (a3 k)) (ra_L_iff (ra_L_add h hok hdis) (fun q => ?_)))))
    rw [ra_exS, or_assoc]
theorem ra_gather {post : St1 → Prop} {d wc pc ac sc : Int32} {a1 a2 a3 a4 a5 a6 : Nat → Int32} {rc : Nat} (hrc : rc ≤ 10) (hr : ∀ j, j < rc → ra_Ok (a1 j))
    (H : ∀ (wc' pc' : Int32) (ac' : Nat) (a3' a4' a5' : Nat → Int32), ra_L a5' ac' (ra_All a1 a2 rc) → post (d, nI rc, wc', pc', nI ac', sc, a1, a2, a3', a4', a5', a6)) :
    wpX_gatherAllowed post (d, nI rc, wc, pc, ac, sc, a1, a2, a3, a4, a5, a6) := by
  unfold wpX_gatherAllowed
  refine pk_loop (σ := Int32 × Int32 × Nat × (Nat → Int32) × (Nat → Int32) × (Nat → Int32)) (fun n i s => wX_gatherAllowed_7 post n (nI i) d (nI rc) s.1 s.2.1 (nI s.2.2.1) sc a1 a2 s.2.2.2.1 s.2.2.2.2.1 s.2.2.2.2.2 a6) (fun i s => ra_L s.2.2.2.2.2 s.2.2.1 (ra_All a1 a2 i)) rc 0 (wc, pc, 0, a3, a4, a5) (by omega) ?_ ?_ ?_
  · exact ra_L_0 (fun q z => by obtain ⟨k, hk, _⟩ := z; omega)
  · intro n s h
    exact pk_le rc rc (fun _ => H _ _ _ _ _ _ h) (fun z => absurd z (by omega))
  · intro n i s hi h hw
    refine pk_le rc i (fun z => absurd z (by omega)) (fun _ => And.intro (pk_in i 10 (by omega)) ?_)
    rw [nI_clamp (show i < 2 ^ 31 by omega)]
    refine br_c (fun e => nm_r (nI_1 i) (hw s (ra_L_iff h (fun q => ?_)))) (fun e => ?_)
    · unfold ra_All
      rw [ra_exS]
      exact ⟨fun g => by
        rcases g with g | g
        · exact g
        · exact absurd e g.1, Or.inl⟩
    · refine ra_carveOwned (by omega) (fun k hk => hr k (by omega)) (fun wc' pc' a3' a4' L' => ?_)
      refine ra_g34 L' h (fun q hq g => ?_) (fun ac' a5' L2 => hw (nI wc', pc', ac', a3', a4', a5') (ra_L_iff L2 (fun q => ?_)))
      · obtain ⟨k, hk, _, ho⟩ := g
        have := ra_own_dis hq ho
        omega
      · unfold ra_All
        rw [ra_exS]
        constructor
        · intro g
          rcases g with g | g
          · exact Or.inl g
          · exact Or.inr g.2
        · intro g
          rcases g with g | g
          · exact Or.inl g
          · exact Or.inr ⟨e, g⟩
theorem ra_save {post : Int32 → St1 → Prop} {d wc pc ac sc : Int32} {a1 a2 a3 a4 a5 a6 : Nat → Int32} {rc : Nat} (hrc : rc ≤ 10) (hr : ∀ j, j < rc → ra_Ok (a1 j))
    (H : ∀ (r wc' pc' ac' : Int32) (sc' : Nat) (a3' a4' a5' a6' : Nat → Int32), ra_L a6' sc' (ra_All a1 a2 rc) → post r (d, nI rc, wc', pc', ac', nI sc', a1, a2, a3', a4', a5', a6')) :
    wpX_save post (d, nI rc, wc, pc, ac, sc, a1, a2, a3, a4, a5, a6) := by
  unfold wpX_save
  refine ra_gather hrc hr (fun wc1 pc1 ac1 a31 a41 a51 L1 => ?_)
  have hle := ra_L_le L1
  refine pk_loop (σ := Int32 × (Nat → Int32)) (fun n k s => wX_save_8 post d (nI rc) wc1 pc1 (nI ac1) sc n s.1 (nI k) a1 a2 a31 a41 a51 s.2) (fun k s => ∀ j, j < k → s.2 j = a51 j) ac1 0 (0, a6) (by omega) (fun j hj => absurd hj (by omega)) ?_ ?_
  · intro n s h
    exact pk_le ac1 ac1 (fun _ => H _ _ _ _ _ _ _ _ _ (ra_L_arr L1 h)) (fun z => absurd z (by omega))
  · intro n k s hk h hw
    refine pk_le ac1 k (fun z => absurd z (by omega)) (fun _ => And.intro (pk_in k 512 (by omega)) (And.intro (pk_in k 512 (by omega)) (nm_e (And.intro (pk_in k 512 (by omega)) ?_))))
    rw [nI_clamp (show k < 2 ^ 31 by omega)]
    exact ra_volume (L1.1 k hk) (fun v _ _ => nm_e (nm_r (nI_1 k) (hw (s.1 + nI v, upd s.2 k (a51 k)) (ra_fill rfl h rfl))))
/-! volumeOfWork: zero just where the list is empty -/
theorem ra_vol {post : Int32 → Prop} {d rc pc ac sc : Int32} {a1 a2 a3 a4 a5 a6 : Nat → Int32} {wc : Nat} {P : Nat → Prop} (hL : ra_L a3 wc P)
    (H : ∀ t : Nat, t ≤ 262144 → (t = 0 ↔ ∀ q, ¬ P q) → post (nI t)) : wpX_volumeOfWork post (d, rc, nI wc, pc, ac, sc, a1, a2, a3, a4, a5, a6) := by
  have hwc := ra_L_le hL
  unfold wpX_volumeOfWork
  refine pk_loop (σ := Nat) (fun n k s => wX_volumeOfWork_4 post d rc (nI wc) pc ac sc a1 a2 a3 a4 a5 a6 n (nI s) (nI k)) (fun k s => k ≤ s ∧ s ≤ 512 * k) wc 0 0 (by omega) (by omega) ?_ ?_
  · intro n s h
    refine pk_le wc wc (fun _ => H s (by omega) ?_) (fun z => absurd z (by omega))
    rw [← ra_L_c0 hL]
    omega
  · intro n k s hk h hw
    refine pk_le wc k (fun z => absurd z (by omega)) (fun _ => And.intro (pk_in k 512 (by omega)) ?_)
    rw [nI_clamp (show k < 2 ^ 31 by omega)]
    exact ra_volume (hL.1 k hk) (fun v h1 h2 => nm_r (nI_add s v) (nm_r (nI_1 k) (hw (s + v) (by omega))))
end
section
theorem ra_cn38 {post : St1 → Prop} {d rc pc : Int32} {a1 a2 a3 a4 a5 a6 : Nat → Int32} {wc ac sc : Nat} {P Q : Nat → Prop} (hL : ra_L a3 wc P) (hB : ra_L a6 sc Q) (hac : ac ≤ 512) (hsc : sc ≤ 512)
    (H : ∀ (wc' : Nat) (pc' : Int32) (a3' a4' : Nat → Int32), ra_L a3' wc' (fun q => P q ∧ ¬ Q q) → post (d, rc, nI wc', pc', nI ac, nI sc, a1, a2, a3', a4', a5, a6)) :
    ∃ n, wX_carveNewlyAllowed_38 post n 0 d rc (nI wc) pc (nI ac) (nI sc) a1 a2 a3 a4 a5 a6 := by
  refine pk_loop (σ := Nat × Int32 × (Nat → Int32) × (Nat → Int32)) (fun n k s => wX_carveNewlyAllowed_38 post n (nI k) d rc (nI s.1) s.2.1 (nI ac) (nI sc) a1 a2 s.2.2.1 s.2.2.2 a5 a6) (fun k s => ra_L s.2.2.1 s.1 (fun q => P q ∧ ∀ j, j < k → ¬ ra_B (a6 j) q)) sc 0 (wc, pc, a3, a4) (by omega) ?_ ?_ ?_
  · exact ra_L_iff hL (fun q => ⟨fun h => h.1, fun h => ⟨h, fun j hj => absurd hj (by omega)⟩⟩)
  · intro n s h
    refine pk_le sc sc (fun _ => H _ _ _ _ (ra_L_iff h (fun q => ?_))) (fun z => absurd z (by omega))
    rw [hB.2.2 q]
    exact ⟨fun g => ⟨g.1, fun j hj hb => g.2 ⟨j, hj, hb⟩⟩, fun g => ⟨g.1, fun x => by obtain ⟨j, hj, hb⟩ := x; exact g.2 j hj hb⟩⟩
  · intro n k s hk h hw
    have hle := ra_L_le h
    refine pk_le sc k (fun z => absurd z (by omega)) (fun _ => pk_le s.1 0 (fun z => H _ _ _ _ (ra_L_iff h (fun q => ?_))) (fun _ => And.intro (pk_in k 512 (by omega)) ?_))
    · have e := (ra_L_c0 h).mp (by omega) q
      constructor
      · intro g
        exact ⟨g.1, fun j hj hb => g.2 ((hB.2.2 q).mpr ⟨j, by omega, hb⟩)⟩
      · intro g
        exact absurd g e
    · rw [nI_clamp (show k < 2 ^ 31 by omega)]
      refine ra_subtract h (hB.1 k hk) (fun wc' pc' a3' a4' L' => nm_r (nI_1 k) (hw (wc', pc', a3', a4') (ra_L_iff L' (fun q => ?_))))
      rw [ra_allS, and_assoc]
theorem ra_cn {post : St1 → Prop} {d rc wc pc : Int32} {a1 a2 a3 a4 a5 a6 : Nat → Int32} {ac sc : Nat} {P Q : Nat → Prop} (hA : ra_L a5 ac P) (hB : ra_L a6 sc Q)
    (H : ∀ (wc' : Nat) (pc' : Int32) (a3' a4' : Nat → Int32), ra_L a3' wc' (fun q => P q ∧ ¬ Q q) → post (d, rc, nI wc', pc', nI ac, nI sc, a1, a2, a3', a4', a5, a6)) :
    wpX_carveNewlyAllowed post (d, rc, wc, pc, nI ac, nI sc, a1, a2, a3, a4, a5, a6) := by
  have h1 := ra_L_le hA
  have h2 := ra_L_le hB
  unfold wpX_carveNewlyAllowed
  refine pk_loop (fun n k s => wX_carveNewlyAllowed_2 post d rc wc pc (nI ac) (nI sc) n (nI k) a1 a2 s a4 a5 a6) (fun k s => ∀ j, j < k → s j = a5 j) ac 0 a3 (by omega) (fun j hj => absurd hj (by omega)) ?_ ?_
  · intro n s h
    exact pk_le ac ac (fun _ => ra_cn38 (ra_L_arr hA h) hB (by omega) (by omega) H) (fun z => absurd z (by omega))
  · intro n k s hk h hw
    exact pk_le ac k (fun z => absurd z (by omega)) (fun _ => And.intro (pk_in k 512 (by omega)) (And.intro (pk_in k 512 (by omega)) (nm_e (nm_r (nI_1 k) (hw _ (ra_fill (nI_clamp (by omega)) h (by rw [nI_clamp (by omega)])))))))
theorem ra_cl38 {post : St1 → Prop} {d rc pc : Int32} {a1 a2 a3 a4 a5 a6 : Nat → Int32} {wc ac sc : Nat} {P Q : Nat → Prop} (hL : ra_L a3 wc P) (hB : ra_L a5 ac Q) (hac : ac ≤ 512) (hsc : sc ≤ 512)
    (H : ∀ (wc' : Nat) (pc' : Int32) (a3' a4' : Nat → Int32), ra_L a3' wc' (fun q => P q ∧ ¬ Q q) → post (d, rc, nI wc', pc', nI ac, nI sc, a1, a2, a3', a4', a5, a6)) :
    ∃ n, wX_carveNoLongerAllowed_38 post n 0 d rc (nI wc) pc (nI ac) (nI sc) a1 a2 a3 a4 a5 a6 := by
  refine pk_loop (σ := Nat × Int32 × (Nat → Int32) × (Nat → Int32)) (fun n k s => wX_carveNoLongerAllowed_38 post n (nI k) d rc (nI s.1) s.2.1 (nI ac) (nI sc) a1 a2 s.2.2.1 s.2.2.2 a5 a6) (fun k s => ra_L s.2.2.1 s.1 (fun q => P q ∧ ∀ j, j < k → ¬ ra_B (a5 j) q)) ac 0 (wc, pc, a3, a4) (by omega) ?_ ?_ ?_
  · exact ra_L_iff hL (fun q => ⟨fun h => h.1, fun h => ⟨h, fun j hj => absurd hj (by omega)⟩⟩)
  · intro n s h
    refine pk_le ac ac (fun _ => H _ _ _ _ (ra_L_iff h (fun q => ?_))) (fun z => absurd z (by omega))
    rw [hB.2.2 q]
    exact ⟨fun g => ⟨g.1, fun j hj hb => g.2 ⟨j, hj, hb⟩⟩, fun g => ⟨g.1, fun x => by obtain ⟨j, hj, hb⟩ := x; exact g.2 j hj hb⟩⟩
  · intro n k s hk h hw
    have hle := ra_L_le h
    refine pk_le ac k (fun z => absurd z (by omega)) (fun _ => pk_le s.1 0 (fun z => H _ _ _ _ (ra_L_iff h (fun q => ?_))) (fun _ => And.intro (pk_in k 512 (by omega)) ?_))
    · have e := (ra_L_c0 h).mp (by omega) q
      constructor
      · intro g
        exact ⟨g.1, fun j hj hb => g.2 ((hB.2.2 q).mpr ⟨j, by omega, hb⟩)⟩
      · intro g
        exact absurd g e
    · rw [nI_clamp (show k < 2 ^ 31 by omega)]
      refine ra_subtract h (hB.1 k hk) (fun wc' pc' a3' a4' L' => nm_r (nI_1 k) (hw (wc', pc', a3', a4') (ra_L_iff L' (fun q => ?_))))
      rw [ra_allS, and_assoc]
theorem ra_cl {post : St1 → Prop} {d rc wc pc : Int32} {a1 a2 a3 a4 a5 a6 : Nat → Int32} {ac sc : Nat} {P Q : Nat → Prop} (hA : ra_L a6 sc P) (hB : ra_L a5 ac Q)
    (H : ∀ (wc' : Nat) (pc' : Int32) (a3' a4' : Nat → Int32), ra_L a3' wc' (fun q => P q ∧ ¬ Q q) → post (d, rc, nI wc', pc', nI ac, nI sc, a1, a2, a3', a4', a5, a6)) :
    wpX_carveNoLongerAllowed post (d, rc, wc, pc, nI ac, nI sc, a1, a2, a3, a4, a5, a6) := by
  have h1 := ra_L_le hA
  have h2 := ra_L_le hB
  unfold wpX_carveNoLongerAllowed
  refine pk_loop (fun n k s => wX_carveNoLongerAllowed_2 post d rc wc pc (nI ac) (nI sc) n (nI k) a1 a2 s a4 a5 a6) (fun k s => ∀ j, j < k → s j = a6 j) sc 0 a3 (by omega) (fun j hj => absurd hj (by omega)) ?_ ?_
  · intro n s h
    exact pk_le sc sc (fun _ => ra_cl38 (ra_L_arr hA h) hB (by omega) (by omega) H) (fun z => absurd z (by omega))
  · intro n k s hk h hw
    exact pk_le sc k (fun z => absurd z (by omega)) (fun _ => And.intro (pk_in k 512 (by omega)) (And.intro (pk_in k 512 (by omega)) (nm_e (nm_r (nI_1 k) (hw _ (ra_fill (nI_clamp (by omega)) h (by rw [nI_clamp (by omega)])))))))
theorem ra_changed {post : Int32 → St1 → Prop} {d wc pc ac : Int32} {a1 a2 a3 a4 a5 a6 : Nat → Int32} {rc sc : Nat} {S : Nat → Prop} (hrc : rc ≤ 10) (hr : ∀ j, j < rc → ra_Ok (a1 j)) (hS : ra_L a6 sc S)
    (H : ∀ t : Nat, t ≤ 524288 → (t = 0 ↔ ∀ q, ra_All a1 a2 rc q ↔ S q) → ∀ (wc' pc' ac' : Int32) (a3' a4' a5' : Nat → Int32), post (nI t) (d, nI rc, wc', pc', ac', nI sc, a1, a2, a3', a4', a5', a6)) :
    wpX_changed post (d, nI rc, wc, pc, ac, nI sc, a1, a2, a3, a4, a5, a6) := by
  unfold wpX_changed
  refine ra_gather hrc hr (fun wc1 pc1 ac1 a31 a41 a51 L1 => ?_)
  refine ra_cn L1 hS (fun wc2 pc2 a32 a42 L2 => ?_)
  refine ra_vol L2 (fun t1 b1 e1 => ?_)
  refine ra_cl hS L1 (fun wc3 pc3 a33 a43 L3 => ?_)
  refine ra_vol L3 (fun t2 b2 e2 => ?_)
  rw [nI_add]
  refine H (t1 + t2) (by omega) ⟨fun h q => ?_, fun h => ?_⟩ _ _ _ _ _ _
  · have z1 := e1.mp (by omega) q
    have z2 := e2.mp (by omega) q
    by_cases g1 : ra_All a1 a2 rc q
    · by_cases g2 : S q
      · exact ⟨fun _ => g2, fun _ => g1⟩
      · exact absurd ⟨g1, g2⟩ z1
    · exact ⟨fun g => absurd g g1, fun g => absurd ⟨g, g1⟩ z2⟩
  · have z1 := e1.mpr (fun q g => g.2 ((h q).mp g.1))
    have z2 := e2.mpr (fun q g => g.2 ((h q).mpr g.1))
    omega
end
section
/-! the rules: a box that is well formed, an action 0 or 1 -/
def ra_act (x : Int32) : Prop := x = 0 ∨ x = 1
def ra_G (d : Int32) (rc : Nat) (a1 a2 : Nat → Int32) : Prop := ra_Ok d ∧ rc ≤ 10 ∧ (∀ j, j < rc → ra_Ok (a1 j)) ∧ (∀ j, j < rc → ra_act (a2 j))
theorem ra_nar {x : Int32} (h : ra_act x) : vp_nar .byte x = x := by
  rcases h with h | h
  · rw [h, vp_nar_byte]
    decide
  · rw [h, vp_nar_byte]
    decide
/-! remove -/
theorem ra_rm22 (rc : Nat) (hrc : rc < 10) : ∀ (m i : Nat) (a1 a2 : Nat → Int32), i + m = rc → (∀ j, j ≤ rc → ra_act (a2 j)) → ∃ a1' a2' : Nat → Int32, (∀ j, j < i → a1' j = a1 j ∧ a2' j = a2 j) ∧ (∀ j, i ≤ j → j < rc → a1' j = a1 (j + 1) ∧ a2' j = a2 (j + 1)) ∧
    ∀ (post : Int32 → St1 → Prop) (d wc pc ac sc : Int32) (a3 a4 a5 a6 : Nat → Int32), post (nI rc) (d, nI rc, wc, pc, ac, sc, a1', a2', a3, a4, a5, a6) → wX_remove_22 post d (nI rc) wc pc ac sc (m + 1) (nI i) a1 a2 a3 a4 a5 a6 := by
  intro m
  induction m with
  | zero =>
    intro i a1 a2 hi _
    refine ⟨a1, a2, fun j _ => ⟨rfl, rfl⟩, fun j h1 h2 => absurd h1 (by omega), fun post d wc pc ac sc a3 a4 a5 a6 H => ?_⟩
    exact pk_le rc i (fun _ => H) (fun z => absurd z (by omega))
  | succ m ih =>
    intro i a1 a2 hi hact
    obtain ⟨a1', a2', h1, h2, h3⟩ := ih (i + 1) (upd a1 i (a1 (i + 1))) (upd a2 i (a2 (i + 1))) (by omega) (fun j hj => by
      by_cases e : j = i
      · rw [e, pk_us]
        exact hact (i + 1) (by omega)
      · rw [pk_un e]
        exact hact j hj)
    refine ⟨a1', a2', fun j hj => ?_, fun j hj hj2 => ?_, fun post d wc pc ac sc a3 a4 a5 a6 H => ?_⟩
    · have e := h1 j (by omega)
      rw [pk_un (show j ≠ i by omega), pk_un (show j ≠ i by omega)] at e
      exact e
    · by_cases e : j = i
      · have e2 := h1 j (by omega)
        rw [e] at e2
        rw [pk_us, pk_us] at e2
        rw [e]
        exact e2
      · have e2 := h2 j (by omega) hj2
        rw [pk_un (show j + 1 ≠ i by omega), pk_un (show j + 1 ≠ i by omega)] at e2
        exact e2
    · have t := h3 post d wc pc ac sc a3 a4 a5 a6 H
      refine pk_le rc i (fun z => absurd z (by omega)) (fun _ => ?_)
      rw [nI_1 i, nI_clamp (show i < 2 ^ 31 by omega), nI_clamp (show i + 1 < 2 ^ 31 by omega)]
      refine And.intro (pk_in (i + 1) 10 (by omega)) (And.intro (pk_in i 10 (by omega)) (nm_e (And.intro (pk_in (i + 1) 10 (by omega)) (And.intro (pk_in i 10 (by omega)) (nm_r (e' := upd a2 i (a2 (i + 1))) (by rw [ra_nar (hact (i + 1) (by omega))]) (nm_e t))))))
theorem ra_remove {rc i : Nat} {a1 a2 : Nat → Int32} (hrc : rc ≤ 10) (hi : i < rc) (hact : ∀ j, j < rc → ra_act (a2 j)) : ∃ a1' a2' : Nat → Int32, (∀ j, j < i → a1' j = a1 j ∧ a2' j = a2 j) ∧ (∀ j, i ≤ j → j < rc - 1 → a1' j = a1 (j + 1) ∧ a2' j = a2 (j + 1)) ∧
    ∀ (post : Int32 → St1 → Prop) (d wc pc ac sc : Int32) (a3 a4 a5 a6 : Nat → Int32), post (nI (rc - 1)) (d, nI (rc - 1), wc, pc, ac, sc, a1', a2', a3, a4, a5, a6) → wpX_remove post (d, nI rc, wc, pc, ac, sc, a1, a2, a3, a4, a5, a6) (nI i) := by
  obtain ⟨a1', a2', h1, h2, h3⟩ := ra_rm22 (rc - 1) (by omega) (rc - 1 - i) i a1 a2 (by omega) (fun j hj => hact j (by omega))
  refine ⟨a1', a2', h1, h2, fun post d wc pc ac sc a3 a4 a5 a6 H => ?_⟩
  unfold wpX_remove wpX_isRule
  refine pk_lt i 0 (fun z => absurd z (by omega)) (fun _ => pk_le rc i (fun z => absurd z (by omega)) (fun _ => br_f (by decide) ?_))
  exact nm_r (pk_sub (b := 1) (by omega)) ⟨_, h3 post d wc pc ac sc a3 a4 a5 a6 H⟩
theorem ra_removeN {post : Int32 → St1 → Prop} {d wc pc ac sc : Int32} {a1 a2 a3 a4 a5 a6 : Nat → Int32} {rc i : Nat} (hrc : rc ≤ 10) (hi : rc ≤ i) (hi' : i < 16) (H : post (-1) (d, nI rc, wc, pc, ac, sc, a1, a2, a3, a4, a5, a6)) :
    wpX_remove post (d, nI rc, wc, pc, ac, sc, a1, a2, a3, a4, a5, a6) (nI i) := by
  unfold wpX_remove wpX_isRule
  exact pk_lt i 0 (fun z => absurd z (by omega)) (fun _ => pk_le rc i (fun _ => br_t rfl H) (fun z => absurd z (by omega)))
/-! insert -/
theorem ra_in40 (rc at' x : Nat) (d : Int32) (hd : ra_Ok d) (hrc : rc < 10) (hx : x < 2) : ∀ (m : Nat) (a1 a2 : Nat → Int32), at' + m ≤ rc → (∀ j, j ≤ rc → j ≠ at' + m → ra_Ok (a1 j) ∧ ra_act (a2 j)) → ∃ a1' a2' : Nat → Int32, (∀ j, j ≤ rc → ra_Ok (a1' j) ∧ ra_act (a2' j)) ∧
    ∀ (post : Int32 → St1 → Prop) (wc pc ac sc : Int32) (a3 a4 a5 a6 : Nat → Int32), post (nI (rc + 1)) (d, nI (rc + 1), wc, pc, ac, sc, a1', a2', a3, a4, a5, a6) → wX_insert_40 post (nI at') (nI x) d (nI rc) wc pc ac sc (m + 1) (nI (at' + m)) a1 a2 a3 a4 a5 a6 := by
  intro m
  induction m with
  | zero =>
    intro a1 a2 hm h
    have hax : ra_act (nI x).toInt8.toInt32 := by
      rcases (show x = 0 ∨ x = 1 by omega) with e | e
      · rw [e]
        exact Or.inl (by decide)
      · rw [e]
        exact Or.inr (by decide)
    refine ⟨upd a1 at' d, upd a2 at' (nI x).toInt8.toInt32, fun j hj => ?_, fun post wc pc ac sc a3 a4 a5 a6 H => ?_⟩
    · by_cases e : j = at'
      · rw [e, pk_us, pk_us]
        exact ⟨hd, hax⟩
      · rw [pk_un e, pk_un e]
        exact h j hj e
    · refine pk_le (at' + 0) at' (fun _ => ?_) (fun z => absurd z (by omega))
      rw [nI_clamp (show at' < 2 ^ 31 by omega)]
      exact And.intro (pk_in at' 10 (by omega)) (nm_e (And.intro (pk_in at' 10 (by omega)) (nm_e (nm_r (nI_1 rc) H))))
  | succ m ih =>
    intro a1 a2 hm h
    have hprev := h (at' + m) (by omega) (by omega)
    obtain ⟨a1', a2', h1, h3⟩ := ih (upd a1 (at' + (m + 1)) (a1 (at' + m))) (upd a2 (at' + (m + 1)) (a2 (at' + m))) (by omega) (fun j hj hne => by
      by_cases e : j = at' + (m + 1)
      · rw [e, pk_us, pk_us]
        exact hprev
      · rw [pk_un e, pk_un e]
        exact h j hj e)
    refine ⟨a1', a2', h1, fun post wc pc ac sc a3 a4 a5 a6 H => ?_⟩
    have t := h3 post wc pc ac sc a3 a4 a5 a6 H
    have em : nI (at' + (m + 1)) - 1 = nI (at' + m) := nI_pred (at' + m)
    have em2 : nI (at' + (m + 1)) + (-1) = nI (at' + m) := pk_m1 (at' + m)
    refine pk_le (at' + (m + 1)) at' (fun z => absurd z (by omega)) (fun _ => ?_)
    rw [em, em2, nI_clamp (show at' + m < 2 ^ 31 by omega), nI_clamp (show at' + (m + 1) < 2 ^ 31 by omega)]
    exact And.intro (pk_in (at' + m) 10 (by omega)) (And.intro (pk_in (at' + (m + 1)) 10 (by omega)) (nm_e (And.intro (pk_in (at' + m) 10 (by omega)) (And.intro (pk_in (at' + (m + 1)) 10 (by omega)) (nm_r (e' := upd a2 (at' + (m + 1)) (a2 (at' + m))) (by rw [ra_nar hprev.2]) (nm_e t))))))
theorem ra_insert {d : Int32} {rc at' x : Nat} {a1 a2 : Nat → Int32} (hG : ra_G d rc a1 a2) (hat : at' < 8) (hx : x < 2) : ∃ (rc' : Nat) (a1' a2' : Nat → Int32), ra_G d rc' a1' a2' ∧
    ∀ (post : Int32 → St1 → Prop) (wc pc ac sc : Int32) (a3 a4 a5 a6 : Nat → Int32), (∀ r, post r (d, nI rc', wc, pc, ac, sc, a1', a2', a3, a4, a5, a6)) → wpX_insert post (d, nI rc, wc, pc, ac, sc, a1, a2, a3, a4, a5, a6) (nI at') (nI x) := by
  obtain ⟨hd, hrc, h1, h2⟩ := id hG
  by_cases h10 : rc < 10
  · by_cases hle : at' ≤ rc
    · obtain ⟨a1', a2', k1, k2⟩ := ra_in40 rc at' x d hd h10 hx (rc - at') a1 a2 (by omega) (fun j hj hne => ⟨h1 j (by omega), h2 j (by omega)⟩)
      refine ⟨rc + 1, a1', a2', ⟨hd, by omega, fun j hj => (k1 j (by omega)).1, fun j hj => (k1 j (by omega)).2⟩, fun post wc pc ac sc a3 a4 a5 a6 H => ?_⟩
      have t := k2 post wc pc ac sc a3 a4 a5 a6 (H _)
      rw [show at' + (rc - at') = rc by omega] at t
      unfold wpX_insert
      exact pk_lt rc 10 (fun _ => pk_lt at' 0 (fun z => absurd z (by omega)) (fun _ => pk_lt rc at' (fun z => absurd z (by omega)) (fun _ => pk_lt x 0 (fun z => absurd z (by omega)) (fun _ => pk_le x 1 (fun _ => ⟨_, t⟩) (fun z => absurd z (by omega)))))) (fun z => absurd z (by omega))
    · refine ⟨rc, a1, a2, hG, fun post wc pc ac sc a3 a4 a5 a6 H => ?_⟩
      unfold wpX_insert
      exact pk_lt rc 10 (fun _ => pk_lt at' 0 (fun z => absurd z (by omega)) (fun _ => pk_lt rc at' (fun z => H _) (fun z => absurd z (by omega)))) (fun z => absurd z (by omega))
  · refine ⟨rc, a1, a2, hG, fun post wc pc ac sc a3 a4 a5 a6 H => ?_⟩
    unfold wpX_insert
    exact pk_lt rc 10 (fun z => absurd z (by omega)) (fun _ => H _)
/-! the draft -/
theorem ra_range {d : Int32} {f lo hi : Nat} (hd : ra_Ok d) (hf : f < 2) (hlo : lo ≤ hi) (hhi : hi < 16) : ∃ d' : Int32, ra_Ok d' ∧
    ∀ (post : Int32 → St1 → Prop) (rc wc pc ac sc : Int32) (a1 a2 a3 a4 a5 a6 : Nat → Int32), (∀ r, post r (d', rc, wc, pc, ac, sc, a1, a2, a3, a4, a5, a6)) → wpX_draftRange post (d, rc, wc, pc, ac, sc, a1, a2, a3, a4, a5, a6) (nI f) (nI lo) (nI hi) := by
  obtain ⟨n, rfl, hn⟩ := hd
  by_cases hf0 : f = 0
  · refine ⟨nI (ra_wS n lo hi), ⟨_, rfl, ra_ok_wS hn hhi hlo⟩, fun post rc wc pc ac sc a1 a2 a3 a4 a5 a6 H => ?_⟩
    unfold wpX_draftRange
    refine pk_lt f 0 (fun z => absurd z (by omega)) (fun _ => pk_le f 1 (fun _ => pk_lt lo 0 (fun z => absurd z (by omega)) (fun _ => pk_lt 15 lo (fun z => absurd z (by omega)) (fun _ => pk_lt hi 0 (fun z => absurd z (by omega)) (fun _ => pk_lt 15 hi (fun z => absurd z (by omega)) (fun _ => pk_le lo hi (fun _ => pk_eq f 0 (fun _ => ?_) (fun z => absurd hf0 z)) (fun z => absurd z (by omega))))))) (fun z => absurd z (by omega)))
    unfold wX_draftRange_48
    exact nm_r (ra_idS hn.1 (by omega) hhi) (H _)
  · refine ⟨nI (ra_wD n lo hi), ⟨_, rfl, ra_ok_wD hn hhi hlo⟩, fun post rc wc pc ac sc a1 a2 a3 a4 a5 a6 H => ?_⟩
    unfold wpX_draftRange
    refine pk_lt f 0 (fun z => absurd z (by omega)) (fun _ => pk_le f 1 (fun _ => pk_lt lo 0 (fun z => absurd z (by omega)) (fun _ => pk_lt 15 lo (fun z => absurd z (by omega)) (fun _ => pk_lt hi 0 (fun z => absurd z (by omega)) (fun _ => pk_lt 15 hi (fun z => absurd z (by omega)) (fun _ => pk_le lo hi (fun _ => pk_eq f 0 (fun z => absurd z hf0) (fun _ => ?_)) (fun z => absurd z (by omega))))))) (fun z => absurd z (by omega)))
    unfold wX_draftRange_48
    exact nm_r (ra_idD hn.1 (by omega) hhi) (H _)
theorem ra_dset {d : Int32} {k : Nat} (hd : ra_Ok d) (hk : k < 4) : ∃ d' : Int32, ra_Ok d' ∧
    ∀ (post : Int32 → St1 → Prop) (rc wc pc ac sc : Int32) (a1 a2 a3 a4 a5 a6 : Nat → Int32), (∀ r, post r (d', rc, wc, pc, ac, sc, a1, a2, a3, a4, a5, a6)) → wpX_draftSet post (d, rc, wc, pc, ac, sc, a1, a2, a3, a4, a5, a6) (nI k) := by
  obtain ⟨n, rfl, hn⟩ := hd
  rcases (show k = 0 ∨ k = 1 ∨ k = 2 ∨ k = 3 by omega) with e | e | e | e
  · refine ⟨nI (ra_wP n 0), ⟨_, rfl, ra_ok_wP hn (by omega) (by omega)⟩, fun post rc wc pc ac sc a1 a2 a3 a4 a5 a6 H => ?_⟩
    unfold wpX_draftSet
    refine pk_lt k 0 (fun z => absurd z (by omega)) (fun _ => pk_le k 2 (fun _ => pk_eq k 0 (fun _ => ?_) (fun z => absurd e z)) (fun z => absurd z (by omega)))
    unfold wX_draftSet_29
    exact nm_r (ra_idP (x := 0) hn.1 (by omega)) (H _)
  · refine ⟨nI (ra_wP n 3), ⟨_, rfl, ra_ok_wP hn (by omega) (by omega)⟩, fun post rc wc pc ac sc a1 a2 a3 a4 a5 a6 H => ?_⟩
    unfold wpX_draftSet
    refine pk_lt k 0 (fun z => absurd z (by omega)) (fun _ => pk_le k 2 (fun _ => pk_eq k 0 (fun z => absurd z (by omega)) (fun _ => pk_eq k 1 (fun _ => ?_) (fun z => absurd e z))) (fun z => absurd z (by omega)))
    unfold wX_draftSet_29
    exact nm_r (ra_idP (x := 3) hn.1 (by omega)) (H _)
  · refine ⟨nI (ra_wP n 1), ⟨_, rfl, ra_ok_wP hn (by omega) (by omega)⟩, fun post rc wc pc ac sc a1 a2 a3 a4 a5 a6 H => ?_⟩
    unfold wpX_draftSet
    refine pk_lt k 0 (fun z => absurd z (by omega)) (fun _ => pk_le k 2 (fun _ => pk_eq k 0 (fun z => absurd z (by omega)) (fun _ => pk_eq k 1 (fun z => absurd z (by omega)) (fun _ => ?_))) (fun z => absurd z (by omega)))
    unfold wX_draftSet_29
    exact nm_r (ra_idP (x := 1) hn.1 (by omega)) (H _)
  · refine ⟨nI n, ⟨n, rfl, hn⟩, fun post rc wc pc ac sc a1 a2 a3 a4 a5 a6 H => ?_⟩
    unfold wpX_draftSet
    exact pk_lt k 0 (fun z => absurd z (by omega)) (fun _ => pk_le k 2 (fun z => absurd z (by omega)) (fun _ => H _))
end
section
theorem ra_d30 {d : Int32} {rc o lo hi : Nat} {a1 a2 : Nat → Int32} (hG : ra_G d rc a1 a2) (ho : o < 8) (hlo : lo ≤ hi) (hhi : hi < 16) (x2 x3 x4 : Int32) : ∃ (d' : Int32) (rc' : Nat) (a1' a2' : Nat → Int32), ra_G d' rc' a1' a2' ∧
    ∀ (post : St1 → Prop) (wc pc ac sc : Int32) (a3 a4 a5 a6 : Nat → Int32), post (d', nI rc', wc, pc, ac, sc, a1', a2', a3, a4, a5, a6) → wL_drive_30 post (nI o) x2 x3 x4 (nI lo) (nI hi) d (nI rc) wc pc ac sc a1 a2 a3 a4 a5 a6 := by
  obtain ⟨hd, hrc, h1, h2⟩ := id hG
  rcases (show o = 0 ∨ o = 1 ∨ o = 2 ∨ o = 3 ∨ 3 < o by omega) with e | e | e | e | e
  · obtain ⟨d', k1, k2⟩ := ra_range (f := 0) hd (by omega) hlo hhi
    refine ⟨d', rc, a1, a2, ⟨k1, hrc, h1, h2⟩, fun post wc pc ac sc a3 a4 a5 a6 H => ?_⟩
    unfold wL_drive_30
    refine pk_lt o 0 (fun z => absurd z (by omega)) (fun _ => pk_lt 3 o (fun z => absurd z (by omega)) (fun _ => pk_eq o 0 (fun _ => ?_) (fun z => absurd e z)))
    exact k2 _ _ _ _ _ _ _ _ _ _ _ _ (fun r => H)
  · obtain ⟨d', k1, k2⟩ := ra_range (f := 1) hd (by omega) hlo hhi
    refine ⟨d', rc, a1, a2, ⟨k1, hrc, h1, h2⟩, fun post wc pc ac sc a3 a4 a5 a6 H => ?_⟩
    unfold wL_drive_30
    refine pk_lt o 0 (fun z => absurd z (by omega)) (fun _ => pk_lt 3 o (fun z => absurd z (by omega)) (fun _ => pk_eq o 0 (fun z => absurd z (by omega)) (fun _ => pk_eq o 1 (fun _ => ?_) (fun z => absurd e z))))
    exact k2 _ _ _ _ _ _ _ _ _ _ _ _ (fun r => H)
  · obtain ⟨k, hk, ek⟩ := pk_andE x2 (m := 3) 2 (by decide)
    obtain ⟨d', k1, k2⟩ := ra_dset hd (show k < 4 from hk)
    refine ⟨d', rc, a1, a2, ⟨k1, hrc, h1, h2⟩, fun post wc pc ac sc a3 a4 a5 a6 H => ?_⟩
    unfold wL_drive_30
    refine pk_lt o 0 (fun z => absurd z (by omega)) (fun _ => pk_lt 3 o (fun z => absurd z (by omega)) (fun _ => pk_eq o 0 (fun z => absurd z (by omega)) (fun _ => pk_eq o 1 (fun z => absurd z (by omega)) (fun _ => pk_eq o 2 (fun _ => ?_) (fun z => absurd e z)))))
    rw [ek]
    exact k2 _ _ _ _ _ _ _ _ _ _ _ _ (fun r => H)
  · obtain ⟨k, hk, ek⟩ := pk_andE x2 (m := 15) 4 (by decide)
    by_cases hb : x3 &&& 3 = 0
    · by_cases hkr : k < rc
      · obtain ⟨a1', a2', k1, k2, k3⟩ := ra_remove (a1 := a1) hrc hkr h2
        refine ⟨d, rc - 1, a1', a2', ⟨hd, by omega, fun j hj => ?_, fun j hj => ?_⟩, fun post wc pc ac sc a3 a4 a5 a6 H => ?_⟩
        · rcases Nat.lt_or_ge j k with z | z
          · rw [(k1 j z).1]
            exact h1 j (by omega)
          · rw [(k2 j z hj).1]
            exact h1 (j + 1) (by omega)
        · rcases Nat.lt_or_ge j k with z | z
          · rw [(k1 j z).2]
            exact h2 j (by omega)
          · rw [(k2 j z hj).2]
            exact h2 (j + 1) (by omega)
        · unfold wL_drive_30
          refine pk_lt o 0 (fun z => absurd z (by omega)) (fun _ => pk_lt 3 o (fun z => absurd z (by omega)) (fun _ => pk_eq o 0 (fun z => absurd z (by omega)) (fun _ => pk_eq o 1 (fun z => absurd z (by omega)) (fun _ => pk_eq o 2 (fun z => absurd z (by omega)) (fun _ => pk_eq o 3 (fun _ => br_t hb ?_) (fun z => absurd e z))))))
          rw [ek]
          exact k3 _ _ _ _ _ _ _ _ _ _ H
      · refine ⟨d, rc, a1, a2, hG, fun post wc pc ac sc a3 a4 a5 a6 H => ?_⟩
        unfold wL_drive_30
        refine pk_lt o 0 (fun z => absurd z (by omega)) (fun _ => pk_lt 3 o (fun z => absurd z (by omega)) (fun _ => pk_eq o 0 (fun z => absurd z (by omega)) (fun _ => pk_eq o 1 (fun z => absurd z (by omega)) (fun _ => pk_eq o 2 (fun z => absurd z (by omega)) (fun _ => pk_eq o 3 (fun _ => br_t hb ?_) (fun z => absurd e z))))))
        rw [ek]
        exact ra_removeN hrc (by omega) hk H
    · refine ⟨d, rc, a1, a2, hG, fun post wc pc ac sc a3 a4 a5 a6 H => ?_⟩
      unfold wL_drive_30
      exact pk_lt o 0 (fun z => absurd z (by omega)) (fun _ => pk_lt 3 o (fun z => absurd z (by omega)) (fun _ => pk_eq o 0 (fun z => absurd z (by omega)) (fun _ => pk_eq o 1 (fun z => absurd z (by omega)) (fun _ => pk_eq o 2 (fun z => absurd z (by omega)) (fun _ => pk_eq o 3 (fun _ => br_f hb H) (fun z => absurd e z))))))
  · obtain ⟨f, hf, ef⟩ := pk_andE x4 (m := 1) 1 (by decide)
    obtain ⟨k, hk, ek⟩ := pk_andE (x2 >>> ((4 : Int32) &&& 31)) (m := 7) 3 (by decide)
    obtain ⟨x, hx, ex⟩ := pk_andE (x3 >>> ((4 : Int32) &&& 31)) (m := 1) 1 (by decide)
    obtain ⟨d', k1, k2⟩ := ra_range (f := f) hd hf hlo hhi
    obtain ⟨rc', a1', a2', g1, g2⟩ := ra_insert (d := d') (rc := rc) (a1 := a1) (a2 := a2) ⟨k1, hrc, h1, h2⟩ (show k < 8 from hk) (show x < 2 from hx)
    refine ⟨d', rc', a1', a2', g1, fun post wc pc ac sc a3 a4 a5 a6 H => ?_⟩
    unfold wL_drive_30
    refine pk_lt o 0 (fun z => absurd z (by omega)) (fun _ => pk_lt 3 o (fun _ => ?_) (fun z => absurd z (by omega)))
    rw [ef, ek, ex]
    exact k2 _ _ _ _ _ _ _ _ _ _ _ _ (fun r => g2 _ _ _ _ _ _ _ _ _ (fun r' => H))
theorem ra_drive {d : Int32} {rc o : Nat} {a1 a2 : Nat → Int32} (hG : ra_G d rc a1 a2) (ho : o < 8) (x2 x3 x4 : Int32) : ∃ (d' : Int32) (rc' : Nat) (a1' a2' : Nat → Int32), ra_G d' rc' a1' a2' ∧
    ∀ (post : St1 → Prop) (wc pc ac sc : Int32) (a3 a4 a5 a6 : Nat → Int32), post (d', nI rc', wc, pc, ac, sc, a1', a2', a3, a4, a5, a6) → wpL_drive post (d, nI rc, wc, pc, ac, sc, a1, a2, a3, a4, a5, a6) (nI o) x2 x3 x4 := by
  obtain ⟨lo, hlo, elo⟩ := pk_andE x2 (m := 15) 4 (by decide)
  obtain ⟨w, hw, ew⟩ := pk_andE x3 (m := 15) 4 (by decide)
  have hlo' : lo < 16 := hlo
  have hw' : w < 16 := hw
  by_cases hs : lo + w ≤ 15
  · obtain ⟨d', rc', a1', a2', g, h⟩ := ra_d30 hG ho (show lo ≤ lo + w by omega) (by omega) x2 x3 x4
    refine ⟨d', rc', a1', a2', g, fun post wc pc ac sc a3 a4 a5 a6 H => ?_⟩
    unfold wpL_drive
    refine nm_r elo ?_
    rw [ew, nI_add]
    exact pk_le (lo + w) 15 (fun _ => h _ _ _ _ _ _ _ _ _ H) (fun z => absurd z (by omega))
  · obtain ⟨d', rc', a1', a2', g, h⟩ := ra_d30 hG ho (show lo ≤ 15 by omega) (by omega) x2 x3 x4
    refine ⟨d', rc', a1', a2', g, fun post wc pc ac sc a3 a4 a5 a6 H => ?_⟩
    unfold wpL_drive
    refine nm_r elo ?_
    rw [ew, nI_add]
    exact pk_le (lo + w) 15 (fun z => absurd z (by omega)) (fun _ => h _ _ _ _ _ _ _ _ _ H)
end
section
/-! the plain law: a rule is void or replaceable just where its removal leaves the allowed packets as they are -/
def ra_ownX (a1 : Nat → Int32) (i k q : Nat) : Prop := k ≠ i ∧ ra_B (a1 k) q ∧ ∀ m, m < k → m ≠ i → ¬ ra_B (a1 m) q
def ra_AllX (a1 a2 : Nat → Int32) (rc i q : Nat) : Prop := ∃ k, k < rc ∧ ¬ a2 k = 0 ∧ ra_ownX a1 i k q
theorem ra_ownX_dis {a1 : Nat → Int32} {i j k q : Nat} (h : ra_ownX a1 i j q) (h' : ra_ownX a1 i k q) : j = k := by
  rcases Nat.lt_or_ge j k with z | z
  · exact absurd h.2.1 (h'.2.2 j z h.1)
  · rcases Nat.lt_or_ge k j with z' | z'
    · exact absurd h'.2.1 (h.2.2 k z' h'.1)
    · omega
theorem ra_AllX_rm {a1 a2 a1' a2' : Nat → Int32} {rc i q : Nat} (hi : i < rc) (h1 : ∀ j, j < i → a1' j = a1 j ∧ a2' j = a2 j) (h2 : ∀ j, i ≤ j → j < rc - 1 → a1' j = a1 (j + 1) ∧ a2' j = a2 (j + 1)) : ra_All a1' a2' (rc - 1) q ↔ ra_AllX a1 a2 rc i q := by
  constructor
  · intro h
    obtain ⟨j, hj, ha, hb, hn⟩ := h
    rcases Nat.lt_or_ge j i with z | z
    · refine ⟨j, by omega, ?_, by omega, ?_, fun m hm hmi => ?_⟩
      · rw [← (h1 j z).2]
        exact ha
      · rw [← (h1 j z).1]
        exact hb
      · rw [← (h1 m (by omega)).1]
        exact hn m hm
    · refine ⟨j + 1, by omega, ?_, by omega, ?_, fun m hm hmi => ?_⟩
      · rw [← (h2 j z hj).2]
        exact ha
      · rw [← (h2 j z hj).1]
        exact hb
      · rcases Nat.lt_or_ge m i with y | y
        · rw [← (h1 m y).1]
          exact hn m (by omega)
        · have e := (h2 (m - 1) (by omega) (by omega)).1
          rw [show m - 1 + 1 = m by omega] at e
          rw [← e]
          exact hn (m - 1) (by omega)
  · intro h
    obtain ⟨k, hk, ha, hki, hb, hn⟩ := h
    rcases Nat.lt_or_ge k i with z | z
    · refine ⟨k, by omega, ?_, ?_, fun m hm => ?_⟩
      · rw [(h1 k z).2]
        exact ha
      · rw [(h1 k z).1]
        exact hb
      · rw [(h1 m (by omega)).1]
        exact hn m hm (by omega)
    · have e := h2 (k - 1) (by omega) (by omega)
      rw [show k - 1 + 1 = k by omega] at e
      refine ⟨k - 1, by omega, ?_, ?_, fun m hm => ?_⟩
      · rw [e.2]
        exact ha
      · rw [e.1]
        exact hb
      · rcases Nat.lt_or_ge m i with y | y
        · rw [(h1 m y).1]
          exact hn m (by omega) (by omega)
        · rw [(h2 m y (by omega)).1]
          exact hn (m + 1) (by omega) (by omega)
/-- a packet that rule i doesn't own: nothing changes -/
theorem ra_same {a1 a2 : Nat → Int32} {rc i q : Nat} (h : ¬ ra_own a1 i q) : ra_AllX a1 a2 rc i q ↔ ra_All a1 a2 rc q := by
  constructor
  · intro g
    obtain ⟨k, hk, ha, hki, hb, hn⟩ := g
    refine ⟨k, hk, ha, hb, fun m hm hbm => ?_⟩
    by_cases e : m = i
    · rw [e] at hm hbm
      exact h ⟨hbm, fun x hx => hn x (by omega) (by omega)⟩
    · exact hn m hm e hbm
  · intro g
    obtain ⟨k, hk, ha, ho⟩ := g
    have hki : k ≠ i := fun e => by
      rw [e] at ho
      exact h ho
    exact ⟨k, hk, ha, hki, ho.1, fun m hm _ => ho.2 m hm⟩
/-- a packet of rule i -/
theorem ra_mine {a1 a2 : Nat → Int32} {rc i q : Nat} (hi : i < rc) (h : ra_own a1 i q) : ra_All a1 a2 rc q ↔ ¬ a2 i = 0 := by
  constructor
  · intro g
    obtain ⟨k, hk, ha, ho⟩ := g
    rw [ra_own_dis h ho]
    exact ha
  · intro g
    exact ⟨i, hi, g, h⟩
theorem ra_next {a1 a2 : Nat → Int32} {rc i k q : Nat} (hik : i < k) (hk : k < rc) (h : ra_W a1 i k q) (hb : ra_B (a1 k) q) : ra_AllX a1 a2 rc i q ↔ ¬ a2 k = 0 := by
  have ho : ra_ownX a1 i k q := by
    refine ⟨by omega, hb, fun m hm hmi => ?_⟩
    rcases Nat.lt_or_ge m i with y | y
    · exact h.1.2 m y
    · exact h.2 m (by omega) hm
  constructor
  · intro g
    obtain ⟨j, hj, ha, ho'⟩ := g
    rw [ra_ownX_dis ho ho']
    exact ha
  · intro g
    exact ⟨k, hk, g, ho⟩
theorem ra_none {a1 a2 : Nat → Int32} {rc i q : Nat} (h : ra_W a1 i rc q) : ¬ ra_AllX a1 a2 rc i q := by
  intro g
  obtain ⟨k, hk, _, hki, hb, _⟩ := g
  rcases Nat.lt_or_ge k i with y | y
  · exact h.1.2 k y hb
  · exact h.2 k (by omega) hk hb
theorem ra_plain {a1 a2 : Nat → Int32} {rc i : Nat} (hi : i < rc) (hact : ∀ j, j < rc → ra_act (a2 j)) : ra_Red a1 a2 rc i ↔ ∀ q, ra_AllX a1 a2 rc i q ↔ ra_All a1 a2 rc q := by
  constructor
  · intro h q
    by_cases ho : ra_own a1 i q
    · rcases h with h | h
      · exact absurd ho (h q)
      · by_cases hx : ∃ k, i < k ∧ k < rc ∧ ra_B (a1 k) q
        · obtain ⟨k, ⟨k1, k2, k3⟩, hmin⟩ := pk_least _ hx
          have hW : ra_W a1 i k q := ⟨ho, fun m m1 m2 mb => hmin m m2 ⟨m1, by omega, mb⟩⟩
          rw [ra_next k1 k2 hW k3, ra_mine hi ho]
          have e : a2 k = a2 i := by
            by_cases e : a2 k = a2 i
            · exact e
            · exact absurd k3 (h.1 k k1 k2 e q hW)
          rw [e]
        · have hW : ra_W a1 i rc q := ⟨ho, fun m m1 m2 mb => hx ⟨m, m1, m2, mb⟩⟩
          have e : a2 i = 0 := by
            rcases h.2 with g | g
            · exact absurd hW (g q)
            · exact g
          rw [ra_mine hi ho]
          exact ⟨fun g => absurd g (ra_none hW), fun g => absurd e g⟩
    · exact ra_same ho
  · intro h
    refine Or.inr ⟨fun k k1 k2 hne q hW hb => ?_, ?_⟩
    · have e := h q
      rw [ra_next k1 k2 hW hb, ra_mine hi hW.1] at e
      rcases hact k k2 with x | x
      · rcases hact i hi with y | y
        · exact hne (by rw [x, y])
        · rw [x, y] at e
          exact absurd (e.mpr (by decide)) (by decide)
      · rcases hact i hi with y | y
        · rw [x, y] at e
          exact absurd (e.mp (by decide)) (by decide)
        · exact hne (by rw [x, y])
    · by_cases e : a2 i = 0
      · exact Or.inr e
      · refine Or.inl (fun q hW => ?_)
        exact ra_none hW ((h q).mpr ((ra_mine hi hW.1).mpr e))
end
section
/-! the law's checks -/
theorem ra_l229 {post : Int32 → Prop} {L : Nat} {xs : Nat → Int32} {J : Int32 → Int32 → Int32 → Int32 → Int32 → Int32 → Int32 → (Nat → Int32) → (Nat → Int32) → (Nat → Int32) → (Nat → Int32) → (Nat → Int32) → (Nat → Int32) → Int32 → Int32 → Int32 → Int32 → Int32 → Int32 → (Nat → Int32) → (Nat → Int32) → (Nat → Int32) → (Nat → Int32) → (Nat → Int32) → (Nat → Int32) → Prop} {y3 y4 z : Int32} {k t kc ks : Nat} {pd pr pw pp pa ps qd qr qw qp qa qs : Int32} {p1 p2 p3 p4 p5 p6 q1 q2 q3 q4 q5 q6 : Nat → Int32} (ht : t ≤ 524288) (hz1 : t = 0 → z = 1) (hz0 : ¬ t = 0 → z = 0) (HJ : J (nI (k + 1)) pd pr pw pp pa ps p1 p2 p3 p4 p5 p6 qd qr qw qp qa qs q1 q2 q3 q4 q5 q6) :
    wL_law_229 post L xs J y3 y4 (nI k) (nI t) z kc ks pd pr pw pp pa ps p1 p2 p3 p4 p5 p6 qd qr qw qp qa qs q1 q2 q3 q4 q5 q6 := by
  unfold wL_law_229 wL_law_239
  exact pk_eq t 0 (fun e => br_t (hz1 e) (nm_r (nI_1 k) HJ)) (fun e => br_t (hz0 e) (nm_r (nI_1 k) HJ))
theorem ra_l224 {post : Int32 → Prop} {L : Nat} {xs : Nat → Int32} {J : Int32 → Int32 → Int32 → Int32 → Int32 → Int32 → Int32 → (Nat → Int32) → (Nat → Int32) → (Nat → Int32) → (Nat → Int32) → (Nat → Int32) → (Nat → Int32) → Int32 → Int32 → Int32 → Int32 → Int32 → Int32 → (Nat → Int32) → (Nat → Int32) → (Nat → Int32) → (Nat → Int32) → (Nat → Int32) → (Nat → Int32) → Prop} {y3 y4 : Int32} {k t kc ks : Nat} {pd pr pw pp pa ps qd qr qw qp qa qs : Int32} {p1 p2 p3 p4 p5 p6 q1 q2 q3 q4 q5 q6 : Nat → Int32} (ht : t = 0) (HJ : J (nI (k + 1)) pd pr pw pp pa ps p1 p2 p3 p4 p5 p6 qd qr qw qp qa qs q1 q2 q3 q4 q5 q6) :
    wL_law_224 post L xs J y3 y4 (nI k) (nI t) kc ks pd pr pw pp pa ps p1 p2 p3 p4 p5 p6 qd qr qw qp qa qs q1 q2 q3 q4 q5 q6 := by
  unfold wL_law_224
  exact ra_l229 (by omega) (fun _ => rfl) (fun e => absurd ht e) HJ
theorem ra_l142 {post : Int32 → Prop} {L : Nat} {xs : Nat → Int32} {kc ks rc r : Nat} {d : Int32} {a1 a2 : Nat → Int32} (hp : post 1) (hG : ra_G d rc a1 a2) (hr16 : r < 16) : ∀ (m k : Nat), k + m = 10 →
    ∀ (pd pr pw pp pa ps : Int32) (p1 p2 p3 p4 p5 p6 : Nat → Int32) (qd qr qw qp qa qs : Int32) (q1 q2 q3 q4 q5 q6 : Nat → Int32), (k ≤ r % (rc + 1) → (pr = nI rc ∧ p1 = a1 ∧ p2 = a2) ∧ (qr = nI rc ∧ q1 = a1 ∧ q2 = a2)) →
    wL_law_142 post L xs (nI rc) (nI r) kc ks (m + 1) (nI k) pd pr pw pp pa ps p1 p2 p3 p4 p5 p6 qd qr qw qp qa qs q1 q2 q3 q4 q5 q6 := by
  obtain ⟨_, hrc, hok, hact⟩ := hG
  intro m
  induction m with
  | zero =>
    intro k hk pd pr pw pp pa ps p1 p2 p3 p4 p5 p6 qd qr qw qp qa qs q1 q2 q3 q4 q5 q6 _
    exact pk_le 10 k (fun _ => hp) (fun z => absurd z (by omega))
  | succ m ih =>
    intro k hk pd pr pw pp pa ps p1 p2 p3 p4 p5 p6 qd qr qw qp qa qs q1 q2 q3 q4 q5 q6 hR
    refine pk_le 10 k (fun _ => hp) (fun hk10 => pk_le rc k (fun z => nm_r (nI_1 k) (ih (k + 1) (by omega) _ _ _ _ _ _ _ _ _ _ _ _ _ _ _ _ _ _ _ _ _ _ _ _ (fun h => hR (by omega)))) (fun hkr => ?_))
    rw [nI_1 rc, pk_rem (by omega) (by omega) (by omega)]
    refine And.intro (nI_ne0 (by omega) (by omega)) ?_
    refine pk_eq k (r % (rc + 1)) (fun e => ?_) (fun e => nm_r (nI_1 k) (ih (k + 1) (by omega) _ _ _ _ _ _ _ _ _ _ _ _ _ _ _ _ _ _ _ _ _ _ _ _ (fun h => hR (by omega)))) rfl rfl (by omega) (by have := Nat.mod_le r (rc + 1); omega)
    obtain ⟨⟨rfl, rfl, rfl⟩, rfl, e1, e2⟩ := hR (by omega)
    rw [e1, e2]
    obtain ⟨b1, b2, s1, s2, hrm⟩ := ra_remove (a1 := p1) hrc hkr hact
    have hok' : ∀ j, j < rc - 1 → ra_Ok (b1 j) := by
      intro j hj
      rcases Nat.lt_or_ge j k with z | z
      · rw [(s1 j z).1]
        exact hok j (by omega)
      · rw [(s2 j z hj).1]
        exact hok (j + 1) (by omega)
    have hpl := ra_plain (a1 := p1) hkr hact
    refine ra_fault hrc hkr hok (fun rf hne hiff pw' pp' p3' p4' => ?_)
    refine ra_save hrc hok (fun rs qw' qp' qa' sc' q3' q4' q5' q6' L6 => ?_)
    refine ra_changed hrc hok L6 (fun t ht ez qw2 qp2 qa2 q32 q42 q52 => ?_)
    have t0 : t = 0 := ez.mpr (fun q => Iff.rfl)
    refine br_t (by rw [t0]; rfl) ?_
    refine hrm _ _ _ _ _ _ _ _ _ _ ?_
    refine br_t (pk_sub (b := 1) (by omega)).symm ?_
    refine ra_changed (rc := rc - 1) (by omega) hok' L6 (fun t2 ht2 ez2 qw3 qp3 qa3 q33 q43 q53 => ?_)
    have eR : t2 = 0 ↔ ra_Red p1 p2 rc k := by
      rw [ez2, hpl]
      constructor
      · intro h q
        rw [← ra_AllX_rm hkr s1 s2]
        exact h q
      · intro h q
        rw [ra_AllX_rm hkr s1 s2]
        exact h q
    have done : ∀ (pd pr pw pp pa ps : Int32) (p1 p2 p3 p4 p5 p6 : Nat → Int32) (qd qr qw qp qa qs : Int32) (g1 q2 q3 q4 q5 q6 : Nat → Int32), wL_law_142 post L xs (nI rc) (nI r) kc ks (m + 1) (nI (k + 1)) pd pr pw pp pa ps p1 p2 p3 p4 p5 p6 qd qr qw qp qa qs g1 q2 q3 q4 q5 q6 := by
      intro pd pr pw pp pa ps p1 p2 p3 p4 p5 p6 qd qr qw qp qa qs g1 q2 q3 q4 q5 q6
      exact ih (k + 1) (by omega) _ _ _ _ _ _ _ _ _ _ _ _ _ _ _ _ _ _ _ _ _ _ _ _ (fun h => absurd h (by omega))
    refine br_c (fun e => ra_l224 (eR.mpr (hiff.mp (Or.inl e))) (done _ _ _ _ _ _ _ _ _ _ _ _ _ _ _ _ _ _ _ _ _ _ _ _)) (fun n2 => br_c (fun e => ra_l224 (eR.mpr (hiff.mp (Or.inr (Or.inl e)))) (done _ _ _ _ _ _ _ _ _ _ _ _ _ _ _ _ _ _ _ _ _ _ _ _)) (fun n3 => br_c (fun e => ra_l224 (eR.mpr (hiff.mp (Or.inr (Or.inr e)))) (done _ _ _ _ _ _ _ _ _ _ _ _ _ _ _ _ _ _ _ _ _ _ _ _)) (fun n1 => ?_)))
    refine ra_l229 ht2 (fun z => ?_) (fun _ => rfl) (done _ _ _ _ _ _ _ _ _ _ _ _ _ _ _ _ _ _ _ _ _ _ _ _)
    rcases hiff.mpr (eR.mp z) with g | g | g
    · exact absurd g n2
    · exact absurd g n3
    · exact absurd g n1
/-! the law's second loop: it counts the rules -/
theorem ra_l96 {post : Int32 → Prop} {L : Nat} {xs : Nat → Int32} {kc ks rc : Nat} {d pd pw pp pa ps qd qw qp qa qs : Int32} {p1 p2 p3 p4 p5 p6 q3 q4 q5 q6 : Nat → Int32} (hL : L ≤ 260) (hp : post 1) (hG : ra_G d rc p1 p2) :
    ∃ n, wL_law_96 post L xs kc ks n 0 0 pd (nI rc) pw pp pa ps p1 p2 p3 p4 p5 p6 qd (nI rc) qw qp qa qs p1 p2 q3 q4 q5 q6 := by
  obtain ⟨_, hrc, hok, hact⟩ := id hG
  have main := pk_loop (σ := Int32 × Int32 × (Nat → Int32) × (Nat → Int32)) (fun n k s => wL_law_96 post L xs kc ks n (nI (min k rc)) (nI k) pd (nI rc) s.1 s.2.1 pa ps p1 p2 s.2.2.1 s.2.2.2 p5 p6 qd (nI rc) qw qp qa qs p1 p2 q3 q4 q5 q6) (fun _ _ => True) 10 0 (pw, pp, p3, p4) (by omega) trivial ?_ ?_
  · obtain ⟨n, hn⟩ := main
    have hn' : wL_law_96 post L xs kc ks n (nI (min 0 rc)) (nI 0) pd (nI rc) pw pp pa ps p1 p2 p3 p4 p5 p6 qd (nI rc) qw qp qa qs p1 p2 q3 q4 q5 q6 := hn
    rw [Nat.zero_min] at hn'
    exact ⟨n, hn'⟩
  · intro n s _
    show wL_law_96 post L xs kc ks (n + 1) (nI (min 10 rc)) (nI 10) pd (nI rc) s.1 s.2.1 pa ps p1 p2 s.2.2.1 s.2.2.2 p5 p6 qd (nI rc) qw qp qa qs p1 p2 q3 q4 q5 q6
    rw [show min 10 rc = rc by omega]
    refine pk_le 10 10 (fun _ => ?_) (fun z => absurd z (by omega))
    refine pk_le L 0 (fun z => ⟨11, ra_l142 (r := 0) hp hG (by omega) 10 0 (by omega) _ _ _ _ _ _ _ _ _ _ _ _ _ _ _ _ _ _ _ _ _ _ _ _ (fun _ => ⟨⟨rfl, rfl, rfl⟩, rfl, rfl, rfl⟩)⟩) (fun z => And.intro (pk_in 0 L z) ?_)
    obtain ⟨r, hr, er⟩ := pk_andE (xs (0 : Int32).toNatClampNeg) (m := 15) 4 (by decide)
    exact nm_r er ⟨11, ra_l142 (r := r) hp hG hr 10 0 (by omega) _ _ _ _ _ _ _ _ _ _ _ _ _ _ _ _ _ _ _ _ _ _ _ _ (fun _ => ⟨⟨rfl, rfl, rfl⟩, rfl, rfl, rfl⟩)⟩
  · intro n k s hk _ hw
    have t : ∀ (w' p' : Int32) (b3 b4 : Nat → Int32), wL_law_96 post L xs kc ks n (nI (min (k + 1) rc)) (nI (k + 1)) pd (nI rc) w' p' pa ps p1 p2 b3 b4 p5 p6 qd (nI rc) qw qp qa qs p1 p2 q3 q4 q5 q6 := fun w' p' b3 b4 => hw (w', p', b3, b4) trivial
    show wL_law_96 post L xs kc ks (n + 1) (nI (min k rc)) (nI k) pd (nI rc) s.1 s.2.1 pa ps p1 p2 s.2.2.1 s.2.2.2 p5 p6 qd (nI rc) qw qp qa qs p1 p2 q3 q4 q5 q6
    refine pk_le 10 k (fun z => absurd z (by omega)) (fun _ => ?_)
    rcases Nat.lt_or_ge k rc with z | z
    · rw [show min (k + 1) rc = min k rc + 1 by omega] at t
      exact ra_fault hrc z hok (fun r hne _ w' p' b3 b4 => br_f hne (nm_r (nI_1 _) (nm_r (nI_1 k) (t w' p' b3 b4))))
    · rw [show min (k + 1) rc = min k rc by omega] at t
      exact ra_faultN hrc z hk (br_t rfl (nm_r (nI_1 k) (t _ _ _ _)))
/-! the law's first loop: it drives both objects -/
theorem ra_lc {L m : Nat} (hL : L ≤ 260) (hm : m ≤ 1000) : nI L - 4 < nI m ↔ L < m + 4 := by
  have e : (nI L - 4).toInt = (L : Int) - 4 := pk_sub_toInt (b := 4) (by omega) (by omega)
  rw [Int32.lt_iff_toInt_lt, e, nI_toInt (by omega)]
  omega
theorem ra_l21 {post : Int32 → Prop} {L : Nat} {xs : Nat → Int32} {kc ks rc : Nat} {d pw pp pa ps qw qp qa qs : Int32} {a1 a2 p3 p4 p5 p6 q3 q4 q5 q6 : Nat → Int32} (hL : L ≤ 260) (hp : post 1) (hG : ra_G d rc a1 a2) :
    ∃ n, wL_law_21 post L xs 0 kc ks n 0 d (nI rc) pw pp pa ps a1 a2 p3 p4 p5 p6 d (nI rc) qw qp qa qs a1 a2 q3 q4 q5 q6 := by
  refine pk_loop (σ := Int32 × Nat × (Nat → Int32) × (Nat → Int32)) (fun n k s => wL_law_21 post L xs 0 kc ks n (nI (4 * k)) s.1 (nI s.2.1) pw pp pa ps s.2.2.1 s.2.2.2 p3 p4 p5 p6 s.1 (nI s.2.1) qw qp qa qs s.2.2.1 s.2.2.2 q3 q4 q5 q6) (fun _ s => ra_G s.1 s.2.1 s.2.2.1 s.2.2.2) (L / 4) 0 (d, rc, a1, a2) (by omega) hG ?_ ?_
  · intro n s h
    exact br_t ((ra_lc hL (by omega)).mpr (by omega)) (ra_l96 hL hp h)
  · intro n k s hk h hw
    have e1 : nI (4 * k) + 1 = nI (4 * k + 1) := nI_1 _
    have e2 : nI (4 * k) + 2 = nI (4 * k + 2) := nI_add (4 * k) 2
    have e3 : nI (4 * k) + 3 = nI (4 * k + 3) := nI_add (4 * k) 3
    have e4 : nI (4 * k) + 4 = nI (4 * (k + 1)) := nI_add (4 * k) 4
    have i1 : vp_in (nI (4 * k) + 1) L := by rw [e1]; exact pk_in (4 * k + 1) L (by omega)
    have i2 : vp_in (nI (4 * k) + 2) L := by rw [e2]; exact pk_in (4 * k + 2) L (by omega)
    have i3 : vp_in (nI (4 * k) + 3) L := by rw [e3]; exact pk_in (4 * k + 3) L (by omega)
    obtain ⟨o, ho, eo⟩ := pk_andE (xs (nI (4 * k)).toNatClampNeg) (m := 7) 3 (by decide)
    obtain ⟨d', rc', b1, b2, g, hd⟩ := ra_drive h (show o < 8 from ho) (xs (nI (4 * k) + 1).toNatClampNeg) (xs (nI (4 * k) + 2).toNatClampNeg) (xs (nI (4 * k) + 3).toNatClampNeg)
    refine br_f (fun z => absurd ((ra_lc hL (by omega)).mp z) (by omega)) (And.intro (pk_in (4 * k) L (by omega)) (nm_r eo (And.intro i1 (And.intro i2 (And.intro i3 ?_)))))
    refine hd _ _ _ _ _ _ _ _ _ (And.intro i1 (And.intro i2 (And.intro i3 ?_)))
    refine hd _ _ _ _ _ _ _ _ _ (nm_r e4 (hw (d', rc', b1, b2) g))
end
section
theorem ra_init {post : St1 → Prop} {mc ms : Nat} (h1 : 6 ≤ mc) (h2 : 2068 ≤ ms) (H : post (15421, 0, 0, 0, 0, 0, (fun _ => 0), (fun _ => 0), (fun _ => 0), (fun _ => 0), (fun _ => 0), (fun _ => 0))) : wpX_init post mc ms (0, 0, 0, 0, 0, 0) := by
  unfold wpX_init
  exact ⟨by omega, by omega, by omega, by omega, by omega, by omega, by omega, by omega, by omega, by omega, by omega, by omega, H⟩
theorem ra_G0 : ra_G 15421 0 (fun _ => 0) (fun _ => 0) := by
  refine ⟨⟨15421, by decide, ?_⟩, by omega, fun j hj => absurd hj (by omega), fun j hj => absurd hj (by omega)⟩
  unfold ra_ok ra_fS ra_tS ra_fD ra_tD ra_fP ra_tP
  omega
theorem i_vc (xs : Nat → Int32) (L : Nat) (hL : L ≤ 260) : wpL_law (fun r => r = 1) L xs := by
  unfold wpL_law
  refine ⟨6, 2068, by omega, by omega, ra_init (by omega) (by omega) ?_⟩
  refine ⟨by omega, by omega, 6, 2068, by omega, by omega, ra_init (by omega) (by omega) ?_⟩
  exact ra_l21 hL rfl ra_G0
end
