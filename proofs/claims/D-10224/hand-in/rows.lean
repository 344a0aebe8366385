section
/-! Int32 by its bits (the rows bt .. b_sshr, nx_and, nx_xor, wb_of32 began as kit/laws/BITS.to-paste) -/
def bt (x : Int32) (i : Nat) : Bool := x.toBitVec.getLsbD i
theorem b_ext {x y : Int32} (h : ∀ i, i < 32 → bt x i = bt y i) : x = y := Int32.toBitVec_inj.mp (BitVec.eq_of_getLsbD_eq (fun i hi => h i hi))
theorem b_or (x y : Int32) (i : Nat) : bt (x ||| y) i = (bt x i || bt y i) := by unfold bt; rw [Int32.toBitVec_or, BitVec.getLsbD_or]
theorem b_and (x y : Int32) (i : Nat) : bt (x &&& y) i = (bt x i && bt y i) := by unfold bt; rw [Int32.toBitVec_and, BitVec.getLsbD_and]
theorem b_xor (x y : Int32) (i : Nat) : bt (x ^^^ y) i = (bt x i ^^ bt y i) := by unfold bt; rw [Int32.toBitVec_xor, BitVec.getLsbD_xor]
theorem b_big {x : Int32} {i : Nat} (h : 32 ≤ i) : bt x i = false := BitVec.getLsbD_of_ge _ _ h
theorem b_m1 : ∀ i, i < 32 → bt (-1) i = true := by decide +kernel
theorem b_0 (i : Nat) : bt 0 i = false := BitVec.getLsbD_zero
theorem s_l : ∀ n, n < 32 → ((nI n &&& 31).toBitVec.smod 32).toNat = n := by decide +kernel
theorem b_sshr (n : Nat) (hn : n < 32) (x : Int32) {i : Nat} (hi : i < 32) : bt (x >>> (nI n &&& 31)) i = if n + i < 32 then bt x (n + i) else bt x 31 := by
  unfold bt
  rw [Int32.toBitVec_shiftRight]
  show (x.toBitVec.sshiftRight ((nI n &&& 31).toBitVec.smod 32).toNat).getLsbD i = _
  rw [s_l n hn, BitVec.getLsbD_sshiftRight, BitVec.msb_eq_getLsbD_last]
  simp [hi]
theorem nx_and (a b : Nat) : nI a &&& nI b = nI (a &&& b) := by
  apply Int32.toBitVec_inj.1
  show BitVec.ofNat 32 a &&& BitVec.ofNat 32 b = BitVec.ofNat 32 (a &&& b)
  apply BitVec.eq_of_getLsbD_eq
  intro i hi
  simp [hi]
theorem nx_xor (a b : Nat) : nI a ^^^ nI b = nI (a ^^^ b) := by
  apply Int32.toBitVec_inj.1
  show BitVec.ofNat 32 a ^^^ BitVec.ofNat 32 b = BitVec.ofNat 32 (a ^^^ b)
  apply BitVec.eq_of_getLsbD_eq
  intro i hi
  simp [hi]
theorem wb_of32 (x : Int32) : ∃ n, n < 2 ^ 32 ∧ x = nI n := ⟨x.toBitVec.toNat, x.toBitVec.isLt, Int32.toBitVec_inj.mp (by show _ = BitVec.ofNat 32 _; simp)⟩
/-! own rows -/
theorem bi_or (a b : Nat) : nI a ||| nI b = nI (a ||| b) := by
  apply Int32.toBitVec_inj.1
  show BitVec.ofNat 32 a ||| BitVec.ofNat 32 b = BitVec.ofNat 32 (a ||| b)
  apply BitVec.eq_of_getLsbD_eq
  intro i hi
  simp [hi]
theorem bi_m1 : (-1 : Int32) = nI 4294967295 := by decide +kernel
theorem bi_nI (n : Nat) {i : Nat} (hi : i < 32) : bt (nI n) i = n.testBit i := by
  show (BitVec.ofNat 32 n).getLsbD i = _
  rw [BitVec.getLsbD_ofNat]
  simp [hi]
theorem bi_s1 : ∀ s, s < 32 → ∀ i, i < 32 → bt ((1 : Int32) <<< (nI s &&& 31)) i = decide (i = s) := by decide +kernel
theorem bi_sn : ∀ s, s < 31 → (1 : Int32) <<< (nI s &&& 31) = nI (2 ^ s) := by decide +kernel
theorem bi_1 : ∀ i, i < 32 → bt 1 i = decide (i = 0) := by decide +kernel
theorem bi_ts (x : Int32) {s : Nat} (hs : s < 32) : (x >>> (nI s &&& 31)) &&& 1 = if bt x s = true then 1 else 0 := by
  apply b_ext
  intro i hi
  rw [b_and, bi_1 i hi]
  by_cases e : i = 0
  · subst e
    rw [b_sshr s hs x (by omega), if_pos (by omega), Nat.add_zero]
    cases h : bt x s
    · rw [if_neg (by decide), b_0]; rfl
    · rw [if_pos rfl]; rfl
  · rw [decide_eq_false e, Bool.and_false]
    cases h : bt x s
    · rw [if_neg (by decide), b_0]
    · rw [if_pos rfl, bi_1 i hi, decide_eq_false e]
theorem bi_t0 (x : Int32) {s : Nat} (hs : s < 32) : ((x >>> (nI s &&& 31)) &&& 1) = 0 ↔ bt x s = false := by
  rw [bi_ts x hs]
  cases bt x s
  · exact ⟨fun _ => rfl, fun _ => rfl⟩
  · exact ⟨fun z => absurd z (by decide), fun z => absurd z (by decide)⟩
theorem bi_nf {x : Bool} (h : ¬ x = false) : x = true := by cases x <;> first | rfl | exact absurd rfl h
theorem bi_nt {x : Bool} (h : ¬ x = true) : x = false := by cases x <;> first | rfl | exact absurd rfl h
theorem bi_an (x y : Int32) : x &&& (y ^^^ (-1)) = 0 ↔ ∀ i, i < 32 → bt x i = true → bt y i = true := by
  constructor
  · intro h i hi hx
    have t : bt (x &&& (y ^^^ (-1))) i = false := by rw [h, b_0]
    rw [b_and, b_xor, b_m1 i hi, hx] at t
    revert t
    cases bt y i <;> simp
  · intro h
    apply b_ext
    intro i hi
    rw [b_and, b_xor, b_m1 i hi, b_0]
    cases hx : bt x i
    · rfl
    · rw [h i hi hx]; rfl
theorem bi_z (x : Int32) : x = 0 ↔ ∀ i, i < 32 → bt x i = false := ⟨fun h i _ => by rw [h, b_0], fun h => b_ext (fun i hi => by rw [h i hi, b_0])⟩
theorem bi_lt {x : Int32} {i : Nat} (h : bt x i = true) : i < 32 := by
  rcases Nat.lt_or_ge i 32 with z | z
  · exact z
  · rw [b_big z] at h; exact absurd h (by decide)
theorem bi_p2 {S : Nat} (h : S ≤ 4) : 2 ^ S ≤ 16 := Nat.pow_le_pow_right (n := 2) (by decide) h
theorem bi_cl {n : Nat} {f : Nat → Int32} (h : n < 2 ^ 31) : f (nI n).toNatClampNeg = f n := congrArg f (nI_clamp h)
end
section
/-! cubes: 4 ternary digits; cu_cc k: the codes of the cube as a mask -/
def cu_dg (k s : Nat) : Nat := k / 3 ^ s % 3
def cu_st (w m d : Nat) : Nat := match d with
  | 0 => m
  | 1 => m <<< w
  | _ => m ||| (m <<< w)
def cu_cc (k : Nat) : Nat := cu_st 8 (cu_st 4 (cu_st 2 (cu_st 1 1 (k % 3)) (k / 3 % 3)) (k / 9 % 3)) (k / 27 % 3)
def cu_fr (k : Nat) : Nat → Nat
  | 0 => 0
  | s + 1 => if cu_dg k s = 2 then 3 ^ s else cu_fr k s
def cu_cd (k : Nat) : Nat → Nat
  | 0 => 0
  | s + 1 => if cu_dg k s = 1 then cu_cd k s ||| 2 ^ s else cu_cd k s
def cu_gw (k s : Nat) : Nat := k + (2 - cu_dg k s) * 3 ^ s
def cu_mt (c : Nat) : Nat := c % 2 + c / 2 % 2 * 3 + c / 4 % 2 * 9 + c / 8 % 2 * 27
def cu_im (Z k : Nat) : Bool := Nat.beq (cu_cc k &&& Z) 0
def cu_gr (Z k : Nat) : Nat → Bool
  | 0 => false
  | s + 1 => cu_gr Z k s || (!(Nat.beq (cu_dg k s) 2) && cu_im Z (cu_gw k s))
def cu_pr (Z S k : Nat) : Bool := cu_im Z k && !(cu_gr Z k S)
def cu_n (p : Nat → Bool) : Nat → Nat
  | 0 => 0
  | n + 1 => if p n = true then cu_n p n + 1 else cu_n p n
theorem cu_lo : ∀ S, S < 5 → ∀ k, k < 3 ^ S → cu_fr k S = 0 → cu_cc k = 2 ^ cu_cd k S ∧ cu_cd k S < 16 := by decide +kernel
theorem cu_hi : ∀ S, S < 5 → ∀ k, k < 3 ^ S → cu_fr k S ≠ 0 → 2 * cu_fr k S ≤ k ∧ cu_fr k S ≤ 27 ∧ cu_cc k = cu_cc (k - cu_fr k S) ||| cu_cc (k - 2 * cu_fr k S) := by decide +kernel
theorem cu_g1 : ∀ S, S < 5 → ∀ k, k < 3 ^ S → ∀ s, s < S → cu_dg k s ≠ 2 → k < cu_gw k s ∧ cu_gw k s < 3 ^ S ∧ cu_cc k &&& cu_cc (cu_gw k s) = cu_cc k := by
  intro S hS
  rcases (by omega : S = 0 ∨ S = 1 ∨ S = 2 ∨ S = 3 ∨ S = 4) with e | e | e | e | e <;> subst e <;> decide +kernel
theorem cu_m1 : ∀ S, S < 5 → ∀ c, c < 2 ^ S → cu_mt c < 3 ^ S ∧ cu_cc (cu_mt c) = 2 ^ c := by decide +kernel
theorem cu_lt : ∀ k, k < 81 → cu_cc k < 65536 := by decide +kernel
theorem cu_l8 : ∀ k, k < 27 → cu_cc k < 256 ∧ cu_cc (27 + k) = cu_cc k <<< 8 ∧ cu_cc (54 + k) = cu_cc k ||| (cu_cc k <<< 8) := by decide +kernel
theorem cu_p3 : ∀ S, S < 5 → 3 ^ S ≤ 81 := by decide +kernel
theorem cu_imI {Z k : Nat} : cu_im Z k = true ↔ cu_cc k &&& Z = 0 := by
  unfold cu_im
  exact ⟨fun h => Nat.eq_of_beq_eq_true h, fun h => by rw [h]; rfl⟩
theorem cu_grI {Z k : Nat} : ∀ S, cu_gr Z k S = true ↔ ∃ s, s < S ∧ cu_dg k s ≠ 2 ∧ cu_im Z (cu_gw k s) = true := by
  intro S
  induction S with
  | zero => exact ⟨fun h => absurd h Bool.false_ne_true, fun ⟨s, h, _⟩ => absurd h (by omega)⟩
  | succ S ih =>
    constructor
    · intro h
      unfold cu_gr at h
      rw [Bool.or_eq_true, Bool.and_eq_true] at h
      rcases h with h | ⟨h1, h2⟩
      · obtain ⟨s, a, b⟩ := ih.mp h
        exact ⟨s, by omega, b⟩
      · refine ⟨S, by omega, fun e => ?_, h2⟩
        rw [e] at h1
        exact absurd h1 (by decide)
    · intro ⟨s, a, b, c⟩
      unfold cu_gr
      rw [Bool.or_eq_true, Bool.and_eq_true]
      by_cases e : s = S
      · subst e
        refine Or.inr ⟨?_, c⟩
        cases hb : Nat.beq (cu_dg k s) 2
        · rfl
        · exact absurd (Nat.eq_of_beq_eq_true hb) b
      · exact Or.inl (ih.mpr ⟨s, by omega, b, c⟩)
theorem cu_n_le (p : Nat → Bool) : ∀ n, cu_n p n ≤ n := by
  intro n
  induction n with
  | zero => exact Nat.le_refl 0
  | succ n ih =>
    unfold cu_n
    split <;> omega
theorem cu_n_mono {p q : Nat → Bool} : ∀ n, (∀ k, k < n → p k = true → q k = true) → cu_n p n ≤ cu_n q n := by
  intro n
  induction n with
  | zero => intro _; exact Nat.le_refl 0
  | succ n ih =>
    intro h
    have i := ih (fun k hk => h k (by omega))
    have j := h n (by omega)
    unfold cu_n
    by_cases e : p n = true
    · rw [if_pos e, if_pos (j e)]; omega
    · rw [if_neg e]; split <;> omega
theorem cu_n_add (p : Nat → Bool) (a : Nat) : ∀ b, cu_n p (a + b) = cu_n p a + cu_n (fun k => p (a + k)) b := by
  intro b
  induction b with
  | zero => rfl
  | succ b ih =>
    show (if p (a + b) = true then cu_n p (a + b) + 1 else cu_n p (a + b)) = cu_n p a + (if p (a + b) = true then cu_n (fun k => p (a + k)) b + 1 else cu_n (fun k => p (a + k)) b)
    rw [ih]
    split <;> omega
/-! at most 16 primes -/
def cu_m3 (Z : Nat) : Nat := cu_n (cu_pr Z 3) 27
def cu_n3 (Z Y : Nat) : Nat := cu_n (fun k => cu_pr Z 3 k && !(cu_im Y k)) 27
theorem cu_fa : ∀ Z, Z < 256 → cu_m3 Z ≤ 6 ∧ (cu_m3 Z = 6 → Z = 129 ∨ Z = 66 ∨ Z = 36 ∨ Z = 24) := by decide +kernel
theorem cu_fb : ∀ Y, Y < 256 → cu_n3 129 Y + cu_n3 Y 129 + cu_m3 (129 ||| Y) ≤ 16 ∧ cu_n3 66 Y + cu_n3 Y 66 + cu_m3 (66 ||| Y) ≤ 16 ∧ cu_n3 36 Y + cu_n3 Y 36 + cu_m3 (36 ||| Y) ≤ 16 ∧ cu_n3 24 Y + cu_n3 Y 24 + cu_m3 (24 ||| Y) ≤ 16 := by decide +kernel
theorem cu_n3le (Z Y : Nat) : cu_n3 Z Y ≤ cu_m3 Z := cu_n_mono 27 (fun k _ h => by rw [Bool.and_eq_true] at h; exact h.1)
theorem cu_pair {Z Y : Nat} (hZ : Z < 256) (hY : Y < 256) : cu_n3 Z Y + cu_n3 Y Z + cu_m3 (Z ||| Y) ≤ 16 := by
  have hO : Z ||| Y < 256 := Nat.or_lt_two_pow (n := 8) hZ hY
  have a := cu_fa Z hZ
  have b := cu_fa Y hY
  have c := cu_fa (Z ||| Y) hO
  have d := cu_n3le Z Y
  have e := cu_n3le Y Z
  by_cases h : cu_m3 Z = 6
  · rcases a.2 h with g | g | g | g <;> rw [g]
    · exact (cu_fb Y hY).1
    · exact (cu_fb Y hY).2.1
    · exact (cu_fb Y hY).2.2.1
    · exact (cu_fb Y hY).2.2.2
  · by_cases h' : cu_m3 Y = 6
    · have sw : cu_n3 Z Y + cu_n3 Y Z + cu_m3 (Z ||| Y) = cu_n3 Y Z + cu_n3 Z Y + cu_m3 (Y ||| Z) := by rw [Nat.or_comm Z Y]; omega
      rw [sw]
      rcases b.2 h' with g | g | g | g <;> rw [g]
      · exact (cu_fb Z hZ).1
      · exact (cu_fb Z hZ).2.1
      · exact (cu_fb Z hZ).2.2.1
      · exact (cu_fb Z hZ).2.2.2
    · omega
theorem cu_and {a Z n : Nat} (h : a < 2 ^ n) : a &&& (Z % 2 ^ n) = a &&& Z := by
  apply Nat.eq_of_testBit_eq
  intro i
  rw [Nat.testBit_and, Nat.testBit_and, Nat.testBit_mod_two_pow]
  by_cases e : i < n
  · simp [e]
  · rw [Nat.testBit_lt_two_pow (Nat.lt_of_lt_of_le h (Nat.pow_le_pow_right (by decide) (by omega)))]
    simp
theorem cu_z (n : Nat) : n = 0 ↔ ∀ i, n.testBit i = false := ⟨fun h i => by rw [h, Nat.zero_testBit], fun h => Nat.eq_of_testBit_eq (fun i => by rw [h i, Nat.zero_testBit])⟩
theorem cu_b0 {Z k : Nat} (hk : k < 27) : cu_im Z k = true ↔ cu_im (Z % 256) k = true := by
  have e : cu_cc k &&& (Z % 2 ^ 8) = cu_cc k &&& Z := cu_and (cu_l8 k hk).1
  rw [cu_imI, cu_imI]
  exact ⟨fun h => e.trans h, fun h => e.symm.trans h⟩
theorem cu_b1 {Z k : Nat} (hk : k < 27) : cu_im Z (27 + k) = true ↔ cu_im (Z / 256 % 256) k = true := by
  have e : cu_cc k &&& (Z / 2 ^ 8 % 2 ^ 8) = cu_cc k &&& (Z / 2 ^ 8) := cu_and (cu_l8 k hk).1
  rw [cu_imI, cu_imI, (cu_l8 k hk).2.1]
  have g : (cu_cc k <<< 8) &&& Z = 0 ↔ cu_cc k &&& (Z / 2 ^ 8) = 0 := by
    rw [cu_z, cu_z]
    constructor
    · intro h i
      have t := h (i + 8)
      rw [Nat.testBit_and, Nat.testBit_shiftLeft, decide_eq_true (by omega), Nat.add_sub_cancel, Bool.true_and] at t
      rw [Nat.testBit_and, Nat.testBit_div_two_pow]
      exact t
    · intro h i
      rw [Nat.testBit_and, Nat.testBit_shiftLeft]
      by_cases c : i ≥ 8
      · have t := h (i - 8)
        rw [Nat.testBit_and, Nat.testBit_div_two_pow, Nat.sub_add_cancel c] at t
        rw [decide_eq_true c, Bool.true_and]
        exact t
      · rw [decide_eq_false c]; rfl
  rw [g]
  exact ⟨fun h => e.trans h, fun h => e.symm.trans h⟩
theorem cu_or0 {a b Z : Nat} : (a ||| b) &&& Z = 0 ↔ a &&& Z = 0 ∧ b &&& Z = 0 := by
  rw [cu_z, cu_z, cu_z]
  constructor
  · intro h
    refine ⟨fun i => ?_, fun i => ?_⟩ <;> · have t := h i; rw [Nat.testBit_and, Nat.testBit_or] at t; rw [Nat.testBit_and]; revert t; cases a.testBit i <;> cases b.testBit i <;> simp
  · intro ⟨h1, h2⟩ i
    have t1 := h1 i
    have t2 := h2 i
    rw [Nat.testBit_and] at t1 t2
    rw [Nat.testBit_and, Nat.testBit_or]
    revert t1 t2
    cases a.testBit i <;> cases b.testBit i <;> simp
theorem cu_b2 {Z k : Nat} (hk : k < 27) : cu_im Z (54 + k) = true ↔ cu_im (Z % 256 ||| Z / 256 % 256) k = true := by
  have h0 := cu_b0 (Z := Z) hk
  have h1 := cu_b1 (Z := Z) hk
  rw [cu_imI, cu_imI] at h0 h1
  rw [cu_imI, cu_imI, (cu_l8 k hk).2.2, cu_or0, h0, ← (cu_l8 k hk).2.1, h1, Nat.and_comm (cu_cc k) (Z % 256 ||| Z / 256 % 256), cu_or0, Nat.and_comm _ (cu_cc k), Nat.and_comm _ (cu_cc k)]
theorem cu_dgb : ∀ k, k < 27 → ∀ s, s < 3 → cu_dg (27 + k) s = cu_dg k s ∧ cu_dg (54 + k) s = cu_dg k s ∧ (cu_dg k s ≠ 2 → cu_gw k s < 27 ∧ cu_gw (27 + k) s = 27 + cu_gw k s ∧ cu_gw (54 + k) s = 54 + cu_gw k s) := by decide +kernel
theorem cu_dg3 : ∀ k, k < 27 → cu_dg k 3 ≠ 2 ∧ cu_gw k 3 = 54 + k ∧ cu_dg (27 + k) 3 ≠ 2 ∧ cu_gw (27 + k) 3 = 54 + k := by decide +kernel
theorem cu_prI {Z S k : Nat} : cu_pr Z S k = true ↔ cu_im Z k = true ∧ ¬ cu_gr Z k S = true := by
  unfold cu_pr
  rw [Bool.and_eq_true]
  cases cu_gr Z k S <;> simp
theorem cu_16 (Z : Nat) : cu_n (cu_pr Z 4) 81 ≤ 16 := by
  have e : cu_n (cu_pr Z 4) 81 = cu_n (cu_pr Z 4) 27 + cu_n (fun k => cu_pr Z 4 (27 + k)) 27 + cu_n (fun k => cu_pr Z 4 (54 + k)) 27 := by
    rw [show (81 : Nat) = 54 + 27 from rfl, cu_n_add, show (54 : Nat) = 27 + 27 from rfl, cu_n_add]
  have p := cu_pair (Z := Z % 256) (Y := Z / 256 % 256) (Nat.mod_lt _ (by decide)) (Nat.mod_lt _ (by decide))
  have m0 : cu_n (cu_pr Z 4) 27 ≤ cu_n3 (Z % 256) (Z / 256 % 256) := by
    refine cu_n_mono 27 (fun k hk h => ?_)
    rw [cu_prI, cu_grI] at h
    rw [Bool.and_eq_true, cu_prI, cu_grI]
    refine ⟨⟨(cu_b0 hk).mp h.1, fun ⟨s, a, b, c⟩ => h.2 ⟨s, by omega, b, (cu_b0 ((cu_dgb k hk s a).2.2 b).1).mpr c⟩⟩, ?_⟩
    cases g : cu_im (Z / 256 % 256) k
    · rfl
    · refine absurd ⟨3, by omega, (cu_dg3 k hk).1, ?_⟩ h.2
      rw [(cu_dg3 k hk).2.1, cu_b2 hk, cu_imI, Nat.and_comm, cu_or0, Nat.and_comm _ (cu_cc k), Nat.and_comm _ (cu_cc k), ← cu_imI, ← cu_imI]
      exact ⟨(cu_b0 hk).mp h.1, g⟩
  have m1 : cu_n (fun k => cu_pr Z 4 (27 + k)) 27 ≤ cu_n3 (Z / 256 % 256) (Z % 256) := by
    refine cu_n_mono 27 (fun k hk h => ?_)
    rw [cu_prI, cu_grI] at h
    rw [Bool.and_eq_true, cu_prI, cu_grI]
    refine ⟨⟨(cu_b1 hk).mp h.1, fun ⟨s, a, b, c⟩ => h.2 ⟨s, by omega, ?_, ?_⟩⟩, ?_⟩
    · rw [(cu_dgb k hk s a).1]; exact b
    · rw [((cu_dgb k hk s a).2.2 b).2.1]
      exact (cu_b1 ((cu_dgb k hk s a).2.2 b).1).mpr c
    cases g : cu_im (Z % 256) k
    · rfl
    · refine absurd ⟨3, by omega, (cu_dg3 k hk).2.2.1, ?_⟩ h.2
      rw [(cu_dg3 k hk).2.2.2, cu_b2 hk, cu_imI, Nat.and_comm, cu_or0, Nat.and_comm _ (cu_cc k), Nat.and_comm _ (cu_cc k), ← cu_imI, ← cu_imI]
      exact ⟨g, (cu_b1 hk).mp h.1⟩
  have m2 : cu_n (fun k => cu_pr Z 4 (54 + k)) 27 ≤ cu_m3 (Z % 256 ||| Z / 256 % 256) := by
    refine cu_n_mono 27 (fun k hk h => ?_)
    rw [cu_prI, cu_grI] at h
    rw [cu_prI, cu_grI]
    refine ⟨(cu_b2 hk).mp h.1, fun ⟨s, a, b, c⟩ => h.2 ⟨s, by omega, ?_, ?_⟩⟩
    · rw [(cu_dgb k hk s a).2.1]; exact b
    · rw [((cu_dgb k hk s a).2.2 b).2.2]
      exact (cu_b2 ((cu_dgb k hk s a).2.2 b).1).mpr c
  omega
theorem cu_max (Z : Nat) {S : Nat} (hS : S ≤ 4) : cu_n (cu_pr Z S) (3 ^ S) ≤ 16 := by
  rcases (by omega : S = 4 ∨ S = 3 ∨ S ≤ 2) with h | h | h
  · subst h; exact cu_16 Z
  · subst h
    have m : cu_n (cu_pr Z 3) 27 ≤ cu_m3 (Z % 256) := by
      refine cu_n_mono 27 (fun k hk h => ?_)
      rw [cu_prI, cu_grI] at h
      rw [cu_prI, cu_grI]
      exact ⟨(cu_b0 hk).mp h.1, fun ⟨s, a, b, c⟩ => h.2 ⟨s, a, b, (cu_b0 ((cu_dgb k hk s a).2.2 b).1).mpr c⟩⟩
    have f := (cu_fa (Z % 256) (Nat.mod_lt _ (by decide))).1
    show cu_n (cu_pr Z 3) 27 ≤ 16
    omega
  · have l := cu_n_le (cu_pr Z S) (3 ^ S)
    have q : 3 ^ S ≤ 3 ^ 2 := Nat.pow_le_pow_right (by decide) h
    have r : (3 : Nat) ^ 2 = 9 := by decide
    omega
/-! every code outside Z lies in a prime -/
theorem cu_ex {Z S : Nat} (hS : S ≤ 4) (c : Nat) : ∀ d k, k < 3 ^ S → 3 ^ S - k ≤ d → cu_im Z k = true → (cu_cc k).testBit c = true → ∃ j, j < 3 ^ S ∧ cu_pr Z S j = true ∧ (cu_cc j).testBit c = true := by
  intro d
  induction d with
  | zero => intro k h1 h2; exact absurd h2 (by omega)
  | succ d ih =>
    intro k h1 h2 h3 h4
    by_cases g : cu_gr Z k S = true
    · obtain ⟨s, a, b, e⟩ := (cu_grI S).mp g
      obtain ⟨f1, f2, f3⟩ := cu_g1 S (by omega) k h1 s a b
      refine ih _ f2 (by omega) e ?_
      rw [← f3, Nat.testBit_and, Bool.and_eq_true] at h4
      exact h4.2
    · exact ⟨k, h1, cu_prI.mpr ⟨h3, g⟩, h4⟩
theorem cu_cov {Z S c : Nat} (hS : S ≤ 4) (hc : c < 2 ^ S) (hz : Z.testBit c = false) : ∃ j, j < 3 ^ S ∧ cu_pr Z S j = true ∧ (cu_cc j).testBit c = true := by
  obtain ⟨m1, m2⟩ := cu_m1 S (by omega) c hc
  refine cu_ex hS c _ (cu_mt c) m1 (Nat.le_refl _) ?_ ?_
  · rw [cu_imI, m2, cu_z]
    intro i
    rw [Nat.testBit_and, Nat.testBit_two_pow]
    by_cases e : c = i
    · subst e; rw [hz, Bool.and_false]
    · rw [decide_eq_false e, Bool.false_and]
  · rw [m2, Nat.testBit_two_pow_self]
end
section
/-! marked states (a bit each in 16 longs) and the work queue -/
section
variable {pC sC tC iS sM sD vN nS uM iM qE pT cD dC mC : Int32} {a1 a2 a3 a4 a6 a7 a8 a9 a10 a11 a12 a13 a14 a15 a16 a17 a18 a19 a20 a22 : Nat → Int32} {a5 a21 : Nat → Int64}
def qu_m (b : Nat → Int64) (k : Nat) : Prop := (b (k / 64)).toBitVec.getLsbD (k % 64) = true
def qu_i (G : Nat → Prop) (b : Nat → Int64) (q : Nat → Int32) (e : Nat) : Prop :=
  e ≤ 1024 ∧ (∀ j, j < e → ∃ k, k < 1024 ∧ q j = nI k ∧ qu_m b k ∧ G k) ∧ (∀ i j, i < e → j < e → q i = q j → i = j) ∧ (∀ k, k < 1024 → qu_m b k → ∃ j, j < e ∧ q j = nI k)
theorem qu_bit : ∀ j, j < 64 → ((1 : Int64) <<< ((nI j).toInt64 &&& 63)).toBitVec = BitVec.twoPow 64 j := by decide +kernel
theorem qu_sh : ∀ k, k < 1024 → (nI k).toInt16.toInt32 = nI k := by decide +kernel
theorem qu_and {w m : Int64} {j : Nat} (hj : j < 64) (hm : m.toBitVec = BitVec.twoPow 64 j) : (w &&& m) = 0 ↔ w.toBitVec.getLsbD j = false := by
  rw [← Int64.toBitVec_inj, Int64.toBitVec_and, hm]
  show _ = 0#64 ↔ _
  constructor
  · intro h
    have t := congrArg (fun x => x.getLsbD j) h
    simp only [BitVec.getLsbD_and, BitVec.getLsbD_twoPow] at t
    simpa [hj] using t
  · intro h
    apply BitVec.eq_of_getLsbD_eq
    intro i hi
    rw [BitVec.getLsbD_and, BitVec.getLsbD_twoPow]
    by_cases e : j = i
    · subst e; rw [h]; simp
    · simp [e]
theorem qu_or {w m : Int64} {j : Nat} (hj : j < 64) (hm : m.toBitVec = BitVec.twoPow 64 j) (i : Nat) : (w ||| m).toBitVec.getLsbD i = true ↔ w.toBitVec.getLsbD i = true ∨ i = j := by
  rw [Int64.toBitVec_or, BitVec.getLsbD_or, hm, BitVec.getLsbD_twoPow]
  rw [Bool.or_eq_true, Bool.and_eq_true, decide_eq_true_eq, decide_eq_true_eq]
  exact ⟨fun h => h.elim Or.inl (fun g => Or.inr g.2.symm), fun h => h.elim Or.inl (fun g => Or.inr ⟨hj, g.symm⟩)⟩
theorem qu_pig : ∀ (N e : Nat) (f : Nat → Nat), (∀ j, j < e → f j < N) → (∀ i j, i < e → j < e → f i = f j → i = j) → e ≤ N := by
  intro N
  induction N with
  | zero =>
    intro e f h _
    rcases Nat.eq_zero_or_pos e with z | z
    · omega
    · exact absurd (h 0 z) (by omega)
  | succ N ih =>
    intro e f h inj
    cases e with
    | zero => omega
    | succ e =>
      have key : e ≤ N := by
        refine ih e (fun j => if f j = N then f e else f j) (fun j hj => ?_) (fun i j hi hj hij => ?_)
        · show (if f j = N then f e else f j) < N
          have b1 := h j (by omega)
          have b2 := h e (by omega)
          split
          · rename_i c
            have : f e ≠ N := fun g => absurd (inj e j (by omega) (by omega) (by omega)) (by omega)
            omega
          · omega
        · have hij' : (if f i = N then f e else f i) = (if f j = N then f e else f j) := hij
          by_cases ci : f i = N <;> by_cases cj : f j = N
          · exact inj i j (by omega) (by omega) (by omega)
          · rw [if_pos ci, if_neg cj] at hij'
            exact absurd (inj e j (by omega) (by omega) hij') (by omega)
          · rw [if_neg ci, if_pos cj] at hij'
            exact absurd (inj i e (by omega) (by omega) hij') (by omega)
          · rw [if_neg ci, if_neg cj] at hij'
            exact inj i j (by omega) (by omega) hij'
      omega
theorem qu_lt {G : Nat → Prop} {b : Nat → Int64} {q : Nat → Int32} {e k : Nat} (h : qu_i G b q e) (hk : k < 1024) (hm : ¬ qu_m b k) : e < 1024 := by
  obtain ⟨h1, h2, h3, h4⟩ := h
  have key : e + 1 ≤ 1024 := by
    refine qu_pig 1024 (e + 1) (fun j => if j < e then (q j).toNatClampNeg else k) (fun j hj => ?_) (fun i j hi hj hij => ?_)
    · show (if j < e then (q j).toNatClampNeg else k) < 1024
      split
      · rename_i c
        obtain ⟨k', a, b', _⟩ := h2 j c
        rw [b', nI_clamp (by omega)]; exact a
      · exact hk
    · have hij' : (if i < e then (q i).toNatClampNeg else k) = (if j < e then (q j).toNatClampNeg else k) := hij
      have ne : ∀ x, x < e → (q x).toNatClampNeg ≠ k := by
        intro x hx g
        obtain ⟨k', a, b', c', _⟩ := h2 x hx
        rw [b', nI_clamp (by omega)] at g
        exact hm (g ▸ c')
      by_cases ci : i < e <;> by_cases cj : j < e
      · rw [if_pos ci, if_pos cj] at hij'
        refine h3 i j ci cj ?_
        obtain ⟨k1, a1, b1, _⟩ := h2 i ci
        obtain ⟨k2, a2, b2, _⟩ := h2 j cj
        rw [b1, b2, nI_clamp (by omega), nI_clamp (by omega)] at hij'
        rw [b1, b2, hij']
      · rw [if_pos ci, if_neg cj] at hij'
        exact absurd hij' (ne i ci)
      · rw [if_neg ci, if_pos cj] at hij'
        exact absurd hij'.symm (ne j cj)
      · omega
  omega
theorem qu_put {b : Nat → Int64} {m : Int64} {k : Nat} (hm : m.toBitVec = BitVec.twoPow 64 (k % 64)) (k' : Nat) : qu_m (vp_updL b (k / 64) (b (k / 64) ||| m)) k' ↔ qu_m b k' ∨ k' = k := by
  unfold qu_m
  by_cases e : k' / 64 = k / 64
  · rw [e, pk_uLs, qu_or (Nat.mod_lt _ (by decide)) hm]
    constructor
    · intro h
      rcases h with h | h
      · exact Or.inl h
      · exact Or.inr (by omega)
    · intro h
      rcases h with h | h
      · exact Or.inl h
      · exact Or.inr (by rw [h])
  · rw [pk_uLn e]
    exact ⟨Or.inl, fun h => h.resolve_right (fun g => e (by rw [g]))⟩
theorem qu_add {G : Nat → Prop} {b : Nat → Int64} {q : Nat → Int32} {e k : Nat} {m : Int64} (hm : m.toBitVec = BitVec.twoPow 64 (k % 64)) (h : qu_i G b q e) (hk : k < 1024) (hn : ¬ qu_m b k) (hG : G k) :
    qu_i G (vp_updL b (k / 64) (b (k / 64) ||| m)) (upd q e (nI k)) (e + 1) := by
  have l := qu_lt h hk hn
  obtain ⟨h1, h2, h3, h4⟩ := h
  have nek : ∀ x, x < e → q x ≠ nI k := by
    intro x hx g
    obtain ⟨k', a, b', c', _⟩ := h2 x hx
    rw [g] at b'
    have : k = k' := (nI_eq (by omega) (by omega)).mp b'
    exact hn (this ▸ c')
  refine ⟨by omega, fun j hj => ?_, fun i j hi hj hij => ?_, fun k' hk' hm' => ?_⟩
  · by_cases c : j = e
    · subst c
      exact ⟨k, hk, pk_us, (qu_put hm k).mpr (Or.inr rfl), hG⟩
    · obtain ⟨k', x1, x2, x3, x4⟩ := h2 j (by omega)
      exact ⟨k', x1, by rw [pk_un c]; exact x2, (qu_put hm k').mpr (Or.inl x3), x4⟩
  · by_cases ci : i = e <;> by_cases cj : j = e
    · omega
    · rw [ci, pk_us, pk_un cj] at hij
      exact absurd hij.symm (nek j (by omega))
    · rw [cj, pk_us, pk_un ci] at hij
      exact absurd hij (nek i (by omega))
    · rw [pk_un ci, pk_un cj] at hij
      exact h3 i j (by omega) (by omega) hij
  · rcases (qu_put hm k').mp hm' with c | c
    · obtain ⟨j, x1, x2⟩ := h4 k' hk' c
      exact ⟨j, by omega, by rw [pk_un (by omega)]; exact x2⟩
    · subst c
      exact ⟨e, by omega, pk_us⟩
theorem qu_0 {G : Nat → Prop} {b : Nat → Int64} {q : Nat → Int32} (h : ∀ i, i < 16 → b i = 0) : qu_i G b q 0 := by
  refine ⟨by omega, fun j hj => absurd hj (by omega), fun i j hi => absurd hi (by omega), fun k hk hm => ?_⟩
  unfold qu_m at hm
  rw [h (k / 64) (by omega)] at hm
  have z : (0 : Int64).toBitVec.getLsbD (k % 64) = false := BitVec.getLsbD_zero
  rw [z] at hm
  exact absurd hm (by decide)
theorem qu_reach {post : St2 → Prop} {G : Nat → Prop} {e k : Nat} {p0 : Int32} (hp : p0 = nI k) (hq : qu_i G a5 a6 e) (hk : k < 1024) (hG : G k)
    (H : ∀ (e' : Nat) (b' : Nat → Int64) (q' : Nat → Int32), qu_i G b' q' e' → e ≤ e' → (∀ j, j < e → q' j = a6 j) → (∃ j, j < e' ∧ q' j = nI k) → post (pC, sC, tC, iS, sM, sD, vN, nS, uM, iM, nI e', pT, cD, dC, mC, a1, a2, a3, a4, b', q', a7, a8, a9, a10, a11, a12, a13, a14, a15, a16, a17, a18, a19, a20, a21, a22)) :
    wpX_reach post (pC, sC, tC, iS, sM, sD, vN, nS, uM, iM, nI e, pT, cD, dC, mC, a1, a2, a3, a4, a5, a6, a7, a8, a9, a10, a11, a12, a13, a14, a15, a16, a17, a18, a19, a20, a21, a22) p0 := by
  subst hp
  have e6 : nI k >>> ((6 : Int32) &&& 31) = nI (k / 64) := pk_shrN (by omega) _ 6 (by decide)
  have e63 : nI k &&& 63 = nI (k % 64) := pk_andN (by omega) 6 (by decide)
  have hb := qu_bit (k % 64) (Nat.mod_lt _ (by decide))
  unfold wpX_reach
  dsimp only
  rw [e6, e63, nI_clamp (show k / 64 < 2 ^ 31 by omega)]
  refine nm_e ⟨pk_in (k / 64) 16 (by omega), br_c (fun z => ?_) (fun z => ?_)⟩
  · rw [qu_and (Nat.mod_lt _ (by decide)) hb] at z
    have hn : ¬ qu_m a5 k := fun g => by unfold qu_m at g; rw [g] at z; exact absurd z (by decide)
    have l := qu_lt hq hk hn
    refine ⟨pk_in (k / 64) 16 (by omega), pk_in (k / 64) 16 (by omega), nm_e ⟨pk_in e 1024 l, nm_e (nm_r (nI_1 e) ?_)⟩⟩
    rw [nI_clamp (by omega), qu_sh k hk]
    exact H (e + 1) _ _ (qu_add hb hq hk hn hG) (by omega) (fun j hj => pk_un (by omega)) ⟨e, by omega, pk_us⟩
  · rw [qu_and (Nat.mod_lt _ (by decide)) hb] at z
    obtain ⟨j, x1, x2⟩ := hq.2.2.2 k hk (bi_nf z)
    exact H e a5 a6 hq (Nat.le_refl e) (fun j _ => rfl) ⟨j, x1, x2⟩
theorem qu_meet {post : St2 → Prop} {G : Nat → Prop} {e k : Nat} {p0 : Int32} (hp : p0 = nI k) (hq : qu_i G a21 a6 e) (hk : k < 1024) (hG : G k)
    (H : ∀ (e' : Nat) (b' : Nat → Int64) (q' : Nat → Int32), qu_i G b' q' e' → e ≤ e' → (∀ j, j < e → q' j = a6 j) → (∃ j, j < e' ∧ q' j = nI k) → post (pC, sC, tC, iS, sM, sD, vN, nS, uM, iM, nI e', pT, cD, dC, mC, a1, a2, a3, a4, a5, q', a7, a8, a9, a10, a11, a12, a13, a14, a15, a16, a17, a18, a19, a20, b', a22)) :
    wpX_meet post (pC, sC, tC, iS, sM, sD, vN, nS, uM, iM, nI e, pT, cD, dC, mC, a1, a2, a3, a4, a5, a6, a7, a8, a9, a10, a11, a12, a13, a14, a15, a16, a17, a18, a19, a20, a21, a22) p0 := by
  subst hp
  have e6 : nI k >>> ((6 : Int32) &&& 31) = nI (k / 64) := pk_shrN (by omega) _ 6 (by decide)
  have e63 : nI k &&& 63 = nI (k % 64) := pk_andN (by omega) 6 (by decide)
  have hb := qu_bit (k % 64) (Nat.mod_lt _ (by decide))
  unfold wpX_meet
  dsimp only
  rw [e6, e63, nI_clamp (show k / 64 < 2 ^ 31 by omega)]
  refine nm_e ⟨pk_in (k / 64) 16 (by omega), br_c (fun z => ?_) (fun z => ?_)⟩
  · rw [qu_and (Nat.mod_lt _ (by decide)) hb] at z
    have hn : ¬ qu_m a21 k := fun g => by unfold qu_m at g; rw [g] at z; exact absurd z (by decide)
    have l := qu_lt hq hk hn
    refine ⟨pk_in (k / 64) 16 (by omega), pk_in (k / 64) 16 (by omega), nm_e ⟨pk_in e 1024 l, nm_e (nm_r (nI_1 e) ?_)⟩⟩
    rw [nI_clamp (by omega), qu_sh k hk]
    exact H (e + 1) _ _ (qu_add hb hq hk hn hG) (by omega) (fun j hj => pk_un (by omega)) ⟨e, by omega, pk_us⟩
  · rw [qu_and (Nat.mod_lt _ (by decide)) hb] at z
    obtain ⟨j, x1, x2⟩ := hq.2.2.2 k hk (bi_nf z)
    exact H e a21 a6 hq (Nat.le_refl e) (fun j _ => rfl) ⟨j, x1, x2⟩
end
end
section
/-! the net, and its walk -/
section
variable {pC sC tC iS sM sD vN nS uM iM qE pT cD dC mC : Int32} {a1 a2 a3 a4 a6 a7 a8 a9 a10 a11 a12 a13 a14 a15 a16 a17 a18 a19 a20 a22 : Nat → Int32} {a5 a21 : Nat → Int64}
def ne_en (a3 : Nat → Int32) (m t : Nat) : Prop := (nI m &&& a3 t) = a3 t
def ne_nx (a1 a3 a4 : Nat → Int32) (m c t : Nat) : Int32 := (16 * ((nI m &&& (a3 t ^^^ (-1))) ||| a4 t)) + (nI c ^^^ ((1 : Int32) <<< (a1 t &&& 31)))
def ne_W (S T : Nat) (a1 a3 a4 : Nat → Int32) : Prop := 1 ≤ S ∧ S ≤ 4 ∧ T ≤ 12 ∧ ∀ t, t < T → ∃ s p q, a1 t = nI s ∧ s < S ∧ a3 t = nI p ∧ p < 64 ∧ a4 t = nI q ∧ q < 64
def ne_R (S T : Nat) (a1 a3 a4 a7 a9 : Nat → Int32) (st : Nat) (R : Nat → Prop) : Prop :=
  R st ∧ ∀ k, R k → k < 1024 ∧ k % 16 < 2 ^ S ∧ ¬ a7 (k % 16) = 0 ∧ (∀ t, t < T → ne_en a3 (k / 16) t → ∃ k', ne_nx a1 a3 a4 (k / 16) (k % 16) t = nI k' ∧ R k') ∧ (∀ s, bt (a9 (k % 16)) s = true → ∃ t, t < T ∧ ne_en a3 (k / 16) t ∧ a1 t = nI s)
def ne_C (S : Nat) (iS : Int32) (a7 a8 a9 : Nat → Int32) : Prop := ∀ s, s < S → bt iS s = false → ∀ c, c < 2 ^ S → ¬ a7 c = 0 → bt (a8 c) s = true → bt (a9 c) s = true
theorem ne_nxk {S T m c t : Nat} (hw : ne_W S T a1 a3 a4) (hm : m < 64) (hc : c < 2 ^ S) (ht : t < T) : ∃ k, k < 1024 ∧ k % 16 < 2 ^ S ∧ ne_nx a1 a3 a4 m c t = nI k := by
  obtain ⟨_, hS, _, hw⟩ := hw
  obtain ⟨s, p, q, h1, h2, h3, h4, h5, h6⟩ := hw t ht
  have p2 := bi_p2 hS
  have e : ne_nx a1 a3 a4 m c t = nI (16 * ((m &&& (p ^^^ 4294967295)) ||| q) + (c ^^^ 2 ^ s)) := by
    unfold ne_nx
    rw [h1, h3, h5, bi_m1, nx_xor, nx_and, bi_or, bi_sn s (by omega), nx_xor, show (16 : Int32) = nI 16 from rfl, pk_mul, nI_add]
  have l1 : (m &&& (p ^^^ 4294967295)) ||| q < 2 ^ 6 := Nat.or_lt_two_pow (Nat.lt_of_le_of_lt Nat.and_le_left hm) h6
  have l2 : c ^^^ 2 ^ s < 2 ^ S := Nat.xor_lt_two_pow hc (Nat.pow_lt_pow_right (by decide) h2)
  have l3 : (2 : Nat) ^ 6 = 64 := by decide
  exact ⟨_, by omega, by omega, e⟩
def wn_I (S T : Nat) (a1 a3 a4 : Nat → Int32) (st i : Nat) (u v : Int32) (e : Nat) (b5 : Nat → Int64) (b6 b7 b9 : Nat → Int32) : Prop :=
  qu_i (fun k => k % 16 < 2 ^ S) b5 b6 e ∧ i ≤ e ∧ (∃ j, j < e ∧ b6 j = nI st) ∧ ∀ j, j < i → ∀ k, k < 1024 → b6 j = nI k → ¬ b7 (k % 16) = 0 ∧ (∀ s, bt (b9 (k % 16)) s = true → ∃ t, t < T ∧ ne_en a3 (k / 16) t ∧ a1 t = nI s) ∧ (u = 0 → v = 0 → ∀ t, t < T → ne_en a3 (k / 16) t → ∃ k', ne_nx a1 a3 a4 (k / 16) (k % 16) t = nI k' ∧ ∃ j', j' < e ∧ b6 j' = nI k')
theorem wn_end {S T st i e : Nat} {u v : Int32} {b5 : Nat → Int64} {b6 b7 b9 : Nat → Int32} (hst : st < 1024) (h : wn_I S T a1 a3 a4 st i u v e b5 b6 b7 b9) (he : e ≤ i) : u = 0 → v = 0 → ∃ R, ne_R S T a1 a3 a4 b7 b9 st R := by
  intro hu hv
  obtain ⟨h1, h2, h3, h4⟩ := h
  refine ⟨fun k => k < 1024 ∧ ∃ j, j < e ∧ b6 j = nI k, ⟨hst, h3⟩, fun k hk => ?_⟩
  obtain ⟨k1, j, k2, k3⟩ := hk
  obtain ⟨k', y1, y2, _, y4⟩ := h1.2.1 j k2
  have ek : k = k' := (nI_eq (by omega) (by omega)).mp (k3.symm.trans y2)
  subst ek
  obtain ⟨z1, z2, z3⟩ := h4 j (by omega) k k1 k3
  refine ⟨k1, y4, z1, fun t ht hen => ?_, z2⟩
  obtain ⟨k2', w1, j', w2, w3⟩ := z3 hu hv t ht hen
  obtain ⟨k'', v1, v2, _⟩ := h1.2.1 j' w2
  exact ⟨k'', by rw [w1, ← w3, v2], v1, j', w2, v2⟩
theorem wn_step {S T st i e e2 k : Nat} {u v u2 v2 x : Int32} {b5 c5 : Nat → Int64} {b6 b7 b9 c6 : Nat → Int32} (h : wn_I S T a1 a3 a4 st i u v e b5 b6 b7 b9) (hi : i < e) (hk : k < 1024) (hb : b6 i = nI k)
    (g1 : qu_i (fun k => k % 16 < 2 ^ S) c5 c6 e2) (g2 : e ≤ e2) (g3 : ∀ j, j < e → c6 j = b6 j) (g4 : u2 = 0 → u = 0) (g5 : v2 = 0 → v = 0)
    (g6 : u2 = 0 → v2 = 0 → ∀ t, t < T → ne_en a3 (k / 16) t → ∃ k', ne_nx a1 a3 a4 (k / 16) (k % 16) t = nI k' ∧ ∃ j, j < e2 ∧ c6 j = nI k')
    (g7 : ∀ s, bt x s = true → ∃ t, t < T ∧ ne_en a3 (k / 16) t ∧ a1 t = nI s) :
    wn_I S T a1 a3 a4 st (i + 1) u2 v2 e2 c5 c6 (upd b7 (k % 16) 1) (upd b9 (k % 16) (b9 (k % 16) &&& x)) := by
  refine ⟨g1, by omega, ?_, fun j hj k' hk' hb' => ?_⟩
  · obtain ⟨j, x1, x2⟩ := h.2.2.1
    exact ⟨j, by omega, by rw [g3 j x1]; exact x2⟩
  · have hb2 : b6 j = nI k' := by rw [← g3 j (by omega)]; exact hb'
    by_cases c : j = i
    · have ek : k' = k := (nI_eq (by omega) (by omega)).mp (by rw [← hb2, c, hb])
      rw [ek]
      refine ⟨by rw [pk_us]; decide, fun s hs => ?_, g6⟩
      rw [pk_us, b_and, Bool.and_eq_true] at hs
      exact g7 s hs.2
    · obtain ⟨z1, z2, z3⟩ := h.2.2.2 j (by omega) k' hk' hb2
      refine ⟨?_, fun s hs => ?_, fun hu hv t ht hen => ?_⟩
      · by_cases d : k' % 16 = k % 16
        · rw [d, pk_us]; decide
        · rw [pk_un d]; exact z1
      · by_cases d : k' % 16 = k % 16
        · rw [d, pk_us, b_and, Bool.and_eq_true] at hs
          refine z2 s ?_
          rw [d]; exact hs.1
        · rw [pk_un d] at hs
          exact z2 s hs
      · obtain ⟨k2, w1, j', w2, w3⟩ := z3 (g4 hu) (g5 hv) t ht hen
        exact ⟨k2, w1, j', by omega, by rw [g3 j' w2]; exact w3⟩
theorem ex_70 {post : St2 → Prop} {J5 : Int32 → Int32 → Int32 → Int32 → Int32 → Int32 → Int32 → Int32 → Int32 → Int32 → Int32 → Int32 → Int32 → Int32 → Int32 → Int32 → Int32 → (Nat → Int32) → (Nat → Int32) → (Nat → Int32) → (Nat → Int32) → (Nat → Int64) → (Nat → Int32) → (Nat → Int32) → (Nat → Int32) → (Nat → Int32) → (Nat → Int32) → (Nat → Int32) → (Nat → Int32) → (Nat → Int32) → (Nat → Int32) → (Nat → Int32) → (Nat → Int32) → (Nat → Int32) → (Nat → Int32) → (Nat → Int32) → (Nat → Int32) → (Nat → Int64) → (Nat → Int32) → Prop} {x1 x2 x3 x6 x7 z0 : Int32} {G : Nat → Prop} {i e k : Nat} (hi : i < 12) (hz : z0 = 0 ∨ z0 = 1) (hq : qu_i G a5 a6 e) (hk : k < 1024) (hG : G k) (hx : 16 * (x6 ||| a4 i) + (x2 ^^^ ((1 : Int32) <<< (x7 &&& 31))) = nI k)
    (H1 : ∀ (e' : Nat) (b' : Nat → Int64) (q' : Nat → Int32), qu_i G b' q' e' → e ≤ e' → (∀ j, j < e → q' j = a6 j) → (∃ j, j < e' ∧ q' j = nI k) → J5 (x3 ||| ((1 : Int32) <<< (x7 &&& 31))) (nI (i + 1)) pC sC tC iS sM sD vN nS uM iM (nI e') pT cD dC mC a1 a2 a3 a4 b' q' a7 a8 a9 a10 a11 a12 a13 a14 a15 a16 a17 a18 a19 a20 a21 a22)
    (H2 : ∀ u' v' : Int32, ¬ (u' = 0 ∧ v' = 0) → (u' = 0 → uM = 0) → (v' = 0 → iM = 0) → J5 x3 (nI (i + 1)) pC sC tC iS sM sD vN nS u' v' (nI e) pT cD dC mC a1 a2 a3 a4 a5 a6 a7 a8 a9 a10 a11 a12 a13 a14 a15 a16 a17 a18 a19 a20 a21 a22) :
    wX_expand_70 post J5 x1 x2 x3 (nI i) x6 x7 z0 pC sC tC iS sM sD vN nS uM iM (nI e) pT cD dC mC a1 a2 a3 a4 a5 a6 a7 a8 a9 a10 a11 a12 a13 a14 a15 a16 a17 a18 a19 a20 a21 a22 := by
  have h93 : ∀ w : Int32, w = 0 ∨ w = 1 → wX_expand_93 post J5 x1 x2 x3 (nI i) x6 x7 z0 w pC sC tC iS sM sD vN nS uM iM (nI e) pT cD dC mC a1 a2 a3 a4 a5 a6 a7 a8 a9 a10 a11 a12 a13 a14 a15 a16 a17 a18 a19 a20 a21 a22 := by
    intro w hw
    unfold wX_expand_93
    rcases hz with rfl | rfl
    · refine br_t rfl ?_
      unfold wX_expand_105
      rcases hw with rfl | rfl
      · refine br_t rfl ?_
        unfold wX_expand_115
        exact br_t rfl (br_t rfl (nm_e ⟨pk_in i 12 hi, nm_e (qu_reach (by rw [nI_clamp (by omega)]; exact hx) hq hk hG (fun e' b' q' h1 h2 h3 h4 => nm_r (nI_1 i) (H1 e' b' q' h1 h2 h3 h4)))⟩))
      · refine br_f (by decide) ?_
        unfold wX_expand_115
        exact br_t rfl (br_f (by decide) (nm_r (nI_1 i) (H2 uM 1 (fun z => absurd z.2 (by decide)) id (fun z => absurd z (by decide)))))
    · refine br_f (by decide) ?_
      unfold wX_expand_105
      rcases hw with rfl | rfl
      · refine br_t rfl ?_
        unfold wX_expand_115
        exact br_f (by decide) (nm_r (nI_1 i) (H2 1 iM (fun z => absurd z.1 (by decide)) (fun z => absurd z (by decide)) id))
      · refine br_f (by decide) ?_
        unfold wX_expand_115
        exact br_f (by decide) (nm_r (nI_1 i) (H2 1 1 (fun z => absurd z.1 (by decide)) (fun z => absurd z (by decide)) (fun z => absurd z (by decide))))
  unfold wX_expand_70
  exact ⟨pk_in i 12 hi, br_c (fun _ => h93 1 (Or.inr rfl)) (fun _ => h93 0 (Or.inl rfl))⟩
theorem ex_expand {post : St2 → Prop} {G : Nat → Prop} {S T e m c : Nat} (hW : ne_W S T a1 a3 a4) (hc : c < 16) (hq : qu_i G a5 a6 e)
    (hG : ∀ t, t < T → ne_en a3 m t → ∃ k, k < 1024 ∧ G k ∧ ne_nx a1 a3 a4 m c t = nI k)
    (H : ∀ (e' : Nat) (b' : Nat → Int64) (q' : Nat → Int32) (u' v' x : Int32), qu_i G b' q' e' → e ≤ e' → (∀ j, j < e → q' j = a6 j) → (u' = 0 → uM = 0) → (v' = 0 → iM = 0) →
      (u' = 0 → v' = 0 → ∀ t, t < T → ne_en a3 m t → ∃ k, ne_nx a1 a3 a4 m c t = nI k ∧ ∃ j, j < e' ∧ q' j = nI k) →
      (∀ s, bt x s = true → ∃ t, t < T ∧ ne_en a3 m t ∧ a1 t = nI s) →
      post (pC, sC, nI T, iS, sM, sD, vN, nS, u', v', nI e', pT, cD, dC, mC, a1, a2, a3, a4, b', q', upd a7 c 1, upd a8 c (a8 c ||| x), upd a9 c (a9 c &&& x), a10, a11, a12, a13, a14, a15, a16, a17, a18, a19, a20, a21, a22)) :
    wpX_expand post (pC, sC, nI T, iS, sM, sD, vN, nS, uM, iM, nI e, pT, cD, dC, mC, a1, a2, a3, a4, a5, a6, a7, a8, a9, a10, a11, a12, a13, a14, a15, a16, a17, a18, a19, a20, a21, a22) (nI m) (nI c) := by
  have hT := hW.2.2.1
  have hS := hW.2.1
  refine pk_loop (σ := Int32 × Int32 × Int32 × Nat × (Nat → Int64) × (Nat → Int32)) (fun n i s => wX_expand_5 post (nI m) (nI c) n s.1 (nI i) pC sC (nI T) iS sM sD vN nS s.2.1 s.2.2.1 (nI s.2.2.2.1) pT cD dC mC a1 a2 a3 a4 s.2.2.2.2.1 s.2.2.2.2.2 a7 a8 a9 a10 a11 a12 a13 a14 a15 a16 a17 a18 a19 a20 a21 a22)
    (fun i s => qu_i G s.2.2.2.2.1 s.2.2.2.2.2 s.2.2.2.1 ∧ e ≤ s.2.2.2.1 ∧ (∀ j, j < e → s.2.2.2.2.2 j = a6 j) ∧ (s.2.1 = 0 → uM = 0) ∧ (s.2.2.1 = 0 → iM = 0) ∧ (s.2.1 = 0 → s.2.2.1 = 0 → ∀ t, t < i → ne_en a3 m t → ∃ k, ne_nx a1 a3 a4 m c t = nI k ∧ ∃ j, j < s.2.2.2.1 ∧ s.2.2.2.2.2 j = nI k) ∧ (∀ s', bt s.1 s' = true → ∃ t, t < i ∧ ne_en a3 m t ∧ a1 t = nI s'))
    T 0 (0, uM, iM, e, a5, a6) (by omega) ⟨hq, Nat.le_refl e, fun j _ => rfl, id, id, fun _ _ t ht => absurd ht (by omega), fun s' h => absurd h (by rw [b_0]; decide)⟩ ?_ ?_
  · intro n s hI
    obtain ⟨x, u, v, e', b, q⟩ := s
    dsimp only at hI
    obtain ⟨h1, h2, h3, h4, h5, h6, h7⟩ := hI
    have hcl : (nI c).toNatClampNeg = c := nI_clamp (by omega)
    exact pk_le T T (fun _ => ⟨pk_in c 16 hc, nm_r (by rw [hcl]) ⟨pk_in c 16 hc, pk_in c 16 hc, nm_r (by rw [hcl]) ⟨pk_in c 16 hc, pk_in c 16 hc, nm_r (by rw [hcl]) (H e' b q u v x h1 h2 h3 h4 h5 h6 h7)⟩⟩⟩) (fun z => absurd z (by omega))
  · intro n i s hi hI hw
    obtain ⟨x, u, v, e', b, q⟩ := s
    dsimp only at hI
    obtain ⟨h1, h2, h3, h4, h5, h6, h7⟩ := hI
    refine pk_le T i (fun z => absurd z (by omega)) (fun _ => ⟨pk_in i 12 (by omega), nm_r (bi_cl (by omega)) ?_⟩)
    refine br_c (fun hen => nm_e ⟨pk_in i 12 (by omega), nm_r (bi_cl (by omega)) ⟨pk_in i 12 (by omega), ?_⟩⟩) (fun hen => nm_r (nI_1 i) (hw (x, u, v, e', b, q) ⟨h1, h2, h3, h4, h5, ?_, ?_⟩))
    · obtain ⟨k, k1, k2, k3⟩ := hG i hi hen
      have key : ∀ z0 : Int32, z0 = 0 ∨ z0 = 1 → wX_expand_70 post (wX_expand_5 post (nI m) (nI c) n) (nI m) (nI c) x (nI i) (nI m &&& (a3 i ^^^ (-1))) (a1 i) z0 pC sC (nI T) iS sM sD vN nS u v (nI e') pT cD dC mC a1 a2 a3 a4 b q a7 a8 a9 a10 a11 a12 a13 a14 a15 a16 a17 a18 a19 a20 a21 a22 := by
        intro z0 hz
        refine ex_70 (by omega) hz h1 k1 k2 k3 (fun e2 b2 q2 g1 g2 g3 g4 => ?_) (fun u2 v2 g1 g2 g3 => ?_)
        · refine hw (x ||| ((1 : Int32) <<< (a1 i &&& 31)), u, v, e2, b2, q2) ⟨g1, Nat.le_trans h2 g2, fun j hj => (g3 j (Nat.lt_of_lt_of_le hj h2)).trans (h3 j hj), h4, h5, fun z1 z2 t ht ht' => ?_, fun s' hs' => ?_⟩
          · by_cases c : t = i
            · subst c
              exact ⟨k, k3, g4⟩
            · obtain ⟨k', x1, j, x2, x3⟩ := h6 z1 z2 t (by omega) ht'
              exact ⟨k', x1, j, Nat.lt_of_lt_of_le x2 g2, (g3 j x2).trans x3⟩
          · have hs2 : bt (x ||| ((1 : Int32) <<< (a1 i &&& 31))) s' = true := hs'
            rw [b_or, Bool.or_eq_true] at hs2
            rcases hs2 with d | d
            · obtain ⟨t, x1, x2⟩ := h7 s' d
              exact ⟨t, by omega, x2⟩
            · obtain ⟨s, _, _, y1, y2, _⟩ := hW.2.2.2 i hi
              have l := bi_lt d
              rw [y1, bi_s1 s (by omega) s' l] at d
              exact ⟨i, by omega, hen, by rw [y1, of_decide_eq_true d]⟩
        · refine hw (x, u2, v2, e', b, q) ⟨h1, h2, h3, fun z => h4 (g2 z), fun z => h5 (g3 z), fun z1 z2 => absurd ⟨z1, z2⟩ g1, fun s' hs' => ?_⟩
          obtain ⟨t, x1, x2⟩ := h7 s' hs'
          exact ⟨t, by omega, x2⟩
      exact br_c (fun _ => key 0 (Or.inl rfl)) (fun _ => key 1 (Or.inr rfl))
    · intro z1 z2 t ht ht'
      refine h6 z1 z2 t ?_ ht'
      rcases Nat.lt_or_ge t i with d | d
      · exact d
      · have d' : t = i := by omega
        rw [d'] at ht'
        exact absurd ht' hen
    · intro s' hs'
      obtain ⟨t, x1, x2⟩ := h7 s' hs'
      exact ⟨t, by omega, x2⟩
theorem wn_76 {post : St2 → Prop} {S T e st : Nat} (hs1 : st < 1024) (hW : ne_W S T a1 a3 a4) (hq : qu_i (fun k => k % 16 < 2 ^ S) a5 a6 e) (hst : ∃ j, j < e ∧ a6 j = nI st)
    (H : ∀ (e' : Nat) (u' v' : Int32) (b5 : Nat → Int64) (b6 b7 b8 b9 : Nat → Int32), (u' = 0 → v' = 0 → ∃ R, ne_R S T a1 a3 a4 b7 b9 st R) → post (pC, sC, nI T, iS, sM, sD, vN, nI e', u', v', nI e', pT, cD, dC, mC, a1, a2, a3, a4, b5, b6, b7, b8, b9, a10, a11, a12, a13, a14, a15, a16, a17, a18, a19, a20, a21, a22)) :
    ∃ n, wX_walkNet_76 post n 0 pC sC (nI T) iS sM sD vN nS uM iM (nI e) pT cD dC mC a1 a2 a3 a4 a5 a6 a7 a8 a9 a10 a11 a12 a13 a14 a15 a16 a17 a18 a19 a20 a21 a22 := by
  refine pk_loop (σ := Int32 × Int32 × Nat × (Nat → Int64) × (Nat → Int32) × (Nat → Int32) × (Nat → Int32) × (Nat → Int32)) (fun n i s => wX_walkNet_76 post n (nI i) pC sC (nI T) iS sM sD vN nS s.1 s.2.1 (nI s.2.2.1) pT cD dC mC a1 a2 a3 a4 s.2.2.2.1 s.2.2.2.2.1 s.2.2.2.2.2.1 s.2.2.2.2.2.2.1 s.2.2.2.2.2.2.2 a10 a11 a12 a13 a14 a15 a16 a17 a18 a19 a20 a21 a22)
    (fun i s => wn_I S T a1 a3 a4 st i s.1 s.2.1 s.2.2.1 s.2.2.2.1 s.2.2.2.2.1 s.2.2.2.2.2.1 s.2.2.2.2.2.2.2)
    1024 0 (uM, iM, e, a5, a6, a7, a8, a9) (by omega) ⟨hq, by omega, hst, fun j hj => absurd hj (by omega)⟩ ?_ ?_
  · intro n s hI
    obtain ⟨u, v, e', b5, b6, b7, b8, b9⟩ := s
    have hI' : wn_I S T a1 a3 a4 st 1024 u v e' b5 b6 b7 b9 := hI
    have l := hI'.1.1
    have l' := hI'.2.1
    exact pk_le e' 1024 (fun _ => H e' u v b5 b6 b7 b8 b9 (wn_end hs1 hI' (by omega))) (fun z => absurd z (by omega))
  · intro n i s hi hI hw
    obtain ⟨u, v, e', b5, b6, b7, b8, b9⟩ := s
    have hI' : wn_I S T a1 a3 a4 st i u v e' b5 b6 b7 b9 := hI
    have l := hI'.2.1
    have l' := hI'.1.1
    refine pk_le e' i (fun z => H e' u v b5 b6 b7 b8 b9 (wn_end hs1 hI' (by omega))) (fun z => ?_)
    refine pk_le 1024 i (fun z => absurd z (by omega)) (fun _ => ⟨pk_in i 1024 hi, ?_⟩)
    obtain ⟨k, k1, k2, k3, k4⟩ := hI'.1.2.1 i z
    refine nm_r (e' := nI k) (by rw [nI_clamp (by omega)]; exact k2) (nm_r (nI_1 i) ?_)
    rw [show nI k >>> ((4 : Int32) &&& 31) = nI (k / 16) from pk_shrN (by omega) _ 4 (by decide), show nI k &&& 15 = nI (k % 16) from pk_andN (by omega) 4 (by decide)]
    refine ex_expand hW (by omega) hI'.1 (fun t ht _ => ?_) (fun e2 c5 c6 u2 v2 x g1 g2 g3 g4 g5 g6 g7 => ?_)
    · obtain ⟨k', y1, y2, y3⟩ := ne_nxk hW (m := k / 16) (c := k % 16) (by omega) k4 ht
      exact ⟨k', y1, y2, y3⟩
    · exact hw (u2, v2, e2, c5, c6, _, _, _) (wn_step hI' z k1 k2 g1 g2 g3 g4 g5 g6 g7)
theorem wn_wp {post : St2 → Prop} {S T m0 c0 : Nat} (hW : ne_W S T a1 a3 a4) (hm : m0 < 64) (hc : c0 < 2 ^ S)
    (H : ∀ (e' : Nat) (u' v' : Int32) (b5 : Nat → Int64) (b6 b7 b8 b9 : Nat → Int32), (u' = 0 → v' = 0 → ∃ R, ne_R S T a1 a3 a4 b7 b9 (16 * m0 + c0) R) → post (pC, sC, nI T, iS, nI m0, nI c0, vN, nI e', u', v', nI e', pT, cD, dC, mC, a1, a2, a3, a4, b5, b6, b7, b8, b9, a10, a11, a12, a13, a14, a15, a16, a17, a18, a19, a20, a21, a22)) :
    wpX_walkNet post (pC, sC, nI T, iS, nI m0, nI c0, vN, nS, uM, iM, qE, pT, cD, dC, mC, a1, a2, a3, a4, a5, a6, a7, a8, a9, a10, a11, a12, a13, a14, a15, a16, a17, a18, a19, a20, a21, a22) := by
  have p2 := bi_p2 hW.2.1
  refine pk_loop (σ := (Nat → Int64) × (Nat → Int32) × (Nat → Int32) × (Nat → Int32)) (fun n i s => wX_walkNet_2 post pC sC (nI T) iS (nI m0) (nI c0) vN nS uM iM qE pT cD dC mC n (nI i) a1 a2 a3 a4 s.1 a6 s.2.1 s.2.2.1 s.2.2.2 a10 a11 a12 a13 a14 a15 a16 a17 a18 a19 a20 a21 a22)
    (fun i s => ∀ j, j < i → s.1 j = 0) 16 0 (a5, a7, a8, a9) (by omega) (fun j hj => absurd hj (by omega)) ?_ ?_
  · intro n s hI
    obtain ⟨b5, b7, b8, b9⟩ := s
    refine pk_le 16 16 (fun _ => ?_) (fun z => absurd z (by omega))
    refine qu_reach (e := 0) (k := 16 * m0 + c0) (G := fun k => k % 16 < 2 ^ S) ?_ (qu_0 hI) (by omega) (by show (16 * m0 + c0) % 16 < 2 ^ S; omega) (fun e' c5 c6 h1 h2 h3 h4 => wn_76 (by omega) hW h1 h4 H)
    rw [show (16 : Int32) = nI 16 from rfl, pk_mul, nI_add]
  · intro n i s hi hI hw
    obtain ⟨b5, b7, b8, b9⟩ := s
    refine pk_le 16 i (fun z => absurd z (by omega)) (fun _ => ⟨pk_in i 16 hi, nm_r (by rw [nI_clamp (by omega)]) ⟨pk_in i 16 hi, nm_e ⟨pk_in i 16 hi, nm_e ⟨pk_in i 16 hi, nm_e (nm_r (nI_1 i) (hw (vp_updL b5 i 0, _, _, _) (fun j hj => ?_)))⟩⟩⟩⟩)
    show vp_updL b5 i 0 j = 0
    by_cases c : j = i
    · rw [c, pk_uLs]
    · rw [pk_uLn c]
      exact hI j (by omega)
end
end
section
/-! firstConflict, explore -/
section
variable {pC sC tC iS sM sD vN nS uM iM qE pT cD dC mC : Int32} {a1 a2 a3 a4 a6 a7 a8 a9 a10 a11 a12 a13 a14 a15 a16 a17 a18 a19 a20 a22 : Nat → Int32} {a5 a21 : Nat → Int64}
theorem fc_msk : ∀ S, S < 5 → ∀ s, s < S → bt (((1 : Int32) <<< (nI S &&& 31)) - 1) s = true := by decide +kernel
theorem fc_wp {post : Int32 → Prop} {S : Nat} (hS : S ≤ 4) (H1 : ne_C S iS a7 a8 a9 → post (-1)) (H2 : ∀ r, ¬ r < 0 → post r) : wpX_firstConflict post (pC, nI S, tC, iS, sM, sD, vN, nS, uM, iM, qE, pT, cD, dC, mC, a1, a2, a3, a4, a5, a6, a7, a8, a9, a10, a11, a12, a13, a14, a15, a16, a17, a18, a19, a20, a21, a22) := by
  have p2 := bi_p2 hS
  refine nm_e ?_
  refine pk_loop (σ := Unit) (fun n i _ => wX_firstConflict_18 post ((iS ^^^ (-1)) &&& (((1 : Int32) <<< (nI S &&& 31)) - 1)) pC (nI S) tC iS sM sD vN nS uM iM qE pT cD dC mC a1 a2 a3 a4 a5 a6 a7 a8 a9 a10 a11 a12 a13 a14 a15 a16 a17 a18 a19 a20 a21 a22 n (nI i))
    (fun i _ => ∀ s, s < i → bt iS s = false → ∀ c, c < 2 ^ S → ¬ a7 c = 0 → bt (a8 c) s = true → bt (a9 c) s = true) S 0 () (by omega) (fun s hs => absurd hs (by omega)) ?_ ?_
  · intro n _ hI
    exact pk_le S S (fun _ => H1 hI) (fun z => absurd z (by omega))
  · intro n i _ hi hI hw
    refine pk_le S i (fun z => absurd z (by omega)) (fun _ => ?_)
    have e1 : bt ((iS ^^^ (-1)) &&& (((1 : Int32) <<< (nI S &&& 31)) - 1)) i = !bt iS i := by
      rw [b_and, b_xor, b_m1 i (by omega), fc_msk S (by omega) i hi]
      cases bt iS i <;> rfl
    refine br_c (fun z => nm_r (nI_1 i) (hw () (fun s hs => ?_))) (fun z => ?_)
    · rw [bi_t0 _ (by omega), e1] at z
      by_cases c : s = i
      · intro g
        rw [c] at g
        rw [g] at z
        exact absurd z (by decide)
      · exact hI s (by omega)
    · refine pk_loop (σ := Unit) (fun n' j _ => wX_firstConflict_39 post (wX_firstConflict_18 post ((iS ^^^ (-1)) &&& (((1 : Int32) <<< (nI S &&& 31)) - 1)) pC (nI S) tC iS sM sD vN nS uM iM qE pT cD dC mC a1 a2 a3 a4 a5 a6 a7 a8 a9 a10 a11 a12 a13 a14 a15 a16 a17 a18 a19 a20 a21 a22 n) ((iS ^^^ (-1)) &&& (((1 : Int32) <<< (nI S &&& 31)) - 1)) (nI i) pC (nI S) tC iS sM sD vN nS uM iM qE pT cD dC mC a1 a2 a3 a4 a5 a6 a7 a8 a9 a10 a11 a12 a13 a14 a15 a16 a17 a18 a19 a20 a21 a22 n' (nI j))
        (fun j _ => ∀ c, c < j → ¬ a7 c = 0 → bt (a8 c) i = true → bt (a9 c) i = true) (2 ^ S) 0 () (Nat.zero_le _) (fun s hs => absurd hs (by omega)) ?_ ?_
      · intro n' _ hJ
        refine pk_le (2 ^ S) (2 ^ S) (fun _ => nm_r (nI_1 i) (hw () (fun s hs => ?_))) (fun z => absurd z (by omega)) (bi_sn S (by omega))
        by_cases c : s = i
        · rw [c]; exact fun _ => hJ
        · exact hI s (by omega)
      · intro n' j _ hj hJ hw'
        refine pk_le (2 ^ S) j (fun z => absurd z (by omega)) (fun _ => ⟨pk_in j 16 (by omega), pk_in j 16 (by omega), ?_⟩) (bi_sn S (by omega))
        refine nm_r (e' := (((a8 j) &&& ((a9 j) ^^^ (-1))) >>> (nI i &&& 31)) &&& 1) (by rw [nI_clamp (by omega)]) ⟨pk_in j 16 (by omega), ?_⟩
        rw [bi_cl (f := a7) (by omega)]
        refine br_c (fun z0 => nm_r (nI_1 j) (hw' () (fun c hc => ?_))) (fun z0 => br_c (fun z1 => nm_r (nI_1 j) (hw' () (fun c hc => ?_))) (fun z1 => H2 _ ?_))
        · by_cases d : c = j
          · rw [d]; exact fun g => absurd z0 g
          · exact hJ c (by omega)
        · by_cases d : c = j
          · rw [d]
            intro _ g
            rw [bi_t0 _ (by omega), b_and, g, b_xor, b_m1 i (by omega)] at z1
            revert z1
            cases bt (a9 j) i <;> decide
          · exact hJ c (by omega)
        · rw [show (16 : Int32) = nI 16 from rfl, pk_mul, nI_add]
          exact nI_pos (by omega)
theorem xp_wp {post : Int32 → St2 → Prop} {S T m0 c0 : Nat} (hW : ne_W S T a1 a3 a4) (hm : m0 < 64) (hc : c0 < 2 ^ S)
    (H0 : ¬ vN = 0 → post vN (pC, nI S, nI T, iS, nI m0, nI c0, vN, nS, uM, iM, qE, pT, cD, dC, mC, a1, a2, a3, a4, a5, a6, a7, a8, a9, a10, a11, a12, a13, a14, a15, a16, a17, a18, a19, a20, a21, a22))
    (H1 : vN = 0 → ∀ (r x1 x2 x3 x4 : Int32) (b5 : Nat → Int64) (b6 b7 b8 b9 : Nat → Int32), ¬ r = 0 → (r = 1 → ∃ R, ne_R S T a1 a3 a4 b7 b9 (16 * m0 + c0) R ∧ ne_C S iS b7 b8 b9) → post r (pC, nI S, nI T, iS, nI m0, nI c0, r, x1, x2, x3, x4, pT, cD, dC, mC, a1, a2, a3, a4, b5, b6, b7, b8, b9, a10, a11, a12, a13, a14, a15, a16, a17, a18, a19, a20, a21, a22)) :
    wpX_explore post (pC, nI S, nI T, iS, nI m0, nI c0, vN, nS, uM, iM, qE, pT, cD, dC, mC, a1, a2, a3, a4, a5, a6, a7, a8, a9, a10, a11, a12, a13, a14, a15, a16, a17, a18, a19, a20, a21, a22) := by
  refine br_c (fun z => ?_) H0
  refine wn_wp hW hm hc (fun e' u v b5 b6 b7 b8 b9 hR => ?_)
  refine br_c (fun hu => br_c (fun hv => ?_) (fun _ => H1 z 3 _ _ _ _ _ _ _ _ _ (by decide) (fun g => absurd g (by decide)))) (fun _ => H1 z 2 _ _ _ _ _ _ _ _ _ (by decide) (fun g => absurd g (by decide)))
  obtain ⟨R, hR'⟩ := hR hu hv
  exact fc_wp hW.2.1 (fun hC => br_t (by decide) (H1 z 1 _ _ _ _ _ _ _ _ _ (by decide) (fun _ => ⟨R, hR', hC⟩))) (fun r hr => br_f hr (H1 z 4 _ _ _ _ _ _ _ _ _ (by decide) (fun g => absurd g (by decide))))
end
end
section
/-! cubesInAll, markImplicants, canGrow, listPrimes -/
section
variable {pC sC tC iS sM sD vN nS uM iM qE pT cD dC mC : Int32} {a1 a2 a3 a4 a6 a7 a8 a9 a10 a11 a12 a13 a14 a15 a16 a17 a18 a19 a20 a22 : Nat → Int32} {a5 a21 : Nat → Int64}
def mi_P (Z n : Nat) (b10 b11 : Nat → Int32) : Prop := ∀ k, k < n → b11 k = nI (cu_cc k) ∧ b10 k = if cu_im Z k = true then 1 else 0
theorem ci_wp {post : Int32 → Prop} {S : Nat} (hS : S ≤ 4) (H : post (nI (3 ^ S))) : wpX_cubesInAll post (pC, nI S, tC, iS, sM, sD, vN, nS, uM, iM, qE, pT, cD, dC, mC, a1, a2, a3, a4, a5, a6, a7, a8, a9, a10, a11, a12, a13, a14, a15, a16, a17, a18, a19, a20, a21, a22) := by
  refine pk_loop (σ := Unit) (fun n i _ => wX_cubesInAll_4 post pC (nI S) tC iS sM sD vN nS uM iM qE pT cD dC mC a1 a2 a3 a4 a5 a6 a7 a8 a9 a10 a11 a12 a13 a14 a15 a16 a17 a18 a19 a20 a21 a22 n (nI (3 ^ i)) (nI i)) (fun _ _ => True) S 0 () (by omega) trivial ?_ ?_
  · intro n _ _
    exact pk_le S S (fun _ => H) (fun z => absurd z (by omega))
  · intro n i _ hi _ hw
    exact pk_le S i (fun z => absurd z (by omega)) (fun _ => nm_r (pk_mul (3 ^ i) 3) (nm_r (nI_1 i) (hw () trivial)))
theorem mi_p3 : ∀ i, i < 5 → 3 ^ i < 2 ^ 31 ∧ 0 < 3 ^ i := by decide +kernel
theorem mi_dg {k i : Nat} (hk : k < 81) (hi : i < 5) : (nI k / nI (3 ^ i)) - (nI k / nI (3 ^ i)) / 3 * 3 = nI (cu_dg k i) := by
  obtain ⟨h1, h2⟩ := mi_p3 i hi
  have l : k / 3 ^ i ≤ k := Nat.div_le_self _ _
  rw [pk_div (by omega) h2 h1, show (3 : Int32) = nI 3 from rfl, pk_rem (by omega) (by omega) (by omega)]
  rfl
theorem mi_51 {post : St2 → Prop} {J7 : Int32 → (Nat → Int32) → (Nat → Int32) → (Nat → Int32) → (Nat → Int32) → (Nat → Int64) → (Nat → Int32) → (Nat → Int32) → (Nat → Int32) → (Nat → Int32) → (Nat → Int32) → (Nat → Int32) → (Nat → Int32) → (Nat → Int32) → (Nat → Int32) → (Nat → Int32) → (Nat → Int32) → (Nat → Int32) → (Nat → Int32) → (Nat → Int32) → (Nat → Int32) → (Nat → Int64) → (Nat → Int32) → Prop} {J24 : Int32 → Int32 → Int32 → Int32 → Prop} {x1 x2 x3 x6 : Int32} {k i : Nat} (hi : i < 4) (H : J24 (nI (3 ^ (i + 1))) (nI (cu_cd k (i + 1))) x6 (nI (i + 1))) :
    wX_markImplicants_51 post J7 J24 x1 x2 x3 (nI (3 ^ i)) (nI (cu_cd k i)) x6 (nI i) (nI (cu_dg k i)) pC sC tC iS sM sD vN nS uM iM qE pT cD dC mC a1 a2 a3 a4 a5 a6 a7 a8 a9 a10 a11 a12 a13 a14 a15 a16 a17 a18 a19 a20 a21 a22 := by
  have ld : cu_dg k i < 3 := Nat.mod_lt _ (by decide)
  unfold wX_markImplicants_51
  refine pk_eq (cu_dg k i) 1 (fun z => ?_) (fun z => ?_)
  · have e : cu_cd k (i + 1) = cu_cd k i ||| 2 ^ i := if_pos z
    rw [e] at H
    exact nm_r (by rw [bi_sn i (by omega), bi_or]) (nm_r (pk_mul (3 ^ i) 3) (nm_r (nI_1 i) H))
  · have e : cu_cd k (i + 1) = cu_cd k i := if_neg z
    rw [e] at H
    exact nm_r (pk_mul (3 ^ i) 3) (nm_r (nI_1 i) H)
theorem mi_set {Z k : Nat} {b10 b11 : Nat → Int32} {x y : Int32} (h : mi_P Z k b10 b11) (hx : x = nI (cu_cc k)) (hy : y = if cu_im Z k = true then 1 else 0) : mi_P Z (k + 1) (upd b10 k y) (upd b11 k x) := by
  intro j hj
  by_cases c : j = k
  · subst c
    rw [pk_us, pk_us]
    exact ⟨hx, hy⟩
  · rw [pk_un c, pk_un c]
    exact h j (by omega)
theorem mi_or {Z a b : Nat} {k : Nat} (h : cu_cc k = cu_cc a ||| cu_cc b) : cu_im Z k = true ↔ cu_im Z a = true ∧ cu_im Z b = true := by
  rw [cu_imI, cu_imI, cu_imI, h, cu_or0]
theorem mi_if0 {c : Bool} : (if c = true then (1 : Int32) else 0) = 0 ↔ ¬ c = true := by
  cases c
  · exact ⟨fun _ => by decide, fun _ => rfl⟩
  · exact ⟨fun z => absurd z (by decide), fun z => absurd rfl z⟩
theorem mi_wp {post : St2 → Prop} {Z S : Nat} (hS : S ≤ 4) (H : ∀ b10 b11 : Nat → Int32, mi_P Z (3 ^ S) b10 b11 → post (pC, nI S, tC, iS, sM, sD, vN, nS, uM, iM, qE, pT, cD, dC, mC, a1, a2, a3, a4, a5, a6, a7, a8, a9, b10, b11, a12, a13, a14, a15, a16, a17, a18, a19, a20, a21, a22)) : wpX_markImplicants post (pC, nI S, tC, iS, sM, sD, vN, nS, uM, iM, qE, pT, cD, dC, mC, a1, a2, a3, a4, a5, a6, a7, a8, a9, a10, a11, a12, a13, a14, a15, a16, a17, a18, a19, a20, a21, a22) (nI Z) := by
  have p3 := cu_p3 S (by omega)
  refine ci_wp hS ?_
  refine pk_loop (σ := (Nat → Int32) × (Nat → Int32)) (fun n i s => wX_markImplicants_7 post (nI Z) (nI (3 ^ S)) pC (nI S) tC iS sM sD vN nS uM iM qE pT cD dC mC n (nI i) a1 a2 a3 a4 a5 a6 a7 a8 a9 s.1 s.2 a12 a13 a14 a15 a16 a17 a18 a19 a20 a21 a22) (fun i s => mi_P Z i s.1 s.2) (3 ^ S) 0 (a10, a11) (Nat.zero_le _) (fun k hk => absurd hk (by omega)) ?_ ?_
  · intro n s hI
    exact pk_le (3 ^ S) (3 ^ S) (fun _ => H s.1 s.2 hI) (fun z => absurd z (by omega))
  · intro n k s hk hI hw
    obtain ⟨b10, b11⟩ := s
    have hI' : mi_P Z k b10 b11 := hI
    refine pk_le (3 ^ S) k (fun z => absurd z (by omega)) (fun _ => ?_)
    refine pk_loop (σ := Unit) (fun n' i _ => wX_markImplicants_24 post (wX_markImplicants_7 post (nI Z) (nI (3 ^ S)) pC (nI S) tC iS sM sD vN nS uM iM qE pT cD dC mC n) (nI Z) (nI (3 ^ S)) (nI k) pC (nI S) tC iS sM sD vN nS uM iM qE pT cD dC mC a1 a2 a3 a4 a5 a6 a7 a8 a9 b10 b11 a12 a13 a14 a15 a16 a17 a18 a19 a20 a21 a22 n' (nI (3 ^ i)) (nI (cu_cd k i)) (nI (cu_fr k i)) (nI i)) (fun _ _ => True) S 0 () (by omega) trivial ?_ ?_
    · intro n' _ _
      refine pk_le S S (fun _ => ?_) (fun z => absurd z (by omega))
      have cl : (nI k).toNatClampNeg = k := nI_clamp (by omega)
      have fl : cu_fr k S ≤ 27 := by
        by_cases c : cu_fr k S = 0
        · omega
        · exact (cu_hi S (by omega) k hk c).2.1
      refine pk_eq (cu_fr k S) 0 (fun z => ?_) (fun z => ?_)
      · obtain ⟨l1, l2⟩ := cu_lo S (by omega) k hk z
        have hz : (((nI Z >>> (nI (cu_cd k S) &&& 31)) &&& 1) = 0) ↔ cu_im Z k = true := by
          rw [bi_t0 _ (by omega), bi_nI _ (by omega), cu_imI, l1, cu_z]
          constructor
          · intro g i
            rw [Nat.testBit_and, Nat.testBit_two_pow]
            by_cases e : cu_cd k S = i
            · rw [← e, g, Bool.and_false]
            · rw [decide_eq_false e, Bool.false_and]
          · intro g
            have t := g (cu_cd k S)
            rw [Nat.testBit_and, Nat.testBit_two_pow_self, Bool.true_and] at t
            exact t
        refine ⟨pk_in k 81 (by omega), nm_r (by rw [cl, bi_sn _ (by omega), ← l1]) ?_⟩
        refine br_c (fun g => ⟨pk_in k 81 (by omega), nm_r (by rw [cl]) (nm_r (nI_1 k) (hw (upd b10 k 1, upd b11 k (nI (cu_cc k))) (mi_set hI' rfl ?_)))⟩) (fun g => ⟨pk_in k 81 (by omega), nm_r (by rw [cl]) (nm_r (nI_1 k) (hw (upd b10 k 0, upd b11 k (nI (cu_cc k))) (mi_set hI' rfl ?_)))⟩)
        · rw [if_pos (hz.mp g)]
        · rw [if_neg (fun y => g (hz.mpr y))]
      · obtain ⟨l1, l2, l3⟩ := cu_hi S (by omega) k hk z
        have x1 : nI k - nI (cu_fr k S) = nI (k - cu_fr k S) := pk_sub (by omega)
        have x2 : nI k - 2 * nI (cu_fr k S) = nI (k - 2 * cu_fr k S) := by
          rw [show (2 : Int32) = nI 2 from rfl, pk_mul, pk_sub (by omega)]
        have im := mi_or (Z := Z) l3
        obtain ⟨u1, u2⟩ := hI' (k - cu_fr k S) (by omega)
        obtain ⟨v1, v2⟩ := hI' (k - 2 * cu_fr k S) (by omega)
        rw [x1, x2, cl, nI_clamp (show k - cu_fr k S < 2 ^ 31 by omega), nI_clamp (show k - 2 * cu_fr k S < 2 ^ 31 by omega)]
        refine ⟨pk_in (k - cu_fr k S) 81 (by omega), pk_in (k - 2 * cu_fr k S) 81 (by omega), pk_in k 81 (by omega), nm_r (e' := upd b11 k (nI (cu_cc k))) (by rw [u1, v1, bi_or, ← l3]) ⟨pk_in (k - cu_fr k S) 81 (by omega), ?_⟩⟩
        rw [u2, v2]
        refine br_c (fun g => ⟨pk_in k 81 (by omega), nm_e (nm_r (nI_1 k) (hw (upd b10 k 0, upd b11 k (nI (cu_cc k))) (mi_set hI' rfl ?_)))⟩) (fun g => ⟨pk_in (k - 2 * cu_fr k S) 81 (by omega), br_c (fun g' => ⟨pk_in k 81 (by omega), nm_e (nm_r (nI_1 k) (hw (upd b10 k 0, upd b11 k (nI (cu_cc k))) (mi_set hI' rfl ?_)))⟩) (fun g' => ⟨pk_in k 81 (by omega), nm_e (nm_r (nI_1 k) (hw (upd b10 k 1, upd b11 k (nI (cu_cc k))) (mi_set hI' rfl ?_)))⟩)⟩)
        · rw [if_neg (fun y => mi_if0.mp g (im.mp y).1)]
        · rw [if_neg (fun y => mi_if0.mp g' (im.mp y).2)]
        · rw [mi_if0] at g g'
          rw [if_pos (im.mpr ⟨bi_nf (fun y => g (by rw [y]; decide)), bi_nf (fun y => g' (by rw [y]; decide))⟩)]
    · intro n' i _ hi _ hw'
      refine pk_le S i (fun z => absurd z (by omega)) (fun _ => ⟨nI_ne0 (mi_p3 i (by omega)).2 (mi_p3 i (by omega)).1, by decide, nm_r (mi_dg (by omega) (by omega)) ?_⟩)
      have ld : cu_dg k i < 3 := Nat.mod_lt _ (by decide)
      have h := hw' () trivial
      refine pk_eq (cu_dg k i) 2 (fun z => mi_51 (by omega) ?_) (fun z => mi_51 (by omega) ?_)
      · have e : cu_fr k (i + 1) = 3 ^ i := if_pos z
        rw [e] at h
        exact h
      · have e : cu_fr k (i + 1) = cu_fr k i := if_neg z
        rw [e] at h
        exact h
theorem cg_wp {post : Int32 → Prop} {Z S k : Nat} (hS : S ≤ 4) (hk : k < 3 ^ S) (hP : mi_P Z (3 ^ S) a10 a11) (H0 : ¬ cu_gr Z k S = true → post 0) (H1 : cu_gr Z k S = true → post 1) : wpX_canGrow post (pC, nI S, tC, iS, sM, sD, vN, nS, uM, iM, qE, pT, cD, dC, mC, a1, a2, a3, a4, a5, a6, a7, a8, a9, a10, a11, a12, a13, a14, a15, a16, a17, a18, a19, a20, a21, a22) (nI k) := by
  have p3 := cu_p3 S (by omega)
  refine pk_loop (σ := Unit) (fun n i _ => wX_canGrow_4 post (nI k) pC (nI S) tC iS sM sD vN nS uM iM qE pT cD dC mC a1 a2 a3 a4 a5 a6 a7 a8 a9 a10 a11 a12 a13 a14 a15 a16 a17 a18 a19 a20 a21 a22 n (nI (3 ^ i)) (nI i)) (fun i _ => ∀ s, s < i → ¬ (cu_dg k s ≠ 2 ∧ cu_im Z (cu_gw k s) = true)) S 0 () (by omega) (fun s hs => absurd hs (by omega)) ?_ ?_
  · intro n _ hI
    refine pk_le S S (fun _ => H0 (fun g => ?_)) (fun z => absurd z (by omega))
    obtain ⟨s, x1, x2⟩ := (cu_grI S).mp g
    exact hI s x1 x2
  · intro n i _ hi hI hw
    have ld : cu_dg k i < 3 := Nat.mod_lt _ (by decide)
    refine pk_le S i (fun z => absurd z (by omega)) (fun _ => ⟨nI_ne0 (mi_p3 i (by omega)).2 (mi_p3 i (by omega)).1, by decide, nm_r (mi_dg (by omega) (by omega)) ?_⟩)
    refine pk_eq (cu_dg k i) 2 (fun z => nm_r (pk_mul (3 ^ i) 3) (nm_r (nI_1 i) (hw () (fun s hs => ?_)))) (fun z => ?_)
    · by_cases c : s = i
      · rw [c]; exact fun g => g.1 z
      · exact hI s (by omega)
    · obtain ⟨g1, g2, _⟩ := cu_g1 S (by omega) k hk i hi z
      have e : nI k + (2 - nI (cu_dg k i)) * nI (3 ^ i) = nI (cu_gw k i) := by
        rw [show (2 : Int32) = nI 2 from rfl, pk_sub (by omega), pk_mul, nI_add]
        rfl
      rw [e, nI_clamp (by omega), (hP _ g2).2]
      refine ⟨pk_in (cu_gw k i) 81 (by omega), br_c (fun y => nm_r (pk_mul (3 ^ i) 3) (nm_r (nI_1 i) (hw () (fun s hs => ?_)))) (fun y => H1 ((cu_grI S).mpr ⟨i, hi, z, ?_⟩))⟩
      · by_cases c : s = i
        · rw [c]; exact fun g => mi_if0.mp y g.2
        · exact hI s (by omega)
      · exact bi_nf (fun w => y (by rw [w]; rfl))
def pr_s (ones : Int32) (Z S k : Nat) : Bool := cu_pr Z S k && !(decide ((nI (cu_cc k) &&& ones) = 0))
theorem pr_sI {ones : Int32} {Z S k : Nat} : pr_s ones Z S k = true ↔ cu_pr Z S k = true ∧ ¬ (nI (cu_cc k) &&& ones) = 0 := by
  unfold pr_s
  rw [Bool.and_eq_true]
  by_cases c : (nI (cu_cc k) &&& ones) = 0
  · simp [c]
  · simp [c]
def pr_L (p : Nat → Bool) (k N : Nat) (b12 : Nat → Int32) : Prop := N = cu_n p k ∧ (∀ i, i < N → ∃ c, c < k ∧ b12 i = nI c ∧ p c = true) ∧ (∀ c, c < k → p c = true → ∃ i, i < N ∧ b12 i = nI c)
theorem pr_skip {p : Nat → Bool} {k N : Nat} {b12 : Nat → Int32} (h : pr_L p k N b12) (hp : ¬ p k = true) : pr_L p (k + 1) N b12 := by
  obtain ⟨h1, h2, h3⟩ := h
  refine ⟨?_, fun i hi => ?_, fun c hc hpc => ?_⟩
  · rw [h1]; exact (if_neg hp).symm
  · obtain ⟨c, x1, x2⟩ := h2 i hi
    exact ⟨c, by omega, x2⟩
  · by_cases e : c = k
    · rw [e] at hpc; exact absurd hpc hp
    · exact h3 c (by omega) hpc
theorem pr_add {p : Nat → Bool} {k N : Nat} {b12 : Nat → Int32} (h : pr_L p k N b12) (hp : p k = true) : pr_L p (k + 1) (N + 1) (upd b12 N (nI k)) := by
  obtain ⟨h1, h2, h3⟩ := h
  refine ⟨?_, fun i hi => ?_, fun c hc hpc => ?_⟩
  · rw [h1]; exact (if_pos hp).symm
  · by_cases e : i = N
    · subst e; exact ⟨k, by omega, pk_us, hp⟩
    · obtain ⟨c, x1, x2, x3⟩ := h2 i (by omega)
      exact ⟨c, by omega, by rw [pk_un e]; exact x2, x3⟩
  · by_cases e : c = k
    · subst e; exact ⟨N, by omega, pk_us⟩
    · obtain ⟨i, x1, x2⟩ := h3 c (by omega) hpc
      exact ⟨i, by omega, by rw [pk_un (by omega)]; exact x2⟩
def pr_d : Nat → Int32
  | 0 => -1
  | d + 1 => nI d
theorem pr_dm (d : Nat) : nI d + (-1) = pr_d d := by
  cases d with
  | zero => decide
  | succ d => exact pk_m1 d
theorem pr_ds (d : Nat) : nI d - 1 = pr_d d := by
  cases d with
  | zero => decide
  | succ d => exact nI_pred d
def pr_T (N : Nat) (a11 b12 b13 : Nat → Int32) : Prop := ∀ i j, i ≤ j → j < N → ∀ b, bt (a11 (b12 j).toNatClampNeg) b = true → bt (b13 i) b = true
theorem pr_94 {post : St2 → Prop} {N : Nat} (hN : N ≤ 81) (h12 : ∀ i, i < N → ∃ c, c < 81 ∧ a12 i = nI c) (H : ∀ b13 : Nat → Int32, pr_T N a11 a12 b13 → post (pC, sC, tC, iS, sM, sD, vN, nS, uM, iM, qE, nI N, cD, dC, mC, a1, a2, a3, a4, a5, a6, a7, a8, a9, a10, a11, a12, b13, a14, a15, a16, a17, a18, a19, a20, a21, a22)) : ∃ n, wX_listPrimes_94 post pC sC tC iS sM sD vN nS uM iM qE (nI N) cD dC mC n (nI N - 1) a1 a2 a3 a4 a5 a6 a7 a8 a9 a10 a11 a12 a13 a14 a15 a16 a17 a18 a19 a20 a21 a22 := by
  rw [pr_ds]
  refine ⟨N + 1, pk_loopD (fun n i s => wX_listPrimes_94 post pC sC tC iS sM sD vN nS uM iM qE (nI N) cD dC mC n (pr_d i) a1 a2 a3 a4 a5 a6 a7 a8 a9 a10 a11 a12 s a14 a15 a16 a17 a18 a19 a20 a21 a22) (fun i s => i ≤ N ∧ ∀ i', i ≤ i' → ∀ j, i' ≤ j → j < N → ∀ b, bt (a11 (a12 j).toNatClampNeg) b = true → bt (s i') b = true) ?_ ?_ N a13 ⟨Nat.le_refl N, fun i' h j h1 h2 => absurd h2 (by omega)⟩⟩
  · intro n s hI
    exact br_t (by decide) (H s (fun i j h1 h2 => hI.2 i (by omega) j h1 h2))
  · intro n i s hI hw
    obtain ⟨l, hI⟩ := hI
    obtain ⟨c, c1, c2⟩ := h12 i (by omega)
    show wX_listPrimes_94 post pC sC tC iS sM sD vN nS uM iM qE (nI N) cD dC mC (n + 1) (nI i) a1 a2 a3 a4 a5 a6 a7 a8 a9 a10 a11 a12 s a14 a15 a16 a17 a18 a19 a20 a21 a22
    refine br_f (nI_pos (by omega)) ⟨pk_in (i + 1) 82 (by omega) (nI_1 i), pk_in i 81 (by omega), pk_in c 81 c1 (by rw [nI_clamp (by omega)]; exact c2), pk_in i 82 (by omega), nm_r (e' := upd s i (s (i + 1) ||| a11 (a12 i).toNatClampNeg)) (by rw [nI_1, nI_clamp (show i < 2 ^ 31 by omega), nI_clamp (show i + 1 < 2 ^ 31 by omega)]) (nm_r (pr_dm i) (hw _ ⟨by omega, fun i' h j h1 h2 b hb => ?_⟩))⟩
    by_cases e : i' = i
    · rw [e, pk_us, b_or, Bool.or_eq_true]
      by_cases e2 : j = i
      · rw [e2] at hb; exact Or.inr hb
      · exact Or.inl (hI (i + 1) (by omega) j (by omega) h2 b hb)
    · rw [pk_un e]
      exact hI i' (by omega) j h1 h2 b hb
theorem pr_wp {post : St2 → Prop} {Z S : Nat} {ones : Int32} (hS : S ≤ 4) (hP : mi_P Z (3 ^ S) a10 a11)
    (H : ∀ (N : Nat) (b12 b13 : Nat → Int32), N ≤ 16 → (∀ i, i < N → ∃ c, c < 3 ^ S ∧ b12 i = nI c ∧ pr_s ones Z S c = true) → (∀ c, c < 3 ^ S → pr_s ones Z S c = true → ∃ i, i < N ∧ b12 i = nI c) → pr_T N a11 b12 b13 → post (pC, nI S, tC, iS, sM, sD, vN, nS, uM, iM, qE, nI N, cD, dC, mC, a1, a2, a3, a4, a5, a6, a7, a8, a9, a10, a11, b12, b13, a14, a15, a16, a17, a18, a19, a20, a21, a22)) : wpX_listPrimes post (pC, nI S, tC, iS, sM, sD, vN, nS, uM, iM, qE, pT, cD, dC, mC, a1, a2, a3, a4, a5, a6, a7, a8, a9, a10, a11, a12, a13, a14, a15, a16, a17, a18, a19, a20, a21, a22) ones := by
  have p3 := cu_p3 S (by omega)
  refine ci_wp hS ?_
  refine pk_loop (σ := Nat × (Nat → Int32)) (fun n i s => wX_listPrimes_12 post ones (nI (3 ^ S)) pC (nI S) tC iS sM sD vN nS uM iM qE cD dC mC n (nI i) (nI s.1) a1 a2 a3 a4 a5 a6 a7 a8 a9 a10 a11 s.2 a13 a14 a15 a16 a17 a18 a19 a20 a21 a22) (fun i s => pr_L (pr_s ones Z S) i s.1 s.2) (3 ^ S) 0 (0, a12) (Nat.zero_le _) ⟨rfl, fun i hi => absurd hi (by omega), fun c hc => absurd hc (by omega)⟩ ?_ ?_
  · intro n s hI
    obtain ⟨N, b12⟩ := s
    have hI' : pr_L (pr_s ones Z S) (3 ^ S) N b12 := hI
    obtain ⟨h1, h2, h3⟩ := hI'
    have lN : N ≤ 16 := by
      rw [h1]
      exact Nat.le_trans (cu_n_mono (3 ^ S) (fun k _ h => (pr_sI.mp h).1)) (cu_max Z hS)
    refine pk_le (3 ^ S) (3 ^ S) (fun _ => ⟨pk_in N 82 (by omega), nm_e (nm_e ?_)⟩) (fun z => absurd z (by omega))
    exact pr_94 (by omega) (fun i hi => by obtain ⟨c, x1, x2, _⟩ := h2 i hi; exact ⟨c, by omega, x2⟩) (fun b13 hT => H N b12 b13 lN h2 h3 hT)
  · intro n k s hk hI hw
    obtain ⟨N, b12⟩ := s
    have hI' : pr_L (pr_s ones Z S) k N b12 := hI
    have lN : N ≤ k := by rw [hI'.1]; exact cu_n_le _ _
    obtain ⟨y1, y2⟩ := hP k hk
    refine pk_le (3 ^ S) k (fun z => absurd z (by omega)) (fun _ => ⟨pk_in k 81 (by omega), ?_⟩)
    rw [nI_clamp (show k < 2 ^ 31 by omega), y1, y2]
    refine br_c (fun g => nm_r (nI_1 k) (hw (N, b12) (pr_skip hI' (fun y => ?_)))) (fun g => ⟨pk_in k 81 (by omega), br_c (fun g' => nm_r (nI_1 k) (hw (N, b12) (pr_skip hI' (fun y => (pr_sI.mp y).2 g')))) (fun g' => ?_)⟩)
    · exact mi_if0.mp g (cu_prI.mp (pr_sI.mp y).1).1
    · refine cg_wp hS hk hP (fun q => br_t rfl ⟨pk_in N 81 (by omega), nm_r (by rw [nI_clamp (by omega)]) (nm_r (nI_1 N) (nm_r (nI_1 k) (hw (N + 1, upd b12 N (nI k)) (pr_add hI' (pr_sI.mpr ⟨cu_prI.mpr ⟨?_, q⟩, g'⟩)))))⟩) (fun q => br_f (by decide) (nm_r (nI_1 k) (hw (N, b12) (pr_skip hI' (fun y => (cu_prI.mp (pr_sI.mp y).1).2 q)))))
      exact bi_nf (fun w => g (by rw [w]; rfl))
end
end
section
/-! coverOfSize, searchCover -/
section
variable {pC sC tC iS sM sD vN nS uM iM qE pT cD dC mC : Int32} {a1 a2 a3 a4 a6 a7 a8 a9 a10 a11 a12 a13 a14 a15 a16 a17 a18 a19 a20 a22 : Nat → Int32} {a5 a21 : Nat → Int64}
def cv_or (f : Nat → Int32) : Nat → Int32
  | 0 => 0
  | n + 1 => cv_or f n ||| f n
theorem cv_orb (f : Nat → Int32) (b : Nat) : ∀ n, bt (cv_or f n) b = true ↔ ∃ i, i < n ∧ bt (f i) b = true := by
  intro n
  induction n with
  | zero => exact ⟨fun h => absurd h (by show ¬ bt 0 b = true; rw [b_0]; decide), fun ⟨i, h, _⟩ => absurd h (by omega)⟩
  | succ n ih =>
    show bt (cv_or f n ||| f n) b = true ↔ _
    rw [b_or, Bool.or_eq_true, ih]
    constructor
    · intro h
      rcases h with ⟨i, x1, x2⟩ | h
      · exact ⟨i, by omega, x2⟩
      · exact ⟨n, by omega, h⟩
    · intro ⟨i, x1, x2⟩
      by_cases e : i = n
      · rw [e] at x2; exact Or.inr x2
      · exact Or.inl ⟨i, by omega, x2⟩
theorem cv_cong {f g : Nat → Int32} : ∀ n, (∀ i, i < n → f i = g i) → cv_or f n = cv_or g n := by
  intro n
  induction n with
  | zero => intro _; rfl
  | succ n ih =>
    intro h
    show cv_or f n ||| f n = cv_or g n ||| g n
    rw [ih (fun i hi => h i (by omega)), h n (by omega)]
/-- a list of primes that rises, each with a new one, together all ones -/
def cv_G (N : Nat) (cd : Nat → Int32) (ones : Int32) (l : Nat → Nat) (n : Nat) : Prop :=
  (∀ i, i < n → l i < N) ∧ (∀ i, i + 1 < n → l i < l (i + 1)) ∧ (∀ i, i < n → ¬ ((cd (l i) &&& ones) &&& (cv_or (fun j => cd (l j)) i ^^^ (-1))) = 0) ∧ ones &&& (cv_or (fun j => cd (l j)) n ^^^ (-1)) = 0
def cv_mu (N : Nat) (p : Nat → Nat) : Nat → Nat
  | 0 => 0
  | D + 1 => cv_mu N p D + (2 ^ (N - p D + 1) - 1)
def cv_I (N size : Nat) (cd : Nat → Int32) (ones : Int32) (D k : Nat) (b14 b15 : Nat → Int32) : Prop :=
  D ≤ size + 1 ∧ ∃ p : Nat → Nat, (∀ j, j < D → b14 j + 1 = nI (p j) ∧ p j ≤ N) ∧ (∀ j, j + 1 < D → 1 ≤ p j) ∧ (∀ j, j < D → b15 j = cv_or (fun i => cd (p i - 1)) j) ∧ k + cv_mu N p D ≤ 131071 ∧ ∀ l, cv_G N cd ones l size → ∃ j, j < D ∧ (∀ i, i < j → p i = l i + 1) ∧ (j < size → p j ≤ l j)
theorem cv_mc {N : Nat} {p q : Nat → Nat} : ∀ D, (∀ i, i < D → p i = q i) → cv_mu N p D = cv_mu N q D := by
  intro D
  induction D with
  | zero => intro _; rfl
  | succ D ih =>
    intro h
    show cv_mu N p D + (2 ^ (N - p D + 1) - 1) = cv_mu N q D + (2 ^ (N - q D + 1) - 1)
    rw [ih (fun i hi => h i (by omega)), h D (by omega)]
theorem cv_pw (r : Nat) : 1 ≤ 2 ^ r := Nat.one_le_two_pow
theorem cv_lst {N : Nat} {p : Nat → Nat} {d : Nat} : cv_mu N p d + 1 ≤ cv_mu N p (d + 1) := by
  show _ ≤ cv_mu N p d + (2 ^ (N - p d + 1) - 1)
  have h : 2 ^ (N - p d + 1) = 2 ^ (N - p d) * 2 := Nat.pow_succ ..
  have := cv_pw (N - p d)
  omega
theorem cv_0 {N size : Nat} {cd : Nat → Int32} {ones : Int32} {b14 b15 : Nat → Int32} (hN : N ≤ 16) : cv_I N size cd ones 1 0 (upd b14 0 (-1)) (upd b15 0 0) := by
  refine ⟨by omega, fun _ => 0, fun j hj => ?_, fun j hj => absurd hj (by omega), fun j hj => ?_, ?_, fun l hl => ⟨0, by omega, fun i hi => absurd hi (by omega), fun _ => Nat.zero_le _⟩⟩
  · have e : j = 0 := by omega
    rw [e, pk_us]
    exact ⟨by decide, Nat.zero_le N⟩
  · have e : j = 0 := by omega
    rw [e, pk_us]
    rfl
  · show 0 + (0 + (2 ^ (N - 0 + 1) - 1)) ≤ 131071
    have : 2 ^ (N - 0 + 1) ≤ 2 ^ 17 := Nat.pow_le_pow_right (by decide) (by omega)
    have e : (2 : Nat) ^ 17 = 131072 := by decide
    omega
theorem cv_k {N size D k : Nat} {cd : Nat → Int32} {ones : Int32} {b14 b15 : Nat → Int32} (h : cv_I N size cd ones D k b14 b15) : k ≤ 131071 := by
  obtain ⟨_, p, _, _, _, h4, _⟩ := h
  omega
theorem cv_fin {N size k : Nat} {cd : Nat → Int32} {ones : Int32} {b14 b15 : Nat → Int32} (h : cv_I N size cd ones 0 k b14 b15) (l : Nat → Nat) : ¬ cv_G N cd ones l size := by
  intro hl
  obtain ⟨_, p, _, _, _, _, h5⟩ := h
  obtain ⟨j, x, _⟩ := h5 l hl
  exact absurd x (by omega)
theorem cv_m1 {x : Int32} {n : Nat} (h : x + 1 = nI n) (h1 : 1 ≤ n) : x = nI (n - 1) := by
  have e : nI n = nI (n - 1) + 1 := by rw [nI_1]; congr 1; omega
  rw [e] at h
  exact (Int32.add_left_inj 1).mp h
theorem cv_win {N size k : Nat} {cd : Nat → Int32} {ones : Int32} {b14 b15 : Nat → Int32} (h : cv_I N size cd ones (size + 1) k b14 b15) : ∃ p : Nat → Nat, (∀ j, j < size → b14 j = nI (p j) ∧ p j < N) ∧ b15 size = cv_or (fun i => cd (p i)) size := by
  obtain ⟨_, p, h1, h2, h3, _, _⟩ := h
  refine ⟨fun i => p i - 1, fun j hj => ?_, h3 size (by omega)⟩
  have a := h1 j (by omega)
  have b := h2 j (by omega)
  exact ⟨cv_m1 a.1 b, by show p j - 1 < N; omega⟩
theorem cv_leaf {N size k : Nat} {cd : Nat → Int32} {ones : Int32} {b14 b15 : Nat → Int32} (h : cv_I N size cd ones (size + 1) k b14 b15) (hz : ¬ (ones &&& (b15 size ^^^ (-1))) = 0) : cv_I N size cd ones size (k + 1) b14 b15 := by
  obtain ⟨_, p, h1, h2, h3, h4, h5⟩ := h
  have m := cv_lst (N := N) (p := p) (d := size)
  refine ⟨by omega, p, fun j hj => h1 j (by omega), fun j hj => h2 j (by omega), fun j hj => h3 j (by omega), by omega, fun l hl => ?_⟩
  obtain ⟨j, x1, x2, x3⟩ := h5 l hl
  by_cases e : j = size
  · subst e
    refine absurd ?_ hz
    rw [h3 j (by omega), cv_cong (g := fun i => cd (l i)) j (fun i hi => by show cd (p i - 1) = cd (l i); rw [x2 i hi, Nat.add_sub_cancel])]
    exact hl.2.2.2
  · exact ⟨j, by omega, x2, x3⟩
theorem cv_nx {N size d k : Nat} {cd : Nat → Int32} {ones : Int32} {b14 b15 : Nat → Int32} (h : cv_I N size cd ones (d + 1) k b14 b15) : ∃ m, m ≤ N ∧ b14 d + 1 = nI m := by
  obtain ⟨_, p, h1, _⟩ := h
  exact ⟨p d, (h1 d (by omega)).2, (h1 d (by omega)).1⟩
/-- the place d of the path is given up -/
theorem cv_pop {N size d k m : Nat} {cd : Nat → Int32} {ones : Int32} {b14 b15 : Nat → Int32} (hN : N ≤ 16) (hd : d < size) (hm : m ≤ N) (h : cv_I N size cd ones (d + 1) k b14 b15) (hb : b14 d + 1 = nI m)
    (hz : m < N → ∃ b, b < 32 ∧ bt ones b = true ∧ bt (b15 d) b = false ∧ ∀ i, m ≤ i → i < N → bt (cd i) b = false) : cv_I N size cd ones d (k + 1) (upd b14 d (nI m)) b15 := by
  obtain ⟨_, p, h1, h2, h3, h4, h5⟩ := h
  have em : p d = m := (nI_eq (by have := (h1 d (by omega)).2; omega) (by omega)).mp ((h1 d (by omega)).1.symm.trans hb)
  have mm := cv_lst (N := N) (p := p) (d := d)
  refine ⟨by omega, p, fun j hj => ?_, fun j hj => h2 j (by omega), fun j hj => h3 j (by omega), by omega, fun l hl => ?_⟩
  · rw [pk_un (by omega)]
    exact h1 j (by omega)
  · obtain ⟨j, x1, x2, x3⟩ := h5 l hl
    by_cases e : j = d
    · subst e
      have y := x3 hd
      have ln := hl.1 j hd
      obtain ⟨b, b1, b2, b3, b4⟩ := hz (by omega)
      have c := (bi_an _ _).mp hl.2.2.2 b b1 b2
      rw [cv_orb] at c
      obtain ⟨i, c1, c2⟩ := c
      have asc : ∀ a i, i + a < size → l i ≤ l (i + a) := by
        intro a
        induction a with
        | zero => intro i _; exact Nat.le_refl _
        | succ a ih =>
          intro i hi
          have t1 := ih i (by omega)
          have t2 := hl.2.1 (i + a) (by omega)
          have t3 : l (i + (a + 1)) = l (i + a + 1) := rfl
          omega
      rcases Nat.lt_or_ge i j with g | g
      · refine absurd ?_ (show ¬ bt (b15 j) b = true by rw [b3]; decide)
        rw [h3 j (by omega), cv_orb]
        refine ⟨i, g, ?_⟩
        show bt (cd (p i - 1)) b = true
        rw [x2 i g, Nat.add_sub_cancel]
        exact c2
      · have t := asc (i - j) j (by omega)
        rw [show j + (i - j) = i by omega] at t
        have f := b4 (l i) (by omega) (hl.1 i c1)
        rw [f] at c2
        exact absurd c2 (by decide)
    · exact ⟨j, by omega, x2, x3⟩
def cv_u (p : Nat → Nat) (d x : Nat) : Nat → Nat := fun j => if j = d then x else p j
theorem cv_us {p : Nat → Nat} {d x : Nat} : cv_u p d x d = x := if_pos rfl
theorem cv_un {p : Nat → Nat} {d x j : Nat} (h : j ≠ d) : cv_u p d x j = p j := if_neg h
/-- the next prime brings no new one -/
theorem cv_skip {N size d k m : Nat} {cd : Nat → Int32} {ones : Int32} {b14 b15 : Nat → Int32} (hN : N ≤ 16) (hd : d < size) (hm : m < N) (h : cv_I N size cd ones (d + 1) k b14 b15) (hb : b14 d + 1 = nI m)
    (hz : ((cd m &&& ones) &&& (b15 d ^^^ (-1))) = 0) : cv_I N size cd ones (d + 1) (k + 1) (upd b14 d (nI m)) b15 := by
  obtain ⟨h0, p, h1, h2, h3, h4, h5⟩ := h
  have em : p d = m := (nI_eq (by have := (h1 d (by omega)).2; omega) (by omega)).mp ((h1 d (by omega)).1.symm.trans hb)
  refine ⟨h0, cv_u p d (m + 1), fun j hj => ?_, fun j hj => ?_, fun j hj => ?_, ?_, fun l hl => ?_⟩
  · by_cases e : j = d
    · rw [e, pk_us, cv_us, nI_1]
      exact ⟨rfl, by omega⟩
    · rw [pk_un e, cv_un e]
      exact h1 j hj
  · rw [cv_un (by omega)]
    exact h2 j hj
  · rw [h3 j hj]
    exact cv_cong j (fun i hi => by show cd (p i - 1) = cd (cv_u p d (m + 1) i - 1); rw [cv_un (by omega)])
  · have a : cv_mu N (cv_u p d (m + 1)) d = cv_mu N p d := cv_mc d (fun i hi => cv_un (by omega))
    have b : k + (cv_mu N p d + (2 ^ (N - p d + 1) - 1)) ≤ 131071 := h4
    show k + 1 + (cv_mu N (cv_u p d (m + 1)) d + (2 ^ (N - cv_u p d (m + 1) d + 1) - 1)) ≤ 131071
    rw [a, cv_us]
    rw [em, show N - m = N - (m + 1) + 1 by omega] at b
    have c : 2 ^ (N - (m + 1) + 1 + 1) = 2 ^ (N - (m + 1) + 1) * 2 := Nat.pow_succ ..
    have := cv_pw (N - (m + 1) + 1)
    omega
  · obtain ⟨j, x1, x2, x3⟩ := h5 l hl
    refine ⟨j, x1, fun i hi => ?_, fun hj => ?_⟩
    · rw [cv_un (by omega)]
      exact x2 i hi
    · by_cases e : j = d
      · subst e
        rw [cv_us]
        have y := x3 hj
        rcases Nat.lt_or_ge m (l j) with g | g
        · omega
        · have e2 : l j = m := by omega
          refine absurd ?_ (hl.2.2.1 j hj)
          rw [e2, ← cv_cong (f := fun i => cd (p i - 1)) j (fun i hi => by show cd (p i - 1) = cd (l i); rw [x2 i hi, Nat.add_sub_cancel]), ← h3 j (by omega)]
          exact hz
      · rw [cv_un e]
        exact x3 hj
/-- the next prime is taken -/
theorem cv_push {N size d k m : Nat} {cd : Nat → Int32} {ones : Int32} {b14 b15 : Nat → Int32} (hN : N ≤ 16) (hd : d < size) (hm : m < N) (h : cv_I N size cd ones (d + 1) k b14 b15) (hb : b14 d + 1 = nI m) :
    cv_I N size cd ones (d + 2) (k + 1) (upd (upd b14 d (nI m)) (d + 1) (nI m)) (upd b15 (d + 1) (b15 d ||| cd m)) := by
  obtain ⟨h0, p, h1, h2, h3, h4, h5⟩ := h
  have em : p d = m := (nI_eq (by have := (h1 d (by omega)).2; omega) (by omega)).mp ((h1 d (by omega)).1.symm.trans hb)
  have Q : ∀ j, j ≠ d → j ≠ d + 1 → cv_u (cv_u p d (m + 1)) (d + 1) (m + 1) j = p j := fun j e1 e2 => by rw [cv_un e2, cv_un e1]
  have Qd : cv_u (cv_u p d (m + 1)) (d + 1) (m + 1) d = m + 1 := by rw [cv_un (by omega), cv_us]
  have Qe : cv_u (cv_u p d (m + 1)) (d + 1) (m + 1) (d + 1) = m + 1 := cv_us
  generalize cv_u (cv_u p d (m + 1)) (d + 1) (m + 1) = q at Q Qd Qe
  refine ⟨by omega, q, fun j hj => ?_, fun j hj => ?_, fun j hj => ?_, ?_, fun l hl => ?_⟩
  · by_cases e : j = d + 1
    · rw [e, pk_us, Qe, nI_1]
      exact ⟨rfl, by omega⟩
    · rw [pk_un e]
      by_cases e2 : j = d
      · rw [e2, pk_us, Qd, nI_1]
        exact ⟨rfl, by omega⟩
      · rw [pk_un e2, Q j e2 e]
        exact h1 j (by omega)
  · by_cases e : j = d
    · rw [e, Qd]; omega
    · rw [Q j e (by omega)]
      exact h2 j (by omega)
  · by_cases e : j = d + 1
    · rw [e, pk_us, h3 d (by omega)]
      show _ = cv_or (fun i => cd (q i - 1)) d ||| cd (q d - 1)
      rw [Qd, Nat.add_sub_cancel]
      rw [cv_cong (g := fun i => cd (q i - 1)) d (fun i hi => by show cd (p i - 1) = cd (q i - 1); rw [Q i (by omega) (by omega)])]
    · rw [pk_un e, h3 j (by omega)]
      exact cv_cong j (fun i hi => by show cd (p i - 1) = cd (q i - 1); rw [Q i (by omega) (by omega)])
  · have a : cv_mu N q d = cv_mu N p d := cv_mc d (fun i hi => Q i (by omega) (by omega))
    have b : k + (cv_mu N p d + (2 ^ (N - p d + 1) - 1)) ≤ 131071 := h4
    show k + 1 + (cv_mu N q d + (2 ^ (N - q d + 1) - 1) + (2 ^ (N - q (d + 1) + 1) - 1)) ≤ 131071
    rw [a, Qd, Qe]
    rw [em, show N - m = N - (m + 1) + 1 by omega] at b
    have c : 2 ^ (N - (m + 1) + 1 + 1) = 2 ^ (N - (m + 1) + 1) * 2 := Nat.pow_succ ..
    have := cv_pw (N - (m + 1) + 1)
    omega
  · obtain ⟨j, x1, x2, x3⟩ := h5 l hl
    by_cases e : j = d
    · subst e
      have y := x3 hd
      by_cases g : l j = m
      · refine ⟨j + 1, by omega, fun i hi => ?_, fun hj => ?_⟩
        · by_cases e2 : i = j
          · rw [e2, Qd, g]
          · rw [Q i e2 (by omega)]
            exact x2 i (by omega)
        · rw [Qe]
          have := hl.2.1 j hj
          omega
      · refine ⟨j, by omega, fun i hi => ?_, fun hj => ?_⟩
        · rw [Q i (by omega) (by omega)]
          exact x2 i hi
        · rw [Qd]; omega
    · refine ⟨j, by omega, fun i hi => ?_, fun hj => ?_⟩
      · rw [Q i (by omega) (by omega)]
        exact x2 i hi
      · rw [Q j e (by omega)]
        exact x3 hj
/-- taking every prime that brings a new one, from the first on -/
theorem cv_gr {N : Nat} {cd : Nat → Int32} {ones : Int32} : ∀ i, i ≤ N → ∃ (n : Nat) (l : Nat → Nat), n ≤ i ∧ (∀ j, j < n → l j < i) ∧ (∀ j, j + 1 < n → l j < l (j + 1)) ∧ (∀ j, j < n → ¬ ((cd (l j) &&& ones) &&& (cv_or (fun q => cd (l q)) j ^^^ (-1))) = 0) ∧ (∀ j, j < i → ∀ b, bt (cd j) b = true → bt ones b = true → bt (cv_or (fun q => cd (l q)) n) b = true) := by
  intro i
  induction i with
  | zero => exact fun _ => ⟨0, fun _ => 0, Nat.le_refl 0, fun j hj => absurd hj (by omega), fun j hj => absurd hj (by omega), fun j hj => absurd hj (by omega), fun j hj => absurd hj (by omega)⟩
  | succ i ih =>
    intro hi
    obtain ⟨n, l, h1, h2, h3, h4, h5⟩ := ih (by omega)
    by_cases c : ((cd i &&& ones) &&& (cv_or (fun q => cd (l q)) n ^^^ (-1))) = 0
    · refine ⟨n, l, by omega, fun j hj => by have := h2 j hj; omega, h3, h4, fun j hj b hb ho => ?_⟩
      by_cases e : j = i
      · rw [e] at hb
        exact (bi_an _ _).mp c b (bi_lt hb) (by rw [b_and, hb, ho]; rfl)
      · exact h5 j (by omega) b hb ho
    · have U : ∀ j, j < n → cv_u l n i j = l j := fun j hj => cv_un (by omega)
      have Un : cv_u l n i n = i := cv_us
      have O : ∀ m, m ≤ n → cv_or (fun q => cd (cv_u l n i q)) m = cv_or (fun q => cd (l q)) m := fun m hm => cv_cong m (fun j hj => by show cd (cv_u l n i j) = cd (l j); rw [U j (by omega)])
      refine ⟨n + 1, cv_u l n i, by omega, fun j hj => ?_, fun j hj => ?_, fun j hj => ?_, fun j hj b hb ho => ?_⟩
      · by_cases e : j = n
        · rw [e, Un]; omega
        · rw [U j (by omega)]
          have := h2 j (by omega)
          omega
      · by_cases e : j + 1 = n
        · rw [e, Un, U j (by omega)]
          exact h2 j (by omega)
        · rw [U j (by omega), U (j + 1) (by omega)]
          exact h3 j (by omega)
      · rw [O j (by omega)]
        by_cases e : j = n
        · rw [e, Un]; exact c
        · rw [U j (by omega)]
          exact h4 j (by omega)
      · rw [cv_orb]
        by_cases e : j = i
        · refine ⟨n, by omega, ?_⟩
          show bt (cd (cv_u l n i n)) b = true
          rw [Un, ← e]; exact hb
        · have t := h5 j (by omega) b hb ho
          rw [cv_orb] at t
          obtain ⟨q, q1, q2⟩ := t
          refine ⟨q, by omega, ?_⟩
          show bt (cd (cv_u l n i q)) b = true
          rw [U q q1]; exact q2
theorem cv_ex {N : Nat} {cd : Nat → Int32} {ones : Int32} (hc : ∀ b, bt ones b = true → ∃ i, i < N ∧ bt (cd i) b = true) : ∃ (n : Nat) (l : Nat → Nat), n ≤ N ∧ cv_G N cd ones l n := by
  obtain ⟨n, l, h1, h2, h3, h4, h5⟩ := cv_gr (cd := cd) (ones := ones) N (Nat.le_refl N)
  refine ⟨n, l, h1, h2, h3, h4, (bi_an _ _).mpr (fun b hb ho => ?_)⟩
  obtain ⟨i, i1, i2⟩ := hc b ho
  exact h5 i i1 b i2 ho
theorem cv_wit {x y : Int32} (h : ¬ (x &&& (y ^^^ (-1))) = 0) : ∃ b, b < 32 ∧ bt x b = true ∧ bt y b = false := by
  rw [bi_an] at h
  rcases Classical.em (∃ b, b < 32 ∧ bt x b = true ∧ bt y b = false) with g | g
  · exact g
  · refine absurd (fun b hb hx => ?_) h
    exact bi_nf (fun y0 => g ⟨b, hb, hx, y0⟩)
theorem co_wp {post : Int32 → St2 → Prop} {N size : Nat} {ones : Int32} (hN : N ≤ 16) (hs : size ≤ 16) (h12 : ∀ i, i < N → ∃ c, c < 81 ∧ a12 i = nI c) (hT : pr_T N a11 a12 a13)
    (H1 : ∀ (b14 b15 : Nat → Int32) (p : Nat → Nat), (∀ j, j < size → b14 j = nI (p j) ∧ p j < N) → ones &&& (cv_or (fun i => a11 (a12 (p i)).toNatClampNeg) size ^^^ (-1)) = 0 → post 1 (pC, sC, tC, iS, sM, sD, vN, nS, uM, iM, qE, nI N, cD, dC, mC, a1, a2, a3, a4, a5, a6, a7, a8, a9, a10, a11, a12, a13, b14, b15, a16, a17, a18, a19, a20, a21, a22))
    (H0 : ∀ (b14 b15 : Nat → Int32), (∀ l, ¬ cv_G N (fun i => a11 (a12 i).toNatClampNeg) ones l size) → post 0 (pC, sC, tC, iS, sM, sD, vN, nS, uM, iM, qE, nI N, cD, dC, mC, a1, a2, a3, a4, a5, a6, a7, a8, a9, a10, a11, a12, a13, b14, b15, a16, a17, a18, a19, a20, a21, a22)) :
    wpX_coverOfSize post (pC, sC, tC, iS, sM, sD, vN, nS, uM, iM, qE, nI N, cD, dC, mC, a1, a2, a3, a4, a5, a6, a7, a8, a9, a10, a11, a12, a13, a14, a15, a16, a17, a18, a19, a20, a21, a22) (nI size) ones := by
  refine nm_e (nm_e ?_)
  refine loop_m (σ := Nat × Nat × (Nat → Int32) × (Nat → Int32)) (fun n s => wX_coverOfSize_19 post (nI size) ones pC sC tC iS sM sD vN nS uM iM qE (nI N) cD dC mC n (pr_d s.1) (nI s.2.1) a1 a2 a3 a4 a5 a6 a7 a8 a9 a10 a11 a12 a13 s.2.2.1 s.2.2.2 a16 a17 a18 a19 a20 a21 a22) (fun s => cv_I N size (fun i => a11 (a12 i).toNatClampNeg) ones s.1 s.2.1 s.2.2.1 s.2.2.2) (fun s => 200000 - s.2.1) ?_ (1, 0, upd a14 0 (-1), upd a15 0 0) (cv_0 hN)
  intro n s hI hw
  obtain ⟨D, k, b14, b15⟩ := s
  have hI' : cv_I N size (fun i => a11 (a12 i).toNatClampNeg) ones D k b14 b15 := hI
  have lk := cv_k hI'
  have hw' : ∀ (D' : Nat) (c14 c15 : Nat → Int32), cv_I N size (fun i => a11 (a12 i).toNatClampNeg) ones D' (k + 1) c14 c15 → wX_coverOfSize_19 post (nI size) ones pC sC tC iS sM sD vN nS uM iM qE (nI N) cD dC mC n (pr_d D') (nI (k + 1)) a1 a2 a3 a4 a5 a6 a7 a8 a9 a10 a11 a12 a13 c14 c15 a16 a17 a18 a19 a20 a21 a22 := fun D' c14 c15 h => hw (D', k + 1, c14, c15) h (by show 200000 - (k + 1) < 200000 - k; omega)
  cases D with
  | zero =>
    have key : wX_coverOfSize_19 post (nI size) ones pC sC tC iS sM sD vN nS uM iM qE (nI N) cD dC mC (n + 1) (-1) (nI k) a1 a2 a3 a4 a5 a6 a7 a8 a9 a10 a11 a12 a13 b14 b15 a16 a17 a18 a19 a20 a21 a22 := pk_le 200000 k (fun z => absurd z (by omega)) (fun _ => br_t (by decide) (H0 b14 b15 (cv_fin hI')))
    exact key
  | succ d =>
    have ld := hI'.1
    have key : wX_coverOfSize_19 post (nI size) ones pC sC tC iS sM sD vN nS uM iM qE (nI N) cD dC mC (n + 1) (nI d) (nI k) a1 a2 a3 a4 a5 a6 a7 a8 a9 a10 a11 a12 a13 b14 b15 a16 a17 a18 a19 a20 a21 a22 := by
      refine pk_le 200000 k (fun z => absurd z (by omega)) (fun _ => br_f (nI_pos (by omega)) ?_)
      refine pk_eq d size (fun z => ?_) (fun z => ?_)
      · subst z
        refine ⟨pk_in d 18 (by omega), ?_⟩
        rw [bi_cl (f := b15) (by omega)]
        refine br_c (fun y => ?_) (fun y => nm_r (pr_dm d) (nm_r (nI_1 k) (hw' d b14 b15 (cv_leaf hI' y))))
        obtain ⟨p, p1, p2⟩ := cv_win hI'
        exact H1 b14 b15 p p1 (by rw [← p2]; exact y)
      · obtain ⟨m, m1, m2⟩ := cv_nx hI'
        refine ⟨pk_in d 18 (by omega), nm_r (e' := nI m) (by rw [nI_clamp (by omega)]; exact m2) ⟨pk_in d 18 (by omega), nm_r (e' := upd b14 d (nI m)) (by rw [nI_clamp (by omega)]) ?_⟩⟩
        refine pk_le N m (fun y => nm_r (pr_dm d) (nm_r (nI_1 k) (hw' d _ b15 (cv_pop hN (by omega) m1 hI' m2 (fun g => absurd g (by omega)))))) (fun y => ⟨pk_in d 18 (by omega), pk_in m 82 (by omega), ?_⟩)
        obtain ⟨c, c1, c2⟩ := h12 m y
        rw [bi_cl (f := b15) (by omega), bi_cl (f := a13) (by omega), bi_cl (f := a12) (by omega)]
        refine br_c (fun t => ⟨pk_in m 81 (by omega), pk_in c 81 c1 c2, nm_e ⟨pk_in d 18 (by omega), br_c (fun t2 => nm_r (nI_1 k) (hw' (d + 1) _ b15 (cv_skip hN (by omega) y hI' m2 t2))) (fun t2 => ?_)⟩⟩) (fun t => nm_r (pr_dm d) (nm_r (nI_1 k) (hw' d _ b15 (cv_pop hN (by omega) m1 hI' m2 (fun _ => ?_)))))
        · refine ⟨pk_in d 18 (by omega), pk_in (d + 1) 18 (by omega) (nI_1 d), nm_r (e' := upd b15 (d + 1) (b15 d ||| a11 (a12 m).toNatClampNeg)) (by rw [nI_1, nI_clamp (by omega)]) ⟨pk_in (d + 1) 18 (by omega) (nI_1 d), nm_r (e' := upd (upd b14 d (nI m)) (d + 1) (nI m)) (by rw [nI_1, nI_clamp (by omega)]) (nm_r (nI_1 d) (nm_r (nI_1 k) (hw' (d + 2) _ _ (cv_push hN (by omega) y hI' m2))))⟩⟩
        · obtain ⟨b, b1, b2, b3⟩ := cv_wit t
          rw [b_or, Bool.or_eq_false_iff] at b3
          refine ⟨b, b1, b2, b3.1, fun i i1 i2 => bi_nt (fun g => ?_)⟩
          have f := hT m i i1 i2 b g
          rw [b3.2] at f
          exact absurd f (by decide)
    exact key
theorem sr_45 {post : St2 → Prop} {J5 : Int32 → Int32 → Int32 → Int32 → Int32 → Int32 → Int32 → Int32 → Int32 → Int32 → Int32 → Int32 → Int32 → Int32 → Int32 → Int32 → Int32 → (Nat → Int32) → (Nat → Int32) → (Nat → Int32) → (Nat → Int32) → (Nat → Int64) → (Nat → Int32) → (Nat → Int32) → (Nat → Int32) → (Nat → Int32) → (Nat → Int32) → (Nat → Int32) → (Nat → Int32) → (Nat → Int32) → (Nat → Int32) → (Nat → Int32) → (Nat → Int32) → (Nat → Int32) → (Nat → Int32) → (Nat → Int32) → (Nat → Int32) → (Nat → Int64) → (Nat → Int32) → Prop} {sg size N : Nat} {x2 : Int32} {p : Nat → Nat} (hsg : sg < 4) (hs : size ≤ 16) (hN : N ≤ 16) (h12 : ∀ i, i < N → ∃ c, c < 81 ∧ a12 i = nI c) (h14 : ∀ j, j < size → a14 j = nI (p j) ∧ p j < N)
    (H : ∀ b18 : Nat → Int32, J5 1 (nI (size + 1)) pC sC tC iS sM sD vN nS uM iM qE pT cD dC mC a1 a2 a3 a4 a5 a6 a7 a8 a9 a10 a11 a12 a13 a14 a15 a16 a17 b18 (upd a19 sg (cv_or (fun j => a11 (a12 (p j)).toNatClampNeg) size)) a20 a21 a22) :
    ∃ n, wX_searchCover_45 post J5 (nI sg) x2 1 (nI size) pC sC tC iS sM sD vN nS uM iM qE pT cD dC mC n 0 0 a1 a2 a3 a4 a5 a6 a7 a8 a9 a10 a11 a12 a13 a14 a15 a16 a17 a18 a19 a20 a21 a22 := by
  refine pk_loop (σ := Nat → Int32) (fun n i s => wX_searchCover_45 post J5 (nI sg) x2 1 (nI size) pC sC tC iS sM sD vN nS uM iM qE pT cD dC mC n (cv_or (fun j => a11 (a12 (p j)).toNatClampNeg) i) (nI i) a1 a2 a3 a4 a5 a6 a7 a8 a9 a10 a11 a12 a13 a14 a15 a16 a17 s a19 a20 a21 a22) (fun _ _ => True) size 0 a18 (by omega) trivial ?_ ?_
  · intro n s _
    exact pk_le size size (fun _ => ⟨pk_in sg 4 hsg, nm_r (by rw [nI_clamp (by omega)]) (nm_r (nI_1 size) (H s))⟩) (fun z => absurd z (by omega))
  · intro n i s hi _ hw
    obtain ⟨p1, p2⟩ := h14 i hi
    obtain ⟨c, c1, c2⟩ := h12 (p i) p2
    refine pk_le size i (fun z => absurd z (by omega)) (fun _ => ⟨pk_in i 18 (by omega), pk_in (p i) 81 (by omega) (by rw [nI_clamp (by omega)]; exact p1), ?_⟩)
    refine nm_r (e' := a12 (p i)) (by rw [bi_cl (f := a14) (by omega), p1, nI_clamp (by omega)]) ⟨pk_in (16 * sg + i) 64 (by omega) (by rw [show (16 : Int32) = nI 16 from rfl, pk_mul, nI_add]), nm_e ⟨pk_in c 81 c1 c2, nm_e (nm_r (nI_1 i) (hw _ trivial))⟩⟩
theorem sr_wp {post : St2 → Prop} {N sg : Nat} {ones : Int32} (hsg : sg < 4) (hN : N ≤ 16) (h12 : ∀ i, i < N → ∃ c, c < 81 ∧ a12 i = nI c) (hT : pr_T N a11 a12 a13)
    (hc : ∀ b, bt ones b = true → ∃ i, i < N ∧ bt (a11 (a12 i).toNatClampNeg) b = true)
    (H : ∀ (b14 b15 b17 b18 b19 : Nat → Int32), (∀ j, j ≠ sg → b19 j = a19 j) → (∀ b, bt ones b = true → bt (b19 sg) b = true) → (∀ b, bt (b19 sg) b = true → ∃ i, i < N ∧ bt (a11 (a12 i).toNatClampNeg) b = true) → post (pC, sC, tC, iS, sM, sD, vN, nS, uM, iM, qE, nI N, cD, dC, mC, a1, a2, a3, a4, a5, a6, a7, a8, a9, a10, a11, a12, a13, b14, b15, a16, b17, b18, b19, a20, a21, a22)) :
    wpX_searchCover post (pC, sC, tC, iS, sM, sD, vN, nS, uM, iM, qE, nI N, cD, dC, mC, a1, a2, a3, a4, a5, a6, a7, a8, a9, a10, a11, a12, a13, a14, a15, a16, a17, a18, a19, a20, a21, a22) (nI sg) ones := by
  obtain ⟨n0, l0, hn0, hG0⟩ := cv_ex hc
  refine pk_loop (σ := Int32 × (Nat → Int32) × (Nat → Int32) × (Nat → Int32) × (Nat → Int32) × (Nat → Int32)) (fun n i s => wX_searchCover_5 post (nI sg) ones n s.1 (nI i) pC sC tC iS sM sD vN nS uM iM qE (nI N) cD dC mC a1 a2 a3 a4 a5 a6 a7 a8 a9 a10 a11 a12 a13 s.2.1 s.2.2.1 a16 s.2.2.2.1 s.2.2.2.2.1 s.2.2.2.2.2 a20 a21 a22)
    (fun i s => (s.1 = 0 ∧ s.2.2.2.2.2 = a19 ∧ ∀ n, n < i → ∀ l, ¬ cv_G N (fun i => a11 (a12 i).toNatClampNeg) ones l n) ∨ (s.1 = 1 ∧ (∀ j, j ≠ sg → s.2.2.2.2.2 j = a19 j) ∧ (∀ b, bt ones b = true → bt (s.2.2.2.2.2 sg) b = true) ∧ (∀ b, bt (s.2.2.2.2.2 sg) b = true → ∃ i, i < N ∧ bt (a11 (a12 i).toNatClampNeg) b = true)))
    17 0 (0, a14, a15, a17, a18, a19) (by omega) (Or.inl ⟨rfl, rfl, fun n hn => absurd hn (by omega)⟩) ?_ ?_
  · intro n s hI
    obtain ⟨x, b14, b15, b17, b18, b19⟩ := s
    dsimp only at hI
    refine pk_lt 16 17 (fun _ => ?_) (fun z => absurd z (by omega))
    rcases hI with ⟨_, _, h⟩ | ⟨_, h1, h2, h3⟩
    · exact absurd hG0 (h n0 (by omega) l0)
    · exact H b14 b15 b17 b18 b19 h1 h2 h3
  · intro n i s hi hI hw
    obtain ⟨x, b14, b15, b17, b18, b19⟩ := s
    dsimp only at hI
    refine pk_lt 16 i (fun z => absurd z (by omega)) (fun _ => ?_)
    rcases hI with ⟨h1, h2, h3⟩ | ⟨h0, h1, h2, h3⟩
    · refine br_t h1 (co_wp hN (by omega) h12 hT (fun c14 c15 p p1 p2 => br_f (by decide) ⟨pk_in sg 4 hsg, nm_e ?_⟩) (fun c14 c15 hno => br_t rfl (nm_r (nI_1 i) ?_)))
      · refine sr_45 hsg (by omega) hN h12 p1 (fun c18 => hw (1, c14, c15, _, c18, _) (Or.inr ⟨rfl, fun j hj => ?_, fun b hb => ?_, fun b hb => ?_⟩))
        · show upd b19 sg _ j = a19 j
          rw [pk_un hj, h2]
        · show bt (upd b19 sg _ sg) b = true
          rw [pk_us]
          exact (bi_an _ _).mp p2 b (bi_lt hb) hb
        · have hb' : bt (upd b19 sg (cv_or (fun j => a11 (a12 (p j)).toNatClampNeg) i) sg) b = true := hb
          rw [pk_us, cv_orb] at hb'
          obtain ⟨q, q1, q2⟩ := hb'
          exact ⟨p q, (p1 q q1).2, q2⟩
      · refine hw (x, c14, c15, b17, b18, b19) (Or.inl ⟨h1, h2, fun n hn => ?_⟩)
        by_cases e : n = i
        · rw [e]; exact hno
        · exact h3 n (by omega)
    · exact br_f (by show ¬ x = 0; rw [h0]; decide) (H b14 b15 b17 b18 b19 h1 h2 h3)
end
end
section
/-! valueAfter, finishCover, gateTable -/
section
variable {pC sC tC iS sM sD vN nS uM iM qE pT cD dC mC : Int32} {a1 a2 a3 a4 a6 a7 a8 a9 a10 a11 a12 a13 a14 a15 a16 a17 a18 a19 a20 a22 : Nat → Int32} {a5 a21 : Nat → Int64}
def fv_v (a7 a8 a9 : Nat → Int32) (s c : Nat) : Int32 := if a7 c = 0 then 2 else if bt (a9 c) s = true then 1 - ((nI c >>> (nI s &&& 31)) &&& 1) else if bt (a8 c) s = true then 3 else ((nI c >>> (nI s &&& 31)) &&& 1)
def fv_K (S : Nat) (a7 a8 a9 : Nat → Int32) (s : Nat) (t : Int32) : Prop := ∀ c, c < 2 ^ S → (fv_v a7 a8 a9 s c = 1 → bt t c = true) ∧ (fv_v a7 a8 a9 s c = 0 → bt t c = false)
def fv_I (S : Nat) (cD : Int32) (a7 a8 a9 a19 : Nat → Int32) : Prop := ∀ s, s < S → bt cD s = true → fv_K S a7 a8 a9 s (a19 s)
theorem fv_wp {post : Int32 → Prop} {s c : Nat} (hs : s < 32) (hc : c < 16) (H : post (fv_v a7 a8 a9 s c)) : wpX_valueAfter post (pC, sC, tC, iS, sM, sD, vN, nS, uM, iM, qE, pT, cD, dC, mC, a1, a2, a3, a4, a5, a6, a7, a8, a9, a10, a11, a12, a13, a14, a15, a16, a17, a18, a19, a20, a21, a22) (nI s) (nI c) := by
  have hcl : (nI c).toNatClampNeg = c := nI_clamp (by omega)
  unfold wpX_valueAfter
  dsimp only
  rw [hcl]
  unfold fv_v at H
  refine ⟨pk_in c 16 hc, br_c (fun z => ?_) (fun z => nm_e ⟨pk_in c 16 hc, br_c (fun y => ⟨pk_in c 16 hc, br_c (fun w => ?_) (fun w => ?_)⟩) (fun y => ?_)⟩)⟩
  · rw [if_pos z] at H; exact H
  · rw [bi_t0 _ hs] at y w
    rw [if_neg z, if_neg (by rw [y]; decide), if_neg (by rw [w]; decide)] at H
    exact H
  · rw [bi_t0 _ hs] at y w
    rw [if_neg z, if_neg (by rw [y]; decide), if_pos (bi_nf w)] at H
    exact H
  · rw [bi_t0 _ hs] at y
    rw [if_neg z, if_pos (bi_nf y)] at H
    exact H
theorem fi_52 {post : St2 → Prop} {J19 : Int32 → Int32 → Int32 → Prop} {x1 x2 x3 x5 : Int32} {c : Nat} (H0 : x5 = 0 → J19 x2 (x3 ||| ((1 : Int32) <<< (nI c &&& 31))) (nI (c + 1))) (H1 : ¬ x5 = 0 → J19 x2 x3 (nI (c + 1))) : wX_finishCover_52 post J19 x1 x2 x3 (nI c) x5 pC sC tC iS sM sD vN nS uM iM qE pT cD dC mC a1 a2 a3 a4 a5 a6 a7 a8 a9 a10 a11 a12 a13 a14 a15 a16 a17 a18 a19 a20 a21 a22 := by
  unfold wX_finishCover_52
  exact br_c (fun z => nm_e (nm_r (nI_1 c) (H0 z))) (fun z => nm_r (nI_1 c) (H1 z))
theorem fi_set {x : Int32} {c : Nat} {Q : Nat → Prop} (hc : c < 31) (h : ∀ b, bt x b = true ↔ b < c ∧ Q b) (hq : Q c) : ∀ b, bt (x ||| ((1 : Int32) <<< (nI c &&& 31))) b = true ↔ b < c + 1 ∧ Q b := by
  intro b
  rw [b_or, Bool.or_eq_true, h b]
  constructor
  · intro g
    rcases g with g | g
    · exact ⟨by omega, g.2⟩
    · have l := bi_lt g
      rw [bi_s1 c (by omega) b l] at g
      have e := of_decide_eq_true g
      rw [e]; exact ⟨by omega, hq⟩
  · intro g
    by_cases e : b = c
    · right
      rw [bi_s1 c (by omega) b (by omega), e, decide_eq_true rfl]
    · exact Or.inl ⟨by omega, g.2⟩
theorem fi_keep {x : Int32} {c : Nat} {Q : Nat → Prop} (h : ∀ b, bt x b = true ↔ b < c ∧ Q b) (hq : ¬ Q c) : ∀ b, bt x b = true ↔ b < c + 1 ∧ Q b := by
  intro b
  rw [h b]
  constructor
  · exact fun g => ⟨by omega, g.2⟩
  · intro g
    by_cases e : b = c
    · rw [e] at g; exact absurd g.2 hq
    · exact ⟨by omega, g.2⟩
theorem fi_end {post : St2 → Prop} {S sg : Nat} {ones zeros : Int32} (hS : S ≤ 4) (hsg : sg < S) (hI : fv_I S cD a7 a8 a9 a19)
    (h1 : ∀ b, bt ones b = true ↔ b < 2 ^ S ∧ fv_v a7 a8 a9 sg b = 1) (h0 : ∀ b, bt zeros b = true ↔ b < 2 ^ S ∧ fv_v a7 a8 a9 sg b = 0)
    (H : ∀ (b1 b2 : Int32) (b10 b11 b12 b13 b14 b15 b16 b17 b18 b19 : Nat → Int32), fv_I S b2 a7 a8 a9 b19 → fv_K S a7 a8 a9 sg (b19 sg) → post (pC, nI S, tC, iS, sM, sD, vN, nS, uM, iM, qE, b1, b2, dC, mC, a1, a2, a3, a4, a5, a6, a7, a8, a9, b10, b11, b12, b13, b14, b15, b16, b17, b18, b19, a20, a21, a22)) (n : Nat) :
    wX_finishCover_19 post (nI sg) pC (nI S) tC iS sM sD vN nS uM iM qE pT cD dC mC a1 a2 a3 a4 a5 a6 a7 a8 a9 a10 a11 a12 a13 a14 a15 a16 a17 a18 a19 a20 a21 a22 (n + 1) ones zeros (nI (2 ^ S)) := by
  have p2 := bi_p2 hS
  have p3 := cu_p3 S (by omega)
  obtain ⟨Z, _, eZ⟩ := wb_of32 zeros
  have zb : ∀ b, b < 32 → Z.testBit b = bt zeros b := fun b hb => by rw [eZ, bi_nI Z hb]
  refine pk_le (2 ^ S) (2 ^ S) (fun _ => ?_) (fun z => absurd z (by omega)) (bi_sn S (by omega))
  rw [eZ]
  refine mi_wp hS (fun b10 b11 hP => ?_)
  refine pr_wp hS hP (fun N b12 b13 hN q1 q2 hT => ?_)
  refine ⟨pk_in sg 4 (by omega), nm_e ?_⟩
  have K : ∀ t : Int32, (∀ b, bt ones b = true → bt t b = true) → (∀ b, bt t b = true → ∃ i, i < N ∧ bt (b11 (b12 i).toNatClampNeg) b = true) → fv_K S a7 a8 a9 sg t := by
    intro t g1 g2 c hc
    refine ⟨fun g => g1 c ((h1 c).mpr ⟨hc, g⟩), fun g => bi_nt (fun y => ?_)⟩
    obtain ⟨i, i1, i2⟩ := g2 c y
    obtain ⟨k, k1, k2, k3⟩ := q1 i i1
    rw [k2, nI_clamp (by omega), (hP k k1).1, bi_nI _ (by omega)] at i2
    have im := (cu_z _).mp (cu_imI.mp (cu_prI.mp (pr_sI.mp k3).1).1) c
    rw [Nat.testBit_and, i2, zb c (by omega), (h0 c).mpr ⟨hc, g⟩] at im
    exact absurd im (by decide)
  refine sr_wp (by omega) hN (fun i hi => ?_) hT (fun b hb => ?_) (fun b14 b15 b17 b18 b19 r1 r2 r3 => nm_e (H _ _ b10 b11 b12 b13 b14 b15 _ b17 b18 b19 (fun s hs hd => ?_) ?_))
  · obtain ⟨c, c1, c2, _⟩ := q1 i hi
    exact ⟨c, by omega, c2⟩
  · obtain ⟨b1, b2⟩ := (h1 b).mp hb
    have hz : Z.testBit b = false := by
      rw [zb b (by omega)]
      refine bi_nt (fun g => ?_)
      have := ((h0 b).mp g).2
      rw [b2] at this
      exact absurd this (by decide)
    obtain ⟨j, j1, j2, j3⟩ := cu_cov hS b1 hz
    have nz : ¬ (nI (cu_cc j) &&& ones) = 0 := by
      intro g
      have t := (bi_z _).mp g b (by omega)
      rw [b_and, bi_nI _ (by omega), j3, hb] at t
      exact absurd t (by decide)
    obtain ⟨i, i1, i2⟩ := q2 j j1 (pr_sI.mpr ⟨j2, nz⟩)
    refine ⟨i, i1, ?_⟩
    rw [i2, nI_clamp (by omega), (hP j j1).1, bi_nI _ (by omega)]
    exact j3
  · rw [b_or, Bool.or_eq_true] at hd
    by_cases e : s = sg
    · rw [e]; exact K _ r2 r3
    · rcases hd with hd | hd
      · rw [r1 s e]
        exact hI s hs hd
      · rw [bi_s1 sg (by omega) s (by omega)] at hd
        exact absurd (of_decide_eq_true hd) e
  · exact K _ r2 r3
theorem fi_wp {post : St2 → Prop} {S sg : Nat} (hS : S ≤ 4) (hsg : sg < S) (hI : fv_I S cD a7 a8 a9 a19)
    (H : ∀ (b1 b2 : Int32) (b10 b11 b12 b13 b14 b15 b16 b17 b18 b19 : Nat → Int32), fv_I S b2 a7 a8 a9 b19 → fv_K S a7 a8 a9 sg (b19 sg) → post (pC, nI S, tC, iS, sM, sD, vN, nS, uM, iM, qE, b1, b2, dC, mC, a1, a2, a3, a4, a5, a6, a7, a8, a9, b10, b11, b12, b13, b14, b15, b16, b17, b18, b19, a20, a21, a22)) : wpX_finishCover post (pC, nI S, tC, iS, sM, sD, vN, nS, uM, iM, qE, pT, cD, dC, mC, a1, a2, a3, a4, a5, a6, a7, a8, a9, a10, a11, a12, a13, a14, a15, a16, a17, a18, a19, a20, a21, a22) (nI sg) := by
  have p2 := bi_p2 hS
  refine br_c (fun _ => ?_) (fun z => ?_)
  · refine pk_loop (σ := Int32 × Int32) (fun n i s => wX_finishCover_19 post (nI sg) pC (nI S) tC iS sM sD vN nS uM iM qE pT cD dC mC a1 a2 a3 a4 a5 a6 a7 a8 a9 a10 a11 a12 a13 a14 a15 a16 a17 a18 a19 a20 a21 a22 n s.1 s.2 (nI i)) (fun i s => (∀ b, bt s.1 b = true ↔ b < i ∧ fv_v a7 a8 a9 sg b = 1) ∧ (∀ b, bt s.2 b = true ↔ b < i ∧ fv_v a7 a8 a9 sg b = 0)) (2 ^ S) 0 (0, 0) (Nat.zero_le _) ⟨fun b => ?_, fun b => ?_⟩ ?_ ?_
    · show bt 0 b = true ↔ _
      rw [b_0]
      exact ⟨fun g => absurd g (by decide), fun g => absurd g.1 (by omega)⟩
    · show bt 0 b = true ↔ _
      rw [b_0]
      exact ⟨fun g => absurd g (by decide), fun g => absurd g.1 (by omega)⟩
    · intro n s hJ
      exact fi_end hS hsg hI hJ.1 hJ.2 H n
    · intro n c s hc hJ hw
      obtain ⟨o, z⟩ := s
      dsimp only at hJ
      obtain ⟨j1, j0⟩ := hJ
      refine pk_le (2 ^ S) c (fun y => absurd y (by omega)) (fun _ => ?_) (bi_sn S (by omega))
      refine fv_wp (by omega) (by omega) (br_c (fun y => nm_e (fi_52 (fun y' => ?_) (fun y' => ?_))) (fun y => fi_52 (fun y' => ?_) (fun y' => ?_)))
      · rw [y] at y'; exact absurd y' (by decide)
      · exact hw (_, _) ⟨fi_set (by omega) j1 y, fi_keep j0 y'⟩
      · exact hw (_, _) ⟨fi_keep j1 y, fi_set (by omega) j0 y'⟩
      · exact hw (_, _) ⟨fi_keep j1 y, fi_keep j0 y'⟩
  · rw [bi_t0 _ (by omega)] at z
    exact H pT cD a10 a11 a12 a13 a14 a15 a16 a17 a18 a19 hI (hI sg hsg (bi_nf z))
theorem gt_wp {post : Int32 → St2 → Prop} {S sg : Nat} (hS : S ≤ 4) (hsg : sg < S) (hg : a20 sg < 0) (hI : fv_I S cD a7 a8 a9 a19)
    (H : ∀ (b1 b2 : Int32) (b10 b11 b12 b13 b14 b15 b16 b17 b18 b19 : Nat → Int32), fv_I S b2 a7 a8 a9 b19 → fv_K S a7 a8 a9 sg (b19 sg) → post (b19 sg) (pC, nI S, tC, iS, sM, sD, vN, nS, uM, iM, qE, b1, b2, dC, mC, a1, a2, a3, a4, a5, a6, a7, a8, a9, b10, b11, b12, b13, b14, b15, b16, b17, b18, b19, a20, a21, a22)) : wpX_gateTable post (pC, nI S, tC, iS, sM, sD, vN, nS, uM, iM, qE, pT, cD, dC, mC, a1, a2, a3, a4, a5, a6, a7, a8, a9, a10, a11, a12, a13, a14, a15, a16, a17, a18, a19, a20, a21, a22) (nI sg) := by
  refine ⟨pk_in sg 4 (by omega), br_t (by rw [nI_clamp (by omega)]; exact hg) ?_⟩
  refine fi_wp hS hsg hI (fun b1 b2 b10 b11 b12 b13 b14 b15 b16 b17 b18 b19 h1 h2 => ⟨pk_in sg 4 (by omega), ?_⟩)
  have h := H b1 b2 b10 b11 b12 b13 b14 b15 b16 b17 b18 b19 h1 h2
  rw [← bi_cl (f := b19) (show sg < 2 ^ 31 by omega)] at h
  exact h
end
end
section
/-! drivenAt, visit, runCircuit, verify -/
section
variable {pC sC tC iS sM sD vN nS uM iM qE pT cD dC mC : Int32} {a1 a2 a3 a4 a6 a7 a8 a9 a10 a11 a12 a13 a14 a15 a16 a17 a18 a19 a20 a22 : Nat → Int32} {a5 a21 : Nat → Int64}
def dr_D (S c : Nat) (iS : Int32) (a7 a8 a9 : Nat → Int32) (r : Int32) : Prop := ∀ s, bt r s = true → s < S ∧ bt iS s = false ∧ ∃ t : Int32, fv_K S a7 a8 a9 s t ∧ ¬ bt t c = bt (nI c) s
theorem dr_eq {x y : Int32} {c s : Nat} (hc : c < 32) (hs : s < 32) : ((x >>> (nI c &&& 31)) &&& 1) = ((y >>> (nI s &&& 31)) &&& 1) ↔ bt x c = bt y s := by
  rw [bi_ts x hc, bi_ts y hs]
  cases bt x c <;> cases bt y s
  · exact ⟨fun _ => rfl, fun _ => rfl⟩
  · exact ⟨fun z => absurd z (by decide), fun z => absurd z (by decide)⟩
  · exact ⟨fun z => absurd z (by decide), fun z => absurd z (by decide)⟩
  · exact ⟨fun _ => rfl, fun _ => rfl⟩
theorem dr_wp {post : Int32 → St2 → Prop} {S c : Nat} {p0 : Int32} (hp : p0 = nI c) (hS : S ≤ 4) (hc : c < 16) (hg : ∀ s, s < S → bt iS s = false → a20 s < 0) (hI : fv_I S cD a7 a8 a9 a19)
    (H : ∀ (r : Int32) (b1 b2 : Int32) (b10 b11 b12 b13 b14 b15 b16 b17 b18 b19 : Nat → Int32), fv_I S b2 a7 a8 a9 b19 → dr_D S c iS a7 a8 a9 r → post r (pC, nI S, tC, iS, sM, sD, vN, nS, uM, iM, qE, b1, b2, dC, mC, a1, a2, a3, a4, a5, a6, a7, a8, a9, b10, b11, b12, b13, b14, b15, b16, b17, b18, b19, a20, a21, a22)) : wpX_drivenAt post (pC, nI S, tC, iS, sM, sD, vN, nS, uM, iM, qE, pT, cD, dC, mC, a1, a2, a3, a4, a5, a6, a7, a8, a9, a10, a11, a12, a13, a14, a15, a16, a17, a18, a19, a20, a21, a22) p0 := by
  subst hp
  refine pk_loop (σ := Int32 × Int32 × Int32 × (Nat → Int32) × (Nat → Int32) × (Nat → Int32) × (Nat → Int32) × (Nat → Int32) × (Nat → Int32) × (Nat → Int32) × (Nat → Int32) × (Nat → Int32) × (Nat → Int32)) (fun n i s => wX_drivenAt_4 post (nI c) n s.1 (nI i) pC (nI S) tC iS sM sD vN nS uM iM qE s.2.1 s.2.2.1 dC mC a1 a2 a3 a4 a5 a6 a7 a8 a9 s.2.2.2.1 s.2.2.2.2.1 s.2.2.2.2.2.1 s.2.2.2.2.2.2.1 s.2.2.2.2.2.2.2.1 s.2.2.2.2.2.2.2.2.1 s.2.2.2.2.2.2.2.2.2.1 s.2.2.2.2.2.2.2.2.2.2.1 s.2.2.2.2.2.2.2.2.2.2.2.1 s.2.2.2.2.2.2.2.2.2.2.2.2 a20 a21 a22) (fun _ s => fv_I S s.2.2.1 a7 a8 a9 s.2.2.2.2.2.2.2.2.2.2.2.2 ∧ dr_D S c iS a7 a8 a9 s.1) S 0 (0, pT, cD, a10, a11, a12, a13, a14, a15, a16, a17, a18, a19) (by omega) ⟨hI, fun s hs => absurd hs (by rw [b_0]; decide)⟩ ?_ ?_
  · intro n s hJ
    obtain ⟨r, b1, b2, b10, b11, b12, b13, b14, b15, b16, b17, b18, b19⟩ := s
    exact pk_le S S (fun _ => H r b1 b2 b10 b11 b12 b13 b14 b15 b16 b17 b18 b19 hJ.1 hJ.2) (fun z => absurd z (by omega))
  · intro n i s hi hJ hw
    obtain ⟨r, b1, b2, b10, b11, b12, b13, b14, b15, b16, b17, b18, b19⟩ := s
    have hJ1 : fv_I S b2 a7 a8 a9 b19 := hJ.1
    have hJ2 : dr_D S c iS a7 a8 a9 r := hJ.2
    refine pk_le S i (fun z => absurd z (by omega)) (fun _ => br_c (fun z => ?_) (fun z => nm_r (nI_1 i) (hw (r, b1, b2, b10, b11, b12, b13, b14, b15, b16, b17, b18, b19) ⟨hJ1, hJ2⟩)))
    rw [bi_t0 _ (by omega)] at z
    refine gt_wp hS hi (hg i hi z) hJ1 (fun d1 d2 d10 d11 d12 d13 d14 d15 d16 d17 d18 d19 h1 h2 => ?_)
    refine br_c (fun y => nm_r (nI_1 i) (hw (r, d1, d2, d10, d11, d12, d13, d14, d15, d16, d17, d18, d19) ⟨h1, hJ2⟩)) (fun y => nm_e (nm_r (nI_1 i) (hw (r ||| ((1 : Int32) <<< (nI i &&& 31)), d1, d2, d10, d11, d12, d13, d14, d15, d16, d17, d18, d19) ⟨h1, fun s hs => ?_⟩)))
    rw [dr_eq (by omega) (by omega)] at y
    have hs' : bt (r ||| ((1 : Int32) <<< (nI i &&& 31))) s = true := hs
    rw [b_or, Bool.or_eq_true] at hs'
    rcases hs' with g | g
    · exact hJ2 s g
    · have l := bi_lt g
      rw [bi_s1 i (by omega) s l] at g
      rw [of_decide_eq_true g]
      exact ⟨hi, z, d19 i, h2, y⟩
theorem nf_wp {post : St2 → Prop} {w : Nat} {p1 : Int32} (h1 : 1 ≤ w) (h2 : w < 3) (H : ∀ b22 : Nat → Int32, b22 0 = a22 0 → post (pC, sC, tC, iS, sM, sD, vN, nS, uM, iM, qE, pT, cD, dC, mC, a1, a2, a3, a4, a5, a6, a7, a8, a9, a10, a11, a12, a13, a14, a15, a16, a17, a18, a19, a20, a21, b22)) : wpX_noteFailure post (pC, sC, tC, iS, sM, sD, vN, nS, uM, iM, qE, pT, cD, dC, mC, a1, a2, a3, a4, a5, a6, a7, a8, a9, a10, a11, a12, a13, a14, a15, a16, a17, a18, a19, a20, a21, a22) (nI w) p1 := by
  have e : ∀ x, upd a22 (nI w).toNatClampNeg x 0 = a22 0 := fun x => by rw [nI_clamp (by omega), pk_un (by omega)]
  exact ⟨pk_in w 3 h2, br_c (fun _ => ⟨pk_in w 3 h2, nm_e (H _ (e _))⟩) (fun _ => ⟨pk_in w 3 h2, br_c (fun _ => H _ rfl) (fun _ => ⟨pk_in w 3 h2, nm_e (H _ (e _))⟩)⟩)⟩
theorem vi_182 {post : St2 → Prop} {x1 x4 x5 : Int32} (H : ∀ b22 : Nat → Int32, b22 0 = a22 0 → post (pC, sC, tC, iS, sM, sD, vN, nS, uM, iM, qE, pT, cD, dC, mC, a1, a2, a3, a4, a5, a6, a7, a8, a9, a10, a11, a12, a13, a14, a15, a16, a17, a18, a19, a20, a21, b22)) : wX_visit_182 post x1 x4 x5 pC sC tC iS sM sD vN nS uM iM qE pT cD dC mC a1 a2 a3 a4 a5 a6 a7 a8 a9 a10 a11 a12 a13 a14 a15 a16 a17 a18 a19 a20 a21 a22 := by
  unfold wX_visit_182
  exact br_c (fun _ => br_c (fun _ => H _ rfl) (fun _ => br_c (fun _ => nf_wp (w := 2) (by omega) (by omega) (fun b h => H b h)) (fun _ => H _ rfl))) (fun _ => H _ rfl)
theorem vi_171 {post : St2 → Prop} {x1 x4 x5 x6 : Int32} (H : ∀ b22 : Nat → Int32, b22 0 = a22 0 → post (pC, sC, tC, iS, sM, sD, vN, nS, uM, iM, qE, pT, cD, dC, mC, a1, a2, a3, a4, a5, a6, a7, a8, a9, a10, a11, a12, a13, a14, a15, a16, a17, a18, a19, a20, a21, b22)) : wX_visit_171 post x1 x4 x5 x6 pC sC tC iS sM sD vN nS uM iM qE pT cD dC mC a1 a2 a3 a4 a5 a6 a7 a8 a9 a10 a11 a12 a13 a14 a15 a16 a17 a18 a19 a20 a21 a22 := by
  unfold wX_visit_171
  exact br_c (fun _ => vi_182 H) (fun _ => nf_wp (w := 1) (by omega) (by omega) (fun b h => vi_182 (fun b' h' => H b' (h'.trans h))))
/-- a driven signal is excited in every state with this code -/
theorem vi_dr {S c : Nat} {r : Int32} (hc : c < 2 ^ S) (hS : S ≤ 4) (h7 : ¬ a7 c = 0) (hC : ne_C S iS a7 a8 a9) (hD : dr_D S c iS a7 a8 a9 r) {s : Nat} (hs : bt r s = true) : bt (a9 c) s = true := by
  obtain ⟨s1, s2, t, t1, t2⟩ := hD s hs
  have p2 := bi_p2 hS
  refine bi_nf (fun y => t2 ?_)
  have y8 : ¬ bt (a8 c) s = true := fun g => by
    have := hC s s1 s2 c hc h7 g
    rw [y] at this
    exact absurd this (by decide)
  have v : fv_v a7 a8 a9 s c = if bt (nI c) s = true then 1 else 0 := by
    unfold fv_v
    rw [if_neg h7, if_neg (by rw [y]; decide), if_neg y8, bi_ts _ (by omega)]
  obtain ⟨k1, k0⟩ := t1 c hc
  rw [v] at k1 k0
  cases g : bt (nI c) s
  · exact k0 (by rw [g]; rfl)
  · exact k1 (by rw [g]; rfl)
def vi_J (S T k i : Nat) (R : Nat → Prop) (a1 a3 a7 a8 a9 : Nat → Int32) (x5 : Int32) (e e' : Nat) (q0 : Nat → Int32) (b21 : Nat → Int64) (q : Nat → Int32) (y : Int32) (b19 : Nat → Int32) : Prop :=
  qu_i R b21 q e' ∧ e ≤ e' ∧ (∀ j, j < e → q j = q0 j) ∧ fv_I S y a7 a8 a9 b19 ∧ ∀ t, t < i → ne_en a3 (k / 16) t → ∀ s, s < 32 → a1 t = nI s → bt x5 s = true
theorem vi_121 {post : St2 → Prop} {J25 : Int32 → Int32 → Int32 → Int32 → Int32 → Int32 → Int32 → Int32 → Int32 → Int32 → Int32 → Int32 → Int32 → Int32 → Int32 → Int32 → Int32 → Int32 → (Nat → Int32) → (Nat → Int32) → (Nat → Int32) → (Nat → Int32) → (Nat → Int64) → (Nat → Int32) → (Nat → Int32) → (Nat → Int32) → (Nat → Int32) → (Nat → Int32) → (Nat → Int32) → (Nat → Int32) → (Nat → Int32) → (Nat → Int32) → (Nat → Int32) → (Nat → Int32) → (Nat → Int32) → (Nat → Int32) → (Nat → Int32) → (Nat → Int32) → (Nat → Int64) → (Nat → Int32) → Prop} {x1 x2 x3 x4 x5 x6 x8 x10 : Int32} {R : Nat → Prop} {e k' i : Nat} (hi : i < 12) (hq : qu_i R a21 a6 e) (hk : k' < 1024) (hR : R k') (hx : (16 * ((x2 &&& (x8 ^^^ (-1))) ||| a4 i)) + x10 = nI k')
    (H : ∀ (e' : Nat) (b' : Nat → Int64) (q' : Nat → Int32), qu_i R b' q' e' → e ≤ e' → (∀ j, j < e → q' j = a6 j) → J25 x5 x6 (nI (i + 1)) pC sC tC iS sM sD vN nS uM iM (nI e') pT cD dC mC a1 a2 a3 a4 a5 q' a7 a8 a9 a10 a11 a12 a13 a14 a15 a16 a17 a18 a19 a20 b' a22) :
    wX_visit_121 post J25 x1 x2 x3 x4 x5 x6 (nI i) x8 x10 pC sC tC iS sM sD vN nS uM iM (nI e) pT cD dC mC a1 a2 a3 a4 a5 a6 a7 a8 a9 a10 a11 a12 a13 a14 a15 a16 a17 a18 a19 a20 a21 a22 := by
  unfold wX_visit_121
  exact ⟨pk_in i 12 hi, nm_e (qu_meet (by rw [nI_clamp (by omega)]; exact hx) hq hk hR (fun e' b' q' h1 h2 h3 _ => nm_r (nI_1 i) (H e' b' q' h1 h2 h3)))⟩
theorem vi_wp {post : St2 → Prop} {S T k e st : Nat} {R : Nat → Prop} {p0 : Int32} (hp : p0 = nI k) (hW : ne_W S T a1 a3 a4) (hR : ne_R S T a1 a3 a4 a7 a9 st R) (hC : ne_C S iS a7 a8 a9) (hg : ∀ s, s < S → bt iS s = false → a20 s < 0) (hI : fv_I S cD a7 a8 a9 a19) (hk : R k) (hq : qu_i R a21 a6 e)
    (H : ∀ (e' : Nat) (b21 : Nat → Int64) (b6 b22 : Nat → Int32) (b1 b2 : Int32) (b10 b11 b12 b13 b14 b15 b16 b17 b18 b19 : Nat → Int32), qu_i R b21 b6 e' → e ≤ e' → (∀ j, j < e → b6 j = a6 j) → fv_I S b2 a7 a8 a9 b19 → b22 0 = a22 0 → post (pC, nI S, nI T, iS, sM, sD, vN, nS, uM, iM, nI e', b1, b2, dC, mC, a1, a2, a3, a4, a5, b6, a7, a8, a9, b10, b11, b12, b13, b14, b15, b16, b17, b18, b19, a20, b21, b22)) :
    wpX_visit post (pC, nI S, nI T, iS, sM, sD, vN, nS, uM, iM, nI e, pT, cD, dC, mC, a1, a2, a3, a4, a5, a6, a7, a8, a9, a10, a11, a12, a13, a14, a15, a16, a17, a18, a19, a20, a21, a22) p0 := by
  subst hp
  have hS := hW.2.1
  have p2 := bi_p2 hS
  obtain ⟨k1, k2, k3, k4, k5⟩ := hR.2 k hk
  refine nm_r (e' := nI (k / 16)) (pk_shrN (by omega) _ 4 (by decide)) (nm_r (e' := nI (k % 16)) (pk_andN (by omega) 4 (by decide)) ?_)
  refine dr_wp rfl hS (by omega) hg hI (fun r d1 d2 d10 d11 d12 d13 d14 d15 d16 d17 d18 d19 hI1 hD => ?_)
  refine pk_loop (σ := Int32 × Int32 × Nat × (Nat → Int64) × (Nat → Int32) × Int32 × Int32 × (Nat → Int32) × (Nat → Int32) × (Nat → Int32) × (Nat → Int32) × (Nat → Int32) × (Nat → Int32) × (Nat → Int32) × (Nat → Int32) × (Nat → Int32) × (Nat → Int32)) (fun n i s => wX_visit_25 post (nI k) (nI (k / 16)) (nI (k % 16)) r n s.1 s.2.1 (nI i) pC (nI S) (nI T) iS sM sD vN nS uM iM (nI s.2.2.1) s.2.2.2.2.2.1 s.2.2.2.2.2.2.1 dC mC a1 a2 a3 a4 a5 s.2.2.2.2.1 a7 a8 a9 s.2.2.2.2.2.2.2.1 s.2.2.2.2.2.2.2.2.1 s.2.2.2.2.2.2.2.2.2.1 s.2.2.2.2.2.2.2.2.2.2.1 s.2.2.2.2.2.2.2.2.2.2.2.1 s.2.2.2.2.2.2.2.2.2.2.2.2.1 s.2.2.2.2.2.2.2.2.2.2.2.2.2.1 s.2.2.2.2.2.2.2.2.2.2.2.2.2.2.1 s.2.2.2.2.2.2.2.2.2.2.2.2.2.2.2.1 s.2.2.2.2.2.2.2.2.2.2.2.2.2.2.2.2 a20 s.2.2.2.1 a22)
    (fun i s => vi_J S T k i R a1 a3 a7 a8 a9 s.1 e s.2.2.1 a6 s.2.2.2.1 s.2.2.2.2.1 s.2.2.2.2.2.2.1 s.2.2.2.2.2.2.2.2.2.2.2.2.2.2.2.2) T 0 (0, 0, e, a21, a6, d1, d2, d10, d11, d12, d13, d14, d15, d16, d17, d18, d19) (by omega) ⟨hq, Nat.le_refl e, fun j _ => rfl, hI1, fun t ht => absurd ht (by omega)⟩ ?_ ?_
  · intro n s hJ
    obtain ⟨x5, x6, e', b21, b6, b1, b2, b10, b11, b12, b13, b14, b15, b16, b17, b18, b19⟩ := s
    have hJ' : vi_J S T k T R a1 a3 a7 a8 a9 x5 e e' a6 b21 b6 b2 b19 := hJ
    obtain ⟨h1, h2, h3, h4, h5⟩ := hJ'
    have hT := hW.2.2.1
    refine pk_le T T (fun _ => ?_) (fun z => absurd z (by omega))
    refine br_t ((bi_an _ _).mpr (fun s hs hr => ?_)) (vi_171 (fun b22 h => H e' b21 b6 b22 b1 b2 b10 b11 b12 b13 b14 b15 b16 b17 b18 b19 h1 h2 h3 h4 h))
    obtain ⟨t, t1, t2, t3⟩ := k5 s (vi_dr k2 hS k3 hC hD hr)
    exact h5 t t1 t2 s hs t3
  · intro n i s hi hJ hw
    obtain ⟨x5, x6, e', b21, b6, b1, b2, b10, b11, b12, b13, b14, b15, b16, b17, b18, b19⟩ := s
    have hJ' : vi_J S T k i R a1 a3 a7 a8 a9 x5 e e' a6 b21 b6 b2 b19 := hJ
    obtain ⟨h1, h2, h3, h4, h5⟩ := hJ'
    have hT := hW.2.2.1
    refine pk_le T i (fun z => absurd z (by omega)) (fun _ => ⟨pk_in i 12 (by omega), nm_r (bi_cl (by omega)) ?_⟩)
    refine br_c (fun hen => ⟨pk_in i 12 (by omega), ?_⟩) (fun hen => nm_r (nI_1 i) (hw (x5, x6, e', b21, b6, b1, b2, b10, b11, b12, b13, b14, b15, b16, b17, b18, b19) ⟨h1, h2, h3, h4, fun t ht ht' => ?_⟩))
    · obtain ⟨sg, _, _, y1, y2, _⟩ := hW.2.2.2 i hi
      have N5 : ∀ t, t < i + 1 → ne_en a3 (k / 16) t → ∀ s, s < 32 → a1 t = nI s → bt (x5 ||| ((1 : Int32) <<< (a1 i &&& 31))) s = true := by
        intro t ht ht' s hs hs'
        rw [b_or, Bool.or_eq_true]
        by_cases c : t = i
        · right
          rw [← c, hs', bi_s1 s hs s hs, decide_eq_true rfl]
        · exact Or.inl (h5 t (by omega) ht' s hs hs')
      refine nm_r (e' := (1 : Int32) <<< (a1 i &&& 31)) (by rw [nI_clamp (by omega)]) (nm_e ?_)
      refine br_c (fun _ => nm_r (nI_1 i) (hw (_, x6, e', b21, b6, b1, b2, b10, b11, b12, b13, b14, b15, b16, b17, b18, b19) ⟨h1, h2, h3, h4, N5⟩)) (fun _ => nm_e ?_)
      have c16 : k % 16 ^^^ 2 ^ sg < 2 ^ 4 := Nat.xor_lt_two_pow (by omega) (Nat.pow_lt_pow_right (by decide) (by omega))
      refine dr_wp (c := k % 16 ^^^ 2 ^ sg) (by rw [y1, bi_sn sg (by omega), nx_xor]) hS c16 hg h4 (fun r' f1 f2 f10 f11 f12 f13 f14 f15 f16 f17 f18 f19 hI2 _ => ?_)
      obtain ⟨k', w1, w2⟩ := k4 i hi hen
      have w3 := (hR.2 k' w2).1
      have fin : ∀ z6 : Int32, wX_visit_121 post (wX_visit_25 post (nI k) (nI (k / 16)) (nI (k % 16)) r n) (nI k) (nI (k / 16)) (nI (k % 16)) r (x5 ||| ((1 : Int32) <<< (a1 i &&& 31))) z6 (nI i) (a3 i) (nI (k % 16) ^^^ ((1 : Int32) <<< (a1 i &&& 31))) pC (nI S) (nI T) iS sM sD vN nS uM iM (nI e') f1 f2 dC mC a1 a2 a3 a4 a5 b6 a7 a8 a9 f10 f11 f12 f13 f14 f15 f16 f17 f18 f19 a20 b21 a22 := fun z6 => vi_121 (by omega) h1 w3 w2 w1 (fun e2 c21 c6 g1 g2 g3 => hw (_, z6, e2, c21, c6, f1, f2, f10, f11, f12, f13, f14, f15, f16, f17, f18, f19) ⟨g1, Nat.le_trans h2 g2, fun j hj => (g3 j (Nat.lt_of_lt_of_le hj h2)).trans (h3 j hj), hI2, N5⟩)
      exact br_c (fun _ => fin x6) (fun _ => fin 1)
    · refine h5 t ?_ ht'
      rcases Nat.lt_or_ge t i with d | d
      · exact d
      · have d' : t = i := by omega
        rw [d'] at ht'
        exact absurd ht' hen
theorem rc_72 {post : St2 → Prop} {S T e st : Nat} {R : Nat → Prop} (hW : ne_W S T a1 a3 a4) (hR : ne_R S T a1 a3 a4 a7 a9 st R) (hC : ne_C S iS a7 a8 a9) (hg : ∀ s, s < S → bt iS s = false → a20 s < 0) (hI : fv_I S cD a7 a8 a9 a19) (hq : qu_i R a21 a6 e) (h22 : a22 0 < 0)
    (H : ∀ (q' m' : Int32) (b21 : Nat → Int64) (b6 b22 : Nat → Int32) (b1 b2 : Int32) (b10 b11 b12 b13 b14 b15 b16 b17 b18 b19 : Nat → Int32), fv_I S b2 a7 a8 a9 b19 → b22 0 < 0 → post (pC, nI S, nI T, iS, sM, sD, vN, nS, uM, iM, q', b1, b2, 1, m', a1, a2, a3, a4, a5, b6, a7, a8, a9, b10, b11, b12, b13, b14, b15, b16, b17, b18, b19, a20, b21, b22)) :
    ∃ n, wX_runCircuit_72 post n 0 pC (nI S) (nI T) iS sM sD vN nS uM iM (nI e) pT cD dC mC a1 a2 a3 a4 a5 a6 a7 a8 a9 a10 a11 a12 a13 a14 a15 a16 a17 a18 a19 a20 a21 a22 := by
  refine pk_loop (σ := Nat × (Nat → Int64) × (Nat → Int32) × (Nat → Int32) × Int32 × Int32 × (Nat → Int32) × (Nat → Int32) × (Nat → Int32) × (Nat → Int32) × (Nat → Int32) × (Nat → Int32) × (Nat → Int32) × (Nat → Int32) × (Nat → Int32) × (Nat → Int32)) (fun n i s => wX_runCircuit_72 post n (nI i) pC (nI S) (nI T) iS sM sD vN nS uM iM (nI s.1) s.2.2.2.2.1 s.2.2.2.2.2.1 dC mC a1 a2 a3 a4 a5 s.2.2.1 a7 a8 a9 s.2.2.2.2.2.2.1 s.2.2.2.2.2.2.2.1 s.2.2.2.2.2.2.2.2.1 s.2.2.2.2.2.2.2.2.2.1 s.2.2.2.2.2.2.2.2.2.2.1 s.2.2.2.2.2.2.2.2.2.2.2.1 s.2.2.2.2.2.2.2.2.2.2.2.2.1 s.2.2.2.2.2.2.2.2.2.2.2.2.2.1 s.2.2.2.2.2.2.2.2.2.2.2.2.2.2.1 s.2.2.2.2.2.2.2.2.2.2.2.2.2.2.2 a20 s.2.1 s.2.2.2.1)
    (fun i s => qu_i R s.2.1 s.2.2.1 s.1 ∧ i ≤ s.1 ∧ fv_I S s.2.2.2.2.2.1 a7 a8 a9 s.2.2.2.2.2.2.2.2.2.2.2.2.2.2.2 ∧ s.2.2.2.1 0 < 0) 1024 0 (e, a21, a6, a22, pT, cD, a10, a11, a12, a13, a14, a15, a16, a17, a18, a19) (by omega) ⟨hq, by omega, hI, h22⟩ ?_ ?_
  · intro n s hJ
    obtain ⟨e', b21, b6, b22, b1, b2, b10, b11, b12, b13, b14, b15, b16, b17, b18, b19⟩ := s
    have h1 : qu_i R b21 b6 e' := hJ.1
    have l := h1.1
    have E : wX_runCircuit_105 post pC (nI S) (nI T) iS sM sD vN nS uM iM (nI e') b1 b2 dC mC a1 a2 a3 a4 a5 b6 a7 a8 a9 b10 b11 b12 b13 b14 b15 b16 b17 b18 b19 a20 b21 b22 := H _ _ b21 b6 b22 b1 b2 b10 b11 b12 b13 b14 b15 b16 b17 b18 b19 hJ.2.2.1 hJ.2.2.2
    exact pk_le e' 1024 (fun _ => E) (fun z => absurd z (by omega))
  · intro n i s hi hJ hw
    obtain ⟨e', b21, b6, b22, b1, b2, b10, b11, b12, b13, b14, b15, b16, b17, b18, b19⟩ := s
    have h1 : qu_i R b21 b6 e' := hJ.1
    have E : wX_runCircuit_105 post pC (nI S) (nI T) iS sM sD vN nS uM iM (nI e') b1 b2 dC mC a1 a2 a3 a4 a5 b6 a7 a8 a9 b10 b11 b12 b13 b14 b15 b16 b17 b18 b19 a20 b21 b22 := H _ _ b21 b6 b22 b1 b2 b10 b11 b12 b13 b14 b15 b16 b17 b18 b19 hJ.2.2.1 hJ.2.2.2
    have l := h1.1
    refine pk_le e' i (fun _ => E) (fun z => pk_le 1024 i (fun _ => E) (fun _ => ⟨pk_in i 1024 hi, ?_⟩))
    obtain ⟨k, k1, k2, k3, k4⟩ := h1.2.1 i z
    refine nm_r (e' := nI k) (by rw [nI_clamp (by omega)]; exact k2) (nm_r (nI_1 i) ?_)
    refine vi_wp rfl hW hR hC hg hJ.2.2.1 k4 h1 (fun e2 c21 c6 c22 f1 f2 f10 f11 f12 f13 f14 f15 f16 f17 f18 f19 g1 g2 g3 g4 g5 => hw (e2, c21, c6, c22, f1, f2, f10, f11, f12, f13, f14, f15, f16, f17, f18, f19) ⟨g1, by show i + 1 ≤ e2; omega, g4, ?_⟩)
    show c22 0 < 0
    rw [g5]; exact hJ.2.2.2
theorem rc_wp {post : St2 → Prop} {S T m0 c0 : Nat} {R : Nat → Prop} (hW : ne_W S T a1 a3 a4) (hm : m0 < 64) (hc : c0 < 2 ^ S) (hR : ne_R S T a1 a3 a4 a7 a9 (16 * m0 + c0) R) (hC : ne_C S iS a7 a8 a9) (hg : ∀ s, s < S → bt iS s = false → a20 s < 0) (hI : fv_I S cD a7 a8 a9 a19) (h22 : ¬ dC = 0 → a22 0 < 0)
    (H : ∀ (q' d' m' : Int32) (b21 : Nat → Int64) (b6 b22 : Nat → Int32) (b1 b2 : Int32) (b10 b11 b12 b13 b14 b15 b16 b17 b18 b19 : Nat → Int32), fv_I S b2 a7 a8 a9 b19 → b22 0 < 0 → post (pC, nI S, nI T, iS, nI m0, nI c0, vN, nS, uM, iM, q', b1, b2, d', m', a1, a2, a3, a4, a5, b6, a7, a8, a9, b10, b11, b12, b13, b14, b15, b16, b17, b18, b19, a20, b21, b22)) :
    wpX_runCircuit post (pC, nI S, nI T, iS, nI m0, nI c0, vN, nS, uM, iM, qE, pT, cD, dC, mC, a1, a2, a3, a4, a5, a6, a7, a8, a9, a10, a11, a12, a13, a14, a15, a16, a17, a18, a19, a20, a21, a22) := by
  have p2 := bi_p2 hW.2.1
  refine br_c (fun _ => ?_) (fun z => H qE dC mC a21 a6 a22 pT cD a10 a11 a12 a13 a14 a15 a16 a17 a18 a19 hI (h22 z))
  refine pk_loop (σ := Nat → Int64) (fun n i s => wX_runCircuit_10 post pC (nI S) (nI T) iS (nI m0) (nI c0) vN nS uM iM qE pT cD dC mC n (nI i) a1 a2 a3 a4 a5 a6 a7 a8 a9 a10 a11 a12 a13 a14 a15 a16 a17 a18 a19 a20 s a22) (fun i s => ∀ j, j < i → s j = 0) 16 0 a21 (by omega) (fun j hj => absurd hj (by omega)) ?_ ?_
  · intro n b21 hJ
    refine pk_le 16 16 (fun _ => ?_) (fun z => absurd z (by omega))
    refine pk_loop (σ := Nat → Int32) (fun n i s => wX_runCircuit_31 post pC (nI S) (nI T) iS (nI m0) (nI c0) vN nS uM iM qE pT cD dC mC n (nI i) a1 a2 a3 a4 a5 a6 a7 a8 a9 a10 a11 a12 a13 a14 a15 a16 a17 a18 a19 a20 b21 s) (fun i s => ∀ j, j < i → s j = -1) 3 0 a22 (by omega) (fun j hj => absurd hj (by omega)) ?_ ?_
    · intro n b22 hJ2
      refine pk_le 3 3 (fun _ => ?_) (fun z => absurd z (by omega))
      refine qu_meet (e := 0) (k := 16 * m0 + c0) (G := R) ?_ (qu_0 hJ) (by omega) hR.1 (fun e' c21 c6 h1 h2 h3 h4 => rc_72 hW hR hC hg hI h1 (by rw [hJ2 0 (by omega)]; decide) (fun q' m' => H q' 1 m'))
      rw [show (16 : Int32) = nI 16 from rfl, pk_mul, nI_add]
    · intro n i s hi hJ2 hw
      refine pk_le 3 i (fun z => absurd z (by omega)) (fun _ => ⟨pk_in i 3 hi, nm_r (by rw [nI_clamp (by omega)]) (nm_r (nI_1 i) (hw (upd s i (-1)) (fun j hj => ?_)))⟩)
      by_cases c : j = i
      · rw [c, pk_us]
      · rw [pk_un c]
        exact hJ2 j (by omega)
  · intro n i s hi hJ hw
    refine pk_le 16 i (fun z => absurd z (by omega)) (fun _ => ⟨pk_in i 16 hi, nm_r (by rw [nI_clamp (by omega)]) (nm_r (nI_1 i) (hw (vp_updL s i 0) (fun j hj => ?_)))⟩)
    by_cases c : j = i
    · rw [c, pk_uLs]
    · rw [pk_uLn c]
      exact hJ j (by omega)
theorem ve_wp {post : Int32 → St2 → Prop} {S T m0 c0 : Nat} {R : Nat → Prop} (hW : ne_W S T a1 a3 a4) (hm : m0 < 64) (hc : c0 < 2 ^ S) (hR : ne_R S T a1 a3 a4 a7 a9 (16 * m0 + c0) R) (hC : ne_C S iS a7 a8 a9) (hg : ∀ s, s < S → bt iS s = false → a20 s < 0) (hI : fv_I S cD a7 a8 a9 a19) (h22 : ¬ dC = 0 → a22 0 < 0)
    (H : ∀ (r q' d' m' : Int32) (b21 : Nat → Int64) (b6 b22 : Nat → Int32) (b1 b2 : Int32) (b10 b11 b12 b13 b14 b15 b16 b17 b18 b19 : Nat → Int32), ¬ r = 5 → fv_I S b2 a7 a8 a9 b19 → b22 0 < 0 → post r (pC, nI S, nI T, iS, nI m0, nI c0, 1, nS, uM, iM, q', b1, b2, d', m', a1, a2, a3, a4, a5, b6, a7, a8, a9, b10, b11, b12, b13, b14, b15, b16, b17, b18, b19, a20, b21, b22)) :
    wpX_verify post (pC, nI S, nI T, iS, nI m0, nI c0, 1, nS, uM, iM, qE, pT, cD, dC, mC, a1, a2, a3, a4, a5, a6, a7, a8, a9, a10, a11, a12, a13, a14, a15, a16, a17, a18, a19, a20, a21, a22) := by
  refine br_t rfl ?_
  refine rc_wp hW hm hc hR hC hg hI h22 (fun q' d' m' b21 b6 b22 b1 b2 b10 b11 b12 b13 b14 b15 b16 b17 b18 b19 h1 h2 => ?_)
  exact br_t h2 (br_c (fun _ => br_c (fun _ => H 1 q' d' m' b21 b6 b22 b1 b2 b10 b11 b12 b13 b14 b15 b16 b17 b18 b19 (by decide) h1 h2) (fun _ => H 7 q' d' m' b21 b6 b22 b1 b2 b10 b11 b12 b13 b14 b15 b16 b17 b18 b19 (by decide) h1 h2)) (fun _ => H 6 q' d' m' b21 b6 b22 b1 b2 b10 b11 b12 b13 b14 b15 b16 b17 b18 b19 (by decide) h1 h2))
end
end
section
/-! isOutput, nextValue, gate, holds -/
section
variable {pC sC tC iS sM sD vN nS uM iM qE pT cD dC mC : Int32} {a1 a2 a3 a4 a6 a7 a8 a9 a10 a11 a12 a13 a14 a15 a16 a17 a18 a19 a20 a22 : Nat → Int32} {a5 a21 : Nat → Int64}
theorem io_wp {post : Int32 → Prop} {S s : Nat} (hS : S ≤ 4) (hs : s < S) (H1 : bt iS s = false → post 1) (H0 : bt iS s = true → post 0) : wpX_isOutput post (pC, nI S, tC, iS, sM, sD, vN, nS, uM, iM, qE, pT, cD, dC, mC, a1, a2, a3, a4, a5, a6, a7, a8, a9, a10, a11, a12, a13, a14, a15, a16, a17, a18, a19, a20, a21, a22) (nI s) :=
  br_f (nI_pos (by omega)) (pk_lt s S (fun _ => br_c (fun z => H1 ((bi_t0 _ (by omega)).mp z)) (fun z => H0 (bi_nf (fun y => z ((bi_t0 _ (by omega)).mpr y))))) (fun z => absurd z (by omega)))
theorem io_any {post : Int32 → Prop} {S : Nat} {p0 : Int32} (hS : S ≤ 4) (H1 : ∀ s, s < S → p0 = nI s → bt iS s = false → post 1) (H0 : post 0) : wpX_isOutput post (pC, nI S, tC, iS, sM, sD, vN, nS, uM, iM, qE, pT, cD, dC, mC, a1, a2, a3, a4, a5, a6, a7, a8, a9, a10, a11, a12, a13, a14, a15, a16, a17, a18, a19, a20, a21, a22) p0 := by
  refine br_c (fun _ => H0) (fun z => ?_)
  obtain ⟨j, hj, rfl⟩ := nI_of z
  exact pk_lt j S (fun l => br_c (fun y => H1 j l rfl ((bi_t0 _ (by omega)).mp y)) (fun _ => H0)) (fun _ => H0)
theorem nv_wp {post : Int32 → Prop} {S s c : Nat} (hS : S ≤ 4) (hv : ¬ vN = 0) (hs : s < S) (hc : c < 2 ^ S) (H0 : bt iS s = true → post (-1)) (H1 : bt iS s = false → post (fv_v a7 a8 a9 s c)) : wpX_nextValue post (pC, nI S, tC, iS, sM, sD, vN, nS, uM, iM, qE, pT, cD, dC, mC, a1, a2, a3, a4, a5, a6, a7, a8, a9, a10, a11, a12, a13, a14, a15, a16, a17, a18, a19, a20, a21, a22) (nI s) (nI c) := by
  have p2 := bi_p2 hS
  refine br_f hv (io_wp hS hs (fun z => br_f (by decide) (br_f (nI_pos (by omega)) ?_)) (fun z => br_t rfl (H0 z)))
  exact pk_lt c (2 ^ S) (fun _ => fv_wp (by omega) (by omega) (H1 z)) (fun y => absurd y (by omega)) rfl (bi_sn S (by omega))
theorem ga_wp {post : Int32 → St2 → Prop} {S s c : Nat} (hS : S ≤ 4) (hs : s < S) (hc : c < 2 ^ S) (ho : bt iS s = false) (hg : a20 s < 0) (hI : fv_I S cD a7 a8 a9 a19)
    (H : ∀ (b1 b2 : Int32) (b10 b11 b12 b13 b14 b15 b16 b17 b18 b19 : Nat → Int32), fv_I S b2 a7 a8 a9 b19 → fv_K S a7 a8 a9 s (b19 s) → post ((b19 s >>> (nI c &&& 31)) &&& 1) (pC, nI S, tC, iS, sM, sD, 1, nS, uM, iM, qE, b1, b2, dC, mC, a1, a2, a3, a4, a5, a6, a7, a8, a9, b10, b11, b12, b13, b14, b15, b16, b17, b18, b19, a20, a21, a22)) : wpX_gate post (pC, nI S, tC, iS, sM, sD, 1, nS, uM, iM, qE, pT, cD, dC, mC, a1, a2, a3, a4, a5, a6, a7, a8, a9, a10, a11, a12, a13, a14, a15, a16, a17, a18, a19, a20, a21, a22) (nI s) (nI c) := by
  have p2 := bi_p2 hS
  refine br_t rfl (io_wp hS hs (fun z => br_f (by decide) (br_f (nI_pos (by omega)) ?_)) (fun z => by rw [ho] at z; exact absurd z (by decide)))
  refine pk_lt c (2 ^ S) (fun _ => ?_) (fun y => absurd y (by omega)) rfl (bi_sn S (by omega))
  exact gt_wp hS hs hg hI (fun b1 b2 b10 b11 b12 b13 b14 b15 b16 b17 b18 b19 h1 h2 => H b1 b2 b10 b11 b12 b13 b14 b15 b16 b17 b18 b19 h1 h2)
theorem ho_36 {post : Int32 → St2 → Prop} {J28 : Int32 → Int32 → Int32 → Int32 → Int32 → Int32 → Int32 → Int32 → Int32 → Int32 → Int32 → Int32 → Int32 → Int32 → Int32 → Int32 → (Nat → Int32) → (Nat → Int32) → (Nat → Int32) → (Nat → Int32) → (Nat → Int64) → (Nat → Int32) → (Nat → Int32) → (Nat → Int32) → (Nat → Int32) → (Nat → Int32) → (Nat → Int32) → (Nat → Int32) → (Nat → Int32) → (Nat → Int32) → (Nat → Int32) → (Nat → Int32) → (Nat → Int32) → (Nat → Int32) → (Nat → Int32) → (Nat → Int32) → (Nat → Int64) → (Nat → Int32) → Prop} {S s : Nat} (hS : S ≤ 4) (hs : s < S) (hg : ∀ s, s < S → bt iS s = false → a20 s < 0) (hI : fv_I S cD a7 a8 a9 a19)
    (H : ∀ (b1 b2 : Int32) (b10 b11 b12 b13 b14 b15 b16 b17 b18 b19 : Nat → Int32), fv_I S b2 a7 a8 a9 b19 → J28 (nI (s + 1)) pC (nI S) tC iS sM sD 1 nS uM iM qE b1 b2 dC mC a1 a2 a3 a4 a5 a6 a7 a8 a9 b10 b11 b12 b13 b14 b15 b16 b17 b18 b19 a20 a21 a22) : ∃ n, wL_holds_36 post J28 (nI S) (nI s) n 0 pC (nI S) tC iS sM sD 1 nS uM iM qE pT cD dC mC a1 a2 a3 a4 a5 a6 a7 a8 a9 a10 a11 a12 a13 a14 a15 a16 a17 a18 a19 a20 a21 a22 := by
  have p2 := bi_p2 hS
  refine pk_loop (σ := Int32 × Int32 × (Nat → Int32) × (Nat → Int32) × (Nat → Int32) × (Nat → Int32) × (Nat → Int32) × (Nat → Int32) × (Nat → Int32) × (Nat → Int32) × (Nat → Int32) × (Nat → Int32)) (fun n i K => wL_holds_36 post J28 (nI S) (nI s) n (nI i) pC (nI S) tC iS sM sD 1 nS uM iM qE K.1 K.2.1 dC mC a1 a2 a3 a4 a5 a6 a7 a8 a9 K.2.2.1 K.2.2.2.1 K.2.2.2.2.1 K.2.2.2.2.2.1 K.2.2.2.2.2.2.1 K.2.2.2.2.2.2.2.1 K.2.2.2.2.2.2.2.2.1 K.2.2.2.2.2.2.2.2.2.1 K.2.2.2.2.2.2.2.2.2.2.1 K.2.2.2.2.2.2.2.2.2.2.2 a20 a21 a22) (fun _ K => fv_I S K.2.1 a7 a8 a9 K.2.2.2.2.2.2.2.2.2.2.2) (2 ^ S) 0 (pT, cD, a10, a11, a12, a13, a14, a15, a16, a17, a18, a19) (Nat.zero_le _) hI ?_ ?_
  · intro n K hJ
    obtain ⟨b1, b2, b10, b11, b12, b13, b14, b15, b16, b17, b18, b19⟩ := K
    exact pk_le (2 ^ S) (2 ^ S) (fun _ => nm_r (nI_1 s) (H b1 b2 b10 b11 b12 b13 b14 b15 b16 b17 b18 b19 hJ)) (fun z => absurd z (by omega)) (bi_sn S (by omega))
  · intro n c K hc hJ hw
    obtain ⟨b1, b2, b10, b11, b12, b13, b14, b15, b16, b17, b18, b19⟩ := K
    have hJ' : fv_I S b2 a7 a8 a9 b19 := hJ
    refine pk_le (2 ^ S) c (fun z => absurd z (by omega)) (fun _ => ?_) (bi_sn S (by omega))
    refine nv_wp hS (by decide) hs hc (fun _ => br_f (by decide) (br_f (by decide) (nm_r (nI_1 c) (hw (b1, b2, b10, b11, b12, b13, b14, b15, b16, b17, b18, b19) hJ')))) (fun ho => ?_)
    have key : ∀ v : Int32, fv_v a7 a8 a9 s c = v → (v = 0 ∨ v = 1) → wL_holds_64 post J28 (wL_holds_36 post J28 (nI S) (nI s) n) (nI S) (nI s) (nI c) v pC (nI S) tC iS sM sD 1 nS uM iM qE b1 b2 dC mC a1 a2 a3 a4 a5 a6 a7 a8 a9 b10 b11 b12 b13 b14 b15 b16 b17 b18 b19 a20 a21 a22 := by
      intro v ev hv
      unfold wL_holds_64
      refine ga_wp hS hs hc ho (hg s hs ho) hJ' (fun d1 d2 d10 d11 d12 d13 d14 d15 d16 d17 d18 d19 h1 h2 => br_t ?_ (nm_r (nI_1 c) (hw (d1, d2, d10, d11, d12, d13, d14, d15, d16, d17, d18, d19) h1)))
      obtain ⟨k1, k0⟩ := h2 c hc
      rw [bi_ts _ (by omega)]
      rcases hv with g | g
      · rw [k0 (ev.trans g), g]; rfl
      · rw [k1 (ev.trans g), g]; rfl
    exact br_c (fun z => key _ rfl (Or.inl z)) (fun _ => br_c (fun z => key _ rfl (Or.inr z)) (fun _ => nm_r (nI_1 c) (hw (b1, b2, b10, b11, b12, b13, b14, b15, b16, b17, b18, b19) hJ')))
theorem ho_28 {post : Int32 → St2 → Prop} {S : Nat} (hS : S ≤ 4) (hg : ∀ s, s < S → bt iS s = false → a20 s < 0) (hI : fv_I S cD a7 a8 a9 a19)
    (H : ∀ (b1 b2 : Int32) (b10 b11 b12 b13 b14 b15 b16 b17 b18 b19 : Nat → Int32), fv_I S b2 a7 a8 a9 b19 → post 1 (pC, nI S, tC, iS, sM, sD, 1, nS, uM, iM, qE, b1, b2, dC, mC, a1, a2, a3, a4, a5, a6, a7, a8, a9, b10, b11, b12, b13, b14, b15, b16, b17, b18, b19, a20, a21, a22)) : ∃ n, wL_holds_28 post (nI S) n 0 pC (nI S) tC iS sM sD 1 nS uM iM qE pT cD dC mC a1 a2 a3 a4 a5 a6 a7 a8 a9 a10 a11 a12 a13 a14 a15 a16 a17 a18 a19 a20 a21 a22 := by
  refine pk_loop (σ := Int32 × Int32 × (Nat → Int32) × (Nat → Int32) × (Nat → Int32) × (Nat → Int32) × (Nat → Int32) × (Nat → Int32) × (Nat → Int32) × (Nat → Int32) × (Nat → Int32) × (Nat → Int32)) (fun n i K => wL_holds_28 post (nI S) n (nI i) pC (nI S) tC iS sM sD 1 nS uM iM qE K.1 K.2.1 dC mC a1 a2 a3 a4 a5 a6 a7 a8 a9 K.2.2.1 K.2.2.2.1 K.2.2.2.2.1 K.2.2.2.2.2.1 K.2.2.2.2.2.2.1 K.2.2.2.2.2.2.2.1 K.2.2.2.2.2.2.2.2.1 K.2.2.2.2.2.2.2.2.2.1 K.2.2.2.2.2.2.2.2.2.2.1 K.2.2.2.2.2.2.2.2.2.2.2 a20 a21 a22) (fun _ K => fv_I S K.2.1 a7 a8 a9 K.2.2.2.2.2.2.2.2.2.2.2) S 0 (pT, cD, a10, a11, a12, a13, a14, a15, a16, a17, a18, a19) (by omega) hI ?_ ?_
  · intro n K hJ
    obtain ⟨b1, b2, b10, b11, b12, b13, b14, b15, b16, b17, b18, b19⟩ := K
    exact pk_le S S (fun _ => H b1 b2 b10 b11 b12 b13 b14 b15 b16 b17 b18 b19 hJ) (fun z => absurd z (by omega))
  · intro n s K hs hJ hw
    obtain ⟨b1, b2, b10, b11, b12, b13, b14, b15, b16, b17, b18, b19⟩ := K
    have hJ' : fv_I S b2 a7 a8 a9 b19 := hJ
    exact pk_le S s (fun z => absurd z (by omega)) (fun _ => ho_36 hS hs hg hJ' (fun d1 d2 d10 d11 d12 d13 d14 d15 d16 d17 d18 d19 h => hw (d1, d2, d10, d11, d12, d13, d14, d15, d16, d17, d18, d19) h))
theorem ho_wp {post : Int32 → St2 → Prop} {S T m0 c0 : Nat} {p2 : Int32} (hW : ne_W S T a1 a3 a4) (hm : m0 < 64) (hc : c0 < 2 ^ S)
    (hv : vN = 1 → (∃ R, ne_R S T a1 a3 a4 a7 a9 (16 * m0 + c0) R) ∧ ne_C S iS a7 a8 a9 ∧ fv_I S cD a7 a8 a9 a19 ∧ (¬ dC = 0 → a22 0 < 0))
    (hg : p2 = 0 → ∀ s, s < S → bt iS s = false → a20 s < 0)
    (H0 : post 1 (pC, nI S, nI T, iS, nI m0, nI c0, vN, nS, uM, iM, qE, pT, cD, dC, mC, a1, a2, a3, a4, a5, a6, a7, a8, a9, a10, a11, a12, a13, a14, a15, a16, a17, a18, a19, a20, a21, a22))
    (H1 : vN = 1 → ∀ (q' d' m' : Int32) (b21 : Nat → Int64) (b6 b22 : Nat → Int32) (b1 b2 : Int32) (b10 b11 b12 b13 b14 b15 b16 b17 b18 b19 : Nat → Int32), fv_I S b2 a7 a8 a9 b19 → b22 0 < 0 → post 1 (pC, nI S, nI T, iS, nI m0, nI c0, vN, nS, uM, iM, q', b1, b2, d', m', a1, a2, a3, a4, a5, b6, a7, a8, a9, b10, b11, b12, b13, b14, b15, b16, b17, b18, b19, a20, b21, b22)) :
    wpL_holds post (pC, nI S, nI T, iS, nI m0, nI c0, vN, nS, uM, iM, qE, pT, cD, dC, mC, a1, a2, a3, a4, a5, a6, a7, a8, a9, a10, a11, a12, a13, a14, a15, a16, a17, a18, a19, a20, a21, a22) (nI S) p2 := by
  refine br_c (fun z => br_c (fun y => ?_) (fun _ => H0)) (fun _ => H0)
  obtain ⟨⟨R, hR⟩, hC, hI, h22⟩ := hv z
  have H2 := H1 z
  have z' : vN = 1 := z
  subst z'
  refine ve_wp hW hm hc hR hC (hg y) hI h22 (fun r q' d' m' b21 b6 b22 b1 b2 b10 b11 b12 b13 b14 b15 b16 b17 b18 b19 hr h1 h2 => br_f hr (ho_28 hW.2.1 (hg y) h1 (fun d1 d2 d10 d11 d12 d13 d14 d15 d16 d17 d18 d19 h => H2 q' d' m' b21 b6 b22 d1 d2 d10 d11 d12 d13 d14 d15 d16 d17 d18 d19 h h2)))
end
end
section
/-! the law's invariant, and each call under it -/
section
variable {pC sC tC iS sM sD vN nS uM iM qE pT cD dC mC : Int32} {a1 a2 a3 a4 a6 a7 a8 a9 a10 a11 a12 a13 a14 a15 a16 a17 a18 a19 a20 a22 : Nat → Int32} {a5 a21 : Nat → Int64}
def lw_I (S : Nat) (g x5 : Int32) (u : St2) : Prop := match u with
  | (pC, sC, tC, iS, sM, sD, vN, nS, uM, iM, qE, pT, cD, dC, mC, a1, a2, a3, a4, a5, a6, a7, a8, a9, a10, a11, a12, a13, a14, a15, a16, a17, a18, a19, a20, a21, a22) => x5 = iS ∧ ∃ P T m0 c0 : Nat, pC = nI P ∧ P ≤ 6 ∧ sC = nI S ∧ tC = nI T ∧ ne_W S T a1 a3 a4 ∧ sM = nI m0 ∧ m0 < 64 ∧ sD = nI c0 ∧ c0 < 2 ^ S ∧ (vN = 0 → cD = 0 ∧ dC = 0) ∧ (vN = 1 → (∃ R, ne_R S T a1 a3 a4 a7 a9 (16 * m0 + c0) R) ∧ ne_C S iS a7 a8 a9 ∧ fv_I S cD a7 a8 a9 a19 ∧ (¬ dC = 0 → a22 0 < 0)) ∧ (∀ s, s < 4 → bt g s = false → a20 s < 0)
theorem lx_explore {post : Int32 → St2 → Prop} {S : Nat} {g x5 : Int32} {u : St2} (h : lw_I S g x5 u) (H : ∀ r u', lw_I S g x5 u' → post r u') : wpX_explore post u := by
  obtain ⟨pC, sC, tC, iS, sM, sD, vN, nS, uM, iM, qE, pT, cD, dC, mC, a1, a2, a3, a4, a5, a6, a7, a8, a9, a10, a11, a12, a13, a14, a15, a16, a17, a18, a19, a20, a21, a22⟩ := u
  obtain ⟨h0, P, T, m0, c0, e1, hP, e2, e3, hW, e4, hm, e5, hc, hz, h1, hg⟩ := h
  subst e1 e2 e3 e4 e5
  refine xp_wp hW hm hc (fun z => H _ _ ⟨h0, P, T, m0, c0, rfl, hP, rfl, rfl, hW, rfl, hm, rfl, hc, hz, h1, hg⟩) (fun z r x1 x2 x3 x4 b5 b6 b7 b8 b9 hr hR => H _ _ ⟨h0, P, T, m0, c0, rfl, hP, rfl, rfl, hW, rfl, hm, rfl, hc, fun y => absurd y hr, fun y => ?_, hg⟩)
  obtain ⟨R, r1, r2⟩ := hR y
  refine ⟨⟨R, r1⟩, r2, fun s _ hs => ?_, fun y' => absurd (hz z).2 y'⟩
  rw [(hz z).1, b_0] at hs
  exact absurd hs (by decide)
theorem lx_holds {post : Int32 → St2 → Prop} {S : Nat} {g x5 : Int32} {u : St2} (h : lw_I S g x5 u) (H : ∀ u', lw_I S g x5 u' → post 1 u') : wpL_holds post u (nI S) (g &&& (x5 ^^^ (-1))) := by
  obtain ⟨pC, sC, tC, iS, sM, sD, vN, nS, uM, iM, qE, pT, cD, dC, mC, a1, a2, a3, a4, a5, a6, a7, a8, a9, a10, a11, a12, a13, a14, a15, a16, a17, a18, a19, a20, a21, a22⟩ := u
  have h' := h
  obtain ⟨h0, P, T, m0, c0, e1, hP, e2, e3, hW, e4, hm, e5, hc, hz, h1, hg⟩ := h
  subst e1 e2 e3 e4 e5
  have hS := hW.2.1
  refine ho_wp hW hm hc h1 (fun z s hs ho => hg s (by omega) (bi_nt (fun y => ?_))) (H _ h') (fun z q' d' m' b21 b6 b22 b1 b2 b10 b11 b12 b13 b14 b15 b16 b17 b18 b19 g1 g2 => H _ ⟨h0, P, T, m0, c0, rfl, hP, rfl, rfl, hW, rfl, hm, rfl, hc, fun y => absurd (z.symm.trans y) (by decide), fun y => ⟨(h1 z).1, (h1 z).2.1, g1, fun _ => g2⟩, hg⟩)
  have t := (bi_an _ _).mp z s (by omega) y
  rw [h0, ho] at t
  exact absurd t (by decide)
theorem lx_b8 : ∀ p, p < 64 → (nI p).toInt8.toInt32 = nI p := by decide +kernel
theorem lx_msk : ∀ P, P < 7 → (((1 : Int32) <<< (nI P &&& 31)) - 1) = nI (2 ^ P - 1) ∧ 2 ^ P - 1 < 64 := by decide +kernel
theorem lx_rng {x : Int32} {P : Nat} (hP : P ≤ 6) (h1 : ¬ x < 1) (h2 : x ≤ nI (2 ^ P - 1)) : ∃ p, p < 64 ∧ x = nI p := by
  obtain ⟨_, l⟩ := lx_msk P (by omega)
  have h0 : ¬ x < 0 := by
    rw [Int32.lt_iff_toInt_lt] at h1 ⊢
    have e1 : (1 : Int32).toInt = 1 := by decide
    have e0 : (0 : Int32).toInt = 0 := by decide
    omega
  obtain ⟨j, hj, rfl⟩ := nI_of h0
  rw [nI_leI hj (by omega)] at h2
  exact ⟨j, by omega, rfl⟩
theorem lx_37 {post : Int32 → St2 → Prop} {S T P j : Nat} {g x5 x2 x3 x4 : Int32} (hj : j < S) (hT : T < 12) (hP : P ≤ 6) (h : lw_I S g x5 (nI P, sC, nI T, iS, sM, sD, vN, nS, uM, iM, qE, pT, cD, dC, mC, a1, a2, a3, a4, a5, a6, a7, a8, a9, a10, a11, a12, a13, a14, a15, a16, a17, a18, a19, a20, a21, a22)) (H : ∀ r u', lw_I S g x5 u' → post r u') : wX_addTransition_37 post (nI j) x2 x3 x4 (nI P) sC (nI T) iS sM sD vN nS uM iM qE pT cD dC mC a1 a2 a3 a4 a5 a6 a7 a8 a9 a10 a11 a12 a13 a14 a15 a16 a17 a18 a19 a20 a21 a22 := by
  have H' := fun r => H r _ h
  obtain ⟨h0, P', T', m0, c0, e1, hP', e2, e3, hW, e4, hm, e5, hc, hz, h1, hg⟩ := h
  have eT : T = T' := (nI_eq (by omega) (by have := hW.2.2.1; omega)).mp e3
  subst eT
  subst e2 e4 e5
  have hS := hW.2.1
  have cl : (nI T).toNatClampNeg = T := nI_clamp (by omega)
  unfold wX_addTransition_37
  refine nm_r (lx_msk P (by omega)).1 ?_
  refine br_c (fun _ => H' _) (fun y1 => br_c (fun _ => H' _) (fun y2 => br_c (fun _ => H' _) (fun y3 => br_c (fun y4 => ?_) (fun _ => H' _))))
  obtain ⟨p, p1, p2⟩ := lx_rng hP y1 (Int32.not_lt.mp y2)
  obtain ⟨q, q1, q2⟩ := lx_rng hP y3 y4
  refine ⟨pk_in T 12 hT, nm_r (e' := upd a1 T (nI j)) (by rw [cl, lx_b8 j (by omega)]) ⟨pk_in T 12 hT, nm_e ⟨pk_in T 12 hT, nm_r (e' := upd a3 T (nI p)) (by rw [cl, p2, lx_b8 p p1]) ⟨pk_in T 12 hT, nm_r (e' := upd a4 T (nI q)) (by rw [cl, q2, lx_b8 q q1]) (nm_r (nI_1 T) ?_)⟩⟩⟩⟩
  refine H _ _ ⟨h0, P, T + 1, m0, c0, rfl, hP, rfl, rfl, ⟨hW.1, hS, by omega, fun t ht => ?_⟩, rfl, hm, rfl, hc, fun _ => ⟨rfl, rfl⟩, fun y => absurd y (by decide), hg⟩
  by_cases c : t = T
  · rw [c, pk_us, pk_us, pk_us]
    exact ⟨j, p, q, rfl, hj, rfl, p1, rfl, q1⟩
  · rw [pk_un c, pk_un c, pk_un c]
    exact hW.2.2.2 t (by omega)
theorem lx_add {post : Int32 → St2 → Prop} {S : Nat} {g x5 p0 p1 p2 p3 : Int32} {u : St2} (h : lw_I S g x5 u) (H : ∀ r u', lw_I S g x5 u' → post r u') : wpX_addTransition post u p0 p1 p2 p3 := by
  obtain ⟨pC, sC, tC, iS, sM, sD, vN, nS, uM, iM, qE, pT, cD, dC, mC, a1, a2, a3, a4, a5, a6, a7, a8, a9, a10, a11, a12, a13, a14, a15, a16, a17, a18, a19, a20, a21, a22⟩ := u
  have h' := h
  obtain ⟨h0, P, T, m0, c0, e1, hP, e2, e3, hW, e4, hm, e5, hc, hz, h1, hg⟩ := h
  subst e1 e3
  have hS := hW.2.1
  have hT := hW.2.2.1
  refine pk_lt T 12 (fun lT => br_c (fun _ => H _ _ h') (fun y => ?_)) (fun _ => H _ _ h')
  obtain ⟨j, hj, rfl⟩ := nI_of y
  refine pk_lt j S (fun lj => br_c (fun _ => lx_37 lj lT hP h' H) (fun _ => br_c (fun _ => lx_37 lj lT hP h' H) (fun _ => H _ _ h'))) (fun _ => H _ _ h') rfl e2
theorem lx_in {post : Int32 → St2 → Prop} {S : Nat} {g x5 p0 p1 : Int32} {u : St2} (h : lw_I S g x5 u) (H0 : ∀ u', lw_I S g x5 u' → post 0 u') (H1 : p1 = 0 → ∀ u', lw_I S g (x5 &&& (((1 : Int32) <<< (p0 &&& 31)) ^^^ (-1))) u' → post 1 u') (H2 : ¬ p1 = 0 → ∀ u', lw_I S g (x5 ||| ((1 : Int32) <<< (p0 &&& 31))) u' → post 1 u') : wpX_setInput post u p0 p1 := by
  obtain ⟨pC, sC, tC, iS, sM, sD, vN, nS, uM, iM, qE, pT, cD, dC, mC, a1, a2, a3, a4, a5, a6, a7, a8, a9, a10, a11, a12, a13, a14, a15, a16, a17, a18, a19, a20, a21, a22⟩ := u
  have h' := h
  obtain ⟨h0, P, T, m0, c0, e1, hP, e2, e3, hW, e4, hm, e5, hc, hz, h1, hg⟩ := h
  refine br_c (fun _ => H0 _ h') (fun _ => br_c (fun _ => br_c (fun z => nm_e ?_) (fun z => nm_e ?_)) (fun _ => H0 _ h'))
  · unfold wX_setInput_47
    exact H1 z _ ⟨by rw [h0], P, T, m0, c0, e1, hP, e2, e3, hW, e4, hm, e5, hc, fun _ => ⟨rfl, rfl⟩, fun y => absurd y (by decide), hg⟩
  · unfold wX_setInput_47
    exact H2 z _ ⟨by rw [h0], P, T, m0, c0, e1, hP, e2, e3, hW, e4, hm, e5, hc, fun _ => ⟨rfl, rfl⟩, fun y => absurd y (by decide), hg⟩
theorem lx_st {post : Int32 → St2 → Prop} {S : Nat} {g x5 p0 p1 : Int32} {u : St2} (h : lw_I S g x5 u) (H : ∀ r u', lw_I S g x5 u' → post r u') : wpX_setStart post u p0 p1 := by
  obtain ⟨pC, sC, tC, iS, sM, sD, vN, nS, uM, iM, qE, pT, cD, dC, mC, a1, a2, a3, a4, a5, a6, a7, a8, a9, a10, a11, a12, a13, a14, a15, a16, a17, a18, a19, a20, a21, a22⟩ := u
  have h' := h
  obtain ⟨h0, P, T, m0, c0, e1, hP, e2, e3, hW, e4, hm, e5, hc, hz, h1, hg⟩ := h
  subst e1 e2
  have hS := hW.2.1
  have pS := bi_p2 hS
  have pP : 2 ^ P ≤ 2 ^ 6 := Nat.pow_le_pow_right (by decide) hP
  refine br_c (fun _ => H _ _ h') (fun y => ?_)
  obtain ⟨j, hj, rfl⟩ := nI_of y
  refine pk_lt j (2 ^ P) (fun lj => br_c (fun _ => H _ _ h') (fun y' => ?_)) (fun _ => H _ _ h') rfl (bi_sn P (by omega))
  obtain ⟨i, hi, rfl⟩ := nI_of y'
  exact pk_lt i (2 ^ S) (fun li => H _ _ ⟨h0, P, T, j, i, rfl, hP, rfl, e3, hW, rfl, by omega, rfl, li, fun _ => ⟨rfl, rfl⟩, fun z => absurd z (by decide), hg⟩) (fun _ => H _ _ h') rfl (bi_sn S (by omega))
theorem lx_sg {post : Int32 → St2 → Prop} {S : Nat} {g x5 p0 p1 : Int32} {u : St2} (h : lw_I S g x5 u) (H0 : ∀ u', lw_I S g x5 u' → post 0 u')
    (H1 : ∀ s u', s < S → S ≤ 4 → p0 = nI s → (∀ g' : Int32, (∀ s', s' < 4 → s' ≠ s → bt g' s' = false → bt g s' = false) → (bt g' s = false → p1 < 0) → lw_I S g' x5 u') → post 1 u') : wpX_setGate post u p0 p1 := by
  obtain ⟨pC, sC, tC, iS, sM, sD, vN, nS, uM, iM, qE, pT, cD, dC, mC, a1, a2, a3, a4, a5, a6, a7, a8, a9, a10, a11, a12, a13, a14, a15, a16, a17, a18, a19, a20, a21, a22⟩ := u
  have h' := h
  obtain ⟨h0, P, T, m0, c0, e1, hP, e2, e3, hW, e4, hm, e5, hc, hz, h1, hg⟩ := h
  subst e2
  have hS := hW.2.1
  unfold wpX_setGate
  refine io_any hS (fun s hs ep ho => ?_) (br_t rfl (H0 _ h'))
  refine br_f (by decide) (br_c (fun _ => H0 _ h') (fun _ => br_c (fun _ => ⟨pk_in s 4 (by omega) ep, nm_e ?_⟩) (fun _ => H0 _ h')))
  refine H1 s _ hs hS ep (fun g' k1 k2 => ⟨h0, P, T, m0, c0, e1, hP, rfl, e3, hW, e4, hm, e5, hc, fun z => ⟨(hz z).1, rfl⟩, fun z => ⟨(h1 z).1, (h1 z).2.1, (h1 z).2.2.1, fun y => absurd rfl y⟩, fun s' hs' hb => ?_⟩)
  rw [ep, nI_clamp (by omega)]
  by_cases c : s' = s
  · rw [c, pk_us]
    exact k2 (by rw [← c]; exact hb)
  · rw [pk_un c]
    exact hg s' hs' (k1 s' hs' c hb)
theorem lx_221 {post : St2 → Prop} {mc ms kc ks P S : Nat} {y1 : Int32} (hP : P ≤ 6) (hS1 : 1 ≤ S) (hS : S ≤ 4) (H : ∀ u', lw_I S 0 0 u' → post u') :
    wX_init_221 post mc ms (nI S) kc ks (nI P) y1 0 0 0 0 0 0 0 0 0 0 0 0 0 (fun _ => 0) (fun _ => 0) (fun _ => 0) (fun _ => 0) (fun _ => 0) (fun _ => 0) (fun _ => 0) (fun _ => 0) (fun _ => 0) (fun _ => 0) (fun _ => 0) (fun _ => 0) (fun _ => 0) (fun _ => 0) (fun _ => 0) (fun _ => 0) (fun _ => 0) (fun _ => 0) (fun _ => 0) (fun _ => 0) (fun _ => 0) (fun _ => 0) := by
  unfold wX_init_221
  refine nm_e (nm_e (nm_e (nm_e ?_)))
  refine H _ ⟨rfl, P, 0, 1, 0, rfl, hP, rfl, rfl, ⟨hS1, hS, by omega, fun t ht => absurd ht (by omega)⟩, rfl, by omega, rfl, Nat.two_pow_pos S, fun _ => ⟨rfl, rfl⟩, fun z => absurd z (by decide), fun s hs _ => ?_⟩
  rcases (by omega : s = 0 ∨ s = 1 ∨ s = 2 ∨ s = 3) with e | e | e | e <;> subst e <;> decide
theorem lx_init {post : St2 → Prop} {P S : Nat} (hP1 : 2 ≤ P) (hP : P ≤ 6) (hS1 : 1 ≤ S) (hS : S ≤ 4) (H : ∀ u', lw_I S 0 0 u' → post u') : wpX_init post 22 1596 (0, 0, 0, 0, 0, 0, 0, 0, 0, 0, 0, 0, 0, 0, 0) (nI P) (nI S) := by
  refine ⟨by omega, by omega, by omega, by omega, by omega, by omega, by omega, by omega, by omega, by omega, by omega, by omega, by omega, by omega, by omega, by omega, by omega, by omega, by omega, by omega, by omega, by omega, by omega, by omega, by omega, by omega, by omega, by omega, by omega, by omega, by omega, by omega, by omega, by omega, by omega, by omega, by omega, by omega, by omega, by omega, by omega, by omega, by omega, by omega, ?_⟩
  refine pk_le 2 P (fun _ => pk_le P 6 (fun _ => ?_) (fun z => absurd z (by omega))) (fun z => absurd z (by omega))
  unfold wX_init_198
  exact pk_le 1 S (fun _ => pk_le S 4 (fun _ => lx_221 hP hS1 hS H) (fun z => absurd z (by omega))) (fun z => absurd z (by omega))
end
end
section
/-! the law -/
section
variable {pC sC tC iS sM sD vN nS uM iM qE pT cD dC mC : Int32} {a1 a2 a3 a4 a6 a7 a8 a9 a10 a11 a12 a13 a14 a15 a16 a17 a18 a19 a20 a22 : Nat → Int32} {a5 a21 : Nat → Int64}
theorem lz_cell {post : Int32 → Prop} {L p : Nat} {xs : Nat → Int32} {p1 : Int32} (hL : L ≤ 260) (hp : p < 2 ^ 31) (e : p1 = nI p) (H : ∀ r, post r) : wpL_cell post L xs () p1 := by
  subst e
  exact pk_le L p (fun _ => H 0) (fun z => ⟨pk_in p L z, H _⟩)
theorem lz_448 {post : Int32 → Prop} {L kc ks S : Nat} {xs : Nat → Int32} {J153 : Int32 → Int32 → Int32 → Int32 → Int32 → Int32 → Int32 → Int32 → Int32 → Int32 → Int32 → Int32 → Int32 → Int32 → Int32 → Int32 → Int32 → Int32 → Int32 → Int32 → (Nat → Int32) → (Nat → Int32) → (Nat → Int32) → (Nat → Int32) → (Nat → Int64) → (Nat → Int32) → (Nat → Int32) → (Nat → Int32) → (Nat → Int32) → (Nat → Int32) → (Nat → Int32) → (Nat → Int32) → (Nat → Int32) → (Nat → Int32) → (Nat → Int32) → (Nat → Int32) → (Nat → Int32) → (Nat → Int32) → (Nat → Int32) → (Nat → Int32) → (Nat → Int64) → (Nat → Int32) → Prop} {x1 x4 x5 x6 x7 x8 : Int32} (h : lw_I S x4 x5 (pC, sC, tC, iS, sM, sD, vN, nS, uM, iM, qE, pT, cD, dC, mC, a1, a2, a3, a4, a5, a6, a7, a8, a9, a10, a11, a12, a13, a14, a15, a16, a17, a18, a19, a20, a21, a22)) (H : ∀ u', lw_I S x4 x5 u' → J153 x4 x5 x6 x7 (x8 + 5) u'.1 u'.2.1 u'.2.2.1 u'.2.2.2.1 u'.2.2.2.2.1 u'.2.2.2.2.2.1 u'.2.2.2.2.2.2.1 u'.2.2.2.2.2.2.2.1 u'.2.2.2.2.2.2.2.2.1 u'.2.2.2.2.2.2.2.2.2.1 u'.2.2.2.2.2.2.2.2.2.2.1 u'.2.2.2.2.2.2.2.2.2.2.2.1 u'.2.2.2.2.2.2.2.2.2.2.2.2.1 u'.2.2.2.2.2.2.2.2.2.2.2.2.2.1 u'.2.2.2.2.2.2.2.2.2.2.2.2.2.2.1 u'.2.2.2.2.2.2.2.2.2.2.2.2.2.2.2.1 u'.2.2.2.2.2.2.2.2.2.2.2.2.2.2.2.2.1 u'.2.2.2.2.2.2.2.2.2.2.2.2.2.2.2.2.2.1 u'.2.2.2.2.2.2.2.2.2.2.2.2.2.2.2.2.2.2.1 u'.2.2.2.2.2.2.2.2.2.2.2.2.2.2.2.2.2.2.2.1 u'.2.2.2.2.2.2.2.2.2.2.2.2.2.2.2.2.2.2.2.2.1 u'.2.2.2.2.2.2.2.2.2.2.2.2.2.2.2.2.2.2.2.2.2.1 u'.2.2.2.2.2.2.2.2.2.2.2.2.2.2.2.2.2.2.2.2.2.2.1 u'.2.2.2.2.2.2.2.2.2.2.2.2.2.2.2.2.2.2.2.2.2.2.2.1 u'.2.2.2.2.2.2.2.2.2.2.2.2.2.2.2.2.2.2.2.2.2.2.2.2.1 u'.2.2.2.2.2.2.2.2.2.2.2.2.2.2.2.2.2.2.2.2.2.2.2.2.2.1 u'.2.2.2.2.2.2.2.2.2.2.2.2.2.2.2.2.2.2.2.2.2.2.2.2.2.2.1 u'.2.2.2.2.2.2.2.2.2.2.2.2.2.2.2.2.2.2.2.2.2.2.2.2.2.2.2.1 u'.2.2.2.2.2.2.2.2.2.2.2.2.2.2.2.2.2.2.2.2.2.2.2.2.2.2.2.2.1 u'.2.2.2.2.2.2.2.2.2.2.2.2.2.2.2.2.2.2.2.2.2.2.2.2.2.2.2.2.2.1 u'.2.2.2.2.2.2.2.2.2.2.2.2.2.2.2.2.2.2.2.2.2.2.2.2.2.2.2.2.2.2.1 u'.2.2.2.2.2.2.2.2.2.2.2.2.2.2.2.2.2.2.2.2.2.2.2.2.2.2.2.2.2.2.2.1 u'.2.2.2.2.2.2.2.2.2.2.2.2.2.2.2.2.2.2.2.2.2.2.2.2.2.2.2.2.2.2.2.2.1 u'.2.2.2.2.2.2.2.2.2.2.2.2.2.2.2.2.2.2.2.2.2.2.2.2.2.2.2.2.2.2.2.2.2.1 u'.2.2.2.2.2.2.2.2.2.2.2.2.2.2.2.2.2.2.2.2.2.2.2.2.2.2.2.2.2.2.2.2.2.2.1 u'.2.2.2.2.2.2.2.2.2.2.2.2.2.2.2.2.2.2.2.2.2.2.2.2.2.2.2.2.2.2.2.2.2.2.2.1 u'.2.2.2.2.2.2.2.2.2.2.2.2.2.2.2.2.2.2.2.2.2.2.2.2.2.2.2.2.2.2.2.2.2.2.2.2) :
    wL_law_448 post L xs J153 x1 (nI S) x4 x5 x6 x7 x8 kc ks pC sC tC iS sM sD vN nS uM iM qE pT cD dC mC a1 a2 a3 a4 a5 a6 a7 a8 a9 a10 a11 a12 a13 a14 a15 a16 a17 a18 a19 a20 a21 a22 := by
  unfold wL_law_448
  refine lx_holds h (fun u' h' => ?_)
  obtain ⟨pC, sC, tC, iS, sM, sD, vN, nS, uM, iM, qE, pT, cD, dC, mC, a1, a2, a3, a4, a5, a6, a7, a8, a9, a10, a11, a12, a13, a14, a15, a16, a17, a18, a19, a20, a21, a22⟩ := u'
  exact br_f (by decide) (nm_e (H (pC, sC, tC, iS, sM, sD, vN, nS, uM, iM, qE, pT, cD, dC, mC, a1, a2, a3, a4, a5, a6, a7, a8, a9, a10, a11, a12, a13, a14, a15, a16, a17, a18, a19, a20, a21, a22) h'))
theorem lz_153 {post : Int32 → Prop} {L kc ks S : Nat} {xs : Nat → Int32} {x1 x4 x5 x6 x7 : Int32} (hp : post 1) (hL : L ≤ 260) (hx : ¬ x1 = 0) (h : lw_I S x4 x5 (pC, sC, tC, iS, sM, sD, vN, nS, uM, iM, qE, pT, cD, dC, mC, a1, a2, a3, a4, a5, a6, a7, a8, a9, a10, a11, a12, a13, a14, a15, a16, a17, a18, a19, a20, a21, a22)) :
    ∃ n, wL_law_153 post L xs x1 (nI S) kc ks n x4 x5 x6 x7 5 pC sC tC iS sM sD vN nS uM iM qE pT cD dC mC a1 a2 a3 a4 a5 a6 a7 a8 a9 a10 a11 a12 a13 a14 a15 a16 a17 a18 a19 a20 a21 a22 := by
  refine loop_m (σ := Int32 × Int32 × Int32 × Int32 × Nat × St2) (fun n s => wL_law_153 post L xs x1 (nI S) kc ks n s.1 s.2.1 s.2.2.1 s.2.2.2.1 (nI s.2.2.2.2.1) s.2.2.2.2.2.1 s.2.2.2.2.2.2.1 s.2.2.2.2.2.2.2.1 s.2.2.2.2.2.2.2.2.1 s.2.2.2.2.2.2.2.2.2.1 s.2.2.2.2.2.2.2.2.2.2.1 s.2.2.2.2.2.2.2.2.2.2.2.1 s.2.2.2.2.2.2.2.2.2.2.2.2.1 s.2.2.2.2.2.2.2.2.2.2.2.2.2.1 s.2.2.2.2.2.2.2.2.2.2.2.2.2.2.1 s.2.2.2.2.2.2.2.2.2.2.2.2.2.2.2.1 s.2.2.2.2.2.2.2.2.2.2.2.2.2.2.2.2.1 s.2.2.2.2.2.2.2.2.2.2.2.2.2.2.2.2.2.1 s.2.2.2.2.2.2.2.2.2.2.2.2.2.2.2.2.2.2.1 s.2.2.2.2.2.2.2.2.2.2.2.2.2.2.2.2.2.2.2.1 s.2.2.2.2.2.2.2.2.2.2.2.2.2.2.2.2.2.2.2.2.1 s.2.2.2.2.2.2.2.2.2.2.2.2.2.2.2.2.2.2.2.2.2.1 s.2.2.2.2.2.2.2.2.2.2.2.2.2.2.2.2.2.2.2.2.2.2.1 s.2.2.2.2.2.2.2.2.2.2.2.2.2.2.2.2.2.2.2.2.2.2.2.1 s.2.2.2.2.2.2.2.2.2.2.2.2.2.2.2.2.2.2.2.2.2.2.2.2.1 s.2.2.2.2.2.2.2.2.2.2.2.2.2.2.2.2.2.2.2.2.2.2.2.2.2.1 s.2.2.2.2.2.2.2.2.2.2.2.2.2.2.2.2.2.2.2.2.2.2.2.2.2.2.1 s.2.2.2.2.2.2.2.2.2.2.2.2.2.2.2.2.2.2.2.2.2.2.2.2.2.2.2.1 s.2.2.2.2.2.2.2.2.2.2.2.2.2.2.2.2.2.2.2.2.2.2.2.2.2.2.2.2.1 s.2.2.2.2.2.2.2.2.2.2.2.2.2.2.2.2.2.2.2.2.2.2.2.2.2.2.2.2.2.1 s.2.2.2.2.2.2.2.2.2.2.2.2.2.2.2.2.2.2.2.2.2.2.2.2.2.2.2.2.2.2.1 s.2.2.2.2.2.2.2.2.2.2.2.2.2.2.2.2.2.2.2.2.2.2.2.2.2.2.2.2.2.2.2.1 s.2.2.2.2.2.2.2.2.2.2.2.2.2.2.2.2.2.2.2.2.2.2.2.2.2.2.2.2.2.2.2.2.1 s.2.2.2.2.2.2.2.2.2.2.2.2.2.2.2.2.2.2.2.2.2.2.2.2.2.2.2.2.2.2.2.2.2.1 s.2.2.2.2.2.2.2.2.2.2.2.2.2.2.2.2.2.2.2.2.2.2.2.2.2.2.2.2.2.2.2.2.2.2.1 s.2.2.2.2.2.2.2.2.2.2.2.2.2.2.2.2.2.2.2.2.2.2.2.2.2.2.2.2.2.2.2.2.2.2.2.1 s.2.2.2.2.2.2.2.2.2.2.2.2.2.2.2.2.2.2.2.2.2.2.2.2.2.2.2.2.2.2.2.2.2.2.2.2.1 s.2.2.2.2.2.2.2.2.2.2.2.2.2.2.2.2.2.2.2.2.2.2.2.2.2.2.2.2.2.2.2.2.2.2.2.2.2.1 s.2.2.2.2.2.2.2.2.2.2.2.2.2.2.2.2.2.2.2.2.2.2.2.2.2.2.2.2.2.2.2.2.2.2.2.2.2.2.1 s.2.2.2.2.2.2.2.2.2.2.2.2.2.2.2.2.2.2.2.2.2.2.2.2.2.2.2.2.2.2.2.2.2.2.2.2.2.2.2.1 s.2.2.2.2.2.2.2.2.2.2.2.2.2.2.2.2.2.2.2.2.2.2.2.2.2.2.2.2.2.2.2.2.2.2.2.2.2.2.2.2.1 s.2.2.2.2.2.2.2.2.2.2.2.2.2.2.2.2.2.2.2.2.2.2.2.2.2.2.2.2.2.2.2.2.2.2.2.2.2.2.2.2.2) (fun s => s.2.2.2.2.1 ≤ 290 ∧ lw_I S s.1 s.2.1 s.2.2.2.2.2) (fun s => 300 - s.2.2.2.2.1) ?_ (x4, x5, x6, x7, 5, (pC, sC, tC, iS, sM, sD, vN, nS, uM, iM, qE, pT, cD, dC, mC, a1, a2, a3, a4, a5, a6, a7, a8, a9, a10, a11, a12, a13, a14, a15, a16, a17, a18, a19, a20, a21, a22)) ⟨by show 5 ≤ 290; omega, h⟩
  clear h
  intro n s hI hw
  obtain ⟨x4, x5, x6, x7, i, u⟩ := s
  obtain ⟨pC, sC, tC, iS, sM, sD, vN, nS, uM, iM, qE, pT, cD, dC, mC, a1, a2, a3, a4, a5, a6, a7, a8, a9, a10, a11, a12, a13, a14, a15, a16, a17, a18, a19, a20, a21, a22⟩ := u
  have li : i ≤ 290 := hI.1
  have h : lw_I S x4 x5 (pC, sC, tC, iS, sM, sD, vN, nS, uM, iM, qE, pT, cD, dC, mC, a1, a2, a3, a4, a5, a6, a7, a8, a9, a10, a11, a12, a13, a14, a15, a16, a17, a18, a19, a20, a21, a22) := hI.2
  show wL_law_153 post L xs x1 (nI S) kc ks (n + 1) x4 x5 x6 x7 (nI i) pC sC tC iS sM sD vN nS uM iM qE pT cD dC mC a1 a2 a3 a4 a5 a6 a7 a8 a9 a10 a11 a12 a13 a14 a15 a16 a17 a18 a19 a20 a21 a22
  refine br_c (fun _ => ?_) (fun z => ?_)
  · refine lx_explore h (fun r u' h' => ?_)
    obtain ⟨pC, sC, tC, iS, sM, sD, vN, nS, uM, iM, qE, pT, cD, dC, mC, a1, a2, a3, a4, a5, a6, a7, a8, a9, a10, a11, a12, a13, a14, a15, a16, a17, a18, a19, a20, a21, a22⟩ := u'
    refine lx_holds h' (fun u' h' => ?_)
    obtain ⟨pC, sC, tC, iS, sM, sD, vN, nS, uM, iM, qE, pT, cD, dC, mC, a1, a2, a3, a4, a5, a6, a7, a8, a9, a10, a11, a12, a13, a14, a15, a16, a17, a18, a19, a20, a21, a22⟩ := u'
    exact hp
  · have lL : i + 5 ≤ L := by
      have e : (Int32.ofNat L - 5).toInt = (L : Int) - (5 : Nat) := pk_sub_toInt (a := L) (b := 5) (by omega) (by omega)
      rw [Int32.lt_iff_toInt_lt, e, nI_toInt (by omega)] at z
      omega
    have go : ∀ (g' y5 y6 y7 : Int32) (u' : St2), lw_I S g' y5 u' → wL_law_153 post L xs x1 (nI S) kc ks n g' y5 y6 y7 (nI i + 5) u'.1 u'.2.1 u'.2.2.1 u'.2.2.2.1 u'.2.2.2.2.1 u'.2.2.2.2.2.1 u'.2.2.2.2.2.2.1 u'.2.2.2.2.2.2.2.1 u'.2.2.2.2.2.2.2.2.1 u'.2.2.2.2.2.2.2.2.2.1 u'.2.2.2.2.2.2.2.2.2.2.1 u'.2.2.2.2.2.2.2.2.2.2.2.1 u'.2.2.2.2.2.2.2.2.2.2.2.2.1 u'.2.2.2.2.2.2.2.2.2.2.2.2.2.1 u'.2.2.2.2.2.2.2.2.2.2.2.2.2.2.1 u'.2.2.2.2.2.2.2.2.2.2.2.2.2.2.2.1 u'.2.2.2.2.2.2.2.2.2.2.2.2.2.2.2.2.1 u'.2.2.2.2.2.2.2.2.2.2.2.2.2.2.2.2.2.1 u'.2.2.2.2.2.2.2.2.2.2.2.2.2.2.2.2.2.2.1 u'.2.2.2.2.2.2.2.2.2.2.2.2.2.2.2.2.2.2.2.1 u'.2.2.2.2.2.2.2.2.2.2.2.2.2.2.2.2.2.2.2.2.1 u'.2.2.2.2.2.2.2.2.2.2.2.2.2.2.2.2.2.2.2.2.2.1 u'.2.2.2.2.2.2.2.2.2.2.2.2.2.2.2.2.2.2.2.2.2.2.1 u'.2.2.2.2.2.2.2.2.2.2.2.2.2.2.2.2.2.2.2.2.2.2.2.1 u'.2.2.2.2.2.2.2.2.2.2.2.2.2.2.2.2.2.2.2.2.2.2.2.2.1 u'.2.2.2.2.2.2.2.2.2.2.2.2.2.2.2.2.2.2.2.2.2.2.2.2.2.1 u'.2.2.2.2.2.2.2.2.2.2.2.2.2.2.2.2.2.2.2.2.2.2.2.2.2.2.1 u'.2.2.2.2.2.2.2.2.2.2.2.2.2.2.2.2.2.2.2.2.2.2.2.2.2.2.2.1 u'.2.2.2.2.2.2.2.2.2.2.2.2.2.2.2.2.2.2.2.2.2.2.2.2.2.2.2.2.1 u'.2.2.2.2.2.2.2.2.2.2.2.2.2.2.2.2.2.2.2.2.2.2.2.2.2.2.2.2.2.1 u'.2.2.2.2.2.2.2.2.2.2.2.2.2.2.2.2.2.2.2.2.2.2.2.2.2.2.2.2.2.2.1 u'.2.2.2.2.2.2.2.2.2.2.2.2.2.2.2.2.2.2.2.2.2.2.2.2.2.2.2.2.2.2.2.1 u'.2.2.2.2.2.2.2.2.2.2.2.2.2.2.2.2.2.2.2.2.2.2.2.2.2.2.2.2.2.2.2.2.1 u'.2.2.2.2.2.2.2.2.2.2.2.2.2.2.2.2.2.2.2.2.2.2.2.2.2.2.2.2.2.2.2.2.2.1 u'.2.2.2.2.2.2.2.2.2.2.2.2.2.2.2.2.2.2.2.2.2.2.2.2.2.2.2.2.2.2.2.2.2.2.1 u'.2.2.2.2.2.2.2.2.2.2.2.2.2.2.2.2.2.2.2.2.2.2.2.2.2.2.2.2.2.2.2.2.2.2.2.1 u'.2.2.2.2.2.2.2.2.2.2.2.2.2.2.2.2.2.2.2.2.2.2.2.2.2.2.2.2.2.2.2.2.2.2.2.2 := by
      intro g' y5 y6 y7 u' h'
      have t := hw (g', y5, y6, y7, i + 5, u') ⟨by show i + 5 ≤ 290; omega, h'⟩ (by show 300 - (i + 5) < 300 - i; omega)
      rw [show nI i + 5 = nI (i + 5) from nI_add i 5]
      exact t
    have g8 : ∀ (g' y5 y6 y7 : Int32) (u' : St2), lw_I S g' y5 u' → wL_law_448 post L xs (wL_law_153 post L xs x1 (nI S) kc ks n) x1 (nI S) g' y5 y6 y7 (nI i) kc ks u'.1 u'.2.1 u'.2.2.1 u'.2.2.2.1 u'.2.2.2.2.1 u'.2.2.2.2.2.1 u'.2.2.2.2.2.2.1 u'.2.2.2.2.2.2.2.1 u'.2.2.2.2.2.2.2.2.1 u'.2.2.2.2.2.2.2.2.2.1 u'.2.2.2.2.2.2.2.2.2.2.1 u'.2.2.2.2.2.2.2.2.2.2.2.1 u'.2.2.2.2.2.2.2.2.2.2.2.2.1 u'.2.2.2.2.2.2.2.2.2.2.2.2.2.1 u'.2.2.2.2.2.2.2.2.2.2.2.2.2.2.1 u'.2.2.2.2.2.2.2.2.2.2.2.2.2.2.2.1 u'.2.2.2.2.2.2.2.2.2.2.2.2.2.2.2.2.1 u'.2.2.2.2.2.2.2.2.2.2.2.2.2.2.2.2.2.1 u'.2.2.2.2.2.2.2.2.2.2.2.2.2.2.2.2.2.2.1 u'.2.2.2.2.2.2.2.2.2.2.2.2.2.2.2.2.2.2.2.1 u'.2.2.2.2.2.2.2.2.2.2.2.2.2.2.2.2.2.2.2.2.1 u'.2.2.2.2.2.2.2.2.2.2.2.2.2.2.2.2.2.2.2.2.2.1 u'.2.2.2.2.2.2.2.2.2.2.2.2.2.2.2.2.2.2.2.2.2.2.1 u'.2.2.2.2.2.2.2.2.2.2.2.2.2.2.2.2.2.2.2.2.2.2.2.1 u'.2.2.2.2.2.2.2.2.2.2.2.2.2.2.2.2.2.2.2.2.2.2.2.2.1 u'.2.2.2.2.2.2.2.2.2.2.2.2.2.2.2.2.2.2.2.2.2.2.2.2.2.1 u'.2.2.2.2.2.2.2.2.2.2.2.2.2.2.2.2.2.2.2.2.2.2.2.2.2.2.1 u'.2.2.2.2.2.2.2.2.2.2.2.2.2.2.2.2.2.2.2.2.2.2.2.2.2.2.2.1 u'.2.2.2.2.2.2.2.2.2.2.2.2.2.2.2.2.2.2.2.2.2.2.2.2.2.2.2.2.1 u'.2.2.2.2.2.2.2.2.2.2.2.2.2.2.2.2.2.2.2.2.2.2.2.2.2.2.2.2.2.1 u'.2.2.2.2.2.2.2.2.2.2.2.2.2.2.2.2.2.2.2.2.2.2.2.2.2.2.2.2.2.2.1 u'.2.2.2.2.2.2.2.2.2.2.2.2.2.2.2.2.2.2.2.2.2.2.2.2.2.2.2.2.2.2.2.1 u'.2.2.2.2.2.2.2.2.2.2.2.2.2.2.2.2.2.2.2.2.2.2.2.2.2.2.2.2.2.2.2.2.1 u'.2.2.2.2.2.2.2.2.2.2.2.2.2.2.2.2.2.2.2.2.2.2.2.2.2.2.2.2.2.2.2.2.2.1 u'.2.2.2.2.2.2.2.2.2.2.2.2.2.2.2.2.2.2.2.2.2.2.2.2.2.2.2.2.2.2.2.2.2.2.1 u'.2.2.2.2.2.2.2.2.2.2.2.2.2.2.2.2.2.2.2.2.2.2.2.2.2.2.2.2.2.2.2.2.2.2.2.1 u'.2.2.2.2.2.2.2.2.2.2.2.2.2.2.2.2.2.2.2.2.2.2.2.2.2.2.2.2.2.2.2.2.2.2.2.2 := by
      intro g' y5 y6 y7 u' h'
      obtain ⟨pC, sC, tC, iS, sM, sD, vN, nS, uM, iM, qE, pT, cD, dC, mC, a1, a2, a3, a4, a5, a6, a7, a8, a9, a10, a11, a12, a13, a14, a15, a16, a17, a18, a19, a20, a21, a22⟩ := u'
      exact lz_448 h' (fun u' h' => go g' y5 y6 y7 u' h')
    have g28 : ∀ x9 : Int32, wL_law_228 post L xs (wL_law_153 post L xs x1 (nI S) kc ks n) x1 (nI S) x4 x5 x6 x7 (nI i) x9 kc ks pC sC tC iS sM sD vN nS uM iM qE pT cD dC mC a1 a2 a3 a4 a5 a6 a7 a8 a9 a10 a11 a12 a13 a14 a15 a16 a17 a18 a19 a20 a21 a22 := by
      intro x9
      have g49 : ∀ z0 : Int32, wL_law_249 post L xs (wL_law_153 post L xs x1 (nI S) kc ks n) x1 (nI S) x4 x5 x6 x7 (nI i) x9 z0 kc ks pC sC tC iS sM sD vN nS uM iM qE pT cD dC mC a1 a2 a3 a4 a5 a6 a7 a8 a9 a10 a11 a12 a13 a14 a15 a16 a17 a18 a19 a20 a21 a22 := by
        intro z0
        unfold wL_law_249
        refine ⟨hx, nm_e ⟨hx, nm_e ?_⟩⟩
        refine lx_add h (fun r u' h' => ?_)
        obtain ⟨pC, sC, tC, iS, sM, sD, vN, nS, uM, iM, qE, pT, cD, dC, mC, a1, a2, a3, a4, a5, a6, a7, a8, a9, a10, a11, a12, a13, a14, a15, a16, a17, a18, a19, a20, a21, a22⟩ := u'
        refine br_c (fun _ => ?_) (fun _ => nm_e (nm_e ?_))
        · unfold wL_law_300
          exact g8 x4 x5 x6 x7 (pC, sC, tC, iS, sM, sD, vN, nS, uM, iM, qE, pT, cD, dC, mC, a1, a2, a3, a4, a5, a6, a7, a8, a9, a10, a11, a12, a13, a14, a15, a16, a17, a18, a19, a20, a21, a22) h'
        · unfold wL_law_300
          exact g8 x4 x5 _ _ (pC, sC, tC, iS, sM, sD, vN, nS, uM, iM, qE, pT, cD, dC, mC, a1, a2, a3, a4, a5, a6, a7, a8, a9, a10, a11, a12, a13, a14, a15, a16, a17, a18, a19, a20, a21, a22) h'
      unfold wL_law_228
      exact br_c (fun _ => g8 x4 x5 x6 x7 (pC, sC, tC, iS, sM, sD, vN, nS, uM, iM, qE, pT, cD, dC, mC, a1, a2, a3, a4, a5, a6, a7, a8, a9, a10, a11, a12, a13, a14, a15, a16, a17, a18, a19, a20, a21, a22) h) (fun _ => br_c (fun _ => g49 1) (fun _ => g49 0))
    have g44 : ∀ x9 x10 z0 : Int32, (z0 = 0 ↔ (x10 &&& 1) = 0) → wL_law_344 post L xs (wL_law_153 post L xs x1 (nI S) kc ks n) x1 (nI S) x4 x5 x6 x7 (nI i) x9 x10 z0 x9 kc ks pC sC tC iS sM sD vN nS uM iM qE pT cD dC mC a1 a2 a3 a4 a5 a6 a7 a8 a9 a10 a11 a12 a13 a14 a15 a16 a17 a18 a19 a20 a21 a22 := by
      intro x9 x10 z0 hz
      unfold wL_law_344
      refine lx_in h (fun u' h' => ?_) (fun y u' h' => ?_) (fun y u' h' => ?_)
      · obtain ⟨pC, sC, tC, iS, sM, sD, vN, nS, uM, iM, qE, pT, cD, dC, mC, a1, a2, a3, a4, a5, a6, a7, a8, a9, a10, a11, a12, a13, a14, a15, a16, a17, a18, a19, a20, a21, a22⟩ := u'
        exact br_t rfl (g8 x4 x5 x6 x7 (pC, sC, tC, iS, sM, sD, vN, nS, uM, iM, qE, pT, cD, dC, mC, a1, a2, a3, a4, a5, a6, a7, a8, a9, a10, a11, a12, a13, a14, a15, a16, a17, a18, a19, a20, a21, a22) h')
      · obtain ⟨pC, sC, tC, iS, sM, sD, vN, nS, uM, iM, qE, pT, cD, dC, mC, a1, a2, a3, a4, a5, a6, a7, a8, a9, a10, a11, a12, a13, a14, a15, a16, a17, a18, a19, a20, a21, a22⟩ := u'
        refine br_f (by decide) (br_t (hz.mp y) ?_)
        unfold wL_law_376
        exact g8 x4 _ x6 x7 (pC, sC, tC, iS, sM, sD, vN, nS, uM, iM, qE, pT, cD, dC, mC, a1, a2, a3, a4, a5, a6, a7, a8, a9, a10, a11, a12, a13, a14, a15, a16, a17, a18, a19, a20, a21, a22) h'
      · obtain ⟨pC, sC, tC, iS, sM, sD, vN, nS, uM, iM, qE, pT, cD, dC, mC, a1, a2, a3, a4, a5, a6, a7, a8, a9, a10, a11, a12, a13, a14, a15, a16, a17, a18, a19, a20, a21, a22⟩ := u'
        refine br_f (by decide) (br_f (fun w => y (hz.mpr w)) ?_)
        unfold wL_law_376
        exact g8 x4 _ x6 x7 (pC, sC, tC, iS, sM, sD, vN, nS, uM, iM, qE, pT, cD, dC, mC, a1, a2, a3, a4, a5, a6, a7, a8, a9, a10, a11, a12, a13, a14, a15, a16, a17, a18, a19, a20, a21, a22) h'
    have n2 : nI i + 2 = nI (i + 2) := nI_add i 2
    have n3 : nI i + 3 = nI (i + 3) := nI_add i 3
    have n4 : nI i + 4 = nI (i + 4) := nI_add i 4
    refine ⟨pk_in (i + 1) L (by omega) (nI_1 i), ?_⟩
    intro x9 e9
    refine ⟨pk_in (i + 2) L (by omega) n2, ?_⟩
    intro x10 e10
    refine ⟨pk_in i L (by omega), ?_⟩
    intro k ek
    have gE : ∀ u', lw_I S x4 x5 u' → wL_law_448 post L xs (wL_law_153 post L xs x1 (nI S) kc ks n) x1 (nI S) x4 x5 x6 x7 (nI i) kc ks u'.1 u'.2.1 u'.2.2.1 u'.2.2.2.1 u'.2.2.2.2.1 u'.2.2.2.2.2.1 u'.2.2.2.2.2.2.1 u'.2.2.2.2.2.2.2.1 u'.2.2.2.2.2.2.2.2.1 u'.2.2.2.2.2.2.2.2.2.1 u'.2.2.2.2.2.2.2.2.2.2.1 u'.2.2.2.2.2.2.2.2.2.2.2.1 u'.2.2.2.2.2.2.2.2.2.2.2.2.1 u'.2.2.2.2.2.2.2.2.2.2.2.2.2.1 u'.2.2.2.2.2.2.2.2.2.2.2.2.2.2.1 u'.2.2.2.2.2.2.2.2.2.2.2.2.2.2.2.1 u'.2.2.2.2.2.2.2.2.2.2.2.2.2.2.2.2.1 u'.2.2.2.2.2.2.2.2.2.2.2.2.2.2.2.2.2.1 u'.2.2.2.2.2.2.2.2.2.2.2.2.2.2.2.2.2.2.1 u'.2.2.2.2.2.2.2.2.2.2.2.2.2.2.2.2.2.2.2.1 u'.2.2.2.2.2.2.2.2.2.2.2.2.2.2.2.2.2.2.2.2.1 u'.2.2.2.2.2.2.2.2.2.2.2.2.2.2.2.2.2.2.2.2.2.1 u'.2.2.2.2.2.2.2.2.2.2.2.2.2.2.2.2.2.2.2.2.2.2.1 u'.2.2.2.2.2.2.2.2.2.2.2.2.2.2.2.2.2.2.2.2.2.2.2.1 u'.2.2.2.2.2.2.2.2.2.2.2.2.2.2.2.2.2.2.2.2.2.2.2.2.1 u'.2.2.2.2.2.2.2.2.2.2.2.2.2.2.2.2.2.2.2.2.2.2.2.2.2.1 u'.2.2.2.2.2.2.2.2.2.2.2.2.2.2.2.2.2.2.2.2.2.2.2.2.2.2.1 u'.2.2.2.2.2.2.2.2.2.2.2.2.2.2.2.2.2.2.2.2.2.2.2.2.2.2.2.1 u'.2.2.2.2.2.2.2.2.2.2.2.2.2.2.2.2.2.2.2.2.2.2.2.2.2.2.2.2.1 u'.2.2.2.2.2.2.2.2.2.2.2.2.2.2.2.2.2.2.2.2.2.2.2.2.2.2.2.2.2.1 u'.2.2.2.2.2.2.2.2.2.2.2.2.2.2.2.2.2.2.2.2.2.2.2.2.2.2.2.2.2.2.1 u'.2.2.2.2.2.2.2.2.2.2.2.2.2.2.2.2.2.2.2.2.2.2.2.2.2.2.2.2.2.2.2.1 u'.2.2.2.2.2.2.2.2.2.2.2.2.2.2.2.2.2.2.2.2.2.2.2.2.2.2.2.2.2.2.2.2.1 u'.2.2.2.2.2.2.2.2.2.2.2.2.2.2.2.2.2.2.2.2.2.2.2.2.2.2.2.2.2.2.2.2.2.1 u'.2.2.2.2.2.2.2.2.2.2.2.2.2.2.2.2.2.2.2.2.2.2.2.2.2.2.2.2.2.2.2.2.2.2.1 u'.2.2.2.2.2.2.2.2.2.2.2.2.2.2.2.2.2.2.2.2.2.2.2.2.2.2.2.2.2.2.2.2.2.2.2.1 u'.2.2.2.2.2.2.2.2.2.2.2.2.2.2.2.2.2.2.2.2.2.2.2.2.2.2.2.2.2.2.2.2.2.2.2.2 := g8 x4 x5 x6 x7
    refine br_c (fun _ => ?_) (fun _ => br_c (fun _ => ?_) (fun _ => br_c (fun _ => g28 x9) (fun _ => br_c (fun _ => g28 x9) (fun _ => br_c (fun _ => g28 x9) (fun _ => br_c (fun _ => ?_) (fun _ => br_c (fun _ => ?_) (fun _ => br_c (fun _ => ?_) (fun _ => br_c (fun _ => ?_) (fun _ => trivial)))))))))
    · refine lx_explore h (fun r u' h' => ?_)
      obtain ⟨pC, sC, tC, iS, sM, sD, vN, nS, uM, iM, qE, pT, cD, dC, mC, a1, a2, a3, a4, a5, a6, a7, a8, a9, a10, a11, a12, a13, a14, a15, a16, a17, a18, a19, a20, a21, a22⟩ := u'
      exact gE (pC, sC, tC, iS, sM, sD, vN, nS, uM, iM, qE, pT, cD, dC, mC, a1, a2, a3, a4, a5, a6, a7, a8, a9, a10, a11, a12, a13, a14, a15, a16, a17, a18, a19, a20, a21, a22) h'
    · refine lx_explore h (fun r u' h' => ?_)
      obtain ⟨pC, sC, tC, iS, sM, sD, vN, nS, uM, iM, qE, pT, cD, dC, mC, a1, a2, a3, a4, a5, a6, a7, a8, a9, a10, a11, a12, a13, a14, a15, a16, a17, a18, a19, a20, a21, a22⟩ := u'
      exact gE (pC, sC, tC, iS, sM, sD, vN, nS, uM, iM, qE, pT, cD, dC, mC, a1, a2, a3, a4, a5, a6, a7, a8, a9, a10, a11, a12, a13, a14, a15, a16, a17, a18, a19, a20, a21, a22) h'
    · refine ⟨pk_in (i + 3) L (by omega) n3, pk_in (i + 4) L (by omega) n4, ?_⟩
      refine lx_add h (fun r u' h' => ?_)
      obtain ⟨pC, sC, tC, iS, sM, sD, vN, nS, uM, iM, qE, pT, cD, dC, mC, a1, a2, a3, a4, a5, a6, a7, a8, a9, a10, a11, a12, a13, a14, a15, a16, a17, a18, a19, a20, a21, a22⟩ := u'
      exact gE (pC, sC, tC, iS, sM, sD, vN, nS, uM, iM, qE, pT, cD, dC, mC, a1, a2, a3, a4, a5, a6, a7, a8, a9, a10, a11, a12, a13, a14, a15, a16, a17, a18, a19, a20, a21, a22) h'
    · exact br_c (fun y => g44 x9 x10 0 ⟨fun _ => y, fun _ => rfl⟩) (fun y => g44 x9 x10 1 ⟨fun w => absurd w (by decide), fun w => absurd w y⟩)
    · refine ⟨pk_in (i + 3) L (by omega) n3, ?_⟩
      refine lx_st h (fun r u' h' => ?_)
      obtain ⟨pC, sC, tC, iS, sM, sD, vN, nS, uM, iM, qE, pT, cD, dC, mC, a1, a2, a3, a4, a5, a6, a7, a8, a9, a10, a11, a12, a13, a14, a15, a16, a17, a18, a19, a20, a21, a22⟩ := u'
      exact gE (pC, sC, tC, iS, sM, sD, vN, nS, uM, iM, qE, pT, cD, dC, mC, a1, a2, a3, a4, a5, a6, a7, a8, a9, a10, a11, a12, a13, a14, a15, a16, a17, a18, a19, a20, a21, a22) h'
    · refine lx_sg h (fun u' h' => ?_) (fun s u' hs hS ep h' => ?_)
      · obtain ⟨pC, sC, tC, iS, sM, sD, vN, nS, uM, iM, qE, pT, cD, dC, mC, a1, a2, a3, a4, a5, a6, a7, a8, a9, a10, a11, a12, a13, a14, a15, a16, a17, a18, a19, a20, a21, a22⟩ := u'
        exact br_t rfl (gE (pC, sC, tC, iS, sM, sD, vN, nS, uM, iM, qE, pT, cD, dC, mC, a1, a2, a3, a4, a5, a6, a7, a8, a9, a10, a11, a12, a13, a14, a15, a16, a17, a18, a19, a20, a21, a22) h')
      · obtain ⟨pC, sC, tC, iS, sM, sD, vN, nS, uM, iM, qE, pT, cD, dC, mC, a1, a2, a3, a4, a5, a6, a7, a8, a9, a10, a11, a12, a13, a14, a15, a16, a17, a18, a19, a20, a21, a22⟩ := u'
        refine br_f (by decide) (br_c (fun y => ?_) (fun y => ?_))
        · unfold wL_law_438
          refine g8 _ x5 x6 x7 (pC, sC, tC, iS, sM, sD, vN, nS, uM, iM, qE, pT, cD, dC, mC, a1, a2, a3, a4, a5, a6, a7, a8, a9, a10, a11, a12, a13, a14, a15, a16, a17, a18, a19, a20, a21, a22) (h' _ (fun s' l' ne hb => ?_) (fun _ => y))
          rw [ep, b_and, b_xor, b_m1 s' (by omega), bi_s1 s (by omega) s' (by omega), decide_eq_false ne] at hb
          revert hb
          cases bt x4 s' <;> simp
        · unfold wL_law_438
          refine g8 _ x5 x6 x7 (pC, sC, tC, iS, sM, sD, vN, nS, uM, iM, qE, pT, cD, dC, mC, a1, a2, a3, a4, a5, a6, a7, a8, a9, a10, a11, a12, a13, a14, a15, a16, a17, a18, a19, a20, a21, a22) (h' _ (fun s' l' ne hb => ?_) (fun hb => ?_))
          · rw [b_or, Bool.or_eq_false_iff] at hb
            exact hb.1
          · rw [ep, b_or, bi_s1 s (by omega) s (by omega), decide_eq_true rfl, Bool.or_true] at hb
            exact absurd hb (by decide)
theorem lz_57 {post : Int32 → Prop} {L kc ks S P : Nat} {xs : Nat → Int32} {x6 : Int32} (hp : post 1) (hL : L ≤ 260) (hP1 : 1 ≤ P) (hP : P ≤ 3) (hS1 : 1 ≤ S) (hS : S ≤ 4) (h : lw_I S 0 0 (pC, sC, tC, iS, sM, sD, vN, nS, uM, iM, qE, pT, cD, dC, mC, a1, a2, a3, a4, a5, a6, a7, a8, a9, a10, a11, a12, a13, a14, a15, a16, a17, a18, a19, a20, a21, a22)) :
    ∃ n, wL_law_57 post L xs (nI (2 * P)) (nI S) 0 0 x6 kc ks n 0 0 pC sC tC iS sM sD vN nS uM iM qE pT cD dC mC a1 a2 a3 a4 a5 a6 a7 a8 a9 a10 a11 a12 a13 a14 a15 a16 a17 a18 a19 a20 a21 a22 := by
  have hx : ¬ nI (2 * P) = 0 := nI_ne0 (by omega) (by omega)
  refine pk_loop (σ := Int32 × St2) (fun n i s => wL_law_57 post L xs (nI (2 * P)) (nI S) 0 0 x6 kc ks n s.1 (nI i) s.2.1 s.2.2.1 s.2.2.2.1 s.2.2.2.2.1 s.2.2.2.2.2.1 s.2.2.2.2.2.2.1 s.2.2.2.2.2.2.2.1 s.2.2.2.2.2.2.2.2.1 s.2.2.2.2.2.2.2.2.2.1 s.2.2.2.2.2.2.2.2.2.2.1 s.2.2.2.2.2.2.2.2.2.2.2.1 s.2.2.2.2.2.2.2.2.2.2.2.2.1 s.2.2.2.2.2.2.2.2.2.2.2.2.2.1 s.2.2.2.2.2.2.2.2.2.2.2.2.2.2.1 s.2.2.2.2.2.2.2.2.2.2.2.2.2.2.2.1 s.2.2.2.2.2.2.2.2.2.2.2.2.2.2.2.2.1 s.2.2.2.2.2.2.2.2.2.2.2.2.2.2.2.2.2.1 s.2.2.2.2.2.2.2.2.2.2.2.2.2.2.2.2.2.2.1 s.2.2.2.2.2.2.2.2.2.2.2.2.2.2.2.2.2.2.2.1 s.2.2.2.2.2.2.2.2.2.2.2.2.2.2.2.2.2.2.2.2.1 s.2.2.2.2.2.2.2.2.2.2.2.2.2.2.2.2.2.2.2.2.2.1 s.2.2.2.2.2.2.2.2.2.2.2.2.2.2.2.2.2.2.2.2.2.2.1 s.2.2.2.2.2.2.2.2.2.2.2.2.2.2.2.2.2.2.2.2.2.2.2.1 s.2.2.2.2.2.2.2.2.2.2.2.2.2.2.2.2.2.2.2.2.2.2.2.2.1 s.2.2.2.2.2.2.2.2.2.2.2.2.2.2.2.2.2.2.2.2.2.2.2.2.2.1 s.2.2.2.2.2.2.2.2.2.2.2.2.2.2.2.2.2.2.2.2.2.2.2.2.2.2.1 s.2.2.2.2.2.2.2.2.2.2.2.2.2.2.2.2.2.2.2.2.2.2.2.2.2.2.2.1 s.2.2.2.2.2.2.2.2.2.2.2.2.2.2.2.2.2.2.2.2.2.2.2.2.2.2.2.2.1 s.2.2.2.2.2.2.2.2.2.2.2.2.2.2.2.2.2.2.2.2.2.2.2.2.2.2.2.2.2.1 s.2.2.2.2.2.2.2.2.2.2.2.2.2.2.2.2.2.2.2.2.2.2.2.2.2.2.2.2.2.2.1 s.2.2.2.2.2.2.2.2.2.2.2.2.2.2.2.2.2.2.2.2.2.2.2.2.2.2.2.2.2.2.2.1 s.2.2.2.2.2.2.2.2.2.2.2.2.2.2.2.2.2.2.2.2.2.2.2.2.2.2.2.2.2.2.2.2.1 s.2.2.2.2.2.2.2.2.2.2.2.2.2.2.2.2.2.2.2.2.2.2.2.2.2.2.2.2.2.2.2.2.2.1 s.2.2.2.2.2.2.2.2.2.2.2.2.2.2.2.2.2.2.2.2.2.2.2.2.2.2.2.2.2.2.2.2.2.2.1 s.2.2.2.2.2.2.2.2.2.2.2.2.2.2.2.2.2.2.2.2.2.2.2.2.2.2.2.2.2.2.2.2.2.2.2.1 s.2.2.2.2.2.2.2.2.2.2.2.2.2.2.2.2.2.2.2.2.2.2.2.2.2.2.2.2.2.2.2.2.2.2.2.2.1 s.2.2.2.2.2.2.2.2.2.2.2.2.2.2.2.2.2.2.2.2.2.2.2.2.2.2.2.2.2.2.2.2.2.2.2.2.2) (fun _ s => lw_I S 0 0 s.2) (2 * P) 0 (0, (pC, sC, tC, iS, sM, sD, vN, nS, uM, iM, qE, pT, cD, dC, mC, a1, a2, a3, a4, a5, a6, a7, a8, a9, a10, a11, a12, a13, a14, a15, a16, a17, a18, a19, a20, a21, a22)) (by omega) h ?_ ?_
  · intro n s hI
    obtain ⟨x7, u⟩ := s
    obtain ⟨pC, sC, tC, iS, sM, sD, vN, nS, uM, iM, qE, pT, cD, dC, mC, a1, a2, a3, a4, a5, a6, a7, a8, a9, a10, a11, a12, a13, a14, a15, a16, a17, a18, a19, a20, a21, a22⟩ := u
    have h : lw_I S 0 0 (pC, sC, tC, iS, sM, sD, vN, nS, uM, iM, qE, pT, cD, dC, mC, a1, a2, a3, a4, a5, a6, a7, a8, a9, a10, a11, a12, a13, a14, a15, a16, a17, a18, a19, a20, a21, a22) := hI
    show wL_law_57 post L xs (nI (2 * P)) (nI S) 0 0 x6 kc ks (n + 1) x7 (nI (2 * P)) pC sC tC iS sM sD vN nS uM iM qE pT cD dC mC a1 a2 a3 a4 a5 a6 a7 a8 a9 a10 a11 a12 a13 a14 a15 a16 a17 a18 a19 a20 a21 a22
    refine pk_le (2 * P) (2 * P) (fun _ => ?_) (fun z => absurd z (by omega))
    refine lx_explore h (fun r u' h' => ?_)
    obtain ⟨pC, sC, tC, iS, sM, sD, vN, nS, uM, iM, qE, pT, cD, dC, mC, a1, a2, a3, a4, a5, a6, a7, a8, a9, a10, a11, a12, a13, a14, a15, a16, a17, a18, a19, a20, a21, a22⟩ := u'
    refine lx_holds (g := 0) (x5 := 0) h' (fun u' h' => ?_)
    obtain ⟨pC, sC, tC, iS, sM, sD, vN, nS, uM, iM, qE, pT, cD, dC, mC, a1, a2, a3, a4, a5, a6, a7, a8, a9, a10, a11, a12, a13, a14, a15, a16, a17, a18, a19, a20, a21, a22⟩ := u'
    exact br_f (by decide) (lz_153 hp hL hx h')
  · intro n i s hi hI hw
    obtain ⟨x7, u⟩ := s
    obtain ⟨pC, sC, tC, iS, sM, sD, vN, nS, uM, iM, qE, pT, cD, dC, mC, a1, a2, a3, a4, a5, a6, a7, a8, a9, a10, a11, a12, a13, a14, a15, a16, a17, a18, a19, a20, a21, a22⟩ := u
    have h : lw_I S 0 0 (pC, sC, tC, iS, sM, sD, vN, nS, uM, iM, qE, pT, cD, dC, mC, a1, a2, a3, a4, a5, a6, a7, a8, a9, a10, a11, a12, a13, a14, a15, a16, a17, a18, a19, a20, a21, a22) := hI
    show wL_law_57 post L xs (nI (2 * P)) (nI S) 0 0 x6 kc ks (n + 1) x7 (nI i) pC sC tC iS sM sD vN nS uM iM qE pT cD dC mC a1 a2 a3 a4 a5 a6 a7 a8 a9 a10 a11 a12 a13 a14 a15 a16 a17 a18 a19 a20 a21 a22
    have e2 : nI (2 * P) / 2 = nI P := by
      rw [show (2 : Int32) = nI 2 from rfl, pk_div (by omega) (by omega) (by omega)]
      congr 1
      omega
    refine pk_le (2 * P) i (fun z => absurd z (by omega)) (fun _ => ⟨by decide, ?_⟩)
    rw [e2]
    have lr : i % P < P := Nat.mod_lt _ (by omega)
    refine ⟨nI_ne0 (by omega) (by omega), lz_cell (p := 2 + i % P) hL (by omega) (by rw [pk_rem (by omega) (by omega) (by omega), show (2 : Int32) = nI 2 from rfl, nI_add]) (fun r => ⟨nI_ne0 (by omega) (by omega), ?_⟩)⟩
    intro x9 e9
    have g96 : ∀ z0 : Int32, wL_law_96 post L xs (wL_law_57 post L xs (nI (2 * P)) (nI S) 0 0 x6 kc ks n) (nI (2 * P)) (nI S) 0 0 x6 x7 (nI i) x9 z0 kc ks pC sC tC iS sM sD vN nS uM iM qE pT cD dC mC a1 a2 a3 a4 a5 a6 a7 a8 a9 a10 a11 a12 a13 a14 a15 a16 a17 a18 a19 a20 a21 a22 := by
      intro z0
      unfold wL_law_96
      refine ⟨hx, lx_add h (fun r u' h' => ?_)⟩
      obtain ⟨pC, sC, tC, iS, sM, sD, vN, nS, uM, iM, qE, pT, cD, dC, mC, a1, a2, a3, a4, a5, a6, a7, a8, a9, a10, a11, a12, a13, a14, a15, a16, a17, a18, a19, a20, a21, a22⟩ := u'
      exact nm_e (nm_r (nI_1 i) (hw (_, (pC, sC, tC, iS, sM, sD, vN, nS, uM, iM, qE, pT, cD, dC, mC, a1, a2, a3, a4, a5, a6, a7, a8, a9, a10, a11, a12, a13, a14, a15, a16, a17, a18, a19, a20, a21, a22)) h'))
    exact br_c (fun _ => g96 1) (fun _ => g96 0)
theorem lz_places (a b : Int32) : ∃ P, 1 ≤ P ∧ P ≤ 3 ∧ 2 * ((1 + (a &&& 1)) + ((b >>> ((1 : Int32) &&& 31)) &&& 1)) = nI (2 * P) := by
  obtain ⟨i, hi, e1⟩ := pk_andE a (m := 1) 1 (by decide)
  obtain ⟨j, hj, e2⟩ := pk_andE (b >>> ((1 : Int32) &&& 31)) (m := 1) 1 (by decide)
  refine ⟨1 + i + j, by omega, by omega, ?_⟩
  rw [e1, e2, show (1 : Int32) = nI 1 from rfl, nI_add, nI_add, show (2 : Int32) = nI 2 from rfl, pk_mul]
end
theorem i_vc (xs : Nat → Int32) (L : Nat) (hL : L ≤ 260) : wpL_law (fun r => r = 1) L xs := by
  unfold wpL_law
  refine lz_cell (p := 0) hL (by omega) rfl (fun r1 => lz_cell (p := 0) hL (by omega) rfl (fun r2 => ?_))
  obtain ⟨P, hP1, hP, eP⟩ := lz_places r1 r2
  refine nm_r eP (lz_cell (p := 1) hL (by omega) rfl (fun r4 => ?_))
  obtain ⟨s, hs, es⟩ := pk_andE r4 (m := 3) 2 (by decide)
  refine nm_r (e' := nI (1 + s)) (by rw [es, show (1 : Int32) = nI 1 from rfl, nI_add]) ⟨22, 1596, by omega, by omega, ?_⟩
  refine lx_init (by omega) (by omega) (by omega) (by omega) (fun u' h' => ?_)
  obtain ⟨pC, sC, tC, iS, sM, sD, vN, nS, uM, iM, qE, pT, cD, dC, mC, a1, a2, a3, a4, a5, a6, a7, a8, a9, a10, a11, a12, a13, a14, a15, a16, a17, a18, a19, a20, a21, a22⟩ := u'
  exact lz_57 rfl hL hP1 hP (by omega) (by omega) h'
end
