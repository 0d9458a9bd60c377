section
/-! the picture: fourteen registers of 32 bits; how the bit array holds them -/
/-- a bit as the machine keeps it -/
def bs_b : Bool → Int32
  | true => 1
  | false => 0
theorem bs_nar (b : Bool) : vp_nar .boolean (bs_b b) = bs_b b := by cases b <;> first | rfl | decide
theorem bs_narrow (b : Bool) : narrow .boolean (.int (bs_b b)) = .int (bs_b b) := by cases b <;> rfl
theorem bs_fits (b : Bool) : fits .boolean (.int (bs_b b)) = true := by cases b <;> rfl
theorem bs_b0 {b : Bool} : bs_b b = 0 ↔ b = false := by cases b <;> decide
theorem bs_be {b c : Bool} : bs_b b = bs_b c ↔ b = c := by cases b <;> cases c <;> decide
theorem bs_nt {b : Bool} (h : ¬ b = false) : b = true := by cases b <;> simp_all
/-- the bit array a holds the registers R -/
def bs_bits (a : Nat → Int32) (R : Nat → BitVec 32) : Prop := ∀ r i, r < 14 → i < 32 → a (32 * r + i) = bs_b ((R r).getLsbD i)
/-- one register anew -/
def bs_up (R : Nat → BitVec 32) (t : Nat) (v : BitVec 32) : Nat → BitVec 32 := fun r => if r = t then v else R r
theorem bs_us {R : Nat → BitVec 32} {t : Nat} {v : BitVec 32} : bs_up R t v t = v := if_pos rfl
theorem bs_un {R : Nat → BitVec 32} {t r : Nat} {v : BitVec 32} (h : r ≠ t) : bs_up R t v r = R r := if_neg h
/-- an array whose places 32 t .. 32 t + n - 1 hold the bits g -/
def bs_fill (a : Nat → Int32) (t n : Nat) (g : Nat → Bool) : Nat → Int32 := fun k => if 32 * t ≤ k ∧ k < 32 * t + n then bs_b (g (k - 32 * t)) else a k
theorem bs_fill_in {a : Nat → Int32} {t n i : Nat} {g : Nat → Bool} (h : i < n) : bs_fill a t n g (32 * t + i) = bs_b (g i) := by
  unfold bs_fill
  rw [if_pos (by omega), show 32 * t + i - 32 * t = i by omega]
theorem bs_fill_out {a : Nat → Int32} {t n k : Nat} {g : Nat → Bool} (h : k < 32 * t ∨ 32 * t + n ≤ k) : bs_fill a t n g k = a k := by
  unfold bs_fill
  rw [if_neg (by omega)]
theorem bs_fill0 (a : Nat → Int32) (t : Nat) (g : Nat → Bool) : a = bs_fill a t 0 g := by
  funext k
  rw [bs_fill_out (by omega)]
theorem bs_fillS {a : Nat → Int32} {t i k : Nat} {g : Nat → Bool} {x : Int32} (hk : k = 32 * t + i) (hx : x = bs_b (g i)) : upd (bs_fill a t i g) k x = bs_fill a t (i + 1) g := by
  subst hk hx
  funext j
  by_cases e : j = 32 * t + i
  · subst e
    rw [pk_us, bs_fill_in (by omega)]
  · rw [pk_un e]
    by_cases h : 32 * t ≤ j ∧ j < 32 * t + i
    · obtain ⟨d, rfl⟩ : ∃ d, j = 32 * t + d := ⟨j - 32 * t, by omega⟩
      rw [bs_fill_in (by omega), bs_fill_in (by omega)]
    · rw [bs_fill_out (by omega), bs_fill_out (by omega)]
theorem bs_bits_up {a : Nat → Int32} {R : Nat → BitVec 32} {t : Nat} {v : BitVec 32} {g : Nat → Bool} (hb : bs_bits a R) (hg : ∀ i, i < 32 → g i = v.getLsbD i) : bs_bits (bs_fill a t 32 g) (bs_up R t v) := by
  intro r i hr hi
  by_cases e : r = t
  · subst e
    rw [bs_us, bs_fill_in hi, hg i hi]
  · rw [bs_un e, bs_fill_out (by omega)]
    exact hb r i hr hi
/-- one bit set -/
theorem bs_bits_set {a : Nat → Int32} {R : Nat → BitVec 32} {t o : Nat} (hb : bs_bits a R) (ht : t < 14) (ho : o < 32) : bs_bits (upd a (32 * t + o) 1) (bs_up R t (R t ||| BitVec.twoPow 32 o)) := by
  intro r i hr hi
  by_cases e : r = t
  · subst e
    rw [bs_us, BitVec.getLsbD_or, BitVec.getLsbD_twoPow]
    by_cases h : i = o
    · subst h
      rw [pk_us]
      simp [hi, bs_b]
    · rw [pk_un (by omega), hb r i hr hi]
      simp [Ne.symm h]
  · rw [bs_un e, pk_un (by omega)]
    exact hb r i hr hi
theorem bs_ix (r i : Nat) : (32 : Int32) * nI r + nI i = nI (32 * r + i) := by
  show nI 32 * nI r + nI i = _
  rw [pk_mul, nI_add]
theorem bs_su : ∀ n, n < 32 → (((nI n).toUInt32 &&& Int32.toUInt32 31).toBitVec % 32).toNat = n := by decide +kernel
theorem bs_tb (v : BitVec 32) (i : Nat) : v.getLsbD i = decide (v.toNat / 2 ^ i % 2 = 1) := by
  rw [← BitVec.testBit_toNat, Nat.testBit_eq_decide_div_mod_eq]
theorem bs_cbit (v : Int32) (i : Nat) (hi : i < 32) : ((v.toUInt32 >>> ((nI i).toUInt32 &&& Int32.toUInt32 31)).toInt32 &&& 1) = 0 ↔ v.toBitVec.getLsbD i = false := by
  rw [pk_and _ 1 (by decide), pk_ushr v (nI i) i (bs_su i hi), bs_tb, ← nI_0]
  generalize v.toBitVec.toNat / 2 ^ i = m
  rw [nI_eq (by omega) (by omega)]
  have h : m % 2 ^ 1 = m % 2 := rfl
  rw [h, decide_eq_false_iff_not]
  omega
/-! the adder -/
def bs_q (inv : Bool) (y : BitVec 32) : BitVec 32 := if inv then ~~~ y else y
def bs_add (inv : Bool) (x y : BitVec 32) : BitVec 32 := x + bs_q inv y + BitVec.setWidth 32 (BitVec.ofBool inv)
def bs_co (inv : Bool) (x y : BitVec 32) (i : Nat) : Bool := BitVec.carry i x (bs_q inv y) inv
theorem bs_q_bit (inv : Bool) (y : BitVec 32) {i : Nat} (hi : i < 32) : (bs_q inv y).getLsbD i = (y.getLsbD i ^^ inv) := by
  cases inv <;> simp [bs_q, hi]
theorem bs_add_bit (inv : Bool) (x y : BitVec 32) {i : Nat} (hi : i < 32) : (bs_add inv x y).getLsbD i = ((x.getLsbD i ^^ (y.getLsbD i ^^ inv)) ^^ bs_co inv x y i) := by
  unfold bs_add bs_co
  rw [BitVec.getLsbD_add_add_bool hi, bs_q_bit inv y hi]
  exact (Bool.xor_assoc _ _ _).symm
theorem bs_co_0 (inv : Bool) (x y : BitVec 32) : bs_co inv x y 0 = inv := by
  unfold bs_co
  rw [BitVec.carry_zero]
theorem bs_co_s (inv : Bool) (x y : BitVec 32) {i : Nat} (hi : i < 32) : bs_co inv x y (i + 1) = (x.getLsbD i && (y.getLsbD i ^^ inv) || (x.getLsbD i ^^ (y.getLsbD i ^^ inv)) && bs_co inv x y i) := by
  unfold bs_co
  rw [BitVec.carry_succ, bs_q_bit inv y hi]
  generalize x.getLsbD i = p
  generalize (y.getLsbD i ^^ inv) = q
  generalize BitVec.carry i x (bs_q inv y) inv = c
  cases p <;> cases q <;> cases c <;> rfl
theorem bs_add_f (x y : BitVec 32) : bs_add false x y = x + y := by
  apply BitVec.eq_of_toNat_eq
  simp [bs_add, bs_q]
theorem bs_add_t (x y : BitVec 32) : bs_add true x y = x - y := by
  apply BitVec.eq_of_toNat_eq
  have h1 := x.isLt
  have h2 := y.isLt
  simp only [bs_add, bs_q, BitVec.toNat_add, BitVec.toNat_sub, if_true, BitVec.toNat_not, BitVec.toNat_setWidth, BitVec.toNat_ofBool, Bool.toNat_true]
  omega
theorem bs_co_t (x y : BitVec 32) : bs_co true x y 32 = decide (y.toNat ≤ x.toNat) := by
  have h1 := x.isLt
  have h2 := y.isLt
  unfold bs_co
  rw [BitVec.carry_width]
  simp only [bs_q, if_true, BitVec.toNat_not, Bool.toNat_true, decide_eq_decide]
  omega
end
section
/-! the methods that handle one register, bit by bit -/
section
variable {post : St2 → Prop} {l nl la st : Int32} {a1 a2 a3 a4 a5 a6 a7 a8 a9 a10 a11 : Nat → Int32}
theorem bs_load {t : Nat} {v : Int32} {R : Nat → BitVec 32} (ht : t < 14) (hb : bs_bits a5 R)
    (H : ∀ b5, bs_bits b5 (bs_up R t v.toBitVec) → post (l, nl, la, st, a1, a2, a3, a4, b5, a6, a7, a8, a9, a10, a11)) :
    wpX_loadConstant post (l, nl, la, st, a1, a2, a3, a4, a5, a6, a7, a8, a9, a10, a11) (nI t) v :=
  pk_loop (fun n i s => wX_loadConstant_2 post (nI t) v l nl la st n (nI i) a1 a2 a3 a4 s a6 a7 a8 a9 a10 a11)
    (fun i s => s = bs_fill a5 t i (fun j => v.toBitVec.getLsbD j)) 32 0 a5 (by omega) (bs_fill0 _ _ _)
    (fun n s h => pk_le 32 32 (fun _ => H s (by rw [h]; exact bs_bits_up hb (fun _ _ => rfl))) (fun z => absurd z (by omega)))
    (fun n i s hi h hw => pk_le 32 i (fun z => absurd z (by omega)) (fun _ => ek_if (bs_cbit v i hi)
      (fun z => ⟨pk_in (32 * t + i) 448 (by omega) (bs_ix t i), nm_e (nm_r (nI_1 i) (hw _ (by
        rw [h]
        exact bs_fillS (pk_cl _ (bs_ix t i) (by omega)) (show (0 : Int32) = bs_b (v.toBitVec.getLsbD i) by rw [z]; rfl))))⟩)
      (fun z => ⟨pk_in (32 * t + i) 448 (by omega) (bs_ix t i), nm_e (nm_r (nI_1 i) (hw _ (by
        rw [h]
        exact bs_fillS (pk_cl _ (bs_ix t i) (by omega)) (show (1 : Int32) = bs_b (v.toBitVec.getLsbD i) by rw [bs_nt z]; rfl))))⟩)))
theorem bs_keep {t : Nat} {v : BitVec 32} {R : Nat → BitVec 32} (ht : t < 14) (hb : bs_bits a5 R) (hf : ∀ i, i < 32 → a6 i = bs_b (v.getLsbD i))
    (H : ∀ b5, bs_bits b5 (bs_up R t v) → post (l, nl, la, st, a1, a2, a3, a4, b5, a6, a7, a8, a9, a10, a11)) :
    wpX_keepFresh post (l, nl, la, st, a1, a2, a3, a4, a5, a6, a7, a8, a9, a10, a11) (nI t) :=
  pk_loop (fun n i s => wX_keepFresh_2 post (nI t) l nl la st n (nI i) a1 a2 a3 a4 s a6 a7 a8 a9 a10 a11)
    (fun i s => s = bs_fill a5 t i (fun j => v.getLsbD j)) 32 0 a5 (by omega) (bs_fill0 _ _ _)
    (fun n s h => pk_le 32 32 (fun _ => H s (by rw [h]; exact bs_bits_up hb (fun _ _ => rfl))) (fun z => absurd z (by omega)))
    (fun n i s hi h hw => pk_le 32 i (fun z => absurd z (by omega)) (fun _ => ⟨pk_in i 32 hi, pk_in (32 * t + i) 448 (by omega) (bs_ix t i), nm_e (nm_r (nI_1 i) (hw _ (by
        rw [h]
        exact bs_fillS (pk_cl _ (bs_ix t i) (by omega)) (show vp_nar .boolean (a6 (nI i).toNatClampNeg) = bs_b (v.getLsbD i) by rw [nI_clamp (by omega), hf i hi, bs_nar]))))⟩))
/-- the fresh row once it is filled -/
theorem bs_fresh {g : Nat → Bool} {v : BitVec 32} {s : Nat → Int32} (h : s = bs_fill a6 0 32 g) (hg : ∀ i, i < 32 → g i = v.getLsbD i) : ∀ i, i < 32 → s i = bs_b (v.getLsbD i) := by
  intro i hi
  have e : bs_fill a6 0 32 g (32 * 0 + i) = bs_b (g i) := bs_fill_in hi
  rw [show 32 * 0 + i = i by omega] at e
  rw [h, e, hg i hi]
theorem bs_fillF {a : Nat → Int32} {i : Nat} {g : Nat → Bool} {x : Int32} {s : Nat → Int32} (hs : s = bs_fill a 0 i g) (hi : i < 32) (hx : x = bs_b (g i)) : upd s (nI i).toNatClampNeg x = bs_fill a 0 (i + 1) g := by
  rw [hs]
  exact bs_fillS (by rw [nI_clamp (by omega)]; omega) hx
theorem bs_small {v : BitVec 32} (h : v.toNat < 32768) {i : Nat} (hi : 15 ≤ i) : v.getLsbD i = false := by
  rw [← BitVec.testBit_toNat]
  refine Nat.testBit_lt_two_pow (Nat.lt_of_lt_of_le h ?_)
  exact Nat.pow_le_pow_right (n := 2) (by omega) hi
theorem bs_widen {t f : Nat} {R : Nat → BitVec 32} (ht : t < 14) (hf : f < 14) (hb : bs_bits a5 R) (hv : (R f).toNat < 32768)
    (H : ∀ b5 b6, bs_bits b5 (bs_up R t (R f)) → post (l, nl, la, st, a1, a2, a3, a4, b5, b6, a7, a8, a9, a10, a11)) :
    wpX_widen post (l, nl, la, st, a1, a2, a3, a4, a5, a6, a7, a8, a9, a10, a11) (nI t) (nI f) :=
  pk_loop (fun n i s => wX_widen_2 post (nI t) (nI f) l nl la st n (nI i) a1 a2 a3 a4 a5 s a7 a8 a9 a10 a11)
    (fun i s => s = bs_fill a6 0 i (fun j => (R f).getLsbD j)) 32 0 a6 (by omega) (bs_fill0 _ _ _)
    (fun n s h => pk_le 32 32 (fun _ => bs_keep ht hb (bs_fresh h (fun _ _ => rfl)) (fun b5 h5 => H b5 s h5)) (fun z => absurd z (by omega)))
    (fun n i s hi h hw => pk_le 32 i (fun z => absurd z (by omega)) (fun _ => pk_le 16 i
      (fun z => ⟨pk_in (32 * f + 15) 448 (by omega) (bs_ix f 15), pk_in i 32 hi, nm_e (nm_r (nI_1 i) (hw _ (bs_fillF h hi (by
        rw [pk_cl (32 * f + 15) (show (32 : Int32) * nI f + 15 = nI (32 * f + 15) from bs_ix f 15) (by omega), hb f 15 hf (by omega), bs_nar]
        show bs_b ((R f).getLsbD 15) = bs_b ((R f).getLsbD i)
        rw [bs_small hv (by omega), bs_small hv (by omega)]))))⟩)
      (fun z => ⟨pk_in (32 * f + i) 448 (by omega) (bs_ix f i), pk_in i 32 hi, nm_e (nm_r (nI_1 i) (hw _ (bs_fillF h hi (by
        rw [pk_cl (32 * f + i) (bs_ix f i) (by omega), hb f i hf hi, bs_nar]))))⟩)))
theorem bs_shift {t f o : Nat} {R : Nat → BitVec 32} (ht : t < 14) (hf : f < 14) (ho : o < 32) (hb : bs_bits a5 R)
    (H : ∀ b5 b6, bs_bits b5 (bs_up R t (R f <<< o)) → post (l, nl, la, st, a1, a2, a3, a4, b5, b6, a7, a8, a9, a10, a11)) :
    wpX_shift post (l, nl, la, st, a1, a2, a3, a4, a5, a6, a7, a8, a9, a10, a11) (nI t) (nI f) (nI o) :=
  pk_loop (fun n i s => wX_shift_3 post (nI t) (nI f) (nI o) l nl la st n (nI i) a1 a2 a3 a4 a5 s a7 a8 a9 a10 a11)
    (fun i s => s = bs_fill a6 0 i (fun j => (R f <<< o).getLsbD j)) 32 0 a6 (by omega) (bs_fill0 _ _ _)
    (fun n s h => pk_le 32 32 (fun _ => bs_keep ht hb (bs_fresh h (fun _ _ => rfl)) (fun b5 h5 => H b5 s h5)) (fun z => absurd z (by omega)))
    (fun n i s hi h hw => pk_le 32 i (fun z => absurd z (by omega)) (fun _ => by
      by_cases hio : i < o
      · refine nm_e (br_t (pk_sneg (by omega) hio) ⟨pk_in i 32 hi, nm_e (nm_r (nI_1 i) (hw _ (bs_fillF h hi ?_)))⟩)
        show (0 : Int32) = bs_b ((R f <<< o).getLsbD i)
        rw [BitVec.getLsbD_shiftLeft]
        simp [hio, bs_b]
      · have e : (R f <<< o).getLsbD i = (R f).getLsbD (i - o) := by
          rw [BitVec.getLsbD_shiftLeft]
          simp [hi, hio]
        have e5 : a5 ((32 : Int32) * nI f + nI (i - o)).toNatClampNeg = bs_b ((R f).getLsbD (i - o)) := by
          rw [pk_cl (32 * f + (i - o)) (bs_ix f (i - o)) (by omega), hb f (i - o) hf (by omega)]
        refine nm_r (pk_sub (by omega)) (br_f (nI_pos (by omega)) (br_f (nI_ge (b := 32) (by omega) (by decide)) ⟨pk_in (32 * f + (i - o)) 448 (by omega) (bs_ix f (i - o)), ?_⟩))
        rw [e5]
        refine ek_if bs_b0 (fun z => ⟨pk_in i 32 hi, nm_e (nm_r (nI_1 i) (hw _ (bs_fillF h hi ?_)))⟩) (fun z => ⟨pk_in i 32 hi, nm_e (nm_r (nI_1 i) (hw _ (bs_fillF h hi ?_)))⟩)
        · show (0 : Int32) = bs_b ((R f <<< o).getLsbD i)
          rw [e, z]
          rfl
        · show (1 : Int32) = bs_b ((R f <<< o).getLsbD i)
          rw [e, bs_nt z]
          rfl))
end
section
variable {post : St2 → Prop} {J : Int32 → Int32 → (Nat → Int32) → (Nat → Int32) → (Nat → Int32) → (Nat → Int32) → (Nat → Int32) → (Nat → Int32) → (Nat → Int32) → (Nat → Int32) → (Nat → Int32) → (Nat → Int32) → (Nat → Int32) → Prop} {x1 x2 x3 x4 l nl la st : Int32} {a1 a2 a3 a4 a5 a6 a7 a8 a9 a10 a11 : Nat → Int32}
theorem bs_95 {c h : Bool} {i : Nat} (H : J (bs_b (h && c)) (nI (i + 1)) a1 a2 a3 a4 a5 a6 a7 a8 a9 a10 a11) : wX_addSerially_95 post J x1 x2 x3 x4 (bs_b c) (nI i) (bs_b h) l nl la st a1 a2 a3 a4 a5 a6 a7 a8 a9 a10 a11 := by
  cases h
  · exact br_t rfl (nm_r (nI_1 i) H)
  · cases c
    · exact br_f (by decide) (br_t rfl (nm_r (nI_1 i) H))
    · exact br_f (by decide) (br_f (by decide) (nm_r (nI_1 i) H))
theorem bs_84 {p q c h z : Bool} {i : Nat} (hi : i < 32) (H : J (bs_b (p && q || h && c)) (nI (i + 1)) a1 a2 a3 a4 a5 (upd a6 (nI i).toNatClampNeg (bs_b z)) a7 a8 a9 a10 a11) : wX_addSerially_84 post J x1 x2 x3 x4 (bs_b c) (nI i) (bs_b p) (bs_b q) (bs_b h) (bs_b z) (nI i) l nl la st a1 a2 a3 a4 a5 a6 a7 a8 a9 a10 a11 := by
  refine ⟨pk_in i 32 hi, nm_r (by rw [bs_nar]) ?_⟩
  cases p
  · exact br_t rfl (bs_95 H)
  · cases q
    · exact br_f (by decide) (br_t rfl (bs_95 H))
    · exact br_f (by decide) (br_f (by decide) (nm_r (nI_1 i) H))
theorem bs_64 {p q c h : Bool} {i : Nat} (hi : i < 32) (H : J (bs_b (p && q || h && c)) (nI (i + 1)) a1 a2 a3 a4 a5 (upd a6 (nI i).toNatClampNeg (bs_b (h ^^ c))) a7 a8 a9 a10 a11) : wX_addSerially_64 post J x1 x2 x3 x4 (bs_b c) (nI i) (bs_b p) (bs_b q) (bs_b h) l nl la st a1 a2 a3 a4 a5 a6 a7 a8 a9 a10 a11 :=
  ek_if bs_be (fun z => bs_84 (z := false) hi (by
      subst z
      rw [Bool.xor_self] at H
      exact H))
    (fun z => bs_84 (z := true) hi (by
      rw [show (h ^^ c) = true by cases h <;> cases c <;> simp_all] at H
      exact H))
theorem bs_50 {p q c : Bool} {i : Nat} (hi : i < 32) (H : J (bs_b (p && q || (p ^^ q) && c)) (nI (i + 1)) a1 a2 a3 a4 a5 (upd a6 (nI i).toNatClampNeg (bs_b ((p ^^ q) ^^ c))) a7 a8 a9 a10 a11) : wX_addSerially_50 post J x1 x2 x3 x4 (bs_b c) (nI i) (bs_b p) (bs_b q) l nl la st a1 a2 a3 a4 a5 a6 a7 a8 a9 a10 a11 :=
  ek_if bs_be (fun z => bs_64 (h := false) hi (by
      subst z
      rw [Bool.xor_self] at H
      exact H))
    (fun z => bs_64 (h := true) hi (by
      rw [show (p ^^ q) = true by cases p <;> cases q <;> simp_all] at H
      exact H))
theorem bs_adds {t f g : Nat} {inv : Bool} {R : Nat → BitVec 32} (ht : t < 14) (hf : f < 14) (hg : g < 14) (hb : bs_bits a5 R)
    (H : ∀ b5 b6, bs_bits b5 (bs_up R t (bs_add inv (R f) (R g))) → post (l, nl, bs_b (bs_co inv (R f) (R g) 32), st, a1, a2, a3, a4, b5, b6, a7, a8, a9, a10, a11)) :
    wpX_addSerially post (l, nl, la, st, a1, a2, a3, a4, a5, a6, a7, a8, a9, a10, a11) (nI t) (nI f) (nI g) (bs_b inv) := by
  have key := pk_loop (fun n i s => wX_addSerially_7 post (nI t) (nI f) (nI g) (bs_b inv) l nl la st n (bs_b (bs_co inv (R f) (R g) i)) (nI i) a1 a2 a3 a4 a5 s a7 a8 a9 a10 a11)
    (fun i s => s = bs_fill a6 0 i (fun j => (bs_add inv (R f) (R g)).getLsbD j)) 32 0 a6 (by omega) (bs_fill0 _ _ _)
    (fun n s h => pk_le 32 32 (fun _ => ⟨bs_narrow _, bs_fits _, bs_keep ht hb (bs_fresh h (fun _ _ => rfl)) (fun b5 h5 => H b5 s h5)⟩) (fun z => absurd z (by omega)))
    (fun n i s hi h hw => pk_le 32 i (fun z => absurd z (by omega)) (fun _ => by
      have ef : a5 ((32 : Int32) * nI f + nI i).toNatClampNeg = bs_b ((R f).getLsbD i) := by
        rw [pk_cl (32 * f + i) (bs_ix f i) (by omega), hb f i hf hi]
      have eg : a5 ((32 : Int32) * nI g + nI i).toNatClampNeg = bs_b ((R g).getLsbD i) := by
        rw [pk_cl (32 * g + i) (bs_ix g i) (by omega), hb g i hg hi]
      have nx := hw _ (bs_fillF (g := fun j => (bs_add inv (R f) (R g)).getLsbD j) h hi rfl)
      rw [bs_co_s inv (R f) (R g) hi, bs_add_bit inv (R f) (R g) hi] at nx
      refine ⟨pk_in (32 * f + i) 448 (by omega) (bs_ix f i), nm_r ef ⟨pk_in (32 * g + i) 448 (by omega) (bs_ix g i), ?_⟩⟩
      rw [eg]
      refine ek_if bs_be (fun z => bs_50 (q := false) hi ?_) (fun z => bs_50 (q := true) hi ?_)
      · rw [show ((R g).getLsbD i ^^ inv) = false by rw [z, Bool.xor_self]] at nx
        exact nx
      · rw [show ((R g).getLsbD i ^^ inv) = true by cases hh : (R g).getLsbD i <;> cases inv <;> simp_all] at nx
        exact nx))
  obtain ⟨n, hn⟩ := key
  rw [bs_co_0] at hn
  exact ⟨n, hn⟩
end
section
variable {post : Int32 → Prop} {l nl la st : Int32} {a1 a2 a3 a4 a5 a6 a7 a8 a9 a10 a11 : Nat → Int32}
theorem bs_isZero {r : Nat} {R : Nat → BitVec 32} (hr : r < 14) (hb : bs_bits a5 R) (H1 : R r = 0#32 → post 1) (H0 : R r ≠ 0#32 → post 0) :
    wpX_isZero post (l, nl, la, st, a1, a2, a3, a4, a5, a6, a7, a8, a9, a10, a11) (nI r) :=
  pk_loop (σ := Unit) (fun n i _ => wX_isZero_2 post (nI r) l nl la st a1 a2 a3 a4 a5 a6 a7 a8 a9 a10 a11 n (nI i))
    (fun i _ => ∀ j, j < i → (R r).getLsbD j = false) 32 0 () (by omega) (fun j hj => absurd hj (by omega))
    (fun n _ h => pk_le 32 32 (fun _ => H1 (BitVec.eq_of_getLsbD_eq (fun i hi => by rw [h i hi]; simp))) (fun z => absurd z (by omega)))
    (fun n i _ hi h hw => pk_le 32 i (fun z => absurd z (by omega)) (fun _ => by
      have e5 : a5 ((32 : Int32) * nI r + nI i).toNatClampNeg = bs_b ((R r).getLsbD i) := by
        rw [pk_cl (32 * r + i) (bs_ix r i) (by omega), hb r i hr hi]
      refine ⟨pk_in (32 * r + i) 448 (by omega) (bs_ix r i), ?_⟩
      rw [e5]
      exact ek_if bs_b0 (fun z => nm_r (nI_1 i) (hw () (lt_s h z))) (fun z => H0 (fun e => z (by rw [e]; simp)))))
theorem bs_half (m i : Nat) : m / 2 ^ i = 2 * (m / 2 ^ (i + 1)) + (if m / 2 ^ i % 2 = 1 then 1 else 0) := by
  rw [Nat.pow_succ, ← Nat.div_div_eq_div_mul]
  generalize m / 2 ^ i = k
  split <;> omega
theorem bs_unsigned {r : Nat} {R : Nat → BitVec 32} (hr : r < 14) (hb : bs_bits a5 R) (hv : (R r).toNat < 65536) (H : post (nI (R r).toNat)) :
    wpX_unsigned post (l, nl, la, st, a1, a2, a3, a4, a5, a6, a7, a8, a9, a10, a11) (nI r) := by
  have key := pk_loopD (fun n i s => wX_unsigned_5 post (nI r) l nl la st a1 a2 a3 a4 a5 a6 a7 a8 a9 a10 a11 n (nI s) (nI i + (-1)))
    (fun i s => i ≤ 16 ∧ s = (R r).toNat / 2 ^ i)
    (fun n s h => by
      refine br_t (by decide) ?_
      rw [h.2, Nat.pow_zero, Nat.div_one]
      exact H)
    (fun n i s h hw => by
      rw [pk_m1]
      have e5 : a5 ((32 : Int32) * nI r + nI i).toNatClampNeg = bs_b ((R r).getLsbD i) := by
        rw [pk_cl (32 * r + i) (bs_ix r i) (by omega), hb r i hr (by omega)]
      have hh := bs_half (R r).toNat i
      have ht := bs_tb (R r) i
      refine br_f (nI_pos (by omega)) ⟨pk_in (32 * r + i) 448 (by omega) (bs_ix r i), ?_⟩
      rw [e5]
      refine ek_if bs_b0 (fun z => nm_r (e' := nI (2 * s)) ?_ (nm_e (hw _ ⟨by omega, ?_⟩))) (fun z => nm_r (e' := nI (2 * s + 1)) ?_ (nm_e (hw _ ⟨by omega, ?_⟩)))
      · rw [show (2 : Int32) = nI 2 from rfl, pk_mul, ← nI_0, nI_add]
        rfl
      · rw [z] at ht
        rw [h.2, hh, if_neg (by simpa using ht)]
        omega
      · rw [show (2 : Int32) = nI 2 from rfl, pk_mul, nI_1]
      · rw [bs_nt z] at ht
        rw [h.2, hh, if_pos (by simpa using ht)])
    16 0 ⟨Nat.le_refl _, by rw [Nat.div_eq_of_lt hv]⟩
  rw [show nI 16 + (-1) = (15 : Int32) by decide] at key
  exact ⟨17, key⟩
theorem bs_get {r : Nat} {R : Nat → BitVec 32} (hr : r < 8) (hb : bs_bits a5 R) (hv : (R r).toNat < 32768) (H : post (nI (R r).toNat)) :
    wpX_get post (l, nl, la, st, a1, a2, a3, a4, a5, a6, a7, a8, a9, a10, a11) (nI r) := by
  unfold wpX_get
  dsimp only
  rw [pk_andN (by omega) 3 (by decide), Nat.mod_eq_of_lt (show r < 2 ^ 3 by omega)]
  exact bs_unsigned (by omega) hb (by omega) (pk_lt (R r).toNat 32768 (fun _ => H) (fun z => absurd z (by omega)))
def bs_sum (f : Nat → Nat) : Nat → Nat
  | 0 => 0
  | n + 1 => bs_sum f n + f n
theorem bs_total {R : Nat → BitVec 32} (hb : bs_bits a5 R) (hv : ∀ r, r < 8 → (R r).toNat < 32768) (H : post (nI (bs_sum (fun r => (R r).toNat) 8))) :
    wpX_total post (l, nl, la, st, a1, a2, a3, a4, a5, a6, a7, a8, a9, a10, a11) :=
  pk_loop (fun n i s => wX_total_4 post l nl la st a1 a2 a3 a4 a5 a6 a7 a8 a9 a10 a11 n s (nI i))
    (fun i s => s = nI (bs_sum (fun r => (R r).toNat) i)) 8 0 0 (by omega) rfl
    (fun n s h => pk_le 8 8 (fun _ => by rw [h]; exact H) (fun z => absurd z (by omega)))
    (fun n i s hi h hw => pk_le 8 i (fun z => absurd z (by omega)) (fun _ => bs_unsigned (by omega) hb (Nat.lt_trans (hv i hi) (by omega))
      (nm_e (nm_r (nI_1 i) (hw _ (by rw [h, nI_add]; rfl))))))
end
end
section
/-! the micro-steps, one by one: bs_PA p la R says that the unit, at micro-step p with latch la and registers R, ends as asked -/
abbrev bs_E : Type := Nat × Nat × Nat × Nat × Nat
/-- the five tables hold the micro-steps of the list: kind, to, from, other, skip -/
def bs_tab (N : Nat) (L : List bs_E) (a7 a8 a9 a10 a11 : Nat → Int32) : Prop := L.length = N ∧ ∀ j k t f o s, L[j]? = some (k, t, f, o, s) → a7 j = nI k ∧ a8 j = nI t ∧ a9 j = nI f ∧ a10 j = nI o ∧ a11 j = nI s
def bs_PA (post : St2 → Prop) (l nl st : Int32) (a1 a2 a3 a4 a7 a8 a9 a10 a11 : Nat → Int32) (p : Nat) (la : Bool) (R : Nat → BitVec 32) : Prop :=
  ∀ n k a5 a6, 160 < n + p → k ≤ p → bs_bits a5 R → wX_performAll_4 post n (nI p) (nI k) l nl (bs_b la) st a1 a2 a3 a4 a5 a6 a7 a8 a9 a10 a11
section
variable {post : St2 → Prop} {l nl : Int32} {a1 a2 a3 a4 a7 a8 a9 a10 a11 : Nat → Int32}
theorem bs_end {N p : Nat} {la : Bool} {R : Nat → BitVec 32} (hN : N ≤ p) (hp : p ≤ 160)
    (H : ∀ b5 b6, bs_bits b5 R → post (l, nl, bs_b la, nI N, a1, a2, a3, a4, b5, b6, a7, a8, a9, a10, a11)) :
    bs_PA post l nl (nI N) a1 a2 a3 a4 a7 a8 a9 a10 a11 p la R := by
  intro n k a5 a6 hn hk hb
  obtain ⟨m, rfl⟩ : ∃ m, n = m + 1 := ⟨n - 1, by omega⟩
  exact pk_le 160 k (fun z => H a5 a6 hb) (fun _ => pk_le N p (fun z => H a5 a6 hb) (fun z => absurd z (by omega)))
theorem bs_go {N p s : Nat} {la lb pass : Bool} {R T : Nat → BitVec 32} (hN : N ≤ 160) (hp : p < N) (hs : a11 p = nI s)
    (hper : ∀ (a5 a6 : Nat → Int32) (P : Int32 → St2 → Prop), bs_bits a5 R → (∀ b5 b6, bs_bits b5 T → P (bs_b pass) (l, nl, bs_b lb, nI N, a1, a2, a3, a4, b5, b6, a7, a8, a9, a10, a11)) → wpX_perform P (l, nl, bs_b la, nI N, a1, a2, a3, a4, a5, a6, a7, a8, a9, a10, a11) (nI p))
    (H : bs_PA post l nl (nI N) a1 a2 a3 a4 a7 a8 a9 a10 a11 (cond pass (p + 1) (p + 1 + s)) lb T) :
    bs_PA post l nl (nI N) a1 a2 a3 a4 a7 a8 a9 a10 a11 p la R := by
  intro n k a5 a6 hn hk hb
  obtain ⟨m, rfl⟩ : ∃ m, n = m + 1 := ⟨n - 1, by omega⟩
  refine pk_le 160 k (fun z => absurd z (by omega)) (fun _ => pk_le N p (fun z => absurd z (by omega)) (fun _ => hper a5 a6 _ hb (fun b5 b6 h5 => ?_)))
  cases pass
  · have H' : bs_PA post l nl (nI N) a1 a2 a3 a4 a7 a8 a9 a10 a11 (p + 1 + s) lb T := H
    refine br_t rfl ⟨pk_in p 160 (by omega), nm_r ?_ (nm_r (nI_1 k) (H' m (k + 1) b5 b6 (by omega) (by omega) h5))⟩
    rw [nI_clamp (by omega), hs, show (1 : Int32) = nI 1 from rfl, nI_add, nI_add, ← Nat.add_assoc]
  · have H' : bs_PA post l nl (nI N) a1 a2 a3 a4 a7 a8 a9 a10 a11 (p + 1) lb T := H
    exact br_f (by decide) (nm_r (nI_1 p) (nm_r (nI_1 k) (H' m (k + 1) b5 b6 (by omega) (by omega) h5)))
theorem bs_ubit {L : List bs_E} {N p t f o s : Nat} {la : Bool} {R : Nat → BitVec 32} (hT : bs_tab N L a7 a8 a9 a10 a11) (hL : N ≤ 160) (he : L[p]? = some (8, t, f, o, s)) (hf : f < 14) (ho : o < 32)
    (H : bs_PA post l nl (nI N) a1 a2 a3 a4 a7 a8 a9 a10 a11 (cond ((R f).getLsbD o) (p + 1) (p + 1 + s)) la R) :
    bs_PA post l nl (nI N) a1 a2 a3 a4 a7 a8 a9 a10 a11 p la R := by
  obtain ⟨e7, e8, e9, e10, e11⟩ := hT.2 p _ _ _ _ _ he
  have hp : p < N := hT.1 ▸ (List.getElem?_eq_some_iff.mp he).1
  have cp : (nI p).toNatClampNeg = p := nI_clamp (by omega)
  refine bs_go (pass := ((R f).getLsbD o)) hL hp e11 (fun a5 a6 P hb HP => ?_) H
  have c7 : a7 (nI p).toNatClampNeg = nI 8 := by rw [cp, e7]
  have c8 : a8 (nI p).toNatClampNeg = nI t := by rw [cp, e8]
  have c9 : a9 (nI p).toNatClampNeg = nI f := by rw [cp, e9]
  have c10 : a10 (nI p).toNatClampNeg = nI o := by rw [cp, e10]
  have ip : vp_in (nI p) 160 := pk_in p 160 (by omega)
  have ix : (32 : Int32) * a9 (nI p).toNatClampNeg + a10 (nI p).toNatClampNeg = nI (32 * f + o) := by rw [c9, c10, bs_ix]
  have ev : a5 ((32 : Int32) * a9 (nI p).toNatClampNeg + a10 (nI p).toNatClampNeg).toNatClampNeg = bs_b ((R f).getLsbD o) := by rw [pk_cl _ ix (by omega), hb f o hf ho]
  refine ⟨ip, nm_r c7 (br_t rfl (⟨ip, ip, pk_in _ 448 (by omega) ix, ?_⟩))⟩
  rw [ev]
  exact ⟨bs_narrow _, HP a5 a6 hb⟩
theorem bs_latch {L : List bs_E} {N p t f o s : Nat} {la : Bool} {R : Nat → BitVec 32} (hT : bs_tab N L a7 a8 a9 a10 a11) (hL : N ≤ 160) (he : L[p]? = some (9, t, f, o, s))
    (H : bs_PA post l nl (nI N) a1 a2 a3 a4 a7 a8 a9 a10 a11 (cond la (p + 1) (p + 1 + s)) la R) :
    bs_PA post l nl (nI N) a1 a2 a3 a4 a7 a8 a9 a10 a11 p la R := by
  obtain ⟨e7, e8, e9, e10, e11⟩ := hT.2 p _ _ _ _ _ he
  have hp : p < N := hT.1 ▸ (List.getElem?_eq_some_iff.mp he).1
  have cp : (nI p).toNatClampNeg = p := nI_clamp (by omega)
  refine bs_go (pass := la) hL hp e11 (fun a5 a6 P hb HP => ?_) H
  have c7 : a7 (nI p).toNatClampNeg = nI 9 := by rw [cp, e7]
  have c8 : a8 (nI p).toNatClampNeg = nI t := by rw [cp, e8]
  have c9 : a9 (nI p).toNatClampNeg = nI f := by rw [cp, e9]
  have c10 : a10 (nI p).toNatClampNeg = nI o := by rw [cp, e10]
  have ip : vp_in (nI p) 160 := pk_in p 160 (by omega)
  exact ⟨ip, nm_r c7 (br_f (by decide) (br_t rfl (⟨bs_narrow _, HP a5 a6 hb⟩)))⟩
theorem bs_setb {L : List bs_E} {N p t f o s : Nat} {la : Bool} {R : Nat → BitVec 32} (hT : bs_tab N L a7 a8 a9 a10 a11) (hL : N ≤ 160) (he : L[p]? = some (10, t, f, o, s)) (ht : t < 14) (ho : o < 32)
    (H : bs_PA post l nl (nI N) a1 a2 a3 a4 a7 a8 a9 a10 a11 (p + 1) la (bs_up R t (R t ||| BitVec.twoPow 32 o))) :
    bs_PA post l nl (nI N) a1 a2 a3 a4 a7 a8 a9 a10 a11 p la R := by
  obtain ⟨e7, e8, e9, e10, e11⟩ := hT.2 p _ _ _ _ _ he
  have hp : p < N := hT.1 ▸ (List.getElem?_eq_some_iff.mp he).1
  have cp : (nI p).toNatClampNeg = p := nI_clamp (by omega)
  refine bs_go (pass := true) hL hp e11 (fun a5 a6 P hb HP => ?_) H
  have c7 : a7 (nI p).toNatClampNeg = nI 10 := by rw [cp, e7]
  have c8 : a8 (nI p).toNatClampNeg = nI t := by rw [cp, e8]
  have c9 : a9 (nI p).toNatClampNeg = nI f := by rw [cp, e9]
  have c10 : a10 (nI p).toNatClampNeg = nI o := by rw [cp, e10]
  have ip : vp_in (nI p) 160 := pk_in p 160 (by omega)
  have ix : (32 : Int32) * a8 (nI p).toNatClampNeg + a10 (nI p).toNatClampNeg = nI (32 * t + o) := by rw [c8, c10, bs_ix]
  exact ⟨ip, nm_r c7 (br_f (by decide) (br_f (by decide) (br_f (by decide) (br_t rfl (⟨ip, ip, pk_in _ 448 (by omega) ix, nm_r (by rw [pk_cl _ ix (by omega)]) (HP _ a6 (bs_bits_set hb ht ho))⟩)))))⟩
theorem bs_const {L : List bs_E} {N p t f o s : Nat} {la : Bool} {R : Nat → BitVec 32} (hT : bs_tab N L a7 a8 a9 a10 a11) (hL : N ≤ 160) (he : L[p]? = some (11, t, f, o, s)) (ht : t < 14)
    (H : bs_PA post l nl (nI N) a1 a2 a3 a4 a7 a8 a9 a10 a11 (p + 1) la (bs_up R t (nI o).toBitVec)) :
    bs_PA post l nl (nI N) a1 a2 a3 a4 a7 a8 a9 a10 a11 p la R := by
  obtain ⟨e7, e8, e9, e10, e11⟩ := hT.2 p _ _ _ _ _ he
  have hp : p < N := hT.1 ▸ (List.getElem?_eq_some_iff.mp he).1
  have cp : (nI p).toNatClampNeg = p := nI_clamp (by omega)
  refine bs_go (pass := true) hL hp e11 (fun a5 a6 P hb HP => ?_) H
  have c7 : a7 (nI p).toNatClampNeg = nI 11 := by rw [cp, e7]
  have c8 : a8 (nI p).toNatClampNeg = nI t := by rw [cp, e8]
  have c9 : a9 (nI p).toNatClampNeg = nI f := by rw [cp, e9]
  have c10 : a10 (nI p).toNatClampNeg = nI o := by rw [cp, e10]
  have ip : vp_in (nI p) 160 := pk_in p 160 (by omega)
  refine ⟨ip, nm_r c7 (br_f (by decide) (br_f (by decide) (br_f (by decide) (br_f (by decide) (br_t rfl (⟨ip, ip, ?_⟩))))))⟩
  rw [c8, c10]
  exact bs_load ht hb (fun b5 h5 => HP b5 a6 h5)
theorem bs_move {L : List bs_E} {N p t f o s : Nat} {la : Bool} {R : Nat → BitVec 32} (hT : bs_tab N L a7 a8 a9 a10 a11) (hL : N ≤ 160) (he : L[p]? = some (0, t, f, o, s)) (ht : t < 14) (hf : f < 14) (ho : o < 32)
    (H : bs_PA post l nl (nI N) a1 a2 a3 a4 a7 a8 a9 a10 a11 (p + 1) la (bs_up R t (R f <<< o))) :
    bs_PA post l nl (nI N) a1 a2 a3 a4 a7 a8 a9 a10 a11 p la R := by
  obtain ⟨e7, e8, e9, e10, e11⟩ := hT.2 p _ _ _ _ _ he
  have hp : p < N := hT.1 ▸ (List.getElem?_eq_some_iff.mp he).1
  have cp : (nI p).toNatClampNeg = p := nI_clamp (by omega)
  refine bs_go (pass := true) hL hp e11 (fun a5 a6 P hb HP => ?_) H
  have c7 : a7 (nI p).toNatClampNeg = nI 0 := by rw [cp, e7]
  have c8 : a8 (nI p).toNatClampNeg = nI t := by rw [cp, e8]
  have c9 : a9 (nI p).toNatClampNeg = nI f := by rw [cp, e9]
  have c10 : a10 (nI p).toNatClampNeg = nI o := by rw [cp, e10]
  have ip : vp_in (nI p) 160 := pk_in p 160 (by omega)
  refine ⟨ip, nm_r c7 (br_f (by decide) (br_f (by decide) (br_f (by decide) (br_f (by decide) (br_f (by decide) (br_t rfl (⟨ip, ip, ip, ?_⟩)))))))⟩
  rw [c8, c9, c10]
  exact bs_shift ht hf ho hb (fun b5 b6 h5 => HP b5 b6 h5)
theorem bs_wide {L : List bs_E} {N p t f o s : Nat} {la : Bool} {R : Nat → BitVec 32} (hT : bs_tab N L a7 a8 a9 a10 a11) (hL : N ≤ 160) (he : L[p]? = some (6, t, f, o, s)) (ht : t < 14) (hf : f < 14) (hv : (R f).toNat < 32768)
    (H : bs_PA post l nl (nI N) a1 a2 a3 a4 a7 a8 a9 a10 a11 (p + 1) la (bs_up R t (R f))) :
    bs_PA post l nl (nI N) a1 a2 a3 a4 a7 a8 a9 a10 a11 p la R := by
  obtain ⟨e7, e8, e9, e10, e11⟩ := hT.2 p _ _ _ _ _ he
  have hp : p < N := hT.1 ▸ (List.getElem?_eq_some_iff.mp he).1
  have cp : (nI p).toNatClampNeg = p := nI_clamp (by omega)
  refine bs_go (pass := true) hL hp e11 (fun a5 a6 P hb HP => ?_) H
  have c7 : a7 (nI p).toNatClampNeg = nI 6 := by rw [cp, e7]
  have c8 : a8 (nI p).toNatClampNeg = nI t := by rw [cp, e8]
  have c9 : a9 (nI p).toNatClampNeg = nI f := by rw [cp, e9]
  have c10 : a10 (nI p).toNatClampNeg = nI o := by rw [cp, e10]
  have ip : vp_in (nI p) 160 := pk_in p 160 (by omega)
  refine ⟨ip, nm_r c7 (br_f (by decide) (br_f (by decide) (br_f (by decide) (br_f (by decide) (br_f (by decide) (br_f (by decide) (br_t rfl (⟨ip, ip, ?_⟩))))))))⟩
  rw [c8, c9]
  exact bs_widen ht hf hb hv (fun b5 b6 h5 => HP b5 b6 h5)
theorem bs_plus {L : List bs_E} {N p t f o s : Nat} {la : Bool} {R : Nat → BitVec 32} (hT : bs_tab N L a7 a8 a9 a10 a11) (hL : N ≤ 160) (he : L[p]? = some (1, t, f, o, s)) (ht : t < 14) (hf : f < 14) (ho : o < 14)
    (H : bs_PA post l nl (nI N) a1 a2 a3 a4 a7 a8 a9 a10 a11 (p + 1) (bs_co false (R f) (R o) 32) (bs_up R t (bs_add false (R f) (R o)))) :
    bs_PA post l nl (nI N) a1 a2 a3 a4 a7 a8 a9 a10 a11 p la R := by
  obtain ⟨e7, e8, e9, e10, e11⟩ := hT.2 p _ _ _ _ _ he
  have hp : p < N := hT.1 ▸ (List.getElem?_eq_some_iff.mp he).1
  have cp : (nI p).toNatClampNeg = p := nI_clamp (by omega)
  refine bs_go (pass := true) hL hp e11 (fun a5 a6 P hb HP => ?_) H
  have c7 : a7 (nI p).toNatClampNeg = nI 1 := by rw [cp, e7]
  have c8 : a8 (nI p).toNatClampNeg = nI t := by rw [cp, e8]
  have c9 : a9 (nI p).toNatClampNeg = nI f := by rw [cp, e9]
  have c10 : a10 (nI p).toNatClampNeg = nI o := by rw [cp, e10]
  have ip : vp_in (nI p) 160 := pk_in p 160 (by omega)
  refine ⟨ip, nm_r c7 (br_f (by decide) (br_f (by decide) (br_f (by decide) (br_f (by decide) (br_f (by decide) (br_f (by decide) (br_f (by decide) (br_f (by decide) (br_t rfl (⟨ip, ip, ip, br_f (by decide) ?_⟩))))))))))⟩
  rw [c8, c9, c10]
  exact bs_adds (inv := false) ht hf ho hb (fun b5 b6 h5 => HP b5 b6 h5)
theorem bs_minus {L : List bs_E} {N p t f o s : Nat} {la : Bool} {R : Nat → BitVec 32} (hT : bs_tab N L a7 a8 a9 a10 a11) (hL : N ≤ 160) (he : L[p]? = some (2, t, f, o, s)) (ht : t < 14) (hf : f < 14) (ho : o < 14)
    (H : bs_PA post l nl (nI N) a1 a2 a3 a4 a7 a8 a9 a10 a11 (p + 1) (bs_co true (R f) (R o) 32) (bs_up R t (bs_add true (R f) (R o)))) :
    bs_PA post l nl (nI N) a1 a2 a3 a4 a7 a8 a9 a10 a11 p la R := by
  obtain ⟨e7, e8, e9, e10, e11⟩ := hT.2 p _ _ _ _ _ he
  have hp : p < N := hT.1 ▸ (List.getElem?_eq_some_iff.mp he).1
  have cp : (nI p).toNatClampNeg = p := nI_clamp (by omega)
  refine bs_go (pass := true) hL hp e11 (fun a5 a6 P hb HP => ?_) H
  have c7 : a7 (nI p).toNatClampNeg = nI 2 := by rw [cp, e7]
  have c8 : a8 (nI p).toNatClampNeg = nI t := by rw [cp, e8]
  have c9 : a9 (nI p).toNatClampNeg = nI f := by rw [cp, e9]
  have c10 : a10 (nI p).toNatClampNeg = nI o := by rw [cp, e10]
  have ip : vp_in (nI p) 160 := pk_in p 160 (by omega)
  refine ⟨ip, nm_r c7 (br_f (by decide) (br_f (by decide) (br_f (by decide) (br_f (by decide) (br_f (by decide) (br_f (by decide) (br_f (by decide) (br_f (by decide) (br_f (by decide) (br_t rfl (⟨ip, ip, ip, br_t rfl ?_⟩)))))))))))⟩
  rw [c8, c9, c10]
  exact bs_adds (inv := true) ht hf ho hb (fun b5 b6 h5 => HP b5 b6 h5)
end
end
section
/-! turning a line into micro-steps: the tables come to hold a list -/
def bs_amt (t x : Nat) (L : List bs_E) : List bs_E := L ++ [(0, t, x, 0, 0)] ++ [(8, 0, x, 31, 1)] ++ [(2, t, 13, x, 0)]
/-- the quotient's micro-steps, of its loop j turns -/
def bs_Q (x y : Nat) : Nat → List bs_E
  | 0 => bs_amt 9 y (bs_amt 8 x ([] ++ [(11, 13, 0, 0, 0)])) ++ [(11, 10, 0, 0, 0)] ++ [(11, 11, 0, 0, 0)]
  | j + 1 => bs_Q x y j ++ [(0, 10, 10, 1, 0)] ++ [(8, 0, 8, 15 - j, 1)] ++ [(10, 10, 0, 0, 0)] ++ [(2, 12, 10, 9, 0)] ++ [(9, 0, 0, 0, 2)] ++ [(0, 10, 12, 0, 0)] ++ [(10, 11, 0, 15 - j, 0)]
def bs_L7 (d x y : Nat) : List bs_E := bs_Q x y 16 ++ [(8, 0, x, 31, 1)] ++ [(2, 10, 13, 10, 0)] ++ [(6, d, 10, 0, 0)]
/-- the micro-steps that count ones, of their loop j turns -/
def bs_C (x : Nat) : Nat → List bs_E
  | 0 => [] ++ [(11, 8, 0, 0, 0)] ++ [(11, 9, 0, 1, 0)]
  | j + 1 => bs_C x j ++ [(8, 0, x, j, 1)] ++ [(1, 8, 8, 9, 0)]
def bs_L16 (d x : Nat) : List bs_E := bs_C x 16 ++ [(6, d, 8, 0, 0)]
section
variable {post : St2 → Prop} {l nl la : Int32} {a1 a2 a3 a4 a5 a6 a7 a8 a9 a10 a11 : Nat → Int32}
theorem bs_tab0 : bs_tab 0 [] a7 a8 a9 a10 a11 := ⟨rfl, fun j k t f o s h => by simp at h⟩
theorem bs_tabS {N k t f o s : Nat} {L : List bs_E} (h : bs_tab N L a7 a8 a9 a10 a11) : bs_tab (N + 1) (L ++ [(k, t, f, o, s)]) (upd a7 N (nI k)) (upd a8 N (nI t)) (upd a9 N (nI f)) (upd a10 N (nI o)) (upd a11 N (nI s)) := by
  obtain ⟨hl, h⟩ := h
  refine ⟨by rw [List.length_append, hl]; rfl, fun j k' t' f' o' s' hj => ?_⟩
  rcases Nat.lt_trichotomy j N with z | z | z
  · rw [List.getElem?_append_left (by omega)] at hj
    have e : j ≠ N := by omega
    rw [pk_un e, pk_un e, pk_un e, pk_un e, pk_un e]
    exact h j _ _ _ _ _ hj
  · subst z
    rw [List.getElem?_append_right (by omega), hl, Nat.sub_self] at hj
    simp only [List.getElem?_cons_zero, Option.some.injEq, Prod.mk.injEq] at hj
    obtain ⟨rfl, rfl, rfl, rfl, rfl⟩ := hj
    exact ⟨pk_us, pk_us, pk_us, pk_us, pk_us⟩
  · rw [List.getElem?_eq_none (by rw [List.length_append, hl]; exact z)] at hj
    exact absurd hj (by simp)
theorem bs_step {N k t f o s : Nat} {L : List bs_E} (hT : bs_tab N L a7 a8 a9 a10 a11) (hN : N < 160)
    (H : ∀ b7 b8 b9 b10 b11, bs_tab (N + 1) (L ++ [(k, t, f, o, s)]) b7 b8 b9 b10 b11 → post (l, nl, la, nI (N + 1), a1, a2, a3, a4, a5, a6, b7, b8, b9, b10, b11)) :
    wpX_step post (l, nl, la, nI N, a1, a2, a3, a4, a5, a6, a7, a8, a9, a10, a11) (nI k) (nI t) (nI f) (nI o) (nI s) := by
  have cp : (nI N).toNatClampNeg = N := nI_clamp (by omega)
  have ip : vp_in (nI N) 160 := pk_in N 160 hN
  refine ⟨ip, nm_r (e' := upd a7 N (nI k)) (by rw [cp]) ⟨ip, nm_r (e' := upd a8 N (nI t)) (by rw [cp]) ⟨ip, nm_r (e' := upd a9 N (nI f)) (by rw [cp]) ⟨ip, nm_r (e' := upd a10 N (nI o)) (by rw [cp]) ⟨ip, nm_r (e' := upd a11 N (nI s)) (by rw [cp]) (nm_r (nI_1 N) ?_)⟩⟩⟩⟩⟩
  exact H _ _ _ _ _ (bs_tabS hT)
theorem bs_amount {N t x : Nat} {L : List bs_E} (hT : bs_tab N L a7 a8 a9 a10 a11) (hN : N + 3 ≤ 160)
    (H : ∀ b7 b8 b9 b10 b11, bs_tab (N + 3) (bs_amt t x L) b7 b8 b9 b10 b11 → post (l, nl, la, nI (N + 3), a1, a2, a3, a4, a5, a6, b7, b8, b9, b10, b11)) :
    wpX_amount post (l, nl, la, nI N, a1, a2, a3, a4, a5, a6, a7, a8, a9, a10, a11) (nI t) (nI x) := by
  unfold wpX_amount
  dsimp only
  exact bs_step (k := 0) (o := 0) (s := 0) hT (by omega) (fun _ _ _ _ _ h => bs_step (k := 8) (t := 0) (o := 31) (s := 1) h (by omega) (fun _ _ _ _ _ h => bs_step (k := 2) (f := 13) (s := 0) h (by omega) (fun _ _ _ _ _ h => H _ _ _ _ _ h)))
theorem bs_quotLoop {x y : Nat} {st : Int32} (hs : st = nI 9) (hT : bs_tab 9 (bs_Q x y 0) a7 a8 a9 a10 a11)
    (H : ∀ b7 b8 b9 b10 b11, bs_tab 121 (bs_Q x y 16) b7 b8 b9 b10 b11 → post (l, nl, la, nI 121, a1, a2, a3, a4, a5, a6, b7, b8, b9, b10, b11)) :
    ∃ n, wX_quotient_50 post n 15 l nl la st a1 a2 a3 a4 a5 a6 a7 a8 a9 a10 a11 := by
  have key := pk_loopD (σ := Int32 × (Nat → Int32) × (Nat → Int32) × (Nat → Int32) × (Nat → Int32) × (Nat → Int32))
    (fun n i s => wX_quotient_50 post n (nI i + (-1)) l nl la s.1 a1 a2 a3 a4 a5 a6 s.2.1 s.2.2.1 s.2.2.2.1 s.2.2.2.2.1 s.2.2.2.2.2)
    (fun i s => ∃ j, j + i = 16 ∧ s.1 = nI (9 + 7 * j) ∧ bs_tab (9 + 7 * j) (bs_Q x y j) s.2.1 s.2.2.1 s.2.2.2.1 s.2.2.2.2.1 s.2.2.2.2.2)
    (fun n s h => by
      obtain ⟨j, hj, h1, h2⟩ := h
      obtain rfl : j = 16 := by omega
      refine br_t (by decide) ?_
      rw [h1]
      exact H _ _ _ _ _ h2)
    (fun n i s h hw => by
      obtain ⟨j, hj, h1, h2⟩ := h
      obtain rfl : i = 15 - j := by omega
      obtain ⟨st', b7, b8, b9, b10, b11⟩ := s
      dsimp only at h1 h2 ⊢
      rw [pk_m1, h1]
      refine br_f (nI_pos (by omega)) ?_
      exact bs_step (k := 0) (t := 10) (f := 10) (o := 1) (s := 0) h2 (by omega) (fun _ _ _ _ _ h => bs_step (k := 8) (t := 0) (f := 8) (s := 1) h (by omega) (fun _ _ _ _ _ h => bs_step (k := 10) (t := 10) (f := 0) (o := 0) (s := 0) h (by omega) (fun _ _ _ _ _ h => bs_step (k := 2) (t := 12) (f := 10) (o := 9) (s := 0) h (by omega) (fun _ _ _ _ _ h => bs_step (k := 9) (t := 0) (f := 0) (o := 0) (s := 2) h (by omega) (fun _ _ _ _ _ h => bs_step (k := 0) (t := 10) (f := 12) (o := 0) (s := 0) h (by omega) (fun _ _ _ _ _ h => bs_step (k := 10) (t := 11) (f := 0) (s := 0) h (by omega) (fun c7 c8 c9 c10 c11 h => nm_e (hw (nI (9 + 7 * j + 7), c7, c8, c9, c10, c11) ⟨j + 1, by omega, rfl, h⟩))))))))
    )
    16 (st, a7, a8, a9, a10, a11) ⟨0, by omega, hs, hT⟩
  dsimp only at key
  rw [show nI 16 + (-1) = (15 : Int32) by decide] at key
  exact ⟨17, key⟩
theorem bs_quot {x y : Nat} (H : ∀ b7 b8 b9 b10 b11, bs_tab 121 (bs_Q x y 16) b7 b8 b9 b10 b11 → post (l, nl, la, nI 121, a1, a2, a3, a4, a5, a6, b7, b8, b9, b10, b11)) :
    wpX_quotient post (l, nl, la, nI 0, a1, a2, a3, a4, a5, a6, a7, a8, a9, a10, a11) (nI x) (nI y) := by
  unfold wpX_quotient
  dsimp only
  exact bs_step (k := 11) (t := 13) (f := 0) (o := 0) (s := 0) bs_tab0 (by omega) (fun _ _ _ _ _ h => bs_amount (t := 8) h (by omega) (fun _ _ _ _ _ h => bs_amount (t := 9) h (by omega) (fun _ _ _ _ _ h => bs_step (k := 11) (t := 10) (f := 0) (o := 0) (s := 0) h (by omega) (fun _ _ _ _ _ h => bs_step (k := 11) (t := 11) (f := 0) (o := 0) (s := 0) h (by omega) (fun _ _ _ _ _ h => bs_quotLoop rfl h H)))))
theorem bs_fin7 {N d x y : Nat} {L : List bs_E} (hT : bs_tab N L a7 a8 a9 a10 a11) (hN : N + 3 ≤ 160)
    (H : ∀ b7 b8 b9 b10 b11, bs_tab (N + 3) (L ++ [(8, 0, x, 31, 1)] ++ [(2, 10, 13, 10, 0)] ++ [(6, d, 10, 0, 0)]) b7 b8 b9 b10 b11 → post (l, nl, la, nI (N + 3), a1, a2, a3, a4, a5, a6, b7, b8, b9, b10, b11)) :
    wpX_finishQuotient post (l, nl, la, nI N, a1, a2, a3, a4, a5, a6, a7, a8, a9, a10, a11) (nI 7) (nI d) (nI x) (nI y) := by
  unfold wpX_finishQuotient
  dsimp only
  refine br_f (by decide) ?_
  exact bs_step (k := 8) (t := 0) (o := 31) (s := 1) hT (by omega) (fun _ _ _ _ _ h => bs_step (k := 2) (t := 10) (f := 13) (o := 10) (s := 0) h (by omega) (fun _ _ _ _ _ h => bs_step (k := 6) (f := 10) (o := 0) (s := 0) h (by omega) (fun _ _ _ _ _ h => H _ _ _ _ _ h)))
theorem bs_ones {x : Nat} (H : ∀ b7 b8 b9 b10 b11, bs_tab 34 (bs_C x 16) b7 b8 b9 b10 b11 → post (l, nl, la, nI 34, a1, a2, a3, a4, a5, a6, b7, b8, b9, b10, b11)) :
    wpX_countOnes post (l, nl, la, nI 0, a1, a2, a3, a4, a5, a6, a7, a8, a9, a10, a11) (nI x) := by
  unfold wpX_countOnes
  dsimp only
  refine bs_step (k := 11) (t := 8) (f := 0) (o := 0) (s := 0) bs_tab0 (by omega) (fun _ _ _ _ _ h => bs_step (k := 11) (t := 9) (f := 0) (o := 1) (s := 0) h (by omega) (fun c7 c8 c9 c10 c11 h => ?_))
  exact pk_loop (σ := Int32 × (Nat → Int32) × (Nat → Int32) × (Nat → Int32) × (Nat → Int32) × (Nat → Int32))
    (fun n i s => wX_countOnes_24 post (nI x) n (nI i) l nl la s.1 a1 a2 a3 a4 a5 a6 s.2.1 s.2.2.1 s.2.2.2.1 s.2.2.2.2.1 s.2.2.2.2.2)
    (fun i s => s.1 = nI (2 + 2 * i) ∧ bs_tab (2 + 2 * i) (bs_C x i) s.2.1 s.2.2.1 s.2.2.2.1 s.2.2.2.2.1 s.2.2.2.2.2)
    16 0 (nI 2, c7, c8, c9, c10, c11) (by omega) ⟨rfl, h⟩
    (fun n s h => pk_le 16 16 (fun _ => by
      rw [h.1]
      exact H _ _ _ _ _ h.2) (fun z => absurd z (by omega)))
    (fun n i s hi h hw => pk_le 16 i (fun z => absurd z (by omega)) (fun _ => by
      obtain ⟨h1, h2⟩ := h
      obtain ⟨st', b7, b8, b9, b10, b11⟩ := s
      dsimp only at h1 h2 ⊢
      rw [h1]
      exact bs_step (k := 8) (t := 0) (s := 1) h2 (by omega) (fun _ _ _ _ _ h => bs_step (k := 1) (t := 8) (f := 8) (o := 9) (s := 0) h (by omega) (fun e7 e8 e9 e10 e11 h => nm_r (nI_1 i) (hw (nI (2 + 2 * i + 2), e7, e8, e9, e10, e11) ⟨rfl, h⟩)))))
theorem bs_and7 {a : Nat → Int32} {p x : Nat} (hp : p < 32) (h : a p = nI x) (hx : x < 8) : a (nI p).toNatClampNeg &&& 7 = nI x := by
  rw [nI_clamp (by omega), h, pk_andN (by omega) 3 (by decide), Nat.mod_eq_of_lt (show x < 2 ^ 3 by omega)]
theorem bs_at {a : Nat → Int32} {p x : Nat} (hp : p < 32) (h : a p = nI x) : a (nI p).toNatClampNeg = nI x := by
  rw [nI_clamp (by omega), h]
theorem bs_tr7 {st : Int32} {p d x y : Nat} (hp : p < 32) (h1 : a1 p = nI 7) (h2 : a2 p = nI d) (h3 : a3 p = nI x) (h4 : a4 p = nI y) (hx : x < 8) (hy : y < 8)
    (H : ∀ b7 b8 b9 b10 b11, bs_tab 124 (bs_L7 d x y) b7 b8 b9 b10 b11 → post (l, nl, la, nI 124, a1, a2, a3, a4, a5, a6, b7, b8, b9, b10, b11)) :
    wpX_translate post (l, nl, la, st, a1, a2, a3, a4, a5, a6, a7, a8, a9, a10, a11) (nI p) := by
  have ip : vp_in (nI p) 32 := pk_in p 32 hp
  refine ⟨ip, nm_r (bs_at hp h1) ⟨ip, nm_r (bs_at hp h2) ⟨ip, nm_r (bs_and7 hp h3 hx) ⟨ip, nm_r (bs_and7 hp h4 hy) ⟨ip, nm_e ?_⟩⟩⟩⟩⟩
  refine br_f (by decide) (br_f (by decide) (br_f (by decide) (br_f (by decide) (br_f (by decide) (br_f (by decide) (br_f (by decide) (br_t rfl ?_)))))))
  unfold wX_translate_215
  exact bs_quot (fun _ _ _ _ _ h => bs_fin7 h (by omega) (fun _ _ _ _ _ h => H _ _ _ _ _ h))
theorem bs_tr1 {st : Int32} {p d x y : Nat} (hp : p < 32) (h1 : a1 p = nI 1) (h2 : a2 p = nI d) (h3 : a3 p = nI x) (h4 : a4 p = nI y) (hx : x < 8) (hy : y < 8)
    (H : ∀ b7 b8 b9 b10 b11, bs_tab 1 [(6, d, x, 0, 0)] b7 b8 b9 b10 b11 → post (l, nl, la, nI 1, a1, a2, a3, a4, a5, a6, b7, b8, b9, b10, b11)) :
    wpX_translate post (l, nl, la, st, a1, a2, a3, a4, a5, a6, a7, a8, a9, a10, a11) (nI p) := by
  have ip : vp_in (nI p) 32 := pk_in p 32 hp
  refine ⟨ip, nm_r (bs_at hp h1) ⟨ip, nm_r (bs_at hp h2) ⟨ip, nm_r (bs_and7 hp h3 hx) ⟨ip, nm_r (bs_and7 hp h4 hy) ⟨ip, nm_e ?_⟩⟩⟩⟩⟩
  refine br_f (by decide) (br_t rfl ?_)
  exact bs_step (k := 6) (o := 0) (s := 0) bs_tab0 (by decide) (fun _ _ _ _ _ h => H _ _ _ _ _ h)
theorem bs_tr16 {st : Int32} {p d x y : Nat} (hp : p < 32) (h1 : a1 p = nI 16) (h2 : a2 p = nI d) (h3 : a3 p = nI x) (h4 : a4 p = nI y) (hx : x < 8) (hy : y < 8)
    (H : ∀ b7 b8 b9 b10 b11, bs_tab 35 (bs_L16 d x) b7 b8 b9 b10 b11 → post (l, nl, la, nI 35, a1, a2, a3, a4, a5, a6, b7, b8, b9, b10, b11)) :
    wpX_translate post (l, nl, la, st, a1, a2, a3, a4, a5, a6, a7, a8, a9, a10, a11) (nI p) := by
  have ip : vp_in (nI p) 32 := pk_in p 32 hp
  refine ⟨ip, nm_r (bs_at hp h1) ⟨ip, nm_r (bs_at hp h2) ⟨ip, nm_r (bs_and7 hp h3 hx) ⟨ip, nm_r (bs_and7 hp h4 hy) ⟨ip, nm_e ?_⟩⟩⟩⟩⟩
  refine br_f (by decide) (br_f (by decide) (br_f (by decide) (br_f (by decide) (br_f (by decide) (br_f (by decide) (br_f (by decide) (br_f (by decide) (br_t (by decide) (br_t (by decide) (br_t (by decide) (br_f (by decide) ?_)))))))))))
  exact bs_ones (fun _ _ _ _ _ h => bs_step (k := 6) (f := 8) (o := 0) (s := 0) h (by omega) (fun _ _ _ _ _ h => H _ _ _ _ _ h))
end
end
section
/-! what the micro-steps of a line amount to -/
theorem bs_modstep (k y b : Nat) (hb : b < 2) : (2 * k + b) % y = if y ≤ 2 * (k % y) + b then 2 * (k % y) + b - y else 2 * (k % y) + b := by
  rcases Nat.eq_zero_or_pos y with rfl | hy
  · simp
  · have hr := Nat.mod_lt k hy
    have e : 2 * k + b = (2 * (k % y) + b) + y * (2 * (k / y)) := by
      have h1 := Nat.mod_add_div k y
      have h2 : y * (2 * (k / y)) = 2 * (y * (k / y)) := Nat.mul_left_comm _ _ _
      omega
    rw [e, Nat.add_mul_mod_self_left]
    generalize k % y = r at *
    split
    · rw [Nat.mod_eq_sub_mod (by omega), Nat.mod_eq_of_lt (by omega)]
    · exact Nat.mod_eq_of_lt (by omega)
theorem bs_dbl {v : BitVec 32} (h : v.toNat < 32768) : (v <<< 1).toNat = 2 * v.toNat := by
  rw [BitVec.toNat_shiftLeft, Nat.shiftLeft_eq, Nat.mod_eq_of_lt (by omega)]
  omega
theorem bs_dbl1 {v : BitVec 32} (h : v.toNat < 32768) : (v <<< 1 ||| BitVec.twoPow 32 0).toNat = 2 * v.toNat + 1 := by
  rw [BitVec.toNat_or, bs_dbl h]
  exact (Nat.two_pow_add_eq_or_of_lt (i := 1) (b := 1) (by decide) v.toNat).symm
theorem bs_subN {x y : BitVec 32} (h : y.toNat ≤ x.toNat) : (bs_add true x y).toNat = x.toNat - y.toNat := by
  have h1 := x.isLt
  have h2 := y.isLt
  rw [bs_add_t, BitVec.toNat_sub]
  omega
theorem bs_addN {x y : BitVec 32} (h : x.toNat + y.toNat < 2 ^ 32) : (bs_add false x y).toNat = x.toNat + y.toNat := by
  rw [bs_add_f, BitVec.toNat_add, Nat.mod_eq_of_lt h]
theorem bs_bitN {v : BitVec 32} {i : Nat} : v.toNat / 2 ^ i % 2 = (v.getLsbD i).toNat := by
  rw [bs_tb]
  generalize v.toNat / 2 ^ i = m
  rcases Nat.mod_two_eq_zero_or_one m with h | h <;> simp [h]
theorem bs_Qd0 : ∀ i, i < 16 → decide ((bs_L7 2 0 1)[9 + 7 * (15 - i)]? = some (0, 10, 10, 1, 0)) = true := by decide +kernel
theorem bs_Qd1 : ∀ i, i < 16 → decide ((bs_L7 2 0 1)[9 + 7 * (15 - i) + 1]? = some (8, 0, 8, i, 1)) = true := by decide +kernel
theorem bs_Qd2 : ∀ i, i < 16 → decide ((bs_L7 2 0 1)[9 + 7 * (15 - i) + 2]? = some (10, 10, 0, 0, 0)) = true := by decide +kernel
theorem bs_Qd3 : ∀ i, i < 16 → decide ((bs_L7 2 0 1)[9 + 7 * (15 - i) + 3]? = some (2, 12, 10, 9, 0)) = true := by decide +kernel
theorem bs_Qd4 : ∀ i, i < 16 → decide ((bs_L7 2 0 1)[9 + 7 * (15 - i) + 4]? = some (9, 0, 0, 0, 2)) = true := by decide +kernel
theorem bs_Qd5 : ∀ i, i < 16 → decide ((bs_L7 2 0 1)[9 + 7 * (15 - i) + 5]? = some (0, 10, 12, 0, 0)) = true := by decide +kernel
theorem bs_Qd6 : ∀ i, i < 16 → decide ((bs_L7 2 0 1)[9 + 7 * (15 - i) + 6]? = some (10, 11, 0, i, 0)) = true := by decide +kernel
theorem bs_Q7 : ∀ i, i < 16 → (bs_L7 2 0 1)[9 + 7 * (15 - i)]? = some (0, 10, 10, 1, 0) ∧ (bs_L7 2 0 1)[9 + 7 * (15 - i) + 1]? = some (8, 0, 8, i, 1) ∧ (bs_L7 2 0 1)[9 + 7 * (15 - i) + 2]? = some (10, 10, 0, 0, 0) ∧ (bs_L7 2 0 1)[9 + 7 * (15 - i) + 3]? = some (2, 12, 10, 9, 0) ∧ (bs_L7 2 0 1)[9 + 7 * (15 - i) + 4]? = some (9, 0, 0, 0, 2) ∧ (bs_L7 2 0 1)[9 + 7 * (15 - i) + 5]? = some (0, 10, 12, 0, 0) ∧ (bs_L7 2 0 1)[9 + 7 * (15 - i) + 6]? = some (10, 11, 0, i, 0) :=
  fun i h => ⟨of_decide_eq_true (bs_Qd0 i h), of_decide_eq_true (bs_Qd1 i h), of_decide_eq_true (bs_Qd2 i h), of_decide_eq_true (bs_Qd3 i h), of_decide_eq_true (bs_Qd4 i h), of_decide_eq_true (bs_Qd5 i h), of_decide_eq_true (bs_Qd6 i h)⟩
theorem bs_Cd0 : ∀ i, i < 16 → decide ((bs_L16 5 0)[2 + 2 * i]? = some (8, 0, 0, i, 1)) = true := by decide +kernel
theorem bs_Cd1 : ∀ i, i < 16 → decide ((bs_L16 5 0)[2 + 2 * i + 1]? = some (1, 8, 8, 9, 0)) = true := by decide +kernel
theorem bs_C16 : ∀ i, i < 16 → (bs_L16 5 0)[2 + 2 * i]? = some (8, 0, 0, i, 1) ∧ (bs_L16 5 0)[2 + 2 * i + 1]? = some (1, 8, 8, 9, 0) :=
  fun i h => ⟨of_decide_eq_true (bs_Cd0 i h), of_decide_eq_true (bs_Cd1 i h)⟩
/-- the registers ahead of the trial subtraction for bit i - 1 -/
def bs_IQ (R0 R : Nat → BitVec 32) (i : Nat) : Prop := R 8 = R0 0 ∧ R 9 = R0 1 ∧ (R 10).toNat = ((R0 0).toNat / 2 ^ i) % (R0 1).toNat ∧ ∀ r, r < 8 → R r = R0 r
section
variable {post : St2 → Prop} {l nl : Int32} {a1 a2 a3 a4 a7 a8 a9 a10 a11 : Nat → Int32}
theorem bs_remTail {i b : Nat} {la : Bool} {R0 T : Nat → BitVec 32} (hi : i < 16) (hT : bs_tab 124 (bs_L7 2 0 1) a7 a8 a9 a10 a11) (hb : b < 2)
    (hq : (R0 0).toNat / 2 ^ i = 2 * ((R0 0).toNat / 2 ^ (i + 1)) + b) (t8 : T 8 = R0 0) (t9 : T 9 = R0 1) (t10 : (T 10).toNat = 2 * (((R0 0).toNat / 2 ^ (i + 1)) % (R0 1).toNat) + b) (tr : ∀ r, r < 8 → T r = R0 r)
    (H : ∀ lb T, bs_IQ R0 T i → bs_PA post l nl (nI 124) a1 a2 a3 a4 a7 a8 a9 a10 a11 (9 + 7 * (15 - i) + 7) lb T) :
    bs_PA post l nl (nI 124) a1 a2 a3 a4 a7 a8 a9 a10 a11 (9 + 7 * (15 - i) + 3) la T := by
  obtain ⟨q0, q1, q2, q3, q4, q5, q6⟩ := bs_Q7 i hi
  refine bs_minus hT (by omega) q3 (by omega) (by omega) (by omega) (bs_latch hT (by omega) q4 ?_)
  rw [bs_co_t]
  have step := bs_modstep ((R0 0).toNat / 2 ^ (i + 1)) (R0 1).toNat b hb
  rw [← hq, ← t10, ← t9] at step
  by_cases hc : (T 9).toNat ≤ (T 10).toNat
  · rw [if_pos hc] at step
    rw [decide_eq_true hc]
    refine bs_move hT (by omega) q5 (by omega) (by omega) (by omega) (bs_setb hT (by omega) q6 (by omega) (by omega) (H _ _ ⟨?_, ?_, ?_, ?_⟩))
    · rw [bs_un (by decide), bs_un (by decide), bs_un (by decide), t8]
    · rw [bs_un (by decide), bs_un (by decide), bs_un (by decide), t9]
    · rw [bs_un (by decide), bs_us, bs_us, BitVec.shiftLeft_zero, bs_subN hc, ← step, t9]
    · intro r hr
      rw [bs_un (by omega), bs_un (by omega), bs_un (by omega), tr r hr]
  · rw [if_neg hc] at step
    rw [decide_eq_false hc]
    refine H _ _ ⟨?_, ?_, ?_, ?_⟩
    · rw [bs_un (by decide), t8]
    · rw [bs_un (by decide), t9]
    · rw [bs_un (by decide), ← step, t9]
    · intro r hr
      rw [bs_un (by omega), tr r hr]
theorem bs_remTurn {i : Nat} {la : Bool} {R0 R : Nat → BitVec 32} (hi : i < 16) (hT : bs_tab 124 (bs_L7 2 0 1) a7 a8 a9 a10 a11) (hx : (R0 0).toNat < 32768) (hI : bs_IQ R0 R (i + 1))
    (H : ∀ lb T, bs_IQ R0 T i → bs_PA post l nl (nI 124) a1 a2 a3 a4 a7 a8 a9 a10 a11 (9 + 7 * (15 - i) + 7) lb T) :
    bs_PA post l nl (nI 124) a1 a2 a3 a4 a7 a8 a9 a10 a11 (9 + 7 * (15 - i)) la R := by
  obtain ⟨q0, q1, q2, q3, q4, q5, q6⟩ := bs_Q7 i hi
  obtain ⟨h8, h9, h10, hr⟩ := hI
  have hm : (R 10).toNat < 32768 := by
    rw [h10]
    exact Nat.lt_of_le_of_lt (Nat.mod_le _ _) (Nat.lt_of_le_of_lt (Nat.div_le_self _ _) hx)
  have hh := bs_half (R0 0).toNat i
  have ht := bs_tb (R0 0) i
  refine bs_move hT (by omega) q0 (by omega) (by omega) (by omega) (bs_ubit hT (by omega) q1 (by omega) (by omega) ?_)
  rw [bs_un (show 8 ≠ 10 by decide), h8]
  cases hc : (R0 0).getLsbD i
  · rw [hc] at ht
    rw [if_neg (by simpa using ht)] at hh
    refine bs_remTail (b := 0) hi hT (by omega) hh ?_ ?_ ?_ ?_ H
    · rw [bs_un (by decide), h8]
    · rw [bs_un (by decide), h9]
    · rw [bs_us, bs_dbl hm, h10]
      rfl
    · intro r z
      rw [bs_un (by omega), hr r z]
  · rw [hc] at ht
    rw [if_pos (by simpa using ht)] at hh
    refine bs_setb hT (by omega) q2 (by omega) (by omega) (bs_remTail (b := 1) hi hT (by omega) hh ?_ ?_ ?_ ?_ H)
    · rw [bs_un (by decide), bs_un (by decide), h8]
    · rw [bs_un (by decide), bs_un (by decide), h9]
    · rw [bs_us, bs_us, bs_dbl1 hm, h10]
    · intro r z
      rw [bs_un (by omega), bs_un (by omega), hr r z]
theorem bs_remLoop {R0 : Nat → BitVec 32} (hT : bs_tab 124 (bs_L7 2 0 1) a7 a8 a9 a10 a11) (hx : (R0 0).toNat < 32768)
    (H : ∀ lb T, (T 2).toNat = (R0 0).toNat % (R0 1).toNat → (∀ r, r < 8 → r ≠ 2 → T r = R0 r) → bs_PA post l nl (nI 124) a1 a2 a3 a4 a7 a8 a9 a10 a11 124 lb T) :
    ∀ i, i ≤ 16 → ∀ la R, bs_IQ R0 R i → bs_PA post l nl (nI 124) a1 a2 a3 a4 a7 a8 a9 a10 a11 (9 + 7 * (16 - i)) la R := by
  intro i
  induction i with
  | zero =>
    intro _ la R hI
    obtain ⟨h8, h9, h10, hr⟩ := hI
    rw [Nat.pow_zero, Nat.div_one] at h10
    show bs_PA post l nl (nI 124) a1 a2 a3 a4 a7 a8 a9 a10 a11 121 la R
    refine bs_ubit (t := 0) (f := 0) (o := 31) (s := 1) hT (by omega) (by decide +kernel) (by omega) (by omega) ?_
    rw [hr 0 (by omega), bs_small hx (by omega)]
    refine bs_wide (t := 2) (f := 10) (o := 0) (s := 0) hT (by omega) (by decide +kernel) (by omega) (by omega) ?_ (H _ _ ?_ ?_)
    · rw [h10]
      exact Nat.lt_of_le_of_lt (Nat.mod_le _ _) hx
    · rw [bs_us, h10]
    · intro r h h2
      rw [bs_un h2, hr r h]
  | succ i ih =>
    intro hi la R hI
    rw [show 9 + 7 * (16 - (i + 1)) = 9 + 7 * (15 - i) by omega]
    refine bs_remTurn (by omega) hT hx hI (fun lb T h => ?_)
    have nx := ih (by omega) lb T h
    rw [show 9 + 7 * (16 - i) = 9 + 7 * (15 - i) + 7 by omega] at nx
    exact nx
theorem bs_rem {la : Bool} {R0 : Nat → BitVec 32} (hT : bs_tab 124 (bs_L7 2 0 1) a7 a8 a9 a10 a11) (hx : (R0 0).toNat < 32768) (hy : (R0 1).toNat < 32768)
    (H : ∀ lb T, (T 2).toNat = (R0 0).toNat % (R0 1).toNat → (∀ r, r < 8 → r ≠ 2 → T r = R0 r) → bs_PA post l nl (nI 124) a1 a2 a3 a4 a7 a8 a9 a10 a11 124 lb T) :
    bs_PA post l nl (nI 124) a1 a2 a3 a4 a7 a8 a9 a10 a11 0 la R0 := by
  refine bs_const (t := 13) (f := 0) (o := 0) (s := 0) hT (by omega) (by decide +kernel) (by omega) ?_
  refine bs_move (t := 8) (f := 0) (o := 0) (s := 0) hT (by omega) (by decide +kernel) (by omega) (by omega) (by omega) ?_
  refine bs_ubit (t := 0) (f := 0) (o := 31) (s := 1) hT (by omega) (by decide +kernel) (by omega) (by omega) ?_
  rw [bs_un (show 0 ≠ 8 by decide), bs_un (show 0 ≠ 13 by decide), bs_small hx (by omega)]
  refine bs_move (t := 9) (f := 1) (o := 0) (s := 0) hT (by omega) (by decide +kernel) (by omega) (by omega) (by omega) ?_
  refine bs_ubit (t := 0) (f := 1) (o := 31) (s := 1) hT (by omega) (by decide +kernel) (by omega) (by omega) ?_
  rw [bs_un (show 1 ≠ 9 by decide), bs_un (show 1 ≠ 8 by decide), bs_un (show 1 ≠ 13 by decide), bs_small hy (by omega)]
  refine bs_const (t := 10) (f := 0) (o := 0) (s := 0) hT (by omega) (by decide +kernel) (by omega) ?_
  refine bs_const (t := 11) (f := 0) (o := 0) (s := 0) hT (by omega) (by decide +kernel) (by omega) ?_
  refine bs_remLoop (R0 := R0) hT hx H 16 (by omega) _ _ ⟨?_, ?_, ?_, ?_⟩
  · rw [bs_un (by decide), bs_un (by decide), bs_un (by decide), bs_us, BitVec.shiftLeft_zero]
  · rw [bs_un (by decide), bs_un (by decide), bs_us, BitVec.shiftLeft_zero]
  · rw [bs_un (by decide), bs_us, Nat.div_eq_of_lt (show (R0 0).toNat < 2 ^ 16 by omega), Nat.zero_mod]
    rfl
  · intro r hr
    rw [bs_un (by omega), bs_un (by omega), bs_un (by omega), bs_un (by omega), bs_un (by omega)]
/-- ones among the low n bits -/
def bs_pc (x n : Nat) : Nat := bs_sum (fun k => x / 2 ^ k % 2) n
theorem bs_pc_le (x : Nat) : ∀ n, bs_pc x n ≤ n := by
  intro n
  induction n with
  | zero => exact Nat.le_refl 0
  | succ n ih =>
    have h : bs_pc x (n + 1) = bs_pc x n + x / 2 ^ n % 2 := rfl
    omega
def bs_IC (R0 R : Nat → BitVec 32) (i : Nat) : Prop := (R 8).toNat = bs_pc (R0 0).toNat i ∧ (R 9).toNat = 1 ∧ ∀ r, r < 8 → R r = R0 r
theorem bs_cntLoop {R0 : Nat → BitVec 32} (hT : bs_tab 35 (bs_L16 5 0) a7 a8 a9 a10 a11)
    (H : ∀ lb T, (T 5).toNat = bs_pc (R0 0).toNat 16 → (∀ r, r < 8 → r ≠ 5 → T r = R0 r) → bs_PA post l nl (nI 35) a1 a2 a3 a4 a7 a8 a9 a10 a11 35 lb T) :
    ∀ k i, k + i = 16 → ∀ la R, bs_IC R0 R i → bs_PA post l nl (nI 35) a1 a2 a3 a4 a7 a8 a9 a10 a11 (2 + 2 * i) la R := by
  intro k
  induction k with
  | zero =>
    intro i hi la R hI
    obtain rfl : i = 16 := by omega
    obtain ⟨h8, h9, hr⟩ := hI
    show bs_PA post l nl (nI 35) a1 a2 a3 a4 a7 a8 a9 a10 a11 34 la R
    refine bs_wide (t := 5) (f := 8) (o := 0) (s := 0) hT (by omega) (by decide +kernel) (by omega) (by omega) ?_ (H _ _ ?_ ?_)
    · rw [h8]
      have := bs_pc_le (R0 0).toNat 16
      omega
    · rw [bs_us, h8]
    · intro r h h2
      rw [bs_un h2, hr r h]
  | succ k ih =>
    intro i hi la R hI
    obtain ⟨h8, h9, hr⟩ := hI
    obtain ⟨q0, q1⟩ := bs_C16 i (by omega)
    have hn : bs_pc (R0 0).toNat (i + 1) = bs_pc (R0 0).toNat i + ((R0 0).getLsbD i).toNat := by
      rw [← bs_bitN]
      rfl
    have hle := bs_pc_le (R0 0).toNat i
    refine bs_ubit hT (by omega) q0 (by omega) (by omega) ?_
    rw [hr 0 (by omega)]
    cases hc : (R0 0).getLsbD i
    · rw [hc] at hn
      exact ih (i + 1) (by omega) la R ⟨by rw [h8, hn]; rfl, h9, hr⟩
    · rw [hc] at hn
      refine bs_plus hT (by omega) q1 (by omega) (by omega) (by omega) (ih (i + 1) (by omega) _ _ ⟨?_, ?_, ?_⟩)
      · rw [bs_us, bs_addN (by omega), h8, h9, hn]
        rfl
      · rw [bs_un (by decide), h9]
      · intro r h
        rw [bs_un (by omega), hr r h]
theorem bs_cnt {la : Bool} {R0 : Nat → BitVec 32} (hT : bs_tab 35 (bs_L16 5 0) a7 a8 a9 a10 a11)
    (H : ∀ lb T, (T 5).toNat = bs_pc (R0 0).toNat 16 → (∀ r, r < 8 → r ≠ 5 → T r = R0 r) → bs_PA post l nl (nI 35) a1 a2 a3 a4 a7 a8 a9 a10 a11 35 lb T) :
    bs_PA post l nl (nI 35) a1 a2 a3 a4 a7 a8 a9 a10 a11 0 la R0 := by
  refine bs_const (t := 8) (f := 0) (o := 0) (s := 0) hT (by omega) (by decide +kernel) (by omega) ?_
  refine bs_const (t := 9) (f := 0) (o := 1) (s := 0) hT (by omega) (by decide +kernel) (by omega) ?_
  refine bs_cntLoop (R0 := R0) hT H 16 0 (by omega) _ _ ⟨?_, ?_, ?_⟩
  · rw [bs_un (by decide), bs_us]
    rfl
  · rw [bs_us]
    rfl
  · intro r hr
    rw [bs_un (by omega), bs_un (by omega)]
end
end
section
/-! the machine with the law's program in it -/
/-- the program: remainder, two moves, the jump, the ones -/
def bs_prog (a1 a2 a3 a4 : Nat → Int32) : Prop :=
  (a1 0 = nI 7 ∧ a2 0 = nI 2 ∧ a3 0 = nI 0 ∧ a4 0 = nI 1) ∧ (a1 1 = nI 1 ∧ a2 1 = nI 0 ∧ a3 1 = nI 1 ∧ a4 1 = nI 0) ∧ (a1 2 = nI 1 ∧ a2 2 = nI 1 ∧ a3 2 = nI 2 ∧ a4 2 = nI 0) ∧ (a1 3 = nI 18 ∧ a2 3 = nI 0 ∧ a3 3 = nI 1 ∧ a4 3 = nI 3) ∧ (a1 4 = nI 16 ∧ a2 4 = nI 5 ∧ a3 4 = nI 0 ∧ a4 4 = nI 0)
/-- the bit array holds the variables V -/
def bs_pic (a5 : Nat → Int32) (V : Nat → Nat) : Prop := ∃ R, bs_bits a5 R ∧ ∀ r, r < 8 → (R r).toNat = V r ∧ V r < 32768
def bs_vup (V : Nat → Nat) (t x : Nat) : Nat → Nat := fun r => if r = t then x else V r
theorem bs_vs {V : Nat → Nat} {t x : Nat} : bs_vup V t x t = x := if_pos rfl
theorem bs_vn {V : Nat → Nat} {t r x : Nat} (h : r ≠ t) : bs_vup V t x r = V r := if_neg h
/-- a state of the machine: at line p, variables V -/
def bs_M (p : Nat) (V : Nat → Nat) (u : St2) : Prop := match u with
  | (l, nl, la, _, a1, a2, a3, a4, a5, _, _, _, _, _, _) => l = nI 5 ∧ nl = nI p ∧ (∃ b, la = bs_b b) ∧ bs_prog a1 a2 a3 a4 ∧ bs_pic a5 V
theorem bs_vpic {a5 : Nat → Int32} {V : Nat → Nat} {R T : Nat → BitVec 32} {t x : Nat} (hb : bs_bits a5 T) (hR : ∀ r, r < 8 → (R r).toNat = V r ∧ V r < 32768) (h1 : (T t).toNat = x) (hx : x < 32768) (h2 : ∀ r, r < 8 → r ≠ t → T r = R r) : bs_pic a5 (bs_vup V t x) := by
  refine ⟨T, hb, fun r hr => ?_⟩
  by_cases e : r = t
  · subst e
    rw [bs_vs]
    exact ⟨h1, hx⟩
  · rw [bs_vn e, h2 r hr e]
    exact hR r hr
theorem bs_all {post : St2 → Prop} {l nl st : Int32} {la : Bool} {a1 a2 a3 a4 a5 a6 a7 a8 a9 a10 a11 : Nat → Int32} {R : Nat → BitVec 32} (hb : bs_bits a5 R) (H : bs_PA post l nl st a1 a2 a3 a4 a7 a8 a9 a10 a11 0 la R) : wpX_performAll post (l, nl, bs_b la, st, a1, a2, a3, a4, a5, a6, a7, a8, a9, a10, a11) :=
  ⟨161, H 161 0 a5 a6 (by omega) (by omega) hb⟩
theorem bs_line0 {post : St2 → Prop} {u : St2} {V : Nat → Nat} (h : bs_M 0 V u) (H : ∀ w, bs_M 1 (bs_vup V 2 (V 0 % V 1)) w → post w) : wpX_carryOut post u (nI 0) := by
  obtain ⟨l, nl, la, st, a1, a2, a3, a4, a5, a6, a7, a8, a9, a10, a11⟩ := u
  obtain ⟨rfl, rfl, ⟨b, rfl⟩, hP, R, hb, hR⟩ := h
  obtain ⟨p1, p2, p3, p4⟩ := hP.1
  have v0 := hR 0 (by omega)
  have v1 := hR 1 (by omega)
  refine ⟨pk_in 0 32 (by omega), nm_r (bs_at (by omega) p1) (br_t (by decide) ?_)⟩
  refine bs_tr7 (by omega) p1 p2 p3 p4 (by omega) (by omega) (fun b7 b8 b9 b10 b11 hT => ?_)
  refine bs_all hb (bs_rem hT (by omega) (by omega) (fun lb T e2 hr => bs_end (Nat.le_refl _) (by omega) (fun b5 b6 h5 => nm_r (nI_1 0) (H _ ⟨rfl, rfl, ⟨lb, rfl⟩, hP, bs_vpic h5 hR ?_ ?_ hr⟩))))
  · rw [e2, v0.1, v1.1]
  · exact Nat.lt_of_le_of_lt (Nat.mod_le _ _) v0.2
theorem bs_line1 {post : St2 → Prop} {u : St2} {V : Nat → Nat} (h : bs_M 1 V u) (H : ∀ w, bs_M 2 (bs_vup V 0 (V 1)) w → post w) : wpX_carryOut post u (nI 1) := by
  obtain ⟨l, nl, la, st, a1, a2, a3, a4, a5, a6, a7, a8, a9, a10, a11⟩ := u
  obtain ⟨rfl, rfl, ⟨b, rfl⟩, hP, R, hb, hR⟩ := h
  obtain ⟨p1, p2, p3, p4⟩ := hP.2.1
  have v1 := hR 1 (by omega)
  refine ⟨pk_in 1 32 (by omega), nm_r (bs_at (by omega) p1) (br_t (by decide) ?_)⟩
  refine bs_tr1 (by omega) p1 p2 p3 p4 (by omega) (by omega) (fun b7 b8 b9 b10 b11 hT => ?_)
  exact bs_all hb (bs_wide (p := 0) (t := 0) (f := 1) (o := 0) (s := 0) hT (by omega) rfl (by omega) (by omega) (by omega) (bs_end (Nat.le_refl _) (by omega) (fun b5 b6 h5 => nm_r (nI_1 1) (H _ ⟨rfl, rfl, ⟨b, rfl⟩, hP, bs_vpic h5 hR (by rw [bs_us]; exact v1.1) v1.2 (fun r _ h2 => bs_un h2)⟩))))
theorem bs_line2 {post : St2 → Prop} {u : St2} {V : Nat → Nat} (h : bs_M 2 V u) (H : ∀ w, bs_M 3 (bs_vup V 1 (V 2)) w → post w) : wpX_carryOut post u (nI 2) := by
  obtain ⟨l, nl, la, st, a1, a2, a3, a4, a5, a6, a7, a8, a9, a10, a11⟩ := u
  obtain ⟨rfl, rfl, ⟨b, rfl⟩, hP, R, hb, hR⟩ := h
  obtain ⟨p1, p2, p3, p4⟩ := hP.2.2.1
  have v2 := hR 2 (by omega)
  refine ⟨pk_in 2 32 (by omega), nm_r (bs_at (by omega) p1) (br_t (by decide) ?_)⟩
  refine bs_tr1 (by omega) p1 p2 p3 p4 (by omega) (by omega) (fun b7 b8 b9 b10 b11 hT => ?_)
  exact bs_all hb (bs_wide (p := 0) (t := 1) (f := 2) (o := 0) (s := 0) hT (by omega) rfl (by omega) (by omega) (by omega) (bs_end (Nat.le_refl _) (by omega) (fun b5 b6 h5 => nm_r (nI_1 2) (H _ ⟨rfl, rfl, ⟨b, rfl⟩, hP, bs_vpic h5 hR (by rw [bs_us]; exact v2.1) v2.2 (fun r _ h2 => bs_un h2)⟩))))
theorem bs_line3 {post : St2 → Prop} {u : St2} {V : Nat → Nat} (h : bs_M 3 V u) (H : ∀ w, bs_M (if V 1 = 0 then 4 else 0) V w → post w) : wpX_carryOut post u (nI 3) := by
  obtain ⟨l, nl, la, st, a1, a2, a3, a4, a5, a6, a7, a8, a9, a10, a11⟩ := u
  obtain ⟨rfl, rfl, ⟨b, rfl⟩, hP, R, hb, hR⟩ := h
  obtain ⟨p1, p2, p3, p4⟩ := hP.2.2.2.1
  have v1 := hR 1 (by omega)
  have e3 : a3 (nI 3).toNatClampNeg &&& 7 = nI 1 := bs_and7 (by omega) p3 (by omega)
  have e4 : nI 3 - (a4 (nI 3).toNatClampNeg &&& 31) = nI 0 := by
    rw [bs_at (by omega) p4]
    decide
  refine ⟨pk_in 3 32 (by omega), nm_r (bs_at (by omega) p1) (br_f (by decide) ⟨pk_in 3 32 (by omega), ?_⟩)⟩
  rw [e3]
  refine bs_isZero (by omega) hb (fun z => ?_) (fun z => ?_)
  · have hv : V 1 = 0 := by
      rw [← v1.1, z]
      rfl
    rw [if_pos hv] at H
    exact nm_r (nI_1 3) (br_f (by decide) (br_t rfl (br_f (by decide) (H _ ⟨rfl, rfl, ⟨b, rfl⟩, hP, R, hb, hR⟩))))
  · have hv : ¬ V 1 = 0 := by
      intro e
      refine z (BitVec.eq_of_toNat_eq ?_)
      rw [v1.1, e]
      rfl
    rw [if_neg hv] at H
    exact nm_r (nI_1 3) (br_f (by decide) (br_t rfl (br_t rfl ⟨pk_in 3 32 (by omega), nm_r e4 (br_t (by decide) (H _ ⟨rfl, rfl, ⟨b, rfl⟩, hP, R, hb, hR⟩))⟩)))
theorem bs_line4 {post : St2 → Prop} {u : St2} {V : Nat → Nat} (h : bs_M 4 V u) (H : ∀ w, bs_M 5 (bs_vup V 5 (bs_pc (V 0) 16)) w → post w) : wpX_carryOut post u (nI 4) := by
  obtain ⟨l, nl, la, st, a1, a2, a3, a4, a5, a6, a7, a8, a9, a10, a11⟩ := u
  obtain ⟨rfl, rfl, ⟨b, rfl⟩, hP, R, hb, hR⟩ := h
  obtain ⟨p1, p2, p3, p4⟩ := hP.2.2.2.2
  have v0 := hR 0 (by omega)
  refine ⟨pk_in 4 32 (by omega), nm_r (bs_at (by omega) p1) (br_t (by decide) ?_)⟩
  refine bs_tr16 (by omega) p1 p2 p3 p4 (by omega) (by omega) (fun b7 b8 b9 b10 b11 hT => ?_)
  refine bs_all hb (bs_cnt hT (fun lb T e5 hr => bs_end (Nat.le_refl _) (by omega) (fun b5 b6 h5 => nm_r (nI_1 4) (H _ ⟨rfl, rfl, ⟨lb, rfl⟩, hP, bs_vpic h5 hR ?_ ?_ hr⟩))))
  · rw [e5, v0.1]
  · have := bs_pc_le (V 0) 16
    omega
/-- the run's loop, k lines done, at line p -/
def bs_PR (post : Int32 → St2 → Prop) (lim k p : Nat) (V : Nat → Nat) : Prop := ∀ (n : Nat) (u : St2), lim < n + k → bs_M p V u → match u with
  | (l, nl, la, st, a1, a2, a3, a4, a5, a6, a7, a8, a9, a10, a11) => wX_run_26 post (nI lim) n (nI k) (nI k) l nl la st a1 a2 a3 a4 a5 a6 a7 a8 a9 a10 a11
section
variable {post : Int32 → St2 → Prop} {lim : Nat}
theorem bs_rEnd {k p : Nat} {V : Nat → Nat} (hl : lim ≤ 60) (hk : k ≤ lim) (hp : p ≤ 5) (he : k = lim ∨ p = 5) (H : ∀ u, bs_M p V u → post (nI k) u) : bs_PR post lim k p V := by
  intro n u hn hM
  obtain ⟨l, nl, la, st, a1, a2, a3, a4, a5, a6, a7, a8, a9, a10, a11⟩ := u
  obtain ⟨m, rfl⟩ : ∃ m, n = m + 1 := ⟨n - 1, by omega⟩
  have hP := H _ hM
  obtain ⟨rfl, rfl, hM⟩ := hM
  exact pk_le lim k (fun _ => hP) (fun z => pk_le 5 p (fun _ => hP) (fun z => absurd z (by omega)))
theorem bs_rGo {k p q : Nat} {V V' : Nat → Nat} (hl : lim ≤ 60) (hk : k < lim) (hp : p < 5)
    (hc : ∀ (u : St2) (P : St2 → Prop), bs_M p V u → (∀ w, bs_M q V' w → P w) → wpX_carryOut P u (nI p)) (H : bs_PR post lim (k + 1) q V') : bs_PR post lim k p V := by
  intro n u hn hM
  obtain ⟨m, rfl⟩ : ∃ m, n = m + 1 := ⟨n - 1, by omega⟩
  have key := fun P => hc u P hM
  obtain ⟨l, nl, la, st, a1, a2, a3, a4, a5, a6, a7, a8, a9, a10, a11⟩ := u
  obtain ⟨rfl, rfl, hM⟩ := hM
  refine pk_le lim k (fun z => absurd z (by omega)) (fun _ => pk_le 5 p (fun z => absurd z (by omega)) (fun _ => key _ (fun w hw => ?_)))
  have nx := H m w (by omega) hw
  obtain ⟨l, nl, la, st, a1, a2, a3, a4, a5, a6, a7, a8, a9, a10, a11⟩ := w
  exact nm_r (nI_1 k) (nm_r (nI_1 k) nx)
theorem bs_round {k : Nat} {V : Nat → Nat} (hl : lim ≤ 60) (hk : k + 4 ≤ lim)
    (H : ∀ V', V' 0 = V 1 → V' 1 = V 0 % V 1 → V' 2 = V 0 % V 1 → (∀ r, 3 ≤ r → V' r = V r) → bs_PR post lim (k + 4) (if V 0 % V 1 = 0 then 4 else 0) V') : bs_PR post lim k 0 V := by
  refine bs_rGo hl (by omega) (by omega) (fun u P h h2 => bs_line0 h h2) (bs_rGo hl (by omega) (by omega) (fun u P h h2 => bs_line1 h h2) (bs_rGo hl (by omega) (by omega) (fun u P h h2 => bs_line2 h h2) (bs_rGo hl (by omega) (by omega) (fun u P h h2 => bs_line3 h h2) ?_)))
  rw [bs_vs, bs_vn (show 2 ≠ 0 by decide), bs_vs]
  refine H _ ?_ ?_ ?_ (fun r hr => ?_)
  · rw [bs_vn (by decide), bs_vs, bs_vn (by decide)]
  · rw [bs_vs]
  · rw [bs_vn (by decide), bs_vn (by decide), bs_vs]
  · rw [bs_vn (by omega), bs_vn (by omega), bs_vn (by omega)]
/-- the law's pairs -/
def bs_XY (x y : Nat) : Nat → Nat × Nat
  | 0 => (x, y)
  | j + 1 => ((bs_XY x y j).2, (bs_XY x y j).1 % (bs_XY x y j).2)
/-- ended after j rounds -/
def bs_e (x y j : Nat) : Bool := decide (1 ≤ j ∧ (bs_XY x y j).2 = 0)
/-- the variables after j rounds -/
def bs_V (x y j : Nat) (V : Nat → Nat) : Prop := V 0 = (bs_XY x y j).1 ∧ V 1 = (bs_XY x y j).2 ∧ V 2 = (if j = 0 then 0 else (bs_XY x y j).2) ∧ ∀ r, 3 ≤ r → V r = 0
theorem bs_rounds {x y c : Nat} (hl : lim ≤ 60) (hc : 4 * c ≤ lim) (hY : ∀ j, j < c → bs_e x y j = false)
    (H : ∀ V, bs_V x y c V → bs_PR post lim (4 * c) (if bs_e x y c then 4 else 0) V) : ∀ i j, i + j = c → ∀ V, bs_V x y j V → bs_PR post lim (4 * j) (if bs_e x y j then 4 else 0) V := by
  intro i
  induction i with
  | zero =>
    intro j hj V hV
    obtain rfl : j = c := by omega
    exact H V hV
  | succ i ih =>
    intro j hj V hV
    obtain ⟨h0, h1, h2, h3⟩ := hV
    rw [hY j (by omega)]
    refine bs_round hl (by omega) (fun V' e0 e1 e2 e3 => ?_)
    have e : (bs_XY x y (j + 1)).2 = V 0 % V 1 := by
      rw [h0, h1]
      rfl
    have nx := ih (j + 1) (by omega) V' ⟨by rw [e0, h1]; rfl, by rw [e1, e], by rw [if_neg (by omega), e2, e], fun r hr => by rw [e3 r hr, h3 r hr]⟩
    have eb : bs_e x y (j + 1) = decide (V 0 % V 1 = 0) := by
      unfold bs_e
      rw [e, decide_eq_decide]
      exact ⟨fun h => h.2, fun h => ⟨by omega, h⟩⟩
    rw [eb] at nx
    simp only [decide_eq_true_eq] at nx
    exact nx
/-- counted: the last line ran too -/
def bs_cnd (x y c most : Nat) : Bool := bs_e x y c && decide (c < most)
theorem bs_run {u : St2} {V : Nat → Nat} {x y c most : Nat} (hm : most ≤ 7) (hc : c ≤ most) (hY : ∀ j, j < c → bs_e x y j = false) (he : c = most ∨ bs_e x y c = true) (hu : bs_M 0 V u) (hV : bs_V x y 0 V)
    (H : ∀ w V', bs_M (if bs_cnd x y c most then 5 else if bs_e x y c then 4 else 0) V' w → V' 0 = (bs_XY x y c).1 → V' 1 = (bs_XY x y c).2 → V' 2 = (if c = 0 then 0 else (bs_XY x y c).2) → V' 5 = (if bs_cnd x y c most then bs_pc (bs_XY x y c).1 16 else 0) → (∀ r, 3 ≤ r → r ≠ 5 → V' r = 0) → post (nI (if bs_cnd x y c most then 4 * c + 1 else 4 * c)) w) :
    wpX_run post u (nI (4 * most)) := by
  have key : bs_PR post (4 * most) (4 * 0) (if bs_e x y 0 then 4 else 0) V := by
    refine bs_rounds (x := x) (y := y) (c := c) (by omega) (by omega) hY (fun V2 h2 => ?_) c 0 (by omega) V hV
    obtain ⟨k0, k1, k2, k3⟩ := h2
    by_cases hlt : c < most
    · have ec : bs_e x y c = true := by
        rcases he with h | h
        · omega
        · exact h
      have ecn : bs_cnd x y c most = true := by
        unfold bs_cnd
        rw [ec, decide_eq_true hlt]
        rfl
      rw [ec]
      rw [ecn] at H
      refine bs_rGo (by omega) (by omega) (by decide) (fun u P h h2 => bs_line4 h h2) (bs_rEnd (by omega) (by omega) (by omega) (Or.inr rfl) (fun w hw => H w _ hw ?_ ?_ ?_ ?_ ?_))
      · rw [bs_vn (by decide), k0]
      · rw [bs_vn (by decide), k1]
      · rw [bs_vn (by decide), k2]
      · rw [bs_vs, k0]
        rfl
      · intro r h3 h5
        rw [bs_vn h5, k3 r h3]
    · have ecm : c = most := by omega
      have ecn : bs_cnd x y c most = false := by
        unfold bs_cnd
        rw [decide_eq_false hlt, Bool.and_false]
      rw [ecn] at H
      exact bs_rEnd (by omega) (by omega) (by split <;> omega) (Or.inl (by rw [ecm])) (fun w hw => H w V2 hw k0 k1 k2 (by rw [k3 5 (by omega)]; rfl) (fun r h3 _ => k3 r h3))
  have e0 : bs_e x y 0 = false := by
    unfold bs_e
    rw [decide_eq_false (by omega)]
  rw [e0] at key
  have nx := key (4 * most + 1) u (by omega) hu
  obtain ⟨l, nl, la, st, a1, a2, a3, a4, a5, a6, a7, a8, a9, a10, a11⟩ := u
  exact br_t (nI_pos' (by omega)) (pk_le (4 * most) 60 (fun _ => ⟨4 * most + 1, nx⟩) (fun z => absurd z (by omega)))
end
end
section
/-! the law itself -/
section
variable {post : St2 → Prop} {l nl la st : Int32} {a1 a2 a3 a4 a5 a6 a7 a8 a9 a10 a11 : Nat → Int32}
theorem bs_set {t : Nat} {v : Int32} {R : Nat → BitVec 32} (ht : t < 8) (hb : bs_bits a5 R) (hv : v.toBitVec.toNat < 32768)
    (H : ∀ b5 b6, bs_bits b5 (bs_up (bs_up R 8 v.toBitVec) t v.toBitVec) → post (l, nl, la, st, a1, a2, a3, a4, b5, b6, a7, a8, a9, a10, a11)) :
    wpX_set post (l, nl, la, st, a1, a2, a3, a4, a5, a6, a7, a8, a9, a10, a11) (nI t) v := by
  unfold wpX_set
  dsimp only
  rw [pk_andN (by omega) 3 (by decide), Nat.mod_eq_of_lt (show t < 2 ^ 3 by omega)]
  refine bs_load (t := 8) (by omega) hb (fun b5 h5 => bs_widen (f := 8) (by omega) (by omega) h5 (by rw [bs_us]; exact hv) (fun c5 c6 h6 => H c5 c6 ?_))
  rw [bs_us] at h6
  exact h6
theorem bs_emit {post : Int32 → St2 → Prop} {k op d x y : Nat} (hk : k < 32) (hop : op ≤ 18) (hd : d < 8)
    (H : post (nI (k + 1)) (nI (k + 1), nl, la, st, upd a1 k (nI op), upd a2 k (nI d), upd a3 k (nI x), upd a4 k (nI y), a5, a6, a7, a8, a9, a10, a11)) :
    wpX_emit post (nI k, nl, la, st, a1, a2, a3, a4, a5, a6, a7, a8, a9, a10, a11) (nI op) (nI d) (nI x) (nI y) := by
  have cp : (nI k).toNatClampNeg = k := nI_clamp (by omega)
  have ip : vp_in (nI k) 32 := pk_in k 32 hk
  refine br_f (nI_pos (by omega)) (br_f (nI_nlt (b := op) (a := 18) (by omega) (by omega)) (br_t (nI_lt (b := 32) hk (by omega)) ⟨ip, nm_r (by rw [cp]) ⟨ip, nm_r ?_ ⟨ip, nm_r (by rw [cp]) ⟨ip, nm_r (by rw [cp]) (nm_r (nI_1 k) H)⟩⟩⟩⟩))
  rw [cp, pk_andN (by omega) 3 (by decide), Nat.mod_eq_of_lt (show d < 2 ^ 3 by omega)]
end
/-- the law's sum of ones, two a turn -/
def bs_two (X : Nat) : Nat → Nat := fun j => X / 2 ^ j % 2 + X / 2 ^ j / 2 ^ 8 % 2
theorem bs_two8 (X : Nat) : bs_sum (bs_two X) 8 = bs_pc X 16 := by
  simp only [bs_pc, bs_sum, bs_two, Nat.div_div_eq_div_mul, Nat.reducePow, Nat.reduceMul]
  omega
/-- what the law finds in the machine at the end: X, Y the pair, Z the third variable, O the ones, cn: were they counted -/
def bs_F (a5 : Nat → Int32) (X Y Z O : Nat) : Prop := ∃ R, bs_bits a5 R ∧ (∀ r, r < 8 → (R r).toNat < 32768) ∧ (R 0).toNat = X ∧ (R 1).toNat = Y ∧ (R 2).toNat = Z ∧ (R 5).toNat = O ∧ (R 3).toNat = 0 ∧ (R 4).toNat = 0 ∧ (R 6).toNat = 0 ∧ (R 7).toNat = 0
section
variable {post : Int32 → St0 → Prop} {mc ms kc ks : Nat} {l nl la st : Int32} {a1 a2 a3 a4 a5 a6 a7 a8 a9 a10 a11 : Nat → Int32}
theorem bs_408 {a b d : Nat} {z : Int32} (hz : z = nI (a + b + d)) (H : post 1 ()) : wL_lawOf_408 post mc ms (nI d) (nI (a + b)) z kc ks :=
  br_t (by rw [hz, nI_add]) H
theorem bs_396 {cn : Bool} {X Y Z o O : Nat} {x10 z : Int32} (hx : cn = true → x10 = nI O) (hO : cn = false → O = 0) (hz : z = nI (X + Y + Z + O)) (H : post 1 ()) : wL_lawOf_396 post mc ms (bs_b cn) x10 (nI Z) (nI X + nI Y) z kc ks := by
  unfold wL_lawOf_396
  rw [nI_add, nI_add]
  cases cn
  · rw [hO rfl] at hz
    exact br_t rfl (bs_408 (d := 0) hz H)
  · rw [hx rfl]
    exact br_f (by decide) (bs_408 hz H)
theorem bs_371 {cn : Bool} {c X Y Z O : Nat} {x10 z0 z1 : Int32} (hc : c ≤ 7) (hF : bs_F a5 X Y Z O) (hZ : Z = if c = 0 then 0 else Y) (hx : cn = true → x10 = nI O) (hO : cn = false → O = 0) (hz : z1 = z0) (H : post 1 ()) :
    wL_lawOf_371 post mc ms (nI X) (nI Y) (nI (4 * c)) (bs_b cn) x10 z0 z1 kc ks l nl la st a1 a2 a3 a4 a5 a6 a7 a8 a9 a10 a11 := by
  obtain ⟨R, hb, hv, r0, r1, r2, r5, r3, r4, r6, r7⟩ := hF
  have hs : bs_sum (fun r => (R r).toNat) 8 = X + Y + Z + O := by
    simp only [bs_sum, r0, r1, r2, r3, r4, r5, r6, r7]
    omega
  refine br_t hz (bs_total hb hv ?_)
  rw [hs]
  refine pk_eq (4 * c) 0 (fun e => ?_) (fun e => ?_)
  · rw [if_pos (by omega)] at hZ
    subst hZ
    exact bs_396 (o := 0) hx hO rfl H
  · rw [if_neg (by omega)] at hZ
    subst hZ
    exact bs_396 (o := 0) hx hO rfl H
theorem bs_319 {cn : Bool} {c X Y Z O : Nat} (hc : c ≤ 7) (hF : bs_F a5 X Y Z O) (hZ : Z = if c = 0 then 0 else Y) (hO : O = if cn then bs_pc X 16 else 0) (H : post 1 ()) :
    ∃ n, wL_lawOf_319 post mc ms (nI X) (nI Y) (nI (4 * c)) (bs_b cn) kc ks l nl la st a1 a2 a3 a4 a5 a6 a7 a8 a9 a10 a11 n 0 (nI X) 0 := by
  have hX : X < 32768 := by
    obtain ⟨R, hb, hv, r0, _⟩ := hF
    rw [← r0]
    exact hv 0 (by omega)
  have key := pk_loop (σ := Unit) (fun n i _ => wL_lawOf_319 post mc ms (nI X) (nI Y) (nI (4 * c)) (bs_b cn) kc ks l nl la st a1 a2 a3 a4 a5 a6 a7 a8 a9 a10 a11 n (nI (bs_sum (bs_two X) i)) (nI (X / 2 ^ i)) (nI i)) (fun _ _ => True) 8 0 () (by omega) trivial
    (fun n _ _ => pk_le 8 8 (fun _ => by
      have hF' := hF
      obtain ⟨R, hb, hv, r0, r1, r2, r5, r3, r4, r6, r7⟩ := hF'
      rw [bs_two8]
      refine bs_get (r := 5) (by omega) hb (hv 5 (by omega)) ?_
      rw [r5]
      cases cn
      · refine br_t rfl (bs_371 hc hF hZ (fun h => absurd h (by decide)) (fun _ => hO) (by rw [hO]; rfl) H)
      · refine br_f (by decide) (bs_371 hc hF hZ (fun _ => by rw [hO]; rfl) (fun h => absurd h (by decide)) (by rw [hO]; rfl) H)) (fun z => absurd z (by omega)))
    (fun n i _ hi _ hw => pk_le 8 i (fun z => absurd z (by omega)) (fun _ => by
      have hd : X / 2 ^ i < 32768 := Nat.lt_of_le_of_lt (Nat.div_le_self _ _) hX
      have nx := hw () trivial
      refine nm_r (e' := nI (bs_sum (bs_two X) (i + 1))) ?_ (nm_r (e' := nI (X / 2 ^ (i + 1))) ?_ (nm_r (nI_1 i) nx))
      · rw [pk_shrN (by omega) ((8 : Int32) &&& 31) 8 (by decide), pk_andN (by omega) 1 (by decide), pk_andN (Nat.lt_of_le_of_lt (Nat.div_le_self _ _) (by omega)) 1 (by decide), nI_add, nI_add]
        rfl
      · rw [pk_shrN (by omega) ((1 : Int32) &&& 31) 1 (by decide), Nat.div_div_eq_div_mul, ← Nat.pow_add]))
  obtain ⟨n, hn⟩ := key
  rw [Nat.pow_zero, Nat.div_one] at hn
  exact ⟨n, hn⟩
theorem bs_304 {cn : Bool} {c X Y Z O : Nat} {z0 z1 : Int32} (hz : z1 = z0) (hc : c ≤ 7) (hF : bs_F a5 X Y Z O) (hZ : Z = if c = 0 then 0 else Y) (hO : O = if cn then bs_pc X 16 else 0) (H : post 1 ()) :
    wL_lawOf_304 post mc ms (nI X) (nI Y) (nI (4 * c)) (bs_b cn) z0 z1 kc ks l nl la st a1 a2 a3 a4 a5 a6 a7 a8 a9 a10 a11 :=
  br_t hz (bs_319 hc hF hZ hO H)
theorem bs_276 {cn ec : Bool} {c X Y Z O : Nat} {z0 z1 : Int32} (hz : z1 = z0) (hn : nl = nI (if cn then 5 else if ec then 4 else 0)) (hc : c ≤ 7) (hF : bs_F a5 X Y Z O) (hZ : Z = if c = 0 then 0 else Y) (hO : O = if cn then bs_pc X 16 else 0) (H : post 1 ()) :
    wL_lawOf_276 post mc ms (nI X) (nI Y) (nI (4 * c)) (bs_b ec) (bs_b cn) z0 z1 kc ks l nl la st a1 a2 a3 a4 a5 a6 a7 a8 a9 a10 a11 := by
  refine br_t hz ?_
  cases cn
  · cases ec
    · exact br_t rfl (br_t rfl (bs_304 hn hc hF hZ hO H))
    · exact br_t rfl (br_f (by decide) (bs_304 hn hc hF hZ hO H))
  · exact br_f (by decide) (bs_304 hn hc hF hZ hO H)
theorem bs_238 {cn ec : Bool} {c X Y Z O : Nat} (hn : nl = nI (if cn then 5 else if ec then 4 else 0)) (hc : c ≤ 7) (hF : bs_F a5 X Y Z O) (hZ : Z = if c = 0 then 0 else Y) (hO : O = if cn then bs_pc X 16 else 0) (H : post 1 ()) :
    wL_lawOf_238 post mc ms (nI X) (nI Y) (nI (4 * c)) (bs_b ec) (bs_b cn) kc ks l nl la st a1 a2 a3 a4 a5 a6 a7 a8 a9 a10 a11 := by
  have hF' := hF
  obtain ⟨R, hb, hv, r0, r1, r2, r5, r3, r4, r6, r7⟩ := hF'
  unfold wL_lawOf_238
  refine bs_get (r := 0) (by omega) hb (hv 0 (by omega)) (br_t (by rw [r0]) ?_)
  refine bs_get (r := 1) (by omega) hb (hv 1 (by omega)) (br_t (by rw [r1]) ?_)
  refine bs_get (r := 2) (by omega) hb (hv 2 (by omega)) (pk_eq (4 * c) 0 (fun e => ?_) (fun e => ?_))
  · exact bs_276 (by rw [r2, hZ, if_pos (by omega)]; rfl) hn hc hF hZ hO H
  · exact bs_276 (by rw [r2, hZ, if_neg (by omega)]) hn hc hF hZ hO H
theorem bs_214 {cn ec : Bool} {most c X Y Z O : Nat} {z0 z1 : Int32} (hm : most ≤ 7) (hcn : cn = (ec && decide (c < most))) (hz : z1 = z0) (hn : nl = nI (if cn then 5 else if ec then 4 else 0)) (hc : c ≤ 7) (hF : bs_F a5 X Y Z O) (hZ : Z = if c = 0 then 0 else Y) (hO : O = if cn then bs_pc X 16 else 0) (H : post 1 ()) :
    wL_lawOf_214 post mc ms (nI X) (nI Y) (nI most) (nI (4 * c)) (bs_b ec) z0 z1 kc ks l nl la st a1 a2 a3 a4 a5 a6 a7 a8 a9 a10 a11 := by
  refine br_t hz ?_
  rw [show (4 : Int32) = nI 4 from rfl, pk_mul]
  cases ec
  · subst hcn
    exact br_t rfl (bs_238 (cn := false) (ec := false) hn hc hF hZ hO H)
  · refine br_f (by decide) (pk_le (4 * most) (4 * c) (fun z => ?_) (fun z => ?_))
    · rw [decide_eq_false (by omega)] at hcn
      subst hcn
      exact bs_238 (cn := false) (ec := true) hn hc hF hZ hO H
    · rw [decide_eq_true (by omega)] at hcn
      subst hcn
      exact bs_238 (cn := true) (ec := true) hn hc hF hZ hO H
theorem bs_XYlt {x y : Nat} (hx : x < 32768) (hy : y < 32768) : ∀ j, (bs_XY x y j).1 < 32768 ∧ (bs_XY x y j).2 < 32768 := by
  intro j
  induction j with
  | zero => exact ⟨hx, hy⟩
  | succ j ih => exact ⟨ih.2, Nat.lt_of_le_of_lt (Nat.mod_le _ _) ih.1⟩
theorem bs_eS (x y j : Nat) : bs_e x y (j + 1) = decide ((bs_XY x y j).1 % (bs_XY x y j).2 = 0) := by
  unfold bs_e
  rw [decide_eq_decide]
  exact ⟨fun h => h.2, fun h => ⟨by omega, h⟩⟩
theorem bs_152 {J : Int32 → Int32 → Int32 → Int32 → Int32 → Prop} {x y c i : Nat} {x6 : Int32} (hz : (bs_XY x y c).1 % (bs_XY x y c).2 < 32768)
    (H : J (nI (bs_XY x y (c + 1)).1) (nI (bs_XY x y (c + 1)).2) (nI (4 * (c + 1))) (bs_b (bs_e x y (c + 1))) (nI (i + 1))) :
    wL_lawOf_152 post mc ms J (nI (bs_XY x y c).2) x6 (nI (4 * c)) (nI i) (nI ((bs_XY x y c).1 % (bs_XY x y c).2)) kc ks l nl la st a1 a2 a3 a4 a5 a6 a7 a8 a9 a10 a11 := by
  refine nm_r (show nI (4 * c) + 4 = nI (4 * (c + 1)) by rw [show (4 : Int32) = nI 4 from rfl, nI_add]; rfl) ?_
  rw [bs_eS] at H
  refine pk_eq ((bs_XY x y c).1 % (bs_XY x y c).2) 0 (fun z => nm_r (nI_1 i) ?_) (fun z => nm_r (nI_1 i) ?_)
  · rw [decide_eq_true z] at H
    exact H
  · rw [decide_eq_false z] at H
    exact H
theorem bs_118 {x y most : Nat} {V : Nat → Nat} (hx : x < 32768) (hy : y < 32768) (hm : most ≤ 7) (hM : bs_M 0 V (l, nl, la, st, a1, a2, a3, a4, a5, a6, a7, a8, a9, a10, a11)) (hV : bs_V x y 0 V) (H : post 1 ()) :
    ∃ n, wL_lawOf_118 post mc ms (nI most) kc ks l nl la st a1 a2 a3 a4 a5 a6 a7 a8 a9 a10 a11 n (nI x) (nI y) 0 0 0 := by
  refine pk_loop (fun n i c => wL_lawOf_118 post mc ms (nI most) kc ks l nl la st a1 a2 a3 a4 a5 a6 a7 a8 a9 a10 a11 n (nI (bs_XY x y c).1) (nI (bs_XY x y c).2) (nI (4 * c)) (bs_b (bs_e x y c)) (nI i))
    (fun i c => c ≤ i ∧ c ≤ most ∧ (∀ j, j < c → bs_e x y j = false) ∧ (c = i ∨ c = most ∨ bs_e x y c = true)) 8 0 0 (by omega) ⟨by omega, by omega, fun j hj => absurd hj (by omega), Or.inl rfl⟩ ?_ ?_
  · intro n c h
    obtain ⟨h1, h2, h3, h4⟩ := h
    have h5 : c = most ∨ bs_e x y c = true := by
      rcases h4 with h | h | h
      · omega
      · exact Or.inl h
      · exact Or.inr h
    refine pk_le 8 8 (fun _ => ?_) (fun z => absurd z (by omega))
    rw [show (4 : Int32) * nI most = nI (4 * most) from by rw [show (4 : Int32) = nI 4 from rfl, pk_mul]]
    refine bs_run hm h2 h3 h5 hM hV (fun w V' hw v0 v1 v2 v5 vr => ?_)
    obtain ⟨l, nl, la, st, a1, a2, a3, a4, a5, a6, a7, a8, a9, a10, a11⟩ := w
    obtain ⟨rfl, hnl, _, _, R, hb, hR⟩ := hw
    have hF : bs_F a5 (bs_XY x y c).1 (bs_XY x y c).2 (if c = 0 then 0 else (bs_XY x y c).2) (if bs_cnd x y c most then bs_pc (bs_XY x y c).1 16 else 0) :=
      ⟨R, hb, fun r hr => by rw [(hR r hr).1]; exact (hR r hr).2, by rw [(hR 0 (by omega)).1, v0], by rw [(hR 1 (by omega)).1, v1], by rw [(hR 2 (by omega)).1, v2], by rw [(hR 5 (by omega)).1, v5], by rw [(hR 3 (by omega)).1, vr 3 (by omega) (by omega)], by rw [(hR 4 (by omega)).1, vr 4 (by omega) (by omega)], by rw [(hR 6 (by omega)).1, vr 6 (by omega) (by omega)], by rw [(hR 7 (by omega)).1, vr 7 (by omega) (by omega)]⟩
    have fin : ∀ z0 : Int32, nI (if bs_cnd x y c most then 4 * c + 1 else 4 * c) = z0 → wL_lawOf_214 post mc ms (nI (bs_XY x y c).1) (nI (bs_XY x y c).2) (nI most) (nI (4 * c)) (bs_b (bs_e x y c)) z0 (nI (if bs_cnd x y c most then 4 * c + 1 else 4 * c)) kc ks (nI 5) nl la st a1 a2 a3 a4 a5 a6 a7 a8 a9 a10 a11 :=
      fun z0 hz => bs_214 (cn := bs_cnd x y c most) hm rfl hz hnl (by omega) hF rfl rfl H
    have hcn : bs_cnd x y c most = (bs_e x y c && decide (c < most)) := rfl
    cases he : bs_e x y c
    · rw [he] at fin hcn
      rw [Bool.false_and] at hcn
      exact br_t rfl (fin _ (by rw [hcn]; rfl))
    · rw [he] at fin hcn
      rw [Bool.true_and] at hcn
      refine br_f (by decide) (pk_le (4 * most) (4 * c) (fun z => fin _ ?_) (fun z => fin _ ?_))
      · rw [hcn, decide_eq_false (by omega)]
        rfl
      · rw [hcn, decide_eq_true (by omega), nI_1]
        rfl
  · intro n i c hi h hw
    obtain ⟨h1, h2, h3, h4⟩ := h
    obtain ⟨b1, b2⟩ := bs_XYlt hx hy c
    refine pk_le 8 i (fun z => absurd z (by omega)) (fun _ => pk_le most i (fun z => nm_r (nI_1 i) (hw c ⟨by omega, h2, h3, ?_⟩)) (fun z => ?_))
    · rcases h4 with h | h | h
      · exact Or.inr (Or.inl (by omega))
      · exact Or.inr (Or.inl h)
      · exact Or.inr (Or.inr h)
    · cases he : bs_e x y c
      · have hci : c = i := by
          rcases h4 with h | h | h
          · exact h
          · omega
          · rw [he] at h
            exact absurd h (by decide)
        subst hci
        have hlt : (bs_XY x y c).1 % (bs_XY x y c).2 < 32768 := Nat.lt_of_le_of_lt (Nat.mod_le _ _) b1
        have nx := hw (c + 1) ⟨by omega, by omega, lt_s h3 he, Or.inl rfl⟩
        refine br_t rfl (pk_eq (bs_XY x y c).2 0 (fun e => ?_) (fun e => ⟨nI_ne0 (by omega) (by omega), ?_⟩))
        · have em : (bs_XY x y c).1 % (bs_XY x y c).2 = (bs_XY x y c).1 := by rw [e, Nat.mod_zero]
          have g := bs_152 (post := post) (mc := mc) (ms := ms) (kc := kc) (ks := ks) (l := l) (nl := nl) (la := la) (st := st) (a1 := a1) (a2 := a2) (a3 := a3) (a4 := a4) (a5 := a5) (a6 := a6) (a7 := a7) (a8 := a8) (a9 := a9) (a10 := a10) (a11 := a11) (x6 := nI most) hlt nx
          rw [em] at g
          exact g
        · rw [pk_rem (by omega) (by omega) (by omega)]
          exact bs_152 hlt nx
      · exact br_f (by decide) (nm_r (nI_1 i) (by
          have nx := hw c ⟨by omega, h2, h3, Or.inr (Or.inr he)⟩
          rw [he] at nx
          exact nx))
end
theorem bs_lawOf {post : Int32 → St0 → Prop} (p0 p1 p2 : Int32) (H : post 1 ()) : wpL_lawOf post 556 8880 () p0 p1 p2 := by
  obtain ⟨x, hx, ex⟩ := pk_andE p0 (m := 32767) 15 (by decide)
  obtain ⟨y, hy, ey⟩ := pk_andE p1 (m := 32767) 15 (by decide)
  obtain ⟨most, hm, em⟩ := pk_andE p2 (m := 7) 3 (by decide)
  have tx : (nI x).toBitVec.toNat = x := pk_tn (by omega)
  have ty : (nI y).toBitVec.toNat = y := pk_tn (by omega)
  have hb0 : bs_bits (fun _ => 0) (fun _ => 0#32) := fun r i _ _ => by
    show (0 : Int32) = bs_b ((0#32).getLsbD i)
    rw [BitVec.getLsbD_zero]
    rfl
  refine ⟨by omega, by omega, 555, 8865, by omega, by omega, ?_⟩
  refine ⟨by omega, by omega, by omega, by omega, by omega, by omega, by omega, by omega, by omega, by omega, by omega, by omega, by omega, by omega, by omega, by omega, by omega, by omega, by omega, by omega, by omega, by omega, ?_⟩
  refine nm_r ex (nm_r ey ?_)
  refine bs_set (t := 0) (by omega) hb0 (by omega) (fun b5 b6 h5 => ?_)
  refine bs_set (t := 1) (by omega) h5 (by omega) (fun c5 c6 g5 => ?_)
  refine bs_emit (k := 0) (op := 7) (d := 2) (x := 0) (y := 1) (by omega) (by omega) (by omega) (br_t rfl ?_)
  refine bs_emit (k := 1) (op := 1) (d := 0) (x := 1) (y := 0) (by omega) (by omega) (by omega) (br_t rfl ?_)
  refine bs_emit (k := 2) (op := 1) (d := 1) (x := 2) (y := 0) (by omega) (by omega) (by omega) (br_t rfl ?_)
  refine bs_emit (k := 3) (op := 18) (d := 0) (x := 1) (y := 3) (by omega) (by omega) (by omega) (br_t rfl ?_)
  refine bs_emit (k := 4) (op := 16) (d := 5) (x := 0) (y := 0) (by omega) (by omega) (by omega) (br_t rfl ?_)
  refine nm_r em ?_
  refine bs_118 (V := bs_vup (bs_vup (fun _ => 0) 0 x) 1 y) (by omega) (by omega) (by omega) ⟨rfl, rfl, ⟨false, rfl⟩, ?_, _, g5, ?_⟩ ⟨rfl, rfl, rfl, ?_⟩ H
  · exact ⟨⟨rfl, rfl, rfl, rfl⟩, ⟨rfl, rfl, rfl, rfl⟩, ⟨rfl, rfl, rfl, rfl⟩, ⟨rfl, rfl, rfl, rfl⟩, ⟨rfl, rfl, rfl, rfl⟩⟩
  · intro r hr
    by_cases e1 : r = 1
    · subst e1
      rw [bs_us, bs_vs, ty]
      exact ⟨rfl, by omega⟩
    · rw [bs_un e1, bs_vn e1, bs_un (by omega)]
      by_cases e0 : r = 0
      · subst e0
        rw [bs_us, bs_vs, tx]
        exact ⟨rfl, by omega⟩
      · rw [bs_un e0, bs_vn e0, bs_un (by omega)]
        exact ⟨rfl, by omega⟩
  · intro r hr
    rw [bs_vn (by omega), bs_vn (by omega)]
theorem bs_cell {post : Int32 → Prop} {L : Nat} {xs : Nat → Int32} {k : Nat} (hL : L ≤ 3) (hk : k ≤ 3) (H : ∀ r, post r) : wpL_cellAt post L xs () (nI k) :=
  pk_le L k (fun _ => H _) (fun z => ⟨pk_in k L z, H _⟩)
end
section
theorem i_vc (xs : Nat → Int32) (L : Nat) (hL : L ≤ 3) : wpL_law (fun r => r = 1) L xs :=
  bs_cell (k := 0) hL (by omega) (fun r1 => bs_cell (k := 1) hL (by omega) (fun r2 => bs_cell (k := 2) hL (by omega) (fun r3 => ⟨556, 8880, by omega, by omega, bs_lawOf r1 r2 r3 rfl⟩)))
end
