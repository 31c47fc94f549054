section
/-! part 01. Rows of kit/rows that are pasted (pk_); then sets of six blocks as masks, and sums -/
theorem pk_us {f : Nat → Int32} {k : Nat} {x : Int32} : upd f k x k = x := if_pos rfl
theorem pk_un {f : Nat → Int32} {k j : Nat} {x : Int32} (h : j ≠ k) : upd f k x j = f j := if_neg h
theorem pk_sub {a b : Nat} (h : b ≤ a) : nI a - nI b = nI (a - b) := by
  obtain ⟨c, rfl⟩ : ∃ c, a = c + b := ⟨a - b, by omega⟩
  rw [← nI_add, Int32.add_sub_cancel, Nat.add_sub_cancel]
theorem pk_mul (a b : Nat) : nI a * nI b = nI (a * b) := (Int32.ofNat_mul a b).symm
theorem pk_div {a d : Nat} (ha : a < 2 ^ 31) (h0 : 0 < d) (hd : d < 2 ^ 31) : nI a / nI d = nI (a / d) := by
  apply Int32.toInt_inj.mp
  rw [lg_idiv_nonneg (by rw [nI_toInt ha]; omega) (by rw [nI_toInt hd]; omega), nI_toInt ha, nI_toInt hd, nI_toInt (Nat.lt_of_le_of_lt (Nat.div_le_self a d) ha)]
  first | rfl | exact (Int.natCast_ediv _ _).symm
theorem pk_rem {a d : Nat} (ha : a < 2 ^ 31) (h0 : 0 < d) (hd : d < 2 ^ 31) : nI a - nI a / nI d * nI d = nI (a % d) := by
  rw [pk_div ha h0 hd, pk_mul, pk_sub (Nat.div_mul_le_self a d)]
  exact congrArg nI (by have := Nat.div_add_mod' a d; omega)
theorem pk_ix (x : Int32) {n : Nat} (hn : n < 2 ^ 31) : x < 0 ∨ nI n ≤ x ∨ ∃ j : Nat, j < n ∧ x = nI j := by
  by_cases h : x < 0
  · exact Or.inl h
  · obtain ⟨j, hj, rfl⟩ := nI_of h
    by_cases h2 : j < n
    · exact Or.inr (Or.inr ⟨j, h2, rfl⟩)
    · exact Or.inr (Or.inl (nI_le (by omega) hj))
theorem pk_vb (z : Int32) : vp_nar .byte z.toInt8.toInt32 = z.toInt8.toInt32 := by rw [vp_nar_byte]; simp
theorem pk_shr (a s : Int32) (k : Nat) (hs : (s.toBitVec.smod 32).toNat = k) : (a >>> s).toInt = a.toInt >>> k := by
  show (a.toBitVec.sshiftRight (s.toBitVec.smod 32).toNat).toInt = _
  rw [hs, BitVec.toInt_sshiftRight]
  rfl
theorem pk_shrN {n : Nat} (h : n < 2 ^ 31) (s : Int32) (k : Nat) (hs : (s.toBitVec.smod 32).toNat = k) : nI n >>> s = nI (n / 2 ^ k) := by
  apply Int32.toInt_inj.mp
  have h2 : n / 2 ^ k ≤ n := Nat.div_le_self _ _
  rw [pk_shr _ _ k hs, nI_toInt h, nI_toInt (by omega), Int.shiftRight_eq_div_pow]
  rfl
theorem kh_6 {P : Nat → Prop} (h0 : P 0) (h1 : P 1) (h2 : P 2) (h3 : P 3) (h4 : P 4) (h5 : P 5) {i : Nat} (hi : i < 6) : P i := by
  match i, hi with
  | 0, _ => exact h0
  | 1, _ => exact h1
  | 2, _ => exact h2
  | 3, _ => exact h3
  | 4, _ => exact h4
  | 5, _ => exact h5
/-- a set of six blocks as the component's mask -/
def kh_m (a b c d e f : Bool) : Int32 := nI (a.toNat + 2 * b.toNat + 4 * c.toNat + 8 * d.toNat + 16 * e.toNat + 32 * f.toNat)
def kh_k (s : Nat → Bool) : Int32 := kh_m (s 0) (s 1) (s 2) (s 3) (s 4) (s 5)
def kh_fu (s : Nat → Bool) (b : Nat) (x : Bool) : Nat → Bool := fun j => if j = b then x else s j
theorem kh_fus {s : Nat → Bool} {b : Nat} {x : Bool} : kh_fu s b x b = x := if_pos rfl
theorem kh_fun {s : Nat → Bool} {b j : Nat} {x : Bool} (h : j ≠ b) : kh_fu s b x j = s j := if_neg h
theorem kh_bit0 : ∀ a b c d e f : Bool, ((kh_m a b c d e f >>> (nI 0 &&& 31)) &&& 1) = if a = true then 1 else 0 := by decide +kernel
theorem kh_set0 : ∀ a b c d e f : Bool, kh_m a b c d e f ||| ((1 : Int32) <<< (nI 0 &&& 31)) = kh_m true b c d e f := by decide +kernel
theorem kh_clr0 : ∀ a b c d e f : Bool, kh_m a b c d e f &&& (((1 : Int32) <<< (nI 0 &&& 31)) ^^^ (-1)) = kh_m false b c d e f := by decide +kernel
theorem kh_bit1 : ∀ a b c d e f : Bool, ((kh_m a b c d e f >>> (nI 1 &&& 31)) &&& 1) = if b = true then 1 else 0 := by decide +kernel
theorem kh_set1 : ∀ a b c d e f : Bool, kh_m a b c d e f ||| ((1 : Int32) <<< (nI 1 &&& 31)) = kh_m a true c d e f := by decide +kernel
theorem kh_clr1 : ∀ a b c d e f : Bool, kh_m a b c d e f &&& (((1 : Int32) <<< (nI 1 &&& 31)) ^^^ (-1)) = kh_m a false c d e f := by decide +kernel
theorem kh_bit2 : ∀ a b c d e f : Bool, ((kh_m a b c d e f >>> (nI 2 &&& 31)) &&& 1) = if c = true then 1 else 0 := by decide +kernel
theorem kh_set2 : ∀ a b c d e f : Bool, kh_m a b c d e f ||| ((1 : Int32) <<< (nI 2 &&& 31)) = kh_m a b true d e f := by decide +kernel
theorem kh_clr2 : ∀ a b c d e f : Bool, kh_m a b c d e f &&& (((1 : Int32) <<< (nI 2 &&& 31)) ^^^ (-1)) = kh_m a b false d e f := by decide +kernel
theorem kh_bit3 : ∀ a b c d e f : Bool, ((kh_m a b c d e f >>> (nI 3 &&& 31)) &&& 1) = if d = true then 1 else 0 := by decide +kernel
theorem kh_set3 : ∀ a b c d e f : Bool, kh_m a b c d e f ||| ((1 : Int32) <<< (nI 3 &&& 31)) = kh_m a b c true e f := by decide +kernel
theorem kh_clr3 : ∀ a b c d e f : Bool, kh_m a b c d e f &&& (((1 : Int32) <<< (nI 3 &&& 31)) ^^^ (-1)) = kh_m a b c false e f := by decide +kernel
theorem kh_bit4 : ∀ a b c d e f : Bool, ((kh_m a b c d e f >>> (nI 4 &&& 31)) &&& 1) = if e = true then 1 else 0 := by decide +kernel
theorem kh_set4 : ∀ a b c d e f : Bool, kh_m a b c d e f ||| ((1 : Int32) <<< (nI 4 &&& 31)) = kh_m a b c d true f := by decide +kernel
theorem kh_clr4 : ∀ a b c d e f : Bool, kh_m a b c d e f &&& (((1 : Int32) <<< (nI 4 &&& 31)) ^^^ (-1)) = kh_m a b c d false f := by decide +kernel
theorem kh_bit5 : ∀ a b c d e f : Bool, ((kh_m a b c d e f >>> (nI 5 &&& 31)) &&& 1) = if f = true then 1 else 0 := by decide +kernel
theorem kh_set5 : ∀ a b c d e f : Bool, kh_m a b c d e f ||| ((1 : Int32) <<< (nI 5 &&& 31)) = kh_m a b c d e true := by decide +kernel
theorem kh_clr5 : ∀ a b c d e f : Bool, kh_m a b c d e f &&& (((1 : Int32) <<< (nI 5 &&& 31)) ^^^ (-1)) = kh_m a b c d e false := by decide +kernel
theorem kh_bit (s : Nat → Bool) {b : Nat} (hb : b < 6) : ((kh_k s >>> (nI b &&& 31)) &&& 1) = if s b = true then 1 else 0 :=
  kh_6 (P := fun b => ((kh_k s >>> (nI b &&& 31)) &&& 1) = if s b = true then 1 else 0) (kh_bit0 (s 0) (s 1) (s 2) (s 3) (s 4) (s 5)) (kh_bit1 (s 0) (s 1) (s 2) (s 3) (s 4) (s 5)) (kh_bit2 (s 0) (s 1) (s 2) (s 3) (s 4) (s 5)) (kh_bit3 (s 0) (s 1) (s 2) (s 3) (s 4) (s 5)) (kh_bit4 (s 0) (s 1) (s 2) (s 3) (s 4) (s 5)) (kh_bit5 (s 0) (s 1) (s 2) (s 3) (s 4) (s 5)) hb
theorem kh_set (s : Nat → Bool) {b : Nat} (hb : b < 6) : kh_k s ||| ((1 : Int32) <<< (nI b &&& 31)) = kh_k (kh_fu s b true) :=
  kh_6 (P := fun b => kh_k s ||| ((1 : Int32) <<< (nI b &&& 31)) = kh_k (kh_fu s b true)) (kh_set0 (s 0) (s 1) (s 2) (s 3) (s 4) (s 5)) (kh_set1 (s 0) (s 1) (s 2) (s 3) (s 4) (s 5)) (kh_set2 (s 0) (s 1) (s 2) (s 3) (s 4) (s 5)) (kh_set3 (s 0) (s 1) (s 2) (s 3) (s 4) (s 5)) (kh_set4 (s 0) (s 1) (s 2) (s 3) (s 4) (s 5)) (kh_set5 (s 0) (s 1) (s 2) (s 3) (s 4) (s 5)) hb
theorem kh_clr (s : Nat → Bool) {b : Nat} (hb : b < 6) : kh_k s &&& (((1 : Int32) <<< (nI b &&& 31)) ^^^ (-1)) = kh_k (kh_fu s b false) :=
  kh_6 (P := fun b => kh_k s &&& (((1 : Int32) <<< (nI b &&& 31)) ^^^ (-1)) = kh_k (kh_fu s b false)) (kh_clr0 (s 0) (s 1) (s 2) (s 3) (s 4) (s 5)) (kh_clr1 (s 0) (s 1) (s 2) (s 3) (s 4) (s 5)) (kh_clr2 (s 0) (s 1) (s 2) (s 3) (s 4) (s 5)) (kh_clr3 (s 0) (s 1) (s 2) (s 3) (s 4) (s 5)) (kh_clr4 (s 0) (s 1) (s 2) (s 3) (s 4) (s 5)) (kh_clr5 (s 0) (s 1) (s 2) (s 3) (s 4) (s 5)) hb
theorem kh_b0 {s : Nat → Bool} {b : Nat} (hb : b < 6) (h : s b = false) : ((kh_k s >>> (nI b &&& 31)) &&& 1) = 0 := by
  rw [kh_bit s hb, h]; rfl
theorem kh_b1 {s : Nat → Bool} {b : Nat} (hb : b < 6) (h : s b = true) : ¬ ((kh_k s >>> (nI b &&& 31)) &&& 1) = 0 := by
  rw [kh_bit s hb, h]; decide
theorem kh_dif12 : ∀ a b c d e f : Bool, ∀ g h i j k l : Bool, kh_m a b c d e f &&& (kh_m g h i j k l ^^^ (-1)) = kh_m (a && !g) (b && !h) (c && !i) (d && !j) (e && !k) (f && !l) := by decide +kernel
theorem kh_dif (s t : Nat → Bool) : kh_k s &&& (kh_k t ^^^ (-1)) = kh_k (fun b => s b && !t b) :=
  kh_dif12 (s 0) (s 1) (s 2) (s 3) (s 4) (s 5) (t 0) (t 1) (t 2) (t 3) (t 4) (t 5)
theorem kh_k0 : kh_k (fun _ => false) = 0 := by decide +kernel
theorem kh_or0 (s : Nat → Bool) : kh_k s ||| 0 = kh_k s := Int32.or_zero
/-! sums -/
def kh_sm (f : Nat → Int32) : Nat → Int32
  | 0 => 0
  | n + 1 => kh_sm f n + f n
theorem kh_sm_c {f g : Nat → Int32} (n : Nat) (h : ∀ i, i < n → f i = g i) : kh_sm f n = kh_sm g n := by
  induction n with
  | zero => rfl
  | succ n ih =>
    show kh_sm f n + f n = kh_sm g n + g n
    rw [ih (fun i hi => h i (by omega)), h n (by omega)]
theorem kh_sm_0 {f : Nat → Int32} (n : Nat) (h : ∀ i, i < n → f i = 0) : kh_sm f n = 0 := by
  induction n with
  | zero => rfl
  | succ n ih =>
    show kh_sm f n + f n = 0
    rw [ih (fun i hi => h i (by omega)), h n (by omega), Int32.add_zero]
theorem kh_sm_a (f g : Nat → Int32) (n : Nat) : kh_sm (fun i => f i + g i) n = kh_sm f n + kh_sm g n := by
  induction n with
  | zero => exact (Int32.add_zero 0).symm
  | succ n ih =>
    show kh_sm (fun i => f i + g i) n + (f n + g n) = (kh_sm f n + f n) + (kh_sm g n + g n)
    rw [ih]
    generalize kh_sm f n = x
    generalize kh_sm g n = y
    generalize f n = z
    generalize g n = w
    grind
theorem kh_sm_1 {f : Nat → Int32} {c : Nat} (n : Nat) (hc : c < n) (h : ∀ i, i < n → i ≠ c → f i = 0) : kh_sm f n = f c := by
  induction n with
  | zero => omega
  | succ n ih =>
    show kh_sm f n + f n = f c
    by_cases e : n = c
    · subst e
      rw [kh_sm_0 n (fun i hi => h i (by omega) (by omega)), Int32.zero_add]
    · rw [ih (by omega) (fun i hi hn => h i (by omega) hn), h n (by omega) e, Int32.add_zero]
theorem kh_sum {s : Nat → Bool} {rc : Nat → Nat} {f g : Nat → Int32} {md : Nat}
    (hg : ∀ b, b < 6 → g b = if s b = true then f (rc b) else 0)
    (hr : ∀ b, b < 6 → s b = true → rc b < md)
    (hi : ∀ b c, b < 6 → c < 6 → s b = true → s c = true → rc b = rc c → b = c)
    (hc : ∀ r, r < md → f r ≠ 0 → ∃ b, b < 6 ∧ s b = true ∧ rc b = r) : kh_sm g 6 = kh_sm f md := by
  have key : ∀ n, n ≤ md → kh_sm (fun b => if s b = true ∧ rc b < n then f (rc b) else 0) 6 = kh_sm f n := by
    intro n
    induction n with
    | zero =>
      intro _
      refine kh_sm_0 6 (fun i _ => ?_)
      simp
    | succ n ih =>
      intro hn
      have e : kh_sm (fun b => if s b = true ∧ rc b < n + 1 then f (rc b) else 0) 6 = kh_sm (fun b => (if s b = true ∧ rc b < n then f (rc b) else 0) + (if s b = true ∧ rc b = n then f n else 0)) 6 := by
        refine kh_sm_c 6 (fun i _ => ?_)
        show (if s i = true ∧ rc i < n + 1 then f (rc i) else 0) = (if s i = true ∧ rc i < n then f (rc i) else 0) + (if s i = true ∧ rc i = n then f n else 0)
        by_cases hs : s i = true
        · by_cases h1 : rc i < n
          · have h2 : ¬ rc i = n := by omega
            have h3 : rc i < n + 1 := by omega
            simp [hs, h1, h2, h3]
          · by_cases h2 : rc i = n
            · simp [hs, h2]
            · have h3 : ¬ rc i < n + 1 := by omega
              simp [hs, h1, h2, h3]
        · simp [hs]
      have e2 : kh_sm (fun b => if s b = true ∧ rc b = n then f n else 0) 6 = f n := by
        by_cases h0 : f n = 0
        · rw [h0]
          exact kh_sm_0 6 (fun i _ => by simp)
        · obtain ⟨b, hb, hs, eb⟩ := hc n (by omega) h0
          refine (kh_sm_1 (c := b) 6 hb (fun i h6 hne => ?_)).trans (if_pos ⟨hs, eb⟩)
          show (if s i = true ∧ rc i = n then f n else 0) = 0
          by_cases hz : s i = true ∧ rc i = n
          · exact absurd (hi i b h6 hb hz.1 hs (hz.2.trans eb.symm)) hne
          · exact if_neg hz
      show _ = kh_sm f n + f n
      rw [e, kh_sm_a, ih (by omega), e2]
  rw [← key md (Nat.le_refl _)]
  refine kh_sm_c 6 (fun i h6 => ?_)
  rw [hg i h6]
  show _ = if s i = true ∧ rc i < md then f (rc i) else 0
  by_cases hs : s i = true
  · simp [hs, hr i h6 hs]
  · simp [hs]
theorem kh_szA : ∀ a b c d e f : Bool, (a && b && c && d && e && f) = false → ¬ (6 : Int32) ≤ 0 + (if a = true then 1 else 0) + (if b = true then 1 else 0) + (if c = true then 1 else 0) + (if d = true then 1 else 0) + (if e = true then 1 else 0) + (if f = true then 1 else 0) := by decide +kernel
theorem kh_szB {s : Nat → Bool} {b : Nat} (hb : b < 6) (h : s b = false) : ¬ (6 : Int32) ≤ kh_sm (fun b => if s b = true then 1 else 0) 6 := by
  refine kh_szA (s 0) (s 1) (s 2) (s 3) (s 4) (s 5) ?_
  revert h
  refine kh_6 (P := fun b => s b = false → (s 0 && s 1 && s 2 && s 3 && s 4 && s 5) = false) ?_ ?_ ?_ ?_ ?_ ?_ hb <;> (intro h; simp [h])
theorem kh_szC {s : Nat → Bool} (h : ∀ b, b < 6 → s b = true) : (6 : Int32) ≤ kh_sm (fun b => if s b = true then 1 else 0) 6 := by
  rw [kh_sm_c (g := fun _ => 1) 6 (fun i hi => by rw [h i hi]; rfl)]
  decide
end
section
/-! part 02. The relation's core, and the walks of the small methods -/
/-- the pointers p (component) and q (reference) mean the same -/
def kh_p (s : Nat → Bool) (L rc : Nat → Nat) (md : Nat) (al : Nat → Int32) (p q : Int32) : Prop :=
  (p = 0 ∧ q = 0) ∨ (∃ b, b < 6 ∧ s b = true ∧ p = nI (1 + b + 8 * L b) ∧ q = nI (rc b + 1)) ∨
  ((p = -1 ∨ ∃ b c, b < 6 ∧ c < L b ∧ p = nI (1 + b + 8 * c)) ∧ ∃ r, r < md ∧ al r = 0 ∧ q = nI (r + 1))
/-- s: the blocks in use; L: the locks; rc: the record in a block in use; md: the records made -/
def kh_C (s : Nat → Bool) (L rc : Nat → Nat) (md : Nat) (va lo nu li vs al nm le ri : Nat → Int32) : Prop :=
  md ≤ 512 ∧
  (∀ b, b < 6 → lo b = nI (L b) ∧ L b ≤ 3) ∧
  (∀ b, b < 6 → s b = true → rc b < md ∧ al (rc b) ≠ 0 ∧ nu b = nm (rc b) ∧ kh_p s L rc md al (li (b * 2)) (le (rc b)) ∧ kh_p s L rc md al (li (b * 2 + 1)) (ri (rc b))) ∧
  (∀ b c, b < 6 → c < 6 → s b = true → s c = true → rc b = rc c → b = c) ∧
  (∀ r, r < md → al r ≠ 0 → ∃ b, b < 6 ∧ s b = true ∧ rc b = r) ∧
  (∀ v, v < 8 → kh_p s L rc md al (va v) (vs v))
theorem kh_nm1 {n : Nat} (h : n < 2 ^ 31) : ¬ nI n = -1 := fun e => nI_pos h (by rw [e]; decide)
theorem kh_blkA : ∀ b, b < 6 → ∀ c, c < 4 → ((nI (1 + b + 8 * c) - 1) &&& 7) = nI b := by decide +kernel
theorem kh_blk {b c : Nat} (hb : b < 6) (hc : c ≤ 3) : ((nI (1 + b + 8 * c) - 1) &&& 7) = nI b := kh_blkA b hb c (by omega)
theorem kh_bytA : ∀ b, b < 6 → ∀ c, c < 4 → (nI (1 + b + 8 * c)).toInt8.toInt32 = nI (1 + b + 8 * c) := by decide +kernel
theorem kh_byt {b c : Nat} (hb : b < 6) (hc : c ≤ 3) : vp_nar .byte (nI (1 + b + 8 * c)) = nI (1 + b + 8 * c) := (vp_nar_byte _).trans (kh_bytA b hb c (by omega))
theorem kh_nb0 : vp_nar .byte 0 = 0 := by rw [vp_nar_byte]; decide
theorem kh_nb1 : vp_nar .byte (-1) = -1 := by rw [vp_nar_byte]; decide
theorem kh_nz0 : vp_nar .boolean 0 = 0 := rfl
theorem kh_nz1 : vp_nar .boolean 1 = 1 := rfl
theorem kh_ix (x : Int32) : (x < 0 ∨ nI 8 ≤ x) ∨ ∃ j : Nat, j < 8 ∧ x = nI j := by
  rcases pk_ix x (n := 8) (by decide) with h | h | h
  · exact Or.inl (Or.inl h)
  · exact Or.inl (Or.inr h)
  · exact Or.inr h
section
variable {s : Nat → Bool} {iu tn : Int32} {va lo nu li : Nat → Int32} {post : Int32 → Prop}
theorem kh_xv0 {p0 : Int32} (h : p0 < 0 ∨ nI 8 ≤ p0) (hp : post 0) : wpX_isVariable post p0 := by
  by_cases h0 : p0 < 0
  · exact br_t h0 hp
  · exact br_f h0 (br_t (h.resolve_left h0) hp)
theorem kh_xv1 {j : Nat} (h : j < 8) (hp : post 1) : wpX_isVariable post (nI j) :=
  br_f (nI_pos (by omega)) (br_f (nI_ge (b := 8) h (by decide)) hp)
theorem kh_xb {p r : Int32} (e : ((p - 1) &&& 7) = r) (hp : post r) : wpX_blockOf post p := by
  subst e; exact hp
theorem kh_xp {b l : Nat} (hb : b < 6) (hl : lo b = nI l) (hp : post (nI (1 + b + 8 * l))) : wpX_pointerTo post (iu, tn, va, lo, nu, li) (nI b) := by
  show vp_in (nI b) 6 ∧ post ((1 + nI b) + (8 * (lo (nI b).toNatClampNeg)))
  have e : ((1 : Int32) + nI b) + 8 * nI l = nI (1 + b + 8 * l) := by
    rw [← nI_add, ← nI_add, ← pk_mul]; rfl
  rw [nI_clamp (by omega), hl, e]
  exact ⟨vp_in_nI hb (by decide), hp⟩
theorem kh_xs0 (hp : post 0) : wpX_stateOf post (iu, tn, va, lo, nu, li) 0 := br_t rfl hp
theorem kh_xs1 {b l : Nat} (hb : b < 6) (hs : s b = true) (hl : lo b = nI l) (h3 : l ≤ 3) (hp : post 1) : wpX_stateOf post (kh_k s, tn, va, lo, nu, li) (nI (1 + b + 8 * l)) := by
  refine br_f (nI_ne0 (by omega) (by omega)) (br_f (kh_nm1 (by omega)) ?_)
  refine kh_xb (kh_blk hb h3) ?_
  refine br_f (kh_b1 hb hs) ?_
  refine kh_xp hb hl ?_
  exact br_t rfl (br_f (by decide) hp)
theorem kh_xs2 (hp : post 2) : wpX_stateOf post (iu, tn, va, lo, nu, li) (-1) := br_f (by decide) (br_t rfl hp)
theorem kh_xs3 {b c l : Nat} (hb : b < 6) (hl : lo b = nI l) (h3 : l ≤ 3) (hc : c < l) (hp : post 2) : wpX_stateOf post (iu, tn, va, lo, nu, li) (nI (1 + b + 8 * c)) := by
  refine br_f (nI_ne0 (by omega) (by omega)) (br_f (kh_nm1 (by omega)) ?_)
  refine kh_xb (kh_blk hb (by omega)) ?_
  refine br_c (fun _ => br_t rfl hp) (fun _ => ?_)
  refine kh_xp hb hl ?_
  refine br_f ?_ (br_t rfl hp)
  rw [nI_eq (by omega) (by omega)]
  omega
theorem kh_xc {j : Nat} {p : Int32} (hj : j < 8) (e : va j = p) (h : wpX_stateOf (fun r => (r = 0 → post (-3)) ∧ (¬ r = 0 → (r = 2 → post (-4)) ∧ (¬ r = 2 → post 0))) (iu, tn, va, lo, nu, li) p) : wpX_check post (iu, tn, va, lo, nu, li) (nI j) := by
  refine And.intro (vp_in_nI hj (by decide)) ?_
  rw [nI_clamp (by omega), e]
  exact h
end
section
variable {md : Int32} {vs al nm le ri se : Nat → Int32} {post : Int32 → Prop}
theorem kh_yv0 {p0 : Int32} (h : p0 < 0 ∨ nI 8 ≤ p0) (hp : post 0) : wpY_var post (md, vs, al, nm, le, ri, se) p0 := by
  by_cases h0 : p0 < 0
  · exact br_t h0 hp
  · exact br_f h0 (br_t (h.resolve_left h0) hp)
theorem kh_yv1 {j : Nat} (h : j < 8) (hp : post 1) : wpY_var post (md, vs, al, nm, le, ri, se) (nI j) :=
  br_f (nI_pos (by omega)) (br_f (nI_ge (b := 8) h (by decide)) hp)
theorem kh_yk0 (hp : post 0) : wpY_kind post (md, vs, al, nm, le, ri, se) 0 := br_t (by decide) hp
theorem kh_ykA {r : Nat} (hr : r < 512) (hp : (al r = 0 → post 2) ∧ (¬ al r = 0 → post 1)) : wpY_kind post (md, vs, al, nm, le, ri, se) (nI (r + 1)) := by
  refine br_f (nI_nle (by omega) (by omega)) (br_t (nI_le (b := 512) (by omega) (by decide)) ?_)
  show vp_in (nI (r + 1) - 1) 512 ∧ ((al (nI (r + 1) - 1).toNatClampNeg = 0 → post 2) ∧ (¬ al (nI (r + 1) - 1).toNatClampNeg = 0 → post 1))
  rw [nI_pred, nI_clamp (by omega)]
  exact ⟨vp_in_nI hr (by decide), hp⟩
theorem kh_yk1 {r : Nat} (hr : r < 512) (ha : al r ≠ 0) (hp : post 1) : wpY_kind post (md, vs, al, nm, le, ri, se) (nI (r + 1)) := kh_ykA hr (br_f ha hp)
theorem kh_yk2 {r : Nat} (hr : r < 512) (ha : al r = 0) (hp : post 2) : wpY_kind post (md, vs, al, nm, le, ri, se) (nI (r + 1)) := kh_ykA hr (br_t ha hp)
theorem kh_yt {j : Nat} {q : Int32} (hj : j < 8) (e : vs j = q) (h : wpY_kind (fun r => (r = 0 → post (-3)) ∧ (¬ r = 0 → (r = 2 → post (-4)) ∧ (¬ r = 2 → post 0))) (md, vs, al, nm, le, ri, se) q) : wpY_through post (md, vs, al, nm, le, ri, se) (nI j) := by
  refine And.intro (vp_in_nI hj (by decide)) ?_
  rw [nI_clamp (by omega), e]
  exact h
end
section
variable {s : Nat → Bool} {L rc : Nat → Nat} {md : Nat} {tn : Int32} {va lo nu li vs al nm le ri se : Nat → Int32}
/-- one outcome for both sides: a pointer is not live, or live -/
theorem kh_st {p q : Int32} (C : kh_C s L rc md va lo nu li vs al nm le ri) (hp : kh_p s L rc md al p q) :
    (∃ r : Int32, (r = 0 ∨ r = 2) ∧ (r = 0 → p = 0 ∧ q = 0) ∧ (∀ post : Int32 → Prop, post r → wpX_stateOf post (kh_k s, tn, va, lo, nu, li) p) ∧ (∀ post : Int32 → Prop, post r → wpY_kind post (nI md, vs, al, nm, le, ri, se) q)) ∨
    (∃ b, b < 6 ∧ s b = true ∧ p = nI (1 + b + 8 * L b) ∧ q = nI (rc b + 1) ∧ (∀ post : Int32 → Prop, post 1 → wpX_stateOf post (kh_k s, tn, va, lo, nu, li) p) ∧ (∀ post : Int32 → Prop, post 1 → wpY_kind post (nI md, vs, al, nm, le, ri, se) q)) := by
  obtain ⟨hmd, hlo, hbl, _, _, _⟩ := C
  rcases hp with ⟨e1, e2⟩ | ⟨b, hb, hs, e1, e2⟩ | ⟨hd, r, hr, ha, e2⟩
  · subst e1 e2
    exact Or.inl ⟨0, Or.inl rfl, fun _ => ⟨rfl, rfl⟩, fun post h => kh_xs0 h, fun post h => kh_yk0 h⟩
  · subst e1 e2
    have h1 := hbl b hb hs
    exact Or.inr ⟨b, hb, hs, rfl, rfl, fun post h => kh_xs1 hb hs (hlo b hb).1 (hlo b hb).2 h, fun post h => kh_yk1 (by omega) h1.2.1 h⟩
  · subst e2
    refine Or.inl ⟨2, Or.inr rfl, fun h => absurd h (by decide), fun post h => ?_, fun post h => kh_yk2 (by omega) ha h⟩
    rcases hd with e1 | ⟨b, c, hb, hc, e1⟩
    · subst e1; exact kh_xs2 h
    · subst e1; exact kh_xs3 hb (hlo b hb).1 (hlo b hb).2 hc h
/-- the same for a call through a variable -/
theorem kh_via {j : Nat} (C : kh_C s L rc md va lo nu li vs al nm le ri) (hj : j < 8) :
    (∃ r : Int32, ¬ r = 0 ∧ (∀ post : Int32 → Prop, post r → wpX_check post (kh_k s, tn, va, lo, nu, li) (nI j)) ∧ (∀ post : Int32 → Prop, post r → wpY_through post (nI md, vs, al, nm, le, ri, se) (nI j))) ∨
    (∃ b, b < 6 ∧ s b = true ∧ va j = nI (1 + b + 8 * L b) ∧ vs j = nI (rc b + 1) ∧ (∀ post : Int32 → Prop, post 0 → wpX_check post (kh_k s, tn, va, lo, nu, li) (nI j)) ∧ (∀ post : Int32 → Prop, post 0 → wpY_through post (nI md, vs, al, nm, le, ri, se) (nI j))) := by
  rcases kh_st (tn := tn) (se := se) C (C.2.2.2.2.2 j hj) with ⟨r, hr, _, hX, hY⟩ | ⟨b, hb, hs, e1, e2, hX, hY⟩
  · rcases hr with e | e
    · subst e
      exact Or.inl ⟨-3, by decide, fun post h => kh_xc hj rfl (hX _ (br_t rfl h)), fun post h => kh_yt hj rfl (hY _ (br_t rfl h))⟩
    · subst e
      exact Or.inl ⟨-4, by decide, fun post h => kh_xc hj rfl (hX _ (br_f (by decide) (br_t rfl h))), fun post h => kh_yt hj rfl (hY _ (br_f (by decide) (br_t rfl h)))⟩
  · exact Or.inr ⟨b, hb, hs, e1, e2, fun post h => kh_xc hj rfl (hX _ (br_f (by decide) (br_f (by decide) h))), fun post h => kh_yt hj rfl (hY _ (br_f (by decide) (br_f (by decide) h)))⟩
theorem kh_pb {p q : Int32} (C : kh_C s L rc md va lo nu li vs al nm le ri) (hp : kh_p s L rc md al p q) : vp_nar .byte p = p := by
  obtain ⟨hmd, hlo, _⟩ := C
  rcases hp with ⟨e1, _⟩ | ⟨b, hb, hs, e1, _⟩ | ⟨e1 | ⟨b, c, hb, hc, e1⟩, _⟩
  · rw [e1]; exact kh_nb0
  · rw [e1]; exact kh_byt hb (hlo b hb).2
  · rw [e1]; exact kh_nb1
  · rw [e1]; exact kh_byt hb (by have := (hlo b hb).2; omega)
end
end
section
/-! part 03. What keeps the relation's core: plain rows, no walk -/
def kh_ru (f : Nat → Nat) (b m : Nat) : Nat → Nat := fun c => if c = b then m else f c
theorem kh_rus {f : Nat → Nat} {b m : Nat} : kh_ru f b m b = m := if_pos rfl
theorem kh_run {f : Nat → Nat} {b m c : Nat} (h : c ≠ b) : kh_ru f b m c = f c := if_neg h
section
variable {s : Nat → Bool} {L rc : Nat → Nat} {md : Nat} {va lo nu li vs al nm le ri : Nat → Int32}
theorem kh_Cva {j : Nat} {p q : Int32} (C : kh_C s L rc md va lo nu li vs al nm le ri) (hp : kh_p s L rc md al p q) :
    kh_C s L rc md (upd va j p) lo nu li (upd vs j q) al nm le ri := by
  obtain ⟨h1, h2, h3, h4, h5, h6⟩ := C
  refine ⟨h1, h2, h3, h4, h5, fun v hv => ?_⟩
  by_cases e : v = j
  · subst e; rw [pk_us, pk_us]; exact hp
  · rw [pk_un e, pk_un e]; exact h6 v hv
theorem kh_Cnu {b : Nat} {n : Int32} (C : kh_C s L rc md va lo nu li vs al nm le ri) (hb : b < 6) (hs : s b = true) :
    kh_C s L rc md va lo (upd nu b n) li vs al (upd nm (rc b) n) le ri := by
  obtain ⟨h1, h2, h3, h4, h5, h6⟩ := C
  refine ⟨h1, h2, fun c hc hsc => ?_, h4, h5, h6⟩
  obtain ⟨a1, a2, a3, a4, a5⟩ := h3 c hc hsc
  refine ⟨a1, a2, ?_, a4, a5⟩
  by_cases e : c = b
  · subst e; rw [pk_us, pk_us]
  · rw [pk_un e, pk_un (fun h => e (h4 c b hc hb hsc hs h))]; exact a3
theorem kh_Cle {b : Nat} {p q : Int32} (C : kh_C s L rc md va lo nu li vs al nm le ri) (hb : b < 6) (hs : s b = true) (hp : kh_p s L rc md al p q) :
    kh_C s L rc md va lo nu (upd li (b * 2) p) vs al nm (upd le (rc b) q) ri := by
  obtain ⟨h1, h2, h3, h4, h5, h6⟩ := C
  refine ⟨h1, h2, fun c hc hsc => ?_, h4, h5, h6⟩
  obtain ⟨a1, a2, a3, a4, a5⟩ := h3 c hc hsc
  refine ⟨a1, a2, a3, ?_, ?_⟩
  · by_cases e : c = b
    · subst e; rw [pk_us, pk_us]; exact hp
    · rw [pk_un (by omega), pk_un (fun h => e (h4 c b hc hb hsc hs h))]; exact a4
  · rw [pk_un (by omega)]; exact a5
theorem kh_Cri {b : Nat} {p q : Int32} (C : kh_C s L rc md va lo nu li vs al nm le ri) (hb : b < 6) (hs : s b = true) (hp : kh_p s L rc md al p q) :
    kh_C s L rc md va lo nu (upd li (b * 2 + 1) p) vs al nm le (upd ri (rc b) q) := by
  obtain ⟨h1, h2, h3, h4, h5, h6⟩ := C
  refine ⟨h1, h2, fun c hc hsc => ?_, h4, h5, h6⟩
  obtain ⟨a1, a2, a3, a4, a5⟩ := h3 c hc hsc
  refine ⟨a1, a2, a3, ?_, ?_⟩
  · rw [pk_un (by omega)]; exact a4
  · by_cases e : c = b
    · subst e; rw [pk_us, pk_us]; exact hp
    · rw [pk_un (by omega), pk_un (fun h => e (h4 c b hc hb hsc hs h))]; exact a5
theorem kh_Cmk {b j : Nat} {n : Int32} (C : kh_C s L rc md va lo nu li vs al nm le ri) (hb : b < 6) (hs : s b = false) (hm : md < 512) :
    kh_C (kh_fu s b true) L (kh_ru rc b md) (md + 1) (upd va j (nI (1 + b + 8 * L b))) lo (upd nu b n) (upd (upd li (b * 2) 0) (b * 2 + 1) 0)
      (upd vs j (nI (md + 1))) (upd al md 1) (upd nm md n) (upd le md 0) (upd ri md 0) := by
  obtain ⟨h1, h2, h3, h4, h5, h6⟩ := C
  have hne : ∀ c, s c = true → c ≠ b := fun c hc e => by rw [e, hs] at hc; cases hc
  have hP : ∀ p q, kh_p s L rc md al p q → kh_p (kh_fu s b true) L (kh_ru rc b md) (md + 1) (upd al md 1) p q := by
    intro p q h
    rcases h with h | ⟨c, hc, hsc, e1, e2⟩ | ⟨hd, r, hr, ha, e2⟩
    · exact Or.inl h
    · have hcb := hne c hsc
      exact Or.inr (Or.inl ⟨c, hc, by rw [kh_fun hcb]; exact hsc, e1, by rw [kh_run hcb]; exact e2⟩)
    · exact Or.inr (Or.inr ⟨hd, r, by omega, by rw [pk_un (by omega)]; exact ha, e2⟩)
  refine ⟨by omega, h2, fun c hc hsc => ?_, fun c d hc hd hsc hsd e => ?_, fun r hr ha => ?_, fun v hv => ?_⟩
  · by_cases e : c = b
    · subst e
      rw [kh_rus, pk_us, pk_us, pk_us, pk_us, pk_us, pk_us, pk_un (by omega), pk_us]
      exact ⟨by omega, by decide, rfl, Or.inl ⟨rfl, rfl⟩, Or.inl ⟨rfl, rfl⟩⟩
    · rw [kh_fun e] at hsc
      obtain ⟨a1, a2, a3, a4, a5⟩ := h3 c hc hsc
      have hr : rc c ≠ md := by omega
      rw [kh_run e, pk_un hr, pk_un e, pk_un hr, pk_un hr, pk_un hr, pk_un (j := c * 2) (by omega), pk_un (j := c * 2) (by omega), pk_un (j := c * 2 + 1) (by omega), pk_un (j := c * 2 + 1) (by omega)]
      exact ⟨by omega, a2, a3, hP _ _ a4, hP _ _ a5⟩
  · by_cases e1 : c = b
    · by_cases e2 : d = b
      · rw [e1, e2]
      · rw [kh_fun e2] at hsd
        have := (h3 d hd hsd).1
        rw [e1, kh_rus, kh_run e2] at e
        omega
    · rw [kh_fun e1] at hsc
      have := (h3 c hc hsc).1
      by_cases e2 : d = b
      · rw [e2, kh_rus, kh_run e1] at e
        omega
      · rw [kh_fun e2] at hsd
        rw [kh_run e1, kh_run e2] at e
        exact h4 c d hc hd hsc hsd e
  · by_cases e : r = md
    · exact ⟨b, hb, kh_fus, by rw [kh_rus, e]⟩
    · rw [pk_un e] at ha
      obtain ⟨c, hc, hsc, ec⟩ := h5 r (by omega) ha
      have hcb := hne c hsc
      exact ⟨c, hc, by rw [kh_fun hcb]; exact hsc, by rw [kh_run hcb]; exact ec⟩
  · by_cases e : v = j
    · subst e
      rw [pk_us, pk_us]
      exact Or.inr (Or.inl ⟨b, hb, kh_fus, rfl, by rw [kh_rus]⟩)
    · rw [pk_un e, pk_un e]
      exact hP _ _ (h6 v hv)
/-- a block goes out of use, for any new locks, variables and links that keep the pointers' meaning -/
theorem kh_CrA {b : Nat} {L' : Nat → Nat} {va' lo' li' : Nat → Int32} (C : kh_C s L rc md va lo nu li vs al nm le ri) (hb : b < 6) (hs : s b = true)
    (hlo : ∀ c, c < 6 → lo' c = nI (L' c) ∧ L' c ≤ 3)
    (hva : ∀ v, v < 8 → ∀ q, kh_p s L rc md al (va v) q → kh_p (kh_fu s b false) L' rc md (upd al (rc b) 0) (va' v) q)
    (hli : ∀ i, i < 12 → ∀ q, kh_p s L rc md al (li i) q → kh_p (kh_fu s b false) L' rc md (upd al (rc b) 0) (li' i) q) :
    kh_C (kh_fu s b false) L' rc md va' lo' nu li' vs (upd al (rc b) 0) nm le ri := by
  obtain ⟨h1, h2, h3, h4, h5, h6⟩ := C
  have hne : ∀ c, kh_fu s b false c = true → c ≠ b ∧ s c = true := by
    intro c hc
    by_cases e : c = b
    · rw [e, kh_fus] at hc; cases hc
    · rw [kh_fun e] at hc; exact ⟨e, hc⟩
  refine ⟨h1, hlo, fun c hc hsc => ?_, fun c d hc hd hsc hsd e => ?_, fun r hr ha => ?_, fun v hv => hva v hv _ (h6 v hv)⟩
  · obtain ⟨e, hsc⟩ := hne c hsc
    obtain ⟨a1, a2, a3, a4, a5⟩ := h3 c hc hsc
    refine ⟨a1, ?_, a3, hli _ (by omega) _ a4, hli _ (by omega) _ a5⟩
    rw [pk_un (fun h => e (h4 c b hc hb hsc hs h))]
    exact a2
  · exact h4 c d hc hd (hne c hsc).2 (hne d hsd).2 e
  · by_cases e : r = rc b
    · rw [e, pk_us] at ha; exact absurd rfl ha
    · rw [pk_un e] at ha
      obtain ⟨c, hc, hsc, ec⟩ := h5 r hr ha
      have hcb : c ≠ b := fun h => e (by rw [← ec, h])
      exact ⟨c, hc, by rw [kh_fun hcb]; exact hsc, ec⟩
/-- what retire makes of a pointer -/
def kh_rf (b : Nat) (p : Int32) : Int32 := if p ≤ 0 then p else if ((p - 1) &&& 7) = nI b then -1 else p
def kh_ra (b n : Nat) (a : Nat → Int32) : Nat → Int32 := fun i => if i < n then kh_rf b (a i) else a i
theorem kh_rf1 {b : Nat} {p : Int32} (h : p ≤ 0) : kh_rf b p = p := if_pos h
theorem kh_rf2 {b : Nat} {p : Int32} (h : ¬ p ≤ 0) (h2 : ((p - 1) &&& 7) = nI b) : kh_rf b p = -1 := by unfold kh_rf; rw [if_neg h, if_pos h2]
theorem kh_rf3 {b : Nat} {p : Int32} (h : ¬ p ≤ 0) (h2 : ¬ ((p - 1) &&& 7) = nI b) : kh_rf b p = p := by unfold kh_rf; rw [if_neg h, if_neg h2]
theorem kh_rfA {b c k : Nat} (hb : b < 6) (hc : c < 6) (hk : k ≤ 3) : kh_rf b (nI (1 + c + 8 * k)) = if c = b then -1 else nI (1 + c + 8 * k) := by
  unfold kh_rf
  rw [if_neg (nI_nle (by omega) (by omega)), kh_blk hc hk]
  by_cases e : c = b
  · rw [if_pos e, if_pos (by rw [e])]
  · rw [if_neg e, if_neg (by rw [nI_eq (by omega) (by omega)]; exact e)]
theorem kh_ra_s {b j : Nat} {a : Nat → Int32} {x : Int32} (h : kh_rf b (a j) = x) : upd (kh_ra b j a) j x = kh_ra b (j + 1) a := by
  funext i
  by_cases e : i = j
  · subst e
    rw [pk_us]
    show x = if i < i + 1 then kh_rf b (a i) else a i
    rw [if_pos (by omega), h]
  · rw [pk_un e]
    show (if i < j then kh_rf b (a i) else a i) = if i < j + 1 then kh_rf b (a i) else a i
    by_cases h1 : i < j
    · rw [if_pos h1, if_pos (by omega)]
    · rw [if_neg h1, if_neg (by omega)]
theorem kh_ra_k {b j : Nat} {a : Nat → Int32} (h : kh_rf b (a j) = a j) : kh_ra b (j + 1) a = kh_ra b j a := by
  rw [← kh_ra_s h]
  funext i
  by_cases e : i = j
  · subst e
    rw [pk_us]
    show a i = if i < i then kh_rf b (a i) else a i
    rw [if_neg (by omega)]
  · rw [pk_un e]
theorem kh_ra_0 {b : Nat} {a : Nat → Int32} : kh_ra b 0 a = a := by
  funext i
  exact if_neg (by omega)
theorem kh_pA {b : Nat} {p q : Int32} (C : kh_C s L rc md va lo nu li vs al nm le ri) (hb : b < 6) (hs : s b = true) (hp : kh_p s L rc md al p q) :
    kh_p (kh_fu s b false) (kh_ru L b (L b + 1)) rc md (upd al (rc b) 0) p q := by
  obtain ⟨h1, h2, h3, h4, h5, h6⟩ := C
  rcases hp with h | ⟨c, hc, hsc, e1, e2⟩ | ⟨hd, r, hr, ha, e2⟩
  · exact Or.inl h
  · by_cases e : c = b
    · subst e
      exact Or.inr (Or.inr ⟨Or.inr ⟨c, L c, hc, by rw [kh_rus]; omega, e1⟩, rc c, (h3 c hc hsc).1, pk_us, e2⟩)
    · exact Or.inr (Or.inl ⟨c, hc, by rw [kh_fun e]; exact hsc, by rw [kh_run e]; exact e1, e2⟩)
  · refine Or.inr (Or.inr ⟨?_, r, hr, ?_, e2⟩)
    · rcases hd with e1 | ⟨c, k, hc, hk, e1⟩
      · exact Or.inl e1
      · refine Or.inr ⟨c, k, hc, ?_, e1⟩
        by_cases e : c = b
        · rw [e, kh_rus]; rw [e] at hk; omega
        · rw [kh_run e]; exact hk
    · by_cases e : r = rc b
      · rw [e]; exact pk_us
      · rw [pk_un e]; exact ha
theorem kh_pB {b : Nat} {p q : Int32} (C : kh_C s L rc md va lo nu li vs al nm le ri) (hb : b < 6) (hs : s b = true) (hp : kh_p s L rc md al p q) :
    kh_p (kh_fu s b false) (kh_ru L b 0) rc md (upd al (rc b) 0) (kh_rf b p) q := by
  obtain ⟨h1, h2, h3, h4, h5, h6⟩ := C
  rcases hp with ⟨e1, e2⟩ | ⟨c, hc, hsc, e1, e2⟩ | ⟨hd, r, hr, ha, e2⟩
  · exact Or.inl ⟨by rw [e1]; exact kh_rf1 (by decide), e2⟩
  · rw [e1, kh_rfA hb hc (h2 c hc).2]
    by_cases e : c = b
    · subst e
      rw [if_pos rfl]
      exact Or.inr (Or.inr ⟨Or.inl rfl, rc c, (h3 c hc hsc).1, pk_us, e2⟩)
    · rw [if_neg e]
      exact Or.inr (Or.inl ⟨c, hc, by rw [kh_fun e]; exact hsc, by rw [kh_run e], e2⟩)
  · refine Or.inr (Or.inr ⟨?_, r, hr, ?_, e2⟩)
    · rcases hd with e1 | ⟨c, k, hc, hk, e1⟩
      · exact Or.inl (by rw [e1]; exact kh_rf1 (by decide))
      · rw [e1, kh_rfA hb hc (by have := (h2 c hc).2; omega)]
        by_cases e : c = b
        · rw [if_pos e]; exact Or.inl rfl
        · rw [if_neg e]; exact Or.inr ⟨c, k, hc, by rw [kh_run e]; exact hk, rfl⟩
    · by_cases e : r = rc b
      · rw [e]; exact pk_us
      · rw [pk_un e]; exact ha
/-- release without retire, and with it -/
theorem kh_CA {b : Nat} (C : kh_C s L rc md va lo nu li vs al nm le ri) (hb : b < 6) (hs : s b = true) (hl : L b < 3) :
    kh_C (kh_fu s b false) (kh_ru L b (L b + 1)) rc md va (upd lo b (nI (L b + 1))) nu li vs (upd al (rc b) 0) nm le ri := by
  refine kh_CrA C hb hs (fun c hc => ?_) (fun v _ q h => kh_pA C hb hs h) (fun i _ q h => kh_pA C hb hs h)
  by_cases e : c = b
  · subst e; rw [pk_us, kh_rus]; exact ⟨rfl, by omega⟩
  · rw [pk_un e, kh_run e]; exact C.2.1 c hc
theorem kh_CB {b : Nat} (C : kh_C s L rc md va lo nu li vs al nm le ri) (hb : b < 6) (hs : s b = true) :
    kh_C (kh_fu s b false) (kh_ru L b 0) rc md (kh_ra b 8 va) (upd lo b 0) nu (kh_ra b 12 li) vs (upd al (rc b) 0) nm le ri := by
  refine kh_CrA C hb hs (fun c hc => ?_) (fun v hv q h => ?_) (fun i hi q h => ?_)
  · by_cases e : c = b
    · subst e; rw [pk_us, kh_rus]; exact ⟨nI_0.symm, by omega⟩
    · rw [pk_un e, kh_run e]; exact C.2.1 c hc
  · show kh_p _ _ _ _ _ (if v < 8 then kh_rf b (va v) else va v) q
    rw [if_pos hv]; exact kh_pB C hb hs h
  · show kh_p _ _ _ _ _ (if i < 12 then kh_rf b (li i) else li i) q
    rw [if_pos hi]; exact kh_pB C hb hs h
end
end
section
/-! part 04. The walks with loops: retire, release, freeBlock, counts, totals, the reference's sweep -/
section
variable {s : Nat → Bool} {iu tn : Int32} {va lo nu li : Nat → Int32}
theorem kh_xr45 {post : SX → Prop} {b : Nat} (h : post (iu, tn, va, lo, nu, kh_ra b 12 li)) :
    ∀ d j, j + d = 12 → wX_retire_45 post (nI b) iu tn (d + 1) (nI j) va lo nu (kh_ra b j li) := by
  intro d
  induction d with
  | zero =>
    intro j hj
    obtain rfl : j = 12 := by omega
    exact br_t (nI_le (a := 12) (b := 12) (by omega) (by decide)) h
  | succ d ih =>
    intro j hj
    have hn := ih (j + 1) (by omega)
    have hin : vp_in (nI j) 12 := vp_in_nI (by omega) (by decide)
    have hc : (nI j).toNatClampNeg = j := nI_clamp (by omega)
    have e0 : kh_ra b j li (nI j).toNatClampNeg = li j := by rw [hc]; exact if_neg (by omega)
    refine br_f (nI_ge (b := 12) (by omega) (by decide)) (And.intro hin (br_c (fun hz => nm_r (nI_1 j) ?_) (fun hz => And.intro hin ?_)))
    · rw [e0] at hz
      rw [← kh_ra_k (b := b) (a := li) (j := j) (kh_rf1 hz)]
      exact hn
    · rw [e0] at hz
      rw [e0]
      refine kh_xb rfl (br_c (fun hq => And.intro hin (nm_r (e' := kh_ra b (j + 1) li) ?_ (nm_r (nI_1 j) hn))) (fun hq => nm_r (nI_1 j) ?_))
      · rw [hc, kh_nb1]
        exact kh_ra_s (kh_rf2 hz hq)
      · rw [← kh_ra_k (b := b) (a := li) (j := j) (kh_rf3 hz hq)]
        exact hn
theorem kh_xr2 {post : SX → Prop} {b : Nat} (h : post (iu, tn, kh_ra b 8 va, lo, nu, kh_ra b 12 li)) :
    ∀ d j, j + d = 8 → wX_retire_2 post (nI b) iu tn (d + 1) (nI j) (kh_ra b j va) lo nu li := by
  intro d
  induction d with
  | zero =>
    intro j hj
    obtain rfl : j = 8 := by omega
    refine br_t (nI_le (a := 8) (b := 8) (by omega) (by decide)) ⟨13, ?_⟩
    have := kh_xr45 (b := b) (li := li) h 12 0 (by omega)
    rw [kh_ra_0, nI_0] at this
    exact this
  | succ d ih =>
    intro j hj
    have hn := ih (j + 1) (by omega)
    have hin : vp_in (nI j) 8 := vp_in_nI (by omega) (by decide)
    have hc : (nI j).toNatClampNeg = j := nI_clamp (by omega)
    have e0 : kh_ra b j va (nI j).toNatClampNeg = va j := by rw [hc]; exact if_neg (by omega)
    refine br_f (nI_ge (b := 8) (by omega) (by decide)) (And.intro hin (br_c (fun hz => nm_r (nI_1 j) ?_) (fun hz => And.intro hin ?_)))
    · rw [e0] at hz
      rw [← kh_ra_k (b := b) (a := va) (j := j) (kh_rf1 hz)]
      exact hn
    · rw [e0] at hz
      rw [e0]
      refine kh_xb rfl (br_c (fun hq => And.intro hin (nm_r (e' := kh_ra b (j + 1) va) ?_ (nm_r (nI_1 j) hn))) (fun hq => nm_r (nI_1 j) ?_))
      · rw [hc, kh_nb1]
        exact kh_ra_s (kh_rf2 hz hq)
      · rw [← kh_ra_k (b := b) (a := va) (j := j) (kh_rf3 hz hq)]
        exact hn
theorem kh_xret {post : SX → Prop} {b : Nat} (h : post (iu, tn, kh_ra b 8 va, lo, nu, kh_ra b 12 li)) : wpX_retire post (iu, tn, va, lo, nu, li) (nI b) := by
  refine Exists.intro 9 ?_
  have := kh_xr2 (b := b) (va := va) h 8 0 (by omega)
  rw [kh_ra_0, nI_0] at this
  exact this
theorem kh_incA : ∀ l, l < 3 → (nI l + 1).toInt8.toInt32.toInt8.toInt32 = nI (l + 1) := by decide +kernel
theorem kh_xrel {post : SX → Prop} {b l : Nat} (hb : b < 6) (hl : lo b = nI l) (h3 : l ≤ 3)
    (hA : l < 3 → post (kh_k (kh_fu s b false), tn, va, upd lo b (nI (l + 1)), nu, li))
    (hB : l = 3 → post (kh_k (kh_fu s b false), tn, kh_ra b 8 va, upd lo b 0, nu, kh_ra b 12 li)) : wpX_release post (kh_k s, tn, va, lo, nu, li) (nI b) := by
  have hin : vp_in (nI b) 6 := vp_in_nI hb (by decide)
  have hc : (nI b).toNatClampNeg = b := nI_clamp (by omega)
  unfold wpX_release
  dsimp only
  rw [hc, hl]
  refine nm_r (kh_clr s hb) (And.intro hin ?_)
  by_cases h : l < 3
  · refine br_f (nI_ge (b := 3) h (by decide)) (And.intro hin (And.intro hin (nm_r (e' := upd lo b (nI (l + 1))) ?_ (hA h))))
    rw [vp_nar_byte, kh_incA l h]
  · obtain rfl : l = 3 := by omega
    refine br_t (nI_le (a := 3) (b := 3) (by omega) (by decide)) ?_
    refine kh_xret ?_
    exact And.intro hin (nm_r (e' := upd lo b 0) (by rw [kh_nb0]) (hB rfl))
end
/-- release of a block in use, in one row: some locks, variables and links -/
theorem kh_rel {s : Nat → Bool} {L rc : Nat → Nat} {md : Nat} {tn : Int32} {va lo nu li vs al nm le ri : Nat → Int32} {b : Nat} (C : kh_C s L rc md va lo nu li vs al nm le ri) (hb : b < 6) (hs : s b = true) :
    ∃ (L' : Nat → Nat) (va' lo' li' : Nat → Int32), kh_C (kh_fu s b false) L' rc md va' lo' nu li' vs (upd al (rc b) 0) nm le ri ∧
      ∀ post : SX → Prop, post (kh_k (kh_fu s b false), tn, va', lo', nu, li') → wpX_release post (kh_k s, tn, va, lo, nu, li) (nI b) := by
  have hl := C.2.1 b hb
  by_cases h : L b < 3
  · exact ⟨_, _, _, _, kh_CA C hb hs h, fun post hp => kh_xrel hb hl.1 hl.2 (fun _ => hp) (fun e => absurd h (by omega))⟩
  · exact ⟨_, _, _, _, kh_CB C hb hs, fun post hp => kh_xrel hb hl.1 hl.2 (fun e => absurd e h) (fun _ => hp)⟩
section
variable {s : Nat → Bool} {tn : Nat} {va lo nu li : Nat → Int32} {post : Int32 → Prop}
theorem kh_xfb2 (ht : tn < 6) (h1 : ∀ b, b < 6 → s b = false → post (nI b)) (h0 : (∀ b, b < 6 → s b = true) → post (-1)) :
    ∀ d j, j + d = 6 → (∀ i, i < j → s ((tn + i) % 6) = true) → wX_freeBlock_2 post (kh_k s) (nI tn) va lo nu li (d + 1) (nI j) := by
  intro d
  induction d with
  | zero =>
    intro j hj hJ
    obtain rfl : j = 6 := by omega
    refine br_t (nI_le (a := 6) (b := 6) (by omega) (by decide)) (h0 (fun b hb => ?_))
    have h := hJ ((b + 6 - tn) % 6) (by omega)
    rw [show (tn + (b + 6 - tn) % 6) % 6 = b from by omega] at h
    exact h
  | succ d ih =>
    intro j hj hJ
    have h6 : (tn + j) % 6 < 6 := by omega
    refine br_f (nI_ge (b := 6) (by omega) (by decide)) (And.intro (by decide) (nm_r (e' := nI ((tn + j) % 6)) ?_ ?_))
    · rw [nI_add]
      exact pk_rem (d := 6) (by omega) (by decide) (by decide)
    · by_cases hs : s ((tn + j) % 6) = true
      · refine br_f (kh_b1 h6 hs) (nm_r (nI_1 j) (ih (j + 1) (by omega) (fun i hi => ?_)))
        by_cases e : i = j
        · rw [e]; exact hs
        · exact hJ i (by omega)
      · have hf : s ((tn + j) % 6) = false := by revert hs; cases s ((tn + j) % 6) <;> simp
        exact br_t (kh_b0 h6 hf) (h1 _ h6 hf)
theorem kh_xfb (ht : tn < 6) (h1 : ∀ b, b < 6 → s b = false → post (nI b)) (h0 : (∀ b, b < 6 → s b = true) → post (-1)) : wpX_freeBlock post (kh_k s, nI tn, va, lo, nu, li) := by
  refine Exists.intro 7 ?_
  have h := kh_xfb2 (va := va) (lo := lo) (nu := nu) (li := li) ht h1 h0 6 0 (by omega) (fun i hi => absurd hi (by omega))
  rw [nI_0] at h
  exact h
theorem kh_xsz4 (h : post (kh_sm (fun b => if s b = true then 1 else 0) 6)) :
    ∀ d j, j + d = 6 → wX_sizeOf_4 post (kh_k s) (d + 1) (kh_sm (fun b => if s b = true then 1 else 0) j) (nI j) := by
  intro d
  induction d with
  | zero =>
    intro j hj
    obtain rfl : j = 6 := by omega
    exact br_t (nI_le (a := 6) (b := 6) (by omega) (by decide)) h
  | succ d ih =>
    intro j hj
    refine br_f (nI_ge (b := 6) (by omega) (by decide)) (nm_r (e' := kh_sm (fun b => if s b = true then 1 else 0) (j + 1)) ?_ (nm_r (nI_1 j) (ih (j + 1) (by omega))))
    rw [kh_bit s (by omega)]
    rfl
theorem kh_xsz (h : post (kh_sm (fun b => if s b = true then 1 else 0) 6)) : wpX_sizeOf post (kh_k s) := by
  refine Exists.intro 7 ?_
  have h := kh_xsz4 h 6 0 (by omega)
  rw [nI_0] at h
  exact h
theorem kh_xtot4 {tn : Int32} (h : post (kh_sm (fun b => if s b = true then nu b else 0) 6)) :
    ∀ d j, j + d = 6 → wX_total_4 post (kh_k s) tn va lo nu li (d + 1) (kh_sm (fun b => if s b = true then nu b else 0) j) (nI j) := by
  intro d
  induction d with
  | zero =>
    intro j hj
    obtain rfl : j = 6 := by omega
    exact br_t (nI_le (a := 6) (b := 6) (by omega) (by decide)) h
  | succ d ih =>
    intro j hj
    have hn := ih (j + 1) (by omega)
    have hsum : kh_sm (fun b => if s b = true then nu b else 0) (j + 1) = kh_sm (fun b => if s b = true then nu b else 0) j + (if s j = true then nu j else 0) := rfl
    refine br_f (nI_ge (b := 6) (by omega) (by decide)) ?_
    by_cases hs : s j = true
    · refine br_f (kh_b1 (by omega) hs) (And.intro (vp_in_nI (by omega) (by decide)) (nm_r ?_ (nm_r (nI_1 j) hn)))
      rw [hsum, if_pos hs, nI_clamp (by omega)]
    · have hf : s j = false := by revert hs; cases s j <;> simp
      rw [hsum, if_neg hs, Int32.add_zero] at hn
      exact br_t (kh_b0 (by omega) hf) (nm_r (nI_1 j) hn)
theorem kh_xtot {tn : Int32} (h : post (kh_sm (fun b => if s b = true then nu b else 0) 6)) : wpX_total post (kh_k s, tn, va, lo, nu, li) := by
  refine Exists.intro 7 ?_
  have h := kh_xtot4 (tn := tn) (va := va) (lo := lo) (li := li) h 6 0 (by omega)
  rw [nI_0] at h
  exact h
end
section
variable {md : Nat} {vs al nm le ri se : Nat → Int32}
theorem kh_yl4 {post : Int32 → Prop} (hm : md ≤ 512) (h : post (kh_sm (fun r => if al r = 0 then 0 else 1) md)) :
    ∀ d j, j + d = md → wY_live_4 post (nI md) vs al nm le ri se (d + 1) (kh_sm (fun r => if al r = 0 then 0 else 1) j) (nI j) := by
  intro d
  induction d with
  | zero =>
    intro j hj
    obtain rfl : j = md := by omega
    exact br_t (nI_le (Nat.le_refl _) (by omega)) h
  | succ d ih =>
    intro j hj
    have hn := ih (j + 1) (by omega)
    have hsum : kh_sm (fun r => if al r = 0 then 0 else 1) (j + 1) = kh_sm (fun r => if al r = 0 then 0 else 1) j + (if al j = 0 then 0 else 1) := rfl
    refine br_f (nI_ge (by omega) (by omega)) (And.intro (vp_in_nI (by omega) (by decide)) ?_)
    rw [nI_clamp (by omega)]
    refine br_c (fun hz => nm_r ?_ (nm_r (nI_1 j) hn)) (fun hz => nm_r ?_ (nm_r (nI_1 j) hn))
    · rw [hsum, if_pos hz]
    · rw [hsum, if_neg hz]
theorem kh_yl {post : Int32 → Prop} (hm : md ≤ 512) (h : post (kh_sm (fun r => if al r = 0 then 0 else 1) md)) : wpY_live post (nI md, vs, al, nm, le, ri, se) := by
  refine Exists.intro (md + 1) ?_
  have h := kh_yl4 (vs := vs) (nm := nm) (le := le) (ri := ri) (se := se) hm h md 0 (by omega)
  rw [nI_0] at h
  exact h
theorem kh_ytot4 {post : Int32 → Prop} (hm : md ≤ 512) (h : post (kh_sm (fun r => if al r = 0 then 0 else nm r) md)) :
    ∀ d j, j + d = md → wY_total_4 post (nI md) vs al nm le ri se (d + 1) (kh_sm (fun r => if al r = 0 then 0 else nm r) j) (nI j) := by
  intro d
  induction d with
  | zero =>
    intro j hj
    obtain rfl : j = md := by omega
    exact br_t (nI_le (Nat.le_refl _) (by omega)) h
  | succ d ih =>
    intro j hj
    have hn := ih (j + 1) (by omega)
    have hin : vp_in (nI j) 512 := vp_in_nI (by omega) (by decide)
    have hsum : kh_sm (fun r => if al r = 0 then 0 else nm r) (j + 1) = kh_sm (fun r => if al r = 0 then 0 else nm r) j + (if al j = 0 then 0 else nm j) := rfl
    refine br_f (nI_ge (by omega) (by omega)) (And.intro hin ?_)
    rw [nI_clamp (by omega)]
    refine br_c (fun hz => nm_r ?_ (nm_r (nI_1 j) hn)) (fun hz => And.intro hin (nm_r ?_ (nm_r (nI_1 j) hn)))
    · rw [hsum, if_pos hz]
    · rw [hsum, if_neg hz]
theorem kh_ytot {post : Int32 → Prop} (hm : md ≤ 512) (h : post (kh_sm (fun r => if al r = 0 then 0 else nm r) md)) : wpY_total post (nI md, vs, al, nm, le, ri, se) := by
  refine Exists.intro (md + 1) ?_
  have h := kh_ytot4 (vs := vs) (le := le) (ri := ri) (se := se) hm h md 0 (by omega)
  rw [nI_0] at h
  exact h
theorem kh_yre8 {post : Int32 → SY → Prop} (hm : md ≤ 512) (h : post (kh_sm (fun r => if se r = 0 then 0 else 1) md) (nI md, vs, al, nm, le, ri, se)) :
    ∀ d j, j + d = md → wY_reached_8 post (nI md) vs al nm le ri se (d + 1) (kh_sm (fun r => if se r = 0 then 0 else 1) j) (nI j) := by
  intro d
  induction d with
  | zero =>
    intro j hj
    obtain rfl : j = md := by omega
    exact br_t (nI_le (Nat.le_refl _) (by omega)) h
  | succ d ih =>
    intro j hj
    have hn := ih (j + 1) (by omega)
    have hsum : kh_sm (fun r => if se r = 0 then 0 else 1) (j + 1) = kh_sm (fun r => if se r = 0 then 0 else 1) j + (if se j = 0 then 0 else 1) := rfl
    refine br_f (nI_ge (by omega) (by omega)) (And.intro (vp_in_nI (by omega) (by decide)) ?_)
    rw [nI_clamp (by omega)]
    refine br_c (fun hz => nm_r ?_ (nm_r (nI_1 j) hn)) (fun hz => nm_r ?_ (nm_r (nI_1 j) hn))
    · rw [hsum, if_pos hz]
    · rw [hsum, if_neg hz]
/-- the records that the reference's sweep has taken before record j -/
def kh_sw (al se : Nat → Int32) (j : Nat) : Nat → Int32 := fun r => if r < j ∧ se r = 0 then 0 else al r
theorem kh_sw0 : kh_sw al se 0 = al := by
  funext r
  exact if_neg (fun h => absurd h.1 (by omega))
theorem kh_swk {j : Nat} (h : se j = 0 → al j = 0) : kh_sw al se (j + 1) = kh_sw al se j := by
  funext r
  show (if r < j + 1 ∧ se r = 0 then 0 else al r) = if r < j ∧ se r = 0 then 0 else al r
  by_cases hz : se r = 0
  · by_cases e : r = j
    · subst e
      rw [if_pos ⟨by omega, hz⟩, if_neg (fun h => absurd h.1 (by omega)), h hz]
    · by_cases h1 : r < j
      · rw [if_pos ⟨by omega, hz⟩, if_pos ⟨h1, hz⟩]
      · rw [if_neg (fun h => absurd h.1 (by omega)), if_neg (fun h => absurd h.1 h1)]
  · rw [if_neg (fun h => hz h.2), if_neg (fun h => hz h.2)]
theorem kh_sws {j : Nat} (h : se j = 0) : upd (kh_sw al se j) j 0 = kh_sw al se (j + 1) := by
  funext r
  by_cases e : r = j
  · subst e
    rw [pk_us]
    exact (if_pos ⟨by omega, h⟩).symm
  · rw [pk_un e]
    show (if r < j ∧ se r = 0 then 0 else al r) = if r < j + 1 ∧ se r = 0 then 0 else al r
    by_cases h1 : r < j ∧ se r = 0
    · rw [if_pos h1, if_pos ⟨by omega, h1.2⟩]
    · rw [if_neg h1, if_neg (fun h2 => h1 ⟨by omega, h2.2⟩)]
theorem kh_ysw8 {post : Int32 → SY → Prop} (hm : md ≤ 512) (h : post (kh_sm (fun r => if al r = 0 then 0 else if se r = 0 then 1 else 0) md) (nI md, vs, kh_sw al se md, nm, le, ri, se)) :
    ∀ d j, j + d = md → wY_sweep_8 post (nI md) (d + 1) (kh_sm (fun r => if al r = 0 then 0 else if se r = 0 then 1 else 0) j) (nI j) vs (kh_sw al se j) nm le ri se := by
  intro d
  induction d with
  | zero =>
    intro j hj
    obtain rfl : j = md := by omega
    exact br_t (nI_le (Nat.le_refl _) (by omega)) h
  | succ d ih =>
    intro j hj
    have hn := ih (j + 1) (by omega)
    have hin : vp_in (nI j) 512 := vp_in_nI (by omega) (by decide)
    have hsum : kh_sm (fun r => if al r = 0 then 0 else if se r = 0 then 1 else 0) (j + 1) = kh_sm (fun r => if al r = 0 then 0 else if se r = 0 then 1 else 0) j + (if al j = 0 then 0 else if se j = 0 then 1 else 0) := rfl
    have ea : kh_sw al se j j = al j := if_neg (fun h => absurd h.1 (by omega))
    refine br_f (nI_ge (by omega) (by omega)) (And.intro hin ?_)
    rw [nI_clamp (by omega), ea]
    refine br_c (fun hz => nm_r (nI_1 j) ?_) (fun hz => And.intro hin (br_c (fun hy => And.intro hin (nm_r ?_ (nm_r ?_ (nm_r (nI_1 j) hn)))) (fun hy => nm_r (nI_1 j) ?_)))
    · rw [hsum, if_pos hz, Int32.add_zero, kh_swk (fun _ => hz)] at hn
      exact hn
    · rw [kh_nz0]; exact kh_sws hy
    · rw [hsum, if_neg hz, if_pos hy]
    · rw [hsum, if_neg hz, if_neg hy, Int32.add_zero, kh_swk (fun h => absurd h hy)] at hn
      exact hn
end
end
section
/-! part 05. What can be come to: the least set, and both sides' passes reach it -/
/-- p is a live pointer to block b -/
def kh_t (s : Nat → Bool) (L : Nat → Nat) (p : Int32) (b : Nat) : Prop := b < 6 ∧ s b = true ∧ p = nI (1 + b + 8 * L b)
/-- block b has a live link to block d -/
def kh_e (s : Nat → Bool) (L : Nat → Nat) (li : Nat → Int32) (b d : Nat) : Prop := kh_t s L (li (b * 2)) d ∨ kh_t s L (li (b * 2 + 1)) d
/-- the least set that holds the variables' blocks and is closed under links -/
def kh_R (s : Nat → Bool) (L : Nat → Nat) (va li : Nat → Int32) (c : Nat) : Prop :=
  ∀ S : Nat → Prop, (∀ v b, v < 8 → kh_t s L (va v) b → S b) → (∀ b d, S b → kh_e s L li b d → S d) → S c
/-- what holds of the set T behind i passes -/
def kh_I (s : Nat → Bool) (L : Nat → Nat) (va li : Nat → Int32) (i : Nat) (T : Nat → Prop) : Prop :=
  (∀ v b, v < 8 → kh_t s L (va v) b → T b) ∧ (∀ c, T c → kh_R s L va li c) ∧
  ((∀ c, kh_R s L va li c → T c) ∨ ∃ l : List Nat, l.Nodup ∧ l.length = i ∧ ∀ c, c ∈ l → T c)
section
variable {s : Nat → Bool} {L : Nat → Nat} {va li : Nat → Int32}
theorem kh_R6 {c : Nat} (h : kh_R s L va li c) : c < 6 ∧ s c = true :=
  h (fun c => c < 6 ∧ s c = true) (fun v b _ ht => ⟨ht.1, ht.2.1⟩) (fun b d _ he => he.elim (fun ht => ⟨ht.1, ht.2.1⟩) (fun ht => ⟨ht.1, ht.2.1⟩))
theorem kh_Rr {v b : Nat} (hv : v < 8) (h : kh_t s L (va v) b) : kh_R s L va li b := fun _ h1 _ => h1 v b hv h
theorem kh_Re {b d : Nat} (h : kh_R s L va li b) (e : kh_e s L li b d) : kh_R s L va li d := fun S h1 h2 => h2 b d (h S h1 h2) e
theorem kh_I0 {T : Nat → Prop} (h1 : ∀ v b, v < 8 → kh_t s L (va v) b → T b) (h2 : ∀ c, T c → kh_R s L va li c) : kh_I s L va li 0 T :=
  ⟨h1, h2, Or.inr ⟨[], List.nodup_nil, rfl, fun c hc => absurd hc List.not_mem_nil⟩⟩
theorem kh_Is {i : Nat} {T T' : Nat → Prop} (h : kh_I s L va li i T) (h1 : ∀ c, T c → T' c) (h2 : ∀ c, T' c → kh_R s L va li c) (h3 : ∀ b d, T b → kh_e s L li b d → T' d) : kh_I s L va li (i + 1) T' := by
  obtain ⟨a1, a2, a3⟩ := h
  refine ⟨fun v b hv ht => h1 b (a1 v b hv ht), h2, ?_⟩
  rcases a3 with a3 | ⟨l, l1, l2, l3⟩
  · exact Or.inl (fun c hc => h1 c (a3 c hc))
  · by_cases hn : ∃ c, T' c ∧ ¬ T c
    · obtain ⟨c, c1, c2⟩ := hn
      refine Or.inr ⟨c :: l, List.nodup_cons.mpr ⟨fun hm => c2 (l3 c hm), l1⟩, by rw [List.length_cons, l2], fun d hd => ?_⟩
      rcases List.mem_cons.mp hd with e | hd
      · rw [e]; exact c1
      · exact h1 d (l3 d hd)
    · have hcl : ∀ c, T' c → T c := fun c hc => Classical.byContradiction (fun h => hn ⟨c, hc, h⟩)
      exact Or.inl (fun c hc => h1 c (hc T a1 (fun b d hb he => hcl d (h3 b d hb he))))
theorem kh_I6 {T : Nat → Prop} (h : kh_I s L va li 6 T) (c : Nat) : T c ↔ kh_R s L va li c := by
  obtain ⟨a1, a2, a3⟩ := h
  refine ⟨a2 c, fun hc => ?_⟩
  rcases a3 with a3 | ⟨l, l1, l2, l3⟩
  · exact a3 c hc
  · exact l3 c (covers_all 6 l l1 (fun x hx => (kh_R6 (a2 x (l3 x hx))).1) l2 c (kh_R6 hc).1)
end
section
variable {s : Nat → Bool} {L rc : Nat → Nat} {md : Nat} {tn : Int32} {va lo nu li vs al nm le ri se : Nat → Int32}
/-- a pointer's target: none or one, for both sides -/
theorem kh_tg {p q : Int32} (C : kh_C s L rc md va lo nu li vs al nm le ri) (hp : kh_p s L rc md al p q) :
    ((∀ c, ¬ kh_t s L p c) ∧ (∃ r : Int32, ¬ r = 1 ∧ (∀ post : Int32 → Prop, post r → wpX_stateOf post (kh_k s, tn, va, lo, nu, li) p) ∧ (∀ post : Int32 → Prop, post r → wpY_kind post (nI md, vs, al, nm, le, ri, se) q))) ∨
    (∃ b, kh_t s L p b ∧ (∀ c, kh_t s L p c → c = b) ∧ q = nI (rc b + 1) ∧ (∀ post : Int32 → Prop, post 1 → wpX_stateOf post (kh_k s, tn, va, lo, nu, li) p) ∧ (∀ post : Int32 → Prop, post 1 → wpY_kind post (nI md, vs, al, nm, le, ri, se) q)) := by
  obtain ⟨hmd, hlo, hbl, _, _, _⟩ := C
  have hu : ∀ b c k, b < 6 → c < 6 → k ≤ 3 → nI (1 + b + 8 * k) = nI (1 + c + 8 * L c) → b = c ∧ k = L c := by
    intro b c k hb hc hk e
    have h3 := (hlo c hc).2
    rw [nI_eq (by omega) (by omega)] at e
    omega
  rcases hp with ⟨e1, e2⟩ | ⟨b, hb, hs, e1, e2⟩ | ⟨hd, r, hr, ha, e2⟩
  · refine Or.inl ⟨fun c hc => ?_, 0, by decide, fun post h => ?_, fun post h => ?_⟩
    · have h3 := (hlo c hc.1).2
      have h6 : c < 6 := hc.1
      exact nI_ne0 (n := 1 + c + 8 * L c) (by omega) (by omega) (hc.2.2.symm.trans e1)
    · rw [e1]; exact kh_xs0 h
    · rw [e2]; exact kh_yk0 h
  · have hbb := hbl b hb hs
    have h4 := (hlo b hb).2
    refine Or.inr ⟨b, ⟨hb, hs, e1⟩, fun c hc => ((hu b c (L b) hb hc.1 h4 (e1.symm.trans hc.2.2)).1).symm, e2, fun post h => ?_, fun post h => ?_⟩
    · rw [e1]; exact kh_xs1 hb hs (hlo b hb).1 h4 h
    · rw [e2]; exact kh_yk1 (by omega) hbb.2.1 h
  · refine Or.inl ⟨fun c hc => ?_, 2, by decide, fun post h => ?_, fun post h => ?_⟩
    · have h3 := (hlo c hc.1).2
      have h6 : c < 6 := hc.1
      rcases hd with e1 | ⟨b, k, hb, hk, e1⟩
      · exact kh_nm1 (n := 1 + c + 8 * L c) (by omega) (hc.2.2.symm.trans e1)
      · have h4 := (hlo b hb).2
        have h5 := hu b c k hb hc.1 (by omega) (e1.symm.trans hc.2.2)
        rw [h5.1] at hk
        omega
    · rcases hd with e1 | ⟨b, k, hb, hk, e1⟩
      · rw [e1]; exact kh_xs2 h
      · rw [e1]; exact kh_xs3 hb (hlo b hb).1 (hlo b hb).2 hk h
    · rw [e2]; exact kh_yk2 (by omega) ha h
theorem kh_xt {p q : Int32} {t : Nat → Bool} {post : Int32 → Prop} (C : kh_C s L rc md va lo nu li vs al nm le ri) (hp : kh_p s L rc md al p q)
    (h : ∀ t' : Nat → Bool, (∀ c, t' c = true ↔ (t c = true ∨ kh_t s L p c)) → post (kh_k t')) :
    wpX_target (fun r => ∀ x : Int32, x = kh_k t ||| r → post x) (kh_k s, tn, va, lo, nu, li) p := by
  unfold wpX_target
  dsimp only
  rcases kh_tg (tn := tn) (se := fun _ => 0) C hp with ⟨hn, r, hr, hX, _⟩ | ⟨b, hb, hu, _, hX, _⟩
  · refine hX _ (br_f hr (nm_r (kh_or0 t) (h t (fun c => ⟨Or.inl, fun hc => hc.elim id (fun hz => absurd hz (hn c))⟩))))
  · refine hX _ (br_t rfl ?_)
    refine kh_xb (r := nI b) (by rw [hb.2.2]; exact kh_blk hb.1 (C.2.1 b hb.1).2) ?_
    refine nm_r (kh_set t hb.1) (h _ (fun c => ?_))
    by_cases e : c = b
    · rw [e, kh_fus]
      exact ⟨fun _ => Or.inr hb, fun _ => rfl⟩
    · rw [kh_fun e]
      exact ⟨Or.inl, fun hc => hc.elim id (fun hz => absurd (hu c hz) e)⟩
/-- the reference's marks are the set T -/
def kh_ys (s : Nat → Bool) (rc : Nat → Nat) (md : Nat) (se : Nat → Int32) (T : Nat → Prop) : Prop :=
  ∀ r, r < md → (se r ≠ 0 ↔ ∃ c, c < 6 ∧ s c = true ∧ T c ∧ rc c = r)
theorem kh_ycm {p q : Int32} {T : Nat → Prop} {post : Int32 → SY → Prop} (C : kh_C s L rc md va lo nu li vs al nm le ri) (hp : kh_p s L rc md al p q) (hT : kh_ys s rc md se T)
    (h : ∀ (r : Int32) (se' : Nat → Int32), kh_ys s rc md se' (fun c => T c ∨ kh_t s L p c) → post r (nI md, vs, al, nm, le, ri, se')) :
    wpY_come post (nI md, vs, al, nm, le, ri, se) q := by
  unfold wpY_come
  dsimp only
  rcases kh_tg (tn := 0) (se := se) C hp with ⟨hn, r, hr, _, hY⟩ | ⟨b, hb, hu, e2, _, hY⟩
  · refine hY _ (br_f hr (h _ _ (fun r hr => ?_)))
    rw [hT r hr]
    exact ⟨fun ⟨c, c1, c2, c3, c4⟩ => ⟨c, c1, c2, Or.inl c3, c4⟩, fun ⟨c, c1, c2, c3, c4⟩ => ⟨c, c1, c2, c3.elim id (fun hz => absurd hz (hn c)), c4⟩⟩
  · obtain ⟨hmd, hlo, hbl, hin, hsu, _⟩ := C
    have hbb := hbl b hb.1 hb.2.1
    have h5 : vp_in (q - 1) 512 := by rw [e2, nI_pred]; exact vp_in_nI (by omega) (by decide)
    have hc : (q - 1).toNatClampNeg = rc b := by rw [e2, nI_pred]; exact nI_clamp (by omega)
    refine hY _ (br_t rfl (And.intro h5 ?_))
    rw [hc]
    refine br_c (fun hz => And.intro h5 (nm_r (e' := upd se (rc b) 1) rfl (h _ _ (fun r hr => ?_)))) (fun hz => h _ _ (fun r hr => ?_))
    · by_cases e : r = rc b
      · rw [e, pk_us]
        exact ⟨fun _ => ⟨b, hb.1, hb.2.1, Or.inr hb, rfl⟩, fun _ => by decide⟩
      · rw [pk_un e, hT r hr]
        exact ⟨fun ⟨c, c1, c2, c3, c4⟩ => ⟨c, c1, c2, Or.inl c3, c4⟩, fun ⟨c, c1, c2, c3, c4⟩ => ⟨c, c1, c2, c3.elim id (fun hz => absurd (by rw [← c4, hu c hz]) e), c4⟩⟩
    · rw [hT r hr]
      refine ⟨fun ⟨c, c1, c2, c3, c4⟩ => ⟨c, c1, c2, Or.inl c3, c4⟩, fun ⟨c, c1, c2, c3, c4⟩ => ⟨c, c1, c2, c3.elim id (fun hq => ?_), c4⟩⟩
      obtain ⟨d, d1, d2, d3, d4⟩ := (hT (rc b) hbb.1).mp hz
      rw [hu c hq, ← hin d b d1 hb.1 d2 hb.2.1 d4]
      exact d3
end
end
section
/-! part 06. mark and look -/
section
variable {s : Nat → Bool} {L rc : Nat → Nat} {md : Nat} {tn : Int32} {va lo nu li vs al nm le ri se : Nat → Int32}
theorem kh_mk39 {post : Int32 → Prop} {J : Int32 → Int32 → Prop} {x2 : Int32} {T0 : Nat → Prop} (C : kh_C s L rc md va lo nu li vs al nm le ri)
    (hJ : ∀ t : Nat → Bool, (∀ c, T0 c → t c = true) → (∀ c, t c = true → kh_R s L va li c) → (∀ b d, T0 b → kh_e s L li b d → t d = true) → ∀ y : Int32, y = x2 + 1 → J (kh_k t) y) :
    ∀ d j, j + d = 12 → ∀ t : Nat → Bool, (∀ c, T0 c → t c = true) → (∀ c, t c = true → kh_R s L va li c) → (∀ m e, m < j → T0 (m / 2) → kh_t s L (li m) e → t e = true) →
      wX_mark_39 post J x2 (kh_k s) tn va lo nu li (d + 1) (kh_k t) (nI j) := by
  intro d
  induction d with
  | zero =>
    intro j hj t h1 h2 h3
    obtain rfl : j = 12 := by omega
    refine br_t (nI_le (a := 12) (b := 12) (by omega) (by decide)) (hJ t h1 h2 (fun b e hb he => ?_))
    have hb6 := (kh_R6 (h2 b (h1 b hb))).1
    rcases he with he | he
    · exact h3 (b * 2) e (by omega) (by rw [show b * 2 / 2 = b from by omega]; exact hb) he
    · exact h3 (b * 2 + 1) e (by omega) (by rw [show (b * 2 + 1) / 2 = b from by omega]; exact hb) he
  | succ d ih =>
    intro j hj t h1 h2 h3
    have hj6 : j / 2 < 6 := by omega
    have e : nI j >>> ((1 : Int32) &&& 31) = nI (j / 2) := pk_shrN (by omega) _ 1 (by decide)
    have hin : vp_in (nI j) 12 := vp_in_nI (by omega) (by decide)
    refine br_f (nI_ge (b := 12) (by omega) (by decide)) ?_
    rw [e, nI_clamp (by omega)]
    by_cases ht : t (j / 2) = true
    · have hR := h2 _ ht
      have hB := C.2.2.1 (j / 2) hj6 (kh_R6 hR).2
      have hp : ∃ q, kh_p s L rc md al (li j) q := by
        by_cases ej : j = j / 2 * 2
        · exact ⟨_, by have h := hB.2.2.2.1; rw [← ej] at h; exact h⟩
        · have ej : j = j / 2 * 2 + 1 := by omega
          exact ⟨_, by have h := hB.2.2.2.2; rw [← ej] at h; exact h⟩
      obtain ⟨q, hp⟩ := hp
      refine br_f (kh_b1 hj6 ht) (And.intro hin (kh_xt C hp (fun t' ht' => nm_r (nI_1 j) (ih (j + 1) (by omega) t' (fun c hc => (ht' c).mpr (Or.inl (h1 c hc))) (fun c hc => ?_) (fun m e hm hT he => ?_)))))
      · rcases (ht' c).mp hc with hc | hc
        · exact h2 c hc
        · refine kh_Re hR ?_
          by_cases ej : j = j / 2 * 2
          · exact Or.inl (by rw [← ej]; exact hc)
          · have ej : j = j / 2 * 2 + 1 := by omega
            exact Or.inr (by rw [← ej]; exact hc)
      · by_cases em : m = j
        · rw [em] at he; exact (ht' e).mpr (Or.inr he)
        · exact (ht' e).mpr (Or.inl (h3 m e (by omega) hT he))
    · have hf : t (j / 2) = false := by revert ht; cases t (j / 2) <;> simp
      refine br_t (kh_b0 hj6 hf) (nm_r (nI_1 j) (ih (j + 1) (by omega) t h1 h2 (fun m e hm hT he => ?_)))
      by_cases em : m = j
      · rw [em] at hT; exact absurd (h1 _ hT) ht
      · exact h3 m e (by omega) hT he
theorem kh_mk31 {post : Int32 → Prop} (C : kh_C s L rc md va lo nu li vs al nm le ri) (h : ∀ t : Nat → Bool, kh_I s L va li 6 (fun c => t c = true) → post (kh_k t)) :
    ∀ d i, i + d = 6 → ∀ t : Nat → Bool, kh_I s L va li i (fun c => t c = true) → wX_mark_31 post (kh_k s) tn va lo nu li (d + 1) (kh_k t) (nI i) := by
  intro d
  induction d with
  | zero =>
    intro i hi t hI
    obtain rfl : i = 6 := by omega
    exact br_t (nI_le (a := 6) (b := 6) (by omega) (by decide)) (h t hI)
  | succ d ih =>
    intro i hi t hI
    refine br_f (nI_ge (b := 6) (by omega) (by decide)) ⟨13, ?_⟩
    have hh := kh_mk39 (post := post) (J := wX_mark_31 post (kh_k s) tn va lo nu li (d + 1)) (x2 := nI i) (tn := tn) (T0 := fun c => t c = true) C
      (fun t' h1 h2 h3 => nm_r (nI_1 i) (ih (i + 1) (by omega) t' (kh_Is hI h1 h2 h3))) 12 0 (by omega) t (fun c hc => hc) hI.2.1 (fun m e hm => absurd hm (by omega))
    rw [nI_0] at hh
    exact hh
theorem kh_mk4 {post : Int32 → Prop} (C : kh_C s L rc md va lo nu li vs al nm le ri) (h : ∀ t : Nat → Bool, kh_I s L va li 6 (fun c => t c = true) → post (kh_k t)) :
    ∀ d j, j + d = 8 → ∀ t : Nat → Bool, (∀ c, t c = true → kh_R s L va li c) → (∀ v b, v < j → kh_t s L (va v) b → t b = true) → wX_mark_4 post (kh_k s) tn va lo nu li (d + 1) (kh_k t) (nI j) := by
  intro d
  induction d with
  | zero =>
    intro j hj t h1 h2
    obtain rfl : j = 8 := by omega
    refine br_t (nI_le (a := 8) (b := 8) (by omega) (by decide)) ⟨7, ?_⟩
    have hh := kh_mk31 (post := post) (tn := tn) C h 6 0 (by omega) t (kh_I0 h2 h1)
    rw [nI_0] at hh
    exact hh
  | succ d ih =>
    intro j hj t h1 h2
    refine br_f (nI_ge (b := 8) (by omega) (by decide)) (And.intro (vp_in_nI (by omega) (by decide)) ?_)
    rw [nI_clamp (by omega)]
    refine kh_xt C (C.2.2.2.2.2 j (by omega)) (fun t' ht' => nm_r (nI_1 j) (ih (j + 1) (by omega) t' (fun c hc => ?_) (fun v b hv hb => ?_)))
    · rcases (ht' c).mp hc with hc | hc
      · exact h1 c hc
      · exact kh_Rr (v := j) (by omega) hc
    · by_cases ev : v = j
      · rw [ev] at hb; exact (ht' b).mpr (Or.inr hb)
      · exact (ht' b).mpr (Or.inl (h2 v b (by omega) hb))
theorem kh_mark {post : Int32 → Prop} (C : kh_C s L rc md va lo nu li vs al nm le ri) (h : ∀ t : Nat → Bool, (∀ c, t c = true ↔ kh_R s L va li c) → post (kh_k t)) : wpX_mark post (kh_k s, tn, va, lo, nu, li) := by
  refine Exists.intro 9 ?_
  have hh := kh_mk4 (post := post) (tn := tn) C (fun t ht => h t (fun c => kh_I6 ht c)) 8 0 (by omega) (fun _ => false) (fun c hc => absurd hc Bool.false_ne_true) (fun v b hv => absurd hv (by omega))
  rw [nI_0, kh_k0] at hh
  exact hh
theorem kh_lk57 {post : SY → Prop} {J : Int32 → Int32 → (Nat → Int32) → (Nat → Int32) → (Nat → Int32) → (Nat → Int32) → (Nat → Int32) → (Nat → Int32) → Prop} {x1 : Int32} {T0 : Nat → Prop} (C : kh_C s L rc md va lo nu li vs al nm le ri)
    (hJ : ∀ (se : Nat → Int32) (T : Nat → Prop), kh_ys s rc md se T → (∀ c, T0 c → T c) → (∀ c, T c → kh_R s L va li c) → (∀ b e, T0 b → kh_e s L li b e → T e) → ∀ y : Int32, y = x1 + 1 → J y (nI md) vs al nm le ri se) :
    ∀ d j, j + d = md → ∀ (se : Nat → Int32) (T : Nat → Prop), kh_ys s rc md se T → (∀ c, T0 c → T c) → (∀ c, T c → kh_R s L va li c) → (∀ b e, T0 b → rc b < j → kh_e s L li b e → T e) →
      wY_look_57 post J x1 (d + 1) (nI j) (nI md) vs al nm le ri se := by
  have hmd := C.1
  intro d
  induction d with
  | zero =>
    intro j hj se T h0 h1 h2 h3
    obtain rfl : j = md := by omega
    refine br_t (nI_le (Nat.le_refl _) (by omega)) (hJ se T h0 h1 h2 (fun b e hb he => h3 b e hb ?_ he))
    have hR := kh_R6 (h2 b (h1 b hb))
    exact (C.2.2.1 b hR.1 hR.2).1
  | succ d ih =>
    intro j hj se T h0 h1 h2 h3
    have hin : vp_in (nI j) 512 := vp_in_nI (by omega) (by decide)
    refine br_f (nI_ge (by omega) (by omega)) (And.intro hin ?_)
    rw [nI_clamp (by omega)]
    refine br_c (fun hz => nm_r (nI_1 j) (ih (j + 1) (by omega) se T h0 h1 h2 (fun b e hb hlt he => ?_))) (fun hz => And.intro hin ?_)
    · by_cases eb : rc b = j
      · have hR := kh_R6 (h2 b (h1 b hb))
        exact absurd hz ((h0 j (by omega)).mpr ⟨b, hR.1, hR.2, h1 b hb, eb⟩)
      · exact h3 b e hb (by omega) he
    · obtain ⟨b, hb, hs, hTb, eb⟩ := (h0 j (by omega)).mp hz
      obtain ⟨b1, b2, b3, b4, b5⟩ := C.2.2.1 b hb hs
      rw [eb] at b4 b5
      refine kh_ycm C b4 h0 (fun r se' h0' => And.intro hin (kh_ycm C b5 h0' (fun r' se'' h0'' => nm_r (nI_1 j) (ih (j + 1) (by omega) se'' _ h0'' (fun c hc => Or.inl (Or.inl (h1 c hc))) (fun c hc => ?_) (fun b' e hb' hlt he => ?_)))))
      · rcases hc with (hc | hc) | hc
        · exact h2 c hc
        · exact kh_Re (h2 b hTb) (Or.inl hc)
        · exact kh_Re (h2 b hTb) (Or.inr hc)
      · by_cases e1 : rc b' = j
        · have hR := kh_R6 (h2 b' (h1 b' hb'))
          have ebb : b' = b := C.2.2.2.1 b' b hR.1 hb hR.2 hs (e1.trans eb.symm)
          rw [ebb] at he
          rcases he with he | he
          · exact Or.inl (Or.inr he)
          · exact Or.inr he
        · exact Or.inl (Or.inl (h3 b' e hb' (by omega) he))
theorem kh_lk49 {post : SY → Prop} (C : kh_C s L rc md va lo nu li vs al nm le ri) (h : ∀ (se : Nat → Int32) (T : Nat → Prop), kh_ys s rc md se T → kh_I s L va li 6 T → post (nI md, vs, al, nm, le, ri, se)) :
    ∀ d i, i + d = 6 → ∀ (se : Nat → Int32) (T : Nat → Prop), kh_ys s rc md se T → kh_I s L va li i T → wY_look_49 post (d + 1) (nI i) (nI md) vs al nm le ri se := by
  intro d
  induction d with
  | zero =>
    intro i hi se T h0 hI
    obtain rfl : i = 6 := by omega
    exact br_t (nI_le (a := 6) (b := 6) (by omega) (by decide)) (h se T h0 hI)
  | succ d ih =>
    intro i hi se T h0 hI
    refine br_f (nI_ge (b := 6) (by omega) (by decide)) ⟨md + 1, ?_⟩
    have hh := kh_lk57 (post := post) (J := wY_look_49 post (d + 1)) (x1 := nI i) (T0 := T) C
      (fun se' T' h0' h1 h2 h3 => nm_r (nI_1 i) (ih (i + 1) (by omega) se' T' h0' (kh_Is hI h1 h2 h3))) md 0 (by omega) se T h0 (fun c hc => hc) hI.2.1 (fun b e _ hlt => absurd hlt (by omega))
    rw [nI_0] at hh
    exact hh
theorem kh_lk24 {post : SY → Prop} (C : kh_C s L rc md va lo nu li vs al nm le ri) (h : ∀ (se : Nat → Int32) (T : Nat → Prop), kh_ys s rc md se T → kh_I s L va li 6 T → post (nI md, vs, al, nm, le, ri, se)) :
    ∀ d j, j + d = 8 → ∀ (se : Nat → Int32) (T : Nat → Prop), kh_ys s rc md se T → (∀ c, T c → kh_R s L va li c) → (∀ v b, v < j → kh_t s L (va v) b → T b) → wY_look_24 post (d + 1) (nI j) (nI md) vs al nm le ri se := by
  intro d
  induction d with
  | zero =>
    intro j hj se T h0 h1 h2
    obtain rfl : j = 8 := by omega
    refine br_t (nI_le (a := 8) (b := 8) (by omega) (by decide)) ⟨7, ?_⟩
    have hh := kh_lk49 (post := post) C h 6 0 (by omega) se T h0 (kh_I0 h2 h1)
    rw [nI_0] at hh
    exact hh
  | succ d ih =>
    intro j hj se T h0 h1 h2
    refine br_f (nI_ge (b := 8) (by omega) (by decide)) (And.intro (vp_in_nI (by omega) (by decide)) ?_)
    rw [nI_clamp (by omega)]
    refine kh_ycm C (C.2.2.2.2.2 j (by omega)) h0 (fun r se' h0' => nm_r (nI_1 j) (ih (j + 1) (by omega) se' _ h0' (fun c hc => ?_) (fun v b hv hb => ?_)))
    · rcases hc with hc | hc
      · exact h1 c hc
      · exact kh_Rr (v := j) (by omega) hc
    · by_cases ev : v = j
      · rw [ev] at hb; exact Or.inr hb
      · exact Or.inl (h2 v b (by omega) hb)
theorem kh_lk2 {post : SY → Prop} (h : ∀ se : Nat → Int32, (∀ r, r < 512 → se r = 0) → ∃ n, wY_look_24 post n 0 (nI md) vs al nm le ri se) :
    ∀ d j, j + d = 512 → ∀ se : Nat → Int32, (∀ r, r < j → se r = 0) → wY_look_2 post (nI md) (d + 1) (nI j) vs al nm le ri se := by
  intro d
  induction d with
  | zero =>
    intro j hj se h0
    obtain rfl : j = 512 := by omega
    exact br_t (nI_le (a := 512) (b := 512) (by omega) (by decide)) (h se h0)
  | succ d ih =>
    intro j hj se h0
    refine br_f (nI_ge (b := 512) (by omega) (by decide)) (And.intro (vp_in_nI (by omega) (by decide)) ?_)
    rw [nI_clamp (by omega)]
    refine nm_r (e' := upd se j 0) (by rw [kh_nz0]) (nm_r (nI_1 j) (ih (j + 1) (by omega) _ (fun r hr => ?_)))
    by_cases e : r = j
    · rw [e, pk_us]
    · rw [pk_un e]; exact h0 r (by omega)
theorem kh_look {post : SY → Prop} (C : kh_C s L rc md va lo nu li vs al nm le ri) (h : ∀ se' : Nat → Int32, kh_ys s rc md se' (kh_R s L va li) → post (nI md, vs, al, nm, le, ri, se')) : wpY_look post (nI md, vs, al, nm, le, ri, se) := by
  refine Exists.intro 513 ?_
  have hmd := C.1
  have hh := kh_lk2 (post := post) (md := md) (vs := vs) (al := al) (nm := nm) (le := le) (ri := ri) (fun se' h0 => ⟨9, by
    have h8 := kh_lk24 (post := post) C (fun se2 T h1 hI => h se2 (fun r hr => by
      rw [h1 r hr]
      exact ⟨fun ⟨c, c1, c2, c3, c4⟩ => ⟨c, c1, c2, (kh_I6 hI c).mp c3, c4⟩, fun ⟨c, c1, c2, c3, c4⟩ => ⟨c, c1, c2, (kh_I6 hI c).mpr c3, c4⟩⟩)) 8 0 (by omega) se' (fun _ => False)
      (fun r hr => ⟨fun hz => absurd (h0 r (by omega)) hz, fun ⟨c, _, _, c3, _⟩ => c3.elim⟩) (fun c hc => hc.elim) (fun v b hv => absurd hv (by omega))
    rw [nI_0] at h8
    exact h8⟩) 512 0 (by omega) se (fun r hr => absurd hr (by omega))
  rw [nI_0] at hh
  exact hh
end
end
section
/-! part 07. The relation, and the calls without loops -/
/-- the relation at the head of a turn whose first cell is k: (u : SX) is (f_inUse, f_turn, a_variables, a_locks, a_numbers, a_links), (v : SY) is (f_made, a_vars, a_alive, a_num, a_left, a_right, a_seen) -/
def i_Rel (k : Nat) (u : SX) (v : SY) : Prop :=
  ∃ (s : Nat → Bool) (L rc : Nat → Nat) (tn md : Nat) (va lo nu li vs al nm le ri se : Nat → Int32),
    u = (kh_k s, nI tn, va, lo, nu, li) ∧ v = (nI md, vs, al, nm, le, ri, se) ∧ tn < 6 ∧ 4 * md ≤ k ∧ kh_C s L rc md va lo nu li vs al nm le ri
theorem kh_mkR {k : Nat} {s : Nat → Bool} {L rc : Nat → Nat} {tn md : Nat} {va lo nu li vs al nm le ri se : Nat → Int32} (h1 : tn < 6) (h2 : 4 * md ≤ k) (C : kh_C s L rc md va lo nu li vs al nm le ri) :
    i_Rel k (kh_k s, nI tn, va, lo, nu, li) (nI md, vs, al, nm, le, ri, se) :=
  ⟨s, L, rc, tn, md, va, lo, nu, li, vs, al, nm, le, ri, se, rfl, rfl, h1, h2, C⟩
theorem kh_el {k : Nat} {u : SX} {v : SY} {P : SX → SY → Prop}
    (h : ∀ (s : Nat → Bool) (L rc : Nat → Nat) (tn md : Nat) (va lo nu li vs al nm le ri se : Nat → Int32), tn < 6 → 4 * md ≤ k → kh_C s L rc md va lo nu li vs al nm le ri → P (kh_k s, nI tn, va, lo, nu, li) (nI md, vs, al, nm, le, ri, se))
    (I : i_Rel k u v) : P u v := by
  obtain ⟨s, L, rc, tn, md, va, lo, nu, li, vs, al, nm, le, ri, se, e1, e2, h1, h2, C⟩ := I
  rw [e1, e2]
  exact h s L rc tn md va lo nu li vs al nm le ri se h1 h2 C
theorem i_up {k : Nat} {u : SX} {v : SY} (h : i_Rel k u v) : i_Rel (k + 4) u v := by
  refine kh_el (P := fun u v => i_Rel (k + 4) u v) ?_ h
  intro s L rc tn md va lo nu li vs al nm le ri se h1 h2 C
  exact kh_mkR h1 (by omega) C
theorem kh_C0 : kh_C (fun _ => false) (fun _ => 0) (fun _ => 0) 0 (fun _ => 0) (fun _ => 0) (fun _ => 0) (fun _ => 0) (fun _ => 0) (fun _ => 0) (fun _ => 0) (fun _ => 0) (fun _ => 0) :=
  ⟨by decide, fun b _ => ⟨nI_0.symm, Nat.zero_le 3⟩, fun b _ hs => absurd hs Bool.false_ne_true, fun b c _ _ hs => absurd hs Bool.false_ne_true, fun r hr => absurd hr (by omega), fun v _ => Or.inl ⟨rfl, rfl⟩⟩
theorem i_vc0 : wpX_init (fun u => wpY_init (fun v => i_Rel 0 u v)) := by
  have h := kh_mkR (k := 0) (tn := 0) (se := fun _ => 0) (by decide) (by decide) kh_C0
  rw [kh_k0, nI_0] at h
  exact h
theorem i_vc_setNil {k : Nat} {u : SX} {v : SY} (I : i_Rel k u v) (hk : k + 4 ≤ 2048) (v1 : Int32) : wpX_setNil (fun r u' => wpY_setNil (fun r' v' => r' = r ∧ i_Rel (k + 4) u' v') v v1) u v1 := by
  refine kh_el (P := fun u v => wpX_setNil (fun r u' => wpY_setNil (fun r' v' => r' = r ∧ i_Rel (k + 4) u' v') v v1) u v1) ?_ I
  intro s L rc tn md va lo nu li vs al nm le ri se htn h4 C
  have hup : i_Rel (k + 4) (kh_k s, nI tn, va, lo, nu, li) (nI md, vs, al, nm, le, ri, se) := kh_mkR htn (by omega) C
  unfold wpX_setNil wpY_setNil
  dsimp only
  rcases kh_ix v1 with hb | ⟨j, hj, rfl⟩
  · exact kh_xv0 hb (br_t rfl (kh_yv0 hb (br_t rfl ⟨rfl, hup⟩)))
  · have ij : vp_in (nI j) 8 := vp_in_nI hj (by decide)
    have cj : (nI j).toNatClampNeg = j := nI_clamp (by omega)
    refine kh_xv1 hj (br_f (by decide) (And.intro ij (nm_r (e' := upd va j 0) (by rw [cj, kh_nb0]) ?_)))
    refine kh_yv1 hj (br_f (by decide) (And.intro ij (nm_r (e' := upd vs j 0) (by rw [cj]) ?_)))
    exact ⟨rfl, kh_mkR htn (by omega) (kh_Cva C (Or.inl ⟨rfl, rfl⟩))⟩
theorem i_vc_copy {k : Nat} {u : SX} {v : SY} (I : i_Rel k u v) (hk : k + 4 ≤ 2048) (v1 : Int32) (v2 : Int32) : wpX_copy (fun r u' => wpY_copy (fun r' v' => r' = r ∧ i_Rel (k + 4) u' v') v v1 v2) u v1 v2 := by
  refine kh_el (P := fun u v => wpX_copy (fun r u' => wpY_copy (fun r' v' => r' = r ∧ i_Rel (k + 4) u' v') v v1 v2) u v1 v2) ?_ I
  intro s L rc tn md va lo nu li vs al nm le ri se htn h4 C
  have hup : i_Rel (k + 4) (kh_k s, nI tn, va, lo, nu, li) (nI md, vs, al, nm, le, ri, se) := kh_mkR htn (by omega) C
  unfold wpX_copy wpY_copy
  dsimp only
  rcases kh_ix v1 with hb | ⟨j, hj, rfl⟩
  · exact kh_xv0 hb (br_t rfl (kh_yv0 hb (br_t rfl ⟨rfl, hup⟩)))
  · refine kh_xv1 hj (br_f (by decide) ?_)
    rcases kh_ix v2 with hb | ⟨w, hw, rfl⟩
    · exact kh_xv0 hb (br_t rfl (kh_yv1 hj (br_f (by decide) (kh_yv0 hb (br_t rfl ⟨rfl, hup⟩)))))
    · have ij : vp_in (nI j) 8 := vp_in_nI hj (by decide)
      have cj : (nI j).toNatClampNeg = j := nI_clamp (by omega)
      have iw : vp_in (nI w) 8 := vp_in_nI hw (by decide)
      have cw : (nI w).toNatClampNeg = w := nI_clamp (by omega)
      have hp := C.2.2.2.2.2 w hw
      refine kh_xv1 hw (br_f (by decide) (And.intro iw (And.intro ij (nm_r (e' := upd va j (va w)) (by rw [cj, cw, kh_pb C hp]) ?_))))
      refine kh_yv1 hj (br_f (by decide) (kh_yv1 hw (br_f (by decide) (And.intro iw (And.intro ij (nm_r (e' := upd vs j (vs w)) (by rw [cj, cw]) ?_))))))
      exact ⟨rfl, kh_mkR htn (by omega) (kh_Cva C hp)⟩
theorem i_vc_dispose {k : Nat} {u : SX} {v : SY} (I : i_Rel k u v) (hk : k + 4 ≤ 2048) (v1 : Int32) : wpX_dispose (fun r u' => wpY_dispose (fun r' v' => r' = r ∧ i_Rel (k + 4) u' v') v v1) u v1 := by
  refine kh_el (P := fun u v => wpX_dispose (fun r u' => wpY_dispose (fun r' v' => r' = r ∧ i_Rel (k + 4) u' v') v v1) u v1) ?_ I
  intro s L rc tn md va lo nu li vs al nm le ri se htn h4 C
  have hup : i_Rel (k + 4) (kh_k s, nI tn, va, lo, nu, li) (nI md, vs, al, nm, le, ri, se) := kh_mkR htn (by omega) C
  unfold wpX_dispose wpY_dispose
  dsimp only
  rcases kh_ix v1 with hb | ⟨j, hj, rfl⟩
  · exact kh_xv0 hb (br_t rfl (kh_yv0 hb (br_t rfl ⟨rfl, hup⟩)))
  · have ij : vp_in (nI j) 8 := vp_in_nI hj (by decide)
    have cj : (nI j).toNatClampNeg = j := nI_clamp (by omega)
    refine kh_xv1 hj (br_f (by decide) ?_)
    rcases kh_via (tn := nI tn) (se := se) C hj with ⟨r, hr, hX, hY⟩ | ⟨b, hb, hs, e1, e2, hX, hY⟩
    · exact hX _ (br_f hr (kh_yv1 hj (br_f (by decide) (hY _ (br_f hr ⟨rfl, hup⟩)))))
    · have hB := C.2.2.1 b hb hs
      have hmd := C.1
      refine hX _ (br_t rfl (And.intro ij (kh_xb (r := nI b) (by rw [cj, e1]; exact kh_blk hb (C.2.1 b hb).2) ?_)))
      obtain ⟨L', va', lo', li', C', hR⟩ := kh_rel (tn := nI tn) C hb hs
      refine hR _ ?_
      refine kh_yv1 hj (br_f (by decide) (hY _ (br_t rfl (And.intro ij (And.intro ?_ (nm_r (e' := upd al (rc b) 0) ?_ ⟨rfl, kh_mkR htn (by omega) C'⟩))))))
      · rw [cj, e2, nI_pred]; exact vp_in_nI (by omega) (by decide)
      · rw [cj, e2, nI_pred, nI_clamp (by omega), kh_nz0]
theorem i_vc_setNumber {k : Nat} {u : SX} {v : SY} (I : i_Rel k u v) (hk : k + 4 ≤ 2048) (v1 : Int32) (v2 : Int32) : wpX_setNumber (fun r u' => wpY_setNumber (fun r' v' => r' = r ∧ i_Rel (k + 4) u' v') v v1 v2) u v1 v2 := by
  refine kh_el (P := fun u v => wpX_setNumber (fun r u' => wpY_setNumber (fun r' v' => r' = r ∧ i_Rel (k + 4) u' v') v v1 v2) u v1 v2) ?_ I
  intro s L rc tn md va lo nu li vs al nm le ri se htn h4 C
  have hup : i_Rel (k + 4) (kh_k s, nI tn, va, lo, nu, li) (nI md, vs, al, nm, le, ri, se) := kh_mkR htn (by omega) C
  unfold wpX_setNumber wpY_setNumber
  dsimp only
  rcases kh_ix v1 with hb | ⟨j, hj, rfl⟩
  · exact kh_xv0 hb (br_t rfl (kh_yv0 hb (br_t rfl ⟨rfl, hup⟩)))
  · have ij : vp_in (nI j) 8 := vp_in_nI hj (by decide)
    have cj : (nI j).toNatClampNeg = j := nI_clamp (by omega)
    refine kh_xv1 hj (br_f (by decide) ?_)
    rcases kh_via (tn := nI tn) (se := se) C hj with ⟨r, hr, hX, hY⟩ | ⟨b, hb, hs, e1, e2, hX, hY⟩
    · exact hX _ (br_f hr (kh_yv1 hj (br_f (by decide) (hY _ (br_f hr ⟨rfl, hup⟩)))))
    · have hB := C.2.2.1 b hb hs
      have hmd := C.1
      refine hX _ (br_t rfl (And.intro ij (kh_xb (r := nI b) (by rw [cj, e1]; exact kh_blk hb (C.2.1 b hb).2) ?_)))
      refine And.intro (vp_in_nI hb (by decide)) (nm_r (e' := upd nu b v2) (by rw [nI_clamp (by omega)]) ?_)
      refine kh_yv1 hj (br_f (by decide) (hY _ (br_t rfl (And.intro ij (And.intro ?_ (nm_r (e' := upd nm (rc b) v2) ?_ ⟨rfl, kh_mkR htn (by omega) (kh_Cnu C hb hs)⟩))))))
      · rw [cj, e2, nI_pred]; exact vp_in_nI (by omega) (by decide)
      · rw [cj, e2, nI_pred, nI_clamp (by omega)]
section
variable {post : Int32 → Prop}
theorem kh_xl0 (h : post 1) : wpX_isLink post 0 := br_t rfl h
theorem kh_xl1 (h : post 1) : wpX_isLink post 1 := br_f (by decide) (br_t rfl h)
theorem kh_xl2 {p : Int32} (h0 : ¬ p = 0) (h1 : ¬ p = 1) (h : post 0) : wpX_isLink post p := br_f h0 (br_f h1 h)
theorem kh_i0 (b : Nat) : nI b * 2 + 0 = nI (b * 2) := by rw [Int32.add_zero]; exact pk_mul b 2
theorem kh_i1 (b : Nat) : nI b * 2 + 1 = nI (b * 2 + 1) := by rw [← nI_1]; exact congrArg (· + 1) (pk_mul b 2)
end
theorem i_vc_setLink {k : Nat} {u : SX} {v : SY} (I : i_Rel k u v) (hk : k + 4 ≤ 2048) (v1 : Int32) (v2 : Int32) (v3 : Int32) : wpX_setLink (fun r u' => wpY_setLink (fun r' v' => r' = r ∧ i_Rel (k + 4) u' v') v v1 v2 v3) u v1 v2 v3 := by
  refine kh_el (P := fun u v => wpX_setLink (fun r u' => wpY_setLink (fun r' v' => r' = r ∧ i_Rel (k + 4) u' v') v v1 v2 v3) u v1 v2 v3) ?_ I
  intro s L rc tn md va lo nu li vs al nm le ri se htn h4 C
  have hup : i_Rel (k + 4) (kh_k s, nI tn, va, lo, nu, li) (nI md, vs, al, nm, le, ri, se) := kh_mkR htn (by omega) C
  unfold wpX_setLink wpY_setLink wY_setLink_27
  dsimp only
  rcases kh_ix v1 with hb | ⟨j, hj, rfl⟩
  · exact kh_xv0 hb (br_t rfl (kh_yv0 hb (br_t rfl ⟨rfl, hup⟩)))
  · refine kh_xv1 hj (br_f (by decide) ?_)
    rcases kh_ix v3 with hb | ⟨w, hw, rfl⟩
    · exact kh_xv0 hb (br_t rfl (kh_yv1 hj (br_f (by decide) (kh_yv0 hb (br_t rfl ⟨rfl, hup⟩)))))
    · have ij : vp_in (nI j) 8 := vp_in_nI hj (by decide)
      have cj : (nI j).toNatClampNeg = j := nI_clamp (by omega)
      have iw : vp_in (nI w) 8 := vp_in_nI hw (by decide)
      have cw : (nI w).toNatClampNeg = w := nI_clamp (by omega)
      have hp := C.2.2.2.2.2 w hw
      have hmd := C.1
      refine kh_xv1 hw (br_f (by decide) ?_)
      by_cases h0 : v2 = 0
      · subst h0
        refine kh_xl0 (br_f (by decide) ?_)
        rcases kh_via (tn := nI tn) (se := se) C hj with ⟨r, hr, hX, hY⟩ | ⟨b, hb, hs, e1, e2, hX, hY⟩
        · exact hX _ (br_f hr (kh_yv1 hj (br_f (by decide) (kh_yv1 hw (br_f (by decide) (br_t rfl (hY _ (br_f hr (br_f hr ⟨rfl, hup⟩)))))))))
        · have hB := C.2.2.1 b hb hs
          refine hX _ (br_t rfl (And.intro ij (kh_xb (r := nI b) (by rw [cj, e1]; exact kh_blk hb (C.2.1 b hb).2) (And.intro iw (And.intro ?_ (nm_r (e' := upd li (b * 2) (va w)) ?_ ?_))))))
          · rw [kh_i0]; exact vp_in_nI (by omega) (by decide)
          · rw [kh_i0, nI_clamp (by omega), cw, kh_pb C hp]
          · refine kh_yv1 hj (br_f (by decide) (kh_yv1 hw (br_f (by decide) (br_t rfl (hY _ (br_t rfl (br_t rfl (And.intro ij (And.intro iw (And.intro ?_ (nm_r (e' := upd le (rc b) (vs w)) ?_ ⟨rfl, kh_mkR htn (by omega) (kh_Cle C hb hs hp)⟩)))))))))))
            · rw [cj, e2, nI_pred]; exact vp_in_nI (by omega) (by decide)
            · rw [cj, cw, e2, nI_pred, nI_clamp (by omega)]
      · by_cases h1 : v2 = 1
        · subst h1
          refine kh_xl1 (br_f (by decide) ?_)
          rcases kh_via (tn := nI tn) (se := se) C hj with ⟨r, hr, hX, hY⟩ | ⟨b, hb, hs, e1, e2, hX, hY⟩
          · exact hX _ (br_f hr (kh_yv1 hj (br_f (by decide) (kh_yv1 hw (br_f (by decide) (br_f (by decide) (br_t rfl (hY _ (br_f hr (br_f hr ⟨rfl, hup⟩))))))))))
          · have hB := C.2.2.1 b hb hs
            refine hX _ (br_t rfl (And.intro ij (kh_xb (r := nI b) (by rw [cj, e1]; exact kh_blk hb (C.2.1 b hb).2) (And.intro iw (And.intro ?_ (nm_r (e' := upd li (b * 2 + 1) (va w)) ?_ ?_))))))
            · rw [kh_i1]; exact vp_in_nI (by omega) (by decide)
            · rw [kh_i1, nI_clamp (by omega), cw, kh_pb C hp]
            · refine kh_yv1 hj (br_f (by decide) (kh_yv1 hw (br_f (by decide) (br_f (by decide) (br_t rfl (hY _ (br_t rfl (br_f (by decide) (br_t rfl (And.intro ij (And.intro iw (And.intro ?_ (nm_r (e' := upd ri (rc b) (vs w)) ?_ ⟨rfl, kh_mkR htn (by omega) (kh_Cri C hb hs hp)⟩)))))))))))))
              · rw [cj, e2, nI_pred]; exact vp_in_nI (by omega) (by decide)
              · rw [cj, cw, e2, nI_pred, nI_clamp (by omega)]
        · exact kh_xl2 h0 h1 (br_t rfl (kh_yv1 hj (br_f (by decide) (kh_yv1 hw (br_f (by decide) (br_f h0 (br_f h1 ⟨rfl, hup⟩)))))))
theorem i_vc_follow {k : Nat} {u : SX} {v : SY} (I : i_Rel k u v) (hk : k + 4 ≤ 2048) (v1 : Int32) (v2 : Int32) (v3 : Int32) : wpX_follow (fun r u' => wpY_follow (fun r' v' => r' = r ∧ i_Rel (k + 4) u' v') v v1 v2 v3) u v1 v2 v3 := by
  refine kh_el (P := fun u v => wpX_follow (fun r u' => wpY_follow (fun r' v' => r' = r ∧ i_Rel (k + 4) u' v') v v1 v2 v3) u v1 v2 v3) ?_ I
  intro s L rc tn md va lo nu li vs al nm le ri se htn h4 C
  have hup : i_Rel (k + 4) (kh_k s, nI tn, va, lo, nu, li) (nI md, vs, al, nm, le, ri, se) := kh_mkR htn (by omega) C
  unfold wpX_follow wpY_follow wY_follow_27
  dsimp only
  rcases kh_ix v1 with hb | ⟨j, hj, rfl⟩
  · exact kh_xv0 hb (br_t rfl (kh_yv0 hb (br_t rfl ⟨rfl, hup⟩)))
  · refine kh_xv1 hj (br_f (by decide) ?_)
    rcases kh_ix v2 with hb | ⟨w, hw, rfl⟩
    · exact kh_xv0 hb (br_t rfl (kh_yv1 hj (br_f (by decide) (kh_yv0 hb (br_t rfl ⟨rfl, hup⟩)))))
    · have ij : vp_in (nI j) 8 := vp_in_nI hj (by decide)
      have cj : (nI j).toNatClampNeg = j := nI_clamp (by omega)
      have iw : vp_in (nI w) 8 := vp_in_nI hw (by decide)
      have cw : (nI w).toNatClampNeg = w := nI_clamp (by omega)
      have hmd := C.1
      refine kh_xv1 hw (br_f (by decide) ?_)
      by_cases h0 : v3 = 0
      · subst h0
        refine kh_xl0 (br_f (by decide) ?_)
        rcases kh_via (tn := nI tn) (se := se) C hw with ⟨r, hr, hX, hY⟩ | ⟨b, hb, hs, e1, e2, hX, hY⟩
        · exact hX _ (br_f hr (kh_yv1 hj (br_f (by decide) (kh_yv1 hw (br_f (by decide) (br_t rfl (hY _ (br_f hr ⟨rfl, hup⟩))))))))
        · have hB := C.2.2.1 b hb hs
          have hp := hB.2.2.2.1
          refine hX _ (br_t rfl (And.intro iw (kh_xb (r := nI b) (by rw [cw, e1]; exact kh_blk hb (C.2.1 b hb).2) (And.intro ?_ (And.intro ij (nm_r (e' := upd va j (li (b * 2))) ?_ ?_))))))
          · rw [kh_i0]; exact vp_in_nI (by omega) (by decide)
          · rw [kh_i0, nI_clamp (n := b * 2) (by omega), cj, kh_pb C hp]
          · refine kh_yv1 hj (br_f (by decide) (kh_yv1 hw (br_f (by decide) (br_t rfl (hY _ (br_t rfl (br_t rfl (And.intro iw (And.intro ?_ (And.intro ij (nm_r (e' := upd vs j (le (rc b))) ?_ ⟨rfl, kh_mkR htn (by omega) (kh_Cva C hp)⟩)))))))))))
            · rw [cw, e2, nI_pred]; exact vp_in_nI (by omega) (by decide)
            · rw [cj, cw, e2, nI_pred, nI_clamp (by omega)]
      · by_cases h1 : v3 = 1
        · subst h1
          refine kh_xl1 (br_f (by decide) ?_)
          rcases kh_via (tn := nI tn) (se := se) C hw with ⟨r, hr, hX, hY⟩ | ⟨b, hb, hs, e1, e2, hX, hY⟩
          · exact hX _ (br_f hr (kh_yv1 hj (br_f (by decide) (kh_yv1 hw (br_f (by decide) (br_f (by decide) (br_t rfl (hY _ (br_f hr ⟨rfl, hup⟩)))))))))
          · have hB := C.2.2.1 b hb hs
            have hp := hB.2.2.2.2
            refine hX _ (br_t rfl (And.intro iw (kh_xb (r := nI b) (by rw [cw, e1]; exact kh_blk hb (C.2.1 b hb).2) (And.intro ?_ (And.intro ij (nm_r (e' := upd va j (li (b * 2 + 1))) ?_ ?_))))))
            · rw [kh_i1]; exact vp_in_nI (by omega) (by decide)
            · rw [kh_i1, nI_clamp (n := b * 2 + 1) (by omega), cj, kh_pb C hp]
            · refine kh_yv1 hj (br_f (by decide) (kh_yv1 hw (br_f (by decide) (br_f (by decide) (br_t rfl (hY _ (br_t rfl (br_f (by decide) (And.intro iw (And.intro ?_ (And.intro ij (nm_r (e' := upd vs j (ri (rc b))) ?_ ⟨rfl, kh_mkR htn (by omega) (kh_Cva C hp)⟩))))))))))))
              · rw [cw, e2, nI_pred]; exact vp_in_nI (by omega) (by decide)
              · rw [cj, cw, e2, nI_pred, nI_clamp (by omega)]
        · exact kh_xl2 h0 h1 (br_t rfl (kh_yv1 hj (br_f (by decide) (kh_yv1 hw (br_f (by decide) (br_f h0 (br_f h1 ⟨rfl, hup⟩)))))))
end
section
/-! part 08. The calls that only read, and make -/
theorem i_vc_holds {k : Nat} {u : SX} {v : SY} (I : i_Rel k u v) (hk : k + 4 ≤ 2048) (v1 : Int32) : wpX_holds (fun r => wpY_holds (fun r' => r' = r ∧ i_Rel (k + 4) u v) v v1) u v1 := by
  refine kh_el (P := fun u v => wpX_holds (fun r => wpY_holds (fun r' => r' = r ∧ i_Rel (k + 4) u v) v v1) u v1) ?_ I
  intro s L rc tn md va lo nu li vs al nm le ri se htn h4 C
  have hup : i_Rel (k + 4) (kh_k s, nI tn, va, lo, nu, li) (nI md, vs, al, nm, le, ri, se) := kh_mkR htn (by omega) C
  unfold wpX_holds wpY_holds
  dsimp only
  rcases kh_ix v1 with hb | ⟨j, hj, rfl⟩
  · exact kh_xv0 hb (br_t rfl (kh_yv0 hb (br_t rfl ⟨rfl, hup⟩)))
  · have ij : vp_in (nI j) 8 := vp_in_nI hj (by decide)
    have cj : (nI j).toNatClampNeg = j := nI_clamp (by omega)
    rw [cj]
    rcases kh_st (tn := nI tn) (se := se) C (C.2.2.2.2.2 j hj) with ⟨r, _, _, hX, hY⟩ | ⟨b, hb, hs, e1, e2, hX, hY⟩
    · exact kh_xv1 hj (br_f (by decide) (And.intro ij (hX _ (kh_yv1 hj (br_f (by decide) (And.intro ij (hY _ ⟨rfl, hup⟩)))))))
    · exact kh_xv1 hj (br_f (by decide) (And.intro ij (hX _ (kh_yv1 hj (br_f (by decide) (And.intro ij (hY _ ⟨rfl, hup⟩)))))))
theorem i_vc_number {k : Nat} {u : SX} {v : SY} (I : i_Rel k u v) (hk : k + 4 ≤ 2048) (v1 : Int32) : wpX_number (fun r => wpY_number (fun r' => r' = r ∧ i_Rel (k + 4) u v) v v1) u v1 := by
  refine kh_el (P := fun u v => wpX_number (fun r => wpY_number (fun r' => r' = r ∧ i_Rel (k + 4) u v) v v1) u v1) ?_ I
  intro s L rc tn md va lo nu li vs al nm le ri se htn h4 C
  have hup : i_Rel (k + 4) (kh_k s, nI tn, va, lo, nu, li) (nI md, vs, al, nm, le, ri, se) := kh_mkR htn (by omega) C
  unfold wpX_number wpY_number wpY_holds
  dsimp only
  rcases kh_ix v1 with hb | ⟨j, hj, rfl⟩
  · exact kh_xv0 hb (br_t rfl (kh_yv0 hb (br_t rfl (br_f (by decide) ⟨rfl, hup⟩))))
  · have ij : vp_in (nI j) 8 := vp_in_nI hj (by decide)
    have cj : (nI j).toNatClampNeg = j := nI_clamp (by omega)
    rw [cj]
    have hmd := C.1
    rcases kh_st (tn := nI tn) (se := se) C (C.2.2.2.2.2 j hj) with ⟨r, hr, _, hX, hY⟩ | ⟨b, hb, hs, e1, e2, hX, hY⟩
    · have h1 : ¬ r = 1 := by rcases hr with e | e <;> (rw [e]; decide)
      exact kh_xv1 hj (br_f (by decide) (And.intro ij (hX _ (br_f h1 (kh_yv1 hj (br_f (by decide) (And.intro ij (hY _ (br_f h1 ⟨rfl, hup⟩)))))))))
    · have hB := C.2.2.1 b hb hs
      refine kh_xv1 hj (br_f (by decide) (And.intro ij (hX _ (br_t rfl (And.intro ij (kh_xb (r := nI b) (by rw [e1]; exact kh_blk hb (C.2.1 b hb).2) (And.intro (vp_in_nI hb (by decide)) ?_)))))))
      refine kh_yv1 hj (br_f (by decide) (And.intro ij (hY _ (br_t rfl (And.intro ij (And.intro ?_ ?_))))))
      · rw [e2, nI_pred]; exact vp_in_nI (by omega) (by decide)
      · rw [e2, nI_pred, nI_clamp (n := rc b) (by omega), nI_clamp (n := b) (by omega)]
        exact ⟨hB.2.2.1.symm, hup⟩
theorem i_vc_linkHolds {k : Nat} {u : SX} {v : SY} (I : i_Rel k u v) (hk : k + 4 ≤ 2048) (v1 : Int32) (v2 : Int32) : wpX_linkHolds (fun r => wpY_linkHolds (fun r' => r' = r ∧ i_Rel (k + 4) u v) v v1 v2) u v1 v2 := by
  refine kh_el (P := fun u v => wpX_linkHolds (fun r => wpY_linkHolds (fun r' => r' = r ∧ i_Rel (k + 4) u v) v v1 v2) u v1 v2) ?_ I
  intro s L rc tn md va lo nu li vs al nm le ri se htn h4 C
  have hup : i_Rel (k + 4) (kh_k s, nI tn, va, lo, nu, li) (nI md, vs, al, nm, le, ri, se) := kh_mkR htn (by omega) C
  unfold wpX_linkHolds wpY_linkHolds wY_linkHolds_9 wY_linkHolds_53 wpY_holds
  dsimp only
  rcases kh_ix v1 with hb | ⟨j, hj, rfl⟩
  · exact kh_xv0 hb (br_t rfl (br_c (fun _ => kh_yv0 hb (br_t rfl (br_f (by decide) ⟨rfl, hup⟩))) (fun _ => br_c (fun _ => kh_yv0 hb (br_t rfl (br_f (by decide) ⟨rfl, hup⟩))) (fun _ => ⟨rfl, hup⟩))))
  · have ij : vp_in (nI j) 8 := vp_in_nI hj (by decide)
    have cj : (nI j).toNatClampNeg = j := nI_clamp (by omega)
    rw [cj]
    have hmd := C.1
    refine kh_xv1 hj (br_f (by decide) ?_)
    by_cases h0 : v2 = 0
    · subst h0
      refine kh_xl0 (br_f (by decide) (And.intro ij ?_))
      rcases kh_st (tn := nI tn) (se := se) C (C.2.2.2.2.2 j hj) with ⟨r, hr, _, hX, hY⟩ | ⟨b, hb, hs, e1, e2, hX, hY⟩
      · have h1 : ¬ r = 1 := by rcases hr with e | e <;> (rw [e]; decide)
        exact hX _ (br_f h1 (br_t rfl (kh_yv1 hj (br_f (by decide) (And.intro ij (hY _ (br_f h1 ⟨rfl, hup⟩)))))))
      · have hB := C.2.2.1 b hb hs
        have hv : vp_in (vs j - 1) 512 := by rw [e2, nI_pred]; exact vp_in_nI (by omega) (by decide)
        have hc : (vs j - 1).toNatClampNeg = rc b := by rw [e2, nI_pred]; exact nI_clamp (by omega)
        refine hX _ (br_t rfl (And.intro ij (kh_xb (r := nI b) (by rw [e1]; exact kh_blk hb (C.2.1 b hb).2) ?_)))
        rw [hc, kh_i0, nI_clamp (n := b * 2) (by omega)]
        refine And.intro (vp_in_nI (by omega) (by decide)) ?_
        rcases kh_st (tn := nI tn) (se := se) C hB.2.2.2.1 with ⟨r, _, _, hX', hY'⟩ | ⟨_, _, _, _, _, hX', hY'⟩
        · exact hX' _ (br_t rfl (kh_yv1 hj (br_f (by decide) (And.intro ij (hY _ (br_t rfl (br_t rfl (And.intro ij (And.intro hv (hY' _ ⟨rfl, hup⟩))))))))))
        · exact hX' _ (br_t rfl (kh_yv1 hj (br_f (by decide) (And.intro ij (hY _ (br_t rfl (br_t rfl (And.intro ij (And.intro hv (hY' _ ⟨rfl, hup⟩))))))))))
    · by_cases h1 : v2 = 1
      · subst h1
        refine kh_xl1 (br_f (by decide) (And.intro ij ?_))
        rcases kh_st (tn := nI tn) (se := se) C (C.2.2.2.2.2 j hj) with ⟨r, hr, _, hX, hY⟩ | ⟨b, hb, hs, e1, e2, hX, hY⟩
        · have h1 : ¬ r = 1 := by rcases hr with e | e <;> (rw [e]; decide)
          exact hX _ (br_f h1 (br_f (by decide) (br_t rfl (kh_yv1 hj (br_f (by decide) (And.intro ij (hY _ (br_f h1 ⟨rfl, hup⟩))))))))
        · have hB := C.2.2.1 b hb hs
          have hv : vp_in (vs j - 1) 512 := by rw [e2, nI_pred]; exact vp_in_nI (by omega) (by decide)
          have hc : (vs j - 1).toNatClampNeg = rc b := by rw [e2, nI_pred]; exact nI_clamp (by omega)
          refine hX _ (br_t rfl (And.intro ij (kh_xb (r := nI b) (by rw [e1]; exact kh_blk hb (C.2.1 b hb).2) ?_)))
          rw [hc, kh_i1, nI_clamp (n := b * 2 + 1) (by omega)]
          refine And.intro (vp_in_nI (by omega) (by decide)) ?_
          rcases kh_st (tn := nI tn) (se := se) C hB.2.2.2.2 with ⟨r, _, _, hX', hY'⟩ | ⟨_, _, _, _, _, hX', hY'⟩
          · exact hX' _ (br_f (by decide) (br_t rfl (kh_yv1 hj (br_f (by decide) (And.intro ij (hY _ (br_t rfl (br_f (by decide) (And.intro ij (And.intro hv (hY' _ ⟨rfl, hup⟩)))))))))))
          · exact hX' _ (br_f (by decide) (br_t rfl (kh_yv1 hj (br_f (by decide) (And.intro ij (hY _ (br_t rfl (br_f (by decide) (And.intro ij (And.intro hv (hY' _ ⟨rfl, hup⟩)))))))))))
      · exact kh_xl2 h0 h1 (br_t rfl (br_f h0 (br_f h1 ⟨rfl, hup⟩)))
theorem kh_eq {s : Nat → Bool} {L rc : Nat → Nat} {md : Nat} {va lo nu li vs al nm le ri : Nat → Int32} {p q p' q' : Int32} (C : kh_C s L rc md va lo nu li vs al nm le ri) (h' : kh_p s L rc md al p' q')
    (h : (p = 0 ∧ q = 0) ∨ ∃ b, b < 6 ∧ s b = true ∧ p = nI (1 + b + 8 * L b) ∧ q = nI (rc b + 1)) : p = p' ↔ q = q' := by
  obtain ⟨hmd, hlo, hbl, hin, _, _⟩ := C
  rcases h with ⟨e1, e2⟩ | ⟨b, hb, hs, e1, e2⟩
  · rw [e1, e2]
    rcases h' with ⟨f1, f2⟩ | ⟨c, hc, hsc, f1, f2⟩ | ⟨hd, r, hr, ha, f2⟩
    · rw [f1, f2]
    · have h3 := (hlo c hc).2
      have hcc := hbl c hc hsc
      rw [f1, f2]
      exact ⟨fun h => absurd h.symm (nI_ne0 (by omega) (by omega)), fun h => absurd h.symm (nI_ne0 (by omega) (by omega))⟩
    · rw [f2]
      refine ⟨fun h => ?_, fun h => absurd h.symm (nI_ne0 (by omega) (by omega))⟩
      rcases hd with f1 | ⟨c, k, hc, hk, f1⟩
      · rw [f1] at h; exact absurd h (by decide)
      · have h3 := (hlo c hc).2
        rw [f1] at h; exact absurd h.symm (nI_ne0 (by omega) (by omega))
  · have h4 := (hlo b hb).2
    have hbb := hbl b hb hs
    rw [e1, e2]
    rcases h' with ⟨f1, f2⟩ | ⟨c, hc, hsc, f1, f2⟩ | ⟨hd, r, hr, ha, f2⟩
    · rw [f1, f2]
      exact ⟨fun h => absurd h (nI_ne0 (by omega) (by omega)), fun h => absurd h (nI_ne0 (by omega) (by omega))⟩
    · have h3 := (hlo c hc).2
      have hcc := hbl c hc hsc
      rw [f1, f2, nI_eq (by omega) (by omega), nI_eq (by omega) (by omega)]
      refine ⟨fun h => ?_, fun h => ?_⟩
      · have : b = c := by omega
        rw [this]
      · have : b = c := hin b c hb hc hs hsc (by omega)
        rw [this]
    · rw [f2, nI_eq (by omega) (by omega)]
      refine ⟨fun h => ?_, fun h => ?_⟩
      · rcases hd with f1 | ⟨c, k, hc, hk, f1⟩
        · rw [f1] at h; exact absurd h (kh_nm1 (by omega))
        · have h3 := (hlo c hc).2
          rw [f1, nI_eq (by omega) (by omega)] at h
          have : b = c := by omega
          rw [this] at h
          omega
      · have : rc b = r := by omega
        rw [this] at hbb
        exact absurd ha hbb.2.1
theorem i_vc_same {k : Nat} {u : SX} {v : SY} (I : i_Rel k u v) (hk : k + 4 ≤ 2048) (v1 : Int32) (v2 : Int32) : wpX_same (fun r => wpY_same (fun r' => r' = r ∧ i_Rel (k + 4) u v) v v1 v2) u v1 v2 := by
  refine kh_el (P := fun u v => wpX_same (fun r => wpY_same (fun r' => r' = r ∧ i_Rel (k + 4) u v) v v1 v2) u v1 v2) ?_ I
  intro s L rc tn md va lo nu li vs al nm le ri se htn h4 C
  have hup : i_Rel (k + 4) (kh_k s, nI tn, va, lo, nu, li) (nI md, vs, al, nm, le, ri, se) := kh_mkR htn (by omega) C
  unfold wpX_same wpY_same wX_same_35
  dsimp only
  rcases kh_ix v1 with hb | ⟨j, hj, rfl⟩
  · exact kh_xv0 hb (br_t rfl (kh_yv0 hb (br_t rfl ⟨rfl, hup⟩)))
  · refine kh_xv1 hj (br_f (by decide) ?_)
    rcases kh_ix v2 with hb | ⟨w, hw, rfl⟩
    · exact kh_xv0 hb (br_t rfl (kh_yv1 hj (br_f (by decide) (kh_yv0 hb (br_t rfl ⟨rfl, hup⟩)))))
    · have ij : vp_in (nI j) 8 := vp_in_nI hj (by decide)
      have cj : (nI j).toNatClampNeg = j := nI_clamp (by omega)
      have iw : vp_in (nI w) 8 := vp_in_nI hw (by decide)
      have cw : (nI w).toNatClampNeg = w := nI_clamp (by omega)
      rw [cj, cw]
      have hw' := C.2.2.2.2.2 w hw
      refine kh_xv1 hw (br_f (by decide) (And.intro ij ?_))
      rcases kh_st (tn := nI tn) (se := se) C (C.2.2.2.2.2 j hj) with ⟨r, hr, h0, hX, hY⟩ | ⟨b, hb, hs, e1, e2, hX, hY⟩
      · rcases hr with e | e
        · subst e
          have hq := kh_eq C hw' (Or.inl (h0 rfl))
          refine hX _ (br_f (by decide) (br_f (by decide) (And.intro ij (And.intro iw (br_c (fun hz => ?_) (fun hz => ?_))))))
          · exact kh_yv1 hj (br_f (by decide) (kh_yv1 hw (br_f (by decide) (And.intro ij (And.intro iw (br_t (hq.mp hz) (And.intro ij (hY _ (br_f (by decide) ⟨rfl, hup⟩)))))))))
          · exact kh_yv1 hj (br_f (by decide) (kh_yv1 hw (br_f (by decide) (And.intro ij (And.intro iw (br_f (fun h => hz (hq.mpr h)) ⟨rfl, hup⟩))))))
        · subst e
          refine hX _ (br_t rfl (br_t rfl ?_))
          exact kh_yv1 hj (br_f (by decide) (kh_yv1 hw (br_f (by decide) (And.intro ij (And.intro iw (br_c (fun _ => And.intro ij (hY _ (br_t rfl ⟨rfl, hup⟩))) (fun _ => ⟨rfl, hup⟩)))))))
      · have hq := kh_eq C hw' (Or.inr ⟨b, hb, hs, e1, e2⟩)
        refine hX _ (br_f (by decide) (br_f (by decide) (And.intro ij (And.intro iw (br_c (fun hz => ?_) (fun hz => ?_))))))
        · exact kh_yv1 hj (br_f (by decide) (kh_yv1 hw (br_f (by decide) (And.intro ij (And.intro iw (br_t (hq.mp hz) (And.intro ij (hY _ (br_f (by decide) ⟨rfl, hup⟩)))))))))
        · exact kh_yv1 hj (br_f (by decide) (kh_yv1 hw (br_f (by decide) (And.intro ij (And.intro iw (br_f (fun h => hz (hq.mpr h)) ⟨rfl, hup⟩))))))
theorem kh_cL {s : Nat → Bool} {L rc : Nat → Nat} {md : Nat} {va lo nu li vs al nm le ri : Nat → Int32} (C : kh_C s L rc md va lo nu li vs al nm le ri) :
    kh_sm (fun b => if s b = true then 1 else 0) 6 = kh_sm (fun r => if al r = 0 then 0 else 1) md := by
  obtain ⟨hmd, hlo, hbl, hin, hsu, _⟩ := C
  refine kh_sum (s := s) (rc := rc) (fun b hb => ?_) (fun b hb hs => (hbl b hb hs).1) hin (fun r hr hf => hsu r hr (fun h => hf (if_pos h)))
  by_cases hs : s b = true
  · rw [if_pos hs, if_pos hs, if_neg (hbl b hb hs).2.1]
  · rw [if_neg hs, if_neg hs]
theorem kh_cT {s : Nat → Bool} {L rc : Nat → Nat} {md : Nat} {va lo nu li vs al nm le ri : Nat → Int32} (C : kh_C s L rc md va lo nu li vs al nm le ri) :
    kh_sm (fun b => if s b = true then nu b else 0) 6 = kh_sm (fun r => if al r = 0 then 0 else nm r) md := by
  obtain ⟨hmd, hlo, hbl, hin, hsu, _⟩ := C
  refine kh_sum (s := s) (rc := rc) (fun b hb => ?_) (fun b hb hs => (hbl b hb hs).1) hin (fun r hr hf => hsu r hr (fun h => hf (if_pos h)))
  by_cases hs : s b = true
  · rw [if_pos hs, if_pos hs, if_neg (hbl b hb hs).2.1, (hbl b hb hs).2.2.1]
  · rw [if_neg hs, if_neg hs]
theorem i_vc_live {k : Nat} {u : SX} {v : SY} (I : i_Rel k u v) (hk : k + 4 ≤ 2048) : wpX_live (fun r => wpY_live (fun r' => r' = r ∧ i_Rel (k + 4) u v) v) u := by
  refine kh_el (P := fun u v => wpX_live (fun r => wpY_live (fun r' => r' = r ∧ i_Rel (k + 4) u v) v) u) ?_ I
  intro s L rc tn md va lo nu li vs al nm le ri se htn h4 C
  have hup : i_Rel (k + 4) (kh_k s, nI tn, va, lo, nu, li) (nI md, vs, al, nm, le, ri, se) := kh_mkR htn (by omega) C
  unfold wpX_live
  dsimp only
  exact kh_xsz (kh_yl C.1 ⟨(kh_cL C).symm, hup⟩)
theorem i_vc_total {k : Nat} {u : SX} {v : SY} (I : i_Rel k u v) (hk : k + 4 ≤ 2048) : wpX_total (fun r => wpY_total (fun r' => r' = r ∧ i_Rel (k + 4) u v) v) u := by
  refine kh_el (P := fun u v => wpX_total (fun r => wpY_total (fun r' => r' = r ∧ i_Rel (k + 4) u v) v) u) ?_ I
  intro s L rc tn md va lo nu li vs al nm le ri se htn h4 C
  have hup : i_Rel (k + 4) (kh_k s, nI tn, va, lo, nu, li) (nI md, vs, al, nm, le, ri, se) := kh_mkR htn (by omega) C
  exact kh_xtot (kh_ytot C.1 ⟨(kh_cT C).symm, hup⟩)
theorem i_vc_make {k : Nat} {u : SX} {v : SY} (I : i_Rel k u v) (hk : k + 4 ≤ 2048) (v1 : Int32) (v2 : Int32) : wpX_make (fun r u' => wpY_make (fun r' v' => r' = r ∧ i_Rel (k + 4) u' v') v v1 v2) u v1 v2 := by
  refine kh_el (P := fun u v => wpX_make (fun r u' => wpY_make (fun r' v' => r' = r ∧ i_Rel (k + 4) u' v') v v1 v2) u v1 v2) ?_ I
  intro s L rc tn md va lo nu li vs al nm le ri se htn h4 C
  have hup : i_Rel (k + 4) (kh_k s, nI tn, va, lo, nu, li) (nI md, vs, al, nm, le, ri, se) := kh_mkR htn (by omega) C
  unfold wpX_make wpY_make
  dsimp only
  rcases kh_ix v1 with hb | ⟨j, hj, rfl⟩
  · exact kh_xv0 hb (br_t rfl (kh_yv0 hb (br_t rfl ⟨rfl, hup⟩)))
  · have ij : vp_in (nI j) 8 := vp_in_nI hj (by decide)
    have cj : (nI j).toNatClampNeg = j := nI_clamp (by omega)
    have hmd : md < 512 := by omega
    have im : vp_in (nI md) 512 := vp_in_nI hmd (by decide)
    have cm : (nI md).toNatClampNeg = md := nI_clamp (by omega)
    refine kh_xv1 hj (br_f (by decide) (kh_xfb htn (fun b hb hs => ?_) (fun hs => ?_)))
    · have e0 : nI b * 2 = nI (b * 2) := pk_mul b 2
      have cb : (nI b).toNatClampNeg = b := nI_clamp (by omega)
      have cb0 : (nI b * 2).toNatClampNeg = b * 2 := by rw [e0]; exact nI_clamp (by omega)
      have cb1 : (nI b * 2 + 1).toNatClampNeg = b * 2 + 1 := by rw [kh_i1]; exact nI_clamp (by omega)
      refine br_t (nI_pos' (by omega)) (And.intro (by decide) (nm_r (e' := nI ((b + 1) % 6)) ?_ (nm_r (kh_set s hb) (And.intro (vp_in_nI hb (by decide)) (nm_r (e' := upd nu b v2) (by rw [cb]) (And.intro ?_ (nm_r (e' := upd li (b * 2) 0) (by rw [cb0, kh_nb0]) (And.intro ?_ (nm_r (e' := upd (upd li (b * 2) 0) (b * 2 + 1) 0) (by rw [cb1, kh_nb0]) ?_)))))))))
      · rw [nI_1]; exact pk_rem (d := 6) (by omega) (by decide) (by decide)
      · rw [e0]; exact vp_in_nI (by omega) (by decide)
      · rw [kh_i1]; exact vp_in_nI (by omega) (by decide)
      · refine kh_xp hb (C.2.1 b hb).1 (And.intro ij (nm_r (e' := upd va j (nI (1 + b + 8 * L b))) ?_ ?_))
        · rw [cj, pk_vb]
          exact congrArg (upd va j) (kh_bytA b hb (L b) (by have := (C.2.1 b hb).2; omega))
        · refine kh_yv1 hj (br_f (by decide) (kh_yl C.1 ?_))
          rw [← kh_cL C, cm, cj]
          refine br_f (kh_szB hb hs) (br_t (nI_lt (b := 512) hmd (by decide)) (And.intro im (nm_r (e' := upd al md 1) rfl (And.intro im (nm_e (And.intro im (nm_e (And.intro im (nm_e (nm_r (nI_1 md) (And.intro ij (nm_e ?_))))))))))))
          exact ⟨rfl, kh_mkR (by omega) (by omega) (kh_Cmk C hb hs hmd)⟩
    · refine br_f (by decide) (kh_yv1 hj (br_f (by decide) (kh_yl C.1 ?_)))
      rw [← kh_cL C]
      exact br_t (kh_szC hs) ⟨rfl, hup⟩
end
section
/-! part 09. reached and sweep -/
theorem kh_cS {s : Nat → Bool} {L rc : Nat → Nat} {md : Nat} {va lo nu li vs al nm le ri se : Nat → Int32} {t : Nat → Bool} (C : kh_C s L rc md va lo nu li vs al nm le ri)
    (ht : ∀ c, t c = true ↔ kh_R s L va li c) (hs : kh_ys s rc md se (kh_R s L va li)) {b : Nat} (hb : b < 6) (hsb : s b = true) : se (rc b) ≠ 0 ↔ t b = true := by
  rw [hs (rc b) (C.2.2.1 b hb hsb).1, ht b]
  refine ⟨fun ⟨c, c1, c2, c3, c4⟩ => ?_, fun h => ⟨b, hb, hsb, h, rfl⟩⟩
  rw [← C.2.2.2.1 c b c1 hb c2 hsb c4]
  exact c3
theorem i_vc_reached {k : Nat} {u : SX} {v : SY} (I : i_Rel k u v) (hk : k + 4 ≤ 2048) : wpX_reached (fun r => wpY_reached (fun r' v' => r' = r ∧ i_Rel (k + 4) u v') v) u := by
  refine kh_el (P := fun u v => wpX_reached (fun r => wpY_reached (fun r' v' => r' = r ∧ i_Rel (k + 4) u v') v) u) ?_ I
  intro s L rc tn md va lo nu li vs al nm le ri se htn h4 C
  unfold wpX_reached wpY_reached
  dsimp only
  refine kh_mark C (fun t ht => kh_xsz (kh_look C (fun se' hse => ?_)))
  refine Exists.intro (md + 1) ?_
  have h0 : kh_sm (fun b => if t b = true then 1 else 0) 6 = kh_sm (fun r => if se' r = 0 then 0 else 1) md := by
    refine kh_sum (s := s) (rc := rc) (fun b hb => ?_) (fun b hb hs => (C.2.2.1 b hb hs).1) C.2.2.2.1 (fun r hr hf => ?_)
    · by_cases hs : s b = true
      · rw [if_pos hs]
        have hq := kh_cS C ht hse hb hs
        by_cases htb : t b = true
        · rw [if_pos htb, if_neg (hq.mpr htb)]
        · rw [if_neg htb, if_pos (Classical.byContradiction (fun h => htb (hq.mp h)))]
      · rw [if_neg hs, if_neg (fun h => hs (kh_R6 ((ht b).mp h)).2)]
    · obtain ⟨c, c1, c2, c3, c4⟩ := (hse r hr).mp (fun h => hf (if_pos h))
      exact ⟨c, c1, c2, c4⟩
  have hh := kh_yre8 (post := fun r' v' => r' = kh_sm (fun b => if t b = true then 1 else 0) 6 ∧ i_Rel (k + 4) (kh_k s, nI tn, va, lo, nu, li) v') C.1 ⟨h0.symm, kh_mkR (se := se') htn (by omega) C⟩ md 0 (by omega)
  rw [nI_0] at hh
  exact hh
/-- the component's sweep: block by block -/
theorem kh_xsw {s ls : Nat → Bool} {rc : Nat → Nat} {md : Nat} {tn : Int32} {nu vs al nm le ri : Nat → Int32} {post : Int32 → SX → Prop} (hls : ∀ b, ls b = true → s b = true)
    (h : ∀ (s' : Nat → Bool) (L' : Nat → Nat) (va' lo' li' al' : Nat → Int32), kh_C s' L' rc md va' lo' nu li' vs al' nm le ri → (∀ b, b < 6 → ls b = true → al' (rc b) = 0) → (∀ r, (∀ b, b < 6 → ls b = true → rc b ≠ r) → al' r = al r) →
      post (kh_sm (fun b => if ls b = true then 1 else 0) 6) (kh_k s', tn, va', lo', nu, li')) :
    ∀ d j, j + d = 6 → ∀ (s' : Nat → Bool) (L' : Nat → Nat) (va' lo' li' al' : Nat → Int32), kh_C s' L' rc md va' lo' nu li' vs al' nm le ri → (∀ b, j ≤ b → s' b = s b) → (∀ b, b < j → ls b = true → al' (rc b) = 0) → (∀ r, (∀ b, b < j → ls b = true → rc b ≠ r) → al' r = al r) →
      wX_sweep_14 post (kh_k ls) (d + 1) (nI j) (kh_k s') tn va' lo' nu li' := by
  intro d
  induction d with
  | zero =>
    intro j hj s' L' va' lo' li' al' C h1 h2 h3
    obtain rfl : j = 6 := by omega
    exact br_t (nI_le (a := 6) (b := 6) (by omega) (by decide)) (kh_xsz (h s' L' va' lo' li' al' C h2 h3))
  | succ d ih =>
    intro j hj s' L' va' lo' li' al' C h1 h2 h3
    refine br_f (nI_ge (b := 6) (by omega) (by decide)) ?_
    by_cases hl : ls j = true
    · have hs : s' j = true := by rw [h1 j (Nat.le_refl _)]; exact hls j hl
      obtain ⟨L2, va2, lo2, li2, C2, hR⟩ := kh_rel (tn := tn) C (b := j) (by omega) hs
      refine br_f (kh_b1 (by omega) hl) (hR _ (nm_r (nI_1 j) (ih (j + 1) (by omega) _ L2 va2 lo2 li2 _ C2 (fun b hb => ?_) (fun b hb hlb => ?_) (fun r hr => ?_))))
      · rw [kh_fun (by omega)]; exact h1 b (by omega)
      · by_cases e : rc b = rc j
        · rw [e, pk_us]
        · rw [pk_un e]
          refine h2 b ?_ hlb
          have : b ≠ j := fun h => e (by rw [h])
          omega
      · rw [pk_un (fun e => hr j (by omega) hl e.symm)]
        exact h3 r (fun b hb => hr b (by omega))
    · have hf : ls j = false := by revert hl; cases ls j <;> simp
      refine br_t (kh_b0 (by omega) hf) (nm_r (nI_1 j) (ih (j + 1) (by omega) s' L' va' lo' li' al' C (fun b hb => h1 b (by omega)) (fun b hb hlb => ?_) (fun r hr => h3 r (fun b hb => hr b (by omega)))))
      refine h2 b ?_ hlb
      have : b ≠ j := fun h => hl (by rw [← h]; exact hlb)
      omega
theorem kh_xsw0 {s ls : Nat → Bool} {L rc : Nat → Nat} {md : Nat} {tn : Int32} {va lo nu li vs al nm le ri : Nat → Int32} {post : Int32 → SX → Prop} (C : kh_C s L rc md va lo nu li vs al nm le ri) (hls : ∀ b, ls b = true → s b = true)
    (h : ∀ (s' : Nat → Bool) (L' : Nat → Nat) (va' lo' li' al' : Nat → Int32), kh_C s' L' rc md va' lo' nu li' vs al' nm le ri → (∀ b, b < 6 → ls b = true → al' (rc b) = 0) → (∀ r, (∀ b, b < 6 → ls b = true → rc b ≠ r) → al' r = al r) →
      post (kh_sm (fun b => if ls b = true then 1 else 0) 6) (kh_k s', tn, va', lo', nu, li')) :
    wX_sweep_14 post (kh_k ls) 7 0 (kh_k s) tn va lo nu li := by
  have hx := kh_xsw (post := post) (tn := tn) hls h 6 0 (by omega) s L va lo li al C (fun b _ => rfl) (fun b hb => absurd hb (by omega)) (fun r _ => rfl)
  rw [nI_0] at hx
  exact hx
theorem i_vc_sweep {k : Nat} {u : SX} {v : SY} (I : i_Rel k u v) (hk : k + 4 ≤ 2048) : wpX_sweep (fun r u' => wpY_sweep (fun r' v' => r' = r ∧ i_Rel (k + 4) u' v') v) u := by
  refine kh_el (P := fun u v => wpX_sweep (fun r u' => wpY_sweep (fun r' v' => r' = r ∧ i_Rel (k + 4) u' v') v) u) ?_ I
  intro s L rc tn md va lo nu li vs al nm le ri se htn h4 C
  unfold wpX_sweep wpY_sweep
  dsimp only
  refine kh_mark C (fun t ht => nm_r (kh_dif s t) (Exists.intro 7 (kh_xsw0 C (fun b hb => by revert hb; cases s b <;> simp) (fun s' L' va' lo' li' al' C' h2 h3 => ?_))))
  refine kh_look C (fun se' hse => Exists.intro (md + 1) ?_)
  have hq : ∀ b, b < 6 → s b = true → (se' (rc b) ≠ 0 ↔ t b = true) := fun b hb hs => kh_cS C ht hse hb hs
  have hl : ∀ b, (s b && !t b) = true ↔ (s b = true ∧ ¬ t b = true) := fun b => by cases s b <;> cases t b <;> simp
  have ea : al' = kh_sw al se' md := by
    funext r
    show al' r = if r < md ∧ se' r = 0 then 0 else al r
    by_cases hx : ∃ b, b < 6 ∧ (s b && !t b) = true ∧ rc b = r
    · obtain ⟨b, b1, b2, b3⟩ := hx
      have hb := (hl b).mp b2
      rw [← b3, if_pos ⟨(C.2.2.1 b b1 hb.1).1, Classical.byContradiction (fun hz => hb.2 ((hq b b1 hb.1).mp hz))⟩]
      exact h2 b b1 b2
    · rw [h3 r (fun b b1 b2 b3 => hx ⟨b, b1, b2, b3⟩)]
      by_cases hr : r < md ∧ se' r = 0
      · rw [if_pos hr]
        refine Classical.byContradiction (fun hz => ?_)
        obtain ⟨b, b1, b2, b3⟩ := C.2.2.2.2.1 r hr.1 hz
        refine hx ⟨b, b1, (hl b).mpr ⟨b2, fun h => (hq b b1 b2).mpr h ?_⟩, b3⟩
        rw [b3]; exact hr.2
      · rw [if_neg hr]
  have h0 : kh_sm (fun b => if (s b && !t b) = true then 1 else 0) 6 = kh_sm (fun r => if al r = 0 then 0 else if se' r = 0 then 1 else 0) md := by
    refine kh_sum (s := s) (rc := rc) (fun b hb => ?_) (fun b hb hs => (C.2.2.1 b hb hs).1) C.2.2.2.1 (fun r hr hf => C.2.2.2.2.1 r hr (fun h => hf (if_pos h)))
    by_cases hs : s b = true
    · rw [if_pos hs, if_neg (C.2.2.1 b hb hs).2.1]
      by_cases htb : t b = true
      · rw [if_neg (fun h => ((hl b).mp h).2 htb), if_neg ((hq b hb hs).mpr htb)]
      · rw [if_pos ((hl b).mpr ⟨hs, htb⟩), if_pos (Classical.byContradiction (fun h => htb ((hq b hb hs).mp h)))]
    · rw [if_neg hs, if_neg (fun h => hs ((hl b).mp h).1)]
  rw [ea] at C'
  have hh := kh_ysw8 (post := fun r' v' => r' = kh_sm (fun b => if (s b && !t b) = true then 1 else 0) 6 ∧ i_Rel (k + 4) (kh_k s', nI tn, va', lo', nu, li') v') C.1 ⟨h0.symm, kh_mkR (se := se') htn (by omega) C'⟩ md 0 (by omega)
  rw [nI_0, kh_sw0] at hh
  exact hh
end
