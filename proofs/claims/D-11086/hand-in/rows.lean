section
/-! pure rows: the two rows of bits are told apart by D (which columns differ) and B (row, column: the bit) -/
/-- since when the two rows agree before column c -/
def hr_s (D : Nat → Bool) : Nat → Nat
  | 0 => 0
  | c + 1 => if D c = true then c + 1 else hr_s D c
/-- the row that stands first in the order for column c; b: the bits of row 0 -/
def hr_o (D : Nat → Bool) (b : Nat → Nat) : Nat → Nat
  | 0 => 0
  | c + 1 => if D c = true then b c else hr_o D b c
/-- the rows part at column c -/
def hr_e (D : Nat → Bool) (c : Nat) : Nat := if c = 12 then 1 else if D c = true then 1 else 0
/-- a match ends before column c -/
def hr_h (D : Nat → Bool) (c : Nat) : Nat := if hr_s D c < c then hr_e D c else 0
/-- matches that end before columns 1 .. c -/
def hr_m (D : Nat → Bool) : Nat → Nat
  | 0 => 0
  | c + 1 => hr_m D c + hr_h D (c + 1)
/-- the longest agreement before columns 1 .. c -/
def hr_l (D : Nat → Bool) : Nat → Nat
  | 0 => 0
  | c + 1 => if c + 1 - hr_s D (c + 1) ≤ hr_l D c then hr_l D c else c + 1 - hr_s D (c + 1)
/-- the agreement before column c, if it has column k -/
def hr_v (D : Nat → Bool) (k c : Nat) : Nat := if k < hr_s D c then 0 else c - hr_s D c
/-- the longest agreement that has column k, before columns k + 1 .. k + j -/
def hr_cv (D : Nat → Bool) (k : Nat) : Nat → Nat
  | 0 => 0
  | j + 1 => if hr_v D k (k + 1 + j) ≤ hr_cv D k j then hr_cv D k j else hr_v D k (k + 1 + j)
/-- their sum over columns 0 .. k - 1 -/
def hr_cs (D : Nat → Bool) : Nat → Nat
  | 0 => 0
  | k + 1 => hr_cs D k + hr_cv D k (12 - k)
/-- the law's columns -/
def hr_D (lo hi : Nat) (c : Nat) : Bool := c == lo || c == hi
/-- what the law asks, in plain numbers -/
theorem hr_pure : ∀ lo, lo < 12 → ∀ hi, hi < 12 →
    hr_m (hr_D lo hi) 12 = (if min lo hi ≤ 0 then 0 else 1) + (if max lo hi - min lo hi - 1 ≤ 0 then 0 else 1) + (if 11 - max lo hi ≤ 0 then 0 else 1)
    ∧ hr_l (hr_D lo hi) 12 = max (max (min lo hi) (11 - max lo hi)) (max lo hi - min lo hi - 1)
    ∧ hr_cs (hr_D lo hi) 12 = min lo hi * min lo hi + (max lo hi - min lo hi - 1) * (max lo hi - min lo hi - 1) + (11 - max lo hi) * (11 - max lo hi)
    ∧ hr_s (hr_D lo hi) 12 = max lo hi + 1 := by decide +kernel
theorem hr_sle (D : Nat → Bool) : ∀ c, hr_s D c ≤ c
  | 0 => Nat.le_refl 0
  | c + 1 => by
    have h := hr_sle D c
    show (if D c = true then c + 1 else hr_s D c) ≤ c + 1
    split <;> omega
theorem hr_ele (D : Nat → Bool) (c : Nat) : hr_e D c ≤ 1 := by
  unfold hr_e
  split
  · omega
  · split <;> omega
theorem hr_hle (D : Nat → Bool) (c : Nat) : hr_h D c ≤ 1 := by
  have h := hr_ele D c
  unfold hr_h
  split <;> omega
theorem hr_lle (D : Nat → Bool) : ∀ c, hr_l D c ≤ c
  | 0 => Nat.le_refl 0
  | c + 1 => by
    have h := hr_lle D c
    show (if c + 1 - hr_s D (c + 1) ≤ hr_l D c then hr_l D c else c + 1 - hr_s D (c + 1)) ≤ c + 1
    split <;> omega
theorem hr_vle (D : Nat → Bool) (k c : Nat) : hr_v D k c ≤ c := by
  unfold hr_v
  split <;> omega
theorem hr_cvle (D : Nat → Bool) (k : Nat) : ∀ j, hr_cv D k j ≤ k + j
  | 0 => Nat.zero_le _
  | j + 1 => by
    have h := hr_cvle D k j
    have h2 := hr_vle D k (k + 1 + j)
    show (if hr_v D k (k + 1 + j) ≤ hr_cv D k j then hr_cv D k j else hr_v D k (k + 1 + j)) ≤ k + (j + 1)
    split <;> omega
/-- B: bits, and D says where the two rows differ -/
def hr_B (D : Nat → Bool) (B : Nat → Nat → Nat) : Prop := ∀ c, c < 12 → B 0 c < 2 ∧ B 1 c < 2 ∧ (D c = true ↔ B 0 c ≠ B 1 c)
theorem hr_Blt {D : Nat → Bool} {B : Nat → Nat → Nat} (hB : hr_B D B) {r c : Nat} (hr : r < 2) (hc : c < 12) : B r c < 2 := by
  obtain ⟨h0, h1, _⟩ := hB c hc
  have e : r = 0 ∨ r = 1 := by omega
  rcases e with e | e
  · rw [e]; exact h0
  · rw [e]; exact h1
theorem hr_Bne {D : Nat → Bool} {B : Nat → Nat → Nat} (hB : hr_B D B) {r s c : Nat} (hr : r < 2) (hs : s < 2) (hrs : r ≠ s) (hc : c < 12) : D c = true ↔ B r c ≠ B s c := by
  obtain ⟨_, _, h⟩ := hB c hc
  have e : (r = 0 ∧ s = 1) ∨ (r = 1 ∧ s = 0) := by omega
  rcases e with ⟨e, e'⟩ | ⟨e, e'⟩
  · rw [e, e']; exact h
  · rw [e, e', h]; exact ⟨fun z w => z w.symm, fun z w => z w.symm⟩
theorem hr_olt {D : Nat → Bool} {B : Nat → Nat → Nat} (hB : hr_B D B) : ∀ c, c ≤ 12 → hr_o D (B 0) c < 2
  | 0, _ => by show 0 < 2; omega
  | c + 1, hc => by
    have h := hr_olt hB c (by omega)
    have h0 := (hB c (by omega)).1
    show (if D c = true then B 0 c else hr_o D (B 0) c) < 2
    split
    · exact h0
    · exact h
/-- the last column that differs rules the last order -/
theorem hr_oM {D : Nat → Bool} {b : Nat → Nat} {M : Nat} (hM : D M = true) : ∀ d, (∀ j, M < j → j < M + 1 + d → D j = false) → hr_o D b (M + 1 + d) = b M
  | 0, _ => if_pos hM
  | d + 1, h => by
    have e := h (M + 1 + d) (by omega) (by omega)
    show (if D (M + 1 + d) = true then b (M + 1 + d) else hr_o D b (M + 1 + d)) = b M
    rw [e]
    exact hr_oM hM d (fun j h1 h2 => h j h1 (by omega))
theorem hr_same1 {D : Nat → Bool} {B : Nat → Nat → Nat} (hB : hr_B D B) {o c : Nat} (ho : o < 2) (hc : c < 12) (h : B o c = B (1 - o) c) (e : hr_o D (B 0) c = o) : hr_o D (B 0) (c + 1) = o ∧ hr_s D (c + 1) = hr_s D c := by
  have n : ¬ D c = true := fun z => (hr_Bne hB (r := o) (s := 1 - o) ho (by omega) (by omega) hc).mp z h
  constructor
  · show (if D c = true then B 0 c else hr_o D (B 0) c) = o
    rw [if_neg n, e]
  · exact if_neg n
theorem hr_diff1 {D : Nat → Bool} {B : Nat → Nat → Nat} (hB : hr_B D B) {o c : Nat} (ho : o < 2) (hc : c < 12) (h : B o c ≠ B (1 - o) c) : hr_o D (B 0) (c + 1) = (if B o c = 0 then o else 1 - o) ∧ hr_s D (c + 1) = c + 1 := by
  have n : D c = true := (hr_Bne hB (r := o) (s := 1 - o) ho (by omega) (by omega) hc).mpr h
  obtain ⟨h0, h1, _⟩ := hB c hc
  constructor
  · show (if D c = true then B 0 c else hr_o D (B 0) c) = _
    rw [if_pos n]
    have e : o = 0 ∨ o = 1 := by omega
    rcases e with e | e
    · subst e
      show B 0 c = if B 0 c = 0 then 0 else 1
      split <;> omega
    · subst e
      have h' : B 1 c ≠ B 0 c := h
      show B 0 c = if B 1 c = 0 then 1 else 0
      split <;> omega
  · exact if_pos n
/-! bits of Int32 -/
theorem hr_xor (a b : Nat) : nI a ^^^ nI b = nI (a ^^^ b) := by
  apply Int32.toBitVec_inj.1
  show BitVec.ofNat 32 a ^^^ BitVec.ofNat 32 b = BitVec.ofNat 32 (a ^^^ b)
  apply BitVec.eq_of_getLsbD_eq
  intro i hi
  simp [hi]
theorem hr_sc : ∀ n, n < 32 → ((nI n &&& 31).toBitVec.smod 32).toNat = n := by decide +kernel
theorem hr_bit {k c : Nat} (hk : k < 2 ^ 31) (hc : c < 12) : (nI k >>> (nI c &&& 31)) &&& 1 = nI (k / 2 ^ c % 2) := by
  rw [pk_shrN hk (nI c &&& 31) c (hr_sc c (by omega))]
  have h : k / 2 ^ c ≤ k := Nat.div_le_self _ _
  exact pk_andN (by omega) 1 (by decide)
theorem hr_two : ∀ lo, lo < 12 → ∀ hi, hi < 12 → ((1 : Int32) <<< (nI lo &&& 31)) ||| ((1 : Int32) <<< (nI hi &&& 31)) = nI (2 ^ lo ||| 2 ^ hi) := by decide +kernel
theorem hr_twolt : ∀ lo, lo < 12 → ∀ hi, hi < 12 → 2 ^ lo ||| 2 ^ hi < 2 ^ 12 := by decide +kernel
theorem hr_twob : ∀ lo, lo < 12 → ∀ hi, hi < 12 → ∀ c, c < 12 → (2 ^ lo ||| 2 ^ hi).testBit c = hr_D lo hi c := by decide +kernel
theorem hr_low (a : Int32) : ∃ lo : Nat, lo < 12 ∧ (a &&& 15) - (a &&& 15) / 12 * 12 = nI lo := by
  obtain ⟨j, hj, e⟩ := pk_andE a (m := 15) 4 (by decide)
  refine ⟨j % 12, by omega, ?_⟩
  rw [e]
  exact pk_rem (a := j) (d := 12) (by omega) (by omega) (by omega)
/-- the bits of the law's two rows -/
def hr_bits (k m : Nat) (r c : Nat) : Nat := if r = 0 then k / 2 ^ c % 2 else (k ^^^ m) / 2 ^ c % 2
theorem hr_bitsB {k lo hi : Nat} (h1 : lo < 12) (h2 : hi < 12) : hr_B (hr_D lo hi) (hr_bits k (2 ^ lo ||| 2 ^ hi)) := by
  intro c hc
  refine ⟨Nat.mod_lt _ (by omega), Nat.mod_lt _ (by omega), ?_⟩
  show _ ↔ k / 2 ^ c % 2 ≠ (k ^^^ (2 ^ lo ||| 2 ^ hi)) / 2 ^ c % 2
  rw [← Nat.toNat_testBit, ← Nat.toNat_testBit, Nat.testBit_xor, hr_twob lo h1 hi h2 c hc]
  cases hr_D lo hi c <;> cases k.testBit c <;> decide
end
section
/-! the picture of a state: bits, order and begin; part and build -/
/-- the array bits holds the rows of B -/
def hr_R (B : Nat → Nat → Nat) (a1 : Nat → Int32) : Prop := ∀ r c, r < 2 → c < 12 → (a1 r >>> (nI c &&& 31)) &&& 1 = nI (B r c)
/-- order and begin stand up to column m -/
def hr_P (D : Nat → Bool) (B : Nat → Nat → Nat) (m : Nat) (a2 a3 : Nat → Int32) : Prop := ∀ c, c ≤ m → a2 (8 * c) = nI (hr_o D (B 0) c) ∧ a2 (8 * c + 1) = nI (1 - hr_o D (B 0) c) ∧ a3 (8 * c) = nI c ∧ a3 (8 * c + 1) = nI (hr_s D c)
theorem hr_ix (c i : Nat) : (8 : Int32) * nI c + nI i = nI (8 * c + i) := by
  rw [show (8 : Int32) = nI 8 from rfl, pk_mul, nI_add]
theorem hr_cl {c i : Nat} (h : 8 * c + i < 2 ^ 31) : ((8 : Int32) * nI c + nI i).toNatClampNeg = 8 * c + i := by
  rw [hr_ix, nI_clamp h]
theorem hr_at {post : Int32 → Prop} {B : Nat → Nat → Nat} {f0 f1 : Int32} {a1 a2 a3 a4 a5 : Nat → Int32} {r c : Nat} (hR : hr_R B a1) (hr : r < 2) (hc : c < 12) (h : post (nI (B r c))) : wpX_at post (f0, f1, a1, a2, a3, a4, a5) (nI r) (nI c) := by
  refine ⟨pk_in r 8 (by omega), ?_⟩
  rw [nI_clamp (by omega), hR r c hr hc]
  exact h
theorem hr_fin {D : Nat → Bool} {B : Nat → Nat → Nat} {c : Nat} {a2 a3 A2 A3 : Nat → Int32} (h : hr_P D B c a2 a3) {x0 x1 y0 y1 : Int32}
    (e2 : A2 = upd (upd a2 (8 * c + 8) x0) (8 * c + 9) x1) (e3 : A3 = upd (upd a3 (8 * c + 8) y0) (8 * c + 9) y1)
    (h1 : x0 = nI (hr_o D (B 0) (c + 1))) (h2 : x1 = nI (1 - hr_o D (B 0) (c + 1))) (h3 : y0 = nI (c + 1)) (h4 : y1 = nI (hr_s D (c + 1))) : hr_P D B (c + 1) A2 A3 := by
  intro i hi
  subst e2 e3
  rcases Nat.lt_or_ge i (c + 1) with z | z
  · rw [pk_un (by omega), pk_un (by omega), pk_un (by omega), pk_un (by omega), pk_un (by omega), pk_un (by omega), pk_un (by omega), pk_un (by omega)]
    exact h i (by omega)
  · have e : i = c + 1 := by omega
    subst e
    have n : 8 * c + 8 ≠ 8 * c + 9 := by omega
    exact ⟨((pk_un n).trans pk_us).trans h1, (pk_us (k := 8 * c + 9)).trans h2, ((pk_un n).trans pk_us).trans h3, (pk_us (k := 8 * c + 9)).trans h4⟩
/-- part: one row is put -/
theorem hr_p90 {post : St2 → Prop} {J : Int32 → Int32 → Int32 → Int32 → Int32 → (Nat → Int32) → (Nat → Int32) → (Nat → Int32) → (Nat → Int32) → (Nat → Int32) → Prop} {D : Nat → Bool} {B : Nat → Nat → Nat} {f0 f1 x2 sz so : Int32} {a1 a2 a3 a4 a5 : Nat → Int32} {c z m i ρ : Nat}
    (hB : hr_B D B) (hR : hr_R B a1) (hc : c < 12) (hρ : ρ < 2) (hz : z < 2) (hm : m < 2)
    (H0 : B ρ c = 0 → J (nI (z + 1)) (nI m) 0 so (nI (i + 1)) a1 (upd a2 (8 * c + 8 + z) (nI ρ)) (upd a3 (8 * c + 8 + z) sz) a4 a5)
    (H1 : B ρ c ≠ 0 → J (nI z) (nI (m + 1)) sz 0 (nI (i + 1)) a1 a2 a3 (upd a4 m (nI ρ)) (upd a5 m so)) :
    wX_part_90 post J (nI c) x2 (nI (8 * c + 8)) (nI z) (nI m) sz (nI i) (nI ρ) so f0 f1 a1 a2 a3 a4 a5 := by
  have hb := hr_Blt hB hρ hc
  have ez : (nI (8 * c + 8) + nI z).toNatClampNeg = 8 * c + 8 + z := by rw [nI_add, nI_clamp (by omega)]
  have em : (nI m).toNatClampNeg = m := nI_clamp (by omega)
  unfold wX_part_90
  refine hr_at hR hρ hc ?_
  rw [ez, em]
  exact pk_eq (B ρ c) 0
    (fun e => ⟨pk_in (8 * c + 8 + z) 104 (by omega) (nI_add _ _), nm_e ⟨pk_in (8 * c + 8 + z) 104 (by omega) (nI_add _ _), nm_e (nm_r (nI_1 z) (nm_r (nI_1 i) (H0 e)))⟩⟩)
    (fun e => ⟨pk_in m 8 (by omega), nm_e ⟨pk_in m 8 (by omega), nm_e (nm_r (nI_1 m) (nm_r (nI_1 i) (H1 e)))⟩⟩)
theorem hr_p74 {post : St2 → Prop} {J : Int32 → Int32 → Int32 → Int32 → Int32 → (Nat → Int32) → (Nat → Int32) → (Nat → Int32) → (Nat → Int32) → (Nat → Int32) → Prop} {D : Nat → Bool} {B : Nat → Nat → Nat} {f0 f1 x2 sz : Int32} {a1 a2 a3 a4 a5 : Nat → Int32} {c z m i ρ β q : Nat}
    (hB : hr_B D B) (hR : hr_R B a1) (hc : c < 12) (hρ : ρ < 2) (hz : z < 2) (hm : m < 2) (hβ : β < 20) (hq : q < 20)
    (H0 : B ρ c = 0 → J (nI (z + 1)) (nI m) 0 (nI (max β q)) (nI (i + 1)) a1 (upd a2 (8 * c + 8 + z) (nI ρ)) (upd a3 (8 * c + 8 + z) sz) a4 a5)
    (H1 : B ρ c ≠ 0 → J (nI z) (nI (m + 1)) sz 0 (nI (i + 1)) a1 a2 a3 (upd a4 m (nI ρ)) (upd a5 m (nI (max β q)))) :
    wX_part_74 post J (nI c) x2 (nI (8 * c + 8)) (nI z) (nI m) (nI q) (nI i) (nI ρ) (nI β) sz f0 f1 a1 a2 a3 a4 a5 := by
  unfold wX_part_74
  refine pk_le β q (fun h => ?_) (fun h => ?_)
  · rw [show max β q = q by omega] at H0 H1
    exact hr_p90 hB hR hc hρ hz hm H0 H1
  · rw [show max β q = β by omega] at H0 H1
    exact hr_p90 hB hR hc hρ hz hm H0 H1
theorem hr_p29 {post : St2 → Prop} {D : Nat → Bool} {B : Nat → Nat → Nat} {f1 : Int32} {a1 a2 a3 a4 a5 : Nat → Int32} {n c z m i ρ β p q : Nat}
    (hB : hr_B D B) (hR : hr_R B a1) (hc : c < 12) (hi : i < 2) (hρ : ρ < 2) (hz : z < 2) (hm : m < 2) (hβ : β < 20) (hp : p < 20) (hq : q < 20)
    (e2 : a2 (8 * c + i) = nI ρ) (e3 : a3 (8 * c + i) = nI β)
    (H0 : B ρ c = 0 → wX_part_29 post (nI c) (nI (8 * c)) (nI (8 * c + 8)) (nI 2) f1 n (nI (z + 1)) (nI m) 0 (nI (max β q)) (nI (i + 1)) a1 (upd a2 (8 * c + 8 + z) (nI ρ)) (upd a3 (8 * c + 8 + z) (nI (max β p))) a4 a5)
    (H1 : B ρ c ≠ 0 → wX_part_29 post (nI c) (nI (8 * c)) (nI (8 * c + 8)) (nI 2) f1 n (nI z) (nI (m + 1)) (nI (max β p)) 0 (nI (i + 1)) a1 a2 a3 (upd a4 m (nI ρ)) (upd a5 m (nI (max β q)))) :
    wX_part_29 post (nI c) (nI (8 * c)) (nI (8 * c + 8)) (nI 2) f1 (n + 1) (nI z) (nI m) (nI p) (nI q) (nI i) a1 a2 a3 a4 a5 := by
  have ei : (nI (8 * c) + nI i).toNatClampNeg = 8 * c + i := by rw [nI_add, nI_clamp (by omega)]
  refine pk_le 2 i (fun h => absurd h (by omega)) (fun _ => ⟨pk_in (8 * c + i) 104 (by omega) (nI_add _ _), nm_r (by rw [ei, e2]) ⟨pk_in (8 * c + i) 104 (by omega) (nI_add _ _), nm_r (by rw [ei, e3]) ?_⟩⟩)
  refine pk_le β p (fun h => ?_) (fun h => ?_)
  · rw [show max β p = p by omega] at H0 H1
    exact hr_p74 hB hR hc hρ hz hm hβ hq H0 H1
  · rw [show max β p = β by omega] at H0 H1
    exact hr_p74 hB hR hc hρ hz hm hβ hq H0 H1
/-- part: the rows with 1 follow -/
theorem hr_p166 {post : St2 → Prop} {f0 f1 : Int32} {a1 a2 a3 a4 a5 : Nat → Int32} {n t z m i : Nat} (hi : i < m) (h8 : i < 8) (hm : m < 8) (ht : t + z + i < 104)
    (H : wX_part_166 post (nI t) (nI z) (nI m) f0 f1 n (nI (i + 1)) a1 (upd a2 (t + z + i) (a4 i)) (upd a3 (t + z + i) (a5 i)) a4 a5) :
    wX_part_166 post (nI t) (nI z) (nI m) f0 f1 (n + 1) (nI i) a1 a2 a3 a4 a5 := by
  have e : (nI t + nI z + nI i).toNatClampNeg = t + z + i := by rw [nI_add, nI_add, nI_clamp (by omega)]
  have ei : (nI i).toNatClampNeg = i := nI_clamp (by omega)
  have hx : nI t + nI z + nI i = nI (t + z + i) := by rw [nI_add, nI_add]
  exact pk_le m i (fun h => absurd h (by omega)) (fun _ => ⟨pk_in i 8 h8, pk_in (t + z + i) 104 ht hx, nm_r (by rw [e, ei]) ⟨pk_in i 8 h8, pk_in (t + z + i) 104 ht hx, nm_r (by rw [e, ei]) (nm_r (nI_1 i) H)⟩⟩)
theorem hr_p166x {post : St2 → Prop} {x3 x4 f0 f1 : Int32} {a1 a2 a3 a4 a5 : Nat → Int32} {n m : Nat} (hm : m < 8) (H : post (f0, f1, a1, a2, a3, a4, a5)) : wX_part_166 post x3 x4 (nI m) f0 f1 (n + 1) (nI m) a1 a2 a3 a4 a5 :=
  pk_le m m (fun _ => H) (fun h => absurd h (by omega))
theorem hr_p29x {post : St2 → Prop} {x1 x2 x3 x4 x5 x6 x7 f1 : Int32} {a1 a2 a3 a4 a5 : Nat → Int32} {n : Nat} (H : ∃ k, wX_part_166 post x3 x4 x5 (nI 2) f1 k (nI 0) a1 a2 a3 a4 a5) : wX_part_29 post x1 x2 x3 (nI 2) f1 (n + 1) x4 x5 x6 x7 (nI 2) a1 a2 a3 a4 a5 :=
  pk_le 2 2 (fun _ => H) (fun h => absurd h (by omega))
theorem hr_part {post : St2 → Prop} {D : Nat → Bool} {B : Nat → Nat → Nat} {f1 : Int32} {a1 a2 a3 a4 a5 : Nat → Int32} {c : Nat} (hB : hr_B D B) (hR : hr_R B a1) (hc : c < 12) (hP : hr_P D B c a2 a3)
    (H : ∀ a2' a3' a4' a5', hr_P D B (c + 1) a2' a3' → post (nI 2, f1, a1, a2', a3', a4', a5')) : wpX_part post (nI 2, f1, a1, a2, a3, a4, a5) (nI c) := by
  have ho := hr_olt hB c (by omega)
  have hs := hr_sle D c
  obtain ⟨q1, q2, q3, q4⟩ := hP c (Nat.le_refl c)
  have E1 := fun h => hr_same1 hB ho hc h rfl
  have E2 := hr_diff1 hB ho hc
  have ho' : 1 - hr_o D (B 0) c < 2 := by omega
  have hb0 := hr_Blt hB ho hc
  have hb1 := hr_Blt hB ho' hc
  refine nm_r (pk_mul 8 c) (nm_r (nI_add (8 * c) 8) (nm_r (nI_1 c) (nm_r (nI_1 c) ⟨3, ?_⟩)))
  refine hr_p29 (z := 0) (m := 0) (i := 0) (p := c + 1) (q := c + 1) hB hR hc (by omega) ho (by omega) (by omega) (by omega) (by omega) (by omega) q1 q3 (fun g => ?_) (fun g => ?_)
  · -- the first row has 0
    refine hr_p29 (p := 0) hB hR hc (by omega) ho' (by omega) (by omega) (by omega) (by omega) (by omega) ((pk_un (by omega)).trans q2) ((pk_un (by omega)).trans q4) (fun g' => ?_) (fun g' => ?_)
    · obtain ⟨w1, w2⟩ := E1 (by omega)
      refine hr_p29x ⟨1, hr_p166x (by omega) (H _ _ _ _ (hr_fin hP rfl rfl ?_ ?_ ?_ ?_))⟩
      · rw [w1]
      · rw [w1]
      · rw [show max c (c + 1) = c + 1 by omega]
      · rw [w2, show max (hr_s D c) 0 = hr_s D c by omega]
    · obtain ⟨w1, w2⟩ := E2 (by omega)
      rw [if_pos g] at w1
      refine hr_p29x ⟨2, hr_p166 (by omega) (by omega) (by omega) (by omega) (hr_p166x (by omega) (H _ _ _ _ (hr_fin hP rfl rfl ?_ ?_ ?_ ?_)))⟩
      · rw [w1]
      · rw [w1, pk_us]
      · rw [show max c (c + 1) = c + 1 by omega]
      · rw [w2, pk_us, show max (hr_s D c) (max c (c + 1)) = c + 1 by omega]
  · -- the first row has 1
    refine hr_p29 (q := 0) hB hR hc (by omega) ho' (by omega) (by omega) (by omega) (by omega) (by omega) q2 q4 (fun g' => ?_) (fun g' => ?_)
    · obtain ⟨w1, w2⟩ := E2 (by omega)
      rw [if_neg g] at w1
      refine hr_p29x ⟨2, hr_p166 (by omega) (by omega) (by omega) (by omega) (hr_p166x (by omega) (H _ _ _ _ (hr_fin hP rfl rfl ?_ ?_ ?_ ?_)))⟩
      · rw [w1]
      · rw [w1, pk_us, show 1 - (1 - hr_o D (B 0) c) = hr_o D (B 0) c by omega]
      · rw [show max (hr_s D c) (max c (c + 1)) = c + 1 by omega]
      · rw [w2, pk_us, show max c (c + 1) = c + 1 by omega]
    · obtain ⟨w1, w2⟩ := E1 (by omega)
      refine hr_p29x ⟨3, hr_p166 (by omega) (by omega) (by omega) (by omega) (hr_p166 (by omega) (by omega) (by omega) (by omega) (hr_p166x (by omega) (H _ _ _ _ (hr_fin hP rfl rfl ?_ ?_ ?_ ?_))))⟩
      · rw [w1, pk_un (by omega), pk_us]
      · rw [w1, pk_us]
      · rw [pk_un (by omega), pk_us, show max c (c + 1) = c + 1 by omega]
      · rw [w2, pk_us, show max (hr_s D c) 0 = hr_s D c by omega]
theorem hr_b40 {post : St2 → Prop} {D : Nat → Bool} {B : Nat → Nat → Nat} {f1 : Int32} {a1 a2 a3 a4 a5 : Nat → Int32} (hB : hr_B D B) (hR : hr_R B a1) (hP : hr_P D B 0 a2 a3)
    (H : ∀ a2' a3' a4' a5', hr_P D B 12 a2' a3' → post (nI 2, 1, a1, a2', a3', a4', a5')) : ∃ n, wX_build_40 post n 0 (nI 2) f1 a1 a2 a3 a4 a5 :=
  pk_loop (fun n i (s : (Nat → Int32) × (Nat → Int32) × (Nat → Int32) × (Nat → Int32)) => wX_build_40 post n (nI i) (nI 2) f1 a1 s.1 s.2.1 s.2.2.1 s.2.2.2) (fun i s => hr_P D B i s.1 s.2.1) 12 0 (a2, a3, a4, a5) (by omega) hP
    (fun n s h => pk_le 12 12 (fun _ => H _ _ _ _ h) (fun z => absurd z (by omega)))
    (fun n i s hi h hw => pk_le 12 i (fun z => absurd z (by omega)) (fun _ => hr_part hB hR hi h (fun a2' a3' a4' a5' h' => nm_r (nI_1 i) (hw (a2', a3', a4', a5') h'))))
theorem hr_b10 {post : St2 → Prop} {f1 : Int32} {a1 a2 a3 a4 a5 : Nat → Int32} {n i : Nat} (hi : i < 2) (H : wX_build_10 post (nI 2) f1 n (nI (i + 1)) a1 (upd a2 i (nI i)) (upd a3 i 0) a4 a5) : wX_build_10 post (nI 2) f1 (n + 1) (nI i) a1 a2 a3 a4 a5 :=
  pk_le 2 i (fun z => absurd z (by omega)) (fun _ => ⟨pk_in i 104 (by omega), nm_r (by rw [nI_clamp (by omega)]) ⟨pk_in i 104 (by omega), nm_r (by rw [nI_clamp (by omega)]) (nm_r (nI_1 i) H)⟩⟩)
theorem hr_build0 {post : St2 → Prop} {D : Nat → Bool} {B : Nat → Nat → Nat} {a1 a2 a3 a4 a5 : Nat → Int32} (hB : hr_B D B) (hR : hr_R B a1)
    (H : ∀ a2' a3' a4' a5', hr_P D B 12 a2' a3' → post (nI 2, 1, a1, a2', a3', a4', a5')) : wpX_build post (nI 2, 0, a1, a2, a3, a4, a5) := by
  refine br_t rfl ⟨3, hr_b10 (i := 0) (by omega) (hr_b10 (by omega) (pk_le 2 2 (fun _ => hr_b40 hB hR ?_ H) (fun z => absurd z (by omega))))⟩
  intro c hc
  have e : c = 0 := by omega
  subst e
  refine ⟨?_, ?_, ?_, ?_⟩
  · rw [pk_un (by omega), pk_us]; rfl
  · exact pk_us
  · rw [pk_un (by omega), pk_us]; rfl
  · exact pk_us
theorem hr_build1 {post : St2 → Prop} {f0 : Int32} {a1 a2 a3 a4 a5 : Nat → Int32} (H : post (f0, 1, a1, a2, a3, a4, a5)) : wpX_build post (f0, 1, a1, a2, a3, a4, a5) :=
  br_f (by decide) H
end
section
/-! the questions over a built state -/
theorem hr_plS {post : Int32 → Prop} {f1 : Int32} {a1 a2 a3 a4 a5 : Nat → Int32} {n r c i ρ : Nat} {x3 : Int32} (hc : c ≤ 12) (hi : i < 2) (hr : r < 2) (hρ : ρ < 2) (e : a2 (8 * c + i) = nI ρ)
    (H1 : ρ = r → wX_placeOf_5 post (nI r) (nI c) (nI 2) f1 a1 a2 a3 a4 a5 n (nI i) (nI (i + 1)))
    (H0 : ρ ≠ r → wX_placeOf_5 post (nI r) (nI c) (nI 2) f1 a1 a2 a3 a4 a5 n x3 (nI (i + 1))) :
    wX_placeOf_5 post (nI r) (nI c) (nI 2) f1 a1 a2 a3 a4 a5 (n + 1) x3 (nI i) :=
  pk_le 2 i (fun z => absurd z (by omega)) (fun _ => ⟨pk_in (8 * c + i) 104 (by omega) (hr_ix c i), pk_eq ρ r (fun z => nm_r (nI_1 i) (H1 z)) (fun z => nm_r (nI_1 i) (H0 z)) (by rw [hr_cl (by omega), e]) rfl⟩)
theorem hr_plX {post : Int32 → Prop} {f1 : Int32} {a1 a2 a3 a4 a5 : Nat → Int32} {n : Nat} {x1 x2 x3 : Int32} (H : post x3) : wX_placeOf_5 post x1 x2 (nI 2) f1 a1 a2 a3 a4 a5 (n + 1) x3 (nI 2) :=
  pk_le 2 2 (fun _ => H) (fun z => absurd z (by omega))
theorem hr_place0 {post : Int32 → Prop} {D : Nat → Bool} {B : Nat → Nat → Nat} {f1 : Int32} {a1 a2 a3 a4 a5 : Nat → Int32} {r c : Nat} (hB : hr_B D B) (hP : hr_P D B 12 a2 a3) (hc : c ≤ 12) (hr : r < 2) (e : hr_o D (B 0) c = r) (H : post (nI 0)) :
    wpX_placeOf post (nI 2, f1, a1, a2, a3, a4, a5) (nI r) (nI c) := by
  obtain ⟨q1, q2, _, _⟩ := hP c hc
  rw [e] at q1 q2
  refine ⟨3, hr_plS (i := 0) (x3 := nI 0) hc (by omega) hr hr q1 (fun _ => ?_) (fun z => absurd rfl z)⟩
  exact hr_plS hc (by omega) hr (show 1 - r < 2 by omega) q2 (fun z => absurd z (by omega)) (fun _ => hr_plX H)
theorem hr_place1 {post : Int32 → Prop} {D : Nat → Bool} {B : Nat → Nat → Nat} {f1 : Int32} {a1 a2 a3 a4 a5 : Nat → Int32} {r c : Nat} (hB : hr_B D B) (hP : hr_P D B 12 a2 a3) (hc : c ≤ 12) (hr : r < 2) (e : hr_o D (B 0) c ≠ r) (H : post (nI 1)) :
    wpX_placeOf post (nI 2, f1, a1, a2, a3, a4, a5) (nI r) (nI c) := by
  obtain ⟨q1, q2, _, _⟩ := hP c hc
  have ho := hr_olt hB c hc
  refine ⟨3, hr_plS (i := 0) (x3 := nI 0) hc (by omega) hr ho q1 (fun z => absurd z e) (fun _ => ?_)⟩
  exact hr_plS hc (by omega) hr (show 1 - hr_o D (B 0) c < 2 by omega) q2 (fun _ => hr_plX H) (fun z => absurd (show 1 - hr_o D (B 0) c = r by omega) z)
theorem hr_a57 {post : Int32 → Prop} {D : Nat → Bool} {B : Nat → Nat → Nat} {f0 f1 : Int32} {a1 a2 a3 a4 a5 : Nat → Int32} {c : Nat} (hP : hr_P D B 12 a2 a3) (hc : c ≤ 12) (H : post (nI (hr_s D c))) :
    ∃ n, wX_agreeSince_57 post (nI c) (nI 1) f0 f1 a1 a2 a3 a4 a5 n 0 (nI 1) := by
  obtain ⟨_, _, _, q4⟩ := hP c hc
  have hs := hr_sle D c
  refine ⟨2, pk_lt 1 1 (fun z => absurd z (by omega)) (fun _ => ⟨pk_in (8 * c + 1) 104 (by omega) (hr_ix c 1), nm_r (by rw [hr_cl (by omega), q4]) (pk_le (hr_s D c) 0 (fun z => ?_) (fun z => ?_))⟩)⟩
  · have e : hr_s D c = 0 := by omega
    rw [e] at H
    exact nm_r (nI_1 1) (pk_lt 1 2 (fun _ => H) (fun z => absurd z (by omega)))
  · exact nm_r (nI_1 1) (pk_lt 1 2 (fun _ => H) (fun z => absurd z (by omega)))
theorem hr_agree {post : Int32 → Prop} {D : Nat → Bool} {B : Nat → Nat → Nat} {f1 : Int32} {a1 a2 a3 a4 a5 : Nat → Int32} {r s c : Nat} (hB : hr_B D B) (hP : hr_P D B 12 a2 a3) (hr : r < 2) (hs : s < 2) (hrs : r ≠ s) (hc : c ≤ 12) (H : post (nI (hr_s D c))) :
    wpX_agreeSince post (nI 2, f1, a1, a2, a3, a4, a5) (nI r) (nI s) (nI c) := by
  have ho := hr_olt hB c hc
  by_cases e : hr_o D (B 0) c = r
  · exact hr_place0 hB hP hc hr e (hr_place1 hB hP hc hs (by omega) (pk_le 1 0 (fun z => absurd z (by omega)) (fun _ => pk_le 1 0 (fun z => absurd z (by omega)) (fun _ => nm_r (nI_1 0) (hr_a57 hP hc H)))))
  · exact hr_place1 hB hP hc hr e (hr_place0 hB hP hc hs (by omega) (pk_le 0 1 (fun _ => pk_le 0 1 (fun _ => nm_r (nI_1 0) (hr_a57 hP hc H)) (fun z => absurd z (by omega))) (fun z => absurd z (by omega))))
theorem hr_parts {post : Int32 → Prop} {D : Nat → Bool} {B : Nat → Nat → Nat} {f0 f1 : Int32} {a1 a2 a3 a4 a5 : Nat → Int32} {r s c : Nat} (hB : hr_B D B) (hR : hr_R B a1) (hr : r < 2) (hs : s < 2) (hrs : r ≠ s) (hc : c ≤ 12) (H : post (nI (hr_e D c))) :
    wpX_parts post (f0, f1, a1, a2, a3, a4, a5) (nI r) (nI s) (nI c) := by
  refine pk_eq c 12 (fun e => ?_) (fun e => ?_)
  · rw [show hr_e D c = 1 from if_pos e] at H
    exact H
  · have hc' : c < 12 := by omega
    have hb := hr_Blt hB hr hc'
    have hb' := hr_Blt hB hs hc'
    have hn := hr_Bne hB hr hs hrs hc'
    have he : hr_e D c = if D c = true then 1 else 0 := if_neg e
    refine hr_at hR hr hc' (hr_at hR hs hc' (pk_eq (B r c) (B s c) (fun g => ?_) (fun g => ?_)))
    · rw [he, if_neg (fun z => hn.mp z g)] at H
      exact H
    · rw [he, if_pos (hn.mpr g)] at H
      exact H
theorem hr_60 {post : Int32 → Prop} {J5 : Int32 → Int32 → Prop} {J23 : Int32 → Int32 → Int32 → Prop} {D : Nat → Bool} {B : Nat → Nat → Nat} {f0 f1 : Int32} {a1 a2 a3 a4 a5 : Nat → Int32} {c : Nat} (hB : hr_B D B) (hR : hr_R B a1) (hP : hr_P D B 12 a2 a3) (hc : c ≤ 12)
    (H : J23 (nI (hr_h D c)) (nI (hr_s D c)) (nI 2)) : wX_endingAt_60 post J5 J23 (nI c) (nI 1) (nI 0) (nI 0) (nI 1) (nI (hr_s D c)) f0 f1 a1 a2 a3 a4 a5 := by
  obtain ⟨q1, q2, _, _⟩ := hP c hc
  have ho := hr_olt hB c hc
  have hs := hr_sle D c
  have he := hr_ele D c
  refine ⟨pk_in (8 * c + 0) 104 (by omega) (hr_ix c 0), nm_r (e' := nI (hr_o D (B 0) c)) (by rw [hr_cl (by omega)]; exact q1) ⟨pk_in (8 * c + 1) 104 (by omega) (hr_ix c 1), nm_r (e' := nI (1 - hr_o D (B 0) c)) (by rw [hr_cl (by omega)]; exact q2) ?_⟩⟩
  refine pk_lt (c - hr_s D c) 1 (fun z => ?_) (fun z => ?_) (pk_sub hs) rfl
  · rw [show hr_h D c = 0 from if_neg (by omega)] at H
    exact nm_r (nI_1 1) H
  · rw [show hr_h D c = hr_e D c from if_pos (by omega)] at H
    refine hr_parts hB hR ho (show 1 - hr_o D (B 0) c < 2 by omega) (by omega) hc (pk_eq (hr_e D c) 0 (fun g => ?_) (fun g => ?_))
    · rw [g] at H
      exact nm_r (nI_1 1) H
    · rw [show hr_e D c = 1 by omega] at H
      exact nm_r (nI_1 0) (nm_r (nI_1 1) H)
theorem hr_end {post : Int32 → Prop} {D : Nat → Bool} {B : Nat → Nat → Nat} {f1 : Int32} {a1 a2 a3 a4 a5 : Nat → Int32} {c : Nat} (hB : hr_B D B) (hR : hr_R B a1) (hP : hr_P D B 12 a2 a3) (hc : c ≤ 12) (H : post (nI (hr_h D c))) :
    wpX_endingAt post (nI 2, f1, a1, a2, a3, a4, a5) (nI c) (nI 1) := by
  obtain ⟨_, _, _, q4⟩ := hP c hc
  have hs := hr_sle D c
  have X : ∀ v, wX_endingAt_23 post (wX_endingAt_5 post (nI c) (nI 1) (nI 2) f1 a1 a2 a3 a4 a5 2) (nI c) (nI 1) (nI 0) (nI 2) f1 a1 a2 a3 a4 a5 1 (nI (hr_h D c)) v (nI 2) := fun v =>
    pk_le 2 2 (fun _ => nm_r (nI_1 0) (pk_le 2 1 (fun z => absurd z (by omega)) (fun _ => nm_r (nI_1 1) ⟨1, pk_le 2 2 (fun _ => nm_r (nI_1 1) (pk_le 2 2 (fun _ => H) (fun z => absurd z (by omega)))) (fun z => absurd z (by omega))⟩))) (fun z => absurd z (by omega))
  refine ⟨3, pk_le 2 0 (fun z => absurd z (by omega)) (fun _ => nm_r (nI_1 0) ⟨2, pk_le 2 1 (fun z => absurd z (by omega)) (fun _ => ⟨pk_in (8 * c + 1) 104 (by omega) (hr_ix c 1), nm_r (by rw [hr_cl (by omega), q4]) (pk_le (hr_s D c) 0 (fun z => ?_) (fun z => ?_))⟩)⟩)⟩
  · have e : hr_s D c = 0 := by omega
    have t := hr_60 (post := post) (J5 := wX_endingAt_5 post (nI c) (nI 1) (nI 2) f1 a1 a2 a3 a4 a5 2) (f0 := nI 2) (f1 := f1) (a4 := a4) (a5 := a5) hB hR hP hc (X _)
    rw [e] at t
    exact t
  · exact hr_60 hB hR hP hc (X _)
theorem hr_matches {post : Int32 → St2 → Prop} {D : Nat → Bool} {B : Nat → Nat → Nat} {a1 a2 a3 a4 a5 : Nat → Int32} (hB : hr_B D B) (hR : hr_R B a1)
    (H : ∀ a2' a3' a4' a5', hr_P D B 12 a2' a3' → post (nI (hr_m D 12)) (nI 2, 1, a1, a2', a3', a4', a5')) : wpX_matches post (nI 2, 0, a1, a2, a3, a4, a5) (nI 1) := by
  refine pk_lt 1 1 (fun z => absurd z (by omega)) (fun _ => pk_le 1 12 (fun _ => hr_build0 hB hR (fun b2 b3 b4 b5 hP => ?_)) (fun z => absurd z (by omega)))
  exact pk_loop (fun n i (s : Nat) => wX_matches_21 post (nI 1) (nI 2) 1 a1 b2 b3 b4 b5 n (nI s) (nI (i + 1))) (fun i s => s = hr_m D i) 12 0 0 (by omega) rfl
    (fun n s h => pk_lt 12 13 (fun _ => by rw [h]; exact H b2 b3 b4 b5 hP) (fun z => absurd z (by omega)))
    (fun n i s hi h hw => pk_lt 12 (i + 1) (fun z => absurd z (by omega)) (fun _ => hr_end hB hR hP (by omega) (nm_r (nI_add _ _) (nm_r (nI_1 _) (hw (s + hr_h D (i + 1)) (by rw [h]; rfl))))))
theorem hr_noRow {post : Int32 → Prop} {f1 : Int32} {a1 a2 a3 a4 a5 : Nat → Int32} {r : Nat} (hr : r < 2) (H : post 0) : wpX_noRow post (nI 2, f1, a1, a2, a3, a4, a5) (nI r) :=
  pk_lt r 0 (fun z => absurd z (by omega)) (fun _ => pk_lt r 2 (fun _ => H) (fun z => absurd z (by omega)))
theorem hr_longest {post : Int32 → St2 → Prop} {D : Nat → Bool} {B : Nat → Nat → Nat} {a1 a2 a3 a4 a5 : Nat → Int32} (hB : hr_B D B) (hP : hr_P D B 12 a2 a3)
    (H : post (nI (hr_l D 12)) (nI 2, 1, a1, a2, a3, a4, a5)) : wpX_longest post (nI 2, 1, a1, a2, a3, a4, a5) (nI 1) (nI 0) := by
  unfold wpX_longest
  dsimp only
  refine hr_noRow (r := 1) (by omega) (br_t rfl (hr_noRow (r := 0) (by omega) (br_t rfl (pk_eq 1 0 (fun z => absurd z (by omega)) (fun _ => hr_build1 ?_)))))
  exact pk_loop (fun n i (s : Nat) => wX_longest_33 post (nI 1) (nI 0) (nI 2) 1 a1 a2 a3 a4 a5 n (nI s) (nI (i + 1))) (fun i s => s = hr_l D i) 12 0 0 (by omega) rfl
    (fun n s h => pk_lt 12 13 (fun _ => by rw [h]; exact H) (fun z => absurd z (by omega)))
    (fun n i s hi h hw => by
      have hl := hr_lle D i
      have hs := hr_sle D (i + 1)
      refine pk_lt 12 (i + 1) (fun z => absurd z (by omega)) (fun _ => hr_agree hB hP (by omega) (by omega) (by omega) (by omega) ?_)
      refine pk_le (i + 1 - hr_s D (i + 1)) s (fun z => nm_r (nI_1 _) (hw s ?_)) (fun z => nm_r (pk_sub hs) (nm_r (nI_1 _) (hw _ ?_))) (pk_sub hs) rfl
      · rw [h] at z
        rw [h]
        exact (if_pos z).symm
      · rw [h] at z
        exact (if_neg (by omega)).symm)
theorem hr_best {post : Int32 → Prop} {D : Nat → Bool} {B : Nat → Nat → Nat} {f1 : Int32} {a1 a2 a3 a4 a5 : Nat → Int32} {r c : Nat} (hB : hr_B D B) (hP : hr_P D B 12 a2 a3) (hr : r < 2) (hc : c ≤ 12) (H : post (nI (hr_s D c))) :
    wpX_bestSince post (nI 2, f1, a1, a2, a3, a4, a5) (nI r) (nI c) := by
  obtain ⟨_, _, _, q4⟩ := hP c hc
  have hs := hr_sle D c
  have ho := hr_olt hB c hc
  have e01 : ((8 : Int32) * nI c + nI 0) + 1 = nI (8 * c + 1) := by rw [hr_ix]; exact nI_1 _
  by_cases e : hr_o D (B 0) c = r
  · refine hr_place0 hB hP hc hr e (pk_le 0 0 (fun _ => ?_) (fun z => absurd z (by omega)))
    refine pk_le 2 1 (fun z => absurd z (by omega)) (fun _ => ⟨pk_in (8 * c + 1) 104 (by omega) e01, ?_⟩)
    rw [e01, nI_clamp (by omega), q4]
    exact pk_le (hr_s D c) c (fun _ => H) (fun z => absurd z (by omega))
  · refine hr_place1 hB hP hc hr e (pk_le 1 0 (fun z => absurd z (by omega)) (fun _ => ⟨pk_in (8 * c + 1) 104 (by omega) (hr_ix c 1), ?_⟩))
    rw [hr_cl (by omega), q4]
    refine pk_le 2 2 (fun _ => ?_) (fun z => absurd z (by omega))
    refine pk_le c (hr_s D c) (fun z => ?_) (fun _ => H)
    rw [show hr_s D c = c by omega] at H
    exact H
end
section
theorem hr_wins {post : Int32 → Prop} {D : Nat → Bool} {B : Nat → Nat → Nat} {f1 : Int32} {a1 a2 a3 a4 a5 : Nat → Int32} {c : Nat} (hB : hr_B D B) (hR : hr_R B a1) (hP : hr_P D B 12 a2 a3) (hc : c ≤ 12) (H : post (nI (hr_h D c))) :
    wpX_winsBefore post (nI 2, f1, a1, a2, a3, a4, a5) (nI 0) (nI c) := by
  have hs := hr_sle D c
  have he := hr_ele D c
  refine hr_best hB hP (by omega) hc (pk_eq (hr_s D c) c (fun g => ?_) (fun g => ?_))
  · rw [show hr_h D c = 0 from if_neg (by omega)] at H
    exact H
  · rw [show hr_h D c = hr_e D c from if_pos (by omega)] at H
    refine ⟨3, pk_le 2 0 (fun z => absurd z (by omega)) (fun _ => pk_eq 0 0 (fun _ => nm_r (nI_1 0) ?_) (fun z => absurd rfl z))⟩
    refine pk_le 2 1 (fun z => absurd z (by omega)) (fun _ => pk_eq 1 0 (fun z => absurd z (by omega)) (fun _ => ?_))
    refine hr_agree hB hP (r := 0) (s := 1) (by omega) (by omega) (by omega) hc (br_t rfl (nm_r (nI_1 0) ?_))
    refine hr_parts hB hR (r := 0) (s := 1) (by omega) (by omega) (by omega) hc (br_t rfl (pk_eq (hr_e D c) 0 (fun g' => nm_r (nI_1 1) ?_) (fun g' => nm_r (nI_1 1) ?_)))
    · rw [g'] at H
      exact pk_le 2 2 (fun _ => br_f (by decide) H) (fun z => absurd z (by omega))
    · rw [show hr_e D c = 1 by omega] at H
      exact pk_le 2 2 (fun _ => br_t rfl H) (fun z => absurd z (by omega))
theorem hr_winning {post : Int32 → St2 → Prop} {D : Nat → Bool} {B : Nat → Nat → Nat} {a1 a2 a3 a4 a5 : Nat → Int32} (hB : hr_B D B) (hR : hr_R B a1) (hP : hr_P D B 12 a2 a3)
    (H : post (nI (hr_m D 12)) (nI 2, 1, a1, a2, a3, a4, a5)) : wpX_winning post (nI 2, 1, a1, a2, a3, a4, a5) (nI 0) := by
  unfold wpX_winning
  dsimp only
  refine hr_noRow (r := 0) (by omega) (br_t rfl (hr_build1 ?_))
  exact pk_loop (fun n i (s : Nat) => wX_winning_19 post (nI 0) (nI 2) 1 a1 a2 a3 a4 a5 n (nI s) (nI (i + 1))) (fun i s => s = hr_m D i) 12 0 0 (by omega) rfl
    (fun n s h => pk_lt 12 13 (fun _ => by rw [h]; exact H) (fun z => absurd z (by omega)))
    (fun n i s hi h hw => pk_lt 12 (i + 1) (fun z => absurd z (by omega)) (fun _ => hr_wins hB hR hP (by omega) (nm_r (nI_add _ _) (nm_r (nI_1 _) (hw (s + hr_h D (i + 1)) (by rw [h]; rfl))))))
/-- cover: the longest stretch that has column k -/
theorem hr_c33 {post : Int32 → St2 → Prop} {J : Int32 → Int32 → Prop} {D : Nat → Bool} {B : Nat → Nat → Nat} {a1 a2 a3 a4 a5 : Nat → Int32} {k S : Nat} (hB : hr_B D B) (hP : hr_P D B 12 a2 a3) (hk : k < 12)
    (H : J (nI (S + hr_cv D k (12 - k))) (nI (k + 1))) : ∃ n, wX_cover_33 post J (nI 1) (nI S) (nI k) (nI 2) 1 a1 a2 a3 a4 a5 n 0 (nI (k + 1)) :=
  pk_loop (fun n j (s : Nat) => wX_cover_33 post J (nI 1) (nI S) (nI k) (nI 2) 1 a1 a2 a3 a4 a5 n (nI s) (nI (k + 1 + j))) (fun j s => s = hr_cv D k j) (12 - k) 0 0 (by omega) rfl
    (fun n s h => pk_lt 12 (k + 1 + (12 - k)) (fun _ => nm_r (nI_add _ _) (nm_r (nI_1 k) (by rw [h]; exact H))) (fun z => absurd z (by omega)))
    (fun n j s hj h hw => by
      have hs := hr_sle D (k + 1 + j)
      have hl := hr_cvle D k j
      have V : ∀ v, hr_v D k (k + 1 + j) = v → v < 20 → wX_cover_64 post J (wX_cover_33 post J (nI 1) (nI S) (nI k) (nI 2) 1 a1 a2 a3 a4 a5 n) (nI 1) (nI S) (nI k) (nI s) (nI (k + 1 + j)) (nI v) (nI 2) 1 a1 a2 a3 a4 a5 := by
        intro v hv hv2
        refine pk_le v s (fun z => nm_r (nI_1 _) (hw s ?_)) (fun z => nm_r (nI_1 _) (hw v ?_))
        · rw [h, ← hv] at z
          rw [h]
          exact (if_pos z).symm
        · rw [h, ← hv] at z
          rw [← hv]
          exact (if_neg (by omega)).symm
      refine pk_lt 12 (k + 1 + j) (fun z => absurd z (by omega)) (fun _ => hr_best hB hP (by omega) (by omega) ?_)
      refine pk_lt k (hr_s D (k + 1 + j)) (fun z => V 0 (if_pos z) (by omega)) (fun z => ?_)
      have t := V (k + 1 + j - hr_s D (k + 1 + j)) (if_neg (by omega)) (by omega)
      rw [← pk_sub hs] at t
      exact t)
theorem hr_cover {post : Int32 → St2 → Prop} {D : Nat → Bool} {B : Nat → Nat → Nat} {a1 a2 a3 a4 a5 : Nat → Int32} (hB : hr_B D B) (hP : hr_P D B 12 a2 a3)
    (H : post (nI (hr_cs D 12)) (nI 2, 1, a1, a2, a3, a4, a5)) : wpX_cover post (nI 2, 1, a1, a2, a3, a4, a5) (nI 1) := by
  unfold wpX_cover
  dsimp only
  refine hr_noRow (r := 1) (by omega) (br_t rfl (hr_build1 ?_))
  exact pk_loop (fun n i (s : Nat) => wX_cover_19 post (nI 1) (nI 2) 1 a1 a2 a3 a4 a5 n (nI s) (nI i)) (fun i s => s = hr_cs D i) 12 0 0 (by omega) rfl
    (fun n s h => pk_le 12 12 (fun _ => by rw [h]; exact H) (fun z => absurd z (by omega)))
    (fun n i s hi h hw => pk_le 12 i (fun z => absurd z (by omega)) (fun _ => nm_r (nI_1 i) (hr_c33 hB hP hi (hw (s + hr_cv D i (12 - i)) (by rw [h]; rfl)))))
theorem hr_kinds {post : Int32 → St2 → Prop} {D : Nat → Bool} {B : Nat → Nat → Nat} {a1 a2 a3 a4 a5 : Nat → Int32} {k : Nat} (hP : hr_P D B 12 a2 a3) (hk : k < 12) (hD : D k = true)
    (H : post (nI 2) (nI 2, 1, a1, a2, a3, a4, a5)) : wpX_kinds post (nI 2, 1, a1, a2, a3, a4, a5) (nI k) (nI k) := by
  obtain ⟨_, _, _, q4⟩ := hP (k + 1) (by omega)
  rw [show hr_s D (k + 1) = k + 1 from if_pos hD] at q4
  have e1 : (8 : Int32) * (nI k + 1) + nI 1 = nI (8 * (k + 1) + 1) := by rw [nI_1, hr_ix]
  refine pk_lt k 0 (fun z => absurd z (by omega)) (fun _ => pk_le 12 k (fun z => absurd z (by omega)) (fun _ => pk_le k k (fun _ => hr_build1 ?_) (fun z => absurd z (by omega))))
  refine ⟨3, pk_le 2 0 (fun z => absurd z (by omega)) (fun _ => pk_eq 0 0 (fun _ => nm_r (nI_1 0) (nm_r (nI_1 0) ?_)) (fun z => absurd rfl z))⟩
  refine pk_le 2 1 (fun z => absurd z (by omega)) (fun _ => pk_eq 1 0 (fun z => absurd z (by omega)) (fun _ => ⟨pk_in (8 * (k + 1) + 1) 104 (by omega) e1, ?_⟩))
  refine pk_le (k + 1) k (fun z => absurd z (by omega)) (fun _ => nm_r (nI_1 1) (nm_r (nI_1 1) ?_)) (by rw [e1, nI_clamp (by omega), q4]) rfl
  exact pk_le 2 2 (fun _ => H) (fun z => absurd z (by omega))
theorem hr_noPlace {post : Int32 → Prop} {f1 : Int32} {a1 a2 a3 a4 a5 : Nat → Int32} {c i : Nat} (hc : c ≤ 12) (hi : i < 2) (H : post 0) : wpX_noPlace post (nI 2, f1, a1, a2, a3, a4, a5) (nI c) (nI i) :=
  pk_lt c 0 (fun z => absurd z (by omega)) (fun _ => pk_lt 12 c (fun z => absurd z (by omega)) (fun _ => pk_lt i 0 (fun z => absurd z (by omega)) (fun _ => pk_lt i 2 (fun _ => H) (fun z => absurd z (by omega)))))
theorem hr_ordered {post : Int32 → St2 → Prop} {D : Nat → Bool} {B : Nat → Nat → Nat} {a1 a2 a3 a4 a5 : Nat → Int32} (hP : hr_P D B 12 a2 a3)
    (H : post (nI (hr_o D (B 0) 12)) (nI 2, 1, a1, a2, a3, a4, a5)) : wpX_ordered post (nI 2, 1, a1, a2, a3, a4, a5) (nI 12) (nI 0) := by
  obtain ⟨q1, _, _, _⟩ := hP 12 (Nat.le_refl 12)
  unfold wpX_ordered
  dsimp only
  refine hr_noPlace (by omega) (by omega) (br_t rfl (hr_build1 ⟨pk_in (8 * 12 + 0) 104 (by omega) (hr_ix 12 0), ?_⟩))
  dsimp only
  rw [hr_cl (by omega), show 8 * 12 + 0 = 8 * 12 from rfl, q1]
  exact H
theorem hr_since {post : Int32 → St2 → Prop} {D : Nat → Bool} {B : Nat → Nat → Nat} {a1 a2 a3 a4 a5 : Nat → Int32} (hP : hr_P D B 12 a2 a3)
    (H : post (nI (hr_s D 12)) (nI 2, 1, a1, a2, a3, a4, a5)) : wpX_since post (nI 2, 1, a1, a2, a3, a4, a5) (nI 12) (nI 1) := by
  obtain ⟨_, _, _, q4⟩ := hP 12 (Nat.le_refl 12)
  unfold wpX_since
  dsimp only
  refine hr_noPlace (by omega) (by omega) (br_t rfl (hr_build1 (pk_eq 1 0 (fun z => absurd z (by omega)) (fun _ => ⟨pk_in (8 * 12 + 1) 104 (by omega) (hr_ix 12 1), ?_⟩))))
  dsimp only
  rw [hr_cl (by omega), q4]
  exact H
/-! fit -/
theorem hr_dn : ∀ i, i < 12 → nI 11 - nI i + (-1) = nI 11 - nI (i + 1) := by decide +kernel
theorem hr_sb {post : Int32 → Prop} {D : Nat → Bool} {B : Nat → Nat → Nat} {f0 f1 x : Int32} {a1 a2 a3 a4 a5 : Nat → Int32} {r v : Nat} (hB : hr_B D B) (hR : hr_R B a1) (hx : ∀ c, c < 12 → (x >>> (nI c &&& 31)) &&& 1 = nI (B 0 c)) (hr : r < 2) (hv : v ≤ 12)
    (h1 : ∀ i, i < v → B r (11 - i) = B 0 (11 - i)) (h2 : v < 12 → B r (11 - v) ≠ B 0 (11 - v)) (H : post (nI v)) : wpX_sameBack post (f0, f1, a1, a2, a3, a4, a5) (nI r) x (nI 12) := by
  refine nm_r (show nI 12 - 1 = nI 11 - nI 0 by decide) ?_
  refine pk_loop (σ := Unit) (fun n i _ => wX_sameBack_8 post (nI r) x f0 f1 a1 a2 a3 a4 a5 n (nI i) (nI 11 - nI i)) (fun _ _ => True) v 0 () (by omega) trivial (fun n _ _ => ?_) (fun n i _ hi _ hw => ?_)
  · rcases Nat.lt_or_ge v 12 with z | z
    · have e : nI 11 - nI v = nI (11 - v) := pk_sub (by omega)
      show wX_sameBack_8 post (nI r) x f0 f1 a1 a2 a3 a4 a5 (n + 1) (nI v) (nI 11 - nI v)
      rw [e]
      have b1 := hr_Blt hB hr (c := 11 - v) (by omega)
      have b2 := hr_Blt hB (r := 0) (c := 11 - v) (by omega) (by omega)
      exact br_f (nI_pos (by omega)) (hr_at hR hr (by omega) (pk_eq (B r (11 - v)) (B 0 (11 - v)) (fun g => absurd g (h2 z)) (fun _ => H) rfl (hx (11 - v) (by omega))))
    · exact br_t (pk_sneg (by omega) (by omega)) H
  · have e : nI 11 - nI i = nI (11 - i) := pk_sub (by omega)
    have t : wX_sameBack_8 post (nI r) x f0 f1 a1 a2 a3 a4 a5 n (nI (i + 1)) (nI 11 - nI (i + 1)) := hw () trivial
    rw [← hr_dn i (by omega), e] at t
    show wX_sameBack_8 post (nI r) x f0 f1 a1 a2 a3 a4 a5 (n + 1) (nI i) (nI 11 - nI i)
    rw [e]
    have b1 := hr_Blt hB hr (c := 11 - i) (by omega)
    have b2 := hr_Blt hB (r := 0) (c := 11 - i) (by omega) (by omega)
    exact br_f (nI_pos (by omega)) (hr_at hR hr (by omega) (pk_eq (B r (11 - i)) (B 0 (11 - i)) (fun _ => nm_r (nI_1 i) (nm_e t)) (fun g => absurd (h1 i hi) g) rfl (hx (11 - i) (by omega))))
theorem hr_sb0 {post : Int32 → Prop} {D : Nat → Bool} {B : Nat → Nat → Nat} {f0 f1 x : Int32} {a1 a2 a3 a4 a5 : Nat → Int32} (hB : hr_B D B) (hR : hr_R B a1) (hx : ∀ c, c < 12 → (x >>> (nI c &&& 31)) &&& 1 = nI (B 0 c)) (H : post (nI 12)) :
    wpX_sameBack post (f0, f1, a1, a2, a3, a4, a5) (nI 0) x (nI 12) :=
  hr_sb hB hR hx (by omega) (by omega) (fun _ _ => rfl) (fun z => absurd z (by omega)) H
theorem hr_sb1 {post : Int32 → Prop} {D : Nat → Bool} {B : Nat → Nat → Nat} {f0 f1 x : Int32} {a1 a2 a3 a4 a5 : Nat → Int32} {M : Nat} (hB : hr_B D B) (hR : hr_R B a1) (hx : ∀ c, c < 12 → (x >>> (nI c &&& 31)) &&& 1 = nI (B 0 c)) (hM : M < 12) (hD : D M = true) (hN : ∀ j, M < j → j < 12 → D j = false) (H : post (nI (11 - M))) :
    wpX_sameBack post (f0, f1, a1, a2, a3, a4, a5) (nI 1) x (nI 12) := by
  refine hr_sb (v := 11 - M) hB hR hx (by omega) (by omega) (fun i hi => ?_) (fun _ => ?_) H
  · have g := hN (11 - i) (by omega) (by omega)
    have n := hr_Bne hB (r := 1) (s := 0) (c := 11 - i) (by omega) (by omega) (by omega) (by omega)
    rw [g] at n
    by_cases q : B 1 (11 - i) = B 0 (11 - i)
    · exact q
    · exact absurd (n.mpr q) (by decide)
  · rw [show 11 - (11 - M) = M by omega]
    exact (hr_Bne hB (r := 1) (s := 0) (by omega) (by omega) (by omega) hM).mp hD
theorem hr_ib0 {post : Int32 → Prop} {D : Nat → Bool} {B : Nat → Nat → Nat} {f0 f1 x : Int32} {a1 a2 a3 a4 a5 : Nat → Int32} (hB : hr_B D B) (hR : hr_R B a1) (hx : ∀ c, c < 12 → (x >>> (nI c &&& 31)) &&& 1 = nI (B 0 c)) (H : post (nI 0)) :
    wpX_isBefore post (f0, f1, a1, a2, a3, a4, a5) (nI 0) x (nI 12) :=
  hr_sb0 hB hR hx (pk_le 12 12 (fun _ => H) (fun z => absurd z (by omega)))
theorem hr_ib1 {post : Int32 → Prop} {D : Nat → Bool} {B : Nat → Nat → Nat} {f0 f1 x : Int32} {a1 a2 a3 a4 a5 : Nat → Int32} {M : Nat} (hB : hr_B D B) (hR : hr_R B a1) (hx : ∀ c, c < 12 → (x >>> (nI c &&& 31)) &&& 1 = nI (B 0 c)) (hM : M < 12) (hD : D M = true) (hN : ∀ j, M < j → j < 12 → D j = false)
    (H0 : B 1 M = 0 → post (nI 1)) (H1 : B 1 M ≠ 0 → post (nI 0)) : wpX_isBefore post (f0, f1, a1, a2, a3, a4, a5) (nI 1) x (nI 12) := by
  have b := hr_Blt hB (r := 1) (by omega) hM
  have e : nI 12 - 1 - nI (11 - M) = nI M := by
    rw [show nI 12 - 1 = nI 11 by decide, pk_sub (by omega), show 11 - (11 - M) = M by omega]
  refine hr_sb1 hB hR hx hM hD hN (pk_le 12 (11 - M) (fun z => absurd z (by omega)) (fun _ => ?_))
  rw [e]
  exact hr_at hR (by omega) hM (pk_eq (B 1 M) 0 H0 H1)
theorem hr_fit {post : Int32 → St2 → Prop} {D : Nat → Bool} {B : Nat → Nat → Nat} {x : Int32} {a1 a2 a3 a4 a5 : Nat → Int32} {k M : Nat} (hB : hr_B D B) (hR : hr_R B a1) (hP : hr_P D B 12 a2 a3) (hk : k < 4096) (ek : x = nI k) (hx : ∀ c, c < 12 → (x >>> (nI c &&& 31)) &&& 1 = nI (B 0 c)) (hM : M < 12) (hD : D M = true) (hN : ∀ j, M < j → j < 12 → D j = false)
    (ho : hr_o D (B 0) 12 = B 0 M) (H : post (nI 12) (nI 2, 1, a1, a2, a3, a4, a5)) : wpX_fit post (nI 2, 1, a1, a2, a3, a4, a5) (nI 12) x := by
  obtain ⟨q1, q2, _, _⟩ := hP 12 (Nat.le_refl 12)
  have b0 := hr_Blt hB (r := 0) (by omega) hM
  have b1 := hr_Blt hB (r := 1) (by omega) hM
  have bn := (hr_Bne hB (r := 1) (s := 0) (by omega) (by omega) (by omega) hM).mp hD
  have i0 : ((8 : Int32) * nI 12 + nI 0).toNatClampNeg = 8 * 12 := hr_cl (by omega)
  have i1 : ((8 : Int32) * nI 12 + nI 1).toNatClampNeg = 8 * 12 + 1 := hr_cl (by omega)
  have e2 : (8 : Int32) * nI 12 + nI 1 - 1 = nI (8 * 12) := by decide
  have i2 : ((8 : Int32) * nI 12 + nI 1 - 1).toNatClampNeg = 8 * 12 := by rw [e2, nI_clamp (by omega)]
  refine pk_lt 12 0 (fun z => absurd z (by omega)) (fun _ => pk_lt 12 12 (fun z => absurd z (by omega)) (fun _ => pk_lt k 0 (fun z => absurd z (by omega)) (fun _ => pk_le k 4095 (fun _ => hr_build1 ⟨3, ?_⟩) (fun z => absurd z (by omega)) ek rfl) ek rfl))
  by_cases g : B 1 M = 0
  · have g' : hr_o D (B 0) 12 = 1 := by omega
    rw [g'] at q1 q2
    refine pk_le 2 0 (fun z => absurd z (by omega)) (fun _ => ⟨pk_in (8 * 12 + 0) 104 (by omega) (hr_ix 12 0), ?_⟩)
    refine ek_v (P := fun y => wpX_isBefore _ _ y x _) (show a2 ((8 : Int32) * nI 12 + nI 0).toNatClampNeg = nI 1 by rw [i0, q1]) ?_
    refine hr_ib1 hB hR hx hM hD hN (fun _ => br_f (by decide) (nm_r (nI_1 0) (nm_r (nI_1 0) ?_))) (fun z => absurd g z)
    refine pk_le 2 1 (fun z => absurd z (by omega)) (fun _ => ⟨pk_in (8 * 12 + 1) 104 (by omega) (hr_ix 12 1), ?_⟩)
    refine ek_v (P := fun y => wpX_isBefore _ _ y x _) (show a2 ((8 : Int32) * nI 12 + nI 1).toNatClampNeg = nI 0 by rw [i1, q2]) ?_
    refine hr_ib0 hB hR hx (br_t rfl (nm_r (nI_1 1) ?_))
    refine pk_le 2 2 (fun _ => pk_le 1 0 (fun z => absurd z (by omega)) (fun _ => ⟨pk_in (8 * 12) 104 (by omega) e2, ?_⟩)) (fun z => absurd z (by omega))
    refine ek_v (P := fun y => wpX_sameBack _ _ y x _) (show a2 ((8 : Int32) * nI 12 + nI 1 - 1).toNatClampNeg = nI 1 by rw [i2, q1]) ?_
    refine hr_sb1 hB hR hx hM hD hN (pk_le 2 1 (fun z => absurd z (by omega)) (fun _ => ⟨pk_in (8 * 12 + 1) 104 (by omega) (hr_ix 12 1), ?_⟩))
    refine ek_v (P := fun y => wpX_sameBack _ _ y x _) (show a2 ((8 : Int32) * nI 12 + nI 1).toNatClampNeg = nI 0 by rw [i1, q2]) ?_
    exact hr_sb0 hB hR hx (pk_le (11 - M) 12 (fun _ => H) (fun z => absurd z (by omega)))
  · have g' : hr_o D (B 0) 12 = 0 := by omega
    rw [g'] at q1 q2
    refine pk_le 2 0 (fun z => absurd z (by omega)) (fun _ => ⟨pk_in (8 * 12 + 0) 104 (by omega) (hr_ix 12 0), ?_⟩)
    refine ek_v (P := fun y => wpX_isBefore _ _ y x _) (show a2 ((8 : Int32) * nI 12 + nI 0).toNatClampNeg = nI 0 by rw [i0, q1]) ?_
    refine hr_ib0 hB hR hx (br_t rfl (nm_r (nI_1 0) ?_))
    refine pk_le 2 1 (fun z => absurd z (by omega)) (fun _ => ⟨pk_in (8 * 12 + 1) 104 (by omega) (hr_ix 12 1), ?_⟩)
    refine ek_v (P := fun y => wpX_isBefore _ _ y x _) (show a2 ((8 : Int32) * nI 12 + nI 1).toNatClampNeg = nI 1 by rw [i1, q2]) ?_
    refine hr_ib1 hB hR hx hM hD hN (fun z => absurd z g) (fun _ => br_t rfl (nm_r (nI_1 1) ?_))
    refine pk_le 2 2 (fun _ => pk_le 0 0 (fun _ => ?_) (fun z => absurd z (by omega))) (fun z => absurd z (by omega))
    refine pk_le 2 0 (fun z => absurd z (by omega)) (fun _ => ⟨pk_in (8 * 12 + 0) 104 (by omega) (hr_ix 12 0), ?_⟩)
    refine ek_v (P := fun y => wpX_sameBack _ _ y x _) (show a2 ((8 : Int32) * nI 12 + nI 0).toNatClampNeg = nI 0 by rw [i0, q1]) ?_
    exact hr_sb0 hB hR hx (pk_le 0 12 (fun _ => H) (fun z => absurd z (by omega)))
end
section
/-! the law -/
theorem hr_add {post : Int32 → St2 → Prop} {f1 : Int32} {a1 a2 a3 a4 a5 : Nat → Int32} {n k : Nat} (hn : n < 8) (hk : k < 4096) (H : post (nI n) (nI (n + 1), 0, upd a1 n (nI k), a2, a3, a4, a5)) : wpX_add post (nI n, f1, a1, a2, a3, a4, a5) (nI k) :=
  pk_lt k 0 (fun z => absurd z (by omega)) (fun _ => pk_le k 4095 (fun _ => pk_eq n 8 (fun z => absurd z (by omega)) (fun _ => ⟨pk_in n 8 hn, nm_r (e' := upd a1 n (nI k)) (by rw [nI_clamp (by omega)]) (nm_r (nI_1 n) (ek_v (P := fun y => post y _) (nI_pred n) H))⟩)) (fun z => absurd z (by omega)))
theorem hr_t264 {post : Int32 → St0 → Prop} {mc ms kc ks : Nat} {x6 x10 x11 x12 x13 x14 x15 x17 x18 x19 x20 x21 z0 z1 : Int32} (h1 : z1 = z0) (h2 : x10 = x21) (h3 : x11 = x18 * x18 + x19 * x19 + x20 * x20) (h4 : x12 = 2) (h5 : x13 = (x6 >>> (x17 &&& 31)) &&& 1) (h6 : x14 = x17 + 1) (h7 : x15 = 12) (H : post 1 ()) :
    wL_lawOf_264 post mc ms x6 x10 x11 x12 x13 x14 x15 x17 x18 x19 x20 x21 z0 z1 kc ks :=
  br_t h1 (br_t h2 (br_t h3 (br_t h4 (br_t h5 (br_t h6 (br_t h7 H))))))
/-- what the law takes of the answers, in plain numbers -/
def hr_ok (x6 x8 x9 x10 x11 x12 x13 x14 x15 : Int32) (l m r w : Nat) : Prop :=
  x8 = nI w ∧ x9 = nI (max (max l r) m) ∧ x10 = nI w ∧ x11 = nI (l * l + m * m + r * r) ∧ x12 = 2 ∧ x13 = (x6 >>> (nI (11 - r) &&& 31)) &&& 1 ∧ x14 = nI (11 - r) + 1 ∧ x15 = 12
theorem hr_t239 {post : Int32 → St0 → Prop} {mc ms kc ks : Nat} {x6 x8 x9 x10 x11 x12 x13 x14 x15 : Int32} {l m r w : Nat} (h : hr_ok x6 x8 x9 x10 x11 x12 x13 x14 x15 l m r w) (hl : l < 12) (hm : m < 12) (hr : r < 12) (H : post 1 ()) :
    wL_lawOf_239 post mc ms x6 x8 x9 x10 x11 x12 x13 x14 x15 (nI (11 - r)) (nI l) (nI m) (nI r) (nI w) (nI (max l r)) kc ks := by
  obtain ⟨h1, h2, h3, h4, h5, h6, h7, h8⟩ := h
  have e4 : x11 = nI l * nI l + nI m * nI m + nI r * nI r := by rw [h4, pk_mul, pk_mul, pk_mul, nI_add, nI_add]
  refine br_t h1 (pk_le (max l r) m (fun z => ?_) (fun z => ?_))
  · exact hr_t264 (by rw [h2, show max (max l r) m = m by omega]) h3 e4 h5 h6 h7 h8 H
  · exact hr_t264 (by rw [h2, show max (max l r) m = max l r by omega]) h3 e4 h5 h6 h7 h8 H
theorem hr_t222 {post : Int32 → St0 → Prop} {mc ms kc ks : Nat} {x6 x8 x9 x10 x11 x12 x13 x14 x15 : Int32} {l m r u v : Nat} (h : hr_ok x6 x8 x9 x10 x11 x12 x13 x14 x15 l m r (u + v)) (hl : l < 12) (hm : m < 12) (hr : r < 12) (H : post 1 ()) :
    wL_lawOf_222 post mc ms x6 x8 x9 x10 x11 x12 x13 x14 x15 (nI (11 - r)) (nI l) (nI m) (nI r) (nI v) (nI u) kc ks := by
  refine nm_r (nI_add u v) (pk_le l r (fun z => ?_) (fun z => ?_))
  · have t := hr_t239 (mc := mc) (ms := ms) (kc := kc) (ks := ks) h hl hm hr H
    rw [show max l r = r by omega] at t
    exact t
  · have t := hr_t239 (mc := mc) (ms := ms) (kc := kc) (ks := ks) h hl hm hr H
    rw [show max l r = l by omega] at t
    exact t
theorem hr_t211 {post : Int32 → St0 → Prop} {mc ms kc ks : Nat} {x6 x8 x9 x10 x11 x12 x13 x14 x15 : Int32} {l m r u v : Nat} (h : hr_ok x6 x8 x9 x10 x11 x12 x13 x14 x15 l m r (u + v + (if r ≤ 0 then 0 else 1))) (hl : l < 12) (hm : m < 12) (hr : r < 12) (H : post 1 ()) :
    wL_lawOf_211 post mc ms x6 x8 x9 x10 x11 x12 x13 x14 x15 (nI (11 - r)) (nI l) (nI m) (nI r) (nI v) (nI u) kc ks := by
  unfold wL_lawOf_211
  rw [nI_add]
  refine pk_le r 0 (fun z => ?_) (fun z => ?_)
  · rw [if_pos z] at h
    exact hr_t222 h hl hm hr H
  · rw [if_neg (by omega)] at h
    exact hr_t222 h hl hm hr H
theorem hr_t201 {post : Int32 → St0 → Prop} {mc ms kc ks : Nat} {x6 x8 x9 x10 x11 x12 x13 x14 x15 : Int32} {l m r u : Nat} (h : hr_ok x6 x8 x9 x10 x11 x12 x13 x14 x15 l m r (u + (if m ≤ 0 then 0 else 1) + (if r ≤ 0 then 0 else 1))) (hl : l < 12) (hm : m < 12) (hr : r < 12) (H : post 1 ()) :
    wL_lawOf_201 post mc ms x6 x8 x9 x10 x11 x12 x13 x14 x15 (nI (11 - r)) (nI l) (nI m) (nI r) (nI u) kc ks := by
  refine pk_le m 0 (fun z => ?_) (fun z => ?_)
  · rw [if_pos z] at h
    exact hr_t211 h hl hm hr H
  · rw [if_neg (by omega)] at h
    exact hr_t211 h hl hm hr H
theorem hr_t182 {post : Int32 → St0 → Prop} {mc ms kc ks : Nat} {x6 x8 x9 x10 x11 x12 x13 x14 x15 : Int32} {l m r : Nat} (h : hr_ok x6 x8 x9 x10 x11 x12 x13 x14 x15 l m r ((if l ≤ 0 then 0 else 1) + (if m ≤ 0 then 0 else 1) + (if r ≤ 0 then 0 else 1))) (hl : l < 12) (hm : m < 12) (hr : r < 12) (H : post 1 ()) :
    wL_lawOf_182 post mc ms x6 x8 x9 x10 x11 x12 x13 x14 x15 (nI (11 - r)) (nI l) (nI m) kc ks := by
  refine nm_r (e' := nI r) (show nI 11 - nI (11 - r) = nI r by rw [pk_sub (by omega), show 11 - (11 - r) = r by omega]) (pk_le l 0 (fun z => ?_) (fun z => ?_))
  · rw [if_pos z] at h
    exact hr_t201 h hl hm hr H
  · rw [if_neg (show ¬ l ≤ 0 by omega)] at h
    exact hr_t201 h hl hm hr H
theorem hr_t158 {post : Int32 → St0 → Prop} {mc ms kc ks : Nat} {x6 x8 x9 x10 x11 x12 x13 x14 x15 : Int32} {l t : Nat} (h : hr_ok x6 x8 x9 x10 x11 x12 x13 x14 x15 l (t - l - 1) (11 - t) ((if l ≤ 0 then 0 else 1) + (if t - l - 1 ≤ 0 then 0 else 1) + (if 11 - t ≤ 0 then 0 else 1))) (hlt : l ≤ t) (ht : t < 12) (H : post 1 ()) :
    wL_lawOf_158 post mc ms x6 x8 x9 x10 x11 x12 x13 x14 x15 (nI l) (nI t) kc ks := by
  have e : wL_lawOf_182 post mc ms x6 x8 x9 x10 x11 x12 x13 x14 x15 (nI t) (nI l) (nI (t - l - 1)) kc ks := by
    have g := hr_t182 (mc := mc) (ms := ms) (kc := kc) (ks := ks) h (by omega) (by omega) (by omega) H
    rw [show 11 - (11 - t) = t by omega] at g
    exact g
  refine pk_le t l (fun z => ?_) (fun z => ?_)
  · rw [show t - l - 1 = 0 by omega] at e
    exact e
  · rw [show nI t - nI l - 1 = nI (t - l - 1) by
      rw [pk_sub hlt, show t - l = t - l - 1 + 1 by omega, nI_pred]
      rfl]
    exact e
theorem hr_t142 {post : Int32 → St0 → Prop} {mc ms kc ks : Nat} {x6 x8 x9 x10 x11 x12 x13 x14 x15 : Int32} {lo hi : Nat} (h1 : lo < 12) (h2 : hi < 12) (h : hr_ok x6 x8 x9 x10 x11 x12 x13 x14 x15 (min lo hi) (max lo hi - min lo hi - 1) (11 - max lo hi) ((if min lo hi ≤ 0 then 0 else 1) + (if max lo hi - min lo hi - 1 ≤ 0 then 0 else 1) + (if 11 - max lo hi ≤ 0 then 0 else 1))) (H : post 1 ()) :
    (nI hi ≤ nI lo → wL_lawOf_142 post mc ms (nI lo) (nI hi) x6 x8 x9 x10 x11 x12 x13 x14 x15 (nI hi) kc ks) ∧ (¬ nI hi ≤ nI lo → wL_lawOf_142 post mc ms (nI lo) (nI hi) x6 x8 x9 x10 x11 x12 x13 x14 x15 (nI lo) kc ks) := by
  refine pk_le hi lo (fun z => ?_) (fun z => ?_)
  · rw [show min lo hi = hi by omega, show max lo hi = lo by omega] at h
    exact pk_le hi lo (fun _ => hr_t158 h (by omega) (by omega) H) (fun g => absurd g (by omega))
  · rw [show min lo hi = lo by omega, show max lo hi = hi by omega] at h
    exact pk_le hi lo (fun g => absurd g (by omega)) (fun _ => hr_t158 h (by omega) (by omega) H)
theorem hr_lawOf {post : Int32 → St0 → Prop} {p0 p1 p2 : Int32} (H : post 1 ()) : wpL_lawOf post 6 239 () p0 p1 p2 := by
  obtain ⟨lo, h1, e1⟩ := hr_low p1
  obtain ⟨hi, h2, e2⟩ := hr_low p2
  obtain ⟨k, hk, ek⟩ := pk_andE p0 (m := 4095) 12 (by decide)
  have hk' : k < 4096 := hk
  have e7 := hr_two lo h1 hi h2
  have hx : k ^^^ (2 ^ lo ||| 2 ^ hi) < 2 ^ 12 := Nat.xor_lt_two_pow hk (hr_twolt lo h1 hi h2)
  have hx' : k ^^^ (2 ^ lo ||| 2 ^ hi) < 4096 := hx
  have hB := hr_bitsB (k := k) h1 h2
  have hR : hr_R (hr_bits k (2 ^ lo ||| 2 ^ hi)) (upd (upd (fun _ => 0) 0 (nI k)) 1 (nI (k ^^^ (2 ^ lo ||| 2 ^ hi)))) := by
    intro r c hr hc
    have e : r = 0 ∨ r = 1 := by omega
    rcases e with e | e
    · subst e
      rw [pk_un (by omega), pk_us]
      exact hr_bit (by omega) hc
    · subst e
      rw [pk_us]
      exact hr_bit (by omega) hc
  obtain ⟨w1, w2, w3, w4⟩ := hr_pure lo h1 hi h2
  have hDM : hr_D lo hi (max lo hi) = true := by
    unfold hr_D
    rcases Nat.le_total lo hi with z | z
    · rw [show max lo hi = hi by omega]; simp
    · rw [show max lo hi = lo by omega]; simp
  have hDl : hr_D lo hi lo = true := by
    unfold hr_D
    simp
  have hN : ∀ j, max lo hi < j → j < 12 → hr_D lo hi j = false := by
    intro j g1 _
    unfold hr_D
    have n1 : j ≠ lo := by omega
    have n2 : j ≠ hi := by omega
    simp [n1, n2]
  have ho : hr_o (hr_D lo hi) (hr_bits k (2 ^ lo ||| 2 ^ hi) 0) 12 = hr_bits k (2 ^ lo ||| 2 ^ hi) 0 (max lo hi) := by
    have t := hr_oM (b := hr_bits k (2 ^ lo ||| 2 ^ hi) 0) hDM (11 - max lo hi) (fun j g1 g2 => hN j g1 (by omega))
    rw [show max lo hi + 1 + (11 - max lo hi) = 12 by omega] at t
    exact t
  have hb : ∀ c, c < 12 → (nI k >>> (nI c &&& 31)) &&& 1 = nI (hr_bits k (2 ^ lo ||| 2 ^ hi) 0 c) := fun c hc => hr_bit (by omega) hc
  refine ⟨by omega, by omega, 5, 232, by omega, by omega, ?_⟩
  refine ⟨by omega, by omega, by omega, by omega, by omega, by omega, by omega, by omega, by omega, by omega, ?_⟩
  refine ⟨by decide, nm_r e1 ⟨by decide, nm_r e2 (nm_r ek (nm_r e7 ?_))⟩⟩
  refine hr_add (n := 0) (by omega) hk' ?_
  refine ek_v (P := fun y => wpX_add _ _ y) (hr_xor _ _) ?_
  refine hr_add (n := 1) (by omega) hx' ?_
  refine hr_matches hB hR (fun a2 a3 a4 a5 hP => ?_)
  refine hr_longest hB hP ?_
  refine hr_winning hB hR hP ?_
  refine hr_cover hB hP ?_
  refine hr_kinds hP h1 hDl ?_
  refine hr_ordered hP ?_
  refine hr_since hP ?_
  refine hr_fit (M := max lo hi) hB hR hP hk' rfl hb (by omega) hDM hN ho ?_
  refine hr_t142 h1 h2 ⟨congrArg nI w1, congrArg nI w2, congrArg nI w1, congrArg nI w3, rfl, ?_, ?_, rfl⟩ H
  · rw [ho, show 11 - (11 - max lo hi) = max lo hi by omega]
    exact (hb _ (by omega)).symm
  · rw [w4, show 11 - (11 - max lo hi) = max lo hi by omega]
    exact nI_succ _
theorem hr_cell {post : Int32 → Prop} {L : Nat} {xs : Nat → Int32} {j : Nat} (hL : L ≤ 3) (hj : j < 3) (H : ∀ v, post v) : wpL_cellAt post L xs () (nI j) :=
  pk_le L j (fun _ => H _) (fun z => ⟨pk_in j L z, H _⟩)
theorem i_vc (xs : Nat → Int32) (L : Nat) (hL : L ≤ 3) : wpL_law (fun r => r = 1) L xs := by
  unfold wpL_law
  refine hr_cell (j := 0) hL (by omega) (fun v0 => ?_)
  refine hr_cell (j := 1) hL (by omega) (fun v1 => ?_)
  refine hr_cell (j := 2) hL (by omega) (fun v2 => ?_)
  exact ⟨6, 239, by omega, by omega, hr_lawOf rfl⟩
end
