section
/-! bits of an Int32 (rows of kit/laws/BITS.to-paste, renamed), and what this claim asks of them -/
def tc_bt (x : Int32) (i : Nat) : Bool := x.toBitVec.getLsbD i
theorem tc_b_ext {x y : Int32} (h : ∀ i, i < 32 → tc_bt x i = tc_bt y i) : x = y := Int32.toBitVec_inj.mp (BitVec.eq_of_getLsbD_eq (fun i hi => h i hi))
theorem tc_b_or (x y : Int32) (i : Nat) : tc_bt (x ||| y) i = (tc_bt x i || tc_bt y i) := by unfold tc_bt; rw [Int32.toBitVec_or, BitVec.getLsbD_or]
theorem tc_b_and (x y : Int32) (i : Nat) : tc_bt (x &&& y) i = (tc_bt x i && tc_bt y i) := by unfold tc_bt; rw [Int32.toBitVec_and, BitVec.getLsbD_and]
theorem tc_b_xor (x y : Int32) (i : Nat) : tc_bt (x ^^^ y) i = (tc_bt x i ^^ tc_bt y i) := by unfold tc_bt; rw [Int32.toBitVec_xor, BitVec.getLsbD_xor]
theorem tc_b_big {x : Int32} {i : Nat} (h : 32 ≤ i) : tc_bt x i = false := BitVec.getLsbD_of_ge _ _ h
theorem tc_b_255 (i : Nat) : tc_bt 255 i = decide (i < 8) := by
  rcases Nat.lt_or_ge i 32 with h | h
  · exact (by decide +kernel : ∀ i, i < 32 → tc_bt 255 i = decide (i < 8)) i h
  · rw [tc_b_big h, decide_eq_false (by omega)]
theorem tc_b_m1 : ∀ i, i < 32 → tc_bt (-1) i = true := by decide +kernel
theorem tc_b_1 : ∀ i, i < 32 → tc_bt 1 i = decide (i = 0) := by decide +kernel
theorem tc_b_0 (i : Nat) : tc_bt 0 i = false := BitVec.getLsbD_zero
theorem tc_s_l : ∀ n, n < 32 → ((nI n &&& 31).toBitVec.smod 32).toNat = n := by decide +kernel
theorem tc_b_shl (n : Nat) (hn : n < 32) (x : Int32) {i : Nat} (hi : i < 32) : tc_bt (x <<< (nI n &&& 31)) i = (decide (n ≤ i) && tc_bt x (i - n)) := by
  unfold tc_bt
  rw [Int32.toBitVec_shiftLeft]
  show (x.toBitVec <<< ((nI n &&& 31).toBitVec.smod 32).toNat).getLsbD i = _
  rw [tc_s_l n hn, BitVec.getLsbD_shiftLeft]
  rcases Nat.lt_or_ge i n with h | h
  · simp [h, Nat.not_le.mpr h]
  · simp [hi, h, Nat.not_lt.mpr h]
theorem tc_b_sshr (n : Nat) (hn : n < 32) (x : Int32) {i : Nat} (hi : i < 32) : tc_bt (x >>> (nI n &&& 31)) i = if n + i < 32 then tc_bt x (n + i) else tc_bt x 31 := by
  unfold tc_bt
  rw [Int32.toBitVec_shiftRight]
  show (x.toBitVec.sshiftRight ((nI n &&& 31).toBitVec.smod 32).toNat).getLsbD i = _
  rw [tc_s_l n hn, BitVec.getLsbD_sshiftRight, BitVec.msb_eq_getLsbD_last]
  simp [hi]
/-! the rows from here on are this claim's own -/
theorem tc_and1 (y : Int32) : y &&& 1 = if tc_bt y 0 = true then 1 else 0 := by
  apply tc_b_ext
  intro i hi
  rw [tc_b_and, tc_b_1 i hi]
  rcases Nat.eq_zero_or_pos i with e | e
  · subst e
    cases h : tc_bt y 0
    · decide +kernel
    · decide +kernel
  · rw [decide_eq_false (by omega), Bool.and_false]
    split
    · rw [tc_b_1 i hi, decide_eq_false (by omega)]
    · rw [tc_b_0]
theorem tc_bitv (s : Int32) {x : Nat} (hx : x < 32) : (s >>> (nI x &&& 31)) &&& 1 = if tc_bt s x = true then 1 else 0 := by
  rw [tc_and1, tc_b_sshr x hx s (by omega), if_pos (show x + 0 < 32 by omega), Nat.add_zero]
theorem tc_bit0 (s : Int32) {x : Nat} (hx : x < 32) : (s >>> (nI x &&& 31)) &&& 1 = 0 ↔ tc_bt s x = false := by
  rw [tc_bitv s hx]
  cases tc_bt s x
  · simp
  · simp
theorem tc_bit1 (s : Int32) {x : Nat} (hx : x < 32) : (s >>> (nI x &&& 31)) &&& 1 = 1 ↔ tc_bt s x = true := by
  rw [tc_bitv s hx]
  cases tc_bt s x
  · simp
  · simp
theorem tc_b_or1 (s : Int32) {x i : Nat} (hx : x < 32) (hi : i < 32) : tc_bt (s ||| ((1 : Int32) <<< (nI x &&& 31))) i = (tc_bt s i || decide (i = x)) := by
  rw [tc_b_or, tc_b_shl x hx 1 hi]
  rcases Nat.lt_or_ge i x with h | h
  · rw [decide_eq_false (show ¬ x ≤ i by omega), decide_eq_false (show ¬ i = x by omega), Bool.false_and]
  · rw [tc_b_1 (i - x) (by omega), decide_eq_true h, Bool.true_and]
    congr 1
    exact decide_eq_decide.mpr (by omega)
/-- the set of the cores e < n with θ e -/
def tc_rv (θ : Nat → Bool) : Nat → Int32
  | 0 => 0
  | n + 1 => tc_rv θ n ||| (if θ n = true then (1 : Int32) <<< (nI n &&& 31) else 0)
def tc_q (p q r s : Bool) : Int32 := (((0 ||| (if p = true then (1 : Int32) <<< (nI 0 &&& 31) else 0)) ||| (if q = true then (1 : Int32) <<< (nI 1 &&& 31) else 0)) ||| (if r = true then (1 : Int32) <<< (nI 2 &&& 31) else 0)) ||| (if s = true then (1 : Int32) <<< (nI 3 &&& 31) else 0)
theorem tc_rv4 (θ : Nat → Bool) : tc_rv θ 4 = tc_q (θ 0) (θ 1) (θ 2) (θ 3) := rfl
theorem tc_rv_none {θ : Nat → Bool} (h : ∀ e, e < 4 → θ e = false) : tc_rv θ 4 = 0 := by
  rw [tc_rv4, h 0 (by omega), h 1 (by omega), h 2 (by omega), h 3 (by omega)]
  decide +kernel
theorem tc_rv_one {θ : Nat → Bool} {j : Nat} (hj : j < 4) (ht : θ j = true) (h : ∀ e, e < 4 → e ≠ j → θ e = false) : tc_rv θ 4 = (1 : Int32) <<< (nI j &&& 31) := by
  rw [tc_rv4]
  rcases (show j = 0 ∨ j = 1 ∨ j = 2 ∨ j = 3 by omega) with e | e | e | e
  · subst e
    rw [ht, h 1 (by omega) (by omega), h 2 (by omega) (by omega), h 3 (by omega) (by omega)]
    decide +kernel
  · subst e
    rw [ht, h 0 (by omega) (by omega), h 2 (by omega) (by omega), h 3 (by omega) (by omega)]
    decide +kernel
  · subst e
    rw [ht, h 0 (by omega) (by omega), h 1 (by omega) (by omega), h 3 (by omega) (by omega)]
    decide +kernel
  · subst e
    rw [ht, h 0 (by omega) (by omega), h 1 (by omega) (by omega), h 2 (by omega) (by omega)]
    decide +kernel
theorem tc_sh_ne : ∀ j, j < 4 → ¬ (1 : Int32) <<< (nI j &&& 31) = 0 := by decide +kernel
theorem tc_or0 (x : Int32) : (0 : Int32) ||| x = x := by
  apply tc_b_ext
  intro i hi
  rw [tc_b_or, tc_b_0, Bool.false_or]
theorem tc_byte : ∀ x, x < 128 → (nI x).toInt8.toInt32 = nI x := by decide +kernel
theorem tc_byte1 : ∀ x, x < 100 → (nI x + 1).toInt8.toInt32 = nI (x + 1) := by decide +kernel
/-- the digest's sum -/
def tc_sum (f : Nat → Int32) : Nat → Int32
  | 0 => 0
  | n + 1 => tc_sum f n + (nI n + 1) * f n
theorem tc_sum_congr {f g : Nat → Int32} : ∀ n, (∀ x, x < n → f x = g x) → tc_sum f n = tc_sum g n
  | 0, _ => rfl
  | n + 1, h => by
    show tc_sum f n + (nI n + 1) * f n = tc_sum g n + (nI n + 1) * g n
    rw [tc_sum_congr n (fun x hx => h x (by omega)), h n (by omega)]
theorem tc_sum_ext {f : Nat → Int32} (n : Nat) : ∀ k, (∀ x, n ≤ x → x < n + k → f x = 0) → tc_sum f (n + k) = tc_sum f n
  | 0, _ => rfl
  | k + 1, h => by
    show tc_sum f (n + k) + (nI (n + k) + 1) * f (n + k) = tc_sum f n
    rw [tc_sum_ext n k (fun x hx hy => h x hx (by omega)), h (n + k) (by omega) (by omega), Int32.mul_zero, Int32.add_zero]
theorem tc_sum_zero {f : Nat → Int32} (n : Nat) (h : ∀ x, x < n → f x = 0) : tc_sum f n = 0 := by
  have := tc_sum_ext (f := f) 0 n (fun x _ hx => h x (by omega))
  rw [Nat.zero_add] at this
  exact this
end
section
/-! the caches' pure law: V the newest values, T the tags, m t s d: memory, tags, states, data -/
def tc_C (V : Nat → Int32) (T : Nat → Nat) (m t s d : Nat → Int32) : Prop :=
  (∀ l, l < 16 → T l < 16 ∧ t l = nI (T l)) ∧
  (∀ l, l < 16 → s l ≠ 0 → T l % 4 = l % 4 ∧ d l = V (T l)) ∧
  (∀ l k, l < 16 → k < 16 → s l ≠ 0 → s l ≠ 1 → s k ≠ 0 → T k = T l → k = l) ∧
  (∀ x, x < 16 → m x = V x ∨ ∃ l, l < 16 ∧ s l = 3 ∧ T l = x)
theorem tc_30 : ¬ (3 : Int32) = 0 := by decide
theorem tc_31 : ¬ (3 : Int32) = 1 := by decide
theorem tc_20 : ¬ (2 : Int32) = 0 := by decide
theorem tc_21 : ¬ (2 : Int32) = 1 := by decide
theorem tc_23 : ¬ (2 : Int32) = 3 := by decide
theorem tc_10 : ¬ (1 : Int32) = 0 := by decide
theorem tc_13 : ¬ (1 : Int32) = 3 := by decide
/-- a valid line that holds x stands at its place -/
theorem tc_place {l x : Nat} (hl : l < 16) (h : x % 4 = l % 4) : l = l / 4 * 4 + x % 4 ∧ l / 4 < 4 := by omega
theorem tc_C_congr {V V' : Nat → Int32} {T : Nat → Nat} {m t s d : Nat → Int32} (h : tc_C V T m t s d) (e : ∀ x, x < 16 → V x = V' x) : tc_C V' T m t s d := by
  obtain ⟨h1, h2, h3, h4⟩ := h
  refine ⟨h1, fun l hl hs => ?_, h3, fun x hx => ?_⟩
  · obtain ⟨p, q⟩ := h2 l hl hs
    exact ⟨p, by rw [q]; exact e _ (h1 l hl).1⟩
  · rcases h4 x hx with p | p
    · exact Or.inl (by rw [p]; exact e x hx)
    · exact Or.inr p
/-- a line is written back -/
theorem tc_C_wb {V : Nat → Int32} {T : Nat → Nat} {m m' t s d : Nat → Int32} {l : Nat} (hl : l < 16) (h : tc_C V T m t s d) (hm : ∀ x, m' x = m x ∨ (x = T l ∧ s l = 3 ∧ m' x = d l)) :
    tc_C V T m' t s d ∧ ∀ x, x < 16 → m x = V x → m' x = V x := by
  obtain ⟨h1, h2, h3, h4⟩ := h
  have key : ∀ x, x < 16 → m x = V x → m' x = V x := by
    intro x hx hv
    rcases hm x with p | ⟨p, q, r⟩
    · rw [p, hv]
    · rw [r, p]
      exact (h2 l hl (by rw [q]; exact tc_30)).2
  refine ⟨⟨h1, h2, h3, fun x hx => ?_⟩, key⟩
  rcases h4 x hx with p | p
  · exact Or.inl (key x hx p)
  · exact Or.inr p
/-- a valid line becomes a shared one -/
theorem tc_C_share {V : Nat → Int32} {T : Nat → Nat} {m t s d : Nat → Int32} {l : Nat} (h : tc_C V T m t s d) (hs : s l ≠ 0) (hm : s l = 3 → m (T l) = V (T l)) : tc_C V T m t (upd s l 1) d := by
  obtain ⟨h1, h2, h3, h4⟩ := h
  have nz : ∀ k, upd s l 1 k ≠ 0 → s k ≠ 0 := by
    intro k hk
    by_cases e : k = l
    · rw [e]; exact hs
    · rw [pk_un e] at hk; exact hk
  refine ⟨h1, fun k hk hz => h2 k hk (nz k hz), fun i k hi hk a b c e => ?_, fun x hx => ?_⟩
  · have ne : i ≠ l := fun z => b (by rw [z]; exact pk_us)
    rw [pk_un ne] at a b
    exact h3 i k hi hk a b (nz k c) e
  · rcases h4 x hx with p | ⟨k, hk, a, b⟩
    · exact Or.inl p
    · by_cases e : k = l
      · rw [e] at a b
        exact Or.inl (by rw [← b]; exact hm a)
      · exact Or.inr ⟨k, hk, by rw [pk_un e]; exact a, b⟩
/-- a line is dropped that isn't changed -/
theorem tc_C_drop {V : Nat → Int32} {T : Nat → Nat} {m t s d : Nat → Int32} {l : Nat} (h : tc_C V T m t s d) (hs : s l ≠ 3) : tc_C V T m t (upd s l 0) d := by
  obtain ⟨h1, h2, h3, h4⟩ := h
  have nz : ∀ k, upd s l 0 k ≠ 0 → k ≠ l ∧ s k ≠ 0 := by
    intro k hk
    by_cases e : k = l
    · rw [e, pk_us] at hk; exact absurd rfl hk
    · rw [pk_un e] at hk; exact ⟨e, hk⟩
  refine ⟨h1, fun k hk hz => h2 k hk (nz k hz).2, fun i k hi hk a b c e => ?_, fun x hx => ?_⟩
  · rw [pk_un (nz i a).1] at b
    exact h3 i k hi hk (nz i a).2 b (nz k c).2 e
  · rcases h4 x hx with p | ⟨k, hk, a, b⟩
    · exact Or.inl p
    · have e : k ≠ l := fun z => hs (by rw [← z]; exact a)
      exact Or.inr ⟨k, hk, by rw [pk_un e]; exact a, b⟩
/-- a line is filled with a cell out of memory: all others that hold it are shared, f says whether there are any -/
theorem tc_C_fill {V : Nat → Int32} {T : Nat → Nat} {m t s d : Nat → Int32} {c x L : Nat} {w : Int32} (eL : L = c * 4 + x % 4) (hc : c < 4) (hx : x < 16) (h : tc_C V T m t s d)
    (hn : s L = 0 ∨ T L ≠ x) (hm : s L = 3 → m (T L) = V (T L)) (hw0 : w ≠ 0) (hw3 : w ≠ 3)
    (ho : ∀ e, e < 4 → e ≠ c → s (e * 4 + x % 4) ≠ 0 → T (e * 4 + x % 4) = x → s (e * 4 + x % 4) = 1 ∧ w = 1) :
    tc_C V (fun l => if l = L then x else T l) m (upd t L (nI x)) (upd s L w) (upd d L (m x)) := by
  obtain ⟨h1, h2, h3, h4⟩ := h
  have hL : L < 16 := by omega
  have hLm : L % 4 = x % 4 := by omega
  have hcc : ∀ l, l < 16 → l ≠ L → T l = x → s l ≠ 0 → s l = 1 ∧ w = 1 := by
    intro l hl ne ht hs
    obtain ⟨q, _⟩ := h2 l hl hs
    rw [ht] at q
    obtain ⟨e1, e2⟩ := tc_place hl q
    have := ho (l / 4) e2 (fun z => ne (by rw [z] at e1; rw [eL]; exact e1))
    rw [← e1] at this
    exact this hs ht
  have hmx : m x = V x := by
    rcases h4 x hx with p | ⟨l, hl, a, b⟩
    · exact p
    · by_cases e : l = L
      · rw [e] at a b
        rcases hn with z | z
        · rw [z] at a; exact absurd a (by decide)
        · exact absurd b z
      · have := (hcc l hl e b (by rw [a]; exact tc_30)).1
        rw [a] at this
        exact absurd this tc_31
  refine ⟨fun l hl => ?_, fun l hl hs => ?_, fun l k hl hk a b e g => ?_, fun y hy => ?_⟩
  · by_cases e : l = L
    · try dsimp only
      rw [if_pos e, e, pk_us]
      exact ⟨hx, rfl⟩
    · try dsimp only
      rw [if_neg e, pk_un e]
      exact h1 l hl
  · by_cases e : l = L
    · try dsimp only
      rw [if_pos e, e, pk_us]
      exact ⟨hLm.symm, hmx⟩
    · try dsimp only
      rw [pk_un e] at hs
      rw [if_neg e, pk_un e]
      exact h2 l hl hs
  · try dsimp only at g
    by_cases el : l = L
    · by_cases ek : k = L
      · rw [el, ek]
      · rw [if_neg ek, if_pos el] at g
        rw [pk_un ek] at e
        rw [el, pk_us] at b
        exact absurd (hcc k hk ek g e).2 b
    · by_cases ek : k = L
      · rw [if_pos ek, if_neg el] at g
        rw [pk_un el] at a b
        exact absurd (hcc l hl el g.symm a).1 b
      · rw [if_neg ek, if_neg el] at g
        rw [pk_un el] at a b
        rw [pk_un ek] at e
        exact h3 l k hl hk a b e g
  · rcases h4 y hy with p | ⟨l, hl, a, b⟩
    · exact Or.inl p
    · by_cases e : l = L
      · rw [e] at a b
        exact Or.inl (by rw [← b]; exact hm a)
      · exact Or.inr ⟨l, hl, by rw [pk_un e]; exact a, by (try dsimp only); rw [if_neg e]; exact b⟩
/-- a held cell is written: nobody else holds it -/
theorem tc_C_put {V : Nat → Int32} {T : Nat → Nat} {m t s d : Nat → Int32} {L x : Nat} {v : Int32} (hL : L < 16) (h : tc_C V T m t s d) (hs : s L ≠ 0) (ht : T L = x)
    (ho : ∀ l, l < 16 → l ≠ L → s l ≠ 0 → T l ≠ x) : tc_C (upd V x v) T m t (upd s L 3) (upd d L v) := by
  obtain ⟨h1, h2, h3, h4⟩ := h
  refine ⟨h1, fun l hl a => ?_, fun l k hl hk a b e g => ?_, fun y hy => ?_⟩
  · by_cases e : l = L
    · rw [e, pk_us, ht, pk_us]
      refine ⟨?_, rfl⟩
      rw [← ht]
      exact (h2 L hL hs).1
    · rw [pk_un e] at a
      rw [pk_un e, pk_un (ho l hl e a)]
      exact h2 l hl a
  · by_cases el : l = L
    · by_cases ek : k = L
      · rw [el, ek]
      · rw [pk_un ek] at e
        exact absurd (by rw [g, el, ht]) (ho k hk ek e)
    · rw [pk_un el] at a b
      by_cases ek : k = L
      · exact absurd (by rw [← g, ek, ht]) (ho l hl el a)
      · rw [pk_un ek] at e
        exact h3 l k hl hk a b e g
  · by_cases ex : y = x
    · exact Or.inr ⟨L, hL, pk_us, by rw [ht, ex]⟩
    · rcases h4 y hy with p | ⟨l, hl, a, b⟩
      · exact Or.inl (by rw [pk_un ex]; exact p)
      · have e : l ≠ L := fun z => ex (by rw [← b, z, ht])
        exact Or.inr ⟨l, hl, by rw [pk_un e]; exact a, b⟩
theorem tc_C_0 : tc_C (fun _ => 0) (fun _ => 0) (fun _ => 0) (fun _ => 0) (fun _ => 0) (fun _ => 0) :=
  ⟨fun l hl => ⟨(by show (0 : Nat) < 16; decide), rfl⟩, fun l hl h => absurd rfl h, fun l k hl hk h => absurd rfl h, fun x hx => Or.inl rfl⟩
end
section
/-! the caches' methods, walked -/
section
variable {post : St2 → Prop} {q : Int32 → Prop} {V : Nat → Int32} {T : Nat → Nat} {m t s d a5 a6 a7 a8 a9 a10 : Nat → Int32}
theorem tc_line (c x : Nat) (hx : x < 16) : nI c * 4 + (nI x &&& 3) = nI (c * 4 + x % 4) := by
  have e : nI x &&& 3 = nI (x % 4) := pk_andN (n := x) (by omega) 2 (by decide)
  rw [e]
  show nI c * nI 4 + nI (x % 4) = _
  rw [pk_mul, nI_add]
theorem tc_lof {c x L : Nat} (eL : L = c * 4 + x % 4) (hx : x < 16) (h : q (nI L)) : wpX_lineOf q () (nI c) (nI x) := by
  unfold wpX_lineOf
  rw [tc_line c x hx, ← eL]
  exact h
theorem tc_holds {c x L : Nat} (eL : L = c * 4 + x % 4) (hc : c < 4) (hx : x < 16) (ht : t L = nI (T L)) (hT : T L < 16) (h1 : s L ≠ 0 → T L = x → q 1) (h0 : (s L = 0 ∨ T L ≠ x) → q 0) :
    wpX_holds q (m, t, s, d, a5, a6, a7, a8, a9, a10) (nI c) (nI x) := by
  unfold wpX_holds
  refine tc_lof eL hx ?_
  try dsimp only
  rw [nI_clamp (show L < 2 ^ 31 by omega), ht]
  exact ⟨pk_in L 16 (by omega), br_c (fun e => h0 (Or.inl e)) (fun e => ⟨pk_in L 16 (by omega), pk_eq (T L) x (fun g => h1 e g) (fun g => h0 (Or.inr g))⟩)⟩
theorem tc_wb {l : Nat} (hl : l < 16) (ht : t l = nI (T l)) (hT : T l < 16)
    (H : ∀ m', (∀ x, m' x = m x ∨ (x = T l ∧ s l = 3 ∧ m' x = d l)) → (s l = 3 → m' (T l) = d l) → post (m', t, s, d, a5, a6, a7, a8, a9, a10)) :
    wpX_writeBack post (m, t, s, d, a5, a6, a7, a8, a9, a10) (nI l) := by
  unfold wpX_writeBack
  try dsimp only
  rw [nI_clamp (show l < 2 ^ 31 by omega), ht, nI_clamp (show T l < 2 ^ 31 by omega)]
  refine ⟨pk_in l 16 hl, br_c (fun e => ⟨pk_in l 16 hl, pk_in l 16 hl, pk_in (T l) 16 hT, nm_e (H _ (fun x => ?_) (fun _ => pk_us))⟩) (fun e => H m (fun x => Or.inl rfl) (fun z => absurd z e))⟩
  by_cases g : x = T l
  · exact Or.inr ⟨g, e, by rw [g]; exact pk_us⟩
  · exact Or.inl (pk_un g)
/-- the loop of fetch: what holds at core i -/
def tc_FI (V : Nat → Int32) (T : Nat → Nat) (t d : Nat → Int32) (c x L i : Nat) (z : Int32 × (Nat → Int32) × (Nat → Int32)) : Prop :=
  tc_C V T z.2.1 t z.2.2 d ∧ (z.2.2 L = 0 ∨ T L ≠ x) ∧ (z.2.2 L = 3 → z.2.1 (T L) = V (T L)) ∧
  ∀ e, e < i → e ≠ c → z.2.2 (e * 4 + x % 4) ≠ 0 → T (e * 4 + x % 4) = x → z.2.2 (e * 4 + x % 4) = 1 ∧ z.1 ≠ 0
theorem tc_fetchL {c x L : Nat} (eL : L = c * 4 + x % 4) (hc : c < 4) (hx : x < 16)
    (H : ∀ T' m' t' s' d', tc_C V T' m' t' s' d' → s' L ≠ 0 → T' L = x → post (m', t', s', d', a5, a6, a7, a8, a9, a10))
    (h : tc_C V T m t s d) (hn : s L = 0 ∨ T L ≠ x) (hm : s L = 3 → m (T L) = V (T L)) :
    ∃ n, wX_fetch_27 post (nI c) (nI x) (nI L) n 0 0 m t s d a5 a6 a7 a8 a9 a10 := by
  have hL : L < 16 := by omega
  refine pk_loop (fun n i (z : Int32 × (Nat → Int32) × (Nat → Int32)) => wX_fetch_27 post (nI c) (nI x) (nI L) n z.1 (nI i) z.2.1 t z.2.2 d a5 a6 a7 a8 a9 a10) (tc_FI V T t d c x L) 4 0 (0, m, s) (by omega) ⟨h, hn, hm, fun e he => absurd he (by omega)⟩ ?_ ?_
  · rintro n ⟨f, m', s'⟩ ⟨k, kn, km, ko⟩
    try dsimp only at k kn km ko
    refine pk_le 4 4 (fun _ => ?_) (fun z => absurd z (by omega))
    try dsimp only
    rw [nI_clamp (show L < 2 ^ 31 by omega), nI_clamp (show x < 2 ^ 31 by omega), tc_byte x (by omega)]
    refine ⟨pk_in L 16 hL, nm_e ⟨pk_in x 16 hx, pk_in L 16 hL, nm_e (br_c (fun e => ⟨pk_in L 16 hL, nm_e ?_⟩) (fun e => ⟨pk_in L 16 hL, nm_e ?_⟩))⟩⟩
    · refine H _ _ _ _ _ (tc_C_fill eL hc hx k kn km (w := (2 : Int32).toInt8.toInt32) (by decide) (by decide) (fun e' he hne hs ht => absurd e (ko e' he hne hs ht).2)) ?_ (if_pos rfl)
      rw [pk_us]
      decide
    · refine H _ _ _ _ _ (tc_C_fill eL hc hx k kn km (w := (1 : Int32).toInt8.toInt32) (by decide) (by decide) (fun e' he hne hs ht => ⟨(ko e' he hne hs ht).1, by decide⟩)) ?_ (if_pos rfl)
      rw [pk_us]
      decide
  · rintro n i ⟨f, m', s'⟩ hi ⟨k, kn, km, ko⟩ hw
    try dsimp only at k kn km ko
    have hli : i * 4 + x % 4 < 16 := by omega
    refine pk_le 4 i (fun z => absurd z (by omega)) (fun _ => pk_eq i c (fun z => nm_r (nI_1 i) (hw (f, m', s') ⟨k, kn, km, fun e he ne a b => ?_⟩)) (fun z => ?_))
    · exact ko e (by omega) ne a b
    · refine tc_holds (T := T) rfl hi hx (k.1 _ hli).2 (k.1 _ hli).1 (fun a b => ?_) (fun a => ?_)
      · refine br_f (by decide) (tc_lof rfl hx (tc_wb (T := T) hli (k.1 _ hli).2 (k.1 _ hli).1 (fun m'' hm1 hm2 => ?_)))
        try dsimp only
        rw [nI_clamp (show i * 4 + x % 4 < 2 ^ 31 by omega)]
        obtain ⟨k', key⟩ := tc_C_wb hli k hm1
        have hne : L ≠ i * 4 + x % 4 := by omega
        refine ⟨pk_in _ 16 hli, nm_e (nm_r (nI_1 i) (hw (1, m'', upd s' (i * 4 + x % 4) 1) ⟨tc_C_share k' a (fun z => (hm2 z).trans (k.2.1 _ hli a).2), ?_, ?_, ?_⟩))⟩
        · try dsimp only
          rw [pk_un hne]
          exact kn
        · try dsimp only
          rw [pk_un hne]
          exact fun z => key _ (k.1 L hL).1 (km z)
        · intro e he ne a' b'
          try dsimp only at a' ⊢
          by_cases ee : e = i
          · rw [ee]
            exact ⟨pk_us, tc_10⟩
          · have e2 : e * 4 + x % 4 ≠ i * 4 + x % 4 := by omega
            rw [pk_un e2] at a' ⊢
            exact ⟨(ko e (by omega) ne a' b').1, tc_10⟩
      · refine br_t rfl (nm_r (nI_1 i) (hw (f, m', s') ⟨k, kn, km, fun e he ne a' b' => ?_⟩))
        by_cases ee : e = i
        · rw [ee] at a' b'
          rcases a with a | a
          · exact absurd a a'
          · exact absurd b' a
        · exact ko e (by omega) ne a' b'
/-- fetch: the cell is held, the newest values stay -/
theorem tc_fetch {c x L : Nat} (eL : L = c * 4 + x % 4) (hc : c < 4) (hx : x < 16) (h : tc_C V T m t s d)
    (H : ∀ T' m' t' s' d', tc_C V T' m' t' s' d' → s' L ≠ 0 → T' L = x → post (m', t', s', d', a5, a6, a7, a8, a9, a10)) :
    wpX_fetch post (m, t, s, d, a5, a6, a7, a8, a9, a10) (nI c) (nI x) := by
  have hL : L < 16 := by omega
  unfold wpX_fetch
  refine tc_holds (T := T) eL hc hx (h.1 L hL).2 (h.1 L hL).1 (fun a b => br_f (by decide) (H T m t s d h a b)) (fun a => br_t rfl (tc_lof eL hx (tc_wb (T := T) hL (h.1 L hL).2 (h.1 L hL).1 (fun m' hm1 hm2 => ?_))))
  obtain ⟨k', key⟩ := tc_C_wb hL h hm1
  exact tc_fetchL eL hc hx H k' a (fun z => (hm2 z).trans (h.2.1 L hL (by rw [z]; exact tc_30)).2)
theorem tc_store71 {x L : Nat} {v : Int32} (hL : L < 16) (h : tc_C V T m t s d) (hs : s L ≠ 0) (ht : T L = x) (ho : ∀ l, l < 16 → l ≠ L → s l ≠ 0 → T l ≠ x)
    (H : ∀ T' m' t' s' d', tc_C (upd V x v) T' m' t' s' d' → post (m', t', s', d', a5, a6, a7, a8, a9, a10)) :
    wX_store_71 post v (nI L) m t s d a5 a6 a7 a8 a9 a10 := by
  unfold wX_store_71
  rw [nI_clamp (show L < 2 ^ 31 by omega)]
  exact ⟨pk_in L 16 hL, nm_e ⟨pk_in L 16 hL, nm_e (H _ _ _ _ _ (tc_C_put hL h hs ht ho))⟩⟩
theorem tc_store27 {c x L : Nat} {v : Int32} (eL : L = c * 4 + x % 4) (hc : c < 4) (hx : x < 16)
    (H : ∀ T' m' t' s' d', tc_C (upd V x v) T' m' t' s' d' → post (m', t', s', d', a5, a6, a7, a8, a9, a10))
    (h : tc_C V T m t s d) (hs : s L = 1) (ht : T L = x) :
    ∃ n, wX_store_27 post (nI c) (nI x) v (nI L) n 0 m t s d a5 a6 a7 a8 a9 a10 := by
  have hL : L < 16 := by omega
  refine pk_loop (fun n i z => wX_store_27 post (nI c) (nI x) v (nI L) n (nI i) m t z d a5 a6 a7 a8 a9 a10)
    (fun i z => tc_C V T m t z d ∧ z L = 1 ∧ ∀ e, e < i → e ≠ c → z (e * 4 + x % 4) ≠ 0 → T (e * 4 + x % 4) ≠ x) 4 0 s (by omega) ⟨h, hs, fun e he => absurd he (by omega)⟩ ?_ ?_
  · rintro n s' ⟨k, k1, ko⟩
    refine pk_le 4 4 (fun _ => tc_store71 hL k (by rw [k1]; exact tc_10) ht (fun l hl ne a b => ?_) H) (fun z => absurd z (by omega))
    have hq := (k.2.1 l hl a).1
    rw [b] at hq
    obtain ⟨e1, e2⟩ := tc_place hl hq
    have := ko (l / 4) e2 (fun z => ne (by rw [z] at e1; rw [eL]; exact e1))
    rw [← e1] at this
    exact this a b
  · rintro n i s' hi ⟨k, k1, ko⟩ hw
    have hli : i * 4 + x % 4 < 16 := by omega
    refine pk_le 4 i (fun z => absurd z (by omega)) (fun _ => pk_eq i c (fun z => nm_r (nI_1 i) (hw s' ⟨k, k1, fun e he ne => ko e (by omega) ne⟩)) (fun z => ?_))
    refine tc_holds (T := T) rfl hi hx (k.1 _ hli).2 (k.1 _ hli).1 (fun a b => ?_) (fun a => ?_)
    · refine br_f (by decide) (tc_lof rfl hx ?_)
      try dsimp only
      rw [nI_clamp (show i * 4 + x % 4 < 2 ^ 31 by omega)]
      have hne : L ≠ i * 4 + x % 4 := by omega
      have h3 : s' (i * 4 + x % 4) ≠ 3 := fun g => hne (k.2.2.1 _ L hli hL a (by rw [g]; exact tc_31) (by rw [k1]; exact tc_10) (by rw [ht, b]))
      refine ⟨pk_in _ 16 hli, nm_e (nm_r (nI_1 i) (hw _ ⟨tc_C_drop k h3, ?_, ?_⟩))⟩
      · rw [pk_un hne]
        exact k1
      · intro e he ne a' b'
        by_cases ee : e = i
        · rw [ee, pk_us] at a'
          exact a' rfl
        · have e2 : e * 4 + x % 4 ≠ i * 4 + x % 4 := by omega
          rw [pk_un e2] at a'
          exact ko e (by omega) ne a' b'
    · refine br_t rfl (nm_r (nI_1 i) (hw s' ⟨k, k1, fun e he ne a' b' => ?_⟩))
      by_cases ee : e = i
      · rw [ee] at a' b'
        rcases a with a | a
        · exact absurd a a'
        · exact absurd b' a
      · exact ko e (by omega) ne a' b'
/-- store: the newest value of the cell is v -/
theorem tc_store {c x : Nat} {v : Int32} (hc : c < 4) (hx : x < 16) (h : tc_C V T m t s d)
    (H : ∀ T' m' t' s' d', tc_C (upd V x v) T' m' t' s' d' → post (m', t', s', d', a5, a6, a7, a8, a9, a10)) :
    wpX_store post (m, t, s, d, a5, a6, a7, a8, a9, a10) (nI c) (nI x) v := by
  have hL : c * 4 + x % 4 < 16 := by omega
  unfold wpX_store
  refine tc_fetch rfl hc hx h (fun T' m' t' s' d' k a b => ?_)
  try dsimp only
  refine tc_lof rfl hx ⟨pk_in _ 16 hL, ?_⟩
  rw [nI_clamp (show c * 4 + x % 4 < 2 ^ 31 by omega)]
  refine br_c (fun e => tc_store27 rfl hc hx H k e b) (fun e => tc_store71 hL k a b (fun l hl ne a' b' => ?_) H)
  exact ne (k.2.2.1 _ l hL hl a e a' (by rw [b', b]))
/-- newest: the newest value -/
theorem tc_newest {x : Nat} (hx : x < 16) (h : tc_C V T m t s d) (H : q (V x)) : wpX_newest q (m, t, s, d, a5, a6, a7, a8, a9, a10) (nI x) := by
  unfold wpX_newest
  refine pk_loop (σ := Unit) (fun n i _ => wX_newest_2 q (nI x) m t s d a5 a6 a7 a8 a9 a10 n (nI i)) (fun i _ => ∀ e, e < i → s (e * 4 + x % 4) = 3 → T (e * 4 + x % 4) ≠ x) 4 0 () (by omega) (fun e he => absurd he (by omega)) ?_ ?_
  · rintro n _ ko
    refine pk_le 4 4 (fun _ => ⟨pk_in x 16 hx, ?_⟩) (fun z => absurd z (by omega))
    rw [nI_clamp (show x < 2 ^ 31 by omega)]
    rcases h.2.2.2 x hx with p | ⟨l, hl, a, b⟩
    · rw [p]; exact H
    · have hq := (h.2.1 l hl (by rw [a]; exact tc_30)).1
      rw [b] at hq
      obtain ⟨e1, e2⟩ := tc_place hl hq
      have := ko (l / 4) e2
      rw [← e1] at this
      exact absurd b (this a)
  · rintro n i _ hi ko hw
    have hli : i * 4 + x % 4 < 16 := by omega
    refine pk_le 4 i (fun z => absurd z (by omega)) (fun _ => tc_lof rfl hx (tc_holds (T := T) rfl hi hx (h.1 _ hli).2 (h.1 _ hli).1 (fun a b => br_f (by decide) ⟨pk_in _ 16 hli, ?_⟩) (fun a => br_t rfl (nm_r (nI_1 i) (hw () (fun e he a' b' => ?_))))))
    · rw [nI_clamp (show i * 4 + x % 4 < 2 ^ 31 by omega)]
      refine br_c (fun e => ⟨pk_in _ 16 hli, ?_⟩) (fun e => nm_r (nI_1 i) (hw () (fun e' he a' b' => ?_)))
      · rw [(h.2.1 _ hli a).2, b]
        exact H
      · by_cases ee : e' = i
        · rw [ee] at a'
          exact e a'
        · exact ko e' (by omega) a' b'
    · by_cases ee : e = i
      · rw [ee] at a' b'
        rcases a with a | a
        · rw [a] at a'
          exact absurd a' (by decide)
        · exact a b'
      · exact ko e (by omega) a' b'
end
end
section
/-! the methods that only look, walked -/
section
variable {q : Int32 → Prop} {V ws rs : Nat → Int32} {T K : Nat → Nat} {m t s d a5 a6 a7 a8 a9 a10 : Nat → Int32}
/-- what a core's levels say: ws its written set, rs its read set -/
def tc_O (ws rs a5 a6 a7 : Nat → Int32) : Prop :=
  ∀ c, c < 4 → ∃ l, l ≤ 1 ∧ a5 c = nI l ∧ (if l = 0 then 0 else a7 (c * 3)) = ws c ∧ (if l = 0 then 0 else a6 (c * 3)) = rs c
theorem tc_core {c : Nat} (hc : c < 4) (h : q 1) : wpX_isCore q () (nI c) :=
  br_f (nI_pos (by omega)) (pk_le 4 c (fun z => absurd z (by omega)) (fun _ => h))
theorem tc_cell {x : Nat} (hx : x < 16) (h : q 1) : wpX_isCell q () (nI x) :=
  br_f (nI_pos (by omega)) (pk_le 16 x (fun z => absurd z (by omega)) (fun _ => h))
theorem tc_i0 (c : Nat) : nI c * 3 + 0 = nI (c * 3) := by
  show nI c * nI 3 + nI 0 = _
  rw [pk_mul, nI_add, Nat.add_zero]
theorem tc_at (c : Nat) : nI c * 3 + nI 1 - 1 = nI (c * 3) := by
  show nI c * nI 3 + nI 1 - 1 = _
  rw [pk_mul, nI_add]
  exact nI_pred (c * 3)
theorem tc_ix (c i : Nat) : nI (c * 3) * 16 + nI i = nI (c * 48 + i) := by
  show nI (c * 3) * nI 16 + nI i = _
  rw [pk_mul, nI_add, show c * 3 * 16 + i = c * 48 + i by omega]
theorem tc_wset {c : Nat} (hc : c < 4) (h : tc_O ws rs a5 a6 a7) (H : q (ws c)) : wpX_writtenSet q (m, t, s, d, a5, a6, a7, a8, a9, a10) (nI c) := by
  obtain ⟨l, hl, e, hw, _⟩ := h c hc
  unfold wpX_writtenSet
  rcases (show l = 0 ∨ l = 1 by omega) with z | z
  · subst z
    rw [if_pos rfl] at hw
    refine ⟨1, pk_in c 4 hc, ?_⟩
    rw [nI_clamp (show c < 2 ^ 31 by omega), e]
    exact pk_le 0 0 (fun _ => by rw [hw]; exact H) (fun z => absurd z (by omega))
  · subst z
    rw [if_neg (by decide)] at hw
    refine ⟨2, pk_in c 4 hc, ?_⟩
    rw [nI_clamp (show c < 2 ^ 31 by omega), e, tc_i0, nI_clamp (show c * 3 < 2 ^ 31 by omega), tc_or0]
    refine pk_le 1 0 (fun z => absurd z (by omega)) (fun _ => ⟨pk_in (c * 3) 12 (by omega), nm_e (nm_r (e' := nI 1) rfl ⟨pk_in c 4 hc, ?_⟩)⟩)
    rw [nI_clamp (show c < 2 ^ 31 by omega), e]
    exact pk_le 1 1 (fun _ => by rw [hw]; exact H) (fun z => absurd z (by omega))
theorem tc_rset {c : Nat} (hc : c < 4) (h : tc_O ws rs a5 a6 a7) (H : q (rs c)) : wpX_readSet q (m, t, s, d, a5, a6, a7, a8, a9, a10) (nI c) := by
  obtain ⟨l, hl, e, _, hw⟩ := h c hc
  unfold wpX_readSet
  rcases (show l = 0 ∨ l = 1 by omega) with z | z
  · subst z
    rw [if_pos rfl] at hw
    refine ⟨1, pk_in c 4 hc, ?_⟩
    rw [nI_clamp (show c < 2 ^ 31 by omega), e]
    exact pk_le 0 0 (fun _ => by rw [hw]; exact H) (fun z => absurd z (by omega))
  · subst z
    rw [if_neg (by decide)] at hw
    refine ⟨2, pk_in c 4 hc, ?_⟩
    rw [nI_clamp (show c < 2 ^ 31 by omega), e, tc_i0, nI_clamp (show c * 3 < 2 ^ 31 by omega), tc_or0]
    refine pk_le 1 0 (fun z => absurd z (by omega)) (fun _ => ⟨pk_in (c * 3) 12 (by omega), nm_e (nm_r (e' := nI 1) rfl ⟨pk_in c 4 hc, ?_⟩)⟩)
    rw [nI_clamp (show c < 2 ^ 31 by omega), e]
    exact pk_le 1 1 (fun _ => by rw [hw]; exact H) (fun z => absurd z (by omega))
theorem tc_r35 {J : Int32 → Int32 → Prop} {c x i : Nat} {w x4 y : Int32} (hc : c < 4) (hi : i < 4) (hx : x < 32)
    (H : J (x4 ||| (if (decide (i ≠ c) && tc_bt y x) = true then (1 : Int32) <<< (nI i &&& 31) else 0)) (nI (i + 1))) :
    wX_rivalsOf_35 q J (nI c) (nI x) w x4 (nI i) y m t s d a5 a6 a7 a8 a9 a10 := by
  unfold wX_rivalsOf_35
  refine pk_eq i c (fun z => nm_e (nm_r (nI_1 i) ?_)) (fun z => ek_if (tc_bit0 y hx) (fun g => nm_e (nm_r (nI_1 i) ?_)) (fun g => nm_e (nm_r (nI_1 i) ?_)))
  · rw [decide_eq_false (show ¬ i ≠ c by omega), Bool.false_and, if_neg (by decide)] at H
    exact H
  · rw [g, Bool.and_false, if_neg (by decide)] at H
    exact H
  · have g' : tc_bt y x = true := by
      cases hh : tc_bt y x
      · exact absurd hh g
      · rfl
    rw [decide_eq_true z, g', Bool.true_and, if_pos rfl] at H
    exact H
/-- the rivals: the other cores with the cell in their sets -/
def tc_th (ws rs : Nat → Int32) (w : Int32) (c x e : Nat) : Bool := decide (e ≠ c) && tc_bt (if w = 0 then ws e else ws e ||| rs e) x
theorem tc_riv {c x : Nat} {w : Int32} (hc : c < 4) (hx : x < 32) (h : tc_O ws rs a5 a6 a7) (H : q (tc_rv (tc_th ws rs w c x) 4)) :
    wpX_rivalsOf q (m, t, s, d, a5, a6, a7, a8, a9, a10) (nI c) (nI x) w := by
  unfold wpX_rivalsOf
  refine pk_loop (σ := Unit) (fun n i _ => wX_rivalsOf_6 q (nI c) (nI x) w m t s d a5 a6 a7 a8 a9 a10 n (tc_rv (tc_th ws rs w c x) i) (nI i)) (fun _ _ => True) 4 0 () (by omega) trivial ?_ ?_
  · intro n _ _
    exact pk_le 4 4 (fun _ => H) (fun z => absurd z (by omega))
  · intro n i _ hi _ hw
    have hw' := hw () trivial
    refine pk_le 4 i (fun z => absurd z (by omega)) (fun _ => tc_wset hi h (br_c (fun z => tc_r35 hc hi hx ?_) (fun z => tc_rset hi h (nm_e (tc_r35 hc hi hx ?_)))))
    · have e : tc_th ws rs w c x i = (decide (i ≠ c) && tc_bt (ws i) x) := by
        unfold tc_th
        rw [if_pos z]
      rw [← e]
      exact hw'
    · have e : tc_th ws rs w c x i = (decide (i ≠ c) && tc_bt (ws i ||| rs i) x) := by
        unfold tc_th
        rw [if_neg z]
      rw [← e]
      exact hw'
theorem tc_wof_none {x : Nat} (hx : x < 32) (h : tc_O ws rs a5 a6 a7) (hn : ∀ e, e < 4 → tc_bt (ws e) x = false) (H : q (-1)) :
    wpX_writerOf q (m, t, s, d, a5, a6, a7, a8, a9, a10) (nI x) := by
  unfold wpX_writerOf
  refine pk_loop (σ := Unit) (fun n i _ => wX_writerOf_2 q (nI x) m t s d a5 a6 a7 a8 a9 a10 n (nI i)) (fun _ _ => True) 4 0 () (by omega) trivial ?_ ?_
  · intro n _ _
    exact pk_le 4 4 (fun _ => H) (fun z => absurd z (by omega))
  · intro n i _ hi _ hw
    exact pk_le 4 i (fun z => absurd z (by omega)) (fun _ => tc_wset hi h (br_t ((tc_bit0 _ hx).mpr (hn i hi)) (nm_r (nI_1 i) (hw () trivial))))
theorem tc_wof_one {x b : Nat} (hx : x < 32) (hb : b < 4) (h : tc_O ws rs a5 a6 a7) (ht : tc_bt (ws b) x = true) (hn : ∀ e, e < 4 → e ≠ b → tc_bt (ws e) x = false) (H : q (nI b)) :
    wpX_writerOf q (m, t, s, d, a5, a6, a7, a8, a9, a10) (nI x) := by
  unfold wpX_writerOf
  refine pk_loop (σ := Unit) (fun n i _ => wX_writerOf_2 q (nI x) m t s d a5 a6 a7 a8 a9 a10 n (nI i)) (fun _ _ => True) b 0 () (by omega) trivial ?_ ?_
  · intro n _ _
    refine pk_le 4 b (fun z => absurd z (by omega)) (fun _ => tc_wset hb h (br_f ?_ H))
    rw [tc_bit0 _ hx, ht]
    decide
  · intro n i _ hi _ hw
    exact pk_le 4 i (fun z => absurd z (by omega)) (fun _ => tc_wset (by omega) h (br_t ((tc_bit0 _ hx).mpr (hn i (by omega) (by omega))) (nm_r (nI_1 i) (hw () trivial))))
/-- the log of core c, level 1: n cells K, their old values all 0 -/
def tc_L (c n : Nat) (K : Nat → Nat) (a8 a9 a10 : Nat → Int32) : Prop :=
  a8 (c * 3) = nI n ∧ ∀ k, k < n → K k < 16 ∧ a9 (c * 48 + k) = nI (K k) ∧ a10 (c * 48 + k) = 0
theorem tc_before {c x n : Nat} (hc : c < 4) (hx : x < 16) (hl : a5 c = nI 1) (hn : n ≤ 16) (hL : tc_L c n K a8 a9 a10) (he : ∃ k, k < n ∧ K k = x) (H : q 0) :
    wpX_before q (m, t, s, d, a5, a6, a7, a8, a9, a10) (nI c) (nI x) := by
  obtain ⟨k0, ⟨h1, h2⟩, h3⟩ := pk_least (fun k => k < n ∧ K k = x) he
  unfold wpX_before
  refine ⟨1, pk_in c 4 hc, ?_⟩
  rw [nI_clamp (show c < 2 ^ 31 by omega), hl, tc_i0]
  refine pk_le 1 0 (fun z => absurd z (by omega)) (fun _ => nm_e ?_)
  refine pk_loop (σ := Unit) (fun f i _ => wX_before_22 q (wX_before_2 q (nI c) (nI x) m t s d a5 a6 a7 a8 a9 a10 0) (nI c) (nI x) 0 (nI (c * 3)) m t s d a5 a6 a7 a8 a9 a10 f (nI i)) (fun _ _ => True) k0 0 () (by omega) trivial ?_ ?_
  · intro f _ _
    refine ⟨pk_in (c * 3) 12 (by omega), ?_⟩
    rw [nI_clamp (show c * 3 < 2 ^ 31 by omega), hL.1, tc_ix, nI_clamp (show c * 48 + k0 < 2 ^ 31 by omega), (hL.2 k0 h1).2.1, (hL.2 k0 h1).2.2]
    exact pk_le n k0 (fun z => absurd z (by omega)) (fun _ => ⟨pk_in (c * 48 + k0) 192 (by omega), pk_eq (K k0) x (fun _ => ⟨pk_in (c * 48 + k0) 192 (by omega), H⟩) (fun z => absurd h2 z) (ha := by have := (hL.2 k0 h1).1; omega)⟩)
  · intro f i _ hi _ hw
    refine ⟨pk_in (c * 3) 12 (by omega), ?_⟩
    have hin : i < n := by omega
    have hiK := (hL.2 i hin).1
    rw [nI_clamp (show c * 3 < 2 ^ 31 by omega), hL.1, tc_ix, nI_clamp (show c * 48 + i < 2 ^ 31 by omega), (hL.2 i hin).2.1]
    exact pk_le n i (fun z => absurd z (by omega)) (fun _ => ⟨pk_in (c * 48 + i) 192 (by omega), pk_eq (K i) x (fun z => absurd ⟨hin, z⟩ (h3 i hi)) (fun _ => nm_r (nI_1 i) (hw () trivial))⟩)
theorem tc_com_none {x : Nat} (hx : x < 16) (h : tc_O ws rs a5 a6 a7) (hC : tc_C V T m t s d) (hn : ∀ e, e < 4 → tc_bt (ws e) x = false) (H : q (V x)) :
    wpX_committedIn q (m, t, s, d, a5, a6, a7, a8, a9, a10) (nI x) := by
  unfold wpX_committedIn
  exact tc_wof_none (by omega) h hn (br_f (by decide) (tc_newest hx hC H))
theorem tc_com_one {x b n : Nat} (hx : x < 16) (hb : b < 4) (h : tc_O ws rs a5 a6 a7) (ht : tc_bt (ws b) x = true) (hn : ∀ e, e < 4 → e ≠ b → tc_bt (ws e) x = false)
    (hl : a5 b = nI 1) (hn6 : n ≤ 16) (hL : tc_L b n K a8 a9 a10) (he : ∃ k, k < n ∧ K k = x) (H : q 0) :
    wpX_committedIn q (m, t, s, d, a5, a6, a7, a8, a9, a10) (nI x) := by
  unfold wpX_committedIn
  exact tc_wof_one (by omega) hb h ht hn (br_t (nI_pos' (by omega)) (tc_before hb hx hl hn6 hL he H))
end
/-- the law's state: a and b at level 1 or 0, the sets and the log of b -/
def tc_lvl (a b la lb c : Nat) : Nat := if c = a then la else if c = b then lb else 0
def tc_wf (b lb : Nat) (Wb : Int32) (c : Nat) : Int32 := if c = b ∧ lb = 1 then Wb else 0
def tc_rf (a b la lb : Nat) (Ra Rb : Int32) (c : Nat) : Int32 := if c = a ∧ la = 1 then Ra else if c = b ∧ lb = 1 then Rb else 0
def tc_ok (a b la lb N : Nat) : Prop := a < 4 ∧ b < 4 ∧ a ≠ b ∧ la ≤ 1 ∧ lb ≤ 1 ∧ N ≤ 15
def tc_X (a b la lb : Nat) (Ra Rb Wb : Int32) (N : Nat) (a5 a6 a7 a8 a9 a10 : Nat → Int32) : Prop :=
  (∀ c, c < 4 → a5 c = nI (tc_lvl a b la lb c)) ∧ (a6 (a * 3) = Ra ∧ a6 (b * 3) = Rb ∧ a7 (a * 3) = 0 ∧ a7 (b * 3) = Wb ∧ a8 (a * 3) = 0) ∧
  ∃ (n : Nat) (K : Nat → Nat), n ≤ N ∧ tc_L b n K a8 a9 a10 ∧ (∀ k, k < n → tc_bt Wb (K k) = true) ∧ ∀ x, x < 16 → tc_bt Wb x = true → ∃ k, k < n ∧ K k = x
def tc_P (a b la lb : Nat) (Ra Rb Wb : Int32) (N : Nat) (V : Nat → Int32) (u : St2) : Prop := match u with
  | (m, t, s, d, a5, a6, a7, a8, a9, a10) => ∃ T, tc_C V T m t s d ∧ tc_X a b la lb Ra Rb Wb N a5 a6 a7 a8 a9 a10
section
variable {q : Int32 → Prop} {a b la lb N : Nat} {Ra Rb Wb : Int32} {V : Nat → Int32} {u : St2}
theorem tc_XO {a5 a6 a7 a8 a9 a10 : Nat → Int32} (ok : tc_ok a b la lb N) (h : tc_X a b la lb Ra Rb Wb N a5 a6 a7 a8 a9 a10) : tc_O (tc_wf b lb Wb) (tc_rf a b la lb Ra Rb) a5 a6 a7 := by
  obtain ⟨ha, hb, hab, hla, hlb, hN⟩ := ok
  obtain ⟨h5, ⟨h1, h2, h3, h4, _⟩, _⟩ := h
  intro c hc
  refine ⟨tc_lvl a b la lb c, ?_, h5 c hc, ?_, ?_⟩
  · unfold tc_lvl
    split
    · exact hla
    · split
      · exact hlb
      · omega
  · unfold tc_lvl tc_wf
    by_cases ca : c = a
    · rw [if_pos ca, ca, h3, if_neg (show ¬ (a = b ∧ lb = 1) by omega)]
      split <;> rfl
    · rw [if_neg ca]
      by_cases cb : c = b
      · rw [if_pos cb, cb, h4]
        rcases (show lb = 0 ∨ lb = 1 by omega) with z | z
        · rw [if_pos z, if_neg (by omega)]
        · rw [if_neg (by omega), if_pos ⟨rfl, z⟩]
      · rw [if_neg cb, if_pos rfl, if_neg (by omega)]
  · unfold tc_lvl tc_rf
    by_cases ca : c = a
    · rw [if_pos ca, ca, h1]
      rcases (show la = 0 ∨ la = 1 by omega) with z | z
      · rw [if_pos z, if_neg (show ¬ (a = a ∧ la = 1) by omega), if_neg (show ¬ (a = b ∧ lb = 1) by omega)]
      · rw [if_neg (show ¬ la = 0 by omega), if_pos ⟨rfl, z⟩]
    · rw [if_neg ca, if_neg (show ¬ (c = a ∧ la = 1) by omega)]
      by_cases cb : c = b
      · rw [if_pos cb, cb, h2]
        rcases (show lb = 0 ∨ lb = 1 by omega) with z | z
        · rw [if_pos z, if_neg (by omega)]
        · rw [if_neg (by omega), if_pos ⟨rfl, z⟩]
      · rw [if_neg cb, if_pos rfl, if_neg (by omega)]
theorem tc_wf_ne {b lb e : Nat} {Wb : Int32} {x : Nat} (h : e ≠ b) : tc_bt (tc_wf b lb Wb e) x = false := by
  unfold tc_wf
  rw [if_neg (fun z => h z.1)]
  exact tc_b_0 x
theorem tc_wf_b {b : Nat} {Wb : Int32} : tc_wf b 1 Wb b = Wb := if_pos ⟨rfl, rfl⟩
theorem tc_wf_0 {b e : Nat} {Wb : Int32} : tc_wf b 0 Wb e = 0 := if_neg (fun z => absurd z.2 (by decide))
/-- the value before the transactions -/
def tc_cm (lb : Nat) (Wb : Int32) (V : Nat → Int32) (x : Nat) : Int32 := if lb = 1 ∧ tc_bt Wb x = true then 0 else V x
theorem tc_nowf {x : Nat} (h : ¬ (lb = 1 ∧ tc_bt Wb x = true)) (e : Nat) : tc_bt (tc_wf b lb Wb e) x = false := by
  unfold tc_wf
  by_cases z : e = b ∧ lb = 1
  · rw [if_pos z]
    cases hh : tc_bt Wb x
    · rfl
    · exact absurd ⟨z.2, hh⟩ h
  · rw [if_neg z]
    exact tc_b_0 x
theorem tc_commit {x : Nat} (hx : x < 16) (ok : tc_ok a b la lb N) (h : tc_P a b la lb Ra Rb Wb N V u) (H : q (tc_cm lb Wb V x)) : wpX_committedIn q u (nI x) := by
  obtain ⟨m, t, s, d, a5, a6, a7, a8, a9, a10⟩ := u
  obtain ⟨T, hC, hX⟩ := h
  have hO := tc_XO ok hX
  unfold tc_cm at H
  by_cases z : lb = 1 ∧ tc_bt Wb x = true
  · rw [if_pos z] at H
    obtain ⟨h5, _, n, K, hn, hL, _, hK⟩ := hX
    obtain ⟨ha, hb, hab, hla, hlb, hN⟩ := ok
    refine tc_com_one (n := n) (K := K) hx hb hO ?_ (fun e _ ne => tc_wf_ne ne) ?_ (by omega) hL (hK x hx z.2) H
    · rw [z.1, tc_wf_b]
      exact z.2
    · rw [h5 b hb]
      unfold tc_lvl
      rw [if_neg (by omega), if_pos rfl, z.1]
  · rw [if_neg z] at H
    exact tc_com_none hx hO hC (fun e _ => tc_nowf z e) H
theorem tc_readBy {c : Nat} (hc : c < 4) (ok : tc_ok a b la lb N) (h : tc_P a b la lb Ra Rb Wb N V u) (H : q (tc_rf a b la lb Ra Rb c)) : wpX_readBy q u (nI c) := by
  obtain ⟨m, t, s, d, a5, a6, a7, a8, a9, a10⟩ := u
  obtain ⟨T, hC, hX⟩ := h
  unfold wpX_readBy
  exact tc_core hc (br_f (by decide) (tc_rset hc (tc_XO ok hX) H))
theorem tc_writtenBy {c : Nat} (hc : c < 4) (ok : tc_ok a b la lb N) (h : tc_P a b la lb Ra Rb Wb N V u) (H : q (tc_wf b lb Wb c)) : wpX_writtenBy q u (nI c) := by
  obtain ⟨m, t, s, d, a5, a6, a7, a8, a9, a10⟩ := u
  obtain ⟨T, hC, hX⟩ := h
  unfold wpX_writtenBy
  exact tc_core hc (br_f (by decide) (tc_wset hc (tc_XO ok hX) H))
theorem tc_committed {x : Nat} (hx : x < 16) (ok : tc_ok a b la lb N) (h : tc_P a b la lb Ra Rb Wb N V u) (H : q (tc_cm lb Wb V x)) : wpX_committed q u (nI x) := by
  have h2 := tc_commit (q := q) hx ok h H
  obtain ⟨m, t, s, d, a5, a6, a7, a8, a9, a10⟩ := u
  unfold wpX_committed
  exact tc_cell hx (br_f (by decide) h2)
/-- what core c sees of cell x -/
def tc_se (b lb : Nat) (Wb : Int32) (V : Nat → Int32) (c x : Nat) : Int32 := if c = b then V x else tc_cm lb Wb V x
theorem tc_sees {c x : Nat} (hc : c < 4) (hx : x < 16) (ok : tc_ok a b la lb N) (h : tc_P a b la lb Ra Rb Wb N V u) (H : q (tc_se b lb Wb V c x)) : wpX_sees q u (nI c) (nI x) := by
  have h2 := fun H' => tc_commit (q := q) hx ok h H'
  obtain ⟨m, t, s, d, a5, a6, a7, a8, a9, a10⟩ := u
  obtain ⟨T, hC, hX⟩ := h
  have hO := tc_XO ok hX
  obtain ⟨ha, hb, hab, hla, hlb, hN⟩ := ok
  unfold tc_se at H
  unfold wpX_sees
  refine tc_core hc (br_f (by decide) (tc_cell hx (br_f (by decide) ?_)))
  by_cases z : lb = 1 ∧ tc_bt Wb x = true
  · refine tc_wof_one (by omega) hb hO ?_ (fun e _ ne => tc_wf_ne ne) (pk_eq b c (fun e => ?_) (fun e => h2 ?_))
    · rw [z.1, tc_wf_b]
      exact z.2
    · rw [if_pos e.symm] at H
      exact tc_newest hx hC H
    · rw [if_neg (fun g => e g.symm)] at H
      exact H
  · refine tc_wof_none (by omega) hO (fun e _ => tc_nowf z e) (br_f ?_ (h2 ?_))
    · rcases (show c = 0 ∨ c = 1 ∨ c = 2 ∨ c = 3 by omega) with e | e | e | e <;> subst e <;> decide
    · unfold tc_cm at H ⊢
      rw [if_neg z] at H ⊢
      split at H <;> exact H
theorem tc_digest (ok : tc_ok a b la lb N) (h : tc_P a b la lb Ra Rb Wb N V u) (H : q (tc_sum (tc_cm lb Wb V) 16)) : wpX_digest q u := by
  have h2 : ∀ (q' : Int32 → Prop) x, x < 16 → q' (tc_cm lb Wb V x) → wpX_committedIn q' u (nI x) := fun q' x hx H' => tc_commit (q := q') hx ok h H'
  obtain ⟨m, t, s, d, a5, a6, a7, a8, a9, a10⟩ := u
  unfold wpX_digest
  refine pk_loop (σ := Unit) (fun n i _ => wX_digest_4 q m t s d a5 a6 a7 a8 a9 a10 n (tc_sum (tc_cm lb Wb V) i) (nI i)) (fun _ _ => True) 16 0 () (by omega) trivial ?_ ?_
  · intro n _ _
    exact pk_le 16 16 (fun _ => H) (fun z => absurd z (by omega))
  · intro n i _ hi _ hw
    exact pk_le 16 i (fun z => absurd z (by omega)) (fun _ => h2 _ i hi (nm_e (nm_r (nI_1 i) (hw () trivial))))
theorem tc_rivals0 {c x : Nat} (hc : c < 4) (hx : x < 16) (ok : tc_ok a b la lb N) (h : tc_P a b la lb Ra Rb Wb N V u) (H : q (tc_rv (tc_th (tc_wf b lb Wb) (tc_rf a b la lb Ra Rb) 0 c x) 4)) : wpX_rivals q u (nI c) (nI x) 0 := by
  obtain ⟨m, t, s, d, a5, a6, a7, a8, a9, a10⟩ := u
  obtain ⟨T, hC, hX⟩ := h
  have hO := tc_XO ok hX
  unfold wpX_rivals
  refine tc_core hc (br_f (by decide) (tc_cell hx (br_f (by decide) (br_t rfl ?_))))
  unfold wX_rivals_23 wX_rivals_36
  exact br_f (by decide) (tc_riv hc (by omega) hO H)
theorem tc_rivals1 {c x : Nat} (hc : c < 4) (hx : x < 16) (ok : tc_ok a b la lb N) (h : tc_P a b la lb Ra Rb Wb N V u) (H : q (tc_rv (tc_th (tc_wf b lb Wb) (tc_rf a b la lb Ra Rb) 1 c x) 4)) : wpX_rivals q u (nI c) (nI x) 1 := by
  obtain ⟨m, t, s, d, a5, a6, a7, a8, a9, a10⟩ := u
  obtain ⟨T, hC, hX⟩ := h
  have hO := tc_XO ok hX
  unfold wpX_rivals
  refine tc_core hc (br_f (by decide) (tc_cell hx (br_f (by decide) (br_f (by decide) (br_t rfl ?_)))))
  unfold wX_rivals_23 wX_rivals_36
  exact br_t rfl (tc_riv hc (by omega) hO H)
end
end
section
/-! the methods that change, walked -/
section
variable {post : St2 → Prop} {pr : Int32 → St2 → Prop} {V : Nat → Int32} {T K : Nat → Nat} {m t s d a5 a6 a7 a8 a9 a10 : Nat → Int32}
theorem tc_note {c x : Nat} (hc : c < 4) (hl : a5 c = nI 1) (H : post (m, t, s, d, a5, upd a6 (c * 3) (a6 (c * 3) ||| ((1 : Int32) <<< (nI x &&& 31))), a7, a8, a9, a10)) :
    wpX_noteRead post (m, t, s, d, a5, a6, a7, a8, a9, a10) (nI c) (nI x) := by
  unfold wpX_noteRead
  try dsimp only
  rw [nI_clamp (show c < 2 ^ 31 by omega), hl, tc_at, nI_clamp (show c * 3 < 2 ^ 31 by omega)]
  exact ⟨pk_in c 4 hc, pk_le 1 0 (fun z => absurd z (by omega)) (fun _ => ⟨pk_in c 4 hc, pk_in (c * 3) 12 (by omega), pk_in (c * 3) 12 (by omega), nm_e H⟩)⟩
theorem tc_log {c x n : Nat} {o : Int32} (hc : c < 4) (hx : x < 16) (hn : a8 (c * 3) = nI n) (hn6 : n < 16)
    (H : post (m, t, s, d, a5, a6, upd a7 (c * 3) (a7 (c * 3) ||| ((1 : Int32) <<< (nI x &&& 31))), upd a8 (c * 3) (nI (n + 1)), upd a9 (c * 48 + n) (nI x), upd a10 (c * 48 + n) o)) :
    wpX_log post (m, t, s, d, a5, a6, a7, a8, a9, a10) (nI (c * 3)) (nI x) o := by
  unfold wpX_log
  try dsimp only
  rw [nI_clamp (show c * 3 < 2 ^ 31 by omega), hn, tc_ix, nI_clamp (show c * 48 + n < 2 ^ 31 by omega), tc_byte x (by omega), tc_byte1 n (by omega)]
  exact ⟨pk_in (c * 3) 12 (by omega), pk_in (c * 48 + n) 192 (by omega), nm_e ⟨pk_in (c * 3) 12 (by omega), pk_in (c * 48 + n) 192 (by omega), nm_e ⟨pk_in (c * 3) 12 (by omega), pk_in (c * 3) 12 (by omega), nm_e ⟨pk_in (c * 3) 12 (by omega), pk_in (c * 3) 12 (by omega), nm_e H⟩⟩⟩⟩
theorem tc_change0 {c x : Nat} {v : Int32} (hc : c < 4) (hx : x < 16) (hl : a5 c = nI 0) (h : tc_C V T m t s d)
    (H : ∀ T' m' t' s' d', tc_C (upd V x v) T' m' t' s' d' → post (m', t', s', d', a5, a6, a7, a8, a9, a10)) :
    wpX_change post (m, t, s, d, a5, a6, a7, a8, a9, a10) (nI c) (nI x) v := by
  unfold wpX_change
  refine ⟨pk_in c 4 hc, ?_⟩
  rw [nI_clamp (show c < 2 ^ 31 by omega), hl]
  refine pk_le 0 0 (fun _ => ?_) (fun z => absurd z (by omega))
  unfold wX_change_53
  exact tc_store hc hx h H
theorem tc_change1 {c x n : Nat} {v : Int32} (hc : c < 4) (hx : x < 16) (hl : a5 c = nI 1) (hn : a8 (c * 3) = nI n) (hn6 : n < 16) (hb : tc_bt (a7 (c * 3)) x = false) (h : tc_C V T m t s d)
    (H : ∀ T' m' t' s' d', tc_C (upd V x v) T' m' t' s' d' → post (m', t', s', d', a5, a6, upd a7 (c * 3) (a7 (c * 3) ||| ((1 : Int32) <<< (nI x &&& 31))), upd a8 (c * 3) (nI (n + 1)), upd a9 (c * 48 + n) (nI x), upd a10 (c * 48 + n) (V x))) :
    wpX_change post (m, t, s, d, a5, a6, a7, a8, a9, a10) (nI c) (nI x) v := by
  unfold wpX_change
  refine ⟨pk_in c 4 hc, ?_⟩
  rw [nI_clamp (show c < 2 ^ 31 by omega), hl, tc_at]
  refine pk_le 1 0 (fun z => absurd z (by omega)) (fun _ => ⟨pk_in c 4 hc, nm_e ⟨pk_in (c * 3) 12 (by omega), ?_⟩⟩)
  rw [nI_clamp (show c * 3 < 2 ^ 31 by omega)]
  refine br_t ((tc_bit0 _ (by omega)).mpr hb) (tc_newest hx h (tc_log hc hx hn hn6 ?_))
  try dsimp only
  unfold wX_change_53
  exact tc_store hc hx h H
/-- end at level 1 -/
theorem tc_end1 {c : Nat} (hc : c < 4) (hl : a5 c = nI 1) (H : pr 0 (m, t, s, d, upd a5 c 0, a6, a7, a8, a9, a10)) : wpX_end pr (m, t, s, d, a5, a6, a7, a8, a9, a10) (nI c) := by
  unfold wpX_end
  refine tc_core hc (br_f (by decide) ⟨pk_in c 4 hc, ?_⟩)
  rw [nI_clamp (show c < 2 ^ 31 by omega), hl]
  refine br_f (by decide) ⟨pk_in c 4 hc, pk_in c 4 hc, nm_r (e' := upd a5 c 0) (by rw [show (nI 1 - 1).toInt8.toInt32 = 0 by decide]) ⟨pk_in c 4 hc, ?_⟩⟩
  rw [pk_us]
  exact br_t (by decide) ⟨pk_in c 4 hc, H⟩
theorem tc_end0 {c : Nat} (hc : c < 4) (hl : a5 c = nI 0) (H : pr (-1) (m, t, s, d, a5, a6, a7, a8, a9, a10)) : wpX_end pr (m, t, s, d, a5, a6, a7, a8, a9, a10) (nI c) := by
  unfold wpX_end
  refine tc_core hc (br_f (by decide) ⟨pk_in c 4 hc, ?_⟩)
  rw [nI_clamp (show c < 2 ^ 31 by omega), hl]
  exact br_t (by decide) H
theorem tc_m1' (k : Nat) : nI k + (-1) = nI k - 1 := by rw [Int32.sub_eq_add_neg]
/-- undo at level 1: the cells of the log get 0 -/
theorem tc_undo {c n : Nat} (hc : c < 4) (hl : a5 c = nI 1) (hn : n ≤ 16) (hL : tc_L c n K a8 a9 a10) (h : tc_C V T m t s d)
    (H : ∀ V' T' m' t' s' d', (∀ y, y < 16 → (∃ j, j < n ∧ K j = y) → V' y = 0) → (∀ y, y < 16 → (∀ j, j < n → K j ≠ y) → V' y = V y) → tc_C V' T' m' t' s' d' → post (m', t', s', d', upd a5 c 0, a6, a7, a8, a9, a10)) :
    wpX_undo post (m, t, s, d, a5, a6, a7, a8, a9, a10) (nI c) := by
  unfold wpX_undo
  refine ⟨pk_in c 4 hc, ?_⟩
  rw [nI_clamp (show c < 2 ^ 31 by omega), hl, tc_at]
  refine nm_e ⟨pk_in (c * 3) 12 (by omega), ?_⟩
  rw [nI_clamp (show c * 3 < 2 ^ 31 by omega), hL.1]
  refine nm_e ⟨n + 1, ?_⟩
  refine pk_loopD (fun f k (z : (Nat → Int32) × (Nat → Int32) × (Nat → Int32) × (Nat → Int32)) => wX_undo_22 post (nI c) (nI (c * 3)) f (nI k - 1) z.1 z.2.1 z.2.2.1 z.2.2.2 a5 a6 a7 a8 a9 a10)
    (fun k z => k ≤ n ∧ ∃ V' T', (∀ y, y < 16 → (∃ j, k ≤ j ∧ j < n ∧ K j = y) → V' y = 0) ∧ (∀ y, y < 16 → (∀ j, k ≤ j → j < n → K j ≠ y) → V' y = V y) ∧ tc_C V' T' z.1 z.2.1 z.2.2.1 z.2.2.2) ?_ ?_ n (m, t, s, d)
    ⟨Nat.le_refl n, V, T, fun y _ hj => ?_, fun y _ _ => rfl, h⟩
  · rintro f ⟨m', t', s', d'⟩ ⟨_, V', T', g1, g2, k⟩
    refine br_t (by decide) ⟨pk_in c 4 hc, pk_in c 4 hc, ?_⟩
    rw [nI_clamp (show c < 2 ^ 31 by omega), hl, show (nI 1 - 1).toInt8.toInt32 = 0 by decide]
    exact nm_e (H V' T' m' t' s' d' (fun y hy ⟨j, h1, h2⟩ => g1 y hy ⟨j, by omega, h1, h2⟩) (fun y hy hj => g2 y hy (fun j _ h2 => hj j h2)) k)
  · rintro f i ⟨m', t', s', d'⟩ ⟨hi, V', T', g1, g2, k⟩ hw
    try dsimp only at k hw ⊢
    obtain ⟨k1, k2, k3⟩ := hL.2 i (by omega)
    rw [nI_pred]
    refine br_f (nI_pos (by omega)) ?_
    rw [tc_ix, nI_clamp (show c * 48 + i < 2 ^ 31 by omega), k2, k3]
    refine ⟨pk_in (c * 48 + i) 192 (by omega), pk_in (c * 48 + i) 192 (by omega), tc_store hc k1 k (fun T'' m'' t'' s'' d'' k'' => ?_)⟩
    refine nm_r (tc_m1' i) (hw (m'', t'', s'', d'') ⟨by omega, _, T'', fun y hy hj => ?_, fun y hy hj => ?_, k''⟩)
    · by_cases e : y = K i
      · rw [e, pk_us]
      · rw [pk_un e]
        obtain ⟨j, j1, j2, j3⟩ := hj
        have : j ≠ i := fun z => e (by rw [← j3, z])
        exact g1 y hy ⟨j, by omega, j2, j3⟩
    · have e : y ≠ K i := fun z => hj i (Nat.le_refl i) (by omega) z.symm
      rw [pk_un e]
      exact g2 y hy (fun j j1 j2 => hj j (by omega) j2)
  · obtain ⟨j, j1, j2, _⟩ := hj
    omega
theorem tc_giveUp1 {c n : Nat} (hc : c < 4) (hl : a5 c = nI 1) (hn : n ≤ 16) (hL : tc_L c n K a8 a9 a10) (h : tc_C V T m t s d)
    (H : ∀ V' T' m' t' s' d', (∀ y, y < 16 → (∃ j, j < n ∧ K j = y) → V' y = 0) → (∀ y, y < 16 → (∀ j, j < n → K j ≠ y) → V' y = V y) → tc_C V' T' m' t' s' d' → pr 0 (m', t', s', d', upd a5 c 0, a6, a7, a8, a9, a10)) :
    wpX_giveUp pr (m, t, s, d, a5, a6, a7, a8, a9, a10) (nI c) := by
  unfold wpX_giveUp
  refine tc_core hc (br_f (by decide) ⟨pk_in c 4 hc, ?_⟩)
  rw [nI_clamp (show c < 2 ^ 31 by omega), hl]
  refine br_f (by decide) (tc_undo hc hl hn hL h (fun V' T' m' t' s' d' g1 g2 k => ⟨pk_in c 4 hc, ?_⟩))
  rw [pk_us]
  exact H V' T' m' t' s' d' g1 g2 k
theorem tc_giveUp0 {c : Nat} (hc : c < 4) (hl : a5 c = nI 0) (H : pr (-1) (m, t, s, d, a5, a6, a7, a8, a9, a10)) : wpX_giveUp pr (m, t, s, d, a5, a6, a7, a8, a9, a10) (nI c) := by
  unfold wpX_giveUp
  refine tc_core hc (br_f (by decide) ⟨pk_in c 4 hc, ?_⟩)
  rw [nI_clamp (show c < 2 ^ 31 by omega), hl]
  exact br_t (by decide) H
theorem tc_allUp1 {c : Nat} (hc : c < 4) (hl : a5 c = nI 1) (hL : a8 (c * 3) = 0) (h : tc_C V T m t s d)
    (H : ∀ T' m' t' s' d', tc_C V T' m' t' s' d' → pr 1 (m', t', s', d', upd a5 c 0, a6, a7, a8, a9, a10)) :
    wpX_giveAllUp pr (m, t, s, d, a5, a6, a7, a8, a9, a10) (nI c) := by
  unfold wpX_giveAllUp
  refine tc_core hc (br_f (by decide) ⟨pk_in c 4 hc, ?_⟩)
  rw [nI_clamp (show c < 2 ^ 31 by omega), hl]
  refine nm_e ⟨2, pk_le 1 0 (fun z => absurd z (by omega)) (fun _ => tc_undo (n := 0) (K := fun _ => 0) hc hl (by omega) ⟨hL, fun k hk => absurd hk (by omega)⟩ h (fun V' T' m' t' s' d' g1 g2 k => ?_))⟩
  have k' : tc_C V T' m' t' s' d' := tc_C_congr k (fun x hx => g2 x hx (fun j hj => absurd hj (by omega)))
  exact nm_r (e' := nI 1) rfl (pk_le 1 1 (fun _ => H T' m' t' s' d' k') (fun z => absurd z (by omega)))
theorem tc_allUp0 {c : Nat} (hc : c < 4) (hl : a5 c = nI 0) (H : pr 0 (m, t, s, d, a5, a6, a7, a8, a9, a10)) :
    wpX_giveAllUp pr (m, t, s, d, a5, a6, a7, a8, a9, a10) (nI c) := by
  unfold wpX_giveAllUp
  refine tc_core hc (br_f (by decide) ⟨pk_in c 4 hc, ?_⟩)
  rw [nI_clamp (show c < 2 ^ 31 by omega), hl]
  exact nm_e ⟨1, pk_le 0 0 (fun _ => H) (fun z => absurd z (by omega))⟩
theorem tc_begin {c : Nat} (hc : c < 4) (hl : a5 c = nI 0) (H : pr 1 (m, t, s, d, upd a5 c 1, upd a6 (c * 3) 0, upd a7 (c * 3) 0, upd a8 (c * 3) 0, a9, a10)) :
    wpX_begin pr (m, t, s, d, a5, a6, a7, a8, a9, a10) (nI c) := by
  unfold wpX_begin
  refine tc_core hc (br_f (by decide) ⟨pk_in c 4 hc, ?_⟩)
  rw [nI_clamp (show c < 2 ^ 31 by omega), hl]
  have e0 : nI c * 3 + nI 0 = nI (c * 3) := tc_i0 c
  rw [e0, show (nI 0 + 1).toInt8.toInt32 = 1 by decide]
  refine br_t (by decide) ⟨pk_in c 4 hc, nm_e ?_⟩
  rw [nI_clamp (show c * 3 < 2 ^ 31 by omega)]
  refine ⟨pk_in (c * 3) 12 (by omega), nm_e ⟨pk_in (c * 3) 12 (by omega), nm_e ⟨pk_in (c * 3) 12 (by omega), nm_e ⟨pk_in c 4 hc, pk_in c 4 hc, nm_e ⟨pk_in c 4 hc, ?_⟩⟩⟩⟩⟩
  rw [pk_us]
  exact H
end
end
section
/-! the methods over the law's state tc_P -/
theorem tc_q0 : ∀ p q r : Bool, ¬ tc_q true p q r = 0 := by decide +kernel
theorem tc_q1 : ∀ p q r : Bool, ¬ tc_q p true q r = 0 := by decide +kernel
theorem tc_q2 : ∀ p q r : Bool, ¬ tc_q p q true r = 0 := by decide +kernel
theorem tc_q3 : ∀ p q r : Bool, ¬ tc_q p q r true = 0 := by decide +kernel
theorem tc_rv_ne {θ : Nat → Bool} {j : Nat} (hj : j < 4) (ht : θ j = true) : ¬ tc_rv θ 4 = 0 := by
  rw [tc_rv4]
  rcases (show j = 0 ∨ j = 1 ∨ j = 2 ∨ j = 3 by omega) with e | e | e | e
  · subst e
    rw [ht]
    exact tc_q0 _ _ _
  · subst e
    rw [ht]
    exact tc_q1 _ _ _
  · subst e
    rw [ht]
    exact tc_q2 _ _ _
  · subst e
    rw [ht]
    exact tc_q3 _ _ _
/-- the rivals, read off the sets -/
theorem tc_th_f {ws rs : Nat → Int32} {w : Int32} {c x e : Nat} (h : e = c ∨ (tc_bt (ws e) x = false ∧ (w = 0 ∨ tc_bt (rs e) x = false))) : tc_th ws rs w c x e = false := by
  unfold tc_th
  rcases h with h | ⟨h1, h2⟩
  · rw [decide_eq_false (show ¬ e ≠ c by omega), Bool.false_and]
  · by_cases z : w = 0
    · rw [if_pos z, h1, Bool.and_false]
    · rw [if_neg z, tc_b_or, h1, Bool.false_or]
      rcases h2 with h2 | h2
      · exact absurd h2 z
      · rw [h2, Bool.and_false]
theorem tc_th_t {ws rs : Nat → Int32} {w : Int32} {c x e : Nat} (hc : e ≠ c) (h : tc_bt (ws e) x = true ∨ (¬ w = 0 ∧ tc_bt (rs e) x = true)) : tc_th ws rs w c x e = true := by
  unfold tc_th
  rw [decide_eq_true hc, Bool.true_and]
  by_cases z : w = 0
  · rw [if_pos z]
    rcases h with h | h
    · exact h
    · exact absurd z h.1
  · rw [if_neg z, tc_b_or]
    rcases h with h | h
    · rw [h, Bool.true_or]
    · rw [h.2, Bool.or_true]
section
variable {pr : Int32 → St2 → Prop} {a b la lb N : Nat} {Ra Rb Wb : Int32} {V : Nat → Int32} {u : St2}
theorem tc_Plv {c : Nat} {m t s d a5 a6 a7 a8 a9 a10 : Nat → Int32} (h : tc_P a b la lb Ra Rb Wb N V (m, t, s, d, a5, a6, a7, a8, a9, a10)) (hc : c < 4) : a5 c = nI (tc_lvl a b la lb c) := by
  obtain ⟨T, hC, hX⟩ := h
  exact hX.1 c hc
/-- another level of a, of b -/
theorem tc_X_la {a5 a6 a7 a8 a9 a10 : Nat → Int32} (h : tc_X a b la lb Ra Rb Wb N a5 a6 a7 a8 a9 a10) : tc_X a b 0 lb Ra Rb Wb N (upd a5 a 0) a6 a7 a8 a9 a10 := by
  obtain ⟨h5, h⟩ := h
  refine ⟨fun c hc => ?_, h⟩
  have := h5 c hc
  unfold tc_lvl at this ⊢
  by_cases e : c = a
  · rw [if_pos e, e, pk_us]
    rfl
  · rw [pk_un e, this, if_neg e, if_neg e]
theorem tc_X_lb {a5 a6 a7 a8 a9 a10 : Nat → Int32} (hab : a ≠ b) (h : tc_X a b la lb Ra Rb Wb N a5 a6 a7 a8 a9 a10) : tc_X a b la 0 Ra Rb Wb N (upd a5 b 0) a6 a7 a8 a9 a10 := by
  obtain ⟨h5, h⟩ := h
  refine ⟨fun c hc => ?_, h⟩
  have := h5 c hc
  unfold tc_lvl at this ⊢
  by_cases e : c = b
  · rw [if_neg (show ¬ c = a by omega), if_pos e, e, pk_us]
    rfl
  · rw [pk_un e, this, if_neg e, if_neg e]
theorem tc_lvl_a : tc_lvl a b la lb a = la := if_pos rfl
theorem tc_lvl_b (h : a ≠ b) : tc_lvl a b la lb b = lb := (if_neg (fun z => h z.symm)).trans (if_pos rfl)
theorem tc_Pread {x : Nat} (hx : x < 16) (ok : tc_ok a b 1 lb N) (h : tc_P a b 1 lb Ra Rb Wb N V u) (hr : tc_bt Wb x = false)
    (H : ∀ u', tc_P a b 1 lb (Ra ||| ((1 : Int32) <<< (nI x &&& 31))) Rb Wb N V u' → pr 0 u') : wpX_read pr u (nI a) (nI x) := by
  obtain ⟨m, t, s, d, a5, a6, a7, a8, a9, a10⟩ := u
  have hl := tc_Plv h ok.1
  rw [tc_lvl_a] at hl
  obtain ⟨T, hC, hX⟩ := h
  have hO := tc_XO ok hX
  obtain ⟨ha, hb, hab, hla, hlb, hN⟩ := ok
  unfold wpX_read
  refine tc_core ha (br_f (by decide) (tc_cell hx (br_f (by decide) (tc_riv ha (by omega) hO (br_t ?_ (tc_fetch rfl ha hx hC (fun T' m' t' s' d' k _ _ => tc_note ha hl (H _ ⟨T', k, ?_⟩))))))))
  · exact tc_rv_none (fun e _ => tc_th_f (Or.inr ⟨tc_nowf (fun z => by rw [hr] at z; exact absurd z.2 (by decide)) e, Or.inl rfl⟩))
  · obtain ⟨h5, ⟨h1, h2, h3, h4, h6⟩, hh⟩ := hX
    refine ⟨h5, ⟨?_, ?_, h3, h4, h6⟩, hh⟩
    · rw [pk_us, h1]
    · rw [pk_un (show b * 3 ≠ a * 3 by omega)]
      exact h2
theorem tc_Pwrite {c x : Nat} {v : Int32} (hc : c < 4) (hx : x < 16) (ok : tc_ok a b la lb N) (h : tc_P a b la lb Ra Rb Wb N V u) (hl : tc_lvl a b la lb c = 0)
    (hr : ∀ e, e < 4 → tc_bt (tc_wf b lb Wb e) x = false ∧ tc_bt (tc_rf a b la lb Ra Rb e) x = false)
    (H : ∀ u', tc_P a b la lb Ra Rb Wb N (upd V x v) u' → pr 0 u') : wpX_write pr u (nI c) (nI x) v := by
  obtain ⟨m, t, s, d, a5, a6, a7, a8, a9, a10⟩ := u
  have hl5 := tc_Plv h hc
  rw [hl] at hl5
  obtain ⟨T, hC, hX⟩ := h
  have hO := tc_XO ok hX
  unfold wpX_write
  refine tc_core hc (br_f (by decide) (tc_cell hx (br_f (by decide) (tc_riv hc (by omega) hO (br_t ?_ (tc_change0 hc hx hl5 hC (fun T' m' t' s' d' k => H _ ⟨T', k, hX⟩)))))))
  exact tc_rv_none (fun e he => tc_th_f (Or.inr ⟨(hr e he).1, Or.inr (hr e he).2⟩))
theorem tc_PwriteC {c x j : Nat} {v : Int32} (hc : c < 4) (hx : x < 16) (ok : tc_ok a b la lb N) (h : tc_P a b la lb Ra Rb Wb N V u) (hj : j < 4) (hjc : j ≠ c)
    (hr : tc_bt (tc_wf b lb Wb j) x = true ∨ tc_bt (tc_rf a b la lb Ra Rb j) x = true) (H : pr (-2) u) : wpX_write pr u (nI c) (nI x) v := by
  obtain ⟨m, t, s, d, a5, a6, a7, a8, a9, a10⟩ := u
  obtain ⟨T, hC, hX⟩ := h
  have hO := tc_XO ok hX
  unfold wpX_write
  refine tc_core hc (br_f (by decide) (tc_cell hx (br_f (by decide) (tc_riv hc (by omega) hO (br_f ?_ H)))))
  refine tc_rv_ne hj (tc_th_t hjc ?_)
  rcases hr with z | z
  · exact Or.inl z
  · exact Or.inr ⟨by decide, z⟩
theorem tc_PaddC {c x j : Nat} {v : Int32} (hc : c < 4) (hx : x < 16) (ok : tc_ok a b la lb N) (h : tc_P a b la lb Ra Rb Wb N V u) (hj : j < 4) (hjc : j ≠ c)
    (hr : tc_bt (tc_wf b lb Wb j) x = true ∨ tc_bt (tc_rf a b la lb Ra Rb j) x = true) (H : pr (-2) u) : wpX_add pr u (nI c) (nI x) v := by
  obtain ⟨m, t, s, d, a5, a6, a7, a8, a9, a10⟩ := u
  obtain ⟨T, hC, hX⟩ := h
  have hO := tc_XO ok hX
  unfold wpX_add
  refine tc_core hc (br_f (by decide) (tc_cell hx (br_f (by decide) (tc_riv hc (by omega) hO (br_f ?_ H)))))
  refine tc_rv_ne hj (tc_th_t hjc ?_)
  rcases hr with z | z
  · exact Or.inl z
  · exact Or.inr ⟨by decide, z⟩
theorem tc_Padd {x : Nat} {v : Int32} (hx : x < 16) (ok : tc_ok a b la 1 N) (h : tc_P a b la 1 Ra Rb Wb N V u) (hW : tc_bt Wb x = false) (hV : V x = 0)
    (hr : ∀ e, e < 4 → e ≠ b → tc_bt (tc_rf a b la 1 Ra Rb e) x = false)
    (H : ∀ u', tc_P a b la 1 Ra (Rb ||| ((1 : Int32) <<< (nI x &&& 31))) (Wb ||| ((1 : Int32) <<< (nI x &&& 31))) (N + 1) (upd V x v) u' → pr 0 u') : wpX_add pr u (nI b) (nI x) v := by
  obtain ⟨m, t, s, d, a5, a6, a7, a8, a9, a10⟩ := u
  have hl := tc_Plv h ok.2.1
  rw [tc_lvl_b ok.2.2.1] at hl
  obtain ⟨T, hC, hX⟩ := h
  have hO := tc_XO ok hX
  obtain ⟨ha, hb, hab, hla, hlb, hN⟩ := ok
  have hL : b * 4 + x % 4 < 16 := by omega
  obtain ⟨h5, ⟨h1, h2, h3, h4, h6⟩, n, K, hn, hLg, hK1, hK2⟩ := hX
  unfold wpX_add
  refine tc_core hb (br_f (by decide) (tc_cell hx (br_f (by decide) (tc_riv hb (by omega) hO (br_t ?_ (tc_fetch rfl hb hx hC (fun T' m' t' s' d' k k1 k2 => tc_note hb hl ?_)))))))
  · refine tc_rv_none (fun e he => tc_th_f ?_)
    by_cases eb : e = b
    · exact Or.inl eb
    · exact Or.inr ⟨tc_wf_ne eb, Or.inr (hr e he eb)⟩
  · try dsimp only
    refine tc_lof rfl hx ⟨pk_in _ 16 hL, ?_⟩
    rw [nI_clamp (show b * 4 + x % 4 < 2 ^ 31 by omega), (k.2.1 _ hL k1).2, k2, hV]
    refine nm_r rfl ?_
    rw [Int32.zero_add]
    refine tc_change1 hb hx hl hLg.1 (by omega) (by rw [h4]; exact hW) k (fun T'' m'' t'' s'' d'' k'' => H _ ⟨T'', k'', h5, ⟨?_, ?_, ?_, ?_, ?_⟩, n + 1, fun j => if j = n then x else K j, by omega, ⟨pk_us, fun j hj => ?_⟩, fun j hj => ?_, fun y hy hy2 => ?_⟩)
    · try dsimp only
      rw [pk_un (show a * 3 ≠ b * 3 by omega)]
      exact h1
    · try dsimp only
      rw [pk_us, h2]
    · try dsimp only
      rw [pk_un (show a * 3 ≠ b * 3 by omega)]
      exact h3
    · try dsimp only
      rw [pk_us, h4]
    · try dsimp only
      rw [pk_un (show a * 3 ≠ b * 3 by omega)]
      exact h6
    · try dsimp only
      by_cases e : j = n
      · rw [if_pos e, e, pk_us, pk_us]
        exact ⟨hx, rfl, hV⟩
      · rw [if_neg e, pk_un (show b * 48 + j ≠ b * 48 + n by omega), pk_un (show b * 48 + j ≠ b * 48 + n by omega)]
        exact hLg.2 j (by omega)
    · try dsimp only
      by_cases e : j = n
      · rw [if_pos e, tc_b_or1 _ (by omega) (by omega), decide_eq_true rfl, Bool.or_true]
      · rw [if_neg e, tc_b_or, hK1 j (by omega), Bool.true_or]
    · rw [tc_b_or1 _ (by omega) (by omega)] at hy2
      by_cases e : y = x
      · exact ⟨n, by omega, by (try dsimp only); rw [if_pos rfl, e]⟩
      · rw [decide_eq_false e, Bool.or_false] at hy2
        obtain ⟨j, j1, j2⟩ := hK2 y hy hy2
        exact ⟨j, by omega, by (try dsimp only); rw [if_neg (by omega)]; exact j2⟩
theorem tc_Pend_a (ok : tc_ok a b 1 lb N) (h : tc_P a b 1 lb Ra Rb Wb N V u) (H : ∀ u', tc_P a b 0 lb Ra Rb Wb N V u' → pr 0 u') : wpX_end pr u (nI a) := by
  obtain ⟨m, t, s, d, a5, a6, a7, a8, a9, a10⟩ := u
  have hl := tc_Plv h ok.1
  rw [tc_lvl_a] at hl
  obtain ⟨T, hC, hX⟩ := h
  exact tc_end1 ok.1 hl (H _ ⟨T, hC, tc_X_la hX⟩)
theorem tc_Pend_b (ok : tc_ok a b la 1 N) (h : tc_P a b la 1 Ra Rb Wb N V u) (H : ∀ u', tc_P a b la 0 Ra Rb Wb N V u' → pr 0 u') : wpX_end pr u (nI b) := by
  obtain ⟨m, t, s, d, a5, a6, a7, a8, a9, a10⟩ := u
  have hl := tc_Plv h ok.2.1
  rw [tc_lvl_b ok.2.2.1] at hl
  obtain ⟨T, hC, hX⟩ := h
  exact tc_end1 ok.2.1 hl (H _ ⟨T, hC, tc_X_lb ok.2.2.1 hX⟩)
theorem tc_Pall_a (ok : tc_ok a b 1 lb N) (h : tc_P a b 1 lb Ra Rb Wb N V u) (H : ∀ u', tc_P a b 0 lb Ra Rb Wb N V u' → pr 1 u') : wpX_giveAllUp pr u (nI a) := by
  obtain ⟨m, t, s, d, a5, a6, a7, a8, a9, a10⟩ := u
  have hl := tc_Plv h ok.1
  rw [tc_lvl_a] at hl
  obtain ⟨T, hC, hX⟩ := h
  exact tc_allUp1 ok.1 hl hX.2.1.2.2.2.2 hC (fun T' m' t' s' d' k => H _ ⟨T', k, tc_X_la hX⟩)
theorem tc_Pup_b (ok : tc_ok a b la 1 N) (h : tc_P a b la 1 Ra Rb Wb N V u) (H : ∀ u', tc_P a b la 0 Ra Rb Wb N (fun y => if tc_bt Wb y = true then 0 else V y) u' → pr 0 u') : wpX_giveUp pr u (nI b) := by
  obtain ⟨m, t, s, d, a5, a6, a7, a8, a9, a10⟩ := u
  have hl := tc_Plv h ok.2.1
  rw [tc_lvl_b ok.2.2.1] at hl
  obtain ⟨T, hC, hX⟩ := h
  have hX' := tc_X_lb ok.2.2.1 hX
  obtain ⟨_, _, n, K, hn, hL, hK1, hK2⟩ := hX
  obtain ⟨ha, hb, hab, hla, hlb, hN⟩ := ok
  refine tc_giveUp1 hb hl (by omega) hL hC (fun V' T' m' t' s' d' g1 g2 k => H _ ⟨T', tc_C_congr k (fun y hy => ?_), hX'⟩)
  by_cases e : tc_bt Wb y = true
  · rw [if_pos e]
    exact g1 y hy (hK2 y hy e)
  · rw [if_neg e]
    exact g2 y hy (fun j hj z => e (by rw [← z]; exact hK1 j hj))
theorem tc_Pend0 {c : Nat} (hc : c < 4) (hl : tc_lvl a b la lb c = 0) (h : tc_P a b la lb Ra Rb Wb N V u) (H : pr (-1) u) : wpX_end pr u (nI c) := by
  obtain ⟨m, t, s, d, a5, a6, a7, a8, a9, a10⟩ := u
  have hl5 := tc_Plv h hc
  rw [hl] at hl5
  exact tc_end0 hc hl5 H
theorem tc_Pup0 {c : Nat} (hc : c < 4) (hl : tc_lvl a b la lb c = 0) (h : tc_P a b la lb Ra Rb Wb N V u) (H : pr (-1) u) : wpX_giveUp pr u (nI c) := by
  obtain ⟨m, t, s, d, a5, a6, a7, a8, a9, a10⟩ := u
  have hl5 := tc_Plv h hc
  rw [hl] at hl5
  exact tc_giveUp0 hc hl5 H
theorem tc_Pall0 {c : Nat} (hc : c < 4) (hl : tc_lvl a b la lb c = 0) (h : tc_P a b la lb Ra Rb Wb N V u) (H : pr 0 u) : wpX_giveAllUp pr u (nI c) := by
  obtain ⟨m, t, s, d, a5, a6, a7, a8, a9, a10⟩ := u
  have hl5 := tc_Plv h hc
  rw [hl] at hl5
  exact tc_allUp0 hc hl5 H
theorem tc_Pbegin (hab : a ≠ b) (ha : a < 4) (hb : b < 4) : tc_P a b 1 1 0 0 0 0 (fun _ => 0) ((fun _ => 0), (fun _ => 0), (fun _ => 0), (fun _ => 0), upd (upd (fun _ => 0) a 1) b 1, upd (upd (fun _ => 0) (a * 3) 0) (b * 3) 0, upd (upd (fun _ => 0) (a * 3) 0) (b * 3) 0, upd (upd (fun _ => 0) (a * 3) 0) (b * 3) 0, (fun _ => 0), (fun _ => 0)) := by
  have hz : ∀ x, upd (upd (fun _ => 0) (a * 3) 0) (b * 3) 0 x = 0 := by
    intro x
    by_cases e : x = b * 3
    · rw [e, pk_us]
    · rw [pk_un e]
      by_cases e : x = a * 3
      · rw [e, pk_us]
      · rw [pk_un e]
  refine ⟨_, tc_C_0, fun c hc => ?_, ⟨hz _, hz _, hz _, hz _, hz _⟩, 0, fun _ => 0, by omega, ⟨hz _, fun k hk => absurd hk (by omega)⟩, fun k hk => absurd hk (by omega), fun x hx h => ?_⟩
  · unfold tc_lvl
    by_cases e : c = b
    · rw [if_neg (show ¬ c = a by omega), if_pos e, e, pk_us]
      rfl
    · rw [pk_un e, if_neg e]
      by_cases e : c = a
      · rw [if_pos e, e, pk_us]
        rfl
      · rw [pk_un e, if_neg e]
        rfl
  · rw [tc_b_0] at h
    exact absurd h (by decide)
end
end
section
/-! the law's end and its last loop -/
/-- the law's numbers: three cores, the read set R, the made set M -/
def tc_cx (a b e : Nat) (R M : Int32) : Prop := a < 4 ∧ b < 4 ∧ e < 4 ∧ a ≠ b ∧ a ≠ e ∧ b ≠ e ∧ (∀ i, tc_bt R i = true → i < 8) ∧ ∀ i, tc_bt M i = true → i < 8 ∧ tc_bt R i = false
/-- what is due in the end -/
def tc_du (v R M x10 : Int32) (y : Nat) : Int32 := if tc_bt M y = true then (if x10 = 0 then 0 else v + nI y) else if tc_bt R y = true then 0 else if y < 8 then 5 else 0
theorem tc_ff {x : Bool} (h : ¬ x = true) : x = false := by
  cases x
  · rfl
  · exact absurd rfl h
theorem tc_nf {x : Bool} (h : ¬ x = false) : x = true := by
  cases x
  · exact absurd rfl h
  · rfl
theorem tc_ft {x : Bool} (h : x = false) : ¬ x = true := by
  rw [h]
  decide
theorem tc_cm0 {Wb : Int32} {V : Nat → Int32} : tc_cm 0 Wb V = V := funext (fun _ => if_neg (fun z => absurd z.1 (by decide)))
theorem tc_se0 {b : Nat} {Wb : Int32} {V : Nat → Int32} {c x : Nat} : tc_se b 0 Wb V c x = V x := by
  unfold tc_se
  rw [tc_cm0]
  split <;> rfl
theorem tc_lvl0 {a b c : Nat} : tc_lvl a b 0 0 c = 0 := by
  unfold tc_lvl
  split
  · rfl
  · split <;> rfl
theorem tc_rf0 {a b c : Nat} {Ra Rb : Int32} : tc_rf a b 0 0 Ra Rb c = 0 := by
  unfold tc_rf
  rw [if_neg (by omega), if_neg (by omega)]
theorem tc_updSelf {D : Nat → Int32} {i : Nat} : upd D i (D i) = D := by
  funext j
  by_cases e : j = i
  · rw [e, pk_us]
  · rw [pk_un e]
theorem tc_level4 {q : Int32 → Prop} {u : St2} (H : q (-1)) : wpX_level q u 4 := by
  obtain ⟨m, t, s, d, a5, a6, a7, a8, a9, a10⟩ := u
  unfold wpX_level wpX_isCore
  exact br_f (by decide) (br_t (by decide) (br_t rfl H))
theorem tc_read16 {pr : Int32 → St2 → Prop} {u : St2} (H : pr (-1) u) : wpX_read pr u 0 16 := by
  obtain ⟨m, t, s, d, a5, a6, a7, a8, a9, a10⟩ := u
  unfold wpX_read wpX_isCore wpX_isCell
  exact br_f (by decide) (br_f (by decide) (br_f (by decide) (br_f (by decide) (br_t (by decide) (br_t rfl H)))))
section
variable {post : Int32 → St0 → Prop} {mc ms kc ks : Nat} {a b e N : Nat} {v R M x10 x11 Ra Rb Wb : Int32} {V : Nat → Int32} {m t s d a5 a6 a7 a8 a9 a10 : Nat → Int32}
theorem tc_829 {x18 z0 z1 : Int32} (cx : tc_cx a b e R M) (hN : N ≤ 15) (hp : post 1 ()) (hz : z1 = z0) (hs : tc_sum V 16 = x18) (h : tc_P a b 0 0 Ra Rb Wb N V (m, t, s, d, a5, a6, a7, a8, a9, a10)) :
    wL_lawOf_829 post mc ms (nI a) (nI b) (nI e) 0 x18 z0 z1 kc ks m t s d a5 a6 a7 a8 a9 a10 := by
  obtain ⟨ha, hb, he, hab, _⟩ := cx
  have ok : tc_ok a b 0 0 N := ⟨ha, hb, hab, by omega, by omega, hN⟩
  unfold wL_lawOf_829
  refine br_t hz (br_t rfl (tc_digest ok h (br_t (by rw [tc_cm0]; exact hs) ?_)))
  refine tc_readBy ha ok h (br_t tc_rf0 (tc_writtenBy hb ok h (br_t tc_wf_0 ?_)))
  refine tc_Pend0 ha tc_lvl0 h (br_t rfl ?_)
  refine tc_Pup0 hb tc_lvl0 h (br_t rfl ?_)
  refine tc_level4 (br_t rfl ?_)
  refine tc_Pall0 he tc_lvl0 h (br_t rfl ?_)
  exact tc_read16 (br_t rfl hp)
theorem tc_736 {J : Int32 → Int32 → Int32 → (Nat → Int32) → (Nat → Int32) → (Nat → Int32) → (Nat → Int32) → (Nat → Int32) → (Nat → Int32) → (Nat → Int32) → (Nat → Int32) → (Nat → Int32) → (Nat → Int32) → Prop} {x16 x17 x18 z0 : Int32} {i : Nat}
    (cx : tc_cx a b e R M) (hN : N ≤ 15) (hi : i < 8) (hz : z0 = V i) (h : tc_P a b 0 0 Ra Rb Wb N V (m, t, s, d, a5, a6, a7, a8, a9, a10))
    (H : ∀ m t s d a5 a6 a7 a8 a9 a10, tc_P a b 0 0 Ra Rb Wb N V (m, t, s, d, a5, a6, a7, a8, a9, a10) → J 1 (x18 + (nI i + 1) * V i) (nI (i + 1)) m t s d a5 a6 a7 a8 a9 a10) :
    wL_lawOf_736 post mc ms J v (nI a) (nI b) (nI e) R x10 x11 1 M x16 x17 x18 (nI i) z0 kc ks m t s d a5 a6 a7 a8 a9 a10 := by
  subst hz
  obtain ⟨ha, hb, he, hab, _⟩ := cx
  have ok : tc_ok a b 0 0 N := ⟨ha, hb, hab, by omega, by omega, hN⟩
  have hi6 : i < 16 := by omega
  unfold wL_lawOf_736
  refine tc_Pwrite ha hi6 ok h tc_lvl0 (fun j _ => ⟨by rw [tc_wf_0]; exact tc_b_0 _, by rw [tc_rf0]; exact tc_b_0 _⟩) (fun u' h' => ?_)
  rw [tc_updSelf] at h'
  obtain ⟨m', t', s', d', b5, b6, b7, b8, b9, b10⟩ := u'
  refine nm_e (br_f (by decide) (br_t rfl (tc_committed hi6 ok h' (br_t (by rw [tc_cm0]) (tc_sees ha hi6 ok h' (br_t tc_se0 (nm_r (nI_1 i) ?_)))))))
  exact H _ _ _ _ _ _ _ _ _ _ h'
theorem tc_680 {J : Int32 → Int32 → Int32 → (Nat → Int32) → (Nat → Int32) → (Nat → Int32) → (Nat → Int32) → (Nat → Int32) → (Nat → Int32) → (Nat → Int32) → (Nat → Int32) → (Nat → Int32) → (Nat → Int32) → Prop} {x16 x17 x18 z0 : Int32} {i : Nat}
    (cx : tc_cx a b e R M) (hN : N ≤ 15) (hi : i < 8) (hz : z0 = 0 ↔ tc_bt M i = false) (h : tc_P a b 0 0 Ra Rb Wb N (tc_du v R M x10) (m, t, s, d, a5, a6, a7, a8, a9, a10))
    (H : ∀ m t s d a5 a6 a7 a8 a9 a10, tc_P a b 0 0 Ra Rb Wb N (tc_du v R M x10) (m, t, s, d, a5, a6, a7, a8, a9, a10) → J 1 (x18 + (nI i + 1) * tc_du v R M x10 i) (nI (i + 1)) m t s d a5 a6 a7 a8 a9 a10) :
    wL_lawOf_680 post mc ms J v (nI a) (nI b) (nI e) R x10 x11 1 M x16 x17 x18 (nI i) z0 kc ks m t s d a5 a6 a7 a8 a9 a10 := by
  unfold wL_lawOf_680
  refine ek_if hz (fun g => ek_if (tc_bit1 R (by omega)) (fun g2 => ?_) (fun g2 => ?_)) (fun g => ?_)
  · unfold wL_lawOf_698 wL_lawOf_703
    refine br_t (hz.mpr g) (br_f (by decide) (tc_736 cx hN hi ?_ h H))
    unfold tc_du
    rw [if_neg (tc_ft g), if_pos g2]
  · unfold wL_lawOf_703
    refine br_t (hz.mpr g) (br_t rfl (tc_736 cx hN hi ?_ h H))
    unfold tc_du
    rw [if_neg (tc_ft g), if_neg g2, if_pos hi]
  · unfold wL_lawOf_698 wL_lawOf_703
    refine br_f (fun z => g (hz.mp z)) (br_c (fun g3 => tc_736 cx hN hi ?_ h H) (fun g3 => tc_736 cx hN hi ?_ h H))
    · unfold tc_du
      rw [if_pos (tc_nf g), if_pos g3]
    · unfold tc_du
      rw [if_pos (tc_nf g), if_neg g3]
theorem tc_657 {x16 : Int32} (cx : tc_cx a b e R M) (hN : N ≤ 15) (hp : post 1 ()) (h16 : x16 = if x11 = 0 then 0 else 1) (h : tc_P a b 0 0 Ra Rb Wb N (tc_du v R M x10) (m, t, s, d, a5, a6, a7, a8, a9, a10)) :
    ∃ n, wL_lawOf_657 post mc ms v (nI a) (nI b) (nI e) R x10 x11 M x16 0 kc ks n 1 0 0 m t s d a5 a6 a7 a8 a9 a10 := by
  refine pk_loop (fun n i (u : St2) => wL_lawOf_657 post mc ms v (nI a) (nI b) (nI e) R x10 x11 M x16 0 kc ks n 1 (tc_sum (tc_du v R M x10) i) (nI i) u.1 u.2.1 u.2.2.1 u.2.2.2.1 u.2.2.2.2.1 u.2.2.2.2.2.1 u.2.2.2.2.2.2.1 u.2.2.2.2.2.2.2.1 u.2.2.2.2.2.2.2.2.1 u.2.2.2.2.2.2.2.2.2)
    (fun _ u => tc_P a b 0 0 Ra Rb Wb N (tc_du v R M x10) u) 8 0 (m, t, s, d, a5, a6, a7, a8, a9, a10) (by omega) h ?_ ?_
  · rintro n ⟨m', t', s', d', b5, b6, b7, b8, b9, b10⟩ h'
    have hsum : tc_sum (tc_du v R M x10) 16 = tc_sum (tc_du v R M x10) 8 := by
      refine tc_sum_ext (f := tc_du v R M x10) 8 8 (fun x hx _ => ?_)
      obtain ⟨_, _, _, _, _, _, hR, hM⟩ := cx
      unfold tc_du
      rw [if_neg (fun z => absurd (hM x z).1 (by omega)), if_neg (fun z => absurd (hR x z) (by omega)), if_neg (by omega)]
    refine pk_le 8 8 (fun _ => br_f (by decide) (br_c (fun z => tc_829 cx hN hp ?_ hsum h') (fun z => tc_829 cx hN hp ?_ hsum h'))) (fun z => absurd z (by omega))
    · rw [h16, if_pos z]
    · rw [h16, if_neg z]
  · rintro n i ⟨m', t', s', d', b5, b6, b7, b8, b9, b10⟩ hi h' hw
    have hw' : ∀ m t s d a5 a6 a7 a8 a9 a10, tc_P a b 0 0 Ra Rb Wb N (tc_du v R M x10) (m, t, s, d, a5, a6, a7, a8, a9, a10) → wL_lawOf_657 post mc ms v (nI a) (nI b) (nI e) R x10 x11 M x16 0 kc ks n 1 (tc_sum (tc_du v R M x10) i + (nI i + 1) * tc_du v R M x10 i) (nI (i + 1)) m t s d a5 a6 a7 a8 a9 a10 :=
      fun m t s d a5 a6 a7 a8 a9 a10 k => hw (m, t, s, d, a5, a6, a7, a8, a9, a10) k
    refine pk_le 8 i (fun z => absurd z (by omega)) (fun _ => ek_if (tc_bit1 M (by omega)) (fun g => tc_680 cx hN hi ?_ h' hw') (fun g => tc_680 cx hN hi ?_ h' hw'))
    · exact ⟨fun z => absurd z (by decide), fun z => absurd g (tc_ft z)⟩
    · exact ⟨fun _ => tc_ff g, fun _ => rfl⟩
end
end
section
/-! the law's third loop -/
def tc_V3 (v R M : Int32) (i y : Nat) : Int32 := if tc_bt M y = true then v + nI y else if y < i ∧ tc_bt R y = false then 5 else 0
theorem tc_rf_bt {a b c x : Nat} {R M : Int32} (h1 : c = a → tc_bt R x = false) (h2 : c = b → tc_bt M x = false) : tc_bt (tc_rf a b 1 1 R M c) x = false := by
  unfold tc_rf
  by_cases z : c = a ∧ 1 = 1
  · rw [if_pos z]
    exact h1 z.1
  · rw [if_neg z]
    by_cases z2 : c = b ∧ 1 = 1
    · rw [if_pos z2]
      exact h2 z2.1
    · rw [if_neg z2]
      exact tc_b_0 x
theorem tc_rf_a {a b : Nat} {R M : Int32} : tc_rf a b 1 1 R M a = R := if_pos ⟨rfl, rfl⟩
theorem tc_rf_b {a b : Nat} {R M : Int32} (hab : a ≠ b) : tc_rf a b 1 1 R M b = M := (if_neg (fun z => hab z.1.symm)).trans (if_pos ⟨rfl, rfl⟩)
section
variable {a b e i : Nat} {R M : Int32}
theorem tc_rva (cx : tc_cx a b e R M) : tc_rv (tc_th (tc_wf b 1 M) (tc_rf a b 1 1 R M) 0 a i) 4 = if tc_bt M i = true then (1 : Int32) <<< (nI b &&& 31) else 0 := by
  obtain ⟨ha, hb, he, hab, hae, hbe, hR, hM⟩ := cx
  by_cases z : tc_bt M i = true
  · rw [if_pos z]
    exact tc_rv_one hb (tc_th_t (fun g => hab g.symm) (Or.inl (by rw [tc_wf_b]; exact z))) (fun j _ ne => tc_th_f (Or.inr ⟨tc_wf_ne ne, Or.inl rfl⟩))
  · rw [if_neg z]
    exact tc_rv_none (fun j _ => tc_th_f (Or.inr ⟨tc_nowf (fun g => z g.2) j, Or.inl rfl⟩))
theorem tc_rvb (cx : tc_cx a b e R M) : tc_rv (tc_th (tc_wf b 1 M) (tc_rf a b 1 1 R M) 1 b i) 4 = if tc_bt R i = true then (1 : Int32) <<< (nI a &&& 31) else 0 := by
  obtain ⟨ha, hb, he, hab, hae, hbe, hR, hM⟩ := cx
  by_cases z : tc_bt R i = true
  · rw [if_pos z]
    refine tc_rv_one ha (tc_th_t hab (Or.inr ⟨by decide, by rw [tc_rf_a]; exact z⟩)) (fun j _ ne => tc_th_f ?_)
    by_cases g : j = b
    · exact Or.inl g
    · exact Or.inr ⟨tc_wf_ne g, Or.inr (tc_rf_bt (fun f => absurd f ne) (fun f => absurd f g))⟩
  · rw [if_neg z]
    refine tc_rv_none (fun j _ => tc_th_f ?_)
    by_cases g : j = b
    · exact Or.inl g
    · exact Or.inr ⟨tc_wf_ne g, Or.inr (tc_rf_bt (fun _ => tc_ff z) (fun f => absurd f g))⟩
theorem tc_rve (cx : tc_cx a b e R M) : tc_rv (tc_th (tc_wf b 1 M) (tc_rf a b 1 1 R M) 1 e i) 4 = if tc_bt M i = true then (1 : Int32) <<< (nI b &&& 31) else if tc_bt R i = true then (1 : Int32) <<< (nI a &&& 31) else 0 := by
  obtain ⟨ha, hb, he, hab, hae, hbe, hR, hM⟩ := cx
  by_cases z : tc_bt M i = true
  · rw [if_pos z]
    exact tc_rv_one hb (tc_th_t hbe (Or.inl (by rw [tc_wf_b]; exact z))) (fun j _ ne => tc_th_f (Or.inr ⟨tc_wf_ne ne, Or.inr (tc_rf_bt (fun _ => (hM i z).2) (fun f => absurd f ne))⟩))
  · rw [if_neg z]
    by_cases z2 : tc_bt R i = true
    · rw [if_pos z2]
      exact tc_rv_one ha (tc_th_t hae (Or.inr ⟨by decide, by rw [tc_rf_a]; exact z2⟩)) (fun j _ ne => tc_th_f (Or.inr ⟨tc_nowf (fun g => z g.2) j, Or.inr (tc_rf_bt (fun f => absurd f ne) (fun _ => tc_ff z))⟩))
    · rw [if_neg z2]
      exact tc_rv_none (fun j _ => tc_th_f (Or.inr ⟨tc_nowf (fun g => z g.2) j, Or.inr (tc_rf_bt (fun _ => tc_ff z2) (fun _ => tc_ff z))⟩))
end
section
variable {post : Int32 → St0 → Prop} {mc ms kc ks : Nat} {a b e N i : Nat} {v R M x10 x11 : Int32} {V : Nat → Int32} {m t s d a5 a6 a7 a8 a9 a10 : Nat → Int32}
variable {J : Int32 → Int32 → (Nat → Int32) → (Nat → Int32) → (Nat → Int32) → (Nat → Int32) → (Nat → Int32) → (Nat → Int32) → (Nat → Int32) → (Nat → Int32) → (Nat → Int32) → (Nat → Int32) → Prop}
theorem tc_587 {z0 z1 : Int32} (hz : z1 = z0) (H : J 1 (nI (i + 1)) m t s d a5 a6 a7 a8 a9 a10) :
    wL_lawOf_587 post mc ms J v (nI a) (nI b) (nI e) R x10 x11 M (nI i) z0 z1 kc ks m t s d a5 a6 a7 a8 a9 a10 := by
  unfold wL_lawOf_587
  exact br_t hz (nm_r (nI_1 i) H)
theorem tc_549 {x17 x18 z0 z1 : Int32} (cx : tc_cx a b e R M) (hN : N ≤ 15) (hi : i < 8) (hw : x17 = 0 ↔ tc_bt M i = false) (hu : x18 = 0 ↔ (tc_bt M i = false ∧ tc_bt R i = false)) (hz : z1 = z0)
    (h : tc_P a b 1 1 R M M N V (m, t, s, d, a5, a6, a7, a8, a9, a10)) (H : J 1 (nI (i + 1)) m t s d a5 a6 a7 a8 a9 a10) :
    wL_lawOf_549 post mc ms J v (nI a) (nI b) (nI e) R x10 x11 M (nI i) x17 x18 z0 z1 kc ks m t s d a5 a6 a7 a8 a9 a10 := by
  have ok : tc_ok a b 1 1 N := ⟨cx.1, cx.2.1, cx.2.2.2.1, by omega, by omega, hN⟩
  unfold wL_lawOf_549
  refine br_t hz (tc_rivals1 cx.2.2.1 (by omega) ok h ?_)
  rw [tc_rve cx]
  refine ek_if hw (fun g => ek_if hu (fun g2 => tc_587 ?_ H) (fun g2 => tc_587 ?_ H)) (fun g => tc_587 ?_ H)
  · rw [if_neg (tc_ft g), if_neg (tc_ft g2.2)]
  · rw [if_neg (tc_ft g), if_pos (tc_nf (fun z => g2 ⟨g, z⟩))]
  · rw [if_pos (tc_nf g)]
theorem tc_517 {x17 x18 z0 z1 : Int32} (cx : tc_cx a b e R M) (hN : N ≤ 15) (hi : i < 8) (hw : x17 = 0 ↔ tc_bt M i = false) (hu : x18 = 0 ↔ (tc_bt M i = false ∧ tc_bt R i = false)) (hz : z1 = z0)
    (h : tc_P a b 1 1 R M M N V (m, t, s, d, a5, a6, a7, a8, a9, a10)) (H : J 1 (nI (i + 1)) m t s d a5 a6 a7 a8 a9 a10) :
    wL_lawOf_517 post mc ms J v (nI a) (nI b) (nI e) R x10 x11 M (nI i) x17 x18 z0 z1 kc ks m t s d a5 a6 a7 a8 a9 a10 := by
  have ok : tc_ok a b 1 1 N := ⟨cx.1, cx.2.1, cx.2.2.2.1, by omega, by omega, hN⟩
  unfold wL_lawOf_517
  refine br_t hz (tc_rivals1 cx.2.1 (by omega) ok h ?_)
  rw [tc_rvb cx]
  refine ek_if (tc_bit1 R (by omega)) (fun g => tc_549 cx hN hi hw hu ?_ h H) (fun g => tc_549 cx hN hi hw hu ?_ h H)
  · rw [if_pos g]
  · rw [if_neg g]
theorem tc_491 {x17 x18 z0 z1 : Int32} (cx : tc_cx a b e R M) (hN : N ≤ 15) (hi : i < 8) (hw : x17 = 0 ↔ tc_bt M i = false) (hu : x18 = 0 ↔ (tc_bt M i = false ∧ tc_bt R i = false)) (hz : z1 = z0)
    (h : tc_P a b 1 1 R M M N V (m, t, s, d, a5, a6, a7, a8, a9, a10)) (H : J 1 (nI (i + 1)) m t s d a5 a6 a7 a8 a9 a10) :
    wL_lawOf_491 post mc ms J v (nI a) (nI b) (nI e) R x10 x11 M (nI i) x17 x18 z0 z1 kc ks m t s d a5 a6 a7 a8 a9 a10 := by
  have ok : tc_ok a b 1 1 N := ⟨cx.1, cx.2.1, cx.2.2.2.1, by omega, by omega, hN⟩
  unfold wL_lawOf_491
  refine br_t hz (tc_rivals0 cx.1 (by omega) ok h ?_)
  rw [tc_rva cx]
  refine ek_if hw (fun g => tc_517 cx hN hi hw hu ?_ h H) (fun g => tc_517 cx hN hi hw hu ?_ h H)
  · rw [if_neg (tc_ft g)]
  · rw [if_pos (tc_nf g)]
theorem tc_469 {x17 x18 z0 z1 : Int32} (cx : tc_cx a b e R M) (hN : N ≤ 15) (hi : i < 8) (hw : x17 = 0 ↔ tc_bt M i = false) (hu : x18 = 0 ↔ (tc_bt M i = false ∧ tc_bt R i = false)) (hz : z1 = z0)
    (h : tc_P a b 1 1 R M M N (tc_V3 v R M (i + 1)) (m, t, s, d, a5, a6, a7, a8, a9, a10)) (H : J 1 (nI (i + 1)) m t s d a5 a6 a7 a8 a9 a10) :
    wL_lawOf_469 post mc ms J v (nI a) (nI b) (nI e) R x10 x11 M (nI i) x17 x18 z0 z1 kc ks m t s d a5 a6 a7 a8 a9 a10 := by
  have ok : tc_ok a b 1 1 N := ⟨cx.1, cx.2.1, cx.2.2.2.1, by omega, by omega, hN⟩
  unfold wL_lawOf_469
  refine br_t hz (tc_sees cx.1 (by omega) ok h (ek_if hu (fun g => tc_491 cx hN hi hw hu ?_ h H) (fun g => tc_491 cx hN hi hw hu ?_ h H)))
  · unfold tc_se tc_cm tc_V3
    rw [if_neg cx.2.2.2.1, if_neg (fun z => tc_ft g.1 z.2), if_neg (tc_ft g.1), if_pos ⟨by omega, g.2⟩]
  · unfold tc_se tc_cm tc_V3
    rw [if_neg cx.2.2.2.1]
    by_cases z : tc_bt M i = true
    · rw [if_pos ⟨rfl, z⟩]
    · rw [if_neg (fun f => z f.2), if_neg z, if_neg (fun f => g ⟨tc_ff z, f.2⟩)]
theorem tc_435 {x17 x18 z0 z1 : Int32} (cx : tc_cx a b e R M) (hN : N ≤ 15) (hi : i < 8) (hw : x17 = 0 ↔ tc_bt M i = false) (hu : x18 = 0 ↔ (tc_bt M i = false ∧ tc_bt R i = false)) (hz : z1 = z0)
    (h : tc_P a b 1 1 R M M N (tc_V3 v R M (i + 1)) (m, t, s, d, a5, a6, a7, a8, a9, a10)) (H : J 1 (nI (i + 1)) m t s d a5 a6 a7 a8 a9 a10) :
    wL_lawOf_435 post mc ms J v (nI a) (nI b) (nI e) R x10 x11 M (nI i) x17 x18 z0 z1 kc ks m t s d a5 a6 a7 a8 a9 a10 := by
  have ok : tc_ok a b 1 1 N := ⟨cx.1, cx.2.1, cx.2.2.2.1, by omega, by omega, hN⟩
  unfold wL_lawOf_435
  refine br_t hz (tc_sees cx.2.1 (by omega) ok h (ek_if hw (fun g => ek_if hu (fun g2 => tc_469 cx hN hi hw hu ?_ h H) (fun g2 => tc_469 cx hN hi hw hu ?_ h H)) (fun g => tc_469 cx hN hi hw hu ?_ h H)))
  · unfold tc_se tc_V3
    rw [if_pos rfl, if_neg (tc_ft g), if_pos ⟨by omega, g2.2⟩]
  · unfold tc_se tc_V3
    rw [if_pos rfl, if_neg (tc_ft g), if_neg (fun f => g2 ⟨g, f.2⟩)]
  · unfold tc_se tc_V3
    rw [if_pos rfl, if_pos (tc_nf g)]
theorem tc_V3_put (h : tc_bt M i = false ∧ tc_bt R i = false) : upd (tc_V3 v R M i) i 5 = tc_V3 v R M (i + 1) := by
  funext j
  unfold tc_V3
  by_cases e : j = i
  · rw [e, pk_us, if_neg (tc_ft h.1), if_pos ⟨by omega, h.2⟩]
  · rw [pk_un e]
    by_cases z : tc_bt M j = true
    · rw [if_pos z, if_pos z]
    · rw [if_neg z, if_neg z]
      by_cases g : j < i ∧ tc_bt R j = false
      · rw [if_pos g, if_pos ⟨by omega, g.2⟩]
      · rw [if_neg g, if_neg (fun f => g ⟨by omega, f.2⟩)]
theorem tc_V3_same (h : ¬ (tc_bt M i = false ∧ tc_bt R i = false)) : tc_V3 v R M i = tc_V3 v R M (i + 1) := by
  funext j
  unfold tc_V3
  by_cases z : tc_bt M j = true
  · rw [if_pos z, if_pos z]
  · rw [if_neg z, if_neg z]
    by_cases g : j < i ∧ tc_bt R j = false
    · rw [if_pos g, if_pos ⟨by omega, g.2⟩]
    · refine (if_neg g).trans (if_neg (fun f => ?_)).symm
      by_cases e : j = i
      · rw [e] at z f
        exact h ⟨tc_ff z, f.2⟩
      · exact g ⟨by omega, f.2⟩
theorem tc_403 {x17 z0 : Int32} (cx : tc_cx a b e R M) (hN : N ≤ 15) (hi : i < 8) (hw : x17 = 0 ↔ tc_bt M i = false) (hu : z0 = 0 ↔ (tc_bt M i = false ∧ tc_bt R i = false))
    (h : tc_P a b 1 1 R M M N (tc_V3 v R M i) (m, t, s, d, a5, a6, a7, a8, a9, a10))
    (H : ∀ m t s d a5 a6 a7 a8 a9 a10, tc_P a b 1 1 R M M N (tc_V3 v R M (i + 1)) (m, t, s, d, a5, a6, a7, a8, a9, a10) → J 1 (nI (i + 1)) m t s d a5 a6 a7 a8 a9 a10) :
    wL_lawOf_403 post mc ms J v (nI a) (nI b) (nI e) R x10 x11 1 M (nI i) x17 z0 kc ks m t s d a5 a6 a7 a8 a9 a10 := by
  have ok : tc_ok a b 1 1 N := ⟨cx.1, cx.2.1, cx.2.2.2.1, by omega, by omega, hN⟩
  obtain ⟨ha, hb, he, hab, hae, hbe, hR, hM⟩ := id cx
  unfold wL_lawOf_403
  by_cases us : tc_bt M i = false ∧ tc_bt R i = false
  · refine tc_Pwrite he (by omega) ok h ?_ (fun j _ => ⟨tc_nowf (fun z => tc_ft us.1 z.2) j, tc_rf_bt (fun _ => us.2) (fun _ => us.1)⟩) (fun u' h' => ?_)
    · unfold tc_lvl
      rw [if_neg (fun z => hae z.symm), if_neg (fun z => hbe z.symm)]
    · rw [tc_V3_put us] at h'
      obtain ⟨m', t', s', d', b5, b6, b7, b8, b9, b10⟩ := u'
      exact br_f (by decide) (br_t (hu.mpr us) (tc_435 cx hN hi hw hu rfl h' (H _ _ _ _ _ _ _ _ _ _ h')))
  · have h' := h
    rw [tc_V3_same us] at h'
    by_cases z : tc_bt M i = true
    · refine tc_PwriteC (j := b) he (by omega) ok h hb hbe (Or.inl (by rw [tc_wf_b]; exact z)) ?_
      exact br_f (by decide) (br_f (fun f => us (hu.mp f)) (tc_435 cx hN hi hw hu rfl h' (H _ _ _ _ _ _ _ _ _ _ h')))
    · refine tc_PwriteC (j := a) he (by omega) ok h ha hae (Or.inr (by rw [tc_rf_a]; exact tc_nf (fun f => us ⟨tc_ff z, f⟩))) ?_
      exact br_f (by decide) (br_f (fun f => us (hu.mp f)) (tc_435 cx hN hi hw hu rfl h' (H _ _ _ _ _ _ _ _ _ _ h')))
theorem tc_380 {z0 : Int32} (cx : tc_cx a b e R M) (hN : N ≤ 15) (hi : i < 8) (hw : z0 = 0 ↔ tc_bt M i = false)
    (h : tc_P a b 1 1 R M M N (tc_V3 v R M i) (m, t, s, d, a5, a6, a7, a8, a9, a10))
    (H : ∀ m t s d a5 a6 a7 a8 a9 a10, tc_P a b 1 1 R M M N (tc_V3 v R M (i + 1)) (m, t, s, d, a5, a6, a7, a8, a9, a10) → J 1 (nI (i + 1)) m t s d a5 a6 a7 a8 a9 a10) :
    wL_lawOf_380 post mc ms J v (nI a) (nI b) (nI e) R x10 x11 1 M (nI i) z0 kc ks m t s d a5 a6 a7 a8 a9 a10 := by
  unfold wL_lawOf_380
  refine ek_if hw (fun g => ek_if (tc_bit1 R (by omega)) (fun g2 => ?_) (fun g2 => ?_)) (fun g => ?_)
  · unfold wL_lawOf_398
    exact tc_403 cx hN hi hw ⟨fun z => absurd z (by decide), fun z => absurd g2 (tc_ft z.2)⟩ h H
  · exact tc_403 cx hN hi hw ⟨fun _ => ⟨g, tc_ff g2⟩, fun _ => rfl⟩ h H
  · unfold wL_lawOf_398
    exact tc_403 cx hN hi hw ⟨fun z => absurd z (by decide), fun z => absurd z.1 g⟩ h H
theorem tc_625 {z0 : Int32} (cx : tc_cx a b e R M) (hN : N ≤ 15) (hp : post 1 ()) (h16 : z0 = if x11 = 0 then 0 else 1)
    (h : tc_P a b 0 1 R M M N (tc_V3 v R M 8) (m, t, s, d, a5, a6, a7, a8, a9, a10)) :
    wL_lawOf_625 post mc ms v (nI a) (nI b) (nI e) R x10 x11 1 M z0 kc ks m t s d a5 a6 a7 a8 a9 a10 := by
  have ok : tc_ok a b 0 1 N := ⟨cx.1, cx.2.1, cx.2.2.2.1, by omega, by omega, hN⟩
  unfold wL_lawOf_625
  refine br_c (fun z => tc_Pup_b ok h (fun u' h' => ?_)) (fun z => tc_Pend_b ok h (fun u' h' => ?_))
  · have ev : (fun y => if tc_bt M y = true then 0 else tc_V3 v R M 8 y) = tc_du v R M x10 := by
      funext y
      unfold tc_du tc_V3
      by_cases g : tc_bt M y = true
      · rw [if_pos g, if_pos g, if_pos z]
      · rw [if_neg g, if_neg g, if_neg g]
        by_cases g2 : tc_bt R y = true
        · rw [if_pos g2, if_neg (fun f => tc_ft f.2 g2)]
        · rw [if_neg g2]
          by_cases g3 : y < 8
          · rw [if_pos g3, if_pos ⟨g3, tc_ff g2⟩]
          · rw [if_neg g3, if_neg (fun f => g3 f.1)]
    rw [ev] at h'
    obtain ⟨m', t', s', d', b5, b6, b7, b8, b9, b10⟩ := u'
    exact tc_657 cx hN hp h16 h'
  · have ev : tc_V3 v R M 8 = tc_du v R M x10 := by
      funext y
      unfold tc_du tc_V3
      by_cases g : tc_bt M y = true
      · rw [if_pos g, if_pos g, if_neg z]
      · rw [if_neg g, if_neg g]
        by_cases g2 : tc_bt R y = true
        · rw [if_pos g2, if_neg (fun f => tc_ft f.2 g2)]
        · rw [if_neg g2]
          by_cases g3 : y < 8
          · rw [if_pos g3, if_pos ⟨g3, tc_ff g2⟩]
          · rw [if_neg g3, if_neg (fun f => g3 f.1)]
    rw [ev] at h'
    obtain ⟨m', t', s', d', b5, b6, b7, b8, b9, b10⟩ := u'
    exact tc_657 cx hN hp h16 h'
theorem tc_357 (cx : tc_cx a b e R M) (hN : N ≤ 15) (hp : post 1 ()) (h : tc_P a b 1 1 R M M N (tc_V3 v R M 0) (m, t, s, d, a5, a6, a7, a8, a9, a10)) :
    ∃ n, wL_lawOf_357 post mc ms v (nI a) (nI b) (nI e) R x10 x11 M kc ks n 1 0 m t s d a5 a6 a7 a8 a9 a10 := by
  have ok : tc_ok a b 1 1 N := ⟨cx.1, cx.2.1, cx.2.2.2.1, by omega, by omega, hN⟩
  refine pk_loop (fun n i (u : St2) => wL_lawOf_357 post mc ms v (nI a) (nI b) (nI e) R x10 x11 M kc ks n 1 (nI i) u.1 u.2.1 u.2.2.1 u.2.2.2.1 u.2.2.2.2.1 u.2.2.2.2.2.1 u.2.2.2.2.2.2.1 u.2.2.2.2.2.2.2.1 u.2.2.2.2.2.2.2.2.1 u.2.2.2.2.2.2.2.2.2)
    (fun i u => tc_P a b 1 1 R M M N (tc_V3 v R M i) u) 8 0 (m, t, s, d, a5, a6, a7, a8, a9, a10) (by omega) h ?_ ?_
  · rintro n ⟨m', t', s', d', b5, b6, b7, b8, b9, b10⟩ h'
    refine pk_le 8 8 (fun _ => br_c (fun z => tc_Pend_a ok h' (fun u'' h'' => ?_)) (fun z => tc_Pall_a ok h' (fun u'' h'' => ?_))) (fun z => absurd z (by omega))
    · obtain ⟨m'', t'', s'', d'', c5, c6, c7, c8, c9, c10⟩ := u''
      exact tc_625 cx hN hp (by rw [if_pos z]) h''
    · obtain ⟨m'', t'', s'', d'', c5, c6, c7, c8, c9, c10⟩ := u''
      exact tc_625 cx hN hp (by rw [if_neg z]) h''
  · rintro n i ⟨m', t', s', d', b5, b6, b7, b8, b9, b10⟩ hi h' hw
    have hw' : ∀ m t s d a5 a6 a7 a8 a9 a10, tc_P a b 1 1 R M M N (tc_V3 v R M (i + 1)) (m, t, s, d, a5, a6, a7, a8, a9, a10) → wL_lawOf_357 post mc ms v (nI a) (nI b) (nI e) R x10 x11 M kc ks n 1 (nI (i + 1)) m t s d a5 a6 a7 a8 a9 a10 :=
      fun m t s d a5 a6 a7 a8 a9 a10 k => hw (m, t, s, d, a5, a6, a7, a8, a9, a10) k
    refine pk_le 8 i (fun z => absurd z (by omega)) (fun _ => ek_if (tc_bit1 M (by omega)) (fun g => tc_380 cx hN hi ?_ h' hw') (fun g => tc_380 cx hN hi ?_ h' hw'))
    · exact ⟨fun z => absurd z (by decide), fun z => absurd g (tc_ft z)⟩
    · exact ⟨fun _ => tc_ff g, fun _ => rfl⟩
end
end
section
/-! the law's first two loops and its head -/
def tc_V2 (v M : Int32) (i y : Nat) : Int32 := if tc_bt M y = true ∧ y < i then v + nI y else 0
theorem tc_andLt (k n : Nat) (b : Bool) (h : b = true → k < n) : (decide (k < n) && b) = b := by
  cases b
  · rw [Bool.and_false]
  · rw [decide_eq_true (h rfl), Bool.true_and]
/-- one more cell is looked at: it isn't in the set, or it goes in -/
theorem tc_lo_skip {S X : Int32} {i : Nat} (h : ∀ j, j < 32 → tc_bt X j = (decide (j < i) && tc_bt S j)) (hs : tc_bt S i = false) : ∀ j, j < 32 → tc_bt X j = (decide (j < i + 1) && tc_bt S j) := by
  intro j hj
  rw [h j hj]
  by_cases e : j = i
  · rw [e, hs, Bool.and_false, Bool.and_false]
  · rw [show decide (j < i + 1) = decide (j < i) from decide_eq_decide.mpr (by omega)]
theorem tc_lo_add {S X : Int32} {i : Nat} (hi : i < 32) (h : ∀ j, j < 32 → tc_bt X j = (decide (j < i) && tc_bt S j)) (hs : tc_bt S i = true) : ∀ j, j < 32 → tc_bt (X ||| ((1 : Int32) <<< (nI i &&& 31))) j = (decide (j < i + 1) && tc_bt S j) := by
  intro j hj
  rw [tc_b_or1 _ hi hj, h j hj]
  by_cases e : j = i
  · rw [e, hs, decide_eq_true (show i < i + 1 by omega), decide_eq_true rfl, Bool.or_true, Bool.and_true]
  · rw [decide_eq_false e, Bool.or_false, show decide (j < i + 1) = decide (j < i) from decide_eq_decide.mpr (by omega)]
theorem tc_lo_all {S X : Int32} (h : ∀ j, j < 32 → tc_bt X j = (decide (j < 8) && tc_bt S j)) (hs : ∀ j, tc_bt S j = true → j < 8) : X = S :=
  tc_b_ext (fun j hj => by rw [h j hj, tc_andLt j 8 _ (hs j)])
theorem tc_lo_i {S X : Int32} {i : Nat} (hi : i < 32) (h : ∀ j, j < 32 → tc_bt X j = (decide (j < i) && tc_bt S j)) : tc_bt X i = false := by
  rw [h i hi, decide_eq_false (by omega), Bool.false_and]
theorem tc_V2_skip {v M : Int32} {i : Nat} (h : tc_bt M i = false) : tc_V2 v M i = tc_V2 v M (i + 1) := by
  funext j
  unfold tc_V2
  by_cases g : tc_bt M j = true ∧ j < i
  · rw [if_pos g, if_pos ⟨g.1, by omega⟩]
  · refine (if_neg g).trans (if_neg (fun f => ?_)).symm
    by_cases e : j = i
    · rw [e] at f
      exact tc_ft h f.1
    · exact g ⟨f.1, by omega⟩
theorem tc_V2_add {v M : Int32} {i : Nat} (h : tc_bt M i = true) : upd (tc_V2 v M i) i (v + nI i) = tc_V2 v M (i + 1) := by
  funext j
  unfold tc_V2
  by_cases e : j = i
  · rw [e, pk_us, if_pos ⟨h, by omega⟩]
  · rw [pk_un e]
    by_cases g : tc_bt M j = true ∧ j < i
    · rw [if_pos g, if_pos ⟨g.1, by omega⟩]
    · exact (if_neg g).trans (if_neg (fun f => g ⟨f.1, by omega⟩)).symm
theorem tc_V2_i {v M : Int32} {i : Nat} : tc_V2 v M i i = 0 := if_neg (fun z => absurd z.2 (by omega))
theorem tc_V2_0 {v M : Int32} : tc_V2 v M 0 = fun _ => 0 := funext (fun _ => if_neg (fun z => absurd z.2 (by omega)))
section
variable {post : Int32 → St0 → Prop} {mc ms kc ks : Nat} {a b e N i : Nat} {v R W M Wb x10 x11 : Int32} {V : Nat → Int32} {m t s d a5 a6 a7 a8 a9 a10 : Nat → Int32}
variable {J : Int32 → Int32 → (Nat → Int32) → (Nat → Int32) → (Nat → Int32) → (Nat → Int32) → (Nat → Int32) → (Nat → Int32) → (Nat → Int32) → (Nat → Int32) → (Nat → Int32) → (Nat → Int32) → Prop}
theorem tc_263 {z0 z1 : Int32} (hz : z1 = z0) (H : J 1 (nI (i + 1)) m t s d a5 a6 a7 a8 a9 a10) :
    wL_lawOf_263 post mc ms J v (nI a) (nI b) (nI e) R W x10 x11 (nI i) z0 z1 kc ks m t s d a5 a6 a7 a8 a9 a10 := by
  unfold wL_lawOf_263
  exact br_t hz (nm_r (nI_1 i) H)
theorem tc_238 {x16 x17 z0 : Int32} (h0 : (x16 = 0 ∨ x17 = 0) → z0 = 0) (h1 : ¬ x16 = 0 → ¬ x17 = 0 → z0 = -2) (H : J 1 (nI (i + 1)) m t s d a5 a6 a7 a8 a9 a10) :
    wL_lawOf_238 post mc ms J v (nI a) (nI b) (nI e) R W x10 x11 1 (nI i) x16 x17 z0 kc ks m t s d a5 a6 a7 a8 a9 a10 := by
  unfold wL_lawOf_238 wL_lawOf_262
  exact br_f (by decide) (br_c (fun g => tc_263 (h0 (Or.inl g)) H) (fun g => br_c (fun g2 => tc_263 (h0 (Or.inr g2)) H) (fun g2 => tc_263 (h1 g g2) H)))
theorem tc_214 {x16 z0 : Int32} (cx : tc_cx a b e R M) (hN : N ≤ 14) (hi : i < 8) (hw : x16 = 0 ↔ tc_bt W i = false) (hr : z0 = 0 ↔ tc_bt R i = false)
    (hWb : tc_bt Wb i = false) (hV : V i = 0) (h : tc_P a b 1 1 R Wb Wb N V (m, t, s, d, a5, a6, a7, a8, a9, a10))
    (H0 : ¬ (tc_bt W i = true ∧ tc_bt R i = false) → J 1 (nI (i + 1)) m t s d a5 a6 a7 a8 a9 a10)
    (H1 : (tc_bt W i = true ∧ tc_bt R i = false) → ∀ m t s d a5 a6 a7 a8 a9 a10, tc_P a b 1 1 R (Wb ||| ((1 : Int32) <<< (nI i &&& 31))) (Wb ||| ((1 : Int32) <<< (nI i &&& 31))) (N + 1) (upd V i (v + nI i)) (m, t, s, d, a5, a6, a7, a8, a9, a10) → J 1 (nI (i + 1)) m t s d a5 a6 a7 a8 a9 a10) :
    wL_lawOf_214 post mc ms J v (nI a) (nI b) (nI e) R W x10 x11 1 (nI i) x16 z0 kc ks m t s d a5 a6 a7 a8 a9 a10 := by
  have ok : tc_ok a b 1 1 N := ⟨cx.1, cx.2.1, cx.2.2.2.1, by omega, by omega, by omega⟩
  obtain ⟨ha, hb, he, hab, hae, hbe, hR, hM⟩ := id cx
  unfold wL_lawOf_214
  refine br_c (fun g => tc_238 (fun _ => rfl) (fun f => absurd g f) (H0 (fun f => tc_ft (hw.mp g) f.1))) (fun g => ?_)
  have gW : tc_bt W i = true := tc_nf (fun f => g (hw.mpr f))
  by_cases z : tc_bt R i = true
  · refine tc_PaddC (j := a) hb (by omega) ok h ha hab (Or.inr (by rw [tc_rf_a]; exact z)) ?_
    refine tc_238 (fun f => ?_) (fun _ _ => rfl) (H0 (fun f => tc_ft f.2 z))
    rcases f with f | f
    · exact absurd f g
    · exact absurd z (tc_ft (hr.mp f))
  · refine tc_Padd (by omega) ok h hWb hV (fun j _ ne => tc_rf_bt (fun _ => tc_ff z) (fun f => absurd f ne)) (fun u' h' => ?_)
    obtain ⟨m', t', s', d', b5, b6, b7, b8, b9, b10⟩ := u'
    exact tc_238 (fun _ => rfl) (fun _ f => absurd (hr.mpr (tc_ff z)) f) (H1 ⟨gW, tc_ff z⟩ _ _ _ _ _ _ _ _ _ _ h')
theorem tc_173 (cx : tc_cx a b e R M) (hMe : W &&& (R ^^^ (-1)) = M) (hMb : ∀ j, j < 32 → tc_bt M j = (tc_bt W j && !tc_bt R j)) (hp : post 1 ()) (h : tc_P a b 1 1 R 0 0 0 (fun _ => 0) (m, t, s, d, a5, a6, a7, a8, a9, a10)) :
    ∃ n, wL_lawOf_173 post mc ms v (nI a) (nI b) (nI e) R W x10 x11 kc ks n 1 0 m t s d a5 a6 a7 a8 a9 a10 := by
  refine pk_loop (fun n i (u : St2) => wL_lawOf_173 post mc ms v (nI a) (nI b) (nI e) R W x10 x11 kc ks n 1 (nI i) u.1 u.2.1 u.2.2.1 u.2.2.2.1 u.2.2.2.2.1 u.2.2.2.2.2.1 u.2.2.2.2.2.2.1 u.2.2.2.2.2.2.2.1 u.2.2.2.2.2.2.2.2.1 u.2.2.2.2.2.2.2.2.2)
    (fun i u => ∃ (Wb : Int32) (N : Nat), N ≤ i ∧ (∀ j, j < 32 → tc_bt Wb j = (decide (j < i) && tc_bt M j)) ∧ tc_P a b 1 1 R Wb Wb N (tc_V2 v M i) u) 8 0 (m, t, s, d, a5, a6, a7, a8, a9, a10) (by omega)
    ⟨0, 0, by omega, fun j _ => by rw [tc_b_0, decide_eq_false (by omega), Bool.false_and], by rw [tc_V2_0]; exact h⟩ ?_ ?_
  · rintro n ⟨m', t', s', d', b5, b6, b7, b8, b9, b10⟩ ⟨Wb, N, hN, hW, h'⟩
    obtain ⟨ha, hb, he, hab, hae, hbe, hR, hM⟩ := id cx
    have eW := tc_lo_all hW (fun j z => (hM j z).1)
    subst eW
    have ok : tc_ok a b 1 1 N := ⟨ha, hb, hab, by omega, by omega, by omega⟩
    have eV : tc_V2 v Wb 8 = tc_V3 v R Wb 0 := by
      funext y
      unfold tc_V2 tc_V3
      by_cases g : tc_bt Wb y = true
      · rw [if_pos ⟨g, (hM y g).1⟩, if_pos g]
      · rw [if_neg (fun f => g f.1), if_neg g, if_neg (fun f => absurd f.1 (by omega))]
    refine pk_le 8 8 (fun _ => nm_r hMe (br_f (by decide) (tc_readBy ha ok h' (br_t tc_rf_a (tc_writtenBy hb ok h' (br_t tc_wf_b (tc_readBy hb ok h' (br_t (tc_rf_b hab) (tc_writtenBy ha ok h' (br_t (if_neg (fun z => hab z.1)) (tc_digest ok h' (br_t ?_ ?_)))))))))))) (fun z => absurd z (by omega))
    · refine tc_sum_zero 16 (fun x _ => ?_)
      unfold tc_cm tc_V2
      by_cases g : tc_bt Wb x = true
      · rw [if_pos ⟨rfl, g⟩]
      · rw [if_neg (fun f => g f.2), if_neg (fun f => g f.1)]
    · rw [eV] at h'
      exact tc_357 cx (by omega) hp h'
  · rintro n i ⟨m', t', s', d', b5, b6, b7, b8, b9, b10⟩ hi ⟨Wb, N, hN, hW, h'⟩ hw
    have H0 : ¬ (tc_bt W i = true ∧ tc_bt R i = false) → wL_lawOf_173 post mc ms v (nI a) (nI b) (nI e) R W x10 x11 kc ks n 1 (nI (i + 1)) m' t' s' d' b5 b6 b7 b8 b9 b10 := by
      intro z
      have eM : tc_bt M i = false := by
        rw [hMb i (by omega)]
        cases g : tc_bt W i
        · rfl
        · cases g2 : tc_bt R i
          · exact absurd ⟨g, g2⟩ z
          · rfl
      exact hw (m', t', s', d', b5, b6, b7, b8, b9, b10) ⟨Wb, N, by omega, tc_lo_skip hW eM, by rw [← tc_V2_skip eM]; exact h'⟩
    have H1 : (tc_bt W i = true ∧ tc_bt R i = false) → ∀ m t s d a5 a6 a7 a8 a9 a10, tc_P a b 1 1 R (Wb ||| ((1 : Int32) <<< (nI i &&& 31))) (Wb ||| ((1 : Int32) <<< (nI i &&& 31))) (N + 1) (upd (tc_V2 v M i) i (v + nI i)) (m, t, s, d, a5, a6, a7, a8, a9, a10) → wL_lawOf_173 post mc ms v (nI a) (nI b) (nI e) R W x10 x11 kc ks n 1 (nI (i + 1)) m t s d a5 a6 a7 a8 a9 a10 := by
      intro z m t s d a5 a6 a7 a8 a9 a10 k
      have eM : tc_bt M i = true := by
        rw [hMb i (by omega), z.1, z.2]
        rfl
      rw [tc_V2_add eM] at k
      exact hw (m, t, s, d, a5, a6, a7, a8, a9, a10) ⟨_, N + 1, by omega, tc_lo_add (by omega) hW eM, k⟩
    have hWi := tc_lo_i (by omega) hW
    refine pk_le 8 i (fun z => absurd z (by omega)) (fun _ => ek_if (tc_bit1 W (by omega)) (fun g => ?_) (fun g => ?_))
    · unfold wL_lawOf_196
      refine ek_if (tc_bit1 R (by omega)) (fun g2 => tc_214 cx (by omega) hi ?_ ?_ hWi tc_V2_i h' H0 H1) (fun g2 => tc_214 cx (by omega) hi ?_ ?_ hWi tc_V2_i h' H0 H1)
      · exact ⟨fun z => absurd z (by decide), fun z => absurd g (tc_ft z)⟩
      · exact ⟨fun z => absurd z (by decide), fun z => absurd g2 (tc_ft z)⟩
      · exact ⟨fun z => absurd z (by decide), fun z => absurd g (tc_ft z)⟩
      · exact ⟨fun _ => tc_ff g2, fun _ => rfl⟩
    · unfold wL_lawOf_196
      refine ek_if (tc_bit1 R (by omega)) (fun g2 => tc_214 cx (by omega) hi ?_ ?_ hWi tc_V2_i h' H0 H1) (fun g2 => tc_214 cx (by omega) hi ?_ ?_ hWi tc_V2_i h' H0 H1)
      · exact ⟨fun _ => tc_ff g, fun _ => rfl⟩
      · exact ⟨fun z => absurd z (by decide), fun z => absurd g2 (tc_ft z)⟩
      · exact ⟨fun _ => tc_ff g, fun _ => rfl⟩
      · exact ⟨fun _ => tc_ff g2, fun _ => rfl⟩
theorem tc_145 (H : J 1 (nI (i + 1)) m t s d a5 a6 a7 a8 a9 a10) : wL_lawOf_145 post mc ms J v (nI a) (nI b) (nI e) R W x10 x11 1 (nI i) 0 kc ks m t s d a5 a6 a7 a8 a9 a10 := by
  unfold wL_lawOf_145
  exact br_f (by decide) (br_t rfl (nm_r (nI_1 i) H))
theorem tc_114 (cx : tc_cx a b e R M) (hMe : W &&& (R ^^^ (-1)) = M) (hMb : ∀ j, j < 32 → tc_bt M j = (tc_bt W j && !tc_bt R j)) (hp : post 1 ()) (h : tc_P a b 1 1 0 0 0 0 (fun _ => 0) (m, t, s, d, a5, a6, a7, a8, a9, a10)) :
    ∃ n, wL_lawOf_114 post mc ms v (nI a) (nI b) (nI e) R W x10 x11 kc ks n 1 0 m t s d a5 a6 a7 a8 a9 a10 := by
  refine pk_loop (fun n i (u : St2) => wL_lawOf_114 post mc ms v (nI a) (nI b) (nI e) R W x10 x11 kc ks n 1 (nI i) u.1 u.2.1 u.2.2.1 u.2.2.2.1 u.2.2.2.2.1 u.2.2.2.2.2.1 u.2.2.2.2.2.2.1 u.2.2.2.2.2.2.2.1 u.2.2.2.2.2.2.2.2.1 u.2.2.2.2.2.2.2.2.2)
    (fun i u => ∃ Ra : Int32, (∀ j, j < 32 → tc_bt Ra j = (decide (j < i) && tc_bt R j)) ∧ tc_P a b 1 1 Ra 0 0 0 (fun _ => 0) u) 8 0 (m, t, s, d, a5, a6, a7, a8, a9, a10) (by omega)
    ⟨0, fun j _ => by rw [tc_b_0, decide_eq_false (by omega), Bool.false_and], h⟩ ?_ ?_
  · rintro n ⟨m', t', s', d', b5, b6, b7, b8, b9, b10⟩ ⟨Ra, hRa, h'⟩
    have eR := tc_lo_all hRa cx.2.2.2.2.2.2.1
    subst eR
    exact pk_le 8 8 (fun _ => tc_173 cx hMe hMb hp h') (fun z => absurd z (by omega))
  · rintro n i ⟨m', t', s', d', b5, b6, b7, b8, b9, b10⟩ hi ⟨Ra, hRa, h'⟩ hw
    have ok : tc_ok a b 1 1 0 := ⟨cx.1, cx.2.1, cx.2.2.2.1, by omega, by omega, by omega⟩
    refine pk_le 8 i (fun z => absurd z (by omega)) (fun _ => ek_if (tc_bit1 R (by omega)) (fun g => tc_Pread (by omega) ok h' (tc_b_0 _) (fun u' h'' => ?_)) (fun g => tc_145 ?_))
    · obtain ⟨m'', t'', s'', d'', c5, c6, c7, c8, c9, c10⟩ := u'
      exact tc_145 (hw (m'', t'', s'', d'', c5, c6, c7, c8, c9, c10) ⟨_, tc_lo_add (by omega) hRa g, h''⟩)
    · exact hw (m', t', s', d', b5, b6, b7, b8, b9, b10) ⟨Ra, tc_lo_skip hRa (tc_ff g), h'⟩
theorem tc_72 (cx : tc_cx a b e R M) (hMe : W &&& (R ^^^ (-1)) = M) (hMb : ∀ j, j < 32 → tc_bt M j = (tc_bt W j && !tc_bt R j)) (hp : post 1 ()) :
    wL_lawOf_72 post mc ms v (nI a) (nI b) (nI e) R W x10 x11 kc ks (fun _ => 0) (fun _ => 0) (fun _ => 0) (fun _ => 0) (fun _ => 0) (fun _ => 0) (fun _ => 0) (fun _ => 0) (fun _ => 0) (fun _ => 0) := by
  obtain ⟨ha, hb, he, hab, hae, hbe, hR, hM⟩ := id cx
  unfold wL_lawOf_72
  refine tc_begin ha rfl ?_
  try dsimp only
  refine tc_begin hb ?_ (br_t rfl (br_t rfl (tc_114 cx hMe hMb hp (tc_Pbegin hab ha hb))))
  rw [pk_un (fun z => hab z.symm)]
  rfl
end
end
section
/-! the owed statement -/
theorem tc_cell4 {q : Int32 → Prop} {L : Nat} {xs : Nat → Int32} (hL : L ≤ 4) (k : Nat) (hk : k < 4) (H : ∀ r, q r) : wpL_cellAt q L xs () (nI k) := by
  unfold wpL_cellAt
  exact pk_le L k (fun _ => H 0) (fun z => ⟨pk_in k L z, H _⟩)
theorem tc_and3 {n : Nat} (h : n < 8) : nI n &&& 3 = nI (n % 4) := pk_andN (n := n) (by omega) 2 (by decide)
theorem tc_lawOf {post : Int32 → St0 → Prop} (p0 p1 p2 p3 : Int32) (hp : post 1 ()) : wpL_lawOf post 11 498 () p0 p1 p2 p3 := by
  obtain ⟨a, ha, ea⟩ := pk_andE p2 (m := 3) 2 (by decide)
  have ha4 : a < 4 := ha
  have eb : (nI a + 1) &&& 3 = nI ((a + 1) % 4) := by
    rw [nI_1]
    exact tc_and3 (by omega)
  have ee : (nI a + 2) &&& 3 = nI ((a + 2) % 4) := by
    have e2 : nI a + 2 = nI (a + 2) := nI_add a 2
    rw [e2]
    exact tc_and3 (by omega)
  have hMb : ∀ j, j < 32 → tc_bt ((p1 &&& 255) &&& ((p0 &&& 255) ^^^ (-1))) j = (tc_bt (p1 &&& 255) j && !tc_bt (p0 &&& 255) j) := by
    intro j hj
    rw [tc_b_and, tc_b_xor, tc_b_m1 j hj, Bool.xor_true]
  have hlt : ∀ (p : Int32) i, tc_bt (p &&& 255) i = true → i < 8 := by
    intro p i h
    rw [tc_b_and, tc_b_255, Bool.and_eq_true] at h
    exact of_decide_eq_true h.2
  have cx : tc_cx a ((a + 1) % 4) ((a + 2) % 4) (p0 &&& 255) ((p1 &&& 255) &&& ((p0 &&& 255) ^^^ (-1))) := by
    refine ⟨ha4, by omega, by omega, by omega, by omega, by omega, hlt p0, fun i h => ?_⟩
    have h8 : i < 8 := by
      have h' := h
      rw [tc_b_and, Bool.and_eq_true] at h'
      exact hlt p1 i h'.1
    refine ⟨h8, ?_⟩
    rw [hMb i (by omega), Bool.and_eq_true] at h
    have h2 := h.2
    cases hh : tc_bt (p0 &&& 255) i
    · rfl
    · rw [hh] at h2
      exact absurd h2 (by decide)
  unfold wpL_lawOf
  refine ⟨by decide, by decide, 10, 488, by decide, by decide, ?_⟩
  unfold wpX_init
  refine ⟨by decide, by decide, by decide, by decide, by decide, by decide, by decide, by decide, by decide, by decide, by decide, by decide, by decide, by decide, by decide, by decide, by decide, by decide, by decide, by decide, ?_⟩
  try dsimp only
  refine nm_r ea (nm_r eb (nm_r ee (nm_e (nm_e ?_))))
  refine br_c (fun _ => ?_) (fun _ => ?_)
  · unfold wL_lawOf_56
    exact br_c (fun _ => tc_72 cx rfl hMb hp) (fun _ => tc_72 cx rfl hMb hp)
  · unfold wL_lawOf_56
    exact br_c (fun _ => tc_72 cx rfl hMb hp) (fun _ => tc_72 cx rfl hMb hp)
theorem i_vc (xs : Nat → Int32) (L : Nat) (hL : L ≤ 4) : wpL_law (fun r => r = 1) L xs := by
  unfold wpL_law
  exact tc_cell4 hL 0 (by omega) (fun r1 => tc_cell4 hL 1 (by omega) (fun r2 => tc_cell4 hL 2 (by omega) (fun r3 => tc_cell4 hL 3 (by omega) (fun r4 => ⟨11, 498, by decide, by decide, tc_lawOf r1 r2 r3 r4 rfl⟩))))
end
