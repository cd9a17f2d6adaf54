section
/-! pure rows: indices, masks, what packLine lays, the picture of a vector -/
theorem sf_ix (c s k : Nat) : nI c * nI s + nI k = nI (c * s + k) := by rw [pk_mul, nI_add]
theorem sf_i36 (s k : Nat) : (36 : Int32) * nI s + nI k = nI (36 * s + k) := sf_ix 36 s k
theorem sf_i7 (s k : Nat) : (7 : Int32) * nI s + nI k = nI (7 * s + k) := sf_ix 7 s k
theorem sf_i6 (s k : Nat) : (6 : Int32) * nI s + nI k = nI (6 * s + k) := sf_ix 6 s k
theorem sf_m6 (q : Nat) : (6 : Int32) * nI q = nI (6 * q) := pk_mul 6 q
theorem sf_p6 (q : Nat) : (6 : Int32) + nI q = nI (6 + q) := nI_add 6 q
theorem sf_lt31 {n : Nat} (h : n < 1000) : n < 2 ^ 31 := by omega
theorem sf_c {n : Nat} (h : n < 1000) : (nI n).toNatClampNeg = n := nI_clamp (sf_lt31 h)
theorem sf_in {n N : Nat} (h : n < N) (hN : N < 1000) : vp_in (nI n) N := vp_in_nI h (sf_lt31 hN)
theorem sf_ne {n : Nat} (h : n < 1000) : ¬ nI n = -1 := by
  intro z
  have := congrArg Int32.toInt z
  rw [nI_toInt (sf_lt31 h)] at this
  have e : (-1 : Int32).toInt = -1 := by decide
  rw [e] at this
  omega
theorem sf_and (a b : Nat) : nI a &&& nI b = nI (a &&& b) := Int32.toBitVec_inj.1 (BitVec.ofNat_and (w := 32)).symm
theorem sf_or (a b : Nat) : nI a ||| nI b = nI (a ||| b) := Int32.toBitVec_inj.1 (BitVec.ofNat_or (w := 32)).symm
theorem sf_shl : ∀ q, q < 6 → (1 : Int32) <<< (nI q &&& 31) = nI (2 ^ q) := by decide +kernel
theorem sf_bit : ∀ m, m < 64 → ∀ v, v < 6 → ((((nI m) >>> (nI v &&& 31)) &&& 1 = 1) ↔ m.testBit v = true) := by decide +kernel
theorem sf_clr : ∀ m, m < 64 → ∀ v, v < 6 → m.testBit v = true → nI m &&& (((1 : Int32) <<< (nI v &&& 31)) ^^^ (-1)) = nI (m - 2 ^ v) := by decide +kernel
theorem sf_span : ∀ m, m < 64 → nI m &&& (((1 : Int32) <<< ((6 : Int32) &&& 31)) - 1) = nI m := by decide +kernel
/-- the number of bits of a mask of six -/
def sf_pc (m : Nat) : Nat := (m % 2) + (m / 2 % 2) + (m / 4 % 2) + (m / 8 % 2) + (m / 16 % 2) + (m / 32 % 2)
theorem sf_pc6 (m : Nat) : sf_pc m ≤ 6 := by unfold sf_pc; omega
theorem sf_pc0 : ∀ m, m < 64 → sf_pc m = 0 → m = 0 := by decide +kernel
theorem sf_pcs : ∀ m, m < 64 → ∀ v, v < 6 → m.testBit v = true → sf_pc (m - 2 ^ v) + 1 = sf_pc m := by decide +kernel
theorem sf_tb : ∀ m, m < 64 → ∀ v, v < 6 → m.testBit v = true → ∀ w, w < 6 → (m - 2 ^ v).testBit w = (m.testBit w && decide (w ≠ v)) := by decide +kernel
theorem sf_tz : ∀ m, m < 64 → (∀ v, v < 6 → m.testBit v = false) → m = 0 := by decide +kernel
theorem sf_to : ∀ m, m < 64 → ∀ q, q < 6 → m ||| 2 ^ q < 64 := by decide +kernel
theorem sf_tor (m q r : Nat) : (m ||| 2 ^ q).testBit r = (m.testBit r || decide (q = r)) := by rw [Nat.testBit_or, Nat.testBit_two_pow]
theorem sf_a63 : ∀ m, m < 64 → m &&& 63 = m ∧ 63 &&& m = m := by decide +kernel
theorem sf_a64 (a b : Nat) (h : a < 64) : a &&& b < 64 := Nat.lt_of_le_of_lt Nat.and_le_left h
/-- what packLine has laid: e entries from base on, out of the first i places -/
def sf_E (base e i : Nat) (p : Nat → Nat) (w : Nat → Int32) (x6 : Int32) (a8 a9 b8 b9 : Nat → Int32) : Prop :=
  e ≤ i ∧ (∀ k, k < e → p k < i ∧ b8 (base + k) = nI (p k) ∧ b9 (base + k) = w (p k) ∧ (x6 = 0 ∨ w (p k) ≠ 0)) ∧ (∀ k l, k < l → l < e → p k < p l) ∧ (∀ q, q < i → (∃ k, k < e ∧ p k = q) ∨ (w q = 0 ∧ x6 ≠ 0)) ∧ (∀ m, (m < base ∨ base + e ≤ m) → b8 m = a8 m ∧ b9 m = a9 m)
theorem sf_E0 {base : Nat} {p : Nat → Nat} {w : Nat → Int32} {x6 : Int32} {a8 a9 : Nat → Int32} : sf_E base 0 0 p w x6 a8 a9 a8 a9 :=
  ⟨Nat.le_refl 0, fun k h => absurd h (by omega), fun k l _ h => absurd h (by omega), fun q h => absurd h (by omega), fun _ _ => ⟨rfl, rfl⟩⟩
theorem sf_E_skip {base e i : Nat} {p : Nat → Nat} {w : Nat → Int32} {x6 : Int32} {a8 a9 b8 b9 : Nat → Int32} (h : sf_E base e i p w x6 a8 a9 b8 b9) (hw : w i = 0) (hx : ¬ x6 = 0) : sf_E base e (i + 1) p w x6 a8 a9 b8 b9 := by
  obtain ⟨h1, h2, h3, h4, h5⟩ := h
  refine ⟨by omega, fun k hk => ⟨Nat.lt_succ_of_lt (h2 k hk).1, (h2 k hk).2⟩, h3, fun q hq => ?_, h5⟩
  by_cases e : q = i
  · rw [e]
    exact Or.inr ⟨hw, hx⟩
  · exact h4 q (by omega)
theorem sf_E_add {base e i : Nat} {p : Nat → Nat} {w : Nat → Int32} {x6 : Int32} {a8 a9 b8 b9 : Nat → Int32} (h : sf_E base e i p w x6 a8 a9 b8 b9) (hw : x6 = 0 ∨ w i ≠ 0) :
    sf_E base (e + 1) (i + 1) (fun k => if k = e then i else p k) w x6 a8 a9 (upd b8 (base + e) (nI i)) (upd b9 (base + e) (w i)) := by
  obtain ⟨h1, h2, h3, h4, h5⟩ := h
  refine ⟨by omega, fun k hk => ?_, fun k l hkl hl => ?_, fun q hq => ?_, fun m hm => ?_⟩
  · dsimp only
    by_cases ek : k = e
    · subst ek
      rw [if_pos rfl, pk_us, pk_us]
      exact ⟨by omega, rfl, rfl, hw⟩
    · rw [if_neg ek, pk_un (by omega), pk_un (by omega)]
      have t := h2 k (by omega)
      exact ⟨by omega, t.2⟩
  · show (if k = e then i else p k) < (if l = e then i else p l)
    rw [if_neg (show ¬ k = e by omega)]
    by_cases el : l = e
    · rw [if_pos el]
      exact (h2 k (by omega)).1
    · rw [if_neg el]
      exact h3 k l hkl (by omega)
  · by_cases eq : q = i
    · exact Or.inl ⟨e, by omega, (if_pos rfl).trans eq.symm⟩
    · rcases h4 q (by omega) with ⟨k, hk, hpk⟩ | z
      · exact Or.inl ⟨k, by omega, (if_neg (by omega)).trans hpk⟩
      · exact Or.inr z
  · rw [pk_un (by omega), pk_un (by omega)]
    exact h5 m (by omega)
/-- e entries from base on hold the vector v of six -/
def sf_W (base e : Nat) (p : Nat → Nat) (v a8 a9 : Nat → Int32) : Prop :=
  e ≤ 6 ∧ (∀ k, k < e → p k < 6 ∧ a8 (base + k) = nI (p k) ∧ a9 (base + k) = v (p k)) ∧ (∀ k l, k < l → l < e → p k < p l) ∧ (∀ q, q < 6 → (∃ k, k < e ∧ p k = q) ∨ v q = 0)
/-- slot s is the vector v, in one of the two formats -/
def sf_V (s : Nat) (v : Nat → Int32) (a1 a2 a3 a4 a5 a6 a7 a8 a9 : Nat → Int32) : Prop :=
  ∃ (f e : Nat) (p : Nat → Nat), f < 2 ∧ a1 s = 1 ∧ a2 s = 6 ∧ a3 s = 1 ∧ a4 s = nI f ∧ a5 s = 1 ∧ a6 (6 * s) = 0 ∧ a7 (7 * s) = 0 ∧ a7 (7 * s + 1) = nI e ∧ sf_W (36 * s) e p v a8 a9
/-- r is where the number v q of slot s stands, or -1 and v q is 0 -/
def sf_G (s : Nat) (v : Nat → Int32) (q : Nat) (r : Int32) (a9 : Nat → Int32) : Prop :=
  (r = -1 ∧ v q = 0) ∨ (∃ k, k < 6 ∧ r = nI k ∧ a9 (36 * s + k) = v q)
theorem sf_W_of {base e : Nat} {p : Nat → Nat} {w : Nat → Int32} {x6 : Int32} {a8 a9 b8 b9 : Nat → Int32} (h : sf_E base e 6 p w x6 a8 a9 b8 b9) : sf_W base e p w b8 b9 := by
  obtain ⟨h1, h2, h3, h4, h5⟩ := h
  refine ⟨h1, fun k hk => ⟨(h2 k hk).1, (h2 k hk).2.1, (h2 k hk).2.2.1⟩, h3, fun q hq => ?_⟩
  rcases h4 q hq with z | z
  · exact Or.inl z
  · exact Or.inr z.1
theorem sf_W_frame {base e : Nat} {p : Nat → Nat} {v a8 a9 b8 b9 : Nat → Int32} (h : sf_W base e p v a8 a9) (hk : ∀ k, k < 6 → b8 (base + k) = a8 (base + k) ∧ b9 (base + k) = a9 (base + k)) : sf_W base e p v b8 b9 := by
  obtain ⟨h1, h2, h3, h4⟩ := h
  refine ⟨h1, fun k h => ?_, h3, h4⟩
  rw [(hk k (by omega)).1, (hk k (by omega)).2]
  exact h2 k h
/-- a vector made of another's contents that agree below six -/
theorem sf_W_ext {base e : Nat} {p : Nat → Nat} {v w a8 a9 : Nat → Int32} (h : sf_W base e p v a8 a9) (hv : ∀ q, q < 6 → v q = w q) : sf_W base e p w a8 a9 := by
  obtain ⟨h1, h2, h3, h4⟩ := h
  refine ⟨h1, fun k hk => ?_, h3, fun q hq => ?_⟩
  · rw [← hv _ (h2 k hk).1]
    exact h2 k hk
  · rw [← hv q hq]
    exact h4 q hq
theorem sf_V_ext {s : Nat} {v w a1 a2 a3 a4 a5 a6 a7 a8 a9 : Nat → Int32} (h : sf_V s v a1 a2 a3 a4 a5 a6 a7 a8 a9) (hv : ∀ q, q < 6 → v q = w q) : sf_V s w a1 a2 a3 a4 a5 a6 a7 a8 a9 := by
  obtain ⟨f, e, p, h1, h2, h3, h4, h5, h6, h7, h8, h9, h10⟩ := h
  exact ⟨f, e, p, h1, h2, h3, h4, h5, h6, h7, h8, h9, sf_W_ext h10 hv⟩
/-- one number x at place i -/
def sf_one (i : Nat) (x : Int32) : Nat → Int32 := fun q => if q = i then x else 0
theorem sf_one_s (i : Nat) (x : Int32) : sf_one i x i = x := if_pos rfl
theorem sf_one_n {i q : Nat} (x : Int32) (h : q ≠ i) : sf_one i x q = 0 := if_neg h
theorem sf_zmul (x : Int32) : (0 : Int32) * x = 0 := Int32.zero_mul
theorem sf_mulz (x : Int32) : x * (0 : Int32) = 0 := Int32.mul_zero
end
section
/-! clearPlain, the little questions about a slot, packLine -/
section
variable {c0 c1 c2 c3 : Int32} {a1 a2 a3 a4 a5 a6 a7 a8 a9 a10 a11 a12 a13 a14 a15 a16 a17 a18 a19 a20 a21 a22 a23 a24 a25 a26 a27 a28 : Nat → Int32}
theorem sf_fill0 {s : Nat → Int32} {i : Nat} {x : Int32} (h : ∀ j, j < i → s j = x) : ∀ j, j < i + 1 → upd s i x j = x := by
  intro j hj
  by_cases e : j = i
  · rw [e, pk_us]
  · rw [pk_un e]
    exact h j (by omega)
theorem sf_clear {post : St2 → Prop} (H : ∀ b, (∀ k, k < 36 → b k = 0) → post (c0, c1, c2, c3, a1, a2, a3, a4, a5, a6, a7, a8, a9, a10, a11, a12, a13, a14, a15, a16, a17, b, a19, a20, a21, a22, a23, a24, a25, a26, a27, a28)) : wpX_clearPlain post (c0, c1, c2, c3, a1, a2, a3, a4, a5, a6, a7, a8, a9, a10, a11, a12, a13, a14, a15, a16, a17, a18, a19, a20, a21, a22, a23, a24, a25, a26, a27, a28) :=
  pk_loop (fun n i s => wX_clearPlain_2 post c0 c1 c2 c3 n (nI i) a1 a2 a3 a4 a5 a6 a7 a8 a9 a10 a11 a12 a13 a14 a15 a16 a17 s a19 a20 a21 a22 a23 a24 a25 a26 a27 a28) (fun i s => ∀ j, j < i → s j = 0) 36 0 a18 (by omega) (fun j hj => absurd hj (by omega))
    (fun n s h => pk_le 36 36 (fun _ => H s h) (fun z => absurd z (by omega)))
    (fun n i s hi h hw => pk_le 36 i (fun z => absurd z (by omega)) (fun _ => ⟨pk_in i 36 hi, nm_r (e' := upd s i 0) (by rw [nI_clamp (by omega)]) (nm_r (nI_1 i) (hw _ (sf_fill0 h)))⟩))
theorem sf_isTurned {post : Int32 → Prop} {s : Nat} (hs : s < 13) (h : a1 s = 2 → a4 s < 4) (hp : post 0) : wpX_isTurned post (c0, c1, c2, c3, a1, a2, a3, a4, a5, a6, a7, a8, a9, a10, a11, a12, a13, a14, a15, a16, a17, a18, a19, a20, a21, a22, a23, a24, a25, a26, a27, a28) (nI s) := by
  unfold wpX_isTurned
  rw [sf_c (show s < 1000 by omega)]
  exact ⟨sf_in hs (by omega), br_c (fun z => ⟨sf_in hs (by omega), br_t (h z) hp⟩) (fun _ => hp)⟩
theorem sf_lt34 : (3 : Int32) < 4 := by decide
theorem sf_le22 : (2 : Int32) ≤ 2 := by decide
theorem sf_lineCount_low {post : Int32 → Prop} {s : Nat} (hs : s < 13) (h : ¬ 2 ≤ a1 s) (hp : post 1) : wpX_lineCount post (c0, c1, c2, c3, a1, a2, a3, a4, a5, a6, a7, a8, a9, a10, a11, a12, a13, a14, a15, a16, a17, a18, a19, a20, a21, a22, a23, a24, a25, a26, a27, a28) (nI s) := by
  unfold wpX_lineCount
  rw [sf_c (show s < 1000 by omega)]
  exact ⟨sf_in hs (by omega), br_f h hp⟩
theorem sf_lineCount_mat {post : Int32 → Prop} {s : Nat} (hs : s < 13) (h : a1 s = 2) (h4 : a4 s = 3) (hp : post (a2 s)) : wpX_lineCount post (c0, c1, c2, c3, a1, a2, a3, a4, a5, a6, a7, a8, a9, a10, a11, a12, a13, a14, a15, a16, a17, a18, a19, a20, a21, a22, a23, a24, a25, a26, a27, a28) (nI s) := by
  unfold wpX_lineCount
  rw [sf_c (show s < 1000 by omega)]
  exact ⟨sf_in hs (by omega), br_t (by rw [h]; exact sf_le22) (sf_isTurned hs (fun _ => by rw [h4]; exact sf_lt34) (br_t rfl ⟨sf_in hs (by omega), hp⟩))⟩
theorem sf_skipsLines_low {post : Int32 → Prop} {s : Nat} (hs : s < 13) (h : ¬ a1 s = 2) (hp : post 0) : wpX_skipsLines post (c0, c1, c2, c3, a1, a2, a3, a4, a5, a6, a7, a8, a9, a10, a11, a12, a13, a14, a15, a16, a17, a18, a19, a20, a21, a22, a23, a24, a25, a26, a27, a28) (nI s) := by
  unfold wpX_skipsLines
  rw [sf_c (show s < 1000 by omega)]
  exact ⟨sf_in hs (by omega), br_f h hp⟩
theorem sf_skipsLines_mat {post : Int32 → Prop} {s : Nat} (hs : s < 13) (h : a1 s = 2) (h4 : a4 s = 3) (hp : post 1) : wpX_skipsLines post (c0, c1, c2, c3, a1, a2, a3, a4, a5, a6, a7, a8, a9, a10, a11, a12, a13, a14, a15, a16, a17, a18, a19, a20, a21, a22, a23, a24, a25, a26, a27, a28) (nI s) := by
  unfold wpX_skipsLines
  rw [sf_c (show s < 1000 by omega)]
  exact ⟨sf_in hs (by omega), br_t h ⟨sf_in hs (by omega), br_f (by rw [h4]; decide) hp⟩⟩
theorem sf_lineLength_low {post : Int32 → Prop} {s : Nat} (hs : s < 13) (h : ¬ 2 ≤ a1 s) (hp : post (a2 s)) : wpX_lineLength post (c0, c1, c2, c3, a1, a2, a3, a4, a5, a6, a7, a8, a9, a10, a11, a12, a13, a14, a15, a16, a17, a18, a19, a20, a21, a22, a23, a24, a25, a26, a27, a28) (nI s) := by
  unfold wpX_lineLength
  rw [sf_c (show s < 1000 by omega)]
  exact ⟨sf_in hs (by omega), br_f h ⟨sf_in hs (by omega), hp⟩⟩
theorem sf_lineLength_mat {post : Int32 → Prop} {s : Nat} (hs : s < 13) (h : a1 s = 2) (h4 : a4 s = 3) (hp : post (a3 s)) : wpX_lineLength post (c0, c1, c2, c3, a1, a2, a3, a4, a5, a6, a7, a8, a9, a10, a11, a12, a13, a14, a15, a16, a17, a18, a19, a20, a21, a22, a23, a24, a25, a26, a27, a28) (nI s) := by
  unfold wpX_lineLength
  rw [sf_c (show s < 1000 by omega)]
  exact ⟨sf_in hs (by omega), br_t (by rw [h]; exact sf_le22) (sf_isTurned hs (fun _ => by rw [h4]; exact sf_lt34) (br_t rfl ⟨sf_in hs (by omega), hp⟩))⟩
theorem sf_skipsPlaces_low {post : Int32 → Prop} {s : Nat} (hs : s < 13) (hp : ∀ x, (a1 s ≤ 0 → x = 0) → post x) : wpX_skipsPlaces post (c0, c1, c2, c3, a1, a2, a3, a4, a5, a6, a7, a8, a9, a10, a11, a12, a13, a14, a15, a16, a17, a18, a19, a20, a21, a22, a23, a24, a25, a26, a27, a28) (nI s) := by
  unfold wpX_skipsPlaces
  rw [sf_c (show s < 1000 by omega)]
  exact ⟨sf_in hs (by omega), br_c (fun _ => hp 0 (fun _ => rfl)) (fun z => ⟨sf_in hs (by omega), br_c (fun _ => hp 0 (fun _ => rfl)) (fun _ => hp 1 (fun y => absurd y z))⟩)⟩
theorem sf_skipsPlaces_mat {post : Int32 → Prop} {s : Nat} (hs : s < 13) (h : a1 s = 2) (h4 : a4 s = 3) (hp : post 1) : wpX_skipsPlaces post (c0, c1, c2, c3, a1, a2, a3, a4, a5, a6, a7, a8, a9, a10, a11, a12, a13, a14, a15, a16, a17, a18, a19, a20, a21, a22, a23, a24, a25, a26, a27, a28) (nI s) := by
  unfold wpX_skipsPlaces
  rw [sf_c (show s < 1000 by omega)]
  exact ⟨sf_in hs (by omega), br_f (by rw [h]; decide) ⟨sf_in hs (by omega), br_f (by rw [h4]; decide) hp⟩⟩
theorem sf_plainAt_low {post : Int32 → Prop} {s q : Nat} {x : Int32} (hs : s < 13) (hq : q < 6) (h : ¬ 2 ≤ a1 s) (hp : post (a18 (6 * q))) : wpX_plainAt post (c0, c1, c2, c3, a1, a2, a3, a4, a5, a6, a7, a8, a9, a10, a11, a12, a13, a14, a15, a16, a17, a18, a19, a20, a21, a22, a23, a24, a25, a26, a27, a28) (nI s) x (nI q) := by
  unfold wpX_plainAt
  rw [sf_c (show s < 1000 by omega), sf_m6, sf_c (show 6 * q < 1000 by omega)]
  exact ⟨sf_in hs (by omega), br_f h ⟨sf_in (by omega) (by omega), hp⟩⟩
theorem sf_plainAt_mat {post : Int32 → Prop} {s l q : Nat} (hs : s < 13) (hl : l < 6) (hq : q < 6) (h : a1 s = 2) (h4 : a4 s = 3) (hp : post (a18 (6 * l + q))) : wpX_plainAt post (c0, c1, c2, c3, a1, a2, a3, a4, a5, a6, a7, a8, a9, a10, a11, a12, a13, a14, a15, a16, a17, a18, a19, a20, a21, a22, a23, a24, a25, a26, a27, a28) (nI s) (nI l) (nI q) := by
  unfold wpX_plainAt
  rw [sf_c (show s < 1000 by omega), sf_i6, sf_c (show 6 * l + q < 1000 by omega)]
  exact ⟨sf_in hs (by omega), br_t (by rw [h]; exact sf_le22) (sf_isTurned hs (fun _ => by rw [h4]; exact sf_lt34) (br_t rfl ⟨sf_in (by omega) (by omega), hp⟩))⟩
theorem sf_packLine20 {post : Int32 → St2 → Prop} {s n b : Nat} {x2 x6 : Int32} {w : Nat → Int32} (hs : s < 13) (hn : n ≤ 6) (hb : b + n ≤ 36)
    (hw : ∀ (ψ : Int32 → Prop) (b8 b9 : Nat → Int32) (q : Nat), q < n → ψ (w q) → wpX_plainAt ψ (c0, c1, c2, c3, a1, a2, a3, a4, a5, a6, a7, b8, b9, a10, a11, a12, a13, a14, a15, a16, a17, a18, a19, a20, a21, a22, a23, a24, a25, a26, a27, a28) (nI s) x2 (nI q))
    (H : ∀ (e : Nat) (p : Nat → Nat) (b8 b9 : Nat → Int32), sf_E (36 * s + b) e n p w x6 a8 a9 b8 b9 → post (nI (b + e)) (c0, c1, c2, c3, a1, a2, a3, a4, a5, a6, a7, b8, b9, a10, a11, a12, a13, a14, a15, a16, a17, a18, a19, a20, a21, a22, a23, a24, a25, a26, a27, a28)) :
    ∃ fu, wX_packLine_20 post (nI s) x2 (nI n) x6 c0 c1 c2 c3 fu (nI b) 0 a1 a2 a3 a4 a5 a6 a7 a8 a9 a10 a11 a12 a13 a14 a15 a16 a17 a18 a19 a20 a21 a22 a23 a24 a25 a26 a27 a28 := by
  refine pk_loop (σ := Nat × (Nat → Nat) × (Nat → Int32) × (Nat → Int32)) (fun m i t => wX_packLine_20 post (nI s) x2 (nI n) x6 c0 c1 c2 c3 m (nI (b + t.1)) (nI i) a1 a2 a3 a4 a5 a6 a7 t.2.2.1 t.2.2.2 a10 a11 a12 a13 a14 a15 a16 a17 a18 a19 a20 a21 a22 a23 a24 a25 a26 a27 a28) (fun i t => sf_E (36 * s + b) t.1 i t.2.1 w x6 a8 a9 t.2.2.1 t.2.2.2) n 0 (0, id, a8, a9) (by omega) sf_E0 ?_ ?_
  · intro m t h
    obtain ⟨e, p, b8, b9⟩ := t
    exact pk_le n n (fun _ => H e p b8 b9 h) (fun z => absurd z (by omega))
  · intro m i t hi h hk
    obtain ⟨e, p, b8, b9⟩ := t
    dsimp only at h ⊢
    have he : e ≤ i := h.1
    have A : (x6 = 0 ∨ w i ≠ 0) → wX_packLine_47 post (wX_packLine_20 post (nI s) x2 (nI n) x6 c0 c1 c2 c3 m) (nI s) x2 (nI (b + e)) (nI n) x6 (nI i) (w i) c0 c1 c2 c3 a1 a2 a3 a4 a5 a6 a7 b8 b9 a10 a11 a12 a13 a14 a15 a16 a17 a18 a19 a20 a21 a22 a23 a24 a25 a26 a27 a28 := by
      intro hx
      have t := hk (e + 1, (fun k => if k = e then i else p k), upd b8 (36 * s + b + e) (nI i), upd b9 (36 * s + b + e) (w i)) (sf_E_add h hx)
      unfold wX_packLine_47
      rw [sf_i36, sf_c (show 36 * s + (b + e) < 1000 by omega), show 36 * s + (b + e) = 36 * s + b + e by omega]
      exact ⟨sf_in (by omega) (by omega), nm_e ⟨sf_in (by omega) (by omega), nm_e (nm_r (nI_1 _) (nm_r (nI_1 i) t))⟩⟩
    exact pk_le n i (fun z => absurd z (by omega)) (fun _ => hw _ b8 b9 i hi (br_c (fun z => br_c (fun z6 => A (Or.inl z6)) (fun z6 => nm_r (nI_1 i) (hk (e, p, b8, b9) (sf_E_skip h z z6)))) (fun z => A (Or.inr z))))
theorem sf_packLine_low {post : Int32 → St2 → Prop} {s n : Nat} {x : Int32} {w : Nat → Int32} (hs : s < 13) (hn : n ≤ 6) (hr : ¬ 2 ≤ a1 s) (h2 : a2 s = nI n) (hw : ∀ q, q < n → a18 (6 * q) = w q)
    (H : ∀ (x6 : Int32) (e : Nat) (p : Nat → Nat) (b8 b9 : Nat → Int32), (a1 s ≤ 0 → x6 = 0) → sf_E (36 * s) e n p w x6 a8 a9 b8 b9 → post (nI e) (c0, c1, c2, c3, a1, a2, a3, a4, a5, a6, a7, b8, b9, a10, a11, a12, a13, a14, a15, a16, a17, a18, a19, a20, a21, a22, a23, a24, a25, a26, a27, a28)) :
    wpX_packLine post (c0, c1, c2, c3, a1, a2, a3, a4, a5, a6, a7, a8, a9, a10, a11, a12, a13, a14, a15, a16, a17, a18, a19, a20, a21, a22, a23, a24, a25, a26, a27, a28) (nI s) x 0 := by
  unfold wpX_packLine
  refine sf_lineLength_low hs hr (sf_skipsPlaces_low hs (fun x6 hx => ?_))
  rw [h2]
  refine sf_packLine20 (b := 0) (w := w) hs hn (by omega) (fun ψ b8 b9 q hq hψ => sf_plainAt_low hs (by omega) hr (by rw [hw q hq]; exact hψ)) (fun e p b8 b9 h => ?_)
  rw [Nat.zero_add]
  exact H x6 e p b8 b9 hx h
theorem sf_packLine_mat {post : Int32 → St2 → Prop} {s l n b : Nat} {w : Nat → Int32} (hs : s < 13) (hl : l < 6) (hn : n ≤ 6) (hb : b + n ≤ 36) (h1 : a1 s = 2) (h4 : a4 s = 3) (h3 : a3 s = nI n) (hw : ∀ q, q < n → a18 (6 * l + q) = w q)
    (H : ∀ (e : Nat) (p : Nat → Nat) (b8 b9 : Nat → Int32), sf_E (36 * s + b) e n p w 1 a8 a9 b8 b9 → post (nI (b + e)) (c0, c1, c2, c3, a1, a2, a3, a4, a5, a6, a7, b8, b9, a10, a11, a12, a13, a14, a15, a16, a17, a18, a19, a20, a21, a22, a23, a24, a25, a26, a27, a28)) :
    wpX_packLine post (c0, c1, c2, c3, a1, a2, a3, a4, a5, a6, a7, a8, a9, a10, a11, a12, a13, a14, a15, a16, a17, a18, a19, a20, a21, a22, a23, a24, a25, a26, a27, a28) (nI s) (nI l) (nI b) := by
  unfold wpX_packLine
  refine sf_lineLength_mat hs h1 h4 (sf_skipsPlaces_mat hs h1 h4 ?_)
  rw [h3]
  exact sf_packLine20 (w := w) hs hn hb (fun ψ b8 b9 q hq hψ => sf_plainAt_mat hs hl (by omega) h1 h4 (by rw [hw q hq]; exact hψ)) H
end
end
section
/-! pack of a slot of rank 0 or 1; unpack, findPlace, findLine, position over a vector -/
section
variable {c0 c1 c2 c3 : Int32} {a1 a2 a3 a4 a5 a6 a7 a8 a9 a10 a11 a12 a13 a14 a15 a16 a17 a18 a19 a20 a21 a22 a23 a24 a25 a26 a27 a28 : Nat → Int32}
theorem sf_i6z (s : Nat) : (6 : Int32) * nI s + 0 = nI (6 * s) := sf_ix 6 s 0
theorem sf_i7z (s : Nat) : (7 : Int32) * nI s + 0 = nI (7 * s) := sf_ix 7 s 0
theorem sf_i36z (s : Nat) : (36 : Int32) * nI s + 0 = nI (36 * s) := sf_ix 36 s 0
theorem sf_i7o (s : Nat) : (7 : Int32) * nI s + 1 = nI (7 * s + 1) := sf_ix 7 s 1
theorem sf_0p1 : (0 : Int32) + 1 = 1 := by decide
theorem sf_pack_low {post : St2 → Prop} {s n : Nat} {r m f : Int32} {w : Nat → Int32} (hs : s < 13) (hr : ¬ 2 ≤ r) (hn : n ≤ 6) (hw : ∀ q, q < n → a18 (6 * q) = w q)
    (H : ∀ (x6 : Int32) (e : Nat) (p : Nat → Nat) (b8 b9 : Nat → Int32), (r ≤ 0 → x6 = 0) → sf_E (36 * s) e n p w x6 a8 a9 b8 b9 → post (c0, c1, c2, c3, upd a1 s r, upd a2 s (nI n), upd a3 s m, upd a4 s f, upd (upd a5 s 0) s 1, upd a6 (6 * s) 0, upd (upd a7 (7 * s) 0) (7 * s + 1) (nI e), b8, b9, a10, a11, a12, a13, a14, a15, a16, a17, a18, a19, a20, a21, a22, a23, a24, a25, a26, a27, a28)) :
    wpX_pack post (c0, c1, c2, c3, a1, a2, a3, a4, a5, a6, a7, a8, a9, a10, a11, a12, a13, a14, a15, a16, a17, a18, a19, a20, a21, a22, a23, a24, a25, a26, a27, a28) (nI s) r (nI n) m f := by
  have hr2 : ¬ r = 2 := fun z => hr (by rw [z]; exact sf_le22)
  unfold wpX_pack
  rw [sf_c (show s < 1000 by omega)]
  refine ⟨sf_in hs (by omega), nm_e ⟨sf_in hs (by omega), nm_e ⟨sf_in hs (by omega), nm_e ⟨sf_in hs (by omega), nm_e ⟨sf_in hs (by omega), nm_e ?_⟩⟩⟩⟩⟩
  refine sf_lineCount_low hs (by rw [pk_us]; exact hr) (sf_skipsLines_low hs (by rw [pk_us]; exact hr2) ⟨2, ?_⟩)
  refine pk_le 1 0 (fun z => absurd z (by omega)) (fun _ => br_t rfl ?_)
  unfold wX_pack_79
  rw [sf_c (show s < 1000 by omega), pk_us, sf_i6z, sf_i7z, sf_c (show 6 * s < 1000 by omega), sf_c (show 7 * s < 1000 by omega)]
  refine ⟨sf_in hs (by omega), sf_in (by omega) (by omega), nm_e ⟨sf_in hs (by omega), sf_in (by omega) (by omega), nm_e ?_⟩⟩
  refine sf_packLine_low (w := w) hs hn (by rw [pk_us]; exact hr) pk_us hw (fun x6 e p b8 b9 hx hE => ?_)
  rw [pk_us] at hx
  dsimp only
  rw [pk_us]
  refine ⟨sf_in hs (by omega), sf_in hs (by omega), nm_r (e' := upd (upd a5 s 0) s 1) (by rw [sf_0p1]) (nm_r (e' := nI 1) sf_0p1 ?_)⟩
  refine pk_le 1 1 (fun _ => ?_) (fun z => absurd z (by omega))
  rw [sf_c (show s < 1000 by omega), pk_us, sf_i7o, sf_c (show 7 * s + 1 < 1000 by omega)]
  exact ⟨sf_in hs (by omega), sf_in (by omega) (by omega), nm_e (H x6 e p b8 b9 hx hE)⟩
theorem sf_V_frame {s t e n : Nat} {p : Nat → Nat} {r y m f z x6 : Int32} {u w b8 b9 : Nat → Int32} (h : t ≠ s) (hn : n ≤ 6) (hE : sf_E (36 * s) e n p w x6 a8 a9 b8 b9) (hV : sf_V t u a1 a2 a3 a4 a5 a6 a7 a8 a9) :
    sf_V t u (upd a1 s r) (upd a2 s y) (upd a3 s m) (upd a4 s f) (upd (upd a5 s 0) s 1) (upd a6 (6 * s) 0) (upd (upd a7 (7 * s) 0) (7 * s + 1) z) b8 b9 := by
  obtain ⟨f, e', p', h1, h2, h3, h4, h5, h6, h7, h8, h9, h10⟩ := hV
  have he := hE.1
  refine ⟨f, e', p', h1, ?_, ?_, ?_, ?_, ?_, ?_, ?_, ?_, sf_W_frame h10 (fun k hk => hE.2.2.2.2 (36 * t + k) (by omega))⟩
  · rw [pk_un h]; exact h2
  · rw [pk_un h]; exact h3
  · rw [pk_un h]; exact h4
  · rw [pk_un h]; exact h5
  · rw [pk_un h, pk_un h]; exact h6
  · rw [pk_un (by omega)]; exact h7
  · rw [pk_un (by omega), pk_un (by omega)]; exact h8
  · rw [pk_un (by omega), pk_un (by omega)]; exact h9
theorem sf_V_new {s e f : Nat} {p : Nat → Nat} {x6 : Int32} {w b8 b9 : Nat → Int32} (hf : f < 2) (hE : sf_E (36 * s) e 6 p w x6 a8 a9 b8 b9) :
    sf_V s w (upd a1 s 1) (upd a2 s (nI 6)) (upd a3 s 1) (upd a4 s (nI f)) (upd (upd a5 s 0) s 1) (upd a6 (6 * s) 0) (upd (upd a7 (7 * s) 0) (7 * s + 1) (nI e)) b8 b9 := by
  refine ⟨f, e, p, hf, pk_us, pk_us, pk_us, pk_us, pk_us, pk_us, ?_, pk_us, sf_W_of hE⟩
  rw [pk_un (by omega), pk_us]
theorem sf_packV {post : St2 → Prop} {s f : Nat} {v : Nat → Int32} (hs : s < 13) (hf : f < 2) (hv : ∀ q, q < 6 → a18 (6 * q) = v q)
    (H : ∀ b1 b2 b3 b4 b5 b6 b7 b8 b9 : Nat → Int32, sf_V s v b1 b2 b3 b4 b5 b6 b7 b8 b9 → (∀ (t : Nat) (u : Nat → Int32), t ≠ s → sf_V t u a1 a2 a3 a4 a5 a6 a7 a8 a9 → sf_V t u b1 b2 b3 b4 b5 b6 b7 b8 b9) → post (c0, c1, c2, c3, b1, b2, b3, b4, b5, b6, b7, b8, b9, a10, a11, a12, a13, a14, a15, a16, a17, a18, a19, a20, a21, a22, a23, a24, a25, a26, a27, a28)) :
    wpX_pack post (c0, c1, c2, c3, a1, a2, a3, a4, a5, a6, a7, a8, a9, a10, a11, a12, a13, a14, a15, a16, a17, a18, a19, a20, a21, a22, a23, a24, a25, a26, a27, a28) (nI s) 1 6 1 (nI f) :=
  sf_pack_low (n := 6) (w := v) hs (by decide) (by omega) hv (fun x6 e p b8 b9 _ hE => H _ _ _ _ _ _ _ _ _ (sf_V_new hf hE) (fun t u h hV => sf_V_frame h (by omega) hE hV))
/-- the inner loop of unpack over a vector: plain becomes v -/
theorem sf_unpack56 {post : St2 → Prop} {J : Int32 → (Nat → Int32) → (Nat → Int32) → (Nat → Int32) → (Nat → Int32) → (Nat → Int32) → (Nat → Int32) → (Nat → Int32) → (Nat → Int32) → (Nat → Int32) → (Nat → Int32) → (Nat → Int32) → (Nat → Int32) → (Nat → Int32) → (Nat → Int32) → (Nat → Int32) → (Nat → Int32) → (Nat → Int32) → (Nat → Int32) → (Nat → Int32) → (Nat → Int32) → (Nat → Int32) → (Nat → Int32) → (Nat → Int32) → (Nat → Int32) → (Nat → Int32) → (Nat → Int32) → (Nat → Int32) → (Nat → Int32) → Prop} {s e : Nat} {p : Nat → Nat} {v : Nat → Int32} (hs : s < 13) (h1 : a1 s = 1) (hW : sf_W (36 * s) e p v a8 a9) (h0 : ∀ k, k < 36 → a18 k = 0)
    (H : ∀ b, (∀ q, q < 6 → b (6 * q) = v q) → J (nI 1) a1 a2 a3 a4 a5 a6 a7 a8 a9 a10 a11 a12 a13 a14 a15 a16 a17 b a19 a20 a21 a22 a23 a24 a25 a26 a27 a28) :
    ∃ fu, wX_unpack_56 post J (nI s) 0 0 (nI e) c0 c1 c2 c3 fu 0 a1 a2 a3 a4 a5 a6 a7 a8 a9 a10 a11 a12 a13 a14 a15 a16 a17 a18 a19 a20 a21 a22 a23 a24 a25 a26 a27 a28 := by
  obtain ⟨w1, w2, w3, w4⟩ := hW
  refine pk_loop (fun n c b => wX_unpack_56 post J (nI s) 0 0 (nI e) c0 c1 c2 c3 n (nI c) a1 a2 a3 a4 a5 a6 a7 a8 a9 a10 a11 a12 a13 a14 a15 a16 a17 b a19 a20 a21 a22 a23 a24 a25 a26 a27 a28) (fun c b => (∀ k, k < c → b (6 * p k) = v (p k)) ∧ (∀ q, q < 6 → (∀ k, k < c → p k ≠ q) → b (6 * q) = 0)) e 0 a18 (by omega) ⟨fun k hk => absurd hk (by omega), fun q hq _ => h0 _ (by omega)⟩ ?_ ?_
  · intro n b h
    refine pk_le e e (fun _ => nm_r (e' := nI 1) sf_0p1 (H b (fun q hq => ?_))) (fun z => absurd z (by omega))
    by_cases hk : ∃ k, k < e ∧ p k = q
    · obtain ⟨k, hk, hp⟩ := hk
      rw [← hp]
      exact h.1 k hk
    · rw [h.2 q hq (fun k hk' hp => hk ⟨k, hk', hp⟩)]
      rcases w4 q hq with z | z
      · exact absurd z hk
      · exact z.symm
  · intro n c b hc h hk
    have hpc := (w2 c hc).1
    have t := hk (upd b (6 * p c) (v (p c))) ⟨fun k hk => by
        by_cases e : k = c
        · rw [e, pk_us]
        · have := w3 k c (by omega) hc
          rw [pk_un (by omega)]
          exact h.1 k (by omega), fun q hq hn => by
        have := hn c (by omega)
        rw [pk_un (by omega)]
        exact h.2 q hq (fun k hk => hn k (by omega))⟩
    refine pk_le e c (fun z => absurd z (by omega)) (fun _ => ?_)
    rw [sf_i36, sf_c (show 36 * s + c < 1000 by omega), sf_c (show s < 1000 by omega)]
    refine ⟨sf_in (by omega) (by omega), nm_r (w2 c hc).2.1 ⟨sf_in hs (by omega), br_f (by rw [h1]; decide) ?_⟩⟩
    unfold wX_unpack_120
    rw [sf_i36, sf_m6, sf_c (show 36 * s + c < 1000 by omega), sf_c (show 6 * p c < 1000 by omega), (w2 c hc).2.2]
    exact ⟨sf_in (by omega) (by omega), sf_in (by omega) (by omega), nm_e (nm_r (nI_1 c) t)⟩
theorem sf_unpack {post : St2 → Prop} {s : Nat} {v : Nat → Int32} (hs : s < 13) (hV : sf_V s v a1 a2 a3 a4 a5 a6 a7 a8 a9) (H : ∀ b, (∀ q, q < 6 → b (6 * q) = v q) → post (c0, c1, c2, c3, a1, a2, a3, a4, a5, a6, a7, a8, a9, a10, a11, a12, a13, a14, a15, a16, a17, b, a19, a20, a21, a22, a23, a24, a25, a26, a27, a28)) : wpX_unpack post (c0, c1, c2, c3, a1, a2, a3, a4, a5, a6, a7, a8, a9, a10, a11, a12, a13, a14, a15, a16, a17, a18, a19, a20, a21, a22, a23, a24, a25, a26, a27, a28) (nI s) := by
  obtain ⟨f, e, p, h0, h1, h2, h3, h4, h5, h6, h7, h8, h9⟩ := hV
  unfold wpX_unpack
  refine sf_clear (fun b hb => ⟨2, And.intro (sf_in hs (by omega)) (br_f (by rw [sf_c (show s < 1000 by omega), h5]; decide) ?_)⟩)
  rw [sf_i6z, sf_i7z, nI_1, sf_c (show 6 * s < 1000 by omega), sf_c (show 7 * s < 1000 by omega), sf_c (show 7 * s + 1 < 1000 by omega)]
  refine ⟨sf_in (by omega) (by omega), nm_r h6 ⟨sf_in (by omega) (by omega), nm_r h8 ⟨sf_in (by omega) (by omega), nm_r h7 ?_⟩⟩⟩
  refine sf_unpack56 hs h1 h9 hb (fun b' hb' => ?_)
  exact And.intro (sf_in hs (by omega)) (br_t (by rw [sf_c (show s < 1000 by omega), h5]; decide) (H b' hb'))
end
end
section
/-! findPlace (by halves), findLine, position; make, put, copy, array, join -/
section
variable {c0 c1 c2 c3 : Int32} {a1 a2 a3 a4 a5 a6 a7 a8 a9 a10 a11 a12 a13 a14 a15 a16 a17 a18 a19 a20 a21 a22 a23 a24 a25 a26 a27 a28 : Nat → Int32}
theorem sf_hi {hi lo : Nat} (h : hi < 1000) (hl : lo < 1000) : (nI hi - 1 < nI lo) ↔ hi ≤ lo := by
  cases hi with
  | zero =>
    refine ⟨fun _ => Nat.zero_le _, fun _ => ?_⟩
    exact Int32.lt_iff_toInt_lt.mpr (by
      rw [nI_toInt (sf_lt31 hl)]
      have e : (nI 0 - 1).toInt = -1 := by decide
      rw [e]
      omega)
  | succ k =>
    rw [nI_pred, nI_ltI (by omega) (by omega)]
    omega
theorem sf_mid {hi lo : Nat} (h : hi < 1000) (hl : lo < hi) : (nI lo + (nI hi - 1)) >>> ((1 : Int32) &&& 31) = nI ((lo + hi - 1) / 2) := by
  cases hi with
  | zero => omega
  | succ k =>
    rw [nI_pred, nI_add, pk_shrN (by omega) ((1 : Int32) &&& 31) 1 (by decide)]
    rw [show lo + (k + 1) - 1 = lo + k by omega]
theorem sf_find33 {post : Int32 → Prop} {s e q : Nat} {p : Nat → Nat} {v : Nat → Int32} (hs : s < 13) (hq : q < 6) (hW : sf_W (36 * s) e p v a8 a9) (H1 : ∀ k, k < e → p k = q → post (nI k)) (H2 : (∀ k, k < e → p k ≠ q) → post (-1)) :
    ∀ (j i lo hi : Nat), i + j = 3 → lo ≤ hi → hi ≤ e → (∀ k, k < lo → p k < q) → (∀ k, hi ≤ k → k < e → q < p k) → hi - lo < 2 ^ j → wX_findPlace_33 post (nI s) (nI q) c0 c1 c2 c3 a1 a2 a3 a4 a5 a6 a7 a8 a9 a10 a11 a12 a13 a14 a15 a16 a17 a18 a19 a20 a21 a22 a23 a24 a25 a26 a27 a28 (j + 1) (nI lo) (nI hi - 1) (nI i) := by
  obtain ⟨w1, w2, w3, w4⟩ := hW
  intro j
  induction j with
  | zero =>
    intro i lo hi hij h1 h2 hlo hhi hsz
    refine pk_le 4 i (fun z => absurd z (by omega)) (fun _ => br_t ((sf_hi (by omega) (by omega)).mpr (by omega)) (H2 (fun k hk => ?_)))
    rcases Nat.lt_or_ge k lo with z | z
    · have := hlo k z
      omega
    · have := hhi k (by omega) hk
      omega
  | succ j ih =>
    intro i lo hi hij h1 h2 hlo hhi hsz
    refine pk_le 4 i (fun z => absurd z (by omega)) (fun _ => ?_)
    by_cases hlh : hi ≤ lo
    · refine br_t ((sf_hi (by omega) (by omega)).mpr hlh) (H2 (fun k hk => ?_))
      rcases Nat.lt_or_ge k lo with z | z
      · have := hlo k z
        omega
      · have := hhi k (by omega) hk
        omega
    · refine br_f (fun z => hlh ((sf_hi (by omega) (by omega)).mp z)) (nm_r (sf_mid (by omega) (by omega)) ?_)
      have hpw : 2 ^ (j + 1) = 2 * 2 ^ j := by rw [Nat.pow_succ, Nat.mul_comm]
      rw [hpw] at hsz
      generalize hm : (lo + hi - 1) / 2 = mid
      have hm1 : lo ≤ mid := by omega
      have hm2 : mid < hi := by omega
      have hm3 : mid < e := by omega
      have hpm := (w2 mid hm3).1
      rw [sf_i36, sf_c (show 36 * s + mid < 1000 by omega)]
      refine ⟨sf_in (by omega) (by omega), nm_r (w2 mid hm3).2.1 ?_⟩
      refine pk_eq (p mid) q (fun z => H1 mid hm3 z) (fun hne => ?_)
      refine pk_le q (p mid) (fun z => ?_) (fun z => ?_)
      · have t := ih (i + 1) lo mid (by omega) (by omega) (by omega) hlo (fun k hk hke => by
          by_cases e : k = mid
          · rw [e]; omega
          · have := w3 mid k (by omega) hke
            omega) (by omega)
        exact pk_le (p mid) q (fun z => absurd z (by omega)) (fun _ => nm_e (nm_r (nI_1 i) t))
      · have t := ih (i + 1) (mid + 1) hi (by omega) (by omega) h2 (fun k hk => by
          by_cases e : k = mid
          · rw [e]; omega
          · have := w3 k mid (by omega) hm3
            omega) hhi (by omega)
        refine pk_le (p mid) q (fun _ => nm_r (nI_1 i) ?_) (fun z => absurd z (by omega))
        rw [nI_1]
        exact t
theorem sf_findPlaceW {post : Int32 → Prop} {s e q : Nat} {p : Nat → Nat} {v : Nat → Int32} (hs : s < 13) (hq : q < 6) (h7 : a7 (7 * s) = 0) (h8 : a7 (7 * s + 1) = nI e) (hW : sf_W (36 * s) e p v a8 a9) (H : ∀ r, sf_G s v q r a9 → post r) : wpX_findPlace post (c0, c1, c2, c3, a1, a2, a3, a4, a5, a6, a7, a8, a9, a10, a11, a12, a13, a14, a15, a16, a17, a18, a19, a20, a21, a22, a23, a24, a25, a26, a27, a28) (nI s) 0 (nI q) := by
  unfold wpX_findPlace
  dsimp only
  rw [sf_i7z, nI_1, sf_c (show 7 * s < 1000 by omega), sf_c (show 7 * s + 1 < 1000 by omega), h7, h8]
  refine ⟨sf_in (by omega) (by omega), nm_e ⟨sf_in (by omega) (by omega), nm_e ⟨4, ?_⟩⟩⟩
  have he := hW.1
  refine sf_find33 (v := v) hs hq hW (fun k hk hp => H _ (Or.inr ⟨k, by omega, rfl, ?_⟩)) (fun hn => H _ (Or.inl ⟨rfl, ?_⟩)) 3 0 0 e (by omega) (by omega) (by omega) (fun k hk => absurd hk (by omega)) (fun k hk hke => absurd hk (by omega)) (by omega)
  · rw [(hW.2.1 k hk).2.2, hp]
  · rcases hW.2.2.2 q hq with ⟨k, hk, hp⟩ | z
    · exact absurd hp (hn k hk)
    · exact z
theorem sf_findPlace {post : Int32 → Prop} {s q : Nat} {v : Nat → Int32} (hs : s < 13) (hq : q < 6) (hV : sf_V s v a1 a2 a3 a4 a5 a6 a7 a8 a9) (H : ∀ r, sf_G s v q r a9 → post r) : wpX_findPlace post (c0, c1, c2, c3, a1, a2, a3, a4, a5, a6, a7, a8, a9, a10, a11, a12, a13, a14, a15, a16, a17, a18, a19, a20, a21, a22, a23, a24, a25, a26, a27, a28) (nI s) 0 (nI q) := by
  obtain ⟨f, e, p, h0, h1, h2, h3, h4, h5, h6, h7, h8, h9⟩ := hV
  exact sf_findPlaceW hs hq h7 h8 h9 H
theorem sf_findLine1 {post : Int32 → Prop} {s : Nat} {x : Int32} (hs : s < 13) (h5 : a5 s = 1) (h6 : a6 (6 * s) = x) (hp : post 0) : wpX_findLine post (c0, c1, c2, c3, a1, a2, a3, a4, a5, a6, a7, a8, a9, a10, a11, a12, a13, a14, a15, a16, a17, a18, a19, a20, a21, a22, a23, a24, a25, a26, a27, a28) (nI s) x := by
  unfold wpX_findLine
  dsimp only
  rw [sf_c (show s < 1000 by omega), h5]
  refine ⟨sf_in hs (by omega), nm_r (e' := 0) (by decide) ⟨1, ?_⟩⟩
  refine br_f (by decide) (br_f (by decide) (nm_r (e' := 0) (by decide) ?_))
  rw [sf_i6z, sf_c (show 6 * s < 1000 by omega), h6]
  exact ⟨sf_in (by omega) (by omega), nm_e (br_t rfl hp)⟩
theorem sf_findLine0 {post : Int32 → Prop} {s : Nat} {x : Int32} (hs : s < 13) (h5 : a5 s = 0) (hp : post (-1)) : wpX_findLine post (c0, c1, c2, c3, a1, a2, a3, a4, a5, a6, a7, a8, a9, a10, a11, a12, a13, a14, a15, a16, a17, a18, a19, a20, a21, a22, a23, a24, a25, a26, a27, a28) (nI s) x := by
  unfold wpX_findLine
  dsimp only
  rw [sf_c (show s < 1000 by omega), h5]
  exact ⟨sf_in hs (by omega), nm_r (e' := -1) (by decide) ⟨1, br_f (by decide) (br_t (by decide) hp)⟩⟩
theorem sf_position_low {post : Int32 → Prop} {s i : Nat} {j : Int32} (hs : s < 13) (h1 : a1 s < 2) (h5 : a5 s = 1) (h6 : a6 (6 * s) = 0) (H : wpX_findPlace post (c0, c1, c2, c3, a1, a2, a3, a4, a5, a6, a7, a8, a9, a10, a11, a12, a13, a14, a15, a16, a17, a18, a19, a20, a21, a22, a23, a24, a25, a26, a27, a28) (nI s) 0 (nI i)) : wpX_position post (c0, c1, c2, c3, a1, a2, a3, a4, a5, a6, a7, a8, a9, a10, a11, a12, a13, a14, a15, a16, a17, a18, a19, a20, a21, a22, a23, a24, a25, a26, a27, a28) (nI s) (nI i) j := by
  unfold wpX_position
  dsimp only
  rw [sf_c (show s < 1000 by omega)]
  refine ⟨sf_in hs (by omega), br_f (fun z => absurd (Int32.lt_iff_toInt_lt.mp h1) (by have := Int32.le_iff_toInt_le.mp z; omega)) ?_⟩
  unfold wX_position_27
  rw [sf_c (show s < 1000 by omega)]
  refine ⟨sf_in hs (by omega), br_t h1 ?_⟩
  unfold wX_position_47 wX_position_52
  exact sf_findLine1 hs h5 h6 (br_f (by decide) H)
theorem sf_badReg {post : Int32 → Prop} {s : Nat} (hs : s < 6) (hp : post 0) : wpX_badRegister post (c0, c1, c2, c3, a1, a2, a3, a4, a5, a6, a7, a8, a9, a10, a11, a12, a13, a14, a15, a16, a17, a18, a19, a20, a21, a22, a23, a24, a25, a26, a27, a28) (nI s) := by
  unfold wpX_badRegister
  exact br_f (nI_pos (by omega)) (br_t (nI_lt (b := 6) hs (by omega)) hp)
theorem sf_badFormat1 {post : Int32 → Prop} {f : Nat} (hf : f < 2) (hp : post 0) : wpX_badFormat post (c0, c1, c2, c3, a1, a2, a3, a4, a5, a6, a7, a8, a9, a10, a11, a12, a13, a14, a15, a16, a17, a18, a19, a20, a21, a22, a23, a24, a25, a26, a27, a28) 1 (nI f) := by
  unfold wpX_badFormat
  refine br_f (by decide) (br_t rfl ?_)
  unfold wX_badFormat_19
  exact br_f (nI_pos (by omega)) (br_t (nI_le (b := 1) (by omega) (by omega)) hp)
theorem sf_make {post : Int32 → St2 → Prop} {s f : Nat} (hs : s < 6) (hf : f < 2)
    (H : ∀ b1 b2 b3 b4 b5 b6 b7 b8 b9 b18 : Nat → Int32, sf_V s (fun _ => 0) b1 b2 b3 b4 b5 b6 b7 b8 b9 → (∀ (t : Nat) (u : Nat → Int32), t ≠ s → sf_V t u a1 a2 a3 a4 a5 a6 a7 a8 a9 → sf_V t u b1 b2 b3 b4 b5 b6 b7 b8 b9) → post 1 (c0, c1, c2, c3, b1, b2, b3, b4, b5, b6, b7, b8, b9, a10, a11, a12, a13, a14, a15, a16, a17, b18, a19, a20, a21, a22, a23, a24, a25, a26, a27, a28)) :
    wpX_make post (c0, c1, c2, c3, a1, a2, a3, a4, a5, a6, a7, a8, a9, a10, a11, a12, a13, a14, a15, a16, a17, a18, a19, a20, a21, a22, a23, a24, a25, a26, a27, a28) (nI s) 6 0 (nI f) := by
  unfold wpX_make
  refine sf_badReg hs (br_t rfl (br_f (by decide) (br_f (by decide) (br_f (by decide) (br_f (by decide) (br_f (by decide) ?_))))))
  unfold wX_make_40 wX_make_41
  refine br_f (by decide) (br_t rfl ?_)
  unfold wX_make_60
  refine br_t rfl (sf_badFormat1 hf (br_t rfl (sf_clear (fun b hb => br_f (by decide) ?_))))
  unfold wX_make_98
  refine br_t rfl ?_
  unfold wX_make_107
  exact sf_packV (v := fun _ => 0) (by omega) hf (fun q hq => hb _ (by omega)) (fun b1 b2 b3 b4 b5 b6 b7 b8 b9 h1 h2 => H b1 b2 b3 b4 b5 b6 b7 b8 b9 b h1 h2)
theorem sf_noPlace {post : Int32 → Prop} {s n m i j : Nat} (hs : s < 13) (h2 : a2 s = nI n) (h3 : a3 s = nI m) (hi : i < n) (hj : j < m) (hn : n < 1000) (hm : m < 1000) (hp : post 0) : wpX_noPlace post (c0, c1, c2, c3, a1, a2, a3, a4, a5, a6, a7, a8, a9, a10, a11, a12, a13, a14, a15, a16, a17, a18, a19, a20, a21, a22, a23, a24, a25, a26, a27, a28) (nI s) (nI i) (nI j) := by
  unfold wpX_noPlace
  dsimp only
  rw [sf_c (show s < 1000 by omega), h2, h3]
  exact br_f (nI_pos (by omega)) ⟨sf_in hs (by omega), br_f (nI_ge hi (by omega)) (br_f (nI_pos (by omega)) ⟨sf_in hs (by omega), br_t (nI_lt hj (by omega)) hp⟩)⟩
theorem sf_put {post : Int32 → St2 → Prop} {s i : Nat} {x : Int32} (hs : s < 6) (hi : i < 6) (hV : sf_V s (fun _ => 0) a1 a2 a3 a4 a5 a6 a7 a8 a9)
    (H : ∀ b1 b2 b3 b4 b5 b6 b7 b8 b9 b18 : Nat → Int32, sf_V s (sf_one i x) b1 b2 b3 b4 b5 b6 b7 b8 b9 → (∀ (t : Nat) (u : Nat → Int32), t ≠ s → sf_V t u a1 a2 a3 a4 a5 a6 a7 a8 a9 → sf_V t u b1 b2 b3 b4 b5 b6 b7 b8 b9) → post 0 (c0, c1, c2, c3, b1, b2, b3, b4, b5, b6, b7, b8, b9, a10, a11, a12, a13, a14, a15, a16, a17, b18, a19, a20, a21, a22, a23, a24, a25, a26, a27, a28)) :
    wpX_put post (c0, c1, c2, c3, a1, a2, a3, a4, a5, a6, a7, a8, a9, a10, a11, a12, a13, a14, a15, a16, a17, a18, a19, a20, a21, a22, a23, a24, a25, a26, a27, a28) (nI s) (nI i) 0 x := by
  have hV' := hV
  obtain ⟨f, e, p, h0, h1, h2, h3, h4, h5, h6, h7, h8, h9⟩ := hV'
  have A : wX_put_84 post (nI s) (nI i) 0 x 0 c0 c1 c2 c3 a1 a2 a3 a4 a5 a6 a7 a8 a9 a10 a11 a12 a13 a14 a15 a16 a17 a18 a19 a20 a21 a22 a23 a24 a25 a26 a27 a28 := by
    unfold wX_put_84
    refine br_c (fun z => H _ _ _ _ _ _ _ _ _ a18 (sf_V_ext hV (fun q _ => ?_)) (fun _ _ _ h => h)) (fun _ => sf_unpack (by omega) hV (fun b hb => ?_))
    · unfold sf_one
      rw [← z]
      by_cases e : q = i
      · rw [if_pos e]
      · rw [if_neg e]
    · dsimp only
      rw [sf_i6z, sf_c (show 6 * i < 1000 by omega), sf_c (show s < 1000 by omega), h1, h2, h3, h4]
      refine ⟨sf_in (by omega) (by omega), nm_e ⟨sf_in (by omega) (by omega), sf_in (by omega) (by omega), sf_in (by omega) (by omega), sf_in (by omega) (by omega), ?_⟩⟩
      refine sf_packV (v := sf_one i x) (by omega) h0 (fun q hq => ?_) (fun b1 b2 b3 b4 b5 b6 b7 b8 b9 h1 h2 => H b1 b2 b3 b4 b5 b6 b7 b8 b9 _ h1 h2)
      by_cases e : q = i
      · rw [e, pk_us, sf_one_s]
      · rw [pk_un (by omega), hb q hq, sf_one_n x e]
  unfold wpX_put
  refine sf_badReg hs (br_t rfl (sf_noPlace (n := 6) (m := 1) (j := 0) (by omega) h2 h3 hi (by omega) (by omega) (by omega) (br_t rfl ?_)))
  refine sf_position_low (by omega) (by rw [h1]; decide) h5 h6 (sf_findPlace (by omega) hi hV (fun r hr => ?_))
  have B : wX_put_55 post (nI s) (nI i) 0 x r 0 c0 c1 c2 c3 a1 a2 a3 a4 a5 a6 a7 a8 a9 a10 a11 a12 a13 a14 a15 a16 a17 a18 a19 a20 a21 a22 a23 a24 a25 a26 a27 a28 := by
    unfold wX_put_55
    exact br_t rfl A
  rcases hr with ⟨hr, _⟩ | ⟨k, hk, hr, h9k⟩
  · exact br_t hr B
  · refine br_f (by rw [hr]; exact sf_ne (by omega)) ?_
    rw [hr] at B ⊢
    rw [sf_i36, sf_c (show 36 * s + k < 1000 by omega), h9k]
    exact ⟨sf_in (by omega) (by omega), B⟩
theorem sf_copy {post : St2 → Prop} {s t : Nat} {v : Nat → Int32} (hs : s < 13) (ht : t < 13) (hV : sf_V s v a1 a2 a3 a4 a5 a6 a7 a8 a9)
    (H : ∀ b1 b2 b3 b4 b5 b6 b7 b8 b9 b18 : Nat → Int32, sf_V t v b1 b2 b3 b4 b5 b6 b7 b8 b9 → (∀ (t' : Nat) (u : Nat → Int32), t' ≠ t → sf_V t' u a1 a2 a3 a4 a5 a6 a7 a8 a9 → sf_V t' u b1 b2 b3 b4 b5 b6 b7 b8 b9) → post (c0, c1, c2, c3, b1, b2, b3, b4, b5, b6, b7, b8, b9, a10, a11, a12, a13, a14, a15, a16, a17, b18, a19, a20, a21, a22, a23, a24, a25, a26, a27, a28)) :
    wpX_copy post (c0, c1, c2, c3, a1, a2, a3, a4, a5, a6, a7, a8, a9, a10, a11, a12, a13, a14, a15, a16, a17, a18, a19, a20, a21, a22, a23, a24, a25, a26, a27, a28) (nI s) (nI t) := by
  have hV' := hV
  obtain ⟨f, e, p, h0, h1, h2, h3, h4, h5, h6, h7, h8, h9⟩ := hV'
  unfold wpX_copy
  refine sf_unpack hs hV (fun b hb => ?_)
  dsimp only
  rw [sf_c (show s < 1000 by omega), h1, h2, h3, h4]
  exact ⟨sf_in hs (by omega), sf_in hs (by omega), sf_in hs (by omega), sf_in hs (by omega), sf_packV (v := v) ht h0 hb (fun b1 b2 b3 b4 b5 b6 b7 b8 b9 h1 h2 => H b1 b2 b3 b4 b5 b6 b7 b8 b9 _ h1 h2)⟩
end
end
section
/-! array, join; markParts, findSpans, chooseOrder over the formula of two vectors and their product -/
section
variable {c0 c1 c2 c3 : Int32} {a1 a2 a3 a4 a5 a6 a7 a8 a9 a10 a11 a12 a13 a14 a15 a16 a17 a18 a19 a20 a21 a22 a23 a24 a25 a26 a27 a28 : Nat → Int32}
theorem sf_badIndex {post : Int32 → Prop} {q : Nat} (hq : q < 3) (hp : post 0) : wpX_badIndex post (c0, c1, c2, c3, a1, a2, a3, a4, a5, a6, a7, a8, a9, a10, a11, a12, a13, a14, a15, a16, a17, a18, a19, a20, a21, a22, a23, a24, a25, a26, a27, a28) (nI q) := by
  unfold wpX_badIndex
  refine br_f (fun z => absurd (Int32.lt_iff_toInt_lt.mp z) ?_) (br_t (nI_le (b := 2) (by omega) (by omega)) hp)
  rw [nI_toInt (by omega), show (-1 : Int32).toInt = -1 from by decide]
  omega
theorem sf_badIndexN {post : Int32 → Prop} (hp : post 0) : wpX_badIndex post (c0, c1, c2, c3, a1, a2, a3, a4, a5, a6, a7, a8, a9, a10, a11, a12, a13, a14, a15, a16, a17, a18, a19, a20, a21, a22, a23, a24, a25, a26, a27, a28) (-1) := by
  unfold wpX_badIndex
  exact br_f (by decide) (br_t (by decide) hp)
theorem sf_part {post : Int32 → St2 → Prop} {k : Nat} {x y z w : Int32} (hk : k < 20) (H : post (nI k) (nI (k + 1), c1, c2, c3, a1, a2, a3, a4, a5, a6, a7, a8, a9, upd a10 k x, upd a11 k y, upd a12 k z, upd a13 k w, a14, a15, a16, a17, a18, a19, a20, a21, a22, a23, a24, a25, a26, a27, a28)) : wpX_part post (nI k, c1, c2, c3, a1, a2, a3, a4, a5, a6, a7, a8, a9, a10, a11, a12, a13, a14, a15, a16, a17, a18, a19, a20, a21, a22, a23, a24, a25, a26, a27, a28) x y z w := by
  unfold wpX_part
  dsimp only
  rw [sf_c (show k < 1000 by omega)]
  refine ⟨sf_in hk (by omega), nm_e ⟨sf_in hk (by omega), nm_e ⟨sf_in hk (by omega), nm_e ⟨sf_in hk (by omega), nm_e (nm_r (nI_1 k) ?_)⟩⟩⟩⟩
  rw [nI_pred]
  exact H
theorem sf_array {post : Int32 → St2 → Prop} {s k pp : Nat} {v : Nat → Int32} (hs : s < 6) (hk : k < 2) (hpp : pp < 2) (hV : sf_V s v a1 a2 a3 a4 a5 a6 a7 a8 a9)
    (H : ∀ b1 b2 b3 b4 b5 b6 b7 b8 b9 b18 : Nat → Int32, sf_V (6 + k) v b1 b2 b3 b4 b5 b6 b7 b8 b9 → (∀ (t : Nat) (u : Nat → Int32), t ≠ 6 + k → sf_V t u a1 a2 a3 a4 a5 a6 a7 a8 a9 → sf_V t u b1 b2 b3 b4 b5 b6 b7 b8 b9) → post (nI (k + 1)) (nI (k + 1), nI (k + 1), nI (k + 1), c3, b1, b2, b3, b4, b5, b6, b7, b8, b9, upd a10 k 1, upd a11 k (nI k), upd a12 k (-1), upd a13 k (-1), upd a14 k (nI pp), upd a15 k (-1), upd a16 k (nI k), a17, b18, a19, a20, a21, a22, a23, a24, a25, a26, a27, a28)) :
    wpX_array post (nI k, nI k, nI k, c3, a1, a2, a3, a4, a5, a6, a7, a8, a9, a10, a11, a12, a13, a14, a15, a16, a17, a18, a19, a20, a21, a22, a23, a24, a25, a26, a27, a28) (nI s) (nI pp) (-1) := by
  have hV' := hV
  obtain ⟨f, e, p, h0, h1, h2, h3, h4, h5, h6, h7, h8, h9⟩ := hV'
  have n20 : ¬ nI k = 20 := fun z => absurd ((nI_eq (a := k) (b := 20) (by omega) (by omega)).mp z) (by omega)
  have n6 : ¬ nI k = 6 := fun z => absurd ((nI_eq (a := k) (b := 6) (by omega) (by omega)).mp z) (by omega)
  unfold wpX_array
  refine sf_badReg hs (br_t rfl (sf_badIndex (by omega) (br_t rfl (sf_badIndexN (br_t rfl ?_)))))
  rw [sf_c (show s < 1000 by omega), h1]
  refine ⟨sf_in (by omega) (by omega), br_f (by decide) ?_⟩
  unfold wX_array_41
  rw [sf_c (show s < 1000 by omega), h1]
  refine ⟨sf_in (by omega) (by omega), br_f (by decide) ?_⟩
  unfold wX_array_58
  refine br_f (sf_ne (by omega)) ?_
  unfold wX_array_72
  refine br_t rfl (br_t rfl ?_)
  unfold wX_array_87
  refine br_t rfl (br_t rfl ?_)
  unfold wX_array_103
  rw [sf_p6]
  refine br_f n20 (br_f n6 (br_f n6 (sf_copy (by omega) (by omega) hV (fun b1 b2 b3 b4 b5 b6 b7 b8 b9 b18 hW hF => ?_))))
  dsimp only
  rw [sf_c (show k < 1000 by omega)]
  refine ⟨sf_in (by omega) (by omega), nm_e ⟨sf_in (by omega) (by omega), nm_e (sf_part (by omega) ?_)⟩⟩
  dsimp only
  exact ⟨sf_in (by omega) (by omega), nm_e (nm_r (nI_1 k) (nm_r (nI_1 k) (H b1 b2 b3 b4 b5 b6 b7 b8 b9 b18 hW hF)))⟩
theorem sf_join {post : Int32 → St2 → Prop} (H : post 1 (3, 2, 1, c3, a1, a2, a3, a4, a5, a6, a7, a8, a9, upd a10 2 5, upd a11 2 0, upd a12 2 (a16 0), upd a13 2 (a16 1), a14, a15, upd a16 0 2, a17, a18, a19, a20, a21, a22, a23, a24, a25, a26, a27, a28)) : wpX_join post (2, 2, 2, c3, a1, a2, a3, a4, a5, a6, a7, a8, a9, a10, a11, a12, a13, a14, a15, a16, a17, a18, a19, a20, a21, a22, a23, a24, a25, a26, a27, a28) 2 := by
  unfold wpX_join
  refine br_f (by decide) (br_t (by decide) (br_f (by decide) (br_t (by decide) (nm_r (e' := 1) (by decide) ⟨pk_in 0 6 (by omega), pk_in 1 6 (by omega), ?_⟩))))
  exact sf_part (k := 2) (by omega) (And.intro (pk_in 0 6 (by omega)) (nm_e H))
/-- the formula: parts 0 and 1 are arrays, part 2 is their product; the arrays' indices are 0 and pp -/
def sf_P (pp : Nat) (a10 a11 a12 a13 a14 a15 a16 : Nat → Int32) : Prop :=
  (a10 0 = 1 ∧ a10 1 = 1 ∧ a10 2 = 5) ∧ (a11 0 = nI 0 ∧ a11 1 = nI 1) ∧ (a12 0 = -1 ∧ a12 1 = -1 ∧ a12 2 = nI 0) ∧ (a13 0 = -1 ∧ a13 1 = -1 ∧ a13 2 = nI 1) ∧ (a14 0 = nI 0 ∧ a14 1 = nI pp) ∧ (a15 0 = -1 ∧ a15 1 = -1) ∧ a16 0 = nI 2
theorem sf_mark34_leaf {post : St2 → Prop} {n k : Nat} (hk : k < 20) (h12 : a12 k = -1) (h13 : a13 k = -1) (h : wX_markParts_34 post c0 c1 c2 c3 n (nI k + (-1)) a1 a2 a3 a4 a5 a6 a7 a8 a9 a10 a11 a12 a13 a14 a15 a16 a17 a18 a19 a20 a21 a22 a23 a24 a25 a26 a27 a28) : wX_markParts_34 post c0 c1 c2 c3 (n + 1) (nI k) a1 a2 a3 a4 a5 a6 a7 a8 a9 a10 a11 a12 a13 a14 a15 a16 a17 a18 a19 a20 a21 a22 a23 a24 a25 a26 a27 a28 := by
  have A : wX_markParts_69 post (wX_markParts_34 post c0 c1 c2 c3 n) (nI k) c0 c1 c2 c3 a1 a2 a3 a4 a5 a6 a7 a8 a9 a10 a11 a12 a13 a14 a15 a16 a17 a18 a19 a20 a21 a22 a23 a24 a25 a26 a27 a28 := by
    unfold wX_markParts_69
    rw [sf_c (show k < 1000 by omega), h13]
    exact ⟨sf_in hk (by omega), br_c (fun _ => nm_e h) (fun _ => ⟨sf_in hk (by omega), br_t rfl (nm_e h)⟩)⟩
  refine br_f (nI_pos (by omega)) ?_
  rw [sf_c (show k < 1000 by omega), h12]
  exact ⟨sf_in hk (by omega), br_c (fun _ => A) (fun _ => ⟨sf_in hk (by omega), br_t rfl A⟩)⟩
theorem sf_mark34_node {post : St2 → Prop} {n k x y : Nat} (hk : k < 20) (hx : x < 20) (hy : y < 20) (hxk : k ≠ x) (h17 : ¬ a17 k = 0) (h12 : a12 k = nI x) (h13 : a13 k = nI y) (h : wX_markParts_34 post c0 c1 c2 c3 n (nI k + (-1)) a1 a2 a3 a4 a5 a6 a7 a8 a9 a10 a11 a12 a13 a14 a15 a16 (upd (upd a17 x 1) y 1) a18 a19 a20 a21 a22 a23 a24 a25 a26 a27 a28) : wX_markParts_34 post c0 c1 c2 c3 (n + 1) (nI k) a1 a2 a3 a4 a5 a6 a7 a8 a9 a10 a11 a12 a13 a14 a15 a16 a17 a18 a19 a20 a21 a22 a23 a24 a25 a26 a27 a28 := by
  refine br_f (nI_pos (by omega)) ?_
  rw [sf_c (show k < 1000 by omega), h12, sf_c (show x < 1000 by omega)]
  refine ⟨sf_in hk (by omega), br_f h17 ⟨sf_in hk (by omega), br_f (sf_ne (by omega)) ⟨sf_in hk (by omega), sf_in hx (by omega), nm_e ?_⟩⟩⟩
  unfold wX_markParts_69
  rw [sf_c (show k < 1000 by omega), h13, sf_c (show y < 1000 by omega), pk_un hxk]
  exact ⟨sf_in hk (by omega), br_f h17 ⟨sf_in hk (by omega), br_f (sf_ne (by omega)) ⟨sf_in hk (by omega), sf_in hy (by omega), nm_e (nm_e h)⟩⟩⟩
theorem sf_markParts {post : St2 → Prop} {pp : Nat} (hP : sf_P pp a10 a11 a12 a13 a14 a15 a16) (H : ∀ b17, b17 0 = 1 → b17 1 = 1 → b17 2 = 1 → post (3, c1, c2, c3, a1, a2, a3, a4, a5, a6, a7, a8, a9, a10, a11, a12, a13, a14, a15, a16, b17, a18, a19, a20, a21, a22, a23, a24, a25, a26, a27, a28)) : wpX_markParts post (3, c1, c2, c3, a1, a2, a3, a4, a5, a6, a7, a8, a9, a10, a11, a12, a13, a14, a15, a16, a17, a18, a19, a20, a21, a22, a23, a24, a25, a26, a27, a28) 2 := by
  obtain ⟨_, _, ⟨p1, p2, p3⟩, ⟨q1, q2, q3⟩, _⟩ := hP
  unfold wpX_markParts
  refine ⟨4, br_f (by decide) (br_f (by decide) ⟨pk_in 0 20 (by omega), nm_r (e' := upd a17 0 0) rfl (nm_r (e' := 1) (by decide) ?_)⟩)⟩
  refine br_f (by decide) (br_f (by decide) ⟨pk_in 1 20 (by omega), nm_r (e' := upd (upd a17 0 0) 1 0) rfl (nm_r (e' := 2) (by decide) ?_)⟩)
  refine br_f (by decide) (br_t (by decide) ⟨pk_in 2 20 (by omega), nm_r (e' := upd (upd (upd a17 0 0) 1 0) 2 1) rfl (nm_r (e' := 3) (by decide) ?_)⟩)
  refine br_t (by decide) ⟨4, ?_⟩
  refine sf_mark34_node (k := 2) (x := 0) (y := 1) (by omega) (by omega) (by omega) (by omega) (by rw [pk_us]; decide) p3 q3 ?_
  refine sf_mark34_leaf (k := 1) (by omega) p2 q2 ?_
  refine sf_mark34_leaf (k := 0) (by omega) p1 q1 ?_
  exact br_t (by decide) (H _ rfl rfl rfl)
theorem sf_addSpanN {post : St2 → Prop} {y : Int32} (H : post (c0, c1, c2, c3, a1, a2, a3, a4, a5, a6, a7, a8, a9, a10, a11, a12, a13, a14, a15, a16, a17, a18, a19, a20, a21, a22, a23, a24, a25, a26, a27, a28)) : wpX_addSpan post (c0, c1, c2, c3, a1, a2, a3, a4, a5, a6, a7, a8, a9, a10, a11, a12, a13, a14, a15, a16, a17, a18, a19, a20, a21, a22, a23, a24, a25, a26, a27, a28) (-1) y := by
  unfold wpX_addSpan
  exact br_t rfl H
theorem sf_addSpan {post : St2 → Prop} {q : Nat} {y : Int32} (hq : q < 3) (h : a20 q = 0 ∨ a20 q = y) (H : post (c0, c1, c2, c3, a1, a2, a3, a4, a5, a6, a7, a8, a9, a10, a11, a12, a13, a14, a15, a16, a17, a18, a19, upd a20 q y, a21, a22, a23, a24, a25, a26, a27, a28)) : wpX_addSpan post (c0, c1, c2, c3, a1, a2, a3, a4, a5, a6, a7, a8, a9, a10, a11, a12, a13, a14, a15, a16, a17, a18, a19, a20, a21, a22, a23, a24, a25, a26, a27, a28) (nI q) y := by
  unfold wpX_addSpan
  dsimp only
  rw [sf_c (show q < 1000 by omega)]
  refine br_f (sf_ne (by omega)) ⟨sf_in hq (by omega), br_c (fun _ => ⟨sf_in hq (by omega), nm_e H⟩) (fun z => ⟨sf_in hq (by omega), br_t ?_ ⟨sf_in hq (by omega), nm_e H⟩⟩)⟩
  rcases h with h | h
  · exact absurd h z
  · exact h
theorem sf_spans_arr {post : St2 → Prop} {n k a q : Nat} (hk : k < 3) (ha : a < 6) (hq : q < 3) (h17 : a17 k = 1) (h10 : a10 k = 1) (h11 : a11 k = nI a) (h14 : a14 a = nI q) (h15 : a15 a = -1) (h2 : a2 (6 + a) = 6) (h20 : a20 q = 0 ∨ a20 q = 6) (h : wX_findSpans_27 post 2 n (nI (k + 1)) c0 c1 c2 c3 a1 a2 a3 a4 a5 a6 a7 a8 a9 a10 a11 a12 a13 a14 a15 a16 a17 a18 a19 (upd a20 q 6) a21 a22 a23 a24 a25 a26 a27 a28) : wX_findSpans_27 post 2 (n + 1) (nI k) c0 c1 c2 c3 a1 a2 a3 a4 a5 a6 a7 a8 a9 a10 a11 a12 a13 a14 a15 a16 a17 a18 a19 a20 a21 a22 a23 a24 a25 a26 a27 a28 := by
  refine br_f (nI_nlt (b := k) (a := 2) (by omega) (by omega)) ?_
  rw [sf_c (show k < 1000 by omega), h17, h10]
  refine ⟨sf_in (by omega) (by omega), br_f (by decide) ⟨sf_in (by omega) (by omega), br_t rfl ⟨sf_in (by omega) (by omega), nm_r h11 ?_⟩⟩⟩
  rw [sf_p6, sf_c (show a < 1000 by omega), sf_c (show 6 + a < 1000 by omega), h14, h2]
  refine ⟨sf_in (by omega) (by omega), sf_in (by omega) (by omega), sf_addSpan hq h20 ?_⟩
  dsimp only
  rw [h15]
  exact ⟨sf_in (by omega) (by omega), sf_in (by omega) (by omega), sf_addSpanN (nm_r (nI_1 k) h)⟩
theorem sf_findSpans {post : St2 → Prop} {pp : Nat} (hpp : pp < 2) (hP : sf_P pp a10 a11 a12 a13 a14 a15 a16) (h6 : a2 6 = 6) (h7 : a2 7 = 6)
    (H : ∀ b17 b20 : Nat → Int32, b17 0 = 1 → b17 1 = 1 → b17 2 = 1 → b20 0 = 6 → b20 1 = nI (6 * pp) → b20 2 = 0 → post (3, c1, c2, c3, a1, a2, a3, a4, a5, a6, a7, a8, a9, a10, a11, a12, a13, a14, a15, a16, b17, a18, a19, b20, a21, a22, a23, a24, a25, a26, a27, a28)) : wpX_findSpans post (3, c1, c2, c3, a1, a2, a3, a4, a5, a6, a7, a8, a9, a10, a11, a12, a13, a14, a15, a16, a17, a18, a19, a20, a21, a22, a23, a24, a25, a26, a27, a28) 2 := by
  have hP' := hP
  obtain ⟨⟨k1, k2, k3⟩, ⟨n1, n2⟩, _, _, ⟨i1, i2⟩, ⟨j1, j2⟩, _⟩ := hP'
  unfold wpX_findSpans
  refine sf_markParts hP (fun b17 e1 e2 e3 => ⟨4, ?_⟩)
  refine br_f (by decide) ⟨pk_in 0 3 (by omega), nm_r (e' := upd a20 0 0) rfl (nm_r (e' := 1) (by decide) ?_)⟩
  refine br_f (by decide) ⟨pk_in 1 3 (by omega), nm_r (e' := upd (upd a20 0 0) 1 0) rfl (nm_r (e' := 2) (by decide) ?_)⟩
  refine br_f (by decide) ⟨pk_in 2 3 (by omega), nm_r (e' := upd (upd (upd a20 0 0) 1 0) 2 0) rfl (nm_r (e' := 3) (by decide) ?_)⟩
  refine br_t (by decide) ⟨4, ?_⟩
  refine sf_spans_arr (k := 0) (a := 0) (q := 0) (by omega) (by omega) (by omega) e1 k1 n1 i1 j1 h6 (Or.inl rfl) ?_
  refine sf_spans_arr (k := 1) (a := 1) (q := pp) (by omega) (by omega) (by omega) e2 k2 n2 i2 j2 h7 ?_ ?_
  · match pp, hpp with
    | 0, _ => exact Or.inr rfl
    | 1, _ => exact Or.inl rfl
  · refine br_f (by decide) ⟨pk_in 2 20 (by omega), br_f (fun z => absurd (e3.symm.trans z) (by decide)) ⟨pk_in 2 20 (by omega), br_f (fun z => absurd (k3.symm.trans z) (by decide)) (nm_r (e' := 3) (by decide) ?_)⟩⟩
    refine br_t (by decide) (H b17 _ e1 e2 e3 ?_ ?_ ?_)
    · match pp, hpp with
      | 0, _ => rfl
      | 1, _ => rfl
    · match pp, hpp with
      | 0, _ => rfl
      | 1, _ => rfl
    · match pp, hpp with
      | 0, _ => rfl
      | 1, _ => rfl
theorem sf_findLevels {post : St2 → Prop} {a : Nat} (ha : a < 6) (h1 : a1 (6 + a) = 1) (H : post (c0, c1, c2, c3, a1, a2, a3, a4, a5, a6, a7, a8, a9, a10, a11, a12, a13, a14, a15, a16, a17, a18, a19, a20, upd a21 a (-1), upd a22 a (a14 a), a23, a24, a25, a26, a27, a28)) : wpX_findLevels post (c0, c1, c2, c3, a1, a2, a3, a4, a5, a6, a7, a8, a9, a10, a11, a12, a13, a14, a15, a16, a17, a18, a19, a20, a21, a22, a23, a24, a25, a26, a27, a28) (nI a) := by
  unfold wpX_findLevels
  refine nm_r (sf_p6 a) (sf_isTurned (by omega) (fun z => absurd (h1.symm.trans z) (by decide)) ?_)
  rw [sf_c (show 6 + a < 1000 by omega), h1]
  refine ⟨sf_in (by omega) (by omega), br_f (by decide) ?_⟩
  unfold wX_findLevels_49
  rw [sf_c (show 6 + a < 1000 by omega), sf_c (show a < 1000 by omega), h1]
  exact ⟨sf_in (by omega) (by omega), nm_e ⟨sf_in (by omega) (by omega), br_t (by decide) ⟨sf_in (by omega) (by omega), sf_in (by omega) (by omega), nm_e H⟩⟩⟩
theorem sf_against {post : Int32 → Prop} {x y z : Int32} (h0 : a21 0 = -1) (h1 : a21 1 = -1) (hp : post 0) : wpX_against post (c0, 2, c2, c3, a1, a2, a3, a4, a5, a6, a7, a8, a9, a10, a11, a12, a13, a14, a15, a16, a17, a18, a19, a20, a21, a22, a23, a24, a25, a26, a27, a28) x y z := by
  unfold wpX_against
  refine ⟨3, br_f (by decide) ⟨pk_in 0 6 (by omega), br_t h0 (nm_r (e' := 1) (by decide) ?_)⟩⟩
  refine br_f (by decide) ⟨pk_in 1 6 (by omega), br_t h1 (nm_r (e' := 2) (by decide) ?_)⟩
  exact br_t (by decide) hp
theorem sf_drop_keep {post : St2 → Prop} {n k l t : Nat} (hk : k < 3) (hl : l < 3) (ht : t < 3) (h19 : a19 k = nI t) (h20 : ¬ a20 t ≤ 0) (h : wX_dropLoops_7 post c0 c1 c2 n (nI (k + 1)) (nI (l + 1)) a1 a2 a3 a4 a5 a6 a7 a8 a9 a10 a11 a12 a13 a14 a15 a16 a17 a18 (upd a19 l (nI t)) a20 a21 a22 a23 a24 a25 a26 a27 a28) : wX_dropLoops_7 post c0 c1 c2 (n + 1) (nI k) (nI l) a1 a2 a3 a4 a5 a6 a7 a8 a9 a10 a11 a12 a13 a14 a15 a16 a17 a18 a19 a20 a21 a22 a23 a24 a25 a26 a27 a28 := by
  refine br_f (nI_ge (b := 3) hk (by omega)) ?_
  rw [sf_c (show k < 1000 by omega), h19, sf_c (show t < 1000 by omega), sf_c (show l < 1000 by omega)]
  exact ⟨sf_in (by omega) (by omega), sf_in (by omega) (by omega), br_f h20 ⟨sf_in (by omega) (by omega), sf_in (by omega) (by omega), nm_e (nm_r (nI_1 l) (nm_r (nI_1 k) h))⟩⟩
theorem sf_drop_skip {post : St2 → Prop} {n k t : Nat} (hk : k < 3) (ht : t < 3) (h19 : a19 k = nI t) (h20 : a20 t ≤ 0) (h : wX_dropLoops_7 post c0 c1 c2 n (nI (k + 1)) c3 a1 a2 a3 a4 a5 a6 a7 a8 a9 a10 a11 a12 a13 a14 a15 a16 a17 a18 a19 a20 a21 a22 a23 a24 a25 a26 a27 a28) : wX_dropLoops_7 post c0 c1 c2 (n + 1) (nI k) c3 a1 a2 a3 a4 a5 a6 a7 a8 a9 a10 a11 a12 a13 a14 a15 a16 a17 a18 a19 a20 a21 a22 a23 a24 a25 a26 a27 a28 := by
  refine br_f (nI_ge (b := 3) hk (by omega)) ?_
  rw [sf_c (show k < 1000 by omega), h19, sf_c (show t < 1000 by omega)]
  exact ⟨sf_in (by omega) (by omega), sf_in (by omega) (by omega), br_t h20 (nm_r (nI_1 k) h)⟩
theorem sf_dropLoops {post : St2 → Prop} {pp : Nat} (hpp : pp < 2) (g0 : a19 0 = nI 0) (g1 : a19 1 = nI 1) (g2 : a19 2 = nI 2) (s0 : a20 0 = 6) (s1 : a20 1 = nI (6 * pp)) (s2 : a20 2 = 0)
    (H : ∀ b19 : Nat → Int32, b19 0 = nI 0 → b19 1 = nI 1 → post (c0, c1, c2, nI (1 + pp), a1, a2, a3, a4, a5, a6, a7, a8, a9, a10, a11, a12, a13, a14, a15, a16, a17, a18, b19, a20, a21, a22, a23, a24, a25, a26, a27, a28)) : wpX_dropLoops post (c0, c1, c2, c3, a1, a2, a3, a4, a5, a6, a7, a8, a9, a10, a11, a12, a13, a14, a15, a16, a17, a18, a19, a20, a21, a22, a23, a24, a25, a26, a27, a28) := by
  unfold wpX_dropLoops
  refine ⟨4, ?_⟩
  refine sf_drop_keep (k := 0) (l := 0) (t := 0) (by omega) (by omega) (by omega) g0 (by rw [s0]; decide) ?_
  match pp, hpp with
  | 0, _ =>
    refine sf_drop_skip (k := 1) (t := 1) (by omega) (by omega) g1 (by rw [s1]; decide) ?_
    refine sf_drop_skip (k := 2) (t := 2) (by omega) (by omega) g2 (by rw [s2]; decide) ?_
    exact br_t (by decide) (H _ rfl g1)
  | 1, _ =>
    refine sf_drop_keep (k := 1) (l := 1) (t := 1) (by omega) (by omega) (by omega) g1 (by rw [s1]; decide) ?_
    refine sf_drop_skip (k := 2) (t := 2) (by omega) (by omega) g2 (by rw [s2]; decide) ?_
    exact br_t (by decide) (H _ rfl rfl)
theorem sf_order26 {post : St2 → Prop} (h0 : a21 0 = -1) (h1 : a21 1 = -1) (H : ∃ fu, wX_chooseOrder_116 post fu 0 c0 2 c2 c3 a1 a2 a3 a4 a5 a6 a7 a8 a9 a10 a11 a12 a13 a14 a15 a16 a17 a18 a19 a20 a21 a22 a23 a24 a25 a26 a27 a28) : ∃ fu, wX_chooseOrder_26 post c0 2 c2 c3 fu 0 (nI 1) a1 a2 a3 a4 a5 a6 a7 a8 a9 a10 a11 a12 a13 a14 a15 a16 a17 a18 a19 a20 a21 a22 a23 a24 a25 a26 a27 a28 := by
  refine pk_loop (σ := Unit) (fun n i _ => wX_chooseOrder_26 post c0 2 c2 c3 n 0 (nI i) a1 a2 a3 a4 a5 a6 a7 a8 a9 a10 a11 a12 a13 a14 a15 a16 a17 a18 a19 a20 a21 a22 a23 a24 a25 a26 a27 a28) (fun _ _ => True) 6 1 () (by omega) trivial ?_ ?_
  · intro n _ _
    exact pk_le 6 6 (fun _ => H) (fun z => absurd z (by omega))
  · intro n i _ hi _ hk
    refine pk_le 6 i (fun z => absurd z (by omega)) (fun _ => ⟨by decide, nm_e ⟨by decide, br_c (fun _ => ⟨by decide, ?_⟩) (fun _ => ⟨by decide, ?_⟩)⟩⟩)
    · unfold wX_chooseOrder_55
      exact nm_e (sf_against h0 h1 (br_t (by decide) (nm_r (nI_1 i) (hk () trivial))))
    · unfold wX_chooseOrder_55
      exact nm_e (sf_against h0 h1 (br_t (by decide) (nm_r (nI_1 i) (hk () trivial))))
theorem sf_chooseOrder {post : St2 → Prop} {pp : Nat} (hpp : pp < 2) (h6 : a1 6 = 1) (h7 : a1 7 = 1) (i0 : a14 0 = nI 0) (i1 : a14 1 = nI pp) (s0 : a20 0 = 6) (s1 : a20 1 = nI (6 * pp)) (s2 : a20 2 = 0)
    (H : ∀ b19 b21 b22 : Nat → Int32, b19 0 = nI 0 → b19 1 = nI 1 → b21 0 = -1 → b21 1 = -1 → b22 0 = nI 0 → b22 1 = nI pp → post (c0, 2, c2, nI (1 + pp), a1, a2, a3, a4, a5, a6, a7, a8, a9, a10, a11, a12, a13, a14, a15, a16, a17, a18, b19, a20, b21, b22, a23, a24, a25, a26, a27, a28)) : wpX_chooseOrder post (c0, 2, c2, c3, a1, a2, a3, a4, a5, a6, a7, a8, a9, a10, a11, a12, a13, a14, a15, a16, a17, a18, a19, a20, a21, a22, a23, a24, a25, a26, a27, a28) := by
  unfold wpX_chooseOrder
  refine ⟨3, br_f (by decide) (sf_findLevels (a := 0) (by omega) h6 (nm_r (e' := 1) (by decide) ?_))⟩
  refine br_f (by decide) (sf_findLevels (a := 1) (by omega) h7 (nm_r (e' := 2) (by decide) ?_))
  have q0 : upd (upd a21 0 (-1)) 1 (-1) 0 = -1 := rfl
  have q1 : upd (upd a21 0 (-1)) 1 (-1) 1 = -1 := rfl
  have r0 : upd (upd a22 0 (a14 0)) 1 (a14 1) 0 = nI 0 := i0
  have r1 : upd (upd a22 0 (a14 0)) 1 (a14 1) 1 = nI pp := i1
  generalize upd (upd a21 0 (-1)) 1 (-1) = b21 at q0 q1 ⊢
  generalize upd (upd a22 0 (a14 0)) 1 (a14 1) = b22 at r0 r1 ⊢
  refine br_t (by decide) ?_
  have X : ∃ fu, wX_chooseOrder_116 post fu 0 c0 2 c2 c3 a1 a2 a3 a4 a5 a6 a7 a8 a9 a10 a11 a12 a13 a14 a15 a16 a17 a18 (upd (upd (upd a19 0 0) 1 1) 2 2) a20 b21 b22 a23 a24 a25 a26 a27 a28 := by
    refine ⟨3, br_f (by decide) ⟨pk_in 0 6 (by omega), br_t q0 (nm_r (e' := 1) (by decide) ?_)⟩⟩
    refine br_f (by decide) ⟨pk_in 1 6 (by omega), br_t q1 (nm_r (e' := 2) (by decide) ?_)⟩
    refine br_t (by decide) (sf_dropLoops hpp rfl rfl rfl s0 s1 s2 (fun b19 g0 g1 => H b19 b21 b22 g0 g1 q0 q1 r0 r1))
  obtain ⟨fu, hfu⟩ := sf_order26 q0 q1 X
  refine ⟨fu + 1, ?_⟩
  refine br_f (by decide) ⟨by decide, nm_r (e' := 0) (by decide) ⟨by decide, br_t (by decide) ⟨by decide, ?_⟩⟩⟩
  unfold wX_chooseOrder_55
  exact nm_r (e' := 2) (by decide) (sf_against q0 q1 (br_f (by decide) (nm_e (nm_r (e' := upd (upd a19 0 0) 1 1) (by rw [show ((0 : Int32) + 1) - (0 + 1) / 3 * 3 = 1 from by decide]) (nm_e (nm_r (e' := nI 1) (by decide) hfu))))))
end
end
section
/-! heldPlaces, arraySupport, findSupport, enter; lowestOf, moveTo, findValue, addValue -/
section
variable {c0 c1 c2 c3 : Int32} {a1 a2 a3 a4 a5 a6 a7 a8 a9 a10 a11 a12 a13 a14 a15 a16 a17 a18 a19 a20 a21 a22 a23 a24 a25 a26 a27 a28 : Nat → Int32}
theorem sf_heldPlaces {post : Int32 → Prop} {s : Nat} {v : Nat → Int32} (hs : s < 13) (hV : sf_V s v a1 a2 a3 a4 a5 a6 a7 a8 a9) (H : ∀ m, m < 64 → (∀ q, q < 6 → m.testBit q = false → v q = 0) → post (nI m)) : wpX_heldPlaces post (c0, c1, c2, c3, a1, a2, a3, a4, a5, a6, a7, a8, a9, a10, a11, a12, a13, a14, a15, a16, a17, a18, a19, a20, a21, a22, a23, a24, a25, a26, a27, a28) (nI s) 0 := by
  obtain ⟨f, e, p, h0, h1, h2, h3, h4, h5, h6, h7, h8, w1, w2, w3, w4⟩ := hV
  unfold wpX_heldPlaces
  dsimp only
  rw [sf_i7z, nI_1, sf_c (show 7 * s < 1000 by omega), sf_c (show 7 * s + 1 < 1000 by omega), h7, h8]
  refine br_f (by decide) ⟨sf_in (by omega) (by omega), nm_e ⟨sf_in (by omega) (by omega), nm_e ?_⟩⟩
  refine pk_loop (fun n c m => wX_heldPlaces_35 post (nI s) (nI e) c0 c1 c2 c3 a1 a2 a3 a4 a5 a6 a7 a8 a9 a10 a11 a12 a13 a14 a15 a16 a17 a18 a19 a20 a21 a22 a23 a24 a25 a26 a27 a28 n (nI m) (nI c)) (fun c m => m < 64 ∧ (∀ k, k < c → m.testBit (p k) = true)) e 0 0 (by omega) ⟨by omega, fun k hk => absurd hk (by omega)⟩ ?_ ?_
  · intro n m h
    refine pk_le e e (fun _ => H m h.1 (fun q hq ht => ?_)) (fun z => absurd z (by omega))
    rcases w4 q hq with ⟨k, hk, hp⟩ | z
    · have := h.2 k hk
      rw [hp, ht] at this
      exact absurd this (by decide)
    · exact z
  · intro n c m hc h hk
    have hpc := (w2 c hc).1
    refine pk_le e c (fun z => absurd z (by omega)) (fun _ => ?_)
    rw [sf_i36, sf_c (show 36 * s + c < 1000 by omega), (w2 c hc).2.1, sf_shl _ hpc, sf_or]
    refine ⟨sf_in (by omega) (by omega), nm_e (nm_r (nI_1 c) (hk _ ⟨sf_to m h.1 _ hpc, fun k hk' => ?_⟩))⟩
    rw [sf_tor]
    by_cases ek : k = c
    · rw [ek]
      simp
    · rw [h.2 k (by omega)]
      rfl
theorem sf_loopOf {post : Int32 → Prop} {t : Nat} (ht : t < 2) (g0 : a19 0 = nI 0) (g1 : a19 1 = nI 1) (hp : post (nI t)) : wpX_loopOf post (c0, c1, c2, c3, a1, a2, a3, a4, a5, a6, a7, a8, a9, a10, a11, a12, a13, a14, a15, a16, a17, a18, a19, a20, a21, a22, a23, a24, a25, a26, a27, a28) (nI t) := by
  unfold wpX_loopOf
  dsimp only
  rw [g0, g1]
  match t, ht with
  | 0, _ => exact br_t rfl hp
  | 1, _ => exact br_f (by decide) (br_t rfl hp)
theorem sf_arrSup_own {post : Int32 → Prop} {a q : Nat} {v : Nat → Int32} (ha : a < 2) (hq : q < 3) (h21 : a21 a = -1) (h22 : a22 a = nI q) (h23 : a23 a = 0) (hV : sf_V (6 + a) v a1 a2 a3 a4 a5 a6 a7 a8 a9) (H : ∀ m, m < 64 → (∀ q, q < 6 → m.testBit q = false → v q = 0) → post (nI m)) : wpX_arraySupport post (c0, c1, c2, c3, a1, a2, a3, a4, a5, a6, a7, a8, a9, a10, a11, a12, a13, a14, a15, a16, a17, a18, a19, a20, a21, a22, a23, a24, a25, a26, a27, a28) (nI a) (nI q) := by
  unfold wpX_arraySupport
  dsimp only
  rw [sf_c (show a < 1000 by omega), h21, h22, h23]
  exact nm_r (sf_p6 a) ⟨sf_in (by omega) (by omega), br_f (fun z => sf_ne (n := q) (by omega) z.symm) ⟨sf_in (by omega) (by omega), br_t rfl ⟨sf_in (by omega) (by omega), sf_heldPlaces (by omega) hV H⟩⟩⟩
theorem sf_arrSup_other {post : Int32 → Prop} {a q t : Nat} (ha : a < 2) (hq : q < 2) (ht : t < 2) (htq : t ≠ q) (h21 : a21 a = -1) (h22 : a22 a = nI t) (g0 : a19 0 = nI 0) (g1 : a19 1 = nI 1) (H63 : post 63) (H0 : t < q → a24 a = -1 → post 0) : wpX_arraySupport post (c0, c1, c2, c3, a1, a2, a3, a4, a5, a6, a7, a8, a9, a10, a11, a12, a13, a14, a15, a16, a17, a18, a19, a20, a21, a22, a23, a24, a25, a26, a27, a28) (nI a) (nI q) := by
  have A : wX_arraySupport_130 post 0 c0 c1 c2 c3 a1 a2 a3 a4 a5 a6 a7 a8 a9 a10 a11 a12 a13 a14 a15 a16 a17 a18 a19 a20 a21 a22 a23 a24 a25 a26 a27 a28 := by
    unfold wX_arraySupport_130 wX_arraySupport_131
    exact br_t rfl (br_t rfl H63)
  unfold wpX_arraySupport
  dsimp only
  rw [sf_c (show a < 1000 by omega), h21, h22]
  refine nm_r (sf_p6 a) ⟨sf_in (by omega) (by omega), br_f (fun z => sf_ne (n := q) (by omega) z.symm) ⟨sf_in (by omega) (by omega), br_f (fun z => htq ((nI_eq (by omega) (by omega)).mp z)) ⟨sf_in (by omega) (by omega), br_t rfl ?_⟩⟩⟩
  unfold wX_arraySupport_85 wX_arraySupport_86
  rw [sf_c (show a < 1000 by omega), h22]
  refine ⟨sf_in (by omega) (by omega), br_f (sf_ne (by omega)) ⟨sf_in (by omega) (by omega), sf_loopOf ht g0 g1 (sf_loopOf hq g0 g1 ?_)⟩⟩
  refine pk_le q t (fun _ => A) (fun z => ⟨sf_in (by omega) (by omega), br_c (fun y => ?_) (fun _ => A)⟩)
  unfold wX_arraySupport_131
  exact br_t rfl (br_f (by decide) (H0 z y))
theorem sf_sup_arr {post : Int32 → St2 → Prop} {n k a : Nat} {x2 : Int32} (R : Int32 → Prop) (hk : k < 3) (h17 : a17 k = 1) (h10 : a10 k = 1) (h11 : a11 k = nI a) (hS : ∀ ψ : Int32 → Prop, (∀ r, R r → ψ r) → wpX_arraySupport ψ (c0, c1, c2, c3, a1, a2, a3, a4, a5, a6, a7, a8, a9, a10, a11, a12, a13, a14, a15, a16, a17, a18, a19, a20, a21, a22, a23, a24, a25, a26, a27, a28) (nI a) x2)
    (h : ∀ r, R r → wX_findSupport_2 post 2 x2 c0 c1 c2 c3 n (nI (k + 1)) a1 a2 a3 a4 a5 a6 a7 a8 a9 a10 a11 a12 a13 a14 a15 a16 a17 a18 a19 a20 a21 a22 a23 a24 (upd a25 k r) a26 a27 a28) : wX_findSupport_2 post 2 x2 c0 c1 c2 c3 (n + 1) (nI k) a1 a2 a3 a4 a5 a6 a7 a8 a9 a10 a11 a12 a13 a14 a15 a16 a17 a18 a19 a20 a21 a22 a23 a24 a25 a26 a27 a28 := by
  refine br_f (nI_nlt (b := k) (a := 2) (by omega) (by omega)) ?_
  rw [sf_c (show k < 1000 by omega), h17, h10, h11]
  exact ⟨sf_in (by omega) (by omega), br_f (by decide) ⟨sf_in (by omega) (by omega), nm_e (br_f (by decide) (br_t rfl ⟨sf_in (by omega) (by omega), hS _ (fun r hr => ⟨sf_in (by omega) (by omega), nm_e (nm_r (nI_1 k) (h r hr))⟩)⟩))⟩⟩
theorem sf_findSupport {post : Int32 → St2 → Prop} {pp : Nat} {x2 : Int32} (R0 R1 : Int32 → Prop) (hP : sf_P pp a10 a11 a12 a13 a14 a15 a16) (e0 : a17 0 = 1) (e1 : a17 1 = 1) (e2 : a17 2 = 1)
    (hS0 : ∀ (ψ : Int32 → Prop) (b25 : Nat → Int32), (∀ r, R0 r → ψ r) → wpX_arraySupport ψ (c0, c1, c2, c3, a1, a2, a3, a4, a5, a6, a7, a8, a9, a10, a11, a12, a13, a14, a15, a16, a17, a18, a19, a20, a21, a22, a23, a24, b25, a26, a27, a28) (nI 0) x2) (hS1 : ∀ (ψ : Int32 → Prop) (b25 : Nat → Int32), (∀ r, R1 r → ψ r) → wpX_arraySupport ψ (c0, c1, c2, c3, a1, a2, a3, a4, a5, a6, a7, a8, a9, a10, a11, a12, a13, a14, a15, a16, a17, a18, a19, a20, a21, a22, a23, a24, b25, a26, a27, a28) (nI 1) x2)
    (H : ∀ (r0 r1 : Int32) (b25 : Nat → Int32), R0 r0 → R1 r1 → post (r0 &&& r1) (c0, c1, c2, c3, a1, a2, a3, a4, a5, a6, a7, a8, a9, a10, a11, a12, a13, a14, a15, a16, a17, a18, a19, a20, a21, a22, a23, a24, b25, a26, a27, a28)) : wpX_findSupport post (c0, c1, c2, c3, a1, a2, a3, a4, a5, a6, a7, a8, a9, a10, a11, a12, a13, a14, a15, a16, a17, a18, a19, a20, a21, a22, a23, a24, a25, a26, a27, a28) 2 x2 := by
  obtain ⟨⟨k1, k2, k3⟩, ⟨n1, n2⟩, ⟨_, _, p3⟩, ⟨_, _, q3⟩, _⟩ := hP
  unfold wpX_findSupport
  refine ⟨4, ?_⟩
  refine sf_sup_arr (k := 0) (a := 0) R0 (by omega) e0 k1 n1 (fun ψ hψ => hS0 ψ _ hψ) (fun r0 hr0 => ?_)
  refine sf_sup_arr (k := 1) (a := 1) R1 (by omega) e1 k2 n2 (fun ψ hψ => hS1 ψ _ hψ) (fun r1 hr1 => ?_)
  refine br_f (by decide) ?_
  have c2 : (nI (1 + 1)).toNatClampNeg = 2 := sf_c (n := 2) (by omega)
  rw [c2, e2, k3, p3, q3, sf_c (show 0 < 1000 by omega), sf_c (show 1 < 1000 by omega)]
  refine ⟨pk_in 2 20 (by omega), br_f (by decide) ⟨pk_in 2 20 (by omega), nm_e (br_f (by decide) (br_f (by decide) (br_f (by decide) (br_t rfl ⟨pk_in 2 20 (by omega), sf_in (by omega) (by omega), pk_in 2 20 (by omega), sf_in (by omega) (by omega), pk_in 2 20 (by omega), nm_e (nm_r (e' := 3) (by decide) ?_)⟩))))⟩⟩
  exact br_t (by decide) ⟨pk_in 2 20 (by omega), H r0 r1 _ hr0 hr1⟩
theorem sf_enter {post : St2 → Prop} {pp d q : Nat} (R0 R1 : Int32 → Prop) (hP : sf_P pp a10 a11 a12 a13 a14 a15 a16) (e0 : a17 0 = 1) (e1 : a17 1 = 1) (e2 : a17 2 = 1) (hd : d < 3) (hq : q < 3) (h19 : a19 d = nI q) (h20 : a20 q = 6)
    (hS0 : ∀ (ψ : Int32 → Prop) (b25 : Nat → Int32), (∀ r, R0 r → ψ r) → wpX_arraySupport ψ (c0, c1, c2, c3, a1, a2, a3, a4, a5, a6, a7, a8, a9, a10, a11, a12, a13, a14, a15, a16, a17, a18, a19, a20, a21, a22, a23, a24, b25, a26, a27, a28) (nI 0) (nI q)) (hS1 : ∀ (ψ : Int32 → Prop) (b25 : Nat → Int32), (∀ r, R1 r → ψ r) → wpX_arraySupport ψ (c0, c1, c2, c3, a1, a2, a3, a4, a5, a6, a7, a8, a9, a10, a11, a12, a13, a14, a15, a16, a17, a18, a19, a20, a21, a22, a23, a24, b25, a26, a27, a28) (nI 1) (nI q))
    (H : ∀ (r0 r1 : Int32) (b25 : Nat → Int32), R0 r0 → R1 r1 → post (c0, c1, c2, c3, a1, a2, a3, a4, a5, a6, a7, a8, a9, a10, a11, a12, a13, a14, a15, a16, a17, a18, a19, a20, a21, a22, a23, a24, b25, a26, a27, upd a28 d ((r0 &&& r1) &&& (((1 : Int32) <<< ((6 : Int32) &&& 31)) - 1)))) : wpX_enter post (c0, c1, c2, c3, a1, a2, a3, a4, a5, a6, a7, a8, a9, a10, a11, a12, a13, a14, a15, a16, a17, a18, a19, a20, a21, a22, a23, a24, a25, a26, a27, a28) 2 (nI d) := by
  unfold wpX_enter
  dsimp only
  rw [sf_c (show d < 1000 by omega)]
  refine ⟨sf_in hd (by omega), nm_r h19 (sf_findSupport R0 R1 hP e0 e1 e2 hS0 hS1 (fun r0 r1 b25 hr0 hr1 => ?_))⟩
  dsimp only
  rw [sf_c (show q < 1000 by omega), h20]
  exact ⟨sf_in hq (by omega), sf_in hd (by omega), nm_e (H r0 r1 b25 hr0 hr1)⟩
theorem sf_lowestOf {post : Int32 → Prop} {m : Nat} (hm : m < 64) (h0 : m ≠ 0) (H : ∀ w, w < 6 → m.testBit w = true → post (nI w)) : wpX_lowestOf post (c0, c1, c2, c3, a1, a2, a3, a4, a5, a6, a7, a8, a9, a10, a11, a12, a13, a14, a15, a16, a17, a18, a19, a20, a21, a22, a23, a24, a25, a26, a27, a28) (nI m) := by
  unfold wpX_lowestOf
  refine ⟨7, ?_⟩
  refine pk_loopD (fun n i x => wX_lowestOf_4 post (nI m) c0 c1 c2 c3 a1 a2 a3 a4 a5 a6 a7 a8 a9 a10 a11 a12 a13 a14 a15 a16 a17 a18 a19 a20 a21 a22 a23 a24 a25 a26 a27 a28 n x (nI i + (-1))) (fun i x => i ≤ 6 ∧ ∃ w, w < 6 ∧ x = nI w ∧ (m.testBit w = true ∨ ∀ q, i ≤ q → q < 6 → m.testBit q = false)) ?_ ?_ 6 0 ⟨by omega, 0, by omega, rfl, Or.inr (fun q h h' => absurd h (by omega))⟩
  · intro n x h
    obtain ⟨_, w, hw, hx, hb⟩ := h
    refine br_t (by decide) ?_
    rcases hb with hb | hb
    · rw [hx]
      exact H w hw hb
    · exact absurd (sf_tz m hm (fun v hv => hb v (by omega) hv)) h0
  · intro n i x h hk
    obtain ⟨hi, w, hw, hx, hb⟩ := h
    show wX_lowestOf_4 post (nI m) c0 c1 c2 c3 a1 a2 a3 a4 a5 a6 a7 a8 a9 a10 a11 a12 a13 a14 a15 a16 a17 a18 a19 a20 a21 a22 a23 a24 a25 a26 a27 a28 (n + 1) x (nI (i + 1) + (-1))
    rw [pk_m1]
    refine br_f (nI_pos (by omega)) (br_c (fun z => nm_e (hk _ ⟨by omega, i, by omega, rfl, Or.inl ((sf_bit m hm i (by omega)).mp z)⟩)) (fun z => nm_e (hk _ ⟨by omega, w, hw, hx, ?_⟩)))
    rcases hb with hb | hb
    · exact Or.inl hb
    · refine Or.inr (fun q hq hq6 => ?_)
      by_cases e : q = i
      · rw [e]
        cases hbi : m.testBit i with
        | false => rfl
        | true => exact absurd ((sf_bit m hm i (by omega)).mpr hbi) z
      · exact hb q (by omega) hq6
theorem sf_mv_own {post : St2 → Prop} {n a q v : Nat} {u : Nat → Int32} (ha : a < 2) (hq : q < 3) (hv : v < 6) (h21 : a21 a = -1) (h22 : a22 a = nI q) (h23 : a23 a = 0) (hV : sf_V (6 + a) u a1 a2 a3 a4 a5 a6 a7 a8 a9)
    (h : ∀ r, sf_G (6 + a) u v r a9 → wX_moveTo_9 post (nI q) (nI v) c0 2 c2 c3 n (nI (a + 1)) a1 a2 a3 a4 a5 a6 a7 a8 a9 a10 a11 a12 a13 a14 a15 a16 a17 a18 a19 a20 a21 a22 a23 (upd a24 a r) a25 a26 a27 a28) : wX_moveTo_9 post (nI q) (nI v) c0 2 c2 c3 (n + 1) (nI a) a1 a2 a3 a4 a5 a6 a7 a8 a9 a10 a11 a12 a13 a14 a15 a16 a17 a18 a19 a20 a21 a22 a23 a24 a25 a26 a27 a28 := by
  refine br_f (nI_ge (b := 2) (by omega) (by omega)) (nm_r (sf_p6 a) ?_)
  rw [sf_c (show a < 1000 by omega), h21]
  refine ⟨sf_in (by omega) (by omega), br_f (fun z => sf_ne (n := q) (by omega) z.symm) ?_⟩
  unfold wX_moveTo_46
  rw [sf_c (show a < 1000 by omega), h22, h23]
  exact ⟨sf_in (by omega) (by omega), br_t rfl ⟨sf_in (by omega) (by omega), br_f (by decide) ⟨sf_in (by omega) (by omega), sf_findPlace (by omega) hv hV (fun r hr => ⟨sf_in (by omega) (by omega), nm_e (nm_r (nI_1 a) (h r hr))⟩)⟩⟩⟩
theorem sf_mv_other {post : St2 → Prop} {n a q : Nat} {x : Int32} (ha : a < 2) (hq : q < 3) (h21 : a21 a = -1) (h22 : ¬ a22 a = nI q)
    (h : wX_moveTo_9 post (nI q) x c0 2 c2 c3 n (nI (a + 1)) a1 a2 a3 a4 a5 a6 a7 a8 a9 a10 a11 a12 a13 a14 a15 a16 a17 a18 a19 a20 a21 a22 a23 a24 a25 a26 a27 a28) : wX_moveTo_9 post (nI q) x c0 2 c2 c3 (n + 1) (nI a) a1 a2 a3 a4 a5 a6 a7 a8 a9 a10 a11 a12 a13 a14 a15 a16 a17 a18 a19 a20 a21 a22 a23 a24 a25 a26 a27 a28 := by
  refine br_f (nI_ge (b := 2) (by omega) (by omega)) (nm_r (sf_p6 a) ?_)
  rw [sf_c (show a < 1000 by omega), h21]
  refine ⟨sf_in (by omega) (by omega), br_f (fun z => sf_ne (n := q) (by omega) z.symm) ?_⟩
  unfold wX_moveTo_46
  rw [sf_c (show a < 1000 by omega)]
  exact ⟨sf_in (by omega) (by omega), br_f h22 (nm_r (nI_1 a) h)⟩
/-- index 0 takes v, both arrays go there -/
theorem sf_moveTo_both {post : St2 → Prop} {v : Nat} {u w : Nat → Int32} (hv : v < 6) (l0 : a21 0 = -1) (l1 : a21 1 = -1) (p0 : a22 0 = nI 0) (p1 : a22 1 = nI 0) (t0 : a23 0 = 0) (t1 : a23 1 = 0) (hU : sf_V 6 u a1 a2 a3 a4 a5 a6 a7 a8 a9) (hW : sf_V 7 w a1 a2 a3 a4 a5 a6 a7 a8 a9)
    (H : ∀ b24 : Nat → Int32, sf_G 6 u v (b24 0) a9 → sf_G 7 w v (b24 1) a9 → post (c0, 2, c2, c3, a1, a2, a3, a4, a5, a6, a7, a8, a9, a10, a11, a12, a13, a14, a15, a16, a17, a18, a19, a20, a21, a22, a23, b24, a25, a26, upd a27 0 (nI v), a28)) : wpX_moveTo post (c0, 2, c2, c3, a1, a2, a3, a4, a5, a6, a7, a8, a9, a10, a11, a12, a13, a14, a15, a16, a17, a18, a19, a20, a21, a22, a23, a24, a25, a26, a27, a28) (nI 0) (nI v) := by
  unfold wpX_moveTo
  dsimp only
  rw [sf_c (show 0 < 1000 by omega)]
  refine ⟨sf_in (by omega) (by omega), nm_e ⟨3, ?_⟩⟩
  refine sf_mv_own (a := 0) (by omega) (by omega) hv l0 p0 t0 hU (fun r0 hr0 => ?_)
  refine sf_mv_own (a := 1) (by omega) (by omega) hv l1 p1 t1 hW (fun r1 hr1 => ?_)
  exact br_t (by decide) (H _ hr0 hr1)
theorem sf_moveTo_0 {post : St2 → Prop} {v : Nat} {u : Nat → Int32} (hv : v < 6) (l0 : a21 0 = -1) (l1 : a21 1 = -1) (p0 : a22 0 = nI 0) (p1 : a22 1 = nI 1) (t0 : a23 0 = 0) (hU : sf_V 6 u a1 a2 a3 a4 a5 a6 a7 a8 a9)
    (H : ∀ b24 : Nat → Int32, sf_G 6 u v (b24 0) a9 → post (c0, 2, c2, c3, a1, a2, a3, a4, a5, a6, a7, a8, a9, a10, a11, a12, a13, a14, a15, a16, a17, a18, a19, a20, a21, a22, a23, b24, a25, a26, upd a27 0 (nI v), a28)) : wpX_moveTo post (c0, 2, c2, c3, a1, a2, a3, a4, a5, a6, a7, a8, a9, a10, a11, a12, a13, a14, a15, a16, a17, a18, a19, a20, a21, a22, a23, a24, a25, a26, a27, a28) (nI 0) (nI v) := by
  unfold wpX_moveTo
  dsimp only
  rw [sf_c (show 0 < 1000 by omega)]
  refine ⟨sf_in (by omega) (by omega), nm_e ⟨3, ?_⟩⟩
  refine sf_mv_own (a := 0) (by omega) (by omega) hv l0 p0 t0 hU (fun r0 hr0 => ?_)
  refine sf_mv_other (a := 1) (by omega) (by omega) l1 (by rw [p1]; decide) ?_
  exact br_t (by decide) (H _ hr0)
theorem sf_moveTo_1 {post : St2 → Prop} {v : Nat} {w : Nat → Int32} (hv : v < 6) (l0 : a21 0 = -1) (l1 : a21 1 = -1) (p0 : a22 0 = nI 0) (p1 : a22 1 = nI 1) (t1 : a23 1 = 0) (hW : sf_V 7 w a1 a2 a3 a4 a5 a6 a7 a8 a9)
    (H : ∀ b24 : Nat → Int32, b24 0 = a24 0 → sf_G 7 w v (b24 1) a9 → post (c0, 2, c2, c3, a1, a2, a3, a4, a5, a6, a7, a8, a9, a10, a11, a12, a13, a14, a15, a16, a17, a18, a19, a20, a21, a22, a23, b24, a25, a26, upd a27 1 (nI v), a28)) : wpX_moveTo post (c0, 2, c2, c3, a1, a2, a3, a4, a5, a6, a7, a8, a9, a10, a11, a12, a13, a14, a15, a16, a17, a18, a19, a20, a21, a22, a23, a24, a25, a26, a27, a28) (nI 1) (nI v) := by
  unfold wpX_moveTo
  dsimp only
  rw [sf_c (show 1 < 1000 by omega)]
  refine ⟨sf_in (by omega) (by omega), nm_e ⟨3, ?_⟩⟩
  refine sf_mv_other (a := 0) (by omega) (by omega) l0 (by rw [p0]; decide) ?_
  refine sf_mv_own (a := 1) (by omega) (by omega) hv l1 p1 t1 hW (fun r1 hr1 => ?_)
  exact br_t (by decide) (H _ rfl hr1)
theorem sf_arrayValue {post : Int32 → Prop} {a q : Nat} {u : Nat → Int32} (ha : a < 2) (hG : sf_G (6 + a) u q (a24 a) a9) (hp : post (u q)) : wpX_arrayValue post (c0, c1, c2, c3, a1, a2, a3, a4, a5, a6, a7, a8, a9, a10, a11, a12, a13, a14, a15, a16, a17, a18, a19, a20, a21, a22, a23, a24, a25, a26, a27, a28) (nI a) := by
  unfold wpX_arrayValue
  dsimp only
  rw [sf_c (show a < 1000 by omega)]
  rcases hG with ⟨h, hz⟩ | ⟨k, hk, h, h9⟩
  · rw [hz] at hp
    exact ⟨sf_in (by omega) (by omega), br_t h hp⟩
  · rw [h, sf_p6, sf_i36, sf_c (show 36 * (6 + a) + k < 1000 by omega), h9]
    exact ⟨sf_in (by omega) (by omega), br_f (sf_ne (by omega)) ⟨sf_in (by omega) (by omega), sf_in (by omega) (by omega), hp⟩⟩
theorem sf_val_arr {post : Int32 → St2 → Prop} {n k a q : Nat} {u : Nat → Int32} (hk : k < 3) (ha : a < 2) (h17 : a17 k = 1) (h10 : a10 k = 1) (h11 : a11 k = nI a) (hG : sf_G (6 + a) u q (a24 a) a9)
    (h : wX_findValue_2 post 2 c0 c1 c2 c3 n (nI (k + 1)) a1 a2 a3 a4 a5 a6 a7 a8 a9 a10 a11 a12 a13 a14 a15 a16 a17 a18 a19 a20 a21 a22 a23 a24 a25 (upd a26 k (u q)) a27 a28) : wX_findValue_2 post 2 c0 c1 c2 c3 (n + 1) (nI k) a1 a2 a3 a4 a5 a6 a7 a8 a9 a10 a11 a12 a13 a14 a15 a16 a17 a18 a19 a20 a21 a22 a23 a24 a25 a26 a27 a28 := by
  refine br_f (nI_nlt (b := k) (a := 2) (by omega) (by omega)) ?_
  rw [sf_c (show k < 1000 by omega), h17, h10, h11]
  exact ⟨sf_in (by omega) (by omega), br_f (by decide) ⟨sf_in (by omega) (by omega), nm_e (br_f (by decide) (br_t rfl ⟨sf_in (by omega) (by omega), sf_arrayValue ha hG ⟨sf_in (by omega) (by omega), nm_e (nm_r (nI_1 k) h)⟩⟩))⟩⟩
theorem sf_findValue {post : Int32 → St2 → Prop} {pp q t : Nat} {u w : Nat → Int32} (hP : sf_P pp a10 a11 a12 a13 a14 a15 a16) (e0 : a17 0 = 1) (e1 : a17 1 = 1) (e2 : a17 2 = 1) (hG0 : sf_G 6 u q (a24 0) a9) (hG1 : sf_G 7 w t (a24 1) a9)
    (H : ∀ b26 : Nat → Int32, post (u q * w t) (c0, c1, c2, c3, a1, a2, a3, a4, a5, a6, a7, a8, a9, a10, a11, a12, a13, a14, a15, a16, a17, a18, a19, a20, a21, a22, a23, a24, a25, b26, a27, a28)) : wpX_findValue post (c0, c1, c2, c3, a1, a2, a3, a4, a5, a6, a7, a8, a9, a10, a11, a12, a13, a14, a15, a16, a17, a18, a19, a20, a21, a22, a23, a24, a25, a26, a27, a28) 2 := by
  obtain ⟨⟨k1, k2, k3⟩, ⟨n1, n2⟩, ⟨_, _, p3⟩, ⟨_, _, q3⟩, _⟩ := hP
  unfold wpX_findValue
  refine ⟨4, ?_⟩
  refine sf_val_arr (k := 0) (a := 0) (by omega) (by omega) e0 k1 n1 hG0 ?_
  refine sf_val_arr (k := 1) (a := 1) (by omega) (by omega) e1 k2 n2 hG1 ?_
  refine br_f (by decide) ?_
  have c2 : (nI (1 + 1)).toNatClampNeg = 2 := sf_c (n := 2) (by omega)
  rw [c2, e2, k3, p3, q3, sf_c (show 0 < 1000 by omega), sf_c (show 1 < 1000 by omega)]
  refine ⟨pk_in 2 20 (by omega), br_f (by decide) ⟨pk_in 2 20 (by omega), nm_e (br_f (by decide) (br_f (by decide) (br_f (by decide) (br_f (by decide) (br_f (by decide) ⟨pk_in 2 20 (by omega), sf_in (by omega) (by omega), pk_in 2 20 (by omega), sf_in (by omega) (by omega), pk_in 2 20 (by omega), nm_e (nm_r (e' := 3) (by decide) ?_)⟩)))))⟩⟩
  exact br_t (by decide) ⟨pk_in 2 20 (by omega), H _⟩
theorem sf_add33 {post : St2 → Prop} {pp q t at' : Nat} {z0 z1 : Int32} {u w : Nat → Int32} (hP : sf_P pp a10 a11 a12 a13 a14 a15 a16) (e0 : a17 0 = 1) (e1 : a17 1 = 1) (e2 : a17 2 = 1) (hG0 : sf_G 6 u q (a24 0) a9) (hG1 : sf_G 7 w t (a24 1) a9) (hz : z1 + z0 = nI at') (ha : at' < 36)
    (H : ∀ b26 : Nat → Int32, post (c0, c1, c2, c3, a1, a2, a3, a4, a5, a6, a7, a8, a9, a10, a11, a12, a13, a14, a15, a16, a17, upd a18 at' (a18 at' + u q * w t), a19, a20, a21, a22, a23, a24, a25, b26, a27, a28)) : wX_addValue_33 post 2 z0 z1 c0 c1 c2 c3 a1 a2 a3 a4 a5 a6 a7 a8 a9 a10 a11 a12 a13 a14 a15 a16 a17 a18 a19 a20 a21 a22 a23 a24 a25 a26 a27 a28 := by
  unfold wX_addValue_33
  refine nm_r hz ?_
  rw [sf_c (show at' < 1000 by omega)]
  exact ⟨sf_in ha (by omega), sf_findValue hP e0 e1 e2 hG0 hG1 (fun b26 => And.intro (sf_in ha (by omega)) (nm_e (H b26)))⟩
theorem sf_addValue_dot {post : St2 → Prop} {pp q t : Nat} {u w : Nat → Int32} (hP : sf_P pp a10 a11 a12 a13 a14 a15 a16) (e0 : a17 0 = 1) (e1 : a17 1 = 1) (e2 : a17 2 = 1) (hG0 : sf_G 6 u q (a24 0) a9) (hG1 : sf_G 7 w t (a24 1) a9)
    (H : ∀ b26 : Nat → Int32, post (c0, c1, c2, c3, a1, a2, a3, a4, a5, a6, a7, a8, a9, a10, a11, a12, a13, a14, a15, a16, a17, upd a18 0 (a18 0 + u q * w t), a19, a20, a21, a22, a23, a24, a25, b26, a27, a28)) : wpX_addValue post (c0, c1, c2, c3, a1, a2, a3, a4, a5, a6, a7, a8, a9, a10, a11, a12, a13, a14, a15, a16, a17, a18, a19, a20, a21, a22, a23, a24, a25, a26, a27, a28) 2 (-1) (-1) := by
  unfold wpX_addValue
  refine br_t rfl ?_
  unfold wX_addValue_17
  exact br_t rfl (sf_add33 hP e0 e1 e2 hG0 hG1 (at' := 0) (by decide) (by omega) H)
theorem sf_addValue_out {post : St2 → Prop} {pp q t : Nat} {u w : Nat → Int32} (hq : q < 6) (ht : t < 6) (hP : sf_P pp a10 a11 a12 a13 a14 a15 a16) (e0 : a17 0 = 1) (e1 : a17 1 = 1) (e2 : a17 2 = 1) (hG0 : sf_G 6 u q (a24 0) a9) (hG1 : sf_G 7 w t (a24 1) a9) (n0 : a27 0 = nI q) (n1 : a27 1 = nI t)
    (H : ∀ b26 : Nat → Int32, post (c0, c1, c2, c3, a1, a2, a3, a4, a5, a6, a7, a8, a9, a10, a11, a12, a13, a14, a15, a16, a17, upd a18 (6 * t + q) (a18 (6 * t + q) + u q * w t), a19, a20, a21, a22, a23, a24, a25, b26, a27, a28)) : wpX_addValue post (c0, c1, c2, c3, a1, a2, a3, a4, a5, a6, a7, a8, a9, a10, a11, a12, a13, a14, a15, a16, a17, a18, a19, a20, a21, a22, a23, a24, a25, a26, a27, a28) 2 (nI 1) (nI 0) := by
  unfold wpX_addValue
  dsimp only
  rw [sf_c (show 1 < 1000 by omega), n1]
  refine br_f (by decide) ⟨sf_in (by omega) (by omega), ?_⟩
  unfold wX_addValue_17
  rw [sf_c (show 0 < 1000 by omega), n0]
  exact br_f (by decide) ⟨sf_in (by omega) (by omega), sf_add33 hP e0 e1 e2 hG0 hG1 (sf_i6 t q) (by omega) H⟩
end
end
section
/-! workOut: the dot product and the outer product -/
section
variable {c0 c1 c2 c3 : Int32} {a1 a2 a3 a4 a5 a6 a7 a8 a9 a10 a11 a12 a13 a14 a15 a16 a17 a18 a19 a20 a21 a22 a23 a24 a25 a26 a27 a28 : Nat → Int32}
theorem sf_start_step {post : St2 → Prop} {n a t : Nat} (ha : a < 2) (ht : t < 3) (h21 : a21 a = -1) (h22 : a22 a = nI t) (h : wX_startArrays_2 post c0 2 c2 c3 n (nI (a + 1)) a1 a2 a3 a4 a5 a6 a7 a8 a9 a10 a11 a12 a13 a14 a15 a16 a17 a18 a19 a20 a21 a22 (upd a23 a 0) (upd a24 a (-1)) a25 a26 a27 a28) : wX_startArrays_2 post c0 2 c2 c3 (n + 1) (nI a) a1 a2 a3 a4 a5 a6 a7 a8 a9 a10 a11 a12 a13 a14 a15 a16 a17 a18 a19 a20 a21 a22 a23 a24 a25 a26 a27 a28 := by
  refine br_f (nI_ge (b := 2) (by omega) (by omega)) ?_
  rw [sf_c (show a < 1000 by omega), h21]
  refine ⟨sf_in (by omega) (by omega), br_t rfl ?_⟩
  unfold wX_startArrays_25
  refine br_f (by decide) ?_
  unfold wX_startArrays_40
  rw [sf_c (show a < 1000 by omega), h22]
  refine ⟨sf_in (by omega) (by omega), nm_e (br_f (by decide) ⟨sf_in (by omega) (by omega), br_f (sf_ne (by omega)) ?_⟩)⟩
  unfold wX_startArrays_59 wX_startArrays_60
  rw [sf_c (show a < 1000 by omega)]
  exact br_t rfl ⟨sf_in (by omega) (by omega), nm_e (nm_r (nI_1 a) h)⟩
theorem sf_startArrays {post : St2 → Prop} {pp : Nat} (hpp : pp < 2) (l0 : a21 0 = -1) (l1 : a21 1 = -1) (p0 : a22 0 = nI 0) (p1 : a22 1 = nI pp) (H : ∀ b23 b24 : Nat → Int32, b23 0 = 0 → b23 1 = 0 → post (c0, 2, c2, c3, a1, a2, a3, a4, a5, a6, a7, a8, a9, a10, a11, a12, a13, a14, a15, a16, a17, a18, a19, a20, a21, a22, b23, b24, a25, a26, a27, a28)) : wpX_startArrays post (c0, 2, c2, c3, a1, a2, a3, a4, a5, a6, a7, a8, a9, a10, a11, a12, a13, a14, a15, a16, a17, a18, a19, a20, a21, a22, a23, a24, a25, a26, a27, a28) := by
  unfold wpX_startArrays
  refine ⟨3, ?_⟩
  refine sf_start_step (a := 0) (by omega) (by omega) l0 p0 ?_
  refine sf_start_step (a := 1) (t := pp) (by omega) (by omega) l1 p1 ?_
  exact br_t (by decide) (H _ _ rfl rfl)
/-- what workOut's loop never changes: the formula, the loops' order, the two vectors -/
def sf_K (pp : Nat) (u w : Nat → Int32) (a1 a2 a3 a4 a5 a6 a7 a8 a9 a10 a11 a12 a13 a14 a15 a16 a17 a19 a20 a21 a22 : Nat → Int32) : Prop :=
  sf_P pp a10 a11 a12 a13 a14 a15 a16 ∧ (a17 0 = 1 ∧ a17 1 = 1 ∧ a17 2 = 1) ∧ (a19 0 = nI 0 ∧ a19 1 = nI 1) ∧ (a20 0 = 6 ∧ a20 1 = nI (6 * pp)) ∧ (a21 0 = -1 ∧ a21 1 = -1) ∧ (a22 0 = nI 0 ∧ a22 1 = nI pp) ∧ sf_V 6 u a1 a2 a3 a4 a5 a6 a7 a8 a9 ∧ sf_V 7 w a1 a2 a3 a4 a5 a6 a7 a8 a9
theorem sf_dot_step {m v i : Nat} {x y z : Int32} (hm : m < 64) (hv : v < 6) (hi : i < 6) (hbit : m.testBit v = true) (h : x = if m.testBit i = true then 0 else y) (hz0 : v ≠ i → z = 0) (hzy : v = i → z = y) : x + z = if (m - 2 ^ v).testBit i = true then 0 else y := by
  have t := sf_tb m hm v hv hbit i hi
  by_cases e : v = i
  · rw [hzy e, h, t, ← e, hbit]
    simp
  · rw [hz0 e, h, t, decide_eq_true (show i ≠ v from fun z => e z.symm), Bool.and_true]
    simp
theorem sf_dot_loop {post : St2 → Prop} {u w : Nat → Int32} {i : Nat} (hi : i < 6) (hu : ∀ q, q < 6 → q ≠ i → u q = 0) (hK : sf_K 0 u w a1 a2 a3 a4 a5 a6 a7 a8 a9 a10 a11 a12 a13 a14 a15 a16 a17 a19 a20 a21 a22) (t0 : a23 0 = 0) (t1 : a23 1 = 0)
    (H : ∀ b18 b24 b25 b26 b27 b28 : Nat → Int32, b18 0 = u i * w i → post (c0, 2, c2, nI 1, a1, a2, a3, a4, a5, a6, a7, a8, a9, a10, a11, a12, a13, a14, a15, a16, a17, b18, a19, a20, a21, a22, a23, b24, b25, b26, b27, b28)) :
    ∀ (c m r : Nat) (b18 b24 b25 b26 b27 b28 : Nat → Int32), m < 64 → sf_pc m = c → r + c ≤ 100 → b28 0 = nI m → b18 0 = (if m.testBit i = true then 0 else u i * w i) → wX_workOut_35 post 2 (-1) (-1) (c + 2) 0 (nI r) c0 2 c2 (nI 1) a1 a2 a3 a4 a5 a6 a7 a8 a9 a10 a11 a12 a13 a14 a15 a16 a17 b18 a19 a20 a21 a22 a23 b24 b25 b26 b27 b28 := by
  obtain ⟨hP, ⟨e0, e1, e2⟩, ⟨g0, g1⟩, ⟨s0, s1⟩, ⟨l0, l1⟩, ⟨p0, p1⟩, hU, hW⟩ := hK
  have z0 : (0 : Int32).toNatClampNeg = 0 := sf_c (n := 0) (by omega)
  intro c
  induction c with
  | zero =>
    intro m r b18 b24 b25 b26 b27 b28 hm hc hr h28 h18
    have em := sf_pc0 m hm hc
    rw [em] at h28 h18
    rw [Nat.zero_testBit] at h18
    refine pk_le 1000 r (fun z => absurd z (by omega)) (fun _ => br_f (by decide) ⟨pk_in 0 3 (by omega), br_t h28 (nm_r (e' := -1) (by decide) (nm_r (nI_1 r) ?_))⟩)
    refine pk_le 1000 (r + 1) (fun z => absurd z (by omega)) (fun _ => br_t (by decide) (H b18 b24 b25 b26 b27 b28 ?_))
    rw [h18]
    rfl
  | succ c ih =>
    intro m r b18 b24 b25 b26 b27 b28 hm hc hr h28 h18
    have hm0 : m ≠ 0 := by
      intro e
      rw [e] at hc
      have z : sf_pc 0 = 0 := rfl
      omega
    refine pk_le 1000 r (fun z => absurd z (by omega)) (fun _ => br_f (by decide) ?_)
    rw [z0, h28]
    refine ⟨pk_in 0 3 (by omega), br_f (nI_ne0 (by omega) (by omega)) ⟨pk_in 0 3 (by omega), ?_⟩⟩
    refine sf_lowestOf hm hm0 (fun v hv hbit => ?_)
    refine ⟨pk_in 0 3 (by omega), pk_in 0 3 (by omega), nm_r (e' := upd b28 0 (nI (m - 2 ^ v))) (by rw [sf_clr m hm v hv hbit]) ⟨pk_in 0 3 (by omega), ?_⟩⟩
    rw [g0]
    refine sf_moveTo_both hv l0 l1 p0 p1 t0 t1 hU hW (fun b24' hG0 hG1 => br_t (by decide) ?_)
    refine sf_addValue_dot hP e0 e1 e2 hG0 hG1 (fun b26' => nm_r (nI_1 r) ?_)
    have hp := sf_pcs m hm v hv hbit
    refine ih (m - 2 ^ v) (r + 1) _ _ _ _ _ _ (Nat.lt_of_le_of_lt (Nat.sub_le _ _) hm) (by omega) (by omega) pk_us ?_
    rw [pk_us]
    refine sf_dot_step hm hv hi hbit h18 (fun e => ?_) (fun e => ?_)
    · rw [hu v hv e, sf_zmul]
    · rw [e]
def sf_I0 (u w b : Nat → Int32) (m : Nat) : Prop := ∀ q t, q < 6 → t < 6 → b (6 * t + q) = if m.testBit q = true then 0 else u q * w t
def sf_I1 (u w b : Nat → Int32) (m k v : Nat) : Prop := ∀ q t, q < 6 → t < 6 → b (6 * t + q) = if m.testBit q = true then 0 else if q = v ∧ k.testBit t = true then 0 else u q * w t
theorem sf_I01 {u w b : Nat → Int32} {m k v : Nat} (h : sf_I0 u w b m) (hm : m < 64) (hv : v < 6) (hbit : m.testBit v = true) (hk : ∀ t, t < 6 → k.testBit t = false → u v * w t = 0) : sf_I1 u w b (m - 2 ^ v) k v := by
  intro q t hq ht
  have e1 := sf_tb m hm v hv hbit q hq
  rw [h q t hq ht, e1]
  by_cases e : q = v
  · subst e
    rw [hbit, if_pos rfl]
    cases hkt : k.testBit t with
    | true => simp
    | false => simp [hk t ht hkt]
  · simp [e]
theorem sf_I10 {u w b : Nat → Int32} {m v : Nat} (h : sf_I1 u w b m 0 v) : sf_I0 u w b m := by
  intro q t hq ht
  rw [h q t hq ht, Nat.zero_testBit]
  simp
theorem sf_I11 {u w b : Nat → Int32} {m k v t : Nat} (h : sf_I1 u w b m k v) (hv : v < 6) (hk : k < 64) (ht : t < 6) (hmv : m.testBit v = false) (hbit : k.testBit t = true) : sf_I1 u w (upd b (6 * t + v) (b (6 * t + v) + u v * w t)) m (k - 2 ^ t) v := by
  intro q t' hq ht'
  have e1 := sf_tb k hk t ht hbit t' ht'
  by_cases e : q = v
  · subst e
    by_cases et : t' = t
    · subst et
      rw [pk_us, h q t' hq ht', e1, hmv, hbit]
      simp
    · rw [pk_un (by omega), h q t' hq ht', e1]
      simp [et]
  · rw [pk_un (by omega), h q t' hq ht']
    simp [e]
theorem sf_out_loop {post : St2 → Prop} {u w : Nat → Int32} (hK : sf_K 1 u w a1 a2 a3 a4 a5 a6 a7 a8 a9 a10 a11 a12 a13 a14 a15 a16 a17 a19 a20 a21 a22) (t0 : a23 0 = 0) (t1 : a23 1 = 0)
    (H : ∀ b18 b24 b25 b26 b27 b28 : Nat → Int32, sf_I0 u w b18 0 → post (c0, 2, c2, nI 2, a1, a2, a3, a4, a5, a6, a7, a8, a9, a10, a11, a12, a13, a14, a15, a16, a17, b18, a19, a20, a21, a22, a23, b24, b25, b26, b27, b28)) :
    ∀ N : Nat,
    (∀ (m r : Nat) (b18 b24 b25 b26 b27 b28 : Nat → Int32), m < 64 → 8 * sf_pc m + 2 ≤ N → r + 8 * sf_pc m + 2 ≤ 100 → b28 0 = nI m → sf_I0 u w b18 m → wX_workOut_35 post 2 (nI 1) (nI 0) N 0 (nI r) c0 2 c2 (nI 2) a1 a2 a3 a4 a5 a6 a7 a8 a9 a10 a11 a12 a13 a14 a15 a16 a17 b18 a19 a20 a21 a22 a23 b24 b25 b26 b27 b28) ∧
    (∀ (m k v r : Nat) (b18 b24 b25 b26 b27 b28 : Nat → Int32), m < 64 → k < 64 → v < 6 → 8 * sf_pc m + sf_pc k + 3 ≤ N → r + 8 * sf_pc m + sf_pc k + 3 ≤ 100 → b28 0 = nI m → b28 1 = nI k → m.testBit v = false → b27 0 = nI v → sf_G 6 u v (b24 0) a9 → sf_I1 u w b18 m k v → wX_workOut_35 post 2 (nI 1) (nI 0) N 1 (nI r) c0 2 c2 (nI 2) a1 a2 a3 a4 a5 a6 a7 a8 a9 a10 a11 a12 a13 a14 a15 a16 a17 b18 a19 a20 a21 a22 a23 b24 b25 b26 b27 b28) := by
  obtain ⟨hP, ⟨e0, e1, e2⟩, ⟨g0, g1⟩, ⟨s0, s1⟩, ⟨l0, l1⟩, ⟨p0, p1⟩, hU, hW⟩ := hK
  have z0 : (0 : Int32).toNatClampNeg = 0 := sf_c (n := 0) (by omega)
  have z1 : (1 : Int32).toNatClampNeg = 1 := sf_c (n := 1) (by omega)
  intro N
  induction N with
  | zero => exact ⟨fun m r b18 b24 b25 b26 b27 b28 _ h => absurd h (by omega), fun m k v r b18 b24 b25 b26 b27 b28 _ _ _ h => absurd h (by omega)⟩
  | succ N ih =>
    obtain ⟨ihA, ihB⟩ := ih
    refine ⟨?_, ?_⟩
    · intro m r b18 b24 b25 b26 b27 b28 hm hN hr h28 hI
      refine pk_le 1000 r (fun z => absurd z (by omega)) (fun _ => br_f (by decide) ?_)
      rw [z0, h28]
      by_cases hm0 : m = 0
      · subst hm0
        refine ⟨pk_in 0 3 (by omega), br_t rfl (nm_r (e' := -1) (by decide) (nm_r (nI_1 r) ?_))⟩
        match N, hN with
        | N' + 1, _ => exact pk_le 1000 (r + 1) (fun z => absurd z (by omega)) (fun _ => br_t (by decide) (H b18 b24 b25 b26 b27 b28 hI))
      · refine ⟨pk_in 0 3 (by omega), br_f (nI_ne0 (by omega) (by omega)) ⟨pk_in 0 3 (by omega), ?_⟩⟩
        refine sf_lowestOf hm hm0 (fun v hv hbit => ?_)
        refine ⟨pk_in 0 3 (by omega), pk_in 0 3 (by omega), nm_r (e' := upd b28 0 (nI (m - 2 ^ v))) (by rw [sf_clr m hm v hv hbit]) ⟨pk_in 0 3 (by omega), ?_⟩⟩
        rw [g0]
        refine sf_moveTo_0 hv l0 l1 p0 p1 t0 hU (fun b24' hG0 => br_f (by decide) (nm_r (e' := nI 1) (by decide) ?_))
        refine sf_enter (d := 1) (q := 1) (fun x => x = 63 ∨ (x = 0 ∧ b24' 0 = -1)) (fun x => ∃ k, k < 64 ∧ x = nI k ∧ ∀ q, q < 6 → k.testBit q = false → w q = 0) hP e0 e1 e2 (by omega) (by omega) g1 s1 (fun ψ b25' hψ => sf_arrSup_other (a := 0) (t := 0) (by omega) (by omega) (by omega) (by omega) l0 p0 g0 g1 (hψ _ (Or.inl rfl)) (fun _ y => hψ _ (Or.inr ⟨rfl, y⟩))) (fun ψ b25' hψ => sf_arrSup_own (a := 1) (by omega) (by omega) l1 p1 t1 hW (fun k hk hz => hψ _ ⟨k, hk, rfl, hz⟩)) (fun r0 r1 b25' hr0 hr1 => nm_r (nI_1 r) ?_)
        have hp := sf_pcs m hm v hv hbit
        have htv : (m - 2 ^ v).testBit v = false := by
          rw [sf_tb m hm v hv hbit v hv]
          simp
        obtain ⟨k, hk, rfl, hz⟩ := hr1
        have hk6 := sf_pc6 k
        have key : ∃ k', k' < 64 ∧ (r0 &&& nI k) &&& (((1 : Int32) <<< ((6 : Int32) &&& 31)) - 1) = nI k' ∧ ∀ t, t < 6 → k'.testBit t = false → u v * w t = 0 := by
          rcases hr0 with rfl | ⟨rfl, hb⟩
          · refine ⟨k, hk, ?_, fun t ht hkt => by rw [hz t ht hkt, sf_mulz]⟩
            rw [show (63 : Int32) &&& nI k = nI (63 &&& k) from sf_and 63 k, (sf_a63 k hk).2, sf_span k hk]
          · refine ⟨0, by omega, ?_, fun t ht _ => ?_⟩
            · rw [show (0 : Int32) &&& nI k = nI (0 &&& k) from sf_and 0 k, Nat.zero_and, sf_span 0 (by omega)]
            · rcases hG0 with ⟨_, hu⟩ | ⟨k2, hk2, hk3, _⟩
              · rw [hu, sf_zmul]
              · exact absurd (hk3.symm.trans hb) (sf_ne (by omega))
        obtain ⟨k', hk', ek, hz'⟩ := key
        have hk6' := sf_pc6 k'
        rw [ek]
        exact ihB (m - 2 ^ v) k' v (r + 1) _ _ _ _ _ _ (Nat.lt_of_le_of_lt (Nat.sub_le _ _) hm) hk' hv (by omega) (by omega) (by rw [pk_un (by omega), pk_us]) pk_us htv pk_us hG0 (sf_I01 hI hm hv hbit hz')
    · intro m k v r b18 b24 b25 b26 b27 b28 hm hk hv hN hr h28 h28' htv h27 hG0 hI
      refine pk_le 1000 r (fun z => absurd z (by omega)) (fun _ => br_f (by decide) ?_)
      rw [z1, h28']
      by_cases hk0 : k = 0
      · subst hk0
        refine ⟨pk_in 1 3 (by omega), br_t rfl (nm_r (e' := 0) (by decide) (nm_r (nI_1 r) ?_))⟩
        have : sf_pc 0 = 0 := rfl
        exact ihA m (r + 1) _ _ _ _ _ _ hm (by omega) (by omega) h28 (sf_I10 hI)
      · refine ⟨pk_in 1 3 (by omega), br_f (nI_ne0 (by omega) (by omega)) ⟨pk_in 1 3 (by omega), ?_⟩⟩
        refine sf_lowestOf hk hk0 (fun t ht hbit => ?_)
        refine ⟨pk_in 1 3 (by omega), pk_in 1 3 (by omega), nm_r (e' := upd b28 1 (nI (k - 2 ^ t))) (by rw [sf_clr k hk t ht hbit]) ⟨pk_in 1 3 (by omega), ?_⟩⟩
        rw [g1]
        refine sf_moveTo_1 ht l0 l1 p0 p1 t1 hW (fun b24' hb0 hG1 => br_t (by decide) ?_)
        rw [← hb0] at hG0
        refine sf_addValue_out hv ht hP e0 e1 e2 hG0 hG1 (by rw [pk_un (by omega)]; exact h27) pk_us (fun b26' => nm_r (nI_1 r) ?_)
        have hp := sf_pcs k hk t ht hbit
        exact ihB m (k - 2 ^ t) v (r + 1) _ _ _ _ _ _ hm (Nat.lt_of_le_of_lt (Nat.sub_le _ _) hk) hv (by omega) (by omega) (by rw [pk_un (by omega)]; exact h28) pk_us htv (by rw [pk_un (by omega)]; exact h27) hG0 (sf_I11 hI hv hk ht htv hbit)
theorem sf_workOut_dot {post : St2 → Prop} {u w : Nat → Int32} {i : Nat} (hi : i < 6) (hu : ∀ q, q < 6 → q ≠ i → u q = 0) (hK : sf_K 0 u w a1 a2 a3 a4 a5 a6 a7 a8 a9 a10 a11 a12 a13 a14 a15 a16 a17 a19 a20 a21 a22)
    (H : ∀ b18 b23 b24 b25 b26 b27 b28 : Nat → Int32, b18 0 = u i * w i → post (c0, 2, c2, nI 1, a1, a2, a3, a4, a5, a6, a7, a8, a9, a10, a11, a12, a13, a14, a15, a16, a17, b18, a19, a20, a21, a22, b23, b24, b25, b26, b27, b28)) : wpX_workOut post (c0, 2, c2, nI 1, a1, a2, a3, a4, a5, a6, a7, a8, a9, a10, a11, a12, a13, a14, a15, a16, a17, a18, a19, a20, a21, a22, a23, a24, a25, a26, a27, a28) 2 (-1) (-1) := by
  have hK' := hK
  obtain ⟨hP, ⟨e0, e1, e2⟩, ⟨g0, g1⟩, ⟨s0, s1⟩, ⟨l0, l1⟩, ⟨p0, p1⟩, hU, hW⟩ := hK'
  unfold wpX_workOut
  refine sf_clear (fun b hb => sf_startArrays (pp := 0) (by omega) l0 l1 p0 p1 (fun b23 b24 t0 t1 => br_f (by decide) ?_))
  refine sf_enter (d := 0) (q := 0) (fun x => ∃ k, k < 64 ∧ x = nI k ∧ ∀ q, q < 6 → k.testBit q = false → u q = 0) (fun x => ∃ k, k < 64 ∧ x = nI k ∧ ∀ q, q < 6 → k.testBit q = false → w q = 0) hP e0 e1 e2 (by omega) (by omega) g0 s0 (fun ψ b25' hψ => sf_arrSup_own (a := 0) (by omega) (by omega) l0 p0 t0 hU (fun k hk hz => hψ _ ⟨k, hk, rfl, hz⟩)) (fun ψ b25' hψ => sf_arrSup_own (a := 1) (by omega) (by omega) l1 p1 t1 hW (fun k hk hz => hψ _ ⟨k, hk, rfl, hz⟩)) (fun r0 r1 b25' hr0 hr1 => ?_)
  obtain ⟨k0, hk0, rfl, hz0⟩ := hr0
  obtain ⟨k1, hk1, rfl, hz1⟩ := hr1
  have h64 : k0 &&& k1 < 64 := sf_a64 k0 k1 hk0
  rw [sf_and, sf_span _ h64]
  refine Exists.intro _ (sf_dot_loop hi hu hK t0 t1 (fun b18 b24 b25 b26 b27 b28 h => H b18 b23 b24 b25 b26 b27 b28 h) (sf_pc (k0 &&& k1)) (k0 &&& k1) 0 _ _ _ _ _ _ h64 rfl ?_ pk_us ?_)
  · have := sf_pc6 (k0 &&& k1)
    omega
  · rw [hb 0 (by omega), Nat.testBit_and]
    cases h0 : k0.testBit i with
    | false => simp [hz0 i hi h0]
    | true =>
      cases h1 : k1.testBit i with
      | false => simp [hz1 i hi h1]
      | true => simp
theorem sf_workOut_out {post : St2 → Prop} {u w : Nat → Int32} (hK : sf_K 1 u w a1 a2 a3 a4 a5 a6 a7 a8 a9 a10 a11 a12 a13 a14 a15 a16 a17 a19 a20 a21 a22)
    (H : ∀ b18 b23 b24 b25 b26 b27 b28 : Nat → Int32, sf_I0 u w b18 0 → post (c0, 2, c2, nI 2, a1, a2, a3, a4, a5, a6, a7, a8, a9, a10, a11, a12, a13, a14, a15, a16, a17, b18, a19, a20, a21, a22, b23, b24, b25, b26, b27, b28)) : wpX_workOut post (c0, 2, c2, nI 2, a1, a2, a3, a4, a5, a6, a7, a8, a9, a10, a11, a12, a13, a14, a15, a16, a17, a18, a19, a20, a21, a22, a23, a24, a25, a26, a27, a28) 2 (nI 1) (nI 0) := by
  have hK' := hK
  obtain ⟨hP, ⟨e0, e1, e2⟩, ⟨g0, g1⟩, ⟨s0, s1⟩, ⟨l0, l1⟩, ⟨p0, p1⟩, hU, hW⟩ := hK'
  unfold wpX_workOut
  refine sf_clear (fun b hb => sf_startArrays (pp := 1) (by omega) l0 l1 p0 p1 (fun b23 b24 t0 t1 => br_f (by decide) ?_))
  refine sf_enter (d := 0) (q := 0) (fun x => ∃ k, k < 64 ∧ x = nI k ∧ ∀ q, q < 6 → k.testBit q = false → u q = 0) (fun x => x = 63) hP e0 e1 e2 (by omega) (by omega) g0 s0 (fun ψ b25' hψ => sf_arrSup_own (a := 0) (by omega) (by omega) l0 p0 t0 hU (fun k hk hz => hψ _ ⟨k, hk, rfl, hz⟩)) (fun ψ b25' hψ => sf_arrSup_other (a := 1) (t := 1) (by omega) (by omega) (by omega) (by omega) l1 p1 g0 g1 (hψ _ rfl) (fun z _ => absurd z (by omega))) (fun r0 r1 b25' hr0 hr1 => ?_)
  obtain ⟨k0, hk0, rfl, hz0⟩ := hr0
  subst hr1
  rw [show nI k0 &&& (63 : Int32) = nI (k0 &&& 63) from sf_and k0 63, (sf_a63 k0 hk0).1, sf_span _ hk0]
  have h6 := sf_pc6 k0
  refine Exists.intro 60 ((sf_out_loop hK t0 t1 (fun b18 b24 b25 b26 b27 b28 h => H b18 b23 b24 b25 b26 b27 b28 h) 60).1 k0 0 _ _ _ _ _ _ hk0 (by omega) (by omega) pk_us (fun q t hq ht => ?_))
  rw [hb _ (by omega)]
  cases h0 : k0.testBit q with
  | true => simp
  | false => simp [hz0 q hq h0]
end
end
section
/-! pack of a matrix that skips lines and places and holds at most one number; get -/
section
variable {c0 c1 c2 c3 : Int32} {a1 a2 a3 a4 a5 a6 a7 a8 a9 a10 a11 a12 a13 a14 a15 a16 a17 a18 a19 a20 a21 a22 a23 a24 a25 a26 a27 a28 : Nat → Int32}
theorem sf_lineFilled {post : Int32 → Prop} {s l : Nat} (hs : s < 13) (hl : l < 6) (h1 : a1 s = 2) (h3 : a3 s = nI 6) (h4 : a4 s = 3) (H0 : (∀ q, q < 6 → a18 (6 * l + q) = 0) → post 0) (H1 : (∃ q, q < 6 ∧ a18 (6 * l + q) ≠ 0) → post 1) : wpX_lineFilled post (c0, c1, c2, c3, a1, a2, a3, a4, a5, a6, a7, a8, a9, a10, a11, a12, a13, a14, a15, a16, a17, a18, a19, a20, a21, a22, a23, a24, a25, a26, a27, a28) (nI s) (nI l) := by
  unfold wpX_lineFilled
  refine sf_lineLength_mat hs h1 h4 ?_
  rw [h3]
  refine pk_loop (fun n c x => wX_lineFilled_12 post (nI s) (nI l) (nI 6) c0 c1 c2 c3 a1 a2 a3 a4 a5 a6 a7 a8 a9 a10 a11 a12 a13 a14 a15 a16 a17 a18 a19 a20 a21 a22 a23 a24 a25 a26 a27 a28 n x (nI c)) (fun c x => (x = 0 ∧ ∀ q, q < c → a18 (6 * l + q) = 0) ∨ (x = 1 ∧ ∃ q, q < 6 ∧ a18 (6 * l + q) ≠ 0)) 6 0 0 (by omega) (Or.inl ⟨rfl, fun q hq => absurd hq (by omega)⟩) ?_ ?_
  · intro n x h
    refine pk_le 6 6 (fun _ => ?_) (fun z => absurd z (by omega))
    rcases h with ⟨rfl, h⟩ | ⟨rfl, h⟩
    · exact ⟨rfl, H0 h⟩
    · exact ⟨rfl, H1 h⟩
  · intro n c x hc h hk
    refine pk_le 6 c (fun z => absurd z (by omega)) (fun _ => ?_)
    rcases h with ⟨rfl, h⟩ | ⟨rfl, h⟩
    · refine br_t rfl (sf_plainAt_mat hs hl hc h1 h4 (br_c (fun z => nm_r (nI_1 c) (hk _ (Or.inl ⟨rfl, lt_s h z⟩))) (fun z => nm_r (nI_1 c) (hk _ (Or.inr ⟨rfl, c, hc, z⟩)))))
    · exact br_f (by decide) (nm_r (nI_1 c) (hk _ (Or.inr ⟨rfl, h⟩)))
theorem sf_E_one {base e i : Nat} {p : Nat → Nat} {x : Int32} {w a8 a9 b8 b9 : Nat → Int32} (hE : sf_E base e 6 p w 1 a8 a9 b8 b9) (hi : i < 6) (hx : x ≠ 0) (hw : ∀ q, q < 6 → w q = if q = i then x else 0) : e = 1 ∧ b8 base = nI i ∧ b9 base = x := by
  obtain ⟨h1, h2, h3, h4, h5⟩ := hE
  have hp : ∀ k, k < e → p k = i := by
    intro k hk
    obtain ⟨a, _, _, b⟩ := h2 k hk
    rcases b with b | b
    · exact absurd b (by decide)
    · rw [hw _ a] at b
      by_cases e : p k = i
      · exact e
      · rw [if_neg e] at b
        exact absurd rfl b
  have hwi := hw i hi
  rw [if_pos rfl] at hwi
  have he1 : e = 1 := by
    rcases h4 i hi with ⟨k, hk, _⟩ | z
    · rcases Nat.lt_or_ge 1 e with y | y
      · have := h3 0 1 (by omega) y
        rw [hp 0 (by omega), hp 1 y] at this
        omega
      · omega
    · exact absurd (hwi.symm.trans z.1) hx
  have h0 := h2 0 (by omega)
  rw [hp 0 (by omega), Nat.add_zero, hwi] at h0
  exact ⟨he1, h0.2.1, h0.2.2.1⟩
/-- lines done: c. Either the one number's line is behind us or nothing is laid yet -/
def sf_M (x : Int32) (i j c at' : Nat) (a5 a6 a7 a8 a9 : Nat → Int32) : Prop :=
  (x ≠ 0 ∧ j < c ∧ at' = 1 ∧ a5 2 = nI 1 ∧ a6 (6 * 2) = nI j ∧ a7 (7 * 2) = 0 ∧ a8 (36 * 2) = nI i ∧ a9 (36 * 2) = x) ∨ ((x = 0 ∨ c ≤ j) ∧ at' = 0 ∧ a5 2 = nI 0)
theorem sf_pack57 {post : St2 → Prop} {i j : Nat} {x : Int32} (hi : i < 6) (hj : j < 6) (h1 : a1 2 = 2) (h3 : a3 2 = nI 6) (h4 : a4 2 = 3) (h5 : a5 2 = nI 0) (hp : ∀ l q, l < 6 → q < 6 → a18 (6 * l + q) = if l = j ∧ q = i then x else 0)
    (H : ∀ b5 b6 b7 b8 b9 : Nat → Int32, (x = 0 → b5 2 = nI 0 ∧ b7 (7 * 2) = 0) → (x ≠ 0 → b5 2 = nI 1 ∧ b6 (6 * 2) = nI j ∧ b7 (7 * 2) = 0 ∧ b7 (7 * 2 + 1) = nI 1 ∧ b8 (36 * 2) = nI i ∧ b9 (36 * 2) = x) → post (c0, c1, c2, c3, a1, a2, a3, a4, b5, b6, b7, b8, b9, a10, a11, a12, a13, a14, a15, a16, a17, a18, a19, a20, a21, a22, a23, a24, a25, a26, a27, a28)) :
    ∃ fu, wX_pack_57 post (nI 2) (nI 6) 1 fu 0 0 c0 c1 c2 c3 a1 a2 a3 a4 a5 a6 a7 a8 a9 a10 a11 a12 a13 a14 a15 a16 a17 a18 a19 a20 a21 a22 a23 a24 a25 a26 a27 a28 := by
  have z2 : (nI 2).toNatClampNeg = 2 := sf_c (by omega)
  refine pk_loop (σ := Nat × (Nat → Int32) × (Nat → Int32) × (Nat → Int32) × (Nat → Int32) × (Nat → Int32)) (fun n c t => wX_pack_57 post (nI 2) (nI 6) 1 n (nI t.1) (nI c) c0 c1 c2 c3 a1 a2 a3 a4 t.2.1 t.2.2.1 t.2.2.2.1 t.2.2.2.2.1 t.2.2.2.2.2 a10 a11 a12 a13 a14 a15 a16 a17 a18 a19 a20 a21 a22 a23 a24 a25 a26 a27 a28) (fun c t => sf_M x i j c t.1 t.2.1 t.2.2.1 t.2.2.2.1 t.2.2.2.2.1 t.2.2.2.2.2) 6 0 (0, a5, a6, a7, a8, a9) (by omega) (Or.inr ⟨Or.inr (by omega), rfl, h5⟩) ?_ ?_
  · intro n t h
    obtain ⟨at', b5, b6, b7, b8, b9⟩ := t
    dsimp only at h ⊢
    refine pk_le 6 6 (fun _ => ?_) (fun z => absurd z (by omega))
    rw [z2]
    rcases h with ⟨m1, m2, rfl, m4, m5, m6, m7, m8⟩ | ⟨m1, rfl, m3⟩
    · rw [m4, sf_i7, sf_c (show 7 * 2 + 1 < 1000 by omega)]
      refine ⟨sf_in (by omega) (by omega), sf_in (by omega) (by omega), nm_e (H b5 b6 _ b8 b9 (fun z => absurd z m1) (fun _ => ⟨m4, m5, ?_, pk_us, m7, m8⟩))⟩
      rw [pk_un (by omega)]
      exact m6
    · rw [m3, sf_i7, sf_c (show 7 * 2 + 0 < 1000 by omega)]
      refine ⟨sf_in (by omega) (by omega), sf_in (by omega) (by omega), nm_e (H b5 b6 _ b8 b9 (fun _ => ⟨m3, pk_us⟩) (fun z => ?_))⟩
      rcases m1 with m1 | m1
      · exact absurd m1 z
      · omega
  · intro n c t hc h hk
    obtain ⟨at', b5, b6, b7, b8, b9⟩ := t
    dsimp only at h ⊢
    refine pk_le 6 c (fun z => absurd z (by omega)) (fun _ => br_f (by decide) (sf_lineFilled (s := 2) (by omega) hc h1 h3 h4 (fun hz => br_t rfl (nm_r (nI_1 c) (hk (at', b5, b6, b7, b8, b9) ?_))) (fun hz => br_f (by decide) ?_)))
    · rcases h with ⟨m1, m2, m3⟩ | ⟨m1, m2⟩
      · exact Or.inl ⟨m1, by omega, m3⟩
      · refine Or.inr ⟨?_, m2⟩
        rcases m1 with m1 | m1
        · exact Or.inl m1
        · by_cases e : c = j
          · refine Or.inl ?_
            have t := hz i hi
            rw [hp c i hc hi, if_pos ⟨e, rfl⟩] at t
            exact t
          · exact Or.inr (by omega)
    · obtain ⟨q, hq, hne⟩ := hz
      rw [hp c q hc hq] at hne
      have hcj : c = j := by
        by_cases e : c = j
        · exact e
        · rw [if_neg (fun z => e z.1)] at hne
          exact absurd rfl hne
      have hx : x ≠ 0 := by
        intro z
        rw [z] at hne
        by_cases e : c = j ∧ q = i
        · rw [if_pos e] at hne
          exact hne rfl
        · rw [if_neg e] at hne
          exact hne rfl
      rcases h with ⟨m1, m2, _⟩ | ⟨m1, rfl, m3⟩
      · omega
      · unfold wX_pack_79
        rw [z2, m3, sf_i6, sf_i7, sf_c (show 6 * 2 + 0 < 1000 by omega), sf_c (show 7 * 2 + 0 < 1000 by omega)]
        refine ⟨sf_in (by omega) (by omega), sf_in (by omega) (by omega), nm_e ⟨sf_in (by omega) (by omega), sf_in (by omega) (by omega), nm_e ?_⟩⟩
        refine sf_packLine_mat (s := 2) (b := 0) (n := 6) (w := fun q => if q = i then x else 0) (by omega) hc (by omega) (by omega) h1 h4 h3 (fun q hq => ?_) (fun e p d8 d9 hE => ?_)
        · rw [hp c q hc hq]
          by_cases e : q = i
          · rw [if_pos ⟨hcj, e⟩, if_pos e]
          · rw [if_neg (fun z => e z.2), if_neg e]
        · obtain ⟨he, q8, q9⟩ := sf_E_one hE hi hx (fun q _ => rfl)
          subst he
          dsimp only
          rw [m3]
          refine ⟨sf_in (by omega) (by omega), sf_in (by omega) (by omega), nm_e (nm_r (nI_1 c) (hk (1, upd b5 2 (nI 0 + 1), upd b6 (6 * 2 + 0) (nI c), upd b7 (7 * 2 + 0) (nI 0), d8, d9) (Or.inl ⟨hx, by omega, rfl, (show upd b5 2 (nI 0 + 1) 2 = nI 0 + 1 from pk_us), ?_, (show upd b7 (7 * 2) (nI 0) (7 * 2) = nI 0 from pk_us), q8, q9⟩)))⟩
          rw [← hcj]
          show upd b6 (6 * 2) (nI c) (6 * 2) = nI c
          exact pk_us
theorem sf_pack_mat {post : St2 → Prop} {i j : Nat} {x : Int32} (hi : i < 6) (hj : j < 6) (hp : ∀ l q, l < 6 → q < 6 → a18 (6 * l + q) = if l = j ∧ q = i then x else 0)
    (H : ∀ b5 b6 b7 b8 b9 : Nat → Int32, (x = 0 → b5 2 = nI 0 ∧ b7 (7 * 2) = 0) → (x ≠ 0 → b5 2 = nI 1 ∧ b6 (6 * 2) = nI j ∧ b7 (7 * 2) = 0 ∧ b7 (7 * 2 + 1) = nI 1 ∧ b8 (36 * 2) = nI i ∧ b9 (36 * 2) = x) → post (c0, c1, c2, c3, upd a1 2 2, upd a2 2 (nI 6), upd a3 2 (nI 6), upd a4 2 3, b5, b6, b7, b8, b9, a10, a11, a12, a13, a14, a15, a16, a17, a18, a19, a20, a21, a22, a23, a24, a25, a26, a27, a28)) :
    wpX_pack post (c0, c1, c2, c3, a1, a2, a3, a4, a5, a6, a7, a8, a9, a10, a11, a12, a13, a14, a15, a16, a17, a18, a19, a20, a21, a22, a23, a24, a25, a26, a27, a28) (nI 2) 2 (nI 6) (nI 6) 3 := by
  unfold wpX_pack
  dsimp only
  rw [sf_c (show 2 < 1000 by omega)]
  refine ⟨sf_in (by omega) (by omega), nm_e ⟨sf_in (by omega) (by omega), nm_e ⟨sf_in (by omega) (by omega), nm_e ⟨sf_in (by omega) (by omega), nm_e ⟨sf_in (by omega) (by omega), nm_e ?_⟩⟩⟩⟩⟩
  refine sf_lineCount_mat (s := 2) (by omega) pk_us pk_us (sf_skipsLines_mat (s := 2) (by omega) pk_us pk_us ?_)
  rw [pk_us]
  exact sf_pack57 hi hj pk_us pk_us pk_us pk_us hp H
theorem sf_getG {post : Int32 → Prop} {s q : Nat} {r : Int32} {v : Nat → Int32} (hs : s < 13) (hG : sf_G s v q r a9) (hp : post (v q)) : (r = (-1) → post 0) ∧ (¬ r = (-1) → vp_in ((36 * nI s) + r) 468 ∧ post (a9 ((36 * nI s) + r).toNatClampNeg)) := by
  rcases hG with ⟨h, hz⟩ | ⟨k, hk, h, h9⟩
  · rw [hz] at hp
    exact br_t h hp
  · rw [h, sf_i36, sf_c (show 36 * s + k < 1000 by omega), h9]
    exact br_f (sf_ne (by omega)) ⟨sf_in (by omega) (by omega), hp⟩
theorem sf_W_one {base i : Nat} {x : Int32} (hi : i < 6) (h8 : a8 base = nI i) (h9 : a9 base = x) : sf_W base 1 (fun _ => i) (sf_one i x) a8 a9 := by
  refine ⟨by omega, fun k hk => ?_, fun k l hkl hl => absurd hkl (by omega), fun q hq => ?_⟩
  · have : k = 0 := by omega
    subst this
    rw [Nat.add_zero, sf_one_s]
    exact ⟨hi, h8, h9⟩
  · by_cases e : q = i
    · exact Or.inl ⟨0, by omega, e.symm⟩
    · exact Or.inr (sf_one_n x e)
theorem sf_get_low {post : Int32 → Prop} {x : Int32} (h1 : a1 2 = 0) (h2 : a2 2 = nI 1) (h3 : a3 2 = nI 1) (h5 : a5 2 = 1) (h6 : a6 (6 * 2) = 0) (h7 : a7 (7 * 2) = 0) (h8 : a7 (7 * 2 + 1) = nI 1) (h80 : a8 (36 * 2) = nI 0) (h90 : a9 (36 * 2) = x) (hp : post x) : wpX_get post (c0, c1, c2, c3, a1, a2, a3, a4, a5, a6, a7, a8, a9, a10, a11, a12, a13, a14, a15, a16, a17, a18, a19, a20, a21, a22, a23, a24, a25, a26, a27, a28) (nI 2) (nI 0) (nI 0) := by
  unfold wpX_get
  refine sf_badReg (by omega) (br_t rfl (sf_noPlace (n := 1) (m := 1) (by omega) h2 h3 (by omega) (by omega) (by omega) (by omega) (br_t rfl ?_)))
  exact sf_position_low (s := 2) (by omega) (by rw [h1]; decide) h5 h6 (sf_findPlaceW (s := 2) (by omega) (by omega) h7 h8 (sf_W_one (by omega) h80 h90) (fun r hr => sf_getG (by omega) hr hp))
theorem sf_get_mat {post : Int32 → Prop} {i j : Nat} {x : Int32} (hi : i < 6) (hj : j < 6) (h1 : a1 2 = 2) (h2 : a2 2 = nI 6) (h3 : a3 2 = nI 6) (h4 : a4 2 = 3) (hz : x = 0 → a5 2 = nI 0 ∧ a7 (7 * 2) = 0) (hn : x ≠ 0 → a5 2 = nI 1 ∧ a6 (6 * 2) = nI j ∧ a7 (7 * 2) = 0 ∧ a7 (7 * 2 + 1) = nI 1 ∧ a8 (36 * 2) = nI i ∧ a9 (36 * 2) = x) (hp : post x) : wpX_get post (c0, c1, c2, c3, a1, a2, a3, a4, a5, a6, a7, a8, a9, a10, a11, a12, a13, a14, a15, a16, a17, a18, a19, a20, a21, a22, a23, a24, a25, a26, a27, a28) (nI 2) (nI j) (nI i) := by
  have t2 : ∀ {ψ : Int32 → Prop}, ψ 0 → wpX_isTurned ψ (c0, c1, c2, c3, a1, a2, a3, a4, a5, a6, a7, a8, a9, a10, a11, a12, a13, a14, a15, a16, a17, a18, a19, a20, a21, a22, a23, a24, a25, a26, a27, a28) (nI 2) := fun h => sf_isTurned (by omega) (fun _ => by rw [h4]; exact sf_lt34) h
  unfold wpX_get
  refine sf_badReg (by omega) (br_t rfl (sf_noPlace (n := 6) (m := 6) (by omega) h2 h3 hj hi (by omega) (by omega) (br_t rfl ?_)))
  unfold wpX_position
  dsimp only
  rw [sf_c (show 2 < 1000 by omega), h1]
  refine ⟨sf_in (by omega) (by omega), br_t (by decide) (t2 (br_t rfl ?_))⟩
  unfold wX_position_27
  rw [sf_c (show 2 < 1000 by omega), h1]
  refine ⟨sf_in (by omega) (by omega), br_f (by decide) (t2 (br_t rfl ?_))⟩
  unfold wX_position_52
  by_cases hx : x = 0
  · rw [hx] at hp
    exact sf_findLine0 (by omega) (hz hx).1 (br_t rfl (br_t rfl hp))
  · obtain ⟨n1, n2, n3, n4, n5, n6⟩ := hn hx
    refine sf_findLine1 (by omega) n1 n2 (br_f (by decide) (sf_findPlaceW (s := 2) (by omega) hi n3 n4 (sf_W_one hi n5 n6) (fun r hr => sf_getG (by omega) hr ?_)))
    rw [sf_one_s]
    exact hp
end
end
section
/-! assign: the dot product and the outer product -/
section
variable {c0 c1 c2 c3 : Int32} {a1 a2 a3 a4 a5 a6 a7 a8 a9 a10 a11 a12 a13 a14 a15 a16 a17 a18 a19 a20 a21 a22 a23 a24 a25 a26 a27 a28 : Nat → Int32}
theorem sf_badFormat0 {post : Int32 → Prop} (hp : post 0) : wpX_badFormat post (c0, c1, c2, c3, a1, a2, a3, a4, a5, a6, a7, a8, a9, a10, a11, a12, a13, a14, a15, a16, a17, a18, a19, a20, a21, a22, a23, a24, a25, a26, a27, a28) 0 0 := by
  unfold wpX_badFormat
  refine br_t rfl ?_
  unfold wX_badFormat_19
  exact br_f (by decide) (br_t (by decide) hp)
theorem sf_badFormat2 {post : Int32 → Prop} (hp : post 0) : wpX_badFormat post (c0, c1, c2, c3, a1, a2, a3, a4, a5, a6, a7, a8, a9, a10, a11, a12, a13, a14, a15, a16, a17, a18, a19, a20, a21, a22, a23, a24, a25, a26, a27, a28) 2 3 := by
  unfold wpX_badFormat
  refine br_f (by decide) (br_f (by decide) ?_)
  unfold wX_badFormat_19
  exact br_f (by decide) (br_t (by decide) hp)
theorem sf_roomOf {post : Int32 → Prop} {s n : Nat} {x : Int32} (hs : s < 13) (hn : n < 7) (h5 : a5 s = nI n) (h7 : a7 (7 * s + n) = x) (hp : post x) : wpX_roomOf post (c0, c1, c2, c3, a1, a2, a3, a4, a5, a6, a7, a8, a9, a10, a11, a12, a13, a14, a15, a16, a17, a18, a19, a20, a21, a22, a23, a24, a25, a26, a27, a28) (nI s) := by
  unfold wpX_roomOf
  dsimp only
  rw [sf_c (show s < 1000 by omega), h5, sf_i7, sf_c (show 7 * s + n < 1000 by omega), h7]
  exact ⟨sf_in hs (by omega), sf_in (by omega) (by omega), hp⟩
theorem sf_scrap {post : St2 → Prop} (H : post (0, 0, 0, c3, a1, a2, a3, a4, a5, a6, a7, a8, a9, a10, a11, a12, a13, a14, a15, a16, a17, a18, a19, a20, a21, a22, a23, a24, a25, a26, a27, a28)) : wpX_scrap post (c0, c1, c2, c3, a1, a2, a3, a4, a5, a6, a7, a8, a9, a10, a11, a12, a13, a14, a15, a16, a17, a18, a19, a20, a21, a22, a23, a24, a25, a26, a27, a28) := H
theorem sf_E_1 {base e : Nat} {p : Nat → Nat} {w a8 a9 b8 b9 : Nat → Int32} (hE : sf_E base e 1 p w 0 a8 a9 b8 b9) : e = 1 ∧ b8 base = nI 0 ∧ b9 base = w 0 := by
  obtain ⟨h1, h2, h3, h4, h5⟩ := hE
  have he : e = 1 := by
    rcases h4 0 (by omega) with ⟨k, hk, _⟩ | z
    · omega
    · exact absurd rfl z.2
  have h0 := h2 0 (by omega)
  have hp : p 0 = 0 := by omega
  rw [hp, Nat.add_zero] at h0
  exact ⟨he, h0.2.1, h0.2.2.1⟩
/-- slot 2 after the dot product -/
def sf_D0 (x : Int32) (a1 a2 a3 a5 a6 a7 a8 a9 : Nat → Int32) : Prop :=
  a1 2 = 0 ∧ a2 2 = nI 1 ∧ a3 2 = nI 1 ∧ a5 2 = 1 ∧ a6 (6 * 2) = 0 ∧ a7 (7 * 2) = 0 ∧ a7 (7 * 2 + 1) = nI 1 ∧ a8 (36 * 2) = nI 0 ∧ a9 (36 * 2) = x
/-- slot 2 after the outer product: at most one number, x at (j, i) -/
def sf_D2 (x : Int32) (i j : Nat) (a1 a2 a3 a4 a5 a6 a7 a8 a9 : Nat → Int32) : Prop :=
  a1 2 = 2 ∧ a2 2 = nI 6 ∧ a3 2 = nI 6 ∧ a4 2 = 3 ∧ (x = 0 → a5 2 = nI 0 ∧ a7 (7 * 2) = 0) ∧ (x ≠ 0 → a5 2 = nI 1 ∧ a6 (6 * 2) = nI j ∧ a7 (7 * 2) = 0 ∧ a7 (7 * 2 + 1) = nI 1 ∧ a8 (36 * 2) = nI i ∧ a9 (36 * 2) = x)
theorem sf_Vr {s : Nat} {v : Nat → Int32} (h : sf_V s v a1 a2 a3 a4 a5 a6 a7 a8 a9) : a1 s = 1 ∧ a2 s = 6 := by
  obtain ⟨f, e, p, h0, h1, h2, _⟩ := h
  exact ⟨h1, h2⟩
theorem sf_assign_dot {post : Int32 → St2 → Prop} {u w : Nat → Int32} {i : Nat} (hi : i < 6) (hu : ∀ q, q < 6 → q ≠ i → u q = 0) (hP : sf_P 0 a10 a11 a12 a13 a14 a15 a16) (hU : sf_V 6 u a1 a2 a3 a4 a5 a6 a7 a8 a9) (hW : sf_V 7 w a1 a2 a3 a4 a5 a6 a7 a8 a9)
    (H : ∀ b1 b2 b3 b4 b5 b6 b7 b8 b9 b17 b18 b19 b20 b21 b22 b23 b24 b25 b26 b27 b28 : Nat → Int32, sf_D0 (u i * w i) b1 b2 b3 b5 b6 b7 b8 b9 → post 1 (0, 0, 0, nI 1, b1, b2, b3, b4, b5, b6, b7, b8, b9, a10, a11, a12, a13, a14, a15, a16, b17, b18, b19, b20, b21, b22, b23, b24, b25, b26, b27, b28)) :
    wpX_assign post (3, 2, 1, c3, a1, a2, a3, a4, a5, a6, a7, a8, a9, a10, a11, a12, a13, a14, a15, a16, a17, a18, a19, a20, a21, a22, a23, a24, a25, a26, a27, a28) (nI 2) (-1) (-1) 0 := by
  unfold wpX_assign
  refine sf_badReg (by omega) (br_t rfl (sf_badIndexN (br_t rfl (sf_badIndexN (br_t rfl (br_t rfl (br_t rfl ?_)))))))
  unfold wX_assign_34
  refine br_t rfl (br_t rfl ?_)
  unfold wX_assign_48 wX_assign_49
  refine br_t rfl ?_
  unfold wX_assign_70
  refine br_t rfl (sf_badFormat0 (br_t rfl (br_t rfl (nm_r hP.2.2.2.2.2.2 ?_))))
  refine sf_findSpans (pp := 0) (by omega) hP (sf_Vr hU).2 (sf_Vr hW).2 (fun b17 b20 e0 e1 e2 s0 s1 s2 => br_t rfl ?_)
  unfold wX_assign_130
  refine br_t rfl ?_
  unfold wX_assign_147
  rw [s0, s1, s2]
  refine br_f (by decide) (br_f (by decide) (br_f (by decide) ?_))
  refine sf_chooseOrder (pp := 0) (by omega) (sf_Vr hU).1 (sf_Vr hW).1 hP.2.2.2.2.1.1 hP.2.2.2.2.1.2 s0 s1 s2 (fun b19 b21 b22 g0 g1 l0 l1 p0 p1 => ?_)
  refine sf_workOut_dot hi hu ⟨hP, ⟨e0, e1, e2⟩, ⟨g0, g1⟩, ⟨s0, s1⟩, ⟨l0, l1⟩, ⟨p0, p1⟩, hU, hW⟩ (fun b18 b23 b24 b25 b26 b27 b28 h18 => br_t rfl ?_)
  unfold wX_assign_214
  refine br_t rfl ?_
  unfold wX_assign_229
  refine sf_pack_low (s := 2) (n := 1) (w := b18) (by omega) (by decide) (by omega) (fun q hq => ?_) (fun x6 e p b8 b9 hx hE => ?_)
  · have : q = 0 := by omega
    subst this
    rfl
  · have hx0 := hx (by decide)
    subst hx0
    obtain ⟨he, h8, h9⟩ := sf_E_1 hE
    subst he
    rw [h18] at h9
    refine sf_scrap (sf_roomOf (s := 2) (n := 1) (x := 1) (by omega) (by omega) pk_us pk_us ?_)
    refine H _ _ _ _ _ _ _ _ _ _ _ _ _ _ _ _ _ _ _ _ _ ⟨pk_us, pk_us, pk_us, pk_us, pk_us, ?_, pk_us, h8, h9⟩
    rw [pk_un (by omega)]
    exact pk_us
theorem sf_assign_out {post : Int32 → St2 → Prop} {i j : Nat} {x y : Int32} (hi : i < 6) (hj : j < 6) (hP : sf_P 1 a10 a11 a12 a13 a14 a15 a16) (hU : sf_V 6 (sf_one i x) a1 a2 a3 a4 a5 a6 a7 a8 a9) (hW : sf_V 7 (sf_one j y) a1 a2 a3 a4 a5 a6 a7 a8 a9)
    (H : ∀ b1 b2 b3 b4 b5 b6 b7 b8 b9 b17 b18 b19 b20 b21 b22 b23 b24 b25 b26 b27 b28 : Nat → Int32, sf_D2 (x * y) i j b1 b2 b3 b4 b5 b6 b7 b8 b9 → post (if x * y = 0 then 0 else 1) (0, 0, 0, nI 2, b1, b2, b3, b4, b5, b6, b7, b8, b9, a10, a11, a12, a13, a14, a15, a16, b17, b18, b19, b20, b21, b22, b23, b24, b25, b26, b27, b28)) :
    wpX_assign post (3, 2, 1, c3, a1, a2, a3, a4, a5, a6, a7, a8, a9, a10, a11, a12, a13, a14, a15, a16, a17, a18, a19, a20, a21, a22, a23, a24, a25, a26, a27, a28) (nI 2) (nI 1) (nI 0) 3 := by
  unfold wpX_assign
  refine sf_badReg (by omega) (br_t rfl (sf_badIndex (by omega) (br_t rfl (sf_badIndex (by omega) (br_t rfl (br_f (by decide) ?_))))))
  unfold wX_assign_34
  refine br_f (by decide) ?_
  unfold wX_assign_48 wX_assign_49
  refine br_f (by decide) (br_f (by decide) ?_)
  unfold wX_assign_70
  refine br_t rfl (sf_badFormat2 (br_t rfl (br_t rfl (nm_r hP.2.2.2.2.2.2 ?_))))
  refine sf_findSpans (pp := 1) (by omega) hP (sf_Vr hU).2 (sf_Vr hW).2 (fun b17 b20 e0 e1 e2 s0 s1 s2 => br_f (by decide) ?_)
  rw [sf_c (show 1 < 1000 by omega), s1]
  refine ⟨sf_in (by omega) (by omega), br_f (by decide) ?_⟩
  unfold wX_assign_130
  rw [sf_c (show 0 < 1000 by omega), s0]
  refine br_f (by decide) ⟨sf_in (by omega) (by omega), br_f (by decide) ?_⟩
  unfold wX_assign_147
  rw [s0, s1, s2]
  refine br_f (by decide) (br_f (by decide) (br_f (by decide) ?_))
  refine sf_chooseOrder (pp := 1) (by omega) (sf_Vr hU).1 (sf_Vr hW).1 hP.2.2.2.2.1.1 hP.2.2.2.2.1.2 s0 s1 s2 (fun b19 b21 b22 g0 g1 l0 l1 p0 p1 => ?_)
  refine sf_workOut_out ⟨hP, ⟨e0, e1, e2⟩, ⟨g0, g1⟩, ⟨s0, s1⟩, ⟨l0, l1⟩, ⟨p0, p1⟩, hU, hW⟩ (fun b18 b23 b24 b25 b26 b27 b28 hI => br_f (by decide) ?_)
  rw [sf_c (show 1 < 1000 by omega), s1]
  refine ⟨sf_in (by omega) (by omega), ?_⟩
  unfold wX_assign_214
  rw [sf_c (show 0 < 1000 by omega), s0]
  refine br_f (by decide) ⟨sf_in (by omega) (by omega), ?_⟩
  unfold wX_assign_229
  refine sf_pack_mat (i := i) (j := j) (x := x * y) hi hj (fun l q hl hq => ?_) (fun b5 b6 b7 b8 b9 hz hn => ?_)
  · have t := hI q l hq hl
    rw [Nat.zero_testBit, if_neg (by decide)] at t
    rw [t]
    by_cases e1 : q = i
    · by_cases e2 : l = j
      · rw [if_pos ⟨e2, e1⟩, e1, e2, sf_one_s, sf_one_s]
      · rw [if_neg (fun z => e2 z.1), sf_one_n y e2, sf_mulz]
    · rw [if_neg (fun z => e1 z.2), sf_one_n x e1, sf_zmul]
  · by_cases hx : x * y = 0
    · refine sf_scrap (sf_roomOf (s := 2) (n := 0) (by omega) (by omega) (hz hx).1 (hz hx).2 ?_)
      have h := H (upd a1 2 2) (upd a2 2 (nI 6)) (upd a3 2 (nI 6)) (upd a4 2 3) b5 b6 b7 b8 b9 b17 b18 b19 b20 b21 b22 b23 b24 b25 b26 b27 b28 ⟨pk_us, pk_us, pk_us, pk_us, hz, hn⟩
      rw [if_pos hx] at h
      exact h
    · refine sf_scrap (sf_roomOf (s := 2) (n := 1) (by omega) (by omega) (hn hx).1 (hn hx).2.2.2.1 ?_)
      have h := H (upd a1 2 2) (upd a2 2 (nI 6)) (upd a3 2 (nI 6)) (upd a4 2 3) b5 b6 b7 b8 b9 b17 b18 b19 b20 b21 b22 b23 b24 b25 b26 b27 b28 ⟨pk_us, pk_us, pk_us, pk_us, hz, hn⟩
      rw [if_neg hx] at h
      exact h
end
end
section
/-! the constructor, the law -/
section
variable {c0 c1 c2 c3 : Int32} {a1 a2 a3 a4 a5 a6 a7 a8 a9 a10 a11 a12 a13 a14 a15 a16 a17 a18 a19 a20 a21 a22 a23 a24 a25 a26 a27 a28 : Nat → Int32}
theorem sf_init_step {post : St2 → Prop} {mc ms kc ks n k : Nat} (hk : k < 6) (h : ∀ b1 b2 b3 b4 b5 b6 b7 b8 b9 b18 : Nat → Int32, wX_init_228 post mc ms kc ks n (nI (k + 1)) c0 c1 c2 c3 b1 b2 b3 b4 b5 b6 b7 b8 b9 a10 a11 a12 a13 a14 a15 a16 a17 b18 a19 a20 a21 a22 a23 a24 a25 a26 a27 a28) : wX_init_228 post mc ms kc ks (n + 1) (nI k) c0 c1 c2 c3 a1 a2 a3 a4 a5 a6 a7 a8 a9 a10 a11 a12 a13 a14 a15 a16 a17 a18 a19 a20 a21 a22 a23 a24 a25 a26 a27 a28 := by
  refine br_f (nI_ge (b := 6) hk (by omega)) (sf_clear (fun b hb => ?_))
  exact sf_pack_low (s := k) (n := 1) (w := b) (by omega) (by decide) (by omega) (fun q hq => by
    have : q = 0 := by omega
    subst this
    rfl) (fun x6 e p b8 b9 hx hE => nm_r (nI_1 k) (h _ _ _ _ _ _ _ _ _ _))
theorem sf_init_end {post : St2 → Prop} {mc ms kc ks n : Nat} (h : post (c0, c1, c2, c3, a1, a2, a3, a4, a5, a6, a7, a8, a9, a10, a11, a12, a13, a14, a15, a16, a17, a18, a19, a20, a21, a22, a23, a24, a25, a26, a27, a28)) : wX_init_228 post mc ms kc ks (n + 1) (nI 6) c0 c1 c2 c3 a1 a2 a3 a4 a5 a6 a7 a8 a9 a10 a11 a12 a13 a14 a15 a16 a17 a18 a19 a20 a21 a22 a23 a24 a25 a26 a27 a28 := br_t (by decide) h
theorem sf_init {post : St2 → Prop} (H : ∀ a1 a2 a3 a4 a5 a6 a7 a8 a9 a10 a11 a12 a13 a14 a15 a16 a17 a18 a19 a20 a21 a22 a23 a24 a25 a26 a27 a28 : Nat → Int32, post (c0, c1, c2, c3, a1, a2, a3, a4, a5, a6, a7, a8, a9, a10, a11, a12, a13, a14, a15, a16, a17, a18, a19, a20, a21, a22, a23, a24, a25, a26, a27, a28)) : wpX_init post 28 1400 (c0, c1, c2, c3) := by
  unfold wpX_init
  refine ⟨by omega, by omega, by omega, by omega, by omega, by omega, by omega, by omega, by omega, by omega, by omega, by omega, by omega, by omega, by omega, by omega, by omega, by omega, by omega, by omega, by omega, by omega, by omega, by omega, by omega, by omega, by omega, by omega, by omega, by omega, by omega, by omega, by omega, by omega, by omega, by omega, by omega, by omega, by omega, by omega, by omega, by omega, by omega, by omega, by omega, by omega, by omega, by omega, by omega, by omega, by omega, by omega, by omega, by omega, by omega, by omega, 7, ?_⟩
  refine sf_init_step (k := 0) (by omega) (fun b1 b2 b3 b4 b5 b6 b7 b8 b9 b18 => ?_)
  refine sf_init_step (k := 1) (by omega) (fun b1 b2 b3 b4 b5 b6 b7 b8 b9 b18 => ?_)
  refine sf_init_step (k := 2) (by omega) (fun b1 b2 b3 b4 b5 b6 b7 b8 b9 b18 => ?_)
  refine sf_init_step (k := 3) (by omega) (fun b1 b2 b3 b4 b5 b6 b7 b8 b9 b18 => ?_)
  refine sf_init_step (k := 4) (by omega) (fun b1 b2 b3 b4 b5 b6 b7 b8 b9 b18 => ?_)
  refine sf_init_step (k := 5) (by omega) (fun b1 b2 b3 b4 b5 b6 b7 b8 b9 b18 => ?_)
  exact sf_init_end (H _ _ _ _ _ _ _ _ _ _ _ _ _ _ _ _ _ _ _ _ _ _ _ _ _ _ _ _)
/-- the law behind the dot product -/
theorem sf_end_dot {mc ms kc ks i j : Nat} {post : Int32 → St0 → Prop} {x y : Int32} (hi : i < 6) (hj : j < 6) (hp : post 1 ()) (hD : sf_D0 (sf_one i x i * sf_one j y i) a1 a2 a3 a5 a6 a7 a8 a9) : wL_lawOf_147 post mc ms x y (nI i) (nI j) 1 1 kc ks c0 c1 c2 c3 a1 a2 a3 a4 a5 a6 a7 a8 a9 a10 a11 a12 a13 a14 a15 a16 a17 a18 a19 a20 a21 a22 a23 a24 a25 a26 a27 a28 := by
  obtain ⟨d1, d2, d3, d5, d6, d7, d8, d9, d10⟩ := hD
  unfold wL_lawOf_147
  refine br_f (by decide) (sf_get_low d1 d2 d3 d5 d6 d7 d8 d9 d10 ?_)
  unfold wL_lawOf_173
  refine nm_e (br_f (by decide) ?_)
  unfold wL_lawOf_201
  refine br_t rfl (br_f (by decide) (pk_eq i j (fun e => ?_) (fun e => ?_)))
  · unfold wL_lawOf_222 wL_lawOf_224
    refine br_t ?_ hp
    rw [e, sf_one_s, sf_one_s]
  · unfold wL_lawOf_224
    refine br_t ?_ hp
    rw [sf_one_n y e, sf_mulz]
theorem sf_end_out {mc ms kc ks i j : Nat} {post : Int32 → St0 → Prop} {x y : Int32} (hi : i < 6) (hj : j < 6) (hp : post 1 ()) (hD : sf_D2 (x * y) i j a1 a2 a3 a4 a5 a6 a7 a8 a9) : wL_lawOf_147 post mc ms x y (nI i) (nI j) 0 (if x * y = 0 then 0 else 1) kc ks c0 c1 c2 c3 a1 a2 a3 a4 a5 a6 a7 a8 a9 a10 a11 a12 a13 a14 a15 a16 a17 a18 a19 a20 a21 a22 a23 a24 a25 a26 a27 a28 := by
  obtain ⟨d1, d2, d3, d4, d5, d6⟩ := hD
  unfold wL_lawOf_147
  refine br_t rfl (sf_get_mat hi hj d1 d2 d3 d4 d5 d6 ?_)
  unfold wL_lawOf_173
  refine nm_e (br_t rfl (br_c (fun e => ?_) (fun e => ?_)))
  · rw [if_pos e]
    unfold wL_lawOf_201
    refine br_t rfl (br_t rfl ?_)
    unfold wL_lawOf_222 wL_lawOf_224
    exact br_t rfl hp
  · rw [if_neg e]
    unfold wL_lawOf_201
    refine br_t rfl (br_t rfl ?_)
    unfold wL_lawOf_222 wL_lawOf_224
    exact br_t rfl hp
theorem sf_P_of {pp : Nat} : sf_P pp (upd (upd (upd a10 0 1) 1 1) 2 5) (upd (upd (upd a11 0 (nI 0)) 1 (nI 1)) 2 0) (upd (upd (upd a12 0 (-1)) 1 (-1)) 2 (upd (upd a16 0 (nI 0)) 1 (nI 1) 0)) (upd (upd (upd a13 0 (-1)) 1 (-1)) 2 (upd (upd a16 0 (nI 0)) 1 (nI 1) 1)) (upd (upd a14 0 (nI 0)) 1 (nI pp)) (upd (upd a15 0 (-1)) 1 (-1)) (upd (upd (upd a16 0 (nI 0)) 1 (nI 1)) 0 2) :=
  ⟨⟨rfl, rfl, rfl⟩, ⟨rfl, rfl⟩, ⟨rfl, rfl, rfl⟩, ⟨rfl, rfl, rfl⟩, ⟨rfl, rfl⟩, ⟨rfl, rfl⟩, rfl⟩
theorem sf_lawOf {post : Int32 → St0 → Prop} {x y z : Int32} (hp : post 1 ()) : wpL_lawOf post 29 1432 () x y z := by
  obtain ⟨k1, hk1, e1⟩ := pk_andE z (m := 7) 3 (by decide)
  obtain ⟨k2, hk2, e2⟩ := pk_andE (z >>> ((3 : Int32) &&& 31)) (m := 7) 3 (by decide)
  obtain ⟨f, hf, e3⟩ := pk_andE (z >>> ((6 : Int32) &&& 31)) (m := 1) 1 (by decide)
  obtain ⟨pp, hpp, e4⟩ := pk_andE (z >>> ((7 : Int32) &&& 31)) (m := 1) 1 (by decide)
  have r1 : nI k1 - nI k1 / 6 * 6 = nI (k1 % 6) := pk_rem (d := 6) (by omega) (by omega) (by omega)
  have r2 : nI k2 - nI k2 / 6 * 6 = nI (k2 % 6) := pk_rem (d := 6) (by omega) (by omega) (by omega)
  have r3 : (1 : Int32) - nI f = nI (1 - f) := pk_sub (a := 1) (b := f) (by omega)
  have hi : k1 % 6 < 6 := by omega
  have hj : k2 % 6 < 6 := by omega
  generalize k1 % 6 = i at r1 hi
  generalize k2 % 6 = j at r2 hj
  unfold wpL_lawOf
  refine ⟨by omega, by omega, 28, 1400, by omega, by omega, sf_init (fun a1 a2 a3 a4 a5 a6 a7 a8 a9 a10 a11 a12 a13 a14 a15 a16 a17 a18 a19 a20 a21 a22 a23 a24 a25 a26 a27 a28 => ?_)⟩
  dsimp only
  rw [e1, e2, e3, e4, r1, r2]
  refine ⟨by decide, nm_e ⟨by decide, nm_e (nm_e ?_)⟩⟩
  rw [r3]
  refine sf_make (s := 0) (f := f) (by omega) (by omega) (fun b1 b2 b3 b4 b5 b6 b7 b8 b9 b18 hA hF => ?_)
  clear hF
  refine sf_make (s := 1) (f := 1 - f) (by omega) (by omega) (fun c1 c2 c3 c4 c5 c6 c7 c8 c9 c18 hB hF => ?_)
  have hA := hF 0 _ (by omega) hA
  clear hF
  refine sf_put (s := 0) (by omega) hi hA (fun a1 a2 a3 a4 a5 a6 a7 a8 a9 a18 hA hF => ?_)
  have hB := hF 1 _ (by omega) hB
  clear hF
  refine sf_put (s := 1) (by omega) hj hB (fun c1 c2 c3 c4 c5 c6 c7 c8 c9 c18 hB hF => ?_)
  have hA := hF 0 _ (by omega) hA
  clear hF
  refine sf_array (s := 0) (k := 0) (pp := 0) (by omega) (by omega) (by omega) hA (fun a1 a2 a3 a4 a5 a6 a7 a8 a9 a18 hU hF => ?_)
  have hB := hF 1 _ (by omega) hB
  clear hF
  refine sf_array (s := 1) (k := 1) (pp := pp) (by omega) (by omega) (by omega) hB (fun c1 c2 c3 c4 c5 c6 c7 c8 c9 c18 hW hF => ?_)
  have hU := hF 6 _ (by omega) hU
  clear hF
  refine sf_join ?_
  match pp, hpp with
  | 0, _ =>
    refine br_t rfl ?_
    unfold wL_lawOf_121
    refine br_f (by decide) ?_
    refine sf_assign_dot (i := i) hi (fun q hq hn => sf_one_n x hn) sf_P_of hU hW (fun b1 b2 b3 b4 b5 b6 b7 b8 b9 b17 b18 b19 b20 b21 b22 b23 b24 b25 b26 b27 b28 hD => ?_)
    exact sf_end_dot hi hj hp hD
  | 1, _ =>
    refine br_f (by decide) ?_
    unfold wL_lawOf_121
    refine br_t rfl ?_
    refine sf_assign_out hi hj sf_P_of hU hW (fun b1 b2 b3 b4 b5 b6 b7 b8 b9 b17 b18 b19 b20 b21 b22 b23 b24 b25 b26 b27 b28 hD => ?_)
    exact sf_end_out hi hj hp hD
theorem sf_cell {post : Int32 → Prop} {L k : Nat} {xs : Nat → Int32} (hL : L ≤ 3) (hk : k < 3) (H : ∀ r, post r) : wpL_cellAt post L xs () (nI k) := by
  unfold wpL_cellAt
  exact pk_le L k (fun _ => H _) (fun z => ⟨pk_in k L z, H _⟩)
end
theorem i_vc (xs : Nat → Int32) (L : Nat) (hL : L ≤ 3) : wpL_law (fun r => r = 1) L xs := by
  unfold wpL_law
  exact sf_cell (k := 0) hL (by omega) (fun r1 => sf_cell (k := 1) hL (by omega) (fun r2 => sf_cell (k := 2) hL (by omega) (fun r3 => ⟨29, 1432, by omega, by omega, sf_lawOf rfl⟩)))
end
