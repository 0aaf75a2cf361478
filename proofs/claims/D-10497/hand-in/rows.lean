section
/-! bits of an Int32 (some rows after kit/laws/BITS.to-paste) -/
def hb_t (x : Int32) (i : Nat) : Bool := x.toBitVec.getLsbD i
theorem hb_ext {x y : Int32} (h : ∀ i, i < 32 → hb_t x i = hb_t y i) : x = y := Int32.toBitVec_inj.mp (BitVec.eq_of_getLsbD_eq (fun i hi => h i hi))
theorem hb_or (x y : Int32) (i : Nat) : hb_t (x ||| y) i = (hb_t x i || hb_t y i) := by unfold hb_t; rw [Int32.toBitVec_or, BitVec.getLsbD_or]
theorem hb_and (x y : Int32) (i : Nat) : hb_t (x &&& y) i = (hb_t x i && hb_t y i) := by unfold hb_t; rw [Int32.toBitVec_and, BitVec.getLsbD_and]
theorem hb_xor (x y : Int32) (i : Nat) : hb_t (x ^^^ y) i = (hb_t x i ^^ hb_t y i) := by unfold hb_t; rw [Int32.toBitVec_xor, BitVec.getLsbD_xor]
theorem hb_big {x : Int32} {i : Nat} (h : 32 ≤ i) : hb_t x i = false := BitVec.getLsbD_of_ge _ _ h
theorem hb_lt {x : Int32} {i : Nat} (h : hb_t x i = true) : i < 32 := by
  rcases Nat.lt_or_ge i 32 with z | z
  · exact z
  · rw [hb_big z] at h
    exact absurd h (by decide)
theorem hb_neg1 : ∀ i, i < 32 → hb_t (-1) i = true := by decide +kernel
theorem hb_0 (i : Nat) : hb_t 0 i = false := BitVec.getLsbD_zero
theorem hb_not (x : Int32) {i : Nat} (h : i < 32) : hb_t (x ^^^ (-1)) i = !hb_t x i := by
  rw [hb_xor, hb_neg1 i h, Bool.xor_true]
theorem hb_sl : ∀ n, n < 32 → ((nI n &&& 31).toBitVec.smod 32).toNat = n := by decide +kernel
theorem hb_sh : ∀ l, l < 32 → ((1 : Int32) <<< (nI l &&& 31)).toBitVec = BitVec.twoPow 32 l := by decide +kernel
theorem hb_one {n : Nat} (hn : n < 32) (i : Nat) : hb_t ((1 : Int32) <<< (nI n &&& 31)) i = decide (n = i) := by
  unfold hb_t
  rw [hb_sh n hn, BitVec.getLsbD_twoPow, decide_eq_true hn, Bool.true_and]
theorem hb_sr {n : Nat} (hn : n < 32) (x : Int32) : hb_t (x >>> (nI n &&& 31)) 0 = hb_t x n := by
  unfold hb_t
  rw [Int32.toBitVec_shiftRight]
  show (x.toBitVec.sshiftRight ((nI n &&& 31).toBitVec.smod 32).toNat).getLsbD 0 = _
  rw [hb_sl n hn, BitVec.getLsbD_sshiftRight]
  simp [hn]
theorem hb_a1 (x : Int32) : x &&& 1 = if hb_t x 0 then 1 else 0 := by
  apply Int32.toBitVec_inj.mp
  rw [Int32.toBitVec_and]
  show (x.toBitVec &&& 1#32) = _
  rw [BitVec.and_one_eq_setWidth_ofBool_getLsbD]
  unfold hb_t
  cases x.toBitVec.getLsbD 0 <;> decide
theorem hb_t0 {n : Nat} (hn : n < 32) (x : Int32) : ((x >>> (nI n &&& 31)) &&& 1) = 0 ↔ hb_t x n = false := by
  rw [hb_a1, hb_sr hn]
  cases hb_t x n <;> decide
theorem hb_t1 {n : Nat} (hn : n < 32) (x : Int32) : ((x >>> (nI n &&& 31)) &&& 1) = 1 ↔ hb_t x n = true := by
  rw [hb_a1, hb_sr hn]
  cases hb_t x n <;> decide
/-- a branch on one bit -/
theorem hb_br {x : Int32} {A B : Prop} (n : Nat) (f : hb_t x n = false → A) (g : hb_t x n = true → B) (hn : n < 32) : (((x >>> (nI n &&& 31)) &&& 1) = 0 → A) ∧ (¬ ((x >>> (nI n &&& 31)) &&& 1) = 0 → B) := by
  rw [hb_t0 hn]
  exact ⟨f, fun z => g (by cases h : hb_t x n; exact absurd h z; rfl)⟩
theorem hb_br1 {x : Int32} {A B : Prop} (n : Nat) (f : hb_t x n = true → A) (g : hb_t x n = false → B) (hn : n < 32) : (((x >>> (nI n &&& 31)) &&& 1) = 1 → A) ∧ (¬ ((x >>> (nI n &&& 31)) &&& 1) = 1 → B) := by
  rw [hb_t1 hn]
  exact ⟨f, fun z => g (by cases h : hb_t x n; rfl; exact absurd h z)⟩
theorem hb_ch (x : Int32) (i : Nat) : hb_t ((x.toUInt32 % 65536).toInt32) i = (decide (i < 16) && hb_t x i) := by
  rw [pk_char]
  show (BitVec.ofNat 32 (x.toBitVec.toNat % 2 ^ 16)).getLsbD i = _
  rw [BitVec.getLsbD_ofNat, Nat.testBit_mod_two_pow, BitVec.testBit_toNat]
  show _ = (decide (i < 16) && x.toBitVec.getLsbD i)
  rcases Nat.lt_or_ge i 16 with h | h
  · simp [h, show i < 32 by omega]
  · simp [Nat.not_lt.mpr h]
/-- x & ~y = 0: x is inside y -/
theorem hb_sub {x y : Int32} (h : ∀ i, hb_t x i = true → hb_t y i = true) : (x &&& (y ^^^ (-1))) = 0 := by
  apply hb_ext
  intro i hi
  rw [hb_and, hb_not _ hi, hb_0]
  have := h i
  revert this
  cases hb_t x i <;> cases hb_t y i <;> simp
/-! bytes and places -/
theorem hb_b : ∀ n, n < 128 → (nI n).toInt8.toInt32 = nI n := by decide +kernel
theorem hb_nb {n : Nat} (h : n < 128) : vp_nar .byte (nI n) = nI n := hb_b n h
theorem hb_m1 : (-1 : Int32) < 0 := by decide
theorem hb_ne {n : Nat} (h : n < 2 ^ 31) : ¬ nI n = -1 := fun z => nI_pos h (by rw [z]; decide)
theorem hb_inj {a b : Nat} (h : nI a = nI b) (ha : a < 2 ^ 31) (hb : b < 2 ^ 31) : a = b := (nI_eq ha hb).mp h
theorem hb_c {n : Nat} (h : n < 17) : (nI n).toNatClampNeg = n := nI_clamp (by omega)
theorem hb_at {f : Nat → Int32} {n : Nat} {y : Int32} (h : n < 17) (e : f n = y) : f (nI n).toNatClampNeg = y := by rw [hb_c h]; exact e
theorem hb_i {f : Nat → Int32} {n k : Nat} (N : Nat) (h : n < 17) (e : f n = nI k) (hk : k < N) (hN : N < 18) : vp_in (f (nI n).toNatClampNeg) N := by
  rw [hb_c h, e]
  exact vp_in_nI hk (by omega)
theorem hb_u {f : Nat → Int32} {n : Nat} {x y : Int32} (h : n < 17) (e : x = y) : upd f (nI n).toNatClampNeg x = upd f n y := by rw [hb_c h, e]
theorem hb_us {f : Nat → Int32} {k j : Nat} {x : Int32} (h : j = k) : upd f k x j = x := if_pos h
end
section
/-! sets of bits, as propositions -/
theorem hq_or1 {p : Int32} {x i : Nat} (hx : x < 32) : hb_t (p ||| ((1 : Int32) <<< (nI x &&& 31))) i = true ↔ hb_t p i = true ∨ x = i := by
  rw [hb_or, hb_one hx, Bool.or_eq_true, decide_eq_true_iff]
theorem hq_andn {p s : Int32} {i : Nat} : hb_t (p &&& (s ^^^ (-1))) i = true ↔ hb_t p i = true ∧ hb_t s i = false := by
  rw [hb_and]
  rcases Nat.lt_or_ge i 32 with h | h
  · rw [hb_not _ h]
    cases hb_t p i <;> cases hb_t s i <;> decide
  · rw [hb_big h, Bool.false_and]
    exact ⟨fun z => absurd z (by decide), fun z => absurd z.1 (by decide)⟩
theorem hq_and1 {p : Int32} {x i : Nat} (hx : x < 32) : hb_t (p &&& (((1 : Int32) <<< (nI x &&& 31)) ^^^ (-1))) i = true ↔ hb_t p i = true ∧ x ≠ i := by
  rw [hq_andn, hb_one hx, decide_eq_false_iff_not]
theorem hq_ch {x : Int32} {i : Nat} (h : i < 16) : hb_t ((x.toUInt32 % 65536).toInt32) i = hb_t x i := by
  rw [hb_ch, decide_eq_true h, Bool.true_and]
theorem hq_nt {b : Bool} (h : ¬ b = true) : b = false := by
  cases b
  · rfl
  · exact absurd rfl h
theorem hq_nf {b : Bool} (h : ¬ b = false) : b = true := by
  cases b
  · exact absurd rfl h
  · rfl
theorem hq_uor {f : Nat → Int32} {a b : Nat} (hb : b < 16) (i j : Nat) (hj : j < 16) : hb_t (upd f a (((f a ||| ((1 : Int32) <<< (nI b &&& 31))).toUInt32 % 65536).toInt32) i) j = true ↔ hb_t (f i) j = true ∨ (i = a ∧ j = b) := by
  by_cases e : i = a
  · rw [hb_us e, hq_ch hj, hq_or1 (by omega), e]
    exact ⟨fun z => z.elim Or.inl (fun z => Or.inr ⟨rfl, z.symm⟩), fun z => z.elim Or.inl (fun z => Or.inr z.2.symm)⟩
  · rw [pk_un e]
    exact ⟨Or.inl, fun z => z.elim id (fun z => absurd z.1 e)⟩
theorem hq_uan {f : Nat → Int32} {a b : Nat} (hb : b < 16) (i j : Nat) (hj : j < 16) : hb_t (upd f a (((f a &&& (((1 : Int32) <<< (nI b &&& 31)) ^^^ (-1))).toUInt32 % 65536).toInt32) i) j = true ↔ hb_t (f i) j = true ∧ ¬ (i = a ∧ j = b) := by
  by_cases e : i = a
  · rw [hb_us e, hq_ch hj, hq_and1 (by omega), e]
    exact ⟨fun z => ⟨z.1, fun w => z.2 w.2.symm⟩, fun z => ⟨z.1, fun w => z.2 ⟨rfl, w.symm⟩⟩⟩
  · rw [pk_un e]
    exact ⟨fun z => ⟨z, fun w => e w.1⟩, fun z => z.1⟩
/-- the heap: what is present lies below 8; roots and references are among the present; out and in agree; sizes are 1 to 100 -/
def hv_H (pr ro : Int32) (sz ou im : Nat → Int32) : Prop :=
  (∀ i, hb_t pr i = true → i < 8) ∧ (∀ i, hb_t ro i = true → hb_t pr i = true) ∧
  (∀ a b, a < 16 → b < 16 → hb_t (ou a) b = true → hb_t pr a = true ∧ hb_t pr b = true) ∧
  (∀ a b, a < 16 → b < 16 → (hb_t (ou a) b = true ↔ hb_t (im b) a = true)) ∧
  (∀ x, hb_t pr x = true → ∃ s, 1 ≤ s ∧ s ≤ 100 ∧ sz x = nI s)
theorem hv_H0 : hv_H 0 0 (fun _ => 0) (fun _ => 0) (fun _ => 0) :=
  have n : ∀ i, ¬ hb_t 0 i = true := fun i z => absurd ((hb_0 i).symm.trans z) (by decide)
  ⟨fun i z => absurd z (n i), fun i z => absurd z (n i), fun a b _ _ z => absurd z (n b), fun a b _ _ => ⟨fun z => absurd z (n b), fun z => absurd z (n a)⟩, fun x z => absurd z (n x)⟩
theorem hv_Hou {pr ro : Int32} {sz ou im ou' : Nat → Int32} (h : hv_H pr ro sz ou im) (e : ∀ q, q < 16 → ou' q = ou q) : hv_H pr ro sz ou' im := by
  obtain ⟨h1, h2, h3, h4, h5⟩ := h
  refine ⟨h1, h2, fun a b ha hb z => ?_, fun a b ha hb => ?_, h5⟩
  · rw [e a ha] at z
    exact h3 a b ha hb z
  · rw [e a ha]
    exact h4 a b ha hb
theorem hv_Hmake {pr ro : Int32} {sz ou im : Nat → Int32} {x s : Nat} (h : hv_H pr ro sz ou im) (hx : x < 8) (hn : hb_t pr x = false) (h1 : 1 ≤ s) (h2 : s ≤ 100) :
    hv_H (pr ||| ((1 : Int32) <<< (nI x &&& 31))) (ro &&& (((1 : Int32) <<< (nI x &&& 31)) ^^^ (-1))) (upd sz x (nI s)) (upd ou x 0) (upd im x 0) := by
  obtain ⟨k1, k2, k3, k4, k5⟩ := h
  have hno : ¬ hb_t pr x = true := by rw [hn]; decide
  refine ⟨fun i z => ?_, fun i z => ?_, fun a b ha hb z => ?_, fun a b ha hb => ?_, fun i z => ?_⟩
  · rcases (hq_or1 (by omega)).mp z with z | z
    · exact k1 i z
    · omega
  · exact (hq_or1 (by omega)).mpr (Or.inl (k2 i ((hq_and1 (by omega)).mp z).1))
  · by_cases e : a = x
    · rw [hb_us e, hb_0] at z
      exact absurd z (by decide)
    · rw [pk_un e] at z
      exact ⟨(hq_or1 (by omega)).mpr (Or.inl (k3 a b ha hb z).1), (hq_or1 (by omega)).mpr (Or.inl (k3 a b ha hb z).2)⟩
  · by_cases e : a = x
    · rw [hb_us e, hb_0]
      by_cases e2 : b = x
      · rw [hb_us e2, hb_0]
      · rw [pk_un e2]
        exact ⟨fun z => absurd z (by decide), fun z => absurd (k3 a b ha hb ((k4 a b ha hb).mpr z)).1 (by rw [e]; exact hno)⟩
    · rw [pk_un e]
      by_cases e2 : b = x
      · rw [hb_us e2, hb_0]
        exact ⟨fun z => absurd (k3 a b ha hb z).2 (by rw [e2]; exact hno), fun z => absurd z (by decide)⟩
      · rw [pk_un e2]
        exact k4 a b ha hb
  · by_cases e : i = x
    · exact ⟨s, h1, h2, hb_us e⟩
    · rw [pk_un e]
      rcases (hq_or1 (by omega)).mp z with z | z
      · exact k5 i z
      · exact absurd z.symm e
theorem hv_Hrem {pr ro s : Int32} {sz ou im ou' im' : Nat → Int32} (h : hv_H pr ro sz ou im)
    (ho : ∀ a b, a < 16 → b < 16 → (hb_t (ou' a) b = true ↔ hb_t (ou a) b = true ∧ hb_t s a = false ∧ hb_t s b = false))
    (hi : ∀ a b, a < 16 → b < 16 → (hb_t (im' a) b = true ↔ hb_t (im a) b = true ∧ hb_t s a = false ∧ hb_t s b = false)) :
    hv_H (pr &&& (s ^^^ (-1))) (ro &&& (s ^^^ (-1))) sz ou' im' := by
  obtain ⟨k1, k2, k3, k4, k5⟩ := h
  refine ⟨fun i z => k1 i (hq_andn.mp z).1, fun i z => ?_, fun a b ha hb z => ?_, fun a b ha hb => ?_, fun i z => k5 i (hq_andn.mp z).1⟩
  · have w := hq_andn.mp z
    exact hq_andn.mpr ⟨k2 i w.1, w.2⟩
  · have w := (ho a b ha hb).mp z
    have t := k3 a b ha hb w.1
    exact ⟨hq_andn.mpr ⟨t.1, w.2.1⟩, hq_andn.mpr ⟨t.2, w.2.2⟩⟩
  · rw [ho a b ha hb, hi b a hb ha, k4 a b ha hb]
    exact ⟨fun z => ⟨z.1, z.2.2, z.2.1⟩, fun z => ⟨z.1, z.2.2, z.2.1⟩⟩
theorem hv_Hon {pr ro : Int32} {sz ou im : Nat → Int32} {x : Nat} (h : hv_H pr ro sz ou im) (hx : x < 8) (hp : hb_t pr x = true) : hv_H pr (ro ||| ((1 : Int32) <<< (nI x &&& 31))) sz ou im := by
  refine ⟨h.1, fun i z => ?_, h.2.2⟩
  rcases (hq_or1 (by omega)).mp z with z | z
  · exact h.2.1 i z
  · rw [← z]
    exact hp
theorem hv_Hoff {pr ro : Int32} {sz ou im : Nat → Int32} {x : Nat} (h : hv_H pr ro sz ou im) (hx : x < 8) : hv_H pr (ro &&& (((1 : Int32) <<< (nI x &&& 31)) ^^^ (-1))) sz ou im :=
  ⟨h.1, fun i z => h.2.1 i ((hq_and1 (by omega)).mp z).1, h.2.2⟩
theorem hv_Href {pr ro : Int32} {sz ou im : Nat → Int32} {a b : Nat} (h : hv_H pr ro sz ou im) (ha : a < 8) (hb : b < 8) (pa : hb_t pr a = true) (pb : hb_t pr b = true) :
    hv_H pr ro sz (upd ou a (((ou a ||| ((1 : Int32) <<< (nI b &&& 31))).toUInt32 % 65536).toInt32)) (upd im b (((im b ||| ((1 : Int32) <<< (nI a &&& 31))).toUInt32 % 65536).toInt32)) := by
  obtain ⟨k1, k2, k3, k4, k5⟩ := h
  refine ⟨k1, k2, fun i j hi hj z => ?_, fun i j hi hj => ?_, k5⟩
  · rcases (hq_uor (by omega) i j hj).mp z with z | z
    · exact k3 i j hi hj z
    · rw [z.1, z.2]
      exact ⟨pa, pb⟩
  · rw [hq_uor (by omega) i j hj, hq_uor (by omega) j i hi, k4 i j hi hj]
    exact ⟨fun z => z.elim Or.inl (fun z => Or.inr ⟨z.2, z.1⟩), fun z => z.elim Or.inl (fun z => Or.inr ⟨z.2, z.1⟩)⟩
theorem hv_Hforg {pr ro : Int32} {sz ou im : Nat → Int32} {a b : Nat} (h : hv_H pr ro sz ou im) (ha : a < 8) (hb : b < 8) :
    hv_H pr ro sz (upd ou a (((ou a &&& (((1 : Int32) <<< (nI b &&& 31)) ^^^ (-1))).toUInt32 % 65536).toInt32)) (upd im b (((im b &&& (((1 : Int32) <<< (nI a &&& 31)) ^^^ (-1))).toUInt32 % 65536).toInt32)) := by
  obtain ⟨k1, k2, k3, k4, k5⟩ := h
  refine ⟨k1, k2, fun i j hi hj z => k3 i j hi hj ((hq_uan (by omega) i j hj).mp z).1, fun i j hi hj => ?_, k5⟩
  rw [hq_uan (by omega) i j hj, hq_uan (by omega) j i hi, k4 i j hi hj]
  exact ⟨fun z => ⟨z.1, fun w => z.2 ⟨w.2, w.1⟩⟩, fun z => ⟨z.1, fun w => z.2 ⟨w.2, w.1⟩⟩⟩
/-- lv is the set that the roots reach -/
def hv_C (ro : Int32) (ou : Nat → Int32) (lv : Int32) : Prop :=
  (∀ x, hb_t ro x = true → hb_t lv x = true) ∧ (∀ q x, q < 16 → x < 16 → hb_t lv q = true → hb_t (ou q) x = true → hb_t lv x = true) ∧
  (∀ S : Nat → Prop, (∀ x, hb_t ro x = true → S x) → (∀ q x, q < 16 → x < 16 → S q → hb_t (ou q) x = true → S x) → ∀ x, hb_t lv x = true → S x)
theorem hv_Cpr {pr ro lv : Int32} {sz ou im : Nat → Int32} (h : hv_H pr ro sz ou im) (c : hv_C ro ou lv) (x : Nat) (z : hb_t lv x = true) : hb_t pr x = true :=
  c.2.2 (fun x => hb_t pr x = true) h.2.1 (fun q x hq hx _ w => (h.2.2.1 q x hq hx w).2) x z
theorem hv_Cuq {ro lv lv' : Int32} {ou ou' : Nat → Int32} (c : hv_C ro ou lv) (c' : hv_C ro ou' lv') (e : ∀ q, q < 16 → ou' q = ou q) : lv' = lv := by
  refine hb_ext (fun i _ => Bool.eq_iff_iff.mpr ⟨?_, ?_⟩)
  · refine c'.2.2 (fun x => hb_t lv x = true) c.1 (fun q x hq hx z w => ?_) i
    rw [e q hq] at w
    exact c.2.1 q x hq hx z w
  · refine c.2.2 (fun x => hb_t lv' x = true) c'.1 (fun q x hq hx z w => ?_) i
    rw [← e q hq] at w
    exact c'.2.1 q x hq hx z w
theorem hv_Csw {pr ro lv lv' s : Int32} {sz ou im ou' : Nat → Int32} (h : hv_H pr ro sz ou im) (c : hv_C ro ou lv) (hs : s = pr &&& (lv ^^^ (-1)))
    (ho : ∀ a b, a < 16 → b < 16 → (hb_t (ou' a) b = true ↔ hb_t (ou a) b = true ∧ hb_t s a = false ∧ hb_t s b = false))
    (c' : hv_C (ro &&& (s ^^^ (-1))) ou' lv') : lv' = lv ∧ lv' = pr &&& (s ^^^ (-1)) := by
  have ns : ∀ x, hb_t lv x = true → hb_t s x = false := by
    intro x z
    apply hq_nt
    intro w
    rw [hs] at w
    have := (hq_andn.mp w).2
    rw [z] at this
    exact absurd this (by decide)
  have p := hv_Cpr h c
  have up : ∀ x, hb_t lv' x = true → hb_t lv x = true :=
    c'.2.2 (fun x => hb_t lv x = true) (fun x z => c.1 x (hq_andn.mp z).1) (fun q x hq hx z w => c.2.1 q x hq hx z ((ho q x hq hx).mp w).1)
  have dn : ∀ x, hb_t lv x = true → hb_t lv x = true ∧ hb_t lv' x = true := by
    refine c.2.2 (fun x => hb_t lv x = true ∧ hb_t lv' x = true) (fun x z => ?_) (fun q x hq hx z w => ?_)
    · exact ⟨c.1 x z, c'.1 x (hq_andn.mpr ⟨z, ns x (c.1 x z)⟩)⟩
    · have t := c.2.1 q x hq hx z.1 w
      exact ⟨t, c'.2.1 q x hq hx z.2 ((ho q x hq hx).mpr ⟨w, ns q z.1, ns x t⟩)⟩
  have e : lv' = lv := hb_ext (fun i _ => Bool.eq_iff_iff.mpr ⟨up i, fun z => (dn i z).2⟩)
  refine ⟨e, hb_ext (fun i _ => Bool.eq_iff_iff.mpr ?_)⟩
  rw [e, hq_andn]
  refine ⟨fun z => ⟨p i z, ns i z⟩, fun z => ?_⟩
  apply hq_nf
  intro w
  have := z.2
  rw [hs] at this
  have t : hb_t (pr &&& (lv ^^^ (-1))) i = true := hq_andn.mpr ⟨z.1, w⟩
  rw [t] at this
  exact absurd this (by decide)
/-- what find() leaves -/
def hv_R (ro : Int32) (ou od nu id le un he : Nat → Int32) : Prop := ∃ m, m ≤ 17 ∧
  (∀ v, 1 ≤ v → v < m → ∃ x k, x < 16 ∧ od v = nI x ∧ nu x = nI v ∧ k < v ∧ id v = nI k ∧ le v = le k + 1 ∧ hb_t (un v) x = true ∧
    (∀ i, hb_t (un v) i = true → hb_t (un k) i = true) ∧ (∀ i, hb_t (un v) i = true → hb_t (un 0) i = true) ∧ (1 ≤ k → he v < he k)) ∧
  le 0 = 0 ∧ (∀ x, hb_t (un 0) x = true → ∃ v, 1 ≤ v ∧ v < m ∧ od v = nI x) ∧ hv_C ro ou (un 0)
end
section
/-- how many of the first n are unmet -/
def hw_c (f : Nat → Int32) : Nat → Nat
  | 0 => 0
  | n + 1 => hw_c f n + (if f n < 0 then 1 else 0)
theorem hw_c_hi {f : Nat → Int32} {x : Nat} {v : Int32} : ∀ n, n ≤ x → hw_c (upd f x v) n = hw_c f n := by
  intro n
  induction n with
  | zero => exact fun _ => rfl
  | succ n ih =>
    intro h
    show hw_c (upd f x v) n + (if upd f x v n < 0 then 1 else 0) = hw_c f n + (if f n < 0 then 1 else 0)
    rw [ih (by omega), pk_un (by omega)]
theorem hw_c_lo {f : Nat → Int32} {x : Nat} {v : Int32} (hx : f x < 0) (hv : ¬ v < 0) : ∀ n, x < n → hw_c (upd f x v) n + 1 = hw_c f n := by
  intro n
  induction n with
  | zero => exact fun h => absurd h (by omega)
  | succ n ih =>
    intro h
    show hw_c (upd f x v) n + (if upd f x v n < 0 then 1 else 0) + 1 = hw_c f n + (if f n < 0 then 1 else 0)
    by_cases e : n = x
    · rw [hw_c_hi n (by omega), hb_us e, if_neg hv, e, if_pos hx]
    · rw [pk_un e, ← ih (by omega)]
      omega
theorem hw_c_all {f : Nat → Int32} : ∀ n, (∀ j, j < n → f j < 0) → hw_c f n = n := by
  intro n
  induction n with
  | zero => exact fun _ => rfl
  | succ n ih =>
    intro h
    show hw_c f n + (if f n < 0 then 1 else 0) = n + 1
    rw [ih (fun j hj => h j (by omega)), if_pos (h n (by omega))]
def hw_V (m d : Nat) (ro : Int32) (ou od nu pa st : Nat → Int32) : Prop :=
  nu 16 = nI 0 ∧ 1 ≤ m ∧ hw_c nu 16 + m = 17 ∧ d ≤ m ∧
  (∀ v, 1 ≤ v → v < m → ∃ x p, x < 16 ∧ od v = nI x ∧ nu x = nI v ∧ p < v ∧ pa v = nI p ∧ (hb_t ro x = true ∨ ∃ q, q < 16 ∧ nu q = nI p ∧ hb_t (ou q) x = true)) ∧
  (∀ x, x < 16 → nu x = -1 ∨ ∃ v, 1 ≤ v ∧ v < m ∧ nu x = nI v ∧ od v = nI x) ∧
  (∀ j, j < d → ∃ x, x < 17 ∧ st j = nI x ∧ ¬ nu x < 0) ∧
  (∀ x, x < 17 → ¬ nu x < 0 → (∃ j, j < d ∧ st j = nI x) ∨ ∀ b, b < 16 → hb_t (ou x) b = true → ¬ nu b < 0)
def hw_W (m : Nat) (ro : Int32) (ou od nu pa : Nat → Int32) : Prop :=
  1 ≤ m ∧ m ≤ 17 ∧
  (∀ v, 1 ≤ v → v < m → ∃ x p, x < 16 ∧ od v = nI x ∧ nu x = nI v ∧ p < v ∧ pa v = nI p ∧ (hb_t ro x = true ∨ ∃ q, q < 16 ∧ nu q = nI p ∧ hb_t (ou q) x = true)) ∧
  (∀ x, x < 16 → nu x = -1 ∨ ∃ v, 1 ≤ v ∧ v < m ∧ nu x = nI v ∧ od v = nI x) ∧
  (∀ x, x < 16 → hb_t ro x = true → ¬ nu x < 0) ∧
  (∀ q x, q < 16 → x < 16 → ¬ nu q < 0 → hb_t (ou q) x = true → ¬ nu x < 0)
theorem hw_num {m d : Nat} {ro : Int32} {ou od nu pa st : Nat → Int32} (h : hw_V m d ro ou od nu pa st) {x : Nat} (hx : x < 17) (hn : ¬ nu x < 0) : ∃ w, w < m ∧ nu x = nI w := by
  obtain ⟨h16, h1, hc, hd, hA, hB, hS, hC⟩ := h
  by_cases e : x = 16
  · rw [e]
    exact ⟨0, by omega, h16⟩
  · rcases hB x (by omega) with z | ⟨v, _, hv, z, _⟩
    · rw [z] at hn
      exact absurd hb_m1 hn
    · exact ⟨v, hv, z⟩
theorem hw_push {m d : Nat} {ro : Int32} {ou od nu pa st : Nat → Int32} (h : hw_V m d ro ou od nu pa st) (e16 : ∀ b, b < 16 → hb_t (ou 16) b = hb_t ro b)
    {x y w : Nat} (hx : x < 17) (hxn : nu x = nI w) (hw : w < m) (hy : y < 16) (hyb : hb_t (ou x) y = true) (hyn : nu y < 0) :
    m < 17 ∧ hw_V (m + 1) (d + 1) ro ou (upd od m (nI y)) (upd nu y (nI m)) (upd pa m (nI w)) (upd st d (nI y)) := by
  obtain ⟨h16, h1, hc, hd, hA, hB, hS, hC⟩ := h
  have hcm : hw_c nu 16 + m = 17 := hc
  have hlo := hw_c_lo (f := nu) (x := y) (v := nI m) hyn (nI_pos (by omega)) 16 hy
  have ne : ∀ {z v : Nat}, v < 17 → nu z = nI v → z ≠ y := by
    intro z v hv hz e
    rw [e] at hz
    rw [hz] at hyn
    exact nI_pos (by omega) hyn
  have gr : ∀ b, ¬ nu b < 0 → ¬ upd nu y (nI m) b < 0 := by
    intro b hb
    by_cases e : b = y
    · rw [hb_us e]
      exact nI_pos (by omega)
    · rw [pk_un e]
      exact hb
  refine ⟨by omega, ?_, by omega, by omega, by omega, ?_, ?_, ?_, ?_⟩
  · rw [pk_un (by omega)]
    exact h16
  · intro v v1 v2
    by_cases e : v = m
    · refine ⟨y, w, hy, hb_us e, by rw [e, pk_us], by omega, hb_us e, ?_⟩
      by_cases e2 : x = 16
      · left
        rw [← e16 y hy, ← e2]
        exact hyb
      · right
        exact ⟨x, by omega, by rw [pk_un (ne (by omega) hxn)]; exact hxn, hyb⟩
    · obtain ⟨x', p, g1, g2, g3, g4, g5, g6⟩ := hA v v1 (by omega)
      refine ⟨x', p, g1, by rw [pk_un e]; exact g2, by rw [pk_un (ne (by omega) g3)]; exact g3, g4, by rw [pk_un e]; exact g5, ?_⟩
      rcases g6 with g6 | ⟨q, q1, q2, q3⟩
      · exact Or.inl g6
      · exact Or.inr ⟨q, q1, by rw [pk_un (ne (by omega) q2)]; exact q2, q3⟩
  · intro z hz
    by_cases e : z = y
    · right
      exact ⟨m, by omega, by omega, hb_us e, by rw [pk_us, e]⟩
    · rw [pk_un e]
      rcases hB z hz with g | ⟨v, v1, v2, v3, v4⟩
      · exact Or.inl g
      · exact Or.inr ⟨v, v1, by omega, v3, by rw [pk_un (by omega)]; exact v4⟩
  · intro j hj
    by_cases e : j = d
    · exact ⟨y, by omega, hb_us e, by rw [pk_us]; exact nI_pos (by omega)⟩
    · obtain ⟨z, z1, z2, z3⟩ := hS j (by omega)
      exact ⟨z, z1, by rw [pk_un e]; exact z2, gr z z3⟩
  · intro z hz hzn
    by_cases e : z = y
    · left
      exact ⟨d, by omega, by rw [pk_us, e]⟩
    · rw [pk_un e] at hzn
      rcases hC z hz hzn with ⟨j, j1, j2⟩ | g
      · left
        exact ⟨j, by omega, by rw [pk_un (by omega)]; exact j2⟩
      · right
        exact fun b hb hbt => gr b (g b hb hbt)
theorem hw_pop {m d x : Nat} {ro : Int32} {ou od nu pa st : Nat → Int32} (h : hw_V m (d + 1) ro ou od nu pa st) (hx : x < 17) (hs : st d = nI x) (hc : ∀ b, b < 16 → hb_t (ou x) b = true → ¬ nu b < 0) : hw_V m d ro ou od nu pa st := by
  obtain ⟨h16, h1, hcn, hd, hA, hB, hS, hC⟩ := h
  refine ⟨h16, h1, hcn, by omega, hA, hB, fun j hj => hS j (by omega), fun z hz hzn => ?_⟩
  rcases hC z hz hzn with ⟨j, j1, j2⟩ | g
  · by_cases e : j = d
    · right
      rw [e, hs] at j2
      have := hb_inj j2 (by omega) (by omega)
      rw [← this]
      exact hc
    · exact Or.inl ⟨j, by omega, j2⟩
  · exact Or.inr g
theorem hw_done {m : Nat} {ro : Int32} {ou od nu pa st : Nat → Int32} (h : hw_V m 0 ro ou od nu pa st) (e16 : ∀ b, b < 16 → hb_t (ou 16) b = hb_t ro b) : hw_W m ro ou od nu pa := by
  obtain ⟨h16, h1, hcn, hd, hA, hB, hS, hC⟩ := h
  have cl : ∀ x, x < 17 → ¬ nu x < 0 → ∀ b, b < 16 → hb_t (ou x) b = true → ¬ nu b < 0 := by
    intro x hx hn
    rcases hC x hx hn with ⟨j, j1, _⟩ | g
    · exact absurd j1 (by omega)
    · exact g
  refine ⟨h1, by omega, hA, hB, fun x hx hr => ?_, fun q x hq hx hn ht => cl q (by omega) hn x hx ht⟩
  exact cl 16 (by omega) (by rw [h16]; exact nI_pos (by omega)) x hx (by rw [e16 x hx]; exact hr)
theorem hw_fu {post : Int32 → Prop} {s : Int32} {cap pr ro kn me : Int32} {a1 a2 a3 a4 a5 a6 a7 a8 a9 a10 a11 a12 a13 a14 a15 a16 : Nat → Int32} (H1 : (∀ x, x < 16 → hb_t s x = true → ¬ a5 x < 0) → post (-1)) (H2 : ∀ x, x < 16 → hb_t s x = true → a5 x < 0 → post (nI x)) : wpX_firstUnmet post (cap, pr, ro, kn, me, a1, a2, a3, a4, a5, a6, a7, a8, a9, a10, a11, a12, a13, a14, a15, a16) s := by
  have key : ∀ f i, 16 - i < f → i ≤ 16 → (∀ x, x < i → hb_t s x = true → ¬ a5 x < 0) → wX_firstUnmet_2 post s cap pr ro kn me a1 a2 a3 a4 a5 a6 a7 a8 a9 a10 a11 a12 a13 a14 a15 a16 f (nI i) := by
    intro f
    induction f with
    | zero => exact fun i hi => absurd hi (by omega)
    | succ f ih =>
      intro i hf hi hI
      refine pk_le 16 i (fun z => H1 (fun x hx => hI x (by omega))) (fun z => ?_)
      refine hb_br i (fun t => nm_r (nI_1 i) (ih (i + 1) (by omega) (by omega) ?_)) (fun t => And.intro (pk_in i 17 (by omega)) (br_c (fun g => nm_r (nI_1 i) (ih (i + 1) (by omega) (by omega) ?_)) (fun g => H2 i z t ?_))) (by omega)
      · intro x hx hb
        by_cases e : x = i
        · rw [e, t] at hb
          exact absurd hb (by decide)
        · exact hI x (by omega) hb
      · intro x hx hb
        by_cases e : x = i
        · rw [hb_c (by omega)] at g
          rw [e]
          exact Int32.not_lt.mpr g
        · exact hI x (by omega) hb
      · rw [hb_c (by omega)] at g
        exact Int32.not_le.mp g
  exact Exists.intro 17 (key 17 0 (by omega) (by omega) (fun x hx => absurd hx (by omega)))
theorem hw_meet {post : St1 → Prop} {m x p : Nat} {X P cap pr ro kn me : Int32} {a1 a2 a3 a4 a5 a6 a7 a8 a9 a10 a11 a12 a13 a14 a15 a16 : Nat → Int32} (hm : m < 17) (hx : x < 17) (hp : p < 17) (em : me = nI m) (eX : X = nI x) (eP : P = nI p)
    (H : post (cap, pr, ro, kn, nI (m + 1), a1, a2, a3, upd a4 m (nI x), upd a5 x (nI m), upd a6 m (nI p), a7, a8, a9, a10, a11, a12, a13, a14, a15, a16)) : wpX_meet post (cap, pr, ro, kn, me, a1, a2, a3, a4, a5, a6, a7, a8, a9, a10, a11, a12, a13, a14, a15, a16) X P := by
  subst em eX eP
  exact And.intro (pk_in x 17 hx) (nm_r (hb_u hx (hb_b m (by omega))) (And.intro (pk_in m 17 hm) (nm_r (hb_u hm (hb_b x (by omega))) (And.intro (pk_in m 17 hm) (nm_r (hb_u hm (hb_b p (by omega))) (nm_r (nI_1 m) H))))))
theorem hw_57 {post : St1 → Prop} {cap pr ro kn : Int32} {a1 a2 a3 a8 a9 a10 a11 a12 a13 a14 a15 a16 : Nat → Int32} (e16 : ∀ b, b < 16 → hb_t (a2 16) b = hb_t ro b)
    (H : ∀ m a4 a5 a6 a7, hw_W m ro a2 a4 a5 a6 → post (cap, pr, ro, kn, nI m, a1, a2, a3, a4, a5, a6, a7, a8, a9, a10, a11, a12, a13, a14, a15, a16)) :
    ∀ (f r d m : Nat) (a4 a5 a6 a7 : Nat → Int32), 41 - r < f → 2 * m = d + 1 + r → hw_V m d ro a2 a4 a5 a6 a7 → wX_walk_57 post f (nI d) (nI r) cap pr ro kn (nI m) a1 a2 a3 a4 a5 a6 a7 a8 a9 a10 a11 a12 a13 a14 a15 a16 := by
  intro f
  induction f with
  | zero => exact fun r d m a4 a5 a6 a7 hf => absurd hf (by omega)
  | succ f ih =>
    intro r d m a4 a5 a6 a7 hf hr hV
    have hm : m ≤ 17 := by have := hV.2.2.1; omega
    have hdm : d ≤ m := hV.2.2.2.1
    refine pk_le 40 r (fun z => absurd z (by omega)) (fun z => ?_)
    refine pk_le d 0 (fun z => ?_) (fun z => ?_)
    · have e : d = 0 := by omega
      rw [e] at hV
      exact H m a4 a5 a6 a7 (hw_done hV e16)
    · obtain ⟨e, rfl⟩ : ∃ e, d = e + 1 := ⟨d - 1, by omega⟩
      obtain ⟨x, hx, hst, hxn⟩ := hV.2.2.2.2.2.2.1 e (by omega)
      obtain ⟨w, hw, hxw⟩ := hw_num hV hx hxn
      refine And.intro (pk_in e 17 (by omega) (nI_pred e)) (nm_r (e' := nI x) (by rw [nI_pred, hb_c (by omega), hst]) (And.intro (pk_in x 17 hx) (hw_fu (fun t => ?_) (fun y hy hyb hyn => ?_))))
      · rw [hb_c hx] at t
        exact br_f (by decide) (nm_r (pk_m1 e) (nm_r (nI_1 r) (ih (r + 1) e m a4 a5 a6 a7 (by omega) (by omega) (hw_pop hV hx hst t))))
      · rw [hb_c hx] at hyb
        obtain ⟨hm2, hV'⟩ := hw_push hV e16 hx hxw hw hy hyb hyn
        refine br_t (nI_pos' (by omega)) (And.intro (pk_in x 17 hx) (hw_meet (m := m) (x := y) (p := w) hm2 (by omega) (by omega) rfl rfl (by rw [hb_c hx, hxw]) ?_))
        exact And.intro (pk_in (e + 1) 17 (by omega)) (nm_r (hb_u (by omega) (hb_b y (by omega))) (nm_r (nI_1 (e + 1)) (nm_r (nI_1 r) (ih (r + 1) (e + 2) (m + 1) _ _ _ _ (by omega) (by omega) hV'))))
theorem hw_walk {post : St1 → Prop} {cap pr ro kn me : Int32} {a1 a2 a3 a4 a5 a6 a7 a8 a9 a10 a11 a12 a13 a14 a15 a16 : Nat → Int32} (H : ∀ m b2 b4 b5 b6 b7, (∀ q, q < 16 → b2 q = a2 q) → hw_W m ro b2 b4 b5 b6 → post (cap, pr, ro, kn, nI m, a1, b2, a3, b4, b5, b6, b7, a8, a9, a10, a11, a12, a13, a14, a15, a16)) : wpX_walk post (cap, pr, ro, kn, me, a1, a2, a3, a4, a5, a6, a7, a8, a9, a10, a11, a12, a13, a14, a15, a16) := by
  have key : ∀ f i (b5 : Nat → Int32), 17 - i < f → i ≤ 17 → (∀ x, x < i → b5 x = -1) → wX_walk_2 post cap pr ro kn me f (nI i) a1 a2 a3 a4 b5 a6 a7 a8 a9 a10 a11 a12 a13 a14 a15 a16 := by
    intro f
    induction f with
    | zero => exact fun i b5 hi => absurd hi (by omega)
    | succ f ih =>
      intro i b5 hf hi hI
      refine pk_le 17 i (fun z => ?_) (fun z => ?_)
      · have hc := hw_c_all (f := b5) 16 (fun j hj => by rw [hI j (by omega)]; exact hb_m1)
        refine nm_e (hw_meet (m := 0) (x := 16) (p := 0) (by omega) (by omega) (by omega) rfl rfl rfl ?_)
        refine nm_e (Exists.intro 42 (hw_57 (a2 := upd a2 16 ((ro.toUInt32 % 65536).toInt32)) ?_ (fun m b4 b5 b6 b7 hW => H m _ b4 b5 b6 b7 ?_ hW) 42 0 1 1 _ _ _ _ (by omega) (by omega) ?_))
        · intro b hb
          rw [pk_us, hq_ch hb]
        · intro q hq
          exact pk_un (by omega)
        · refine ⟨pk_us, by omega, ?_, by omega, fun v v1 v2 => absurd v1 (by omega), fun x hx => Or.inl ?_, fun j hj => ⟨16, by omega, ?_, ?_⟩, fun x hx hn => Or.inl ⟨0, by omega, ?_⟩⟩
          · rw [hw_c_hi 16 (by omega), hc]
          · rw [pk_un (by omega)]
            exact hI x (by omega)
          · exact hb_us (by omega)
          · rw [pk_us]
            exact nI_pos (by omega)
          · rw [pk_us]
            by_cases e : x = 16
            · rw [e]; rfl
            · rw [pk_un e, hI x (by omega)] at hn
              exact absurd hb_m1 hn
      · refine And.intro (pk_in i 17 (by omega)) (nm_r (hb_u (by omega) rfl) (nm_r (nI_1 i) (ih (i + 1) _ (by omega) (by omega) (fun x hx => ?_))))
        by_cases e : x = i
        · exact hb_us e
        · rw [pk_un e]
          exact hI x (by omega)
  exact Exists.intro 18 (key 18 0 a5 (by omega) (by omega) (fun x hx => absurd hx (by omega)))
end
section
/-- the forest: labels never above their place; below v nothing is linked, from v on all are, downwards -/
def he_A (m v : Nat) (ab lb : Nat → Int32) : Prop :=
  (∀ u, u < m → ∃ l, l ≤ u ∧ lb u = nI l) ∧ (∀ u, u < v → ab u = -1) ∧ (∀ u, v ≤ u → u < m → ∃ k, k < u ∧ ab u = nI k)
/-- the path: going down, each linked to a linked one -/
def he_P (m v : Nat) (ab pa : Nat → Int32) (c : Nat) : Prop :=
  ∃ P : Nat → Nat, (∀ j, j < c → pa j = nI (P j) ∧ P j < m ∧ ∃ k, v ≤ k ∧ k < P j ∧ ab (P j) = nI k) ∧ (∀ i j, i < j → j < c → P j < P i)
theorem he_P0 {m v : Nat} {ab pa : Nat → Int32} : he_P m v ab pa 0 := ⟨fun _ => 0, fun j h => absurd h (by omega), fun i j _ h => absurd h (by omega)⟩
theorem he_Al {m v u l : Nat} {ab lb : Nat → Int32} (h : he_A m v ab lb) (hl : l ≤ u) : he_A m v ab (upd lb u (nI l)) := by
  refine ⟨fun w hw => ?_, h.2⟩
  by_cases e : w = u
  · exact ⟨l, by omega, hb_us e⟩
  · rw [pk_un e]
    exact h.1 w hw
theorem he_Aa {m v u k : Nat} {ab lb : Nat → Int32} (h : he_A m v ab lb) (hu : v ≤ u) (hk : k < u) : he_A m v (upd ab u (nI k)) lb := by
  refine ⟨h.1, fun w hw => ?_, fun w hw hm => ?_⟩
  · rw [pk_un (by omega)]
    exact h.2.1 w hw
  · by_cases e : w = u
    · exact ⟨k, by omega, hb_us e⟩
    · rw [pk_un e]
      exact h.2.2 w hw hm
theorem he_neg {m v u : Nat} {ab lb : Nat → Int32} (h : he_A m v ab lb) (hu : u < m) (hm : m ≤ 17) (hn : ¬ ab u < 0) : v ≤ u ∧ ∃ k, k < u ∧ ab u = nI k := by
  rcases Nat.lt_or_ge u v with z | z
  · rw [h.2.1 u z] at hn
    exact absurd hb_m1 hn
  · exact ⟨z, h.2.2 u z hu⟩
theorem he_66 {post : St1 → Prop} {m v : Nat} {cap pr ro kn me : Int32} {a1 a2 a3 a4 a5 a6 a7 a8 a11 a12 a13 a14 a15 a16 : Nat → Int32} (hm : m ≤ 17)
    (H : ∀ a9 a10, he_A m v a9 a10 → post (cap, pr, ro, kn, me, a1, a2, a3, a4, a5, a6, a7, a8, a9, a10, a11, a12, a13, a14, a15, a16)) :
    ∀ (f c : Nat) (a9 a10 : Nat → Int32), c < f → c ≤ 17 → he_A m v a9 a10 → he_P m v a9 a12 c → wX_compress_66 post cap pr ro kn me f (nI c - 1) a1 a2 a3 a4 a5 a6 a7 a8 a9 a10 a11 a12 a13 a14 a15 a16 := by
  intro f
  induction f with
  | zero => exact fun c a9 a10 hf => absurd hf (by omega)
  | succ f ih =>
    intro c a9 a10 hf hc hA hP
    by_cases e0 : c = 0
    · rw [e0]
      exact br_t (by decide) (H a9 a10 hA)
    · obtain ⟨c, rfl⟩ : ∃ c', c = c' + 1 := ⟨c - 1, by omega⟩
      rw [nI_pred]
      obtain ⟨P, hP1, hP2⟩ := hP
      obtain ⟨p1, p2, k, k1, k2, k3⟩ := hP1 c (by omega)
      obtain ⟨la, la1, la2⟩ := hA.1 k (by omega)
      obtain ⟨lw, lw1, lw2⟩ := hA.1 (P c) p2
      obtain ⟨k', k1', k2'⟩ := hA.2.2 k k1 (by omega)
      have hA' : he_A m v (upd a9 (P c) (nI k')) a10 := he_Aa hA (by omega) (by omega)
      have hP' : he_P m v (upd a9 (P c) (nI k')) a12 c := by
        refine ⟨P, fun j hj => ?_, fun i j hi hj => hP2 i j hi (by omega)⟩
        obtain ⟨q1, q2, q3⟩ := hP1 j (by omega)
        refine ⟨q1, q2, ?_⟩
        have := hP2 j c hj (by omega)
        rw [pk_un (by omega)]
        exact q3
      have sub1 : nI c + (-1) = nI c - 1 := by rw [Int32.sub_eq_add_neg]
      refine br_f (nI_pos (by omega)) (And.intro (pk_in c 17 (by omega)) (nm_r (hb_at (by omega) p1) (And.intro (pk_in (P c) 17 (by omega)) (nm_r (hb_at (by omega) k3) (And.intro (pk_in k 17 (by omega)) (And.intro (hb_i 17 (by omega) la2 (by omega) (by omega)) (And.intro (pk_in (P c) 17 (by omega)) (And.intro (hb_i 17 (by omega) lw2 (by omega) (by omega)) ?_))))))))
      refine br_c (fun _ => ?_) (fun _ => ?_)
      · exact And.intro (pk_in k 17 (by omega)) (And.intro (pk_in (P c) 17 (by omega)) (nm_r (hb_u (by omega) (by rw [hb_c (by omega), k2', hb_nb (by omega)])) (nm_r sub1 (ih c _ _ (by omega) (by omega) hA' hP'))))
      · refine And.intro (pk_in k 17 (by omega)) (And.intro (pk_in (P c) 17 (by omega)) (nm_r (hb_u (by omega) (by rw [hb_c (by omega), la2, hb_nb (by omega)])) ?_))
        exact And.intro (pk_in k 17 (by omega)) (And.intro (pk_in (P c) 17 (by omega)) (nm_r (hb_u (by omega) (by rw [hb_c (by omega), k2', hb_nb (by omega)])) (nm_r sub1 (ih c _ _ (by omega) (by omega) (he_Al hA' (by omega)) hP'))))
theorem he_7 {post : St1 → Prop} {m v : Nat} {cap pr ro kn me : Int32} {a1 a2 a3 a4 a5 a6 a7 a8 a9 a10 a11 a13 a14 a15 a16 : Nat → Int32} (hm : m ≤ 17) (hA : he_A m v a9 a10)
    (H : ∀ a9 a10 a12, he_A m v a9 a10 → post (cap, pr, ro, kn, me, a1, a2, a3, a4, a5, a6, a7, a8, a9, a10, a11, a12, a13, a14, a15, a16)) :
    ∀ (f c u : Nat) (a12 : Nat → Int32), 17 - c < f → c ≤ 17 → u < m → (∃ P : Nat → Nat, (∀ j, j < c → a12 j = nI (P j) ∧ P j < m ∧ ∃ k, v ≤ k ∧ k < P j ∧ a9 (P j) = nI k) ∧ (∀ i j, i < j → j < c → P j < P i) ∧ ∀ j, j < c → u < P j) →
      wX_compress_7 post cap pr ro kn me f (nI c) (nI u) (nI c) a1 a2 a3 a4 a5 a6 a7 a8 a9 a10 a11 a12 a13 a14 a15 a16 := by
  intro f
  induction f with
  | zero => exact fun c u a12 hf => absurd hf (by omega)
  | succ f ih =>
    intro c u a12 hf hc hu hP
    obtain ⟨P, hP1, hP2, hP3⟩ := hP
    have out : ∃ fu, wX_compress_66 post cap pr ro kn me fu (nI c - 1) a1 a2 a3 a4 a5 a6 a7 a8 a9 a10 a11 a12 a13 a14 a15 a16 := Exists.intro (c + 1) (he_66 hm (fun a9 a10 h => H a9 a10 a12 h) (c + 1) c a9 a10 (by omega) hc hA ⟨P, hP1, hP2⟩)
    refine pk_le 17 c (fun z => nm_e out) (fun z => And.intro (pk_in u 17 (by omega)) ?_)
    refine br_c (fun _ => nm_e out) (fun g => ?_)
    rw [hb_c (by omega)] at g
    obtain ⟨hvu, k, hk, ek⟩ := he_neg hA hu hm g
    refine And.intro (pk_in u 17 (by omega)) (And.intro (hb_i 17 (by omega) ek (by omega) (by omega)) ?_)
    refine br_c (fun _ => nm_e out) (fun g2 => ?_)
    rw [hb_c (by omega), ek, hb_c (by omega)] at g2
    obtain ⟨hvk, _⟩ := he_neg hA (by omega) hm g2
    refine And.intro (pk_in c 17 (by omega)) (nm_r (hb_u (by omega) (hb_b u (by omega))) (nm_r (nI_1 c) (And.intro (pk_in u 17 (by omega)) (nm_r (hb_at (by omega) ek) (nm_r (nI_1 c) (ih (c + 1) k _ (by omega) (by omega) (by omega) ?_))))))
    refine ⟨fun j => if j = c then u else P j, fun j hj => ?_, fun i j hi hj => ?_, fun j hj => ?_⟩
    · by_cases e : j = c
      · rw [hb_us e]
        simp only [if_pos e]
        exact ⟨by trivial, hu, k, hvk, hk, ek⟩
      · rw [pk_un e]
        simp only [if_neg e]
        exact hP1 j (by omega)
    · have ei : ¬ i = c := by omega
      simp only [if_neg ei]
      by_cases e : j = c
      · simp only [if_pos e]
        exact hP3 i (by omega)
      · simp only [if_neg e]
        exact hP2 i j hi (by omega)
    · by_cases e : j = c
      · simp only [if_pos e]
        exact hk
      · simp only [if_neg e]
        have := hP3 j (by omega)
        omega
theorem he_comp {post : St1 → Prop} {m v u : Nat} {cap pr ro kn me : Int32} {a1 a2 a3 a4 a5 a6 a7 a8 a9 a10 a11 a12 a13 a14 a15 a16 : Nat → Int32} (hm : m ≤ 17) (hA : he_A m v a9 a10) (hu : u < m)
    (H : ∀ b9 b10 b12, he_A m v b9 b10 → post (cap, pr, ro, kn, me, a1, a2, a3, a4, a5, a6, a7, a8, b9, b10, a11, b12, a13, a14, a15, a16)) : wpX_compress post (cap, pr, ro, kn, me, a1, a2, a3, a4, a5, a6, a7, a8, a9, a10, a11, a12, a13, a14, a15, a16) (nI u) :=
  Exists.intro 18 (he_7 hm hA H 18 0 u a12 (by omega) (by omega) hu ⟨fun _ => 0, fun j h => absurd h (by omega), fun i j _ h => absurd h (by omega), fun j h => absurd h (by omega)⟩)
theorem he_eval {post : Int32 → St1 → Prop} {X : Int32} {m v u : Nat} {cap pr ro kn me : Int32} {a1 a2 a3 a4 a5 a6 a7 a8 a9 a10 a11 a12 a13 a14 a15 a16 : Nat → Int32} (hm : m ≤ 17) (hA : he_A m v a9 a10) (hu : u < m) (eX : X = nI u)
    (H : ∀ e b9 b10 b12, e ≤ u → (u < v → e = u) → he_A m v b9 b10 → post (nI e) (cap, pr, ro, kn, me, a1, a2, a3, a4, a5, a6, a7, a8, b9, b10, a11, b12, a13, a14, a15, a16)) : wpX_eval post (cap, pr, ro, kn, me, a1, a2, a3, a4, a5, a6, a7, a8, a9, a10, a11, a12, a13, a14, a15, a16) X := by
  subst eX
  refine And.intro (pk_in u 17 (by omega)) (br_c (fun g => ?_) (fun g => H u a9 a10 a12 (by omega) (fun _ => rfl) hA))
  refine he_comp hm hA hu (fun b9 b10 b12 hA' => And.intro (pk_in u 17 (by omega)) ?_)
  obtain ⟨l, l1, l2⟩ := hA'.1 u hu
  have hvu : ¬ u < v := by
    intro z
    rw [hb_c (by omega), hA.2.1 u z] at g
    exact absurd g (by decide)
  show post (b10 (nI u).toNatClampNeg) _
  rw [hb_c (by omega), l2]
  exact H l b9 b10 b12 l1 (fun z => absurd z hvu) hA'
theorem he_66b {post : St1 → Prop} {m v : Nat} {cap pr ro kn me : Int32} {a1 a2 a3 a4 a5 a6 a7 a8 a11 a12 a13 a14 a15 a16 : Nat → Int32} (hm : m ≤ 17)
    (H : ∀ a9 a10, he_A m v a9 a10 → post (cap, pr, ro, kn, me, a1, a2, a3, a4, a5, a6, a7, a8, a9, a10, a11, a12, a13, a14, a15, a16)) :
    ∀ (f c : Nat) (a9 a10 : Nat → Int32), c < f → c ≤ 17 → he_A m v a9 a10 → he_P m v a9 a12 c → wX_compress_2_66 post cap pr ro kn me f (nI c - 1) a1 a2 a3 a4 a5 a6 a7 a8 a9 a10 a11 a12 a13 a14 a15 a16 := by
  intro f
  induction f with
  | zero => exact fun c a9 a10 hf => absurd hf (by omega)
  | succ f ih =>
    intro c a9 a10 hf hc hA hP
    by_cases e0 : c = 0
    · rw [e0]
      exact br_t (by decide) (H a9 a10 hA)
    · obtain ⟨c, rfl⟩ : ∃ c', c = c' + 1 := ⟨c - 1, by omega⟩
      rw [nI_pred]
      obtain ⟨P, hP1, hP2⟩ := hP
      obtain ⟨p1, p2, k, k1, k2, k3⟩ := hP1 c (by omega)
      obtain ⟨la, la1, la2⟩ := hA.1 k (by omega)
      obtain ⟨lw, lw1, lw2⟩ := hA.1 (P c) p2
      obtain ⟨k', k1', k2'⟩ := hA.2.2 k k1 (by omega)
      have hA' : he_A m v (upd a9 (P c) (nI k')) a10 := he_Aa hA (by omega) (by omega)
      have hP' : he_P m v (upd a9 (P c) (nI k')) a12 c := by
        refine ⟨P, fun j hj => ?_, fun i j hi hj => hP2 i j hi (by omega)⟩
        obtain ⟨q1, q2, q3⟩ := hP1 j (by omega)
        refine ⟨q1, q2, ?_⟩
        have := hP2 j c hj (by omega)
        rw [pk_un (by omega)]
        exact q3
      have sub1 : nI c + (-1) = nI c - 1 := by rw [Int32.sub_eq_add_neg]
      refine br_f (nI_pos (by omega)) (And.intro (pk_in c 17 (by omega)) (nm_r (hb_at (by omega) p1) (And.intro (pk_in (P c) 17 (by omega)) (nm_r (hb_at (by omega) k3) (And.intro (pk_in k 17 (by omega)) (And.intro (hb_i 17 (by omega) la2 (by omega) (by omega)) (And.intro (pk_in (P c) 17 (by omega)) (And.intro (hb_i 17 (by omega) lw2 (by omega) (by omega)) ?_))))))))
      refine br_c (fun _ => ?_) (fun _ => ?_)
      · exact And.intro (pk_in k 17 (by omega)) (And.intro (pk_in (P c) 17 (by omega)) (nm_r (hb_u (by omega) (by rw [hb_c (by omega), k2', hb_nb (by omega)])) (nm_r sub1 (ih c _ _ (by omega) (by omega) hA' hP'))))
      · refine And.intro (pk_in k 17 (by omega)) (And.intro (pk_in (P c) 17 (by omega)) (nm_r (hb_u (by omega) (by rw [hb_c (by omega), la2, hb_nb (by omega)])) ?_))
        exact And.intro (pk_in k 17 (by omega)) (And.intro (pk_in (P c) 17 (by omega)) (nm_r (hb_u (by omega) (by rw [hb_c (by omega), k2', hb_nb (by omega)])) (nm_r sub1 (ih c _ _ (by omega) (by omega) (he_Al hA' (by omega)) hP'))))
theorem he_7b {post : St1 → Prop} {m v : Nat} {cap pr ro kn me : Int32} {a1 a2 a3 a4 a5 a6 a7 a8 a9 a10 a11 a13 a14 a15 a16 : Nat → Int32} (hm : m ≤ 17) (hA : he_A m v a9 a10)
    (H : ∀ a9 a10 a12, he_A m v a9 a10 → post (cap, pr, ro, kn, me, a1, a2, a3, a4, a5, a6, a7, a8, a9, a10, a11, a12, a13, a14, a15, a16)) :
    ∀ (f c u : Nat) (a12 : Nat → Int32), 17 - c < f → c ≤ 17 → u < m → (∃ P : Nat → Nat, (∀ j, j < c → a12 j = nI (P j) ∧ P j < m ∧ ∃ k, v ≤ k ∧ k < P j ∧ a9 (P j) = nI k) ∧ (∀ i j, i < j → j < c → P j < P i) ∧ ∀ j, j < c → u < P j) →
      wX_compress_2_7 post cap pr ro kn me f (nI c) (nI u) (nI c) a1 a2 a3 a4 a5 a6 a7 a8 a9 a10 a11 a12 a13 a14 a15 a16 := by
  intro f
  induction f with
  | zero => exact fun c u a12 hf => absurd hf (by omega)
  | succ f ih =>
    intro c u a12 hf hc hu hP
    obtain ⟨P, hP1, hP2, hP3⟩ := hP
    have out : ∃ fu, wX_compress_2_66 post cap pr ro kn me fu (nI c - 1) a1 a2 a3 a4 a5 a6 a7 a8 a9 a10 a11 a12 a13 a14 a15 a16 := Exists.intro (c + 1) (he_66b hm (fun a9 a10 h => H a9 a10 a12 h) (c + 1) c a9 a10 (by omega) hc hA ⟨P, hP1, hP2⟩)
    refine pk_le 17 c (fun z => nm_e out) (fun z => And.intro (pk_in u 17 (by omega)) ?_)
    refine br_c (fun _ => nm_e out) (fun g => ?_)
    rw [hb_c (by omega)] at g
    obtain ⟨hvu, k, hk, ek⟩ := he_neg hA hu hm g
    refine And.intro (pk_in u 17 (by omega)) (And.intro (hb_i 17 (by omega) ek (by omega) (by omega)) ?_)
    refine br_c (fun _ => nm_e out) (fun g2 => ?_)
    rw [hb_c (by omega), ek, hb_c (by omega)] at g2
    obtain ⟨hvk, _⟩ := he_neg hA (by omega) hm g2
    refine And.intro (pk_in c 17 (by omega)) (nm_r (hb_u (by omega) (hb_b u (by omega))) (nm_r (nI_1 c) (And.intro (pk_in u 17 (by omega)) (nm_r (hb_at (by omega) ek) (nm_r (nI_1 c) (ih (c + 1) k _ (by omega) (by omega) (by omega) ?_))))))
    refine ⟨fun j => if j = c then u else P j, fun j hj => ?_, fun i j hi hj => ?_, fun j hj => ?_⟩
    · by_cases e : j = c
      · rw [hb_us e]
        simp only [if_pos e]
        exact ⟨by trivial, hu, k, hvk, hk, ek⟩
      · rw [pk_un e]
        simp only [if_neg e]
        exact hP1 j (by omega)
    · have ei : ¬ i = c := by omega
      simp only [if_neg ei]
      by_cases e : j = c
      · simp only [if_pos e]
        exact hP3 i (by omega)
      · simp only [if_neg e]
        exact hP2 i j hi (by omega)
    · by_cases e : j = c
      · simp only [if_pos e]
        exact hk
      · simp only [if_neg e]
        have := hP3 j (by omega)
        omega
theorem he_compb {post : St1 → Prop} {m v u : Nat} {cap pr ro kn me : Int32} {a1 a2 a3 a4 a5 a6 a7 a8 a9 a10 a11 a12 a13 a14 a15 a16 : Nat → Int32} (hm : m ≤ 17) (hA : he_A m v a9 a10) (hu : u < m)
    (H : ∀ b9 b10 b12, he_A m v b9 b10 → post (cap, pr, ro, kn, me, a1, a2, a3, a4, a5, a6, a7, a8, b9, b10, a11, b12, a13, a14, a15, a16)) : wpX_compress_2 post (cap, pr, ro, kn, me, a1, a2, a3, a4, a5, a6, a7, a8, a9, a10, a11, a12, a13, a14, a15, a16) (nI u) :=
  Exists.intro 18 (he_7b hm hA H 18 0 u a12 (by omega) (by omega) hu ⟨fun _ => 0, fun j h => absurd h (by omega), fun i j _ h => absurd h (by omega), fun j h => absurd h (by omega)⟩)
theorem he_evalb {post : Int32 → St1 → Prop} {X : Int32} {m v u : Nat} {cap pr ro kn me : Int32} {a1 a2 a3 a4 a5 a6 a7 a8 a9 a10 a11 a12 a13 a14 a15 a16 : Nat → Int32} (hm : m ≤ 17) (hA : he_A m v a9 a10) (hu : u < m) (eX : X = nI u)
    (H : ∀ e b9 b10 b12, e ≤ u → (u < v → e = u) → he_A m v b9 b10 → post (nI e) (cap, pr, ro, kn, me, a1, a2, a3, a4, a5, a6, a7, a8, b9, b10, a11, b12, a13, a14, a15, a16)) : wpX_eval_2 post (cap, pr, ro, kn, me, a1, a2, a3, a4, a5, a6, a7, a8, a9, a10, a11, a12, a13, a14, a15, a16) X := by
  subst eX
  refine And.intro (pk_in u 17 (by omega)) (br_c (fun g => ?_) (fun g => H u a9 a10 a12 (by omega) (fun _ => rfl) hA))
  refine he_compb hm hA hu (fun b9 b10 b12 hA' => And.intro (pk_in u 17 (by omega)) ?_)
  obtain ⟨l, l1, l2⟩ := hA'.1 u hu
  have hvu : ¬ u < v := by
    intro z
    rw [hb_c (by omega), hA.2.1 u z] at g
    exact absurd g (by decide)
  show post (b10 (nI u).toNatClampNeg) _
  rw [hb_c (by omega), l2]
  exact H l b9 b10 b12 l1 (fun z => absurd z hvu) hA'
end
section
/-- semi-dominators: never above their place; below v each its own -/
def hl_M (m v : Nat) (se : Nat → Int32) : Prop := (∀ u, u < m → ∃ s, s ≤ u ∧ se u = nI s) ∧ (∀ u, u < v → u < m → se u = nI u)
/-- the tree: each above its own -/
def hl_D (m : Nat) (im : Nat → Int32) : Prop := im 0 = nI 0 ∧ ∀ u, 1 ≤ u → u < m → ∃ k, k < u ∧ im u = nI k
/-- the buckets: whoever waits at p is greater than p -/
def hl_K (m : Nat) (bk : Nat → Int32) : Prop := ∀ p, p < m → ∀ w, hb_t (bk p) w = true → p < w
theorem hl_Du {m w k : Nat} {im : Nat → Int32} (h : hl_D m im) (hw : 1 ≤ w) (hk : k < w) : hl_D m (upd im w (nI k)) := by
  refine ⟨by rw [pk_un (by omega)]; exact h.1, fun u u1 u2 => ?_⟩
  by_cases e : u = w
  · exact ⟨k, by omega, hb_us e⟩
  · rw [pk_un e]
    exact h.2 u u1 u2
theorem hl_least {post : Int32 → St1 → Prop} {X : Int32} {m v x : Nat} {cap pr ro kn me : Int32} {a1 a2 a3 a4 a5 a6 a7 a8 a9 a10 a11 a12 a13 a14 a15 a16 : Nat → Int32} (hm : m ≤ 17) (h1 : 1 ≤ v) (hv : v < m) (eX : X = nI v) (hx : x < 16) (ex : a4 v = nI x)
    (hA : he_A m (v + 1) a9 a10) (hM : hl_M m (v + 1) a8) (hN : ∀ y, y < 16 → a5 y = -1 ∨ ∃ w, w < m ∧ a5 y = nI w)
    (hq : hb_t ro x = true ∨ ∃ q p, q < 16 ∧ hb_t (a3 x) q = true ∧ p < v ∧ a5 q = nI p)
    (H : ∀ s b9 b10 b12, s < v → he_A m (v + 1) b9 b10 → post (nI s) (cap, pr, ro, kn, me, a1, a2, a3, a4, a5, a6, a7, a8, b9, b10, a11, b12, a13, a14, a15, a16)) : wpX_leastEntry post (cap, pr, ro, kn, me, a1, a2, a3, a4, a5, a6, a7, a8, a9, a10, a11, a12, a13, a14, a15, a16) X := by
  subst eX
  have key : ∀ q, (q < 16 → hb_t (a3 x) q = true ∧ ∃ p, p < v ∧ a5 q = nI p) → ∀ (f y l : Nat) (b9 b10 b12 : Nat → Int32), 16 - y < f → y ≤ 16 → l ≤ v → (l < v ∨ (y ≤ q ∧ q < 16)) → he_A m (v + 1) b9 b10 →
      wX_leastEntry_25 post (nI x) f (nI l) (nI y) cap pr ro kn me a1 a2 a3 a4 a5 a6 a7 a8 b9 b10 a11 b12 a13 a14 a15 a16 := by
    intro q hq f
    induction f with
    | zero => exact fun y l b9 b10 b12 hf => absurd hf (by omega)
    | succ f ih =>
      intro y l b9 b10 b12 hf hy hl hd hA
      refine pk_le 16 y (fun z => H l b9 b10 b12 (by omega) hA) (fun z => And.intro (pk_in x 16 hx) ?_)
      refine hb_br y (fun t => br_t rfl (nm_r (nI_1 y) (ih (y + 1) l b9 b10 b12 (by omega) (by omega) hl ?_ hA))) (fun t => br_f (by decide) (And.intro (pk_in y 17 (by omega)) (br_c (fun g => nm_r (nI_1 y) (ih (y + 1) l b9 b10 b12 (by omega) (by omega) hl ?_ hA)) (fun g => And.intro (pk_in y 17 (by omega)) ?_)))) (by omega)
      · rcases hd with hd | hd
        · exact Or.inl hd
        · by_cases e : y = q
          · rw [hb_c (by omega), e, (hq hd.2).1] at t
            exact absurd t (by decide)
          · exact Or.inr ⟨by omega, hd.2⟩
      · rcases hd with hd | hd
        · exact Or.inl hd
        · by_cases e : y = q
          · obtain ⟨_, p, p1, p2⟩ := hq hd.2
            rw [hb_c (by omega), e, p2] at g
            exact absurd g (nI_pos (by omega))
          · exact Or.inr ⟨by omega, hd.2⟩
      · rw [hb_c (by omega)] at g
        rcases hN y z with n | ⟨w, hw, ew⟩
        · rw [n] at g
          exact absurd hb_m1 g
        · refine he_eval (u := w) hm hA hw (hb_at (by omega) ew) (fun e c9 c10 c12 e1 e2 hA' => And.intro (pk_in e 17 (by omega)) ?_)
          obtain ⟨s, s1, s2⟩ := hM.1 e (by omega)
          have hs : y = q → q < 16 → s < v := by
            intro eq q16
            obtain ⟨_, p, p1, p2⟩ := hq q16
            rw [eq, p2] at ew
            have hpw := hb_inj ew (by omega) (by omega)
            have ee := e2 (by omega)
            have := hM.2 e (by omega) (by omega)
            rw [s2] at this
            have := hb_inj this (by omega) (by omega)
            omega
          refine pk_le l s (fun z2 => nm_r (nI_1 y) (ih (y + 1) l c9 c10 c12 (by omega) (by omega) hl ?_ hA')) (fun z2 => And.intro (pk_in e 17 (by omega)) (nm_r (hb_at (by omega) s2) (nm_r (nI_1 y) (ih (y + 1) s c9 c10 c12 (by omega) (by omega) (by omega) ?_ hA')))) rfl (hb_at (by omega) s2)
          · rcases hd with hd | hd
            · exact Or.inl hd
            · by_cases e : y = q
              · have := hs e hd.2
                exact Or.inl (by omega)
              · exact Or.inr ⟨by omega, hd.2⟩
          · rcases hd with hd | hd
            · exact Or.inl (by omega)
            · by_cases e : y = q
              · exact Or.inl (hs e hd.2)
              · exact Or.inr ⟨by omega, hd.2⟩
  refine And.intro (pk_in v 17 (by omega)) (nm_r (hb_at (by omega) ex) (hb_br x (fun t => ?_) (fun t => ?_) (by omega)))
  · rcases hq with hq | ⟨q, p, q1, q2, q3, q4⟩
    · rw [t] at hq
      exact absurd hq (by decide)
    · exact Exists.intro 17 (key q (fun _ => ⟨q2, p, q3, q4⟩) 17 0 v a9 a10 a12 (by omega) (by omega) (by omega) (Or.inr ⟨by omega, q1⟩) hA)
  · exact Exists.intro 17 (key 16 (fun z => absurd z (by omega)) 17 0 0 a9 a10 a12 (by omega) (by omega) (by omega) (Or.inl (by omega)) hA)
theorem hl_empty {post : St1 → Prop} {X : Int32} {m v p : Nat} {cap pr ro kn me : Int32} {a1 a2 a3 a4 a5 a6 a7 a8 a9 a10 a11 a12 a13 a14 a15 a16 : Nat → Int32} (hm : m ≤ 17) (em : me = nI m) (hp : p < m) (eX : X = nI p) (hA : he_A m v a9 a10) (hD : hl_D m a13) (hK : hl_K m a11)
    (H : ∀ b9 b10 b12 b13, he_A m v b9 b10 → hl_D m b13 → post (cap, pr, ro, kn, me, a1, a2, a3, a4, a5, a6, a7, a8, b9, b10, upd a11 p 0, b12, b13, a14, a15, a16)) : wpX_empty post (cap, pr, ro, kn, me, a1, a2, a3, a4, a5, a6, a7, a8, a9, a10, a11, a12, a13, a14, a15, a16) X := by
  subst eX em
  have key : ∀ (f w : Nat) (b9 b10 b12 b13 : Nat → Int32), m - w < f → 1 ≤ w → w ≤ m → he_A m v b9 b10 → hl_D m b13 →
      wX_empty_16 post (nI p) (a11 p) f (nI w) cap pr ro kn (nI m) a1 a2 a3 a4 a5 a6 a7 a8 b9 b10 (upd a11 p 0) b12 b13 a14 a15 a16 := by
    intro f
    induction f with
    | zero => exact fun w b9 b10 b12 b13 hf => absurd hf (by omega)
    | succ f ih =>
      intro w b9 b10 b12 b13 hf h1 hw hA hD
      refine pk_le m w (fun z => H b9 b10 b12 b13 hA hD) (fun z => ?_)
      refine hb_br w (fun t => nm_r (nI_1 w) (ih (w + 1) b9 b10 b12 b13 (by omega) (by omega) (by omega) hA hD)) (fun t => ?_) (by omega)
      have hpw := hK p hp w t
      refine he_evalb (u := w) hm hA z rfl (fun e c9 c10 c12 e1 e2 hA' => And.intro (pk_in e 17 (by omega)) (And.intro (pk_in w 17 (by omega)) (br_c (fun g => ?_) (fun g => ?_))))
      · exact And.intro (pk_in w 17 (by omega)) (nm_r (hb_u (by omega) (hb_b p (by omega))) (nm_r (nI_1 w) (ih (w + 1) c9 c10 c12 _ (by omega) (by omega) (by omega) hA' (hl_Du hD h1 hpw))))
      · have ne : e ≠ w := by
          intro ee
          rw [ee] at g
          exact g (Int32.le_refl _)
        exact And.intro (pk_in w 17 (by omega)) (nm_r (hb_u (by omega) (hb_b e (by omega))) (nm_r (nI_1 w) (ih (w + 1) c9 c10 c12 _ (by omega) (by omega) (by omega) hA' (hl_Du hD h1 (by omega)))))
  exact And.intro (pk_in p 17 (by omega)) (nm_r (hb_at (by omega) rfl) (And.intro (pk_in p 17 (by omega)) (nm_r (hb_u (by omega) rfl) (Exists.intro (m + 1) (key (m + 1) 1 a9 a10 a12 a13 (by omega) (by omega) (by omega) hA hD)))))
/-- the levels below v -/
def hl_E (v : Nat) (im le : Nat → Int32) : Prop := le 0 = nI 0 ∧ (∀ u, u < v → ∃ l, l ≤ u ∧ le u = nI l) ∧ (∀ u, 1 ≤ u → u < v → ∃ k, k < u ∧ im u = nI k ∧ le u = le k + 1)
theorem hl_settle {post : St1 → Prop} {m : Nat} {cap pr ro kn me : Int32} {a1 a2 a3 a4 a5 a6 a7 a8 a9 a10 a11 a12 a13 a14 a15 a16 : Nat → Int32} (hm : m ≤ 17) (h1 : 1 ≤ m) (em : me = nI m) (hD : hl_D m a13)
    (H : ∀ b13 b14, hl_D m b13 → hl_E m b13 b14 → post (cap, pr, ro, kn, me, a1, a2, a3, a4, a5, a6, a7, a8, a9, a10, a11, a12, b13, b14, a15, a16)) : wpX_settle post (cap, pr, ro, kn, me, a1, a2, a3, a4, a5, a6, a7, a8, a9, a10, a11, a12, a13, a14, a15, a16) := by
  subst em
  have key : ∀ (f v : Nat) (b13 b14 : Nat → Int32), m - v < f → 1 ≤ v → v ≤ m → hl_D m b13 → hl_E v b13 b14 → wX_settle_9 post cap pr ro kn (nI m) f (nI v) a1 a2 a3 a4 a5 a6 a7 a8 a9 a10 a11 a12 b13 b14 a15 a16 := by
    intro f
    induction f with
    | zero => exact fun v b13 b14 hf => absurd hf (by omega)
    | succ f ih =>
      intro v b13 b14 hf hv hvm hD hE
      refine pk_le m v (fun z => ?_) (fun z => ?_)
      · have e : v = m := by omega
        rw [e] at hE
        exact H b13 b14 hD hE
      · have fin : ∀ c13, hl_D m c13 → hl_E v c13 b14 → wX_settle_49 post (wX_settle_9 post cap pr ro kn (nI m) f) (nI v) cap pr ro kn (nI m) a1 a2 a3 a4 a5 a6 a7 a8 a9 a10 a11 a12 c13 b14 a15 a16 := by
          intro c13 hD hE
          obtain ⟨k, k1, k2⟩ := hD.2 v hv z
          obtain ⟨l, l1, l2⟩ := hE.2.1 k k1
          refine And.intro (pk_in v 17 (by omega)) (And.intro (hb_i 17 (by omega) k2 (by omega) (by omega)) (And.intro (pk_in v 17 (by omega)) (nm_r (hb_u (y := nI (l + 1)) (by omega) ?_) (nm_r (nI_1 v) (ih (v + 1) c13 _ (by omega) (by omega) (by omega) hD ?_)))))
          · rw [hb_c (by omega), k2, hb_c (by omega), l2, nI_1, hb_b _ (by omega)]
          · refine ⟨by rw [pk_un (by omega)]; exact hE.1, fun u hu => ?_, fun u u1 u2 => ?_⟩
            · by_cases e : u = v
              · exact ⟨l + 1, by omega, hb_us e⟩
              · rw [pk_un e]
                exact hE.2.1 u (by omega)
            · by_cases e : u = v
              · refine ⟨k, by omega, by rw [e]; exact k2, ?_⟩
                rw [hb_us e, pk_un (by omega), l2, nI_1]
              · obtain ⟨k', g1, g2, g3⟩ := hE.2.2 u u1 (by omega)
                refine ⟨k', g1, g2, ?_⟩
                rw [pk_un e, pk_un (by omega)]
                exact g3
        obtain ⟨k, k1, k2⟩ := hD.2 v hv z
        refine And.intro (pk_in v 17 (by omega)) (And.intro (pk_in v 17 (by omega)) (br_c (fun _ => fin b13 hD hE) (fun _ => ?_)))
        have hk' : ∃ k', k' < v ∧ b13 k = nI k' := by
          by_cases e : k = 0
          · rw [e]
            exact ⟨0, by omega, hD.1⟩
          · obtain ⟨k', g1, g2⟩ := hD.2 k (by omega) (by omega)
            exact ⟨k', by omega, g2⟩
        obtain ⟨k', g1, g2⟩ := hk'
        refine And.intro (pk_in v 17 (by omega)) (And.intro (hb_i 17 (by omega) k2 (by omega) (by omega)) (And.intro (pk_in v 17 (by omega)) (nm_r (hb_u (y := nI k') (by omega) ?_) (fin _ (hl_Du hD hv g1) ?_))))
        · rw [hb_c (by omega), k2, hb_c (by omega), g2, hb_nb (by omega)]
        · refine ⟨hE.1, hE.2.1, fun u u1 u2 => ?_⟩
          rw [pk_un (by omega)]
          exact hE.2.2 u u1 u2
  refine nm_e (Exists.intro (m + 1) (key (m + 1) 1 a13 _ (by omega) (by omega) h1 hD ⟨pk_us, fun u hu => ⟨0, by omega, hb_us (by omega)⟩, fun u u1 u2 => absurd u1 (by omega)⟩))
/-- totals: all above v are done -/
def hl_U (m v t : Nat) (od im un he : Nat → Int32) : Prop := ∃ G : Nat → Nat,
  (∀ u, u < m → he u = nI (G u) ∧ G u + 100 ≤ 100 * 2 ^ t) ∧
  (∀ u, v < u → u < m → ∃ x k, x < 16 ∧ od u = nI x ∧ k < u ∧ im u = nI k ∧ hb_t (un u) x = true ∧ (∀ i, hb_t (un u) i = true → hb_t (un k) i = true) ∧ G u ≤ G k ∧ (v < k → G u < G k)) ∧
  (∀ u, u < m → ∀ i, hb_t (un u) i = true → ∃ w, 1 ≤ w ∧ w < m ∧ od w = nI i)
theorem hl_Us {m v t x k s : Nat} {od im un he : Nat → Int32} (h : hl_U m (v + 1) t od im un he) (hv : v + 1 < m) (hx : x < 16) (ex : od (v + 1) = nI x) (hk : k < v + 1) (ek : im (v + 1) = nI k) (s1 : 1 ≤ s) (s2 : s ≤ 100) :
    hl_U m v (t + 1) od im
      (upd (upd un (v + 1) (un (v + 1) ||| ((1 : Int32) <<< (nI x &&& 31)))) k ((upd un (v + 1) (un (v + 1) ||| ((1 : Int32) <<< (nI x &&& 31)))) k ||| (upd un (v + 1) (un (v + 1) ||| ((1 : Int32) <<< (nI x &&& 31)))) (v + 1)))
      (upd (upd he (v + 1) (he (v + 1) + nI s)) k ((upd he (v + 1) (he (v + 1) + nI s)) k + (upd he (v + 1) (he (v + 1) + nI s)) (v + 1))) := by
  obtain ⟨G, h1, h2, h3⟩ := h
  have nk : k ≠ v + 1 := by omega
  rw [pk_us, pk_us, pk_un nk, pk_un nk]
  have gk := h1 k (by omega)
  have gv := h1 (v + 1) hv
  have p2 : 2 ^ (t + 1) = 2 * 2 ^ t := by rw [Nat.pow_succ, Nat.mul_comm]
  have G1 : ∀ j, (if j = k then G k + (G (v + 1) + s) else if j = v + 1 then G (v + 1) + s else G j) ≥ G j := by
    intro j
    by_cases e : j = k
    · rw [if_pos e, e]; omega
    · rw [if_neg e]
      by_cases e2 : j = v + 1
      · rw [if_pos e2, e2]; omega
      · rw [if_neg e2]; omega
  have mo : ∀ j i, hb_t (un j) i = true → hb_t (upd (upd un (v + 1) (un (v + 1) ||| ((1 : Int32) <<< (nI x &&& 31)))) k (un k ||| (un (v + 1) ||| ((1 : Int32) <<< (nI x &&& 31)))) j) i = true := by
    intro j i hi
    by_cases e : j = k
    · rw [hb_us e, hb_or, ← e, hi, Bool.true_or]
    · rw [pk_un e]
      by_cases e2 : j = v + 1
      · rw [hb_us e2, hb_or, ← e2, hi, Bool.true_or]
      · rw [pk_un e2]
        exact hi
  refine ⟨fun j => if j = k then G k + (G (v + 1) + s) else if j = v + 1 then G (v + 1) + s else G j, fun u hu => ?_, fun u hu hum => ?_, fun u hu i hi => ?_⟩
  · dsimp only
    have gu := h1 u hu
    by_cases e : u = k
    · rw [hb_us e, if_pos e, gk.1, gv.1, nI_add, nI_add]
      exact ⟨rfl, by omega⟩
    · rw [pk_un e, if_neg e]
      by_cases e2 : u = v + 1
      · rw [hb_us e2, if_pos e2, gv.1, nI_add]
        exact ⟨rfl, by omega⟩
      · rw [pk_un e2, if_neg e2]
        exact ⟨gu.1, by omega⟩
  · dsimp only
    by_cases e2 : u = v + 1
    · refine ⟨x, k, hx, by rw [e2]; exact ex, by omega, by rw [e2]; exact ek, ?_, fun i hi => ?_, ?_, fun z => absurd z (by omega)⟩
      · rw [pk_un (by omega), hb_us e2]
        exact (hq_or1 (by omega)).mpr (Or.inr rfl)
      · rw [pk_un (by omega), hb_us e2] at hi
        rw [pk_us, hb_or, hi, Bool.or_true]
      · rw [if_neg (by omega), if_pos e2, if_pos rfl]
        omega
    · obtain ⟨x', k', g1, g2, g3, g4, g5, g6, g7, g8⟩ := h2 u (by omega) hum
      refine ⟨x', k', g1, g2, g3, g4, mo u x' g5, fun i hi => ?_, ?_, fun z => ?_⟩
      · rw [pk_un (by omega), pk_un e2] at hi
        exact mo k' i (g6 i hi)
      · rw [if_neg (by omega), if_neg e2]
        exact Nat.le_trans g7 (G1 k')
      · rw [if_neg (show ¬ u = k by omega), if_neg e2]
        by_cases e3 : k' = v + 1
        · rw [if_neg (by omega), if_pos e3]
          rw [e3] at g7
          omega
        · exact Nat.lt_of_lt_of_le (g8 (by omega)) (G1 k')
  · have one : hb_t (un (v + 1) ||| ((1 : Int32) <<< (nI x &&& 31))) i = true → ∃ w, 1 ≤ w ∧ w < m ∧ od w = nI i := by
      intro hi
      rcases (hq_or1 (by omega)).mp hi with hi | hi
      · exact h3 (v + 1) hv i hi
      · rw [← hi]
        exact ⟨v + 1, by omega, hv, ex⟩
    by_cases e : u = k
    · rw [hb_us e, hb_or, Bool.or_eq_true] at hi
      rcases hi with hi | hi
      · exact h3 k (by omega) i hi
      · exact one hi
    · rw [pk_un e] at hi
      by_cases e2 : u = v + 1
      · rw [hb_us e2] at hi
        exact one hi
      · rw [pk_un e2] at hi
        exact h3 u hu i hi
theorem hl_total {post : St1 → Prop} {m : Nat} {cap pr ro kn me : Int32} {a1 a2 a3 a4 a5 a6 a7 a8 a9 a10 a11 a12 a13 a14 a15 a16 : Nat → Int32} (hm : m ≤ 17) (h1 : 1 ≤ m) (em : me = nI m) (hD : hl_D m a13)
    (hZ : ∀ v, 1 ≤ v → v < m → ∃ x s, x < 16 ∧ a4 v = nI x ∧ 1 ≤ s ∧ s ≤ 100 ∧ a1 x = nI s)
    (H : ∀ b15 b16, hl_U m 0 (m - 1) a4 a13 b15 b16 → post (cap, pr, ro, kn, me, a1, a2, a3, a4, a5, a6, a7, a8, a9, a10, a11, a12, a13, a14, b15, b16)) : wpX_total post (cap, pr, ro, kn, me, a1, a2, a3, a4, a5, a6, a7, a8, a9, a10, a11, a12, a13, a14, a15, a16) := by
  subst em
  have k2 : ∀ (f v t : Nat) (b15 b16 : Nat → Int32), v < f → v + 1 + t = m → hl_U m v t a4 a13 b15 b16 → wX_total_37 post cap pr ro kn (nI m) f (nI v) a1 a2 a3 a4 a5 a6 a7 a8 a9 a10 a11 a12 a13 a14 b15 b16 := by
    intro f
    induction f with
    | zero => exact fun v t b15 b16 hf => absurd hf (by omega)
    | succ f ih =>
      intro v t b15 b16 hf hv hU
      refine pk_le v 0 (fun z => ?_) (fun z => ?_)
      · have e : v = 0 := by omega
        have e2 : t = m - 1 := by omega
        rw [e, e2] at hU
        exact H b15 b16 hU
      · obtain ⟨v, rfl⟩ : ∃ v', v = v' + 1 := ⟨v - 1, by omega⟩
        obtain ⟨x, s, x1, x2, s1, s2, s3⟩ := hZ (v + 1) (by omega) (by omega)
        obtain ⟨k, k1, k2⟩ := hD.2 (v + 1) (by omega) (by omega)
        have iv : vp_in (nI (v + 1)) 17 := pk_in (v + 1) 17 (by omega)
        have ik : vp_in (nI k) 17 := pk_in k 17 (by omega)
        have cv : (nI (v + 1)).toNatClampNeg = v + 1 := hb_c (by omega)
        have ck : (nI k).toNatClampNeg = k := hb_c (by omega)
        refine And.intro iv (nm_r (hb_at (by omega) x2) (And.intro iv (And.intro iv (nm_r (by rw [cv]) (And.intro iv (And.intro (pk_in x 16 x1) (And.intro iv (nm_r (by rw [cv, hb_c (by omega), s3]) (And.intro iv (nm_r (hb_at (by omega) k2) (And.intro ik (And.intro iv (And.intro ik (nm_r (by rw [cv, ck]) (And.intro ik (And.intro iv (And.intro ik (nm_r (by rw [cv, ck]) (nm_r (pk_m1 v) (ih v (t + 1) _ _ (by omega) (by omega) (hl_Us hU (by omega) x1 x2 k1 k2 s1 s2)))))))))))))))))))))
  have k1 : ∀ (f v : Nat) (b15 b16 : Nat → Int32), m - v < f → v ≤ m → (∀ u, u < v → b15 u = 0 ∧ b16 u = 0) → wX_total_2 post cap pr ro kn (nI m) f (nI v) a1 a2 a3 a4 a5 a6 a7 a8 a9 a10 a11 a12 a13 a14 b15 b16 := by
    intro f
    induction f with
    | zero => exact fun v b15 b16 hf => absurd hf (by omega)
    | succ f ih =>
      intro v b15 b16 hf hv hI
      refine pk_le m v (fun z => ?_) (fun z => ?_)
      · refine nm_r (e' := nI (m - 1)) ?_ (Exists.intro (m + 1) (k2 (m + 1) (m - 1) 0 b15 b16 (by omega) (by omega) ?_))
        · obtain ⟨m', rfl⟩ : ∃ m', m = m' + 1 := ⟨m - 1, by omega⟩
          exact nI_pred m'
        · refine ⟨fun _ => 0, fun u hu => ⟨(hI u (by omega)).2, (by decide : 0 + 100 ≤ 100 * 2 ^ 0)⟩, fun u hu hum => absurd hu (by omega), fun u hu i hi => ?_⟩
          rw [(hI u (by omega)).1, hb_0] at hi
          exact absurd hi (by decide)
      · refine And.intro (pk_in v 17 (by omega)) (nm_r (hb_u (by omega) rfl) (And.intro (pk_in v 17 (by omega)) (nm_r (hb_u (by omega) rfl) (nm_r (nI_1 v) (ih (v + 1) _ _ (by omega) (by omega) (fun u hu => ?_))))))
        by_cases e : u = v
        · exact ⟨hb_us e, hb_us e⟩
        · rw [pk_un e, pk_un e]
          exact hI u (by omega)
  exact Exists.intro (m + 1) (k1 (m + 1) 0 a15 a16 (by omega) (by omega) (fun u hu => absurd hu (by omega)))
end
section
theorem hf_sound {m : Nat} {ro : Int32} {ou od nu pa : Nat → Int32} (h : hw_W m ro ou od nu pa) (S : Nat → Prop) (hr : ∀ x, hb_t ro x = true → S x) (he : ∀ q x, q < 16 → x < 16 → S q → hb_t (ou q) x = true → S x) :
    ∀ n v, v < n → 1 ≤ v → v < m → ∀ x, x < 32 → od v = nI x → S x := by
  intro n
  induction n with
  | zero => exact fun v hv => absurd hv (by omega)
  | succ n ih =>
    intro v hv v1 vm x hx ex
    obtain ⟨h1, hm, hA, hB, _, _⟩ := h
    obtain ⟨x', p, g1, g2, g3, g4, g5, g6⟩ := hA v v1 vm
    rw [g2] at ex
    have e := hb_inj ex (by omega) (by omega)
    rw [← e]
    rcases g6 with g6 | ⟨q, q1, q2, q3⟩
    · exact hr x' g6
    · refine he q x' q1 g1 ?_ q3
      rcases hB q q1 with z | ⟨w, w1, w2, w3, w4⟩
      · rw [q2] at z
        exact absurd z (hb_ne (by omega))
      · rw [q2] at w3
        have e2 := hb_inj w3 (by omega) (by omega)
        exact ih w (by omega) w1 w2 q (by omega) w4
theorem hf_Z {m : Nat} {pr ro : Int32} {sz ou im od nu pa : Nat → Int32} (hH : hv_H pr ro sz ou im) (h : hw_W m ro ou od nu pa) : ∀ v, 1 ≤ v → v < m → ∃ x s, x < 16 ∧ od v = nI x ∧ 1 ≤ s ∧ s ≤ 100 ∧ sz x = nI s := by
  intro v v1 vm
  obtain ⟨x, p, g1, g2, _⟩ := h.2.2.1 v v1 vm
  have hp : hb_t pr x = true := hf_sound h (fun x => hb_t pr x = true) hH.2.1 (fun q x hq hx _ w => (hH.2.2.1 q x hq hx w).2) (v + 1) v (by omega) v1 vm x (by omega) g2
  obtain ⟨s, s1, s2, s3⟩ := hH.2.2.2.2 x hp
  exact ⟨x, s, g1, g2, s1, s2, s3⟩
theorem hf_R {m t : Nat} {pr ro : Int32} {sz ou im od nu pa id le un he : Nat → Int32} (hH : hv_H pr ro sz ou im) (h : hw_W m ro ou od nu pa) (hE : hl_E m id le) (hU : hl_U m 0 t od id un he) (ht : t ≤ 16) : hv_R ro ou od nu id le un he := by
  obtain ⟨G, u1, u2, u3⟩ := hU
  have hW := h
  obtain ⟨h1, hm, hA, hB, hr, hc⟩ := h
  have top : ∀ n v, v < n → v < m → ∀ i, hb_t (un v) i = true → hb_t (un 0) i = true := by
    intro n
    induction n with
    | zero => exact fun v hv => absurd hv (by omega)
    | succ n ih =>
      intro v hv vm i hi
      by_cases e : v = 0
      · rw [e] at hi
        exact hi
      · obtain ⟨x, k, g1, g2, g3, g4, g5, g6, _⟩ := u2 v (by omega) vm
        exact ih k (by omega) (by omega) i (g6 i hi)
  have bound : ∀ u, u < m → G u < 2 ^ 31 := by
    intro u hu
    have := (u1 u hu).2
    have p : 2 ^ t ≤ 2 ^ 16 := Nat.pow_le_pow_right (by decide) ht
    omega
  have met : ∀ x, x < 16 → ¬ nu x < 0 → hb_t (un 0) x = true := by
    intro x hx hn
    rcases hB x hx with z | ⟨v, v1, v2, v3, v4⟩
    · rw [z] at hn
      exact absurd hb_m1 hn
    · obtain ⟨x', k, g1, g2, g3, g4, g5, g6, _⟩ := u2 v (by omega) v2
      rw [v4] at g2
      have e := hb_inj g2 (by omega) (by omega)
      rw [← e] at g5
      exact top (v + 1) v (by omega) v2 x g5
  refine ⟨m, hm, fun v v1 v2 => ?_, hE.1, u3 0 (by omega), fun x hx => ?_, fun q x hq hx hl ho => ?_, fun S s1 s2 x hx => ?_⟩
  · obtain ⟨x, k, g1, g2, g3, g4, g5, g6, g7, g8⟩ := u2 v (by omega) v2
    obtain ⟨x', p, f1, f2, f3, _⟩ := hA v v1 v2
    obtain ⟨k', e1, e2, e3⟩ := hE.2.2 v v1 v2
    have ex := hb_inj (g2.symm.trans f2) (by omega) (by omega)
    have ek := hb_inj (g4.symm.trans e2) (by omega) (by omega)
    rw [← ex] at f3
    rw [← ek] at e3
    refine ⟨x, k, g1, g2, f3, g3, g4, e3, g5, g6, top (v + 1) v (by omega) v2, fun k1 => ?_⟩
    rw [(u1 v v2).1, (u1 k (by omega)).1]
    exact nI_lt (g8 (by omega)) (bound k (by omega))
  · have x8 := hH.1 x (hH.2.1 x hx)
    exact met x (by omega) (hr x (by omega) hx)
  · obtain ⟨v, v1, v2, v3⟩ := u3 0 (by omega) q hl
    obtain ⟨x', p, f1, f2, f3, _⟩ := hA v v1 v2
    have ex := hb_inj (v3.symm.trans f2) (by omega) (by omega)
    rw [← ex] at f3
    exact met x hx (hc q x hq hx (by rw [f3]; exact nI_pos (by omega)) ho)
  · obtain ⟨v, v1, v2, v3⟩ := u3 0 (by omega) x hx
    exact hf_sound hW S s1 s2 (v + 1) v (by omega) v1 v2 x (hb_lt hx) v3
theorem hf_link {m v p : Nat} {ab lb : Nat → Int32} (h : he_A m (v + 1) ab lb) (hp : p < v) : he_A m v (upd ab v (nI p)) lb := by
  refine ⟨h.1, fun u hu => ?_, fun u hu hum => ?_⟩
  · rw [pk_un (by omega)]
    exact h.2.1 u (by omega)
  · by_cases e : u = v
    · exact ⟨p, by omega, hb_us e⟩
    · rw [pk_un e]
      exact h.2.2 u (by omega) hum
theorem hf_77 {post : St1 → Prop} {m : Nat} {cap pr ro kn : Int32} {a1 a2 a3 a4 a5 a6 a7 a14 a15 a16 : Nat → Int32} (hH : hv_H pr ro a1 a2 a3) (hW : hw_W m ro a2 a4 a5 a6)
    (H : ∀ a8 a9 a10 a11 a12 a13 a14 a15 a16, hl_E m a13 a14 → hl_U m 0 (m - 1) a4 a13 a15 a16 → post (cap, pr, ro, kn, nI m, a1, a2, a3, a4, a5, a6, a7, a8, a9, a10, a11, a12, a13, a14, a15, a16)) :
    ∀ (f v : Nat) (a8 a9 a10 a11 a12 a13 : Nat → Int32), v < f → v < m → he_A m (v + 1) a9 a10 → hl_M m (v + 1) a8 → hl_K m a11 → hl_D m a13 → wX_find_77 post f (nI v) cap pr ro kn (nI m) a1 a2 a3 a4 a5 a6 a7 a8 a9 a10 a11 a12 a13 a14 a15 a16 := by
  have hm : m ≤ 17 := hW.2.1
  have hZ := hf_Z hH hW
  intro f
  induction f with
  | zero => exact fun v a8 a9 a10 a11 a12 a13 hf => absurd hf (by omega)
  | succ f ih =>
    intro v a8 a9 a10 a11 a12 a13 hf hv hA hM hK hD
    refine pk_le v 0 (fun z => ?_) (fun z => ?_)
    · refine hl_settle hm hW.1 rfl hD (fun b13 b14 hD' hE => ?_)
      refine hl_total hm hW.1 rfl hD' hZ (fun b15 b16 hU => ?_)
      exact H a8 a9 a10 a11 a12 b13 b14 b15 b16 hE hU
    · obtain ⟨v, rfl⟩ : ∃ v', v = v' + 1 := ⟨v - 1, by omega⟩
      obtain ⟨x, p, g1, g2, g3, g4, g5, g6⟩ := hW.2.2.1 (v + 1) (by omega) hv
      refine hl_least (v := v + 1) hm (by omega) hv rfl g1 g2 hA hM (fun y hy => ?_) ?_ (fun s b9 b10 b12 hs hA' => ?_)
      · rcases hW.2.2.2.1 y hy with n | ⟨w, w1, w2, w3, w4⟩
        · exact Or.inl n
        · exact Or.inr ⟨w, w2, w3⟩
      · rcases g6 with g6 | ⟨q, q1, q2, q3⟩
        · exact Or.inl g6
        · exact Or.inr ⟨q, p, q1, (hH.2.2.2.1 q x q1 g1).mp q3, g4, q2⟩
      · have iv : vp_in (nI (v + 1)) 17 := pk_in (v + 1) 17 (by omega)
        have cv : (nI (v + 1)).toNatClampNeg = v + 1 := hb_c (by omega)
        have es : upd a8 (v + 1) (nI s) (nI (v + 1)).toNatClampNeg = nI s := by rw [cv, pk_us]
        have is : vp_in (upd a8 (v + 1) (nI s) (nI (v + 1)).toNatClampNeg) 17 := pk_in s 17 (by omega) es
        refine And.intro iv (nm_r (hb_u (by omega) (hb_b s (by omega))) (And.intro iv (And.intro is (And.intro is (nm_r (e' := upd a11 s (a11 s ||| ((1 : Int32) <<< (nI (v + 1) &&& 31)))) (by rw [es, hb_c (by omega)]) (And.intro iv (And.intro iv (nm_r (hb_u (y := nI p) (by omega) (by rw [cv, g5, hb_nb (by omega)])) (And.intro iv ?_)))))))))
        refine hl_empty (m := m) (v := v + 1) (p := p) hm rfl (by omega) (by rw [cv, g5]) (hf_link hA' g4) hD ?_ (fun c9 c10 c12 c13 hA2 hD2 => nm_r (pk_m1 v) (ih v _ _ _ _ _ _ (by omega) (by omega) hA2 ?_ ?_ hD2))
        · intro p' hp' w hw
          by_cases e : p' = s
          · rw [hb_us e] at hw
            rcases (hq_or1 (by omega)).mp hw with hw | hw
            · rw [← e] at hw
              exact hK p' hp' w hw
            · omega
          · rw [pk_un e] at hw
            exact hK p' hp' w hw
        · refine ⟨fun u hu => ?_, fun u hu hum => ?_⟩
          · by_cases e : u = v + 1
            · exact ⟨s, by omega, hb_us e⟩
            · rw [pk_un e]
              exact hM.1 u hu
          · rw [pk_un (by omega)]
            exact hM.2 u (by omega) hum
        · intro p' hp' w hw
          by_cases e0 : p' = p
          · rw [hb_us e0, hb_0] at hw
            exact absurd hw (by decide)
          · rw [pk_un e0] at hw
            by_cases e : p' = s
            · rw [hb_us e] at hw
              rcases (hq_or1 (by omega)).mp hw with hw | hw
              · rw [← e] at hw
                exact hK p' hp' w hw
              · omega
            · rw [pk_un e] at hw
              exact hK p' hp' w hw
theorem hf_19 {post : St1 → Prop} {m : Nat} {cap pr ro kn : Int32} {a1 a2 a3 a4 a5 a6 a7 a12 a14 a15 a16 : Nat → Int32} (hH : hv_H pr ro a1 a2 a3) (hW : hw_W m ro a2 a4 a5 a6)
    (H : ∀ a8 a9 a10 a11 a12 a13 a14 a15 a16, hl_E m a13 a14 → hl_U m 0 (m - 1) a4 a13 a15 a16 → post (cap, pr, ro, kn, nI m, a1, a2, a3, a4, a5, a6, a7, a8, a9, a10, a11, a12, a13, a14, a15, a16)) :
    ∀ (f i : Nat) (a8 a9 a10 a11 a13 : Nat → Int32), m - i < f → i ≤ m → (∀ u, u < i → a8 u = nI u ∧ a10 u = nI u ∧ a9 u = -1 ∧ a11 u = 0 ∧ a13 u = nI 0) → wX_find_19 post cap pr ro kn (nI m) f (nI i) a1 a2 a3 a4 a5 a6 a7 a8 a9 a10 a11 a12 a13 a14 a15 a16 := by
  have hm : m ≤ 17 := hW.2.1
  have h1 : 1 ≤ m := hW.1
  intro f
  induction f with
  | zero => exact fun i a8 a9 a10 a11 a13 hf => absurd hf (by omega)
  | succ f ih =>
    intro i a8 a9 a10 a11 a13 hf hi hI
    refine pk_le m i (fun z => ?_) (fun z => ?_)
    · have e : i = m := by omega
      subst e
      refine nm_r (e' := nI (i - 1)) ?_ (Exists.intro (i + 1) (hf_77 hH hW H (i + 1) (i - 1) a8 a9 a10 a11 a12 a13 (by omega) (by omega) ?_ ?_ ?_ ?_))
      · obtain ⟨m', rfl⟩ : ∃ m', i = m' + 1 := ⟨i - 1, by omega⟩
        exact nI_pred m'
      · exact ⟨fun u hu => ⟨u, by omega, (hI u hu).2.1⟩, fun u hu => (hI u (by omega)).2.2.1, fun u hu hum => absurd hu (by omega)⟩
      · exact ⟨fun u hu => ⟨u, by omega, (hI u hu).1⟩, fun u hu hum => (hI u hum).1⟩
      · intro p hp w hw
        rw [(hI p hp).2.2.2.1, hb_0] at hw
        exact absurd hw (by decide)
      · exact ⟨(hI 0 (by omega)).2.2.2.2, fun u u1 um => ⟨0, by omega, (hI u um).2.2.2.2⟩⟩
    · have ii : vp_in (nI i) 17 := pk_in i 17 (by omega)
      refine And.intro ii (nm_r (hb_u (by omega) (hb_b i (by omega))) (And.intro ii (nm_r (hb_u (by omega) (hb_b i (by omega))) (And.intro ii (nm_r (hb_u (by omega) rfl) (And.intro ii (nm_r (hb_u (by omega) rfl) (And.intro ii (nm_r (hb_u (by omega) rfl) (nm_r (nI_1 i) (ih (i + 1) _ _ _ _ _ (by omega) (by omega) (fun u hu => ?_))))))))))))
      by_cases e : u = i
      · rw [hb_us e, hb_us e, hb_us e, hb_us e, hb_us e, e]
        exact ⟨rfl, rfl, rfl, rfl, rfl⟩
      · rw [pk_un e, pk_un e, pk_un e, pk_un e, pk_un e]
        exact hI u (by omega)
theorem hf_find {post : St1 → Prop} {cap pr ro kn me : Int32} {a1 a2 a3 a4 a5 a6 a7 a8 a9 a10 a11 a12 a13 a14 a15 a16 : Nat → Int32} (hH : hv_H pr ro a1 a2 a3) (hk : kn = 0 ∨ (kn = 1 ∧ hv_R ro a2 a4 a5 a13 a14 a15 a16))
    (H : ∀ me b2 b4 b5 b6 b7 b8 b9 b10 b11 b12 b13 b14 b15 b16, (∀ q, q < 16 → b2 q = a2 q) → hv_R ro b2 b4 b5 b13 b14 b15 b16 → post (cap, pr, ro, 1, me, a1, b2, a3, b4, b5, b6, b7, b8, b9, b10, b11, b12, b13, b14, b15, b16)) : wpX_find post (cap, pr, ro, kn, me, a1, a2, a3, a4, a5, a6, a7, a8, a9, a10, a11, a12, a13, a14, a15, a16) := by
  rcases hk with hk | ⟨hk, hR⟩
  · refine br_t hk ?_
    refine hw_walk (fun m b2 b4 b5 b6 b7 e2 hW => ?_)
    have hH' := hv_Hou hH e2
    have hm : m ≤ 17 := hW.2.1
    exact Exists.intro (m + 1) (hf_19 hH' hW (fun b8 b9 b10 b11 b12 b13 b14 b15 b16 hE hU => H _ b2 b4 b5 b6 b7 b8 b9 b10 b11 b12 b13 b14 b15 b16 e2 (hf_R hH' hW hE hU (by omega))) (m + 1) 0 _ _ _ _ _ (by omega) (by omega) (fun u hu => absurd hu (by omega)))
  · subst hk
    exact br_f (by decide) (H me a2 a4 a5 a6 a7 a8 a9 a10 a11 a12 a13 a14 a15 a16 (fun q _ => rfl) hR)
end
section
/-- the object between two calls -/
def hv_S (cap pr ro kn : Int32) (a1 a2 a3 a4 a5 a13 a14 a15 a16 : Nat → Int32) : Prop :=
  cap = nI 8 ∧ hv_H pr ro a1 a2 a3 ∧ (kn = 0 ∨ (kn = 1 ∧ hv_R ro a2 a4 a5 a13 a14 a15 a16))
theorem hm_has {post : Int32 → Prop} {x : Nat} {cap pr ro kn me : Int32} {a1 a2 a3 a4 a5 a6 a7 a8 a9 a10 a11 a12 a13 a14 a15 a16 : Nat → Int32} (ec : cap = nI 8) (hx : x < 8) (H0 : hb_t pr x = false → post 0) (H1 : hb_t pr x = true → post 1) : wpX_has post (cap, pr, ro, kn, me, a1, a2, a3, a4, a5, a6, a7, a8, a9, a10, a11, a12, a13, a14, a15, a16) (nI x) :=
  br_f (nI_pos (by omega)) (pk_le 8 x (fun z => absurd z (by omega)) (fun z => hb_br x H0 H1 (by omega)) ec rfl)
/-- the first i rows of an array without what is in s -/
def hm_I (s : Int32) (i : Nat) (f g : Nat → Int32) : Prop :=
  (∀ a b, a < i → b < 16 → (hb_t (g a) b = true ↔ hb_t (f a) b = true ∧ hb_t s a = false ∧ hb_t s b = false)) ∧ (∀ a, i ≤ a → g a = f a)
theorem hm_I1 {s : Int32} {i : Nat} {f g : Nat → Int32} (h : hm_I s i f g) (hs : hb_t s i = true) : hm_I s (i + 1) f (upd g i 0) := by
  refine ⟨fun a b ha hb => ?_, fun a ha => by rw [pk_un (by omega)]; exact h.2 a (by omega)⟩
  by_cases e : a = i
  · rw [hb_us e, hb_0, e, hs]
    exact ⟨fun z => absurd z (by decide), fun z => absurd z.2.1 (by decide)⟩
  · rw [pk_un e]
    exact h.1 a b (by omega) hb
theorem hm_I0 {s : Int32} {i : Nat} {f g : Nat → Int32} (h : hm_I s i f g) (hs : hb_t s i = false) : hm_I s (i + 1) f (upd g i (((g i &&& (s ^^^ (-1))).toUInt32 % 65536).toInt32)) := by
  refine ⟨fun a b ha hb => ?_, fun a ha => by rw [pk_un (by omega)]; exact h.2 a (by omega)⟩
  by_cases e : a = i
  · rw [hb_us e, hq_ch hb, hq_andn, h.2 i (by omega), e]
    exact ⟨fun z => ⟨z.1, hs, z.2⟩, fun z => ⟨z.1, z.2.2⟩⟩
  · rw [pk_un e]
    exact h.1 a b (by omega) hb
theorem hm_rem {post : St1 → Prop} {s : Int32} {cap pr ro kn me : Int32} {a1 a2 a3 a4 a5 a6 a7 a8 a9 a10 a11 a12 a13 a14 a15 a16 : Nat → Int32}
    (H : ∀ b2 b3, hm_I s 16 a2 b2 → hm_I s 16 a3 b3 → post (cap, pr &&& (s ^^^ (-1)), ro &&& (s ^^^ (-1)), 0, me, a1, b2, b3, a4, a5, a6, a7, a8, a9, a10, a11, a12, a13, a14, a15, a16)) : wpX_remove post (cap, pr, ro, kn, me, a1, a2, a3, a4, a5, a6, a7, a8, a9, a10, a11, a12, a13, a14, a15, a16) s := by
  have key : ∀ (f i : Nat) (b2 b3 : Nat → Int32), 16 - i < f → i ≤ 16 → hm_I s i a2 b2 → hm_I s i a3 b3 → wX_remove_31 post s cap (pr &&& (s ^^^ (-1))) (ro &&& (s ^^^ (-1))) 0 me f (nI i) a1 b2 b3 a4 a5 a6 a7 a8 a9 a10 a11 a12 a13 a14 a15 a16 := by
    intro f
    induction f with
    | zero => exact fun i b2 b3 hf => absurd hf (by omega)
    | succ f ih =>
      intro i b2 b3 hf hi h2 h3
      refine pk_le 16 i (fun z => ?_) (fun z => ?_)
      · have e : i = 16 := by omega
        rw [e] at h2 h3
        exact H b2 b3 h2 h3
      · have i7 : vp_in (nI i) 17 := pk_in i 17 (by omega)
        have i6 : vp_in (nI i) 16 := pk_in i 16 (by omega)
        have ci : (nI i).toNatClampNeg = i := hb_c (by omega)
        refine hb_br i (fun t => ?_) (fun t => ?_) (by omega)
        · exact And.intro i7 (And.intro i7 (nm_r (by rw [ci]) (And.intro i6 (And.intro i6 (nm_r (by rw [ci]) (nm_r (nI_1 i) (ih (i + 1) _ _ (by omega) (by omega) (hm_I0 h2 t) (hm_I0 h3 t))))))))
        · exact And.intro i7 (nm_r (hb_u (by omega) rfl) (And.intro i6 (nm_r (hb_u (by omega) rfl) (nm_r (nI_1 i) (ih (i + 1) _ _ (by omega) (by omega) (hm_I1 h2 t) (hm_I1 h3 t))))))
  exact nm_e (nm_e (Exists.intro 17 (key 17 0 a2 a3 (by omega) (by omega) ⟨fun a b ha => absurd ha (by omega), fun a _ => rfl⟩ ⟨fun a b ha => absurd ha (by omega), fun a _ => rfl⟩)))
theorem hm_remS {pr ro s : Int32} {a1 a2 a3 b2 b3 a4 a5 a13 a14 a15 a16 : Nat → Int32} (hH : hv_H pr ro a1 a2 a3) (h2 : hm_I s 16 a2 b2) (h3 : hm_I s 16 a3 b3) : hv_S (nI 8) (pr &&& (s ^^^ (-1))) (ro &&& (s ^^^ (-1))) 0 a1 b2 b3 a4 a5 a13 a14 a15 a16 :=
  ⟨rfl, hv_Hrem hH (fun a b ha hb => h2.1 a b ha hb) (fun a b ha hb => h3.1 a b ha hb), Or.inl rfl⟩
theorem hm_sweep {post : Int32 → St1 → Prop} {cap pr ro kn me : Int32} {a1 a2 a3 a4 a5 a6 a7 a8 a9 a10 a11 a12 a13 a14 a15 a16 : Nat → Int32} (hH : hv_H pr ro a1 a2 a3) (hk : kn = 0 ∨ (kn = 1 ∧ hv_R ro a2 a4 a5 a13 a14 a15 a16))
    (H : ∀ (r s me : Int32) (b2 b4 b5 b6 b7 b8 b9 b10 b11 b12 b13 b14 b15 b16 c2 c3 : Nat → Int32), (∀ q, q < 16 → b2 q = a2 q) → hv_R ro b2 b4 b5 b13 b14 b15 b16 → s = pr &&& (b15 0 ^^^ (-1)) → hm_I s 16 b2 c2 → hm_I s 16 a3 c3 →
      post r (cap, pr &&& (s ^^^ (-1)), ro &&& (s ^^^ (-1)), 0, me, a1, c2, c3, b4, b5, b6, b7, b8, b9, b10, b11, b12, b13, b14, b15, b16)) : wpX_sweep post (cap, pr, ro, kn, me, a1, a2, a3, a4, a5, a6, a7, a8, a9, a10, a11, a12, a13, a14, a15, a16) := by
  refine hf_find hH hk (fun me' b2 b4 b5 b6 b7 b8 b9 b10 b11 b12 b13 b14 b15 b16 e2 hR => ?_)
  have key : ∀ (f i : Nat) (c s : Int32), s = pr &&& (b15 0 ^^^ (-1)) → 16 - i < f → i ≤ 16 → wX_sweep_22 post s cap pr ro 1 me' a1 b2 a3 b4 b5 b6 b7 b8 b9 b10 b11 b12 b13 b14 b15 b16 f c (nI i) := by
    intro f
    induction f with
    | zero => exact fun i c s _ hf => absurd hf (by omega)
    | succ f ih =>
      intro i c s hs hf hi
      refine pk_le 16 i (fun z => ?_) (fun z => nm_e (nm_r (nI_1 i) (ih (i + 1) _ s hs (by omega) (by omega))))
      refine hm_rem (fun c2 c3 h2 h3 => ?_)
      exact H c s me' b2 b4 b5 b6 b7 b8 b9 b10 b11 b12 b13 b14 b15 b16 c2 c3 e2 hR hs h2 h3
  exact nm_e (Exists.intro 17 (key 17 0 0 _ rfl (by omega) (by omega)))
theorem hm_make {post : Int32 → St1 → Prop} {X : Int32} {s : Nat} {cap pr ro kn me : Int32} {a1 a2 a3 a4 a5 a6 a7 a8 a9 a10 a11 a12 a13 a14 a15 a16 : Nat → Int32} (hS : hv_S cap pr ro kn a1 a2 a3 a4 a5 a13 a14 a15 a16) (s1 : 1 ≤ s) (s2 : s ≤ 100) (eX : X = nI s)
    (H : ∀ {r : Int32} {cap pr ro kn me : Int32} {a1 a2 a3 a4 a5 a6 a7 a8 a9 a10 a11 a12 a13 a14 a15 a16 : Nat → Int32}, hv_S cap pr ro kn a1 a2 a3 a4 a5 a13 a14 a15 a16 → post r (cap, pr, ro, kn, me, a1, a2, a3, a4, a5, a6, a7, a8, a9, a10, a11, a12, a13, a14, a15, a16)) : wpX_make post (cap, pr, ro, kn, me, a1, a2, a3, a4, a5, a6, a7, a8, a9, a10, a11, a12, a13, a14, a15, a16) X := by
  have hS' := hS
  obtain ⟨ec, hH, hk⟩ := hS
  subst eX
  have key : ∀ f i, 8 - i < f → i ≤ 8 → wX_make_15 post (nI s) cap pr ro kn me a1 a2 a3 a4 a5 a6 a7 a8 a9 a10 a11 a12 a13 a14 a15 a16 f (nI i) := by
    intro f
    induction f with
    | zero => exact fun i hf => absurd hf (by omega)
    | succ f ih =>
      intro i hf hi
      refine pk_le 8 i (fun z => H hS') (fun z => ?_) ec rfl
      refine hm_has ec z (fun t => br_t rfl ?_) (fun t => br_f (by decide) (nm_r (nI_1 i) (ih (i + 1) (by omega) (by omega))))
      exact nm_e (nm_e (And.intro (pk_in i 16 (by omega)) (nm_r (hb_u (by omega) (hb_b s (by omega))) (And.intro (pk_in i 17 (by omega)) (nm_r (hb_u (by omega) rfl) (And.intro (pk_in i 16 (by omega)) (nm_r (hb_u (by omega) rfl) (H ⟨ec, hv_Hmake hH z t s1 s2, Or.inl rfl⟩))))))))
  exact pk_lt s 1 (fun z => absurd z (by omega)) (fun z => pk_le s 100 (fun z => Exists.intro 9 (key 9 0 (by omega) (by omega))) (fun z => absurd z (by omega)))
theorem hm_destroy {post : Int32 → St1 → Prop} {x : Nat} {cap pr ro kn me : Int32} {a1 a2 a3 a4 a5 a6 a7 a8 a9 a10 a11 a12 a13 a14 a15 a16 : Nat → Int32} (hS : hv_S cap pr ro kn a1 a2 a3 a4 a5 a13 a14 a15 a16) (hx : x < 8)
    (H : ∀ {r : Int32} {cap pr ro kn me : Int32} {a1 a2 a3 a4 a5 a6 a7 a8 a9 a10 a11 a12 a13 a14 a15 a16 : Nat → Int32}, hv_S cap pr ro kn a1 a2 a3 a4 a5 a13 a14 a15 a16 → post r (cap, pr, ro, kn, me, a1, a2, a3, a4, a5, a6, a7, a8, a9, a10, a11, a12, a13, a14, a15, a16)) : wpX_destroy post (cap, pr, ro, kn, me, a1, a2, a3, a4, a5, a6, a7, a8, a9, a10, a11, a12, a13, a14, a15, a16) (nI x) := by
  have hS' := hS
  obtain ⟨ec, hH, hk⟩ := hS
  unfold wpX_destroy
  refine hm_has ec hx (fun t => br_t rfl (H hS')) (fun t => br_f (by decide) ?_)
  refine hm_rem (fun c2 c3 h2 h3 => ?_)
  subst ec
  exact H (hm_remS hH h2 h3)
theorem hm_setRoot {post : Int32 → St1 → Prop} {z : Int32} {x : Nat} {cap pr ro kn me : Int32} {a1 a2 a3 a4 a5 a6 a7 a8 a9 a10 a11 a12 a13 a14 a15 a16 : Nat → Int32} (hS : hv_S cap pr ro kn a1 a2 a3 a4 a5 a13 a14 a15 a16) (hx : x < 8)
    (H : ∀ {r : Int32} {cap pr ro kn me : Int32} {a1 a2 a3 a4 a5 a6 a7 a8 a9 a10 a11 a12 a13 a14 a15 a16 : Nat → Int32}, hv_S cap pr ro kn a1 a2 a3 a4 a5 a13 a14 a15 a16 → post r (cap, pr, ro, kn, me, a1, a2, a3, a4, a5, a6, a7, a8, a9, a10, a11, a12, a13, a14, a15, a16)) : wpX_setRoot post (cap, pr, ro, kn, me, a1, a2, a3, a4, a5, a6, a7, a8, a9, a10, a11, a12, a13, a14, a15, a16) (nI x) z := by
  have hS' := hS
  obtain ⟨ec, hH, hk⟩ := hS
  unfold wpX_setRoot
  refine hm_has ec hx (fun t => br_t rfl (H hS')) (fun t => br_f (by decide) ?_)
  exact (br_c (fun _ => nm_e (H ⟨ec, hv_Hoff hH hx, Or.inl rfl⟩)) (fun _ => nm_e (H ⟨ec, hv_Hon hH hx t, Or.inl rfl⟩)))
theorem hm_refer {post : Int32 → St1 → Prop} {x y : Nat} {cap pr ro kn me : Int32} {a1 a2 a3 a4 a5 a6 a7 a8 a9 a10 a11 a12 a13 a14 a15 a16 : Nat → Int32} (hS : hv_S cap pr ro kn a1 a2 a3 a4 a5 a13 a14 a15 a16) (hx : x < 8) (hy : y < 8)
    (H : ∀ {r : Int32} {cap pr ro kn me : Int32} {a1 a2 a3 a4 a5 a6 a7 a8 a9 a10 a11 a12 a13 a14 a15 a16 : Nat → Int32}, hv_S cap pr ro kn a1 a2 a3 a4 a5 a13 a14 a15 a16 → post r (cap, pr, ro, kn, me, a1, a2, a3, a4, a5, a6, a7, a8, a9, a10, a11, a12, a13, a14, a15, a16)) : wpX_refer post (cap, pr, ro, kn, me, a1, a2, a3, a4, a5, a6, a7, a8, a9, a10, a11, a12, a13, a14, a15, a16) (nI x) (nI y) := by
  have hS' := hS
  obtain ⟨ec, hH, hk⟩ := hS
  have ix : vp_in (nI x) 17 := pk_in x 17 (by omega)
  have iy : vp_in (nI y) 16 := pk_in y 16 (by omega)
  have cx : (nI x).toNatClampNeg = x := hb_c (by omega)
  have cy : (nI y).toNatClampNeg = y := hb_c (by omega)
  unfold wpX_refer
  refine hm_has ec hx (fun t => br_t rfl (H hS')) (fun t => br_f (by decide) ?_)
  refine hm_has ec hy (fun t2 => br_t rfl (H hS')) (fun t2 => br_f (by decide) ?_)
  refine And.intro ix (And.intro ix (nm_r (by rw [cx]) (And.intro iy (And.intro iy (nm_r (by rw [cy]) ?_)))))
  exact H ⟨ec, hv_Href hH hx hy t t2, Or.inl rfl⟩
theorem hm_forget {post : Int32 → St1 → Prop} {x y : Nat} {cap pr ro kn me : Int32} {a1 a2 a3 a4 a5 a6 a7 a8 a9 a10 a11 a12 a13 a14 a15 a16 : Nat → Int32} (hS : hv_S cap pr ro kn a1 a2 a3 a4 a5 a13 a14 a15 a16) (hx : x < 8) (hy : y < 8)
    (H : ∀ {r : Int32} {cap pr ro kn me : Int32} {a1 a2 a3 a4 a5 a6 a7 a8 a9 a10 a11 a12 a13 a14 a15 a16 : Nat → Int32}, hv_S cap pr ro kn a1 a2 a3 a4 a5 a13 a14 a15 a16 → post r (cap, pr, ro, kn, me, a1, a2, a3, a4, a5, a6, a7, a8, a9, a10, a11, a12, a13, a14, a15, a16)) : wpX_forget post (cap, pr, ro, kn, me, a1, a2, a3, a4, a5, a6, a7, a8, a9, a10, a11, a12, a13, a14, a15, a16) (nI x) (nI y) := by
  have hS' := hS
  obtain ⟨ec, hH, hk⟩ := hS
  have ix : vp_in (nI x) 17 := pk_in x 17 (by omega)
  have iy : vp_in (nI y) 16 := pk_in y 16 (by omega)
  have cx : (nI x).toNatClampNeg = x := hb_c (by omega)
  have cy : (nI y).toNatClampNeg = y := hb_c (by omega)
  unfold wpX_forget
  refine hm_has ec hx (fun t => br_t rfl (H hS')) (fun t => br_f (by decide) ?_)
  refine hm_has ec hy (fun t2 => br_t rfl (H hS')) (fun t2 => br_f (by decide) ?_)
  refine And.intro ix (br_c (fun _ => H hS') (fun _ => And.intro ix (And.intro ix (nm_r (by rw [cx]) (And.intro iy (And.intro iy (nm_r (by rw [cy]) ?_)))))))
  exact H ⟨ec, hv_Hforg hH hx hy, Or.inl rfl⟩
theorem hm_turn {post : St1 → Prop} {w x y : Int32} {cap pr ro kn me : Int32} {a1 a2 a3 a4 a5 a6 a7 a8 a9 a10 a11 a12 a13 a14 a15 a16 : Nat → Int32} (hS : hv_S cap pr ro kn a1 a2 a3 a4 a5 a13 a14 a15 a16)
    (H : ∀ {cap pr ro kn me : Int32} {a1 a2 a3 a4 a5 a6 a7 a8 a9 a10 a11 a12 a13 a14 a15 a16 : Nat → Int32}, hv_S cap pr ro kn a1 a2 a3 a4 a5 a13 a14 a15 a16 → post (cap, pr, ro, kn, me, a1, a2, a3, a4, a5, a6, a7, a8, a9, a10, a11, a12, a13, a14, a15, a16)) : wpL_turn post (cap, pr, ro, kn, me, a1, a2, a3, a4, a5, a6, a7, a8, a9, a10, a11, a12, a13, a14, a15, a16) w x y := by
  obtain ⟨a, ha, ea⟩ := pk_andE x (m := 7) 3 (by decide)
  obtain ⟨b, hb, eb⟩ := pk_andE y (m := 7) 3 (by decide)
  obtain ⟨j, hj, ej⟩ := pk_andE (y >>> ((3 : Int32) &&& 31)) (m := 255) 8 (by decide)
  refine nm_r ea (nm_r eb (br_c (fun _ => br_c (fun _ => br_c (fun _ => br_c (fun _ => br_c (fun _ => ?_) (fun _ => ?_)) (fun _ => ?_)) (fun _ => br_c (fun _ => ?_) (fun _ => ?_))) (fun _ => ?_)) (fun _ => And.intro (by decide) ?_)))
  · obtain ⟨ec, hH, hk⟩ := hS
    refine hm_sweep hH hk (fun r s me b2 b4 b5 b6 b7 b8 b9 b10 b11 b12 b13 b14 b15 b16 c2 c3 e2 hR hs h2 h3 => ?_)
    subst ec
    exact H (hm_remS (hv_Hou hH e2) h2 h3)
  · exact hm_forget hS ha hb (fun h => H h)
  · exact hm_refer hS ha hb (fun h => H h)
  · exact hm_setRoot hS ha (fun h => H h)
  · exact hm_setRoot hS ha (fun h => H h)
  · exact hm_destroy hS ha (fun h => H h)
  · refine hm_make (s := 1 + j % 100) hS (by omega) (by omega) ?_ (fun h => H h)
    rw [ej]
    show (1 : Int32) + (nI j - nI j / nI 100 * nI 100) = _
    rw [pk_rem (by omega) (by omega) (by omega), ← nI_add]
    rfl
end
section
/-- object x is present and has the number v, and the walk is known -/
def hn_Q (cap pr kn : Int32) (a5 : Nat → Int32) (x v : Nat) : Prop := cap = nI 8 ∧ x < 8 ∧ hb_t pr x = true ∧ ¬ kn = 0 ∧ v < 17 ∧ a5 x = nI v
theorem hn_num {post : Int32 → St1 → Prop} {x v : Nat} {cap pr ro kn me : Int32} {a1 a2 a3 a4 a5 a6 a7 a8 a9 a10 a11 a12 a13 a14 a15 a16 : Nat → Int32} (q : hn_Q cap pr kn a5 x v) (H : post (nI v) (cap, pr, ro, kn, me, a1, a2, a3, a4, a5, a6, a7, a8, a9, a10, a11, a12, a13, a14, a15, a16)) : wpX_numberOf post (cap, pr, ro, kn, me, a1, a2, a3, a4, a5, a6, a7, a8, a9, a10, a11, a12, a13, a14, a15, a16) (nI x) := by
  obtain ⟨ec, hx, hp, hk, hv, e⟩ := q
  unfold wpX_numberOf
  refine hm_has ec hx (fun t => ?_) (fun t => br_f (by decide) ?_)
  · rw [hp] at t
    exact absurd t (by decide)
  · refine br_f hk (And.intro (pk_in x 17 (by omega)) ?_)
    show post (a5 (nI x).toNatClampNeg) _
    rw [hb_c (by omega), e]
    exact H
theorem hn_kept {post : Int32 → St1 → Prop} {x v : Nat} {cap pr ro kn me : Int32} {a1 a2 a3 a4 a5 a6 a7 a8 a9 a10 a11 a12 a13 a14 a15 a16 : Nat → Int32} (q : hn_Q cap pr kn a5 x v) (H : post (a15 v) (cap, pr, ro, kn, me, a1, a2, a3, a4, a5, a6, a7, a8, a9, a10, a11, a12, a13, a14, a15, a16)) : wpX_kept post (cap, pr, ro, kn, me, a1, a2, a3, a4, a5, a6, a7, a8, a9, a10, a11, a12, a13, a14, a15, a16) (nI x) := by
  have hv := q.2.2.2.2.1
  unfold wpX_kept
  refine hn_num q ?_
  refine br_t (nI_pos' (by omega)) (And.intro (pk_in v 17 hv) ?_)
  show post (a15 (nI v).toNatClampNeg) _
  rw [hb_c hv]
  exact H
theorem hn_depth {post : Int32 → St1 → Prop} {x v : Nat} {cap pr ro kn me : Int32} {a1 a2 a3 a4 a5 a6 a7 a8 a9 a10 a11 a12 a13 a14 a15 a16 : Nat → Int32} (q : hn_Q cap pr kn a5 x v) (H : post (a14 v - 1) (cap, pr, ro, kn, me, a1, a2, a3, a4, a5, a6, a7, a8, a9, a10, a11, a12, a13, a14, a15, a16)) : wpX_depth post (cap, pr, ro, kn, me, a1, a2, a3, a4, a5, a6, a7, a8, a9, a10, a11, a12, a13, a14, a15, a16) (nI x) := by
  have hv := q.2.2.2.2.1
  unfold wpX_depth
  refine hn_num q ?_
  refine br_t (nI_pos' (by omega)) (And.intro (pk_in v 17 hv) ?_)
  show post (a14 (nI v).toNatClampNeg - 1) _
  rw [hb_c hv]
  exact H
theorem hn_ret {post : Int32 → St1 → Prop} {x v : Nat} {cap pr ro kn me : Int32} {a1 a2 a3 a4 a5 a6 a7 a8 a9 a10 a11 a12 a13 a14 a15 a16 : Nat → Int32} (q : hn_Q cap pr kn a5 x v) (H : post (a16 v) (cap, pr, ro, kn, me, a1, a2, a3, a4, a5, a6, a7, a8, a9, a10, a11, a12, a13, a14, a15, a16)) : wpX_retained post (cap, pr, ro, kn, me, a1, a2, a3, a4, a5, a6, a7, a8, a9, a10, a11, a12, a13, a14, a15, a16) (nI x) := by
  have hv := q.2.2.2.2.1
  unfold wpX_retained
  refine hn_num q ?_
  refine br_t (nI_pos' (by omega)) (And.intro (pk_in v 17 hv) ?_)
  show post (a16 (nI v).toNatClampNeg) _
  rw [hb_c hv]
  exact H
theorem hn_obj {post : Int32 → Prop} {X : Int32} {v : Nat} {cap pr ro kn me : Int32} {a1 a2 a3 a4 a5 a6 a7 a8 a9 a10 a11 a12 a13 a14 a15 a16 : Nat → Int32} (hv : v < 17) (eX : X = nI v) (H0 : v = 0 → post (-1)) (H1 : 1 ≤ v → post (a4 v)) : wpX_objectOf post (cap, pr, ro, kn, me, a1, a2, a3, a4, a5, a6, a7, a8, a9, a10, a11, a12, a13, a14, a15, a16) X := by
  subst eX
  refine pk_eq v 0 H0 (fun z => And.intro (pk_in v 17 hv) ?_)
  rw [hb_c hv]
  exact H1 (by omega)
theorem hn_common {post : Int32 → St1 → Prop} {x v : Nat} {cap pr ro kn me : Int32} {a1 a2 a3 a4 a5 a6 a7 a8 a9 a10 a11 a12 a13 a14 a15 a16 : Nat → Int32} (q : hn_Q cap pr kn a5 x v) (v1 : 1 ≤ v) (H : post (a4 v) (cap, pr, ro, kn, me, a1, a2, a3, a4, a5, a6, a7, a8, a9, a10, a11, a12, a13, a14, a15, a16)) : wpX_common post (cap, pr, ro, kn, me, a1, a2, a3, a4, a5, a6, a7, a8, a9, a10, a11, a12, a13, a14, a15, a16) (nI x) (nI x) := by
  have hv := q.2.2.2.2.1
  unfold wpX_common
  refine hn_num q ?_
  refine hn_num q ?_
  refine br_f (nI_pos (by omega)) (br_t (nI_pos' (by omega)) (Exists.intro 1 (br_f (by decide) (br_t rfl ?_))))
  exact hn_obj hv rfl (fun z => absurd z (by omega)) (fun _ => H)
theorem hn_keeper {post : Int32 → St1 → Prop} {x v k : Nat} {cap pr ro kn me : Int32} {a1 a2 a3 a4 a5 a6 a7 a8 a9 a10 a11 a12 a13 a14 a15 a16 : Nat → Int32} (q : hn_Q cap pr kn a5 x v) (hk : k < 17) (ek : a13 v = nI k) (H0 : k = 0 → post (-1) (cap, pr, ro, kn, me, a1, a2, a3, a4, a5, a6, a7, a8, a9, a10, a11, a12, a13, a14, a15, a16)) (H1 : 1 ≤ k → post (a4 k) (cap, pr, ro, kn, me, a1, a2, a3, a4, a5, a6, a7, a8, a9, a10, a11, a12, a13, a14, a15, a16)) : wpX_keeper post (cap, pr, ro, kn, me, a1, a2, a3, a4, a5, a6, a7, a8, a9, a10, a11, a12, a13, a14, a15, a16) (nI x) := by
  have hv := q.2.2.2.2.1
  unfold wpX_keeper
  refine hn_num q ?_
  refine br_t (nI_pos' (by omega)) (And.intro (pk_in v 17 hv) ?_)
  exact hn_obj hk (hb_at hv ek) H0 H1
theorem hn_one {post : Int32 → St1 → Prop} {x : Nat} {cap pr ro kn me : Int32} {a1 a2 a3 a4 a5 a6 a7 a8 a9 a10 a11 a12 a13 a14 a15 a16 : Nat → Int32} (ec : cap = nI 8) (hH : hv_H pr ro a1 a2 a3) (hk : kn = 1) (hR : hv_R ro a2 a4 a5 a13 a14 a15 a16) (hx : x < 8) (hl : hb_t (a15 0) x = true) (H : post 1 (cap, pr, ro, kn, me, a1, a2, a3, a4, a5, a6, a7, a8, a9, a10, a11, a12, a13, a14, a15, a16)) : wpL_one post (cap, pr, ro, kn, me, a1, a2, a3, a4, a5, a6, a7, a8, a9, a10, a11, a12, a13, a14, a15, a16) (nI x) (a15 0) := by
  obtain ⟨m, hm, hA, hz, hL, hC⟩ := hR
  have hkn : ¬ kn = 0 := by rw [hk]; decide
  obtain ⟨v, v1, v2, v3⟩ := hL x hl
  obtain ⟨x', k, g1, g2, g3, g4, g5, g6, g7, g8, g9, g10⟩ := hA v v1 v2
  have e := hb_inj (v3.symm.trans g2) (by omega) (by omega)
  subst e
  have q : hn_Q cap pr kn a5 x v := ⟨ec, hx, hv_Cpr hH hC x hl, hkn, by omega, g3⟩
  unfold wpL_one
  refine hn_kept q ?_
  refine hb_br x (fun t => ?_) (fun t => br_t (hb_sub g9) ?_) (by omega)
  · rw [g7] at t
    exact absurd t (by decide)
  · refine hn_common q v1 ?_
    refine br_t g2 ?_
    refine hn_keeper q (by omega) g5 (fun k0 => ?_) (fun k1 => ?_)
    · refine hn_depth q ?_
      refine br_t rfl (br_t ?_ H)
      rw [g6, k0, hz]
      decide
    · obtain ⟨y, k', f1, f2, f3, f4, f5, f6, f7, f8, f9, f10⟩ := hA k k1 (by omega)
      have hy := hv_Cpr hH hC y (f9 y f7)
      have qk : hn_Q cap pr kn a5 y k := ⟨ec, hH.1 y hy, hy, hkn, by omega, f3⟩
      rw [f2]
      refine hn_depth q ?_
      refine br_f (hb_ne (by omega)) ?_
      refine hn_kept qk ?_
      refine hn_depth qk ?_
      refine br_t (hb_sub g8) (br_t ?_ ?_)
      · rw [g6]
        grind
      · refine hn_ret q ?_
        refine hn_ret qk ?_
        exact br_f (Int32.not_le.mpr (g10 k1)) H
end
section
theorem hz_live {post : Int32 → St1 → Prop} {cap pr ro kn me : Int32} {a1 a2 a3 a4 a5 a6 a7 a8 a9 a10 a11 a12 a13 a14 a15 a16 : Nat → Int32} (hS : hv_S cap pr ro kn a1 a2 a3 a4 a5 a13 a14 a15 a16)
    (H : ∀ me b2 b4 b5 b6 b7 b8 b9 b10 b11 b12 b13 b14 b15 b16, (∀ q, q < 16 → b2 q = a2 q) → hv_R ro b2 b4 b5 b13 b14 b15 b16 → post (b15 0) (cap, pr, ro, 1, me, a1, b2, a3, b4, b5, b6, b7, b8, b9, b10, b11, b12, b13, b14, b15, b16)) : wpX_live post (cap, pr, ro, kn, me, a1, a2, a3, a4, a5, a6, a7, a8, a9, a10, a11, a12, a13, a14, a15, a16) :=
  hf_find hS.2.1 hS.2.2 H
theorem hz_48 {post : Int32 → Prop} {L kc ks : Nat} {xs : Nat → Int32} {J : Int32 → Int32 → Int32 → Int32 → Int32 → Int32 → (Nat → Int32) → (Nat → Int32) → (Nat → Int32) → (Nat → Int32) → (Nat → Int32) → (Nat → Int32) → (Nat → Int32) → (Nat → Int32) → (Nat → Int32) → (Nat → Int32) → (Nat → Int32) → (Nat → Int32) → (Nat → Int32) → (Nat → Int32) → (Nat → Int32) → (Nat → Int32) → Prop} {x2 : Int32} {cap pr ro kn me : Int32} {a1 a2 a3 a4 a5 a6 a7 a8 a9 a10 a11 a12 a13 a14 a15 a16 : Nat → Int32}
    (ec : cap = nI 8) (hH : hv_H pr ro a1 a2 a3) (hk : kn = 1) (hR : hv_R ro a2 a4 a5 a13 a14 a15 a16) (HJ : J (x2 + 3) cap pr ro kn me a1 a2 a3 a4 a5 a6 a7 a8 a9 a10 a11 a12 a13 a14 a15 a16) :
    ∀ f x, 8 - x < f → x ≤ 8 → wL_law_48 post L xs J x2 (a15 0) kc ks f (nI x) cap pr ro kn me a1 a2 a3 a4 a5 a6 a7 a8 a9 a10 a11 a12 a13 a14 a15 a16 := by
  intro f
  induction f with
  | zero => exact fun x hf => absurd hf (by omega)
  | succ f ih =>
    intro x hf hx
    refine pk_le 8 x (fun z => nm_e HJ) (fun z => hb_br1 x (fun t => ?_) (fun t => nm_r (nI_1 x) (ih (x + 1) (by omega) (by omega))) (by omega))
    exact hn_one ec hH hk hR z t (br_f (by decide) (nm_r (nI_1 x) (ih (x + 1) (by omega) (by omega))))
theorem hz_12 {L kc ks : Nat} {xs : Nat → Int32} (hL : L ≤ 260) : ∀ (f k : Nat) {cap pr ro kn me : Int32} {a1 a2 a3 a4 a5 a6 a7 a8 a9 a10 a11 a12 a13 a14 a15 a16 : Nat → Int32}, L - k < f → k ≤ 300 → hv_S cap pr ro kn a1 a2 a3 a4 a5 a13 a14 a15 a16 → wL_law_12 (fun r => r = 1) L xs kc ks f (nI k) cap pr ro kn me a1 a2 a3 a4 a5 a6 a7 a8 a9 a10 a11 a12 a13 a14 a15 a16 := by
  intro f
  induction f with
  | zero =>
    intro k cap pr ro kn me a1 a2 a3 a4 a5 a6 a7 a8 a9 a10 a11 a12 a13 a14 a15 a16 hf
    exact absurd hf (by omega)
  | succ f ih =>
    intro k cap pr ro kn me a1 a2 a3 a4 a5 a6 a7 a8 a9 a10 a11 a12 a13 a14 a15 a16 hf hk hS
    refine pk_le L (k + 2) (fun z => ?_) (fun z => ?_) rfl (nI_add k 2)
    · refine hz_live hS (fun me b2 b4 b5 b6 b7 b8 b9 b10 b11 b12 b13 b14 b15 b16 e2 hR => ?_)
      have hH := hv_Hou hS.2.1 e2
      refine hm_sweep hH (Or.inr ⟨rfl, hR⟩) (fun r s me d2 d4 d5 d6 d7 d8 d9 d10 d11 d12 d13 d14 d15 d16 c2 c3 ed hR2 hs h2 h3 => ?_)
      have hH2 := hv_Hou hH ed
      have ec := hS.1
      subst ec
      refine hz_live (hm_remS hH2 h2 h3) (fun me g2 g4 g5 g6 g7 g8 g9 g10 g11 g12 g13 g14 g15 g16 eg hR3 => ?_)
      obtain ⟨m1, _, _, _, _, hC1⟩ := hR
      obtain ⟨m2, _, _, _, _, hC2⟩ := hR2
      obtain ⟨m3, _, _, _, _, hC3⟩ := hR3
      have e0 : d15 0 = b15 0 := hv_Cuq hC1 hC2 ed
      obtain ⟨e1, e2⟩ := hv_Csw (ou' := g2) hH2 hC2 hs (fun a b ha hb => by rw [eg a ha]; exact h2.1 a b ha hb) hC3
      exact br_t e2 (br_t (e1.trans e0) rfl)
    · refine And.intro (pk_in k L (by omega)) (And.intro (pk_in (k + 1) L (by omega) (nI_1 k)) (And.intro (pk_in (k + 2) L (by omega) (nI_add k 2)) ?_))
      refine hm_turn hS (fun hS' => ?_)
      refine hz_live hS' (fun me b2 b4 b5 b6 b7 b8 b9 b10 b11 b12 b13 b14 b15 b16 e2 hR => ?_)
      have hH := hv_Hou hS'.2.1 e2
      refine Exists.intro 9 (hz_48 hS'.1 hH rfl hR ?_ 9 0 (by omega) (by omega))
      rw [show nI k + 3 = nI (k + 3) from nI_add k 3]
      exact ih (k + 3) (by omega) (by omega) ⟨hS'.1, hH, Or.inr ⟨rfl, hR⟩⟩
theorem i_vc (xs : Nat → Int32) (L : Nat) (hL : L ≤ 260) : wpL_law (fun r => r = 1) L xs := by
  refine Exists.intro 16 (Exists.intro 270 (And.intro (by decide) (And.intro (by decide) ?_)))
  refine And.intro (by decide) (And.intro (by decide) (And.intro (by decide) (And.intro (by decide) (And.intro (by decide) (And.intro (by decide) (And.intro (by decide) (And.intro (by decide) (And.intro (by decide) (And.intro (by decide) (And.intro (by decide) (And.intro (by decide) (And.intro (by decide) (And.intro (by decide) (And.intro (by decide) (And.intro (by decide) (And.intro (by decide) (And.intro (by decide) (And.intro (by decide) (And.intro (by decide) (And.intro (by decide) (And.intro (by decide) (And.intro (by decide) (And.intro (by decide) (And.intro (by decide) (And.intro (by decide) (And.intro (by decide) (And.intro (by decide) (And.intro (by decide) (And.intro (by decide) (And.intro (by decide) (And.intro (by decide) (br_t (by decide) (br_t (by decide) (Exists.intro (L + 1) (hz_12 hL (L + 1) 0 (by omega) (by omega) ⟨rfl, hv_H0, Or.inl rfl⟩)))))))))))))))))))))))))))))))))))
end
