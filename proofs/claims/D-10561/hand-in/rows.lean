section
/-! bits of ints, the masks, an enumeration of the set bits of a small number -/
theorem nj_mb : ∀ i, i < 32 → (-1 : Int32).toBitVec.getLsbD i = true := by decide +kernel
theorem nj_zb : ∀ i, i < 32 → (0 : Int32).toBitVec.getLsbD i = false := by decide +kernel
theorem nj_sub (x m : Int32) : x &&& (m ^^^ (-1)) = 0 ↔ x &&& m = x := by
  have key : ∀ i, i < 32 → ((x &&& (m ^^^ (-1))).toBitVec.getLsbD i = false ↔ (x &&& m).toBitVec.getLsbD i = x.toBitVec.getLsbD i) := by
    intro i hi
    rw [Int32.toBitVec_and, Int32.toBitVec_and, Int32.toBitVec_xor, BitVec.getLsbD_and, BitVec.getLsbD_and, BitVec.getLsbD_xor, nj_mb i hi]
    cases x.toBitVec.getLsbD i <;> cases m.toBitVec.getLsbD i <;> simp
  constructor
  · intro h
    apply Int32.toBitVec_inj.mp
    apply BitVec.eq_of_getLsbD_eq
    intro i hi
    exact (key i hi).mp (by rw [h]; exact nj_zb i hi)
  · intro h
    apply Int32.toBitVec_inj.mp
    apply BitVec.eq_of_getLsbD_eq
    intro i hi
    rw [(key i hi).mpr (by rw [h])]
    exact (nj_zb i hi).symm
theorem nj_p64 : ∀ n, n < 7 → 2 ^ n ≤ 64 := by decide
theorem nj_pow : ∀ n, n < 7 → (1 : Int32) <<< (nI n &&& 31) = nI (2 ^ n) := by decide +kernel
theorem nj_allV : ∀ n, n < 7 → ((1 : Int32) <<< (nI n &&& 31)) - 1 = nI (2 ^ n - 1) := by decide +kernel
theorem nj_low (n : Nat) (hn : n < 7) (x : Int32) : ∃ k, k < 2 ^ n ∧ x &&& (((1 : Int32) <<< (nI n &&& 31)) - 1) = nI k := by
  rw [nj_allV n hn]
  have := nj_p64 n hn
  exact pk_andE x n (pk_tn (by omega))
theorem nj_lowT : ∀ n, n < 7 → ∀ k, k < 64 → k < 2 ^ n → nI k &&& (((1 : Int32) <<< (nI n &&& 31)) - 1) = nI k := by decide +kernel
theorem nj_lowK {n k : Nat} (hn : n < 7) (hk : k < 2 ^ n) : nI k &&& (((1 : Int32) <<< (nI n &&& 31)) - 1) = nI k := nj_lowT n hn k (by have := nj_p64 n hn; omega) hk
theorem nj_bey {n : Nat} (hn : n < 7) {x : Int32} (h : x &&& ((((1 : Int32) <<< (nI n &&& 31)) - 1) ^^^ (-1)) = 0) : ∃ k, k < 2 ^ n ∧ x = nI k := by
  obtain ⟨k, hk, e⟩ := nj_low n hn x
  exact ⟨k, hk, by rw [← e]; exact ((nj_sub _ _).mp h).symm⟩
theorem nj_in {n k : Nat} (hn : n < 7) (hk : k < 2 ^ n) : nI k &&& ((((1 : Int32) <<< (nI n &&& 31)) - 1) ^^^ (-1)) = 0 := (nj_sub _ _).mpr (nj_lowK hn hk)
theorem nj_under {n i : Nat} (hn : n < 7) (hi : i < 2 ^ n) {x : Int32} (h : x &&& (nI i ^^^ (-1)) = 0) : x &&& ((((1 : Int32) <<< (nI n &&& 31)) - 1) ^^^ (-1)) = 0 := by
  apply (nj_sub _ _).mpr
  have h1 := (nj_sub _ _).mp h
  rw [← h1, Int32.and_assoc, nj_lowK hn hi]
theorem nj_bit : ∀ i, i < 64 → ∀ p, p < 6 → (((nI i >>> (nI p &&& 31)) &&& 1) = 0 ↔ i.testBit p = false) := by decide +kernel
theorem nj_b8 : ∀ p, p < 64 → (nI p).toInt8.toInt32 = nI p := by decide +kernel
theorem nj_s16 : ∀ p, p < 64 → (nI p).toInt16.toInt32 = nI p := by decide +kernel
/-- the bits below c but k -/
def nj_B (c k : Nat) : Int64 := lN ((2 ^ c - 1) ^^^ 2 ^ k)
def nj_sh (d : Nat) : Int64 := (1 : Int64) <<< ((nI d).toInt64 &&& 63)
theorem nj_Bor : ∀ c, c < 6 → ∀ k, k < c → nj_B c k ||| nj_sh c = nj_B (c + 1) k := by decide +kernel
theorem nj_Mor : ∀ x, x < 6 → lN (2 ^ x - 1) ||| nj_sh x = lN (2 ^ (x + 1) - 1) := by decide +kernel
theorem nj_Bc : ∀ c, c < 6 → lN (2 ^ c - 1) = nj_B (c + 1) c := by decide +kernel
theorem nj_Bb : ∀ c, c < 7 → ∀ k, k < c → ∀ j, j < 64 → (nj_B c k).toBitVec.getLsbD j = decide (j < c ∧ j ≠ k) := by decide +kernel
theorem nj_m1b : ∀ j, j < 64 → (-1 : Int64).toBitVec.getLsbD j = true := by decide +kernel
theorem nj_z64 : ∀ j, j < 64 → (0 : Int64).toBitVec.getLsbD j = false := by decide +kernel
theorem nj_ct : ∀ k, k < 64 → ((nI k &&& 63).toInt64.toUInt64 &&& Int64.toUInt64 63).toNat = k := by decide +kernel
theorem nj_wbit {w : Int64} {k : Nat} (hk : k < 64) (h : w.toBitVec.getLsbD k = true) : ¬ (((w.toUInt64 >>> ((nI k &&& 63).toInt64.toUInt64 &&& Int64.toUInt64 63)).toInt64) &&& 1) = 0 := by
  have e : ((w.toUInt64 >>> ((nI k &&& 63).toInt64.toUInt64 &&& Int64.toUInt64 63)).toInt64).toBitVec = w.toBitVec >>> k := by
    apply BitVec.eq_of_toNat_eq
    show (w.toUInt64 >>> ((nI k &&& 63).toInt64.toUInt64 &&& Int64.toUInt64 63)).toNat = _
    rw [UInt64.toNat_shiftRight, nj_ct k hk, Nat.mod_eq_of_lt hk, BitVec.toNat_ushiftRight]
    rfl
  intro z
  have t := congrArg (fun x : Int64 => x.toBitVec.getLsbD 0) z
  have t' : (((w.toUInt64 >>> ((nI k &&& 63).toInt64.toUInt64 &&& Int64.toUInt64 63)).toInt64) &&& 1).toBitVec.getLsbD 0 = false := t
  rw [Int64.toBitVec_and, e, BitVec.getLsbD_and, BitVec.getLsbD_ushiftRight, Nat.add_zero, h] at t'
  exact absurd t' (by decide)
/-- c places W 0, W 1, ..: the set bits of m below p, each once -/
def nj_E (m p c : Nat) (W : Nat → Nat) : Prop := c ≤ p ∧ (∀ l, l < c → W l < p ∧ m.testBit (W l) = true) ∧ (∀ q, q < p → m.testBit q = true → ∃ l, l < c ∧ W l = q) ∧ (∀ l l', l < c → l' < c → W l = W l' → l = l')
def nj_ext (W : Nat → Nat) (c p : Nat) : Nat → Nat := fun l => if l = c then p else W l
theorem nj_ext_s (W : Nat → Nat) (c p : Nat) : nj_ext W c p c = p := if_pos rfl
theorem nj_ext_n {W : Nat → Nat} {c p l : Nat} (h : l ≠ c) : nj_ext W c p l = W l := if_neg h
theorem nj_E0 (m : Nat) (W : Nat → Nat) : nj_E m 0 0 W := ⟨Nat.le_refl 0, fun l h => absurd h (by omega), fun q h => absurd h (by omega), fun l l' h => absurd h (by omega)⟩
theorem nj_Ef {m p c : Nat} {W : Nat → Nat} (h : nj_E m p c W) (t : m.testBit p = false) : nj_E m (p + 1) c W := by
  obtain ⟨h1, h2, h3, h4⟩ := h
  refine ⟨by omega, fun l hl => ⟨by have := (h2 l hl).1; omega, (h2 l hl).2⟩, fun q hq hb => ?_, h4⟩
  by_cases e : q = p
  · rw [e, t] at hb
    exact absurd hb (by decide)
  · exact h3 q (by omega) hb
theorem nj_Et {m p c : Nat} {W : Nat → Nat} (h : nj_E m p c W) (t : ¬ m.testBit p = false) : nj_E m (p + 1) (c + 1) (nj_ext W c p) := by
  obtain ⟨h1, h2, h3, h4⟩ := h
  have t' : m.testBit p = true := by
    cases hb : m.testBit p
    · exact absurd hb t
    · rfl
  refine ⟨by omega, fun l hl => ?_, fun q hq hb => ?_, fun l l' hl hl' e => ?_⟩
  · by_cases e : l = c
    · rw [e, nj_ext_s]
      exact ⟨by omega, t'⟩
    · rw [nj_ext_n e]
      have := h2 l (by omega)
      exact ⟨by omega, this.2⟩
  · by_cases e : q = p
    · exact ⟨c, by omega, by rw [nj_ext_s, e]⟩
    · obtain ⟨l, hl, hw⟩ := h3 q (by omega) hb
      exact ⟨l, by omega, by rw [nj_ext_n (by omega), hw]⟩
  · by_cases z : l = c
    · by_cases z' : l' = c
      · omega
      · rw [z, nj_ext_s, nj_ext_n z'] at e
        have := (h2 l' (by omega)).1
        omega
    · by_cases z' : l' = c
      · rw [z', nj_ext_s, nj_ext_n z] at e
        have := (h2 l (by omega)).1
        omega
      · rw [nj_ext_n z, nj_ext_n z'] at e
        exact h4 l l' (by omega) (by omega) e
theorem nj_hi {m n q : Nat} (hm : m < 2 ^ n) (hq : n ≤ q) : m.testBit q = false :=
  Nat.testBit_lt_two_pow (Nat.lt_of_lt_of_le hm (Nat.pow_le_pow_right (by decide) hq))
theorem nj_Epos {m n c : Nat} {W : Nat → Nat} (h : nj_E m n c W) (hm : m < 2 ^ n) (h0 : m ≠ 0) : 0 < c := by
  rcases Nat.eq_zero_or_pos c with z | z
  · exfalso
    apply h0
    apply Nat.eq_of_testBit_eq
    intro q
    rw [Nat.zero_testBit]
    rcases Nat.lt_or_ge q n with g | g
    · cases hb : m.testBit q
      · rfl
      · obtain ⟨l, hl, _⟩ := h.2.2.1 q g hb
        omega
    · exact nj_hi hm g
  · exact z
theorem nj_Eeq {i m n c d : Nat} {P W : Nat → Nat} (hi : i < 2 ^ n) (hm : m < 2 ^ n) (hE : nj_E i n c P) (hF : nj_E m n d W) (h1 : ∀ l, l < d → ∃ k, k < c ∧ P k = W l) (h2 : ∀ k, k < c → ∃ l, l < d ∧ P k = W l) : m = i := by
  apply Nat.eq_of_testBit_eq
  intro q
  rcases Nat.lt_or_ge q n with g | g
  · cases ha : m.testBit q <;> cases hb : i.testBit q
    · rfl
    · obtain ⟨k, hk, e⟩ := hE.2.2.1 q g hb
      obtain ⟨l, hl, e2⟩ := h2 k hk
      have := (hF.2.1 l hl).2
      rw [← e2, e, ha] at this
      exact this
    · obtain ⟨l, hl, e⟩ := hF.2.2.1 q g ha
      obtain ⟨k, hk, e2⟩ := h1 l hl
      have := (hE.2.1 k hk).2
      rw [e2, e, hb] at this
      exact this.symm
    · rfl
  · rw [nj_hi hm g, nj_hi hi g]
theorem nj_Ene {i m n c d : Nat} {P W : Nat → Nat} (hE : nj_E i n c P) (hF : nj_E m n d W) (h : (∃ l, l < d ∧ ∀ k, k < c → P k ≠ W l) ∨ (∃ k, k < c ∧ ∀ l, l < d → P k ≠ W l)) : m ≠ i := by
  intro e
  subst e
  rcases h with ⟨l, hl, g⟩ | ⟨k, hk, g⟩
  · obtain ⟨k, hk, z⟩ := hE.2.2.1 (W l) (hF.2.1 l hl).1 (hF.2.1 l hl).2
    exact g k hk z
  · obtain ⟨l, hl, z⟩ := hF.2.2.1 (P k) (hE.2.1 k hk).1 (hE.2.1 k hk).2
    exact g l hl z.symm
/-- the word of the conditions that may still be picked at level L -/
def nj_O (c : Nat) (P W : Nat → Nat) (L : Nat) (o : Int64) : Prop := ∀ k, k < 64 → (o.toBitVec.getLsbD k = true ↔ ((0 < L → k < c) ∧ ∀ l, l < L → P k ≠ W l))
theorem nj_O0 (c : Nat) (P W : Nat → Nat) : nj_O c P W 0 (-1) := fun k hk => ⟨fun _ => ⟨fun z => absurd z (by omega), fun l hl => absurd hl (by omega)⟩, fun _ => nj_m1b k hk⟩
theorem nj_Os {c : Nat} {P W : Nat → Nat} {L J : Nat} {o : Int64} (hc : c < 7) (hP : ∀ l l', l < c → l' < c → P l = P l' → l = l') (h : nj_O c P W L o) (hJ : J < c) (e : P J = W L) : nj_O c P W (L + 1) (o &&& nj_B c J) := by
  intro k hk
  rw [Int64.toBitVec_and, BitVec.getLsbD_and, nj_Bb c hc J hJ k hk, Bool.and_eq_true, decide_eq_true_eq, h k hk]
  constructor
  · intro ⟨⟨g1, g2⟩, g3, g4⟩
    refine ⟨fun _ => g3, fun l hl => ?_⟩
    by_cases z : l = L
    · rw [z, ← e]
      exact fun y => g4 (hP k J g3 hJ y)
    · exact g2 l (by omega)
  · intro ⟨g1, g2⟩
    refine ⟨⟨fun _ => g1 (by omega), fun l hl => g2 l (by omega)⟩, g1 (by omega), fun z => ?_⟩
    exact g2 L (by omega) (by rw [z, e])
theorem nj_Oz {c : Nat} {P W : Nat → Nat} {L : Nat} {o : Int64} (hc : c < 7) (h : nj_O c P W L o) (z : o = 0) : ∀ k, k < c → ∃ l, l < L ∧ P k = W l := by
  intro k hk
  apply Classical.byContradiction
  intro g
  have t := (h k (by omega)).mpr ⟨fun _ => hk, fun l hl y => g ⟨l, hl, y⟩⟩
  rw [z, nj_z64 k (by omega)] at t
  exact absurd t (by decide)
theorem nj_On {c : Nat} {P W : Nat → Nat} {L : Nat} {o : Int64} (hL : 0 < L) (h : nj_O c P W L o) (z : ¬ o = 0) : ∃ k, k < c ∧ ∀ l, l < L → P k ≠ W l := by
  apply Classical.byContradiction
  intro g
  apply z
  apply Int64.toBitVec_inj.mp
  apply BitVec.eq_of_getLsbD_eq
  intro k hk
  rw [nj_z64 k hk]
  cases hb : o.toBitVec.getLsbD k
  · rfl
  · have t := (h k hk).mp hb
    exact absurd ⟨k, t.1 hL, t.2⟩ g
/-- what is known of the conditions -/
def nj_C (c : Nat) (P : Nat → Nat) (a4 : Nat → Int32) (a5 a6 a7 a8 : Nat → Int64) : Prop := ∀ k, k < c → a4 k = nI (P k) ∧ a5 k = 0 ∧ a6 k = nj_B c k ∧ a7 k = 0 ∧ a8 k = 0
theorem nj_C0 (P : Nat → Nat) (a4 : Nat → Int32) (a5 a6 a7 a8 : Nat → Int64) : nj_C 0 P a4 a5 a6 a7 a8 := fun k h => absurd h (by omega)
theorem nj_Cs {c p : Nat} {P : Nat → Nat} {a4 : Nat → Int32} {a5 a6 a7 a8 b : Nat → Int64} (h : nj_C c P a4 a5 a6 a7 a8) (hb : ∀ k, k < c + 1 → b k = nj_B (c + 1) k) : nj_C (c + 1) (nj_ext P c p) (upd a4 c (nI p)) (vp_updL a5 c 0) b (vp_updL a7 c 0) (vp_updL a8 c 0) := by
  intro k hk
  by_cases e : k = c
  · subst e
    exact ⟨by rw [pk_us, nj_ext_s], pk_uLs, hb k hk, pk_uLs, pk_uLs⟩
  · obtain ⟨h1, h2, _, h4, h5⟩ := h k (by omega)
    exact ⟨by rw [pk_un e, nj_ext_n e, h1], by rw [pk_uLn e, h2], hb k hk, by rw [pk_uLn e, h4], by rw [pk_uLn e, h5]⟩
/-- the distance of the marking j when only i is reached -/
def nj_far (i j : Nat) : Int32 := if j = i then 0 else -1
theorem nj_far_s (i : Nat) : nj_far i i = 0 := if_pos rfl
theorem nj_far_n {i j : Nat} (h : j ≠ i) : nj_far i j = -1 := if_neg h
theorem nj_far8 (i j : Nat) : (nj_far i j).toInt8.toInt32 = nj_far i j := by
  unfold nj_far
  split <;> decide
end
section
/-! the methods up to the unfolding, in a net without transitions -/
section
variable {f1 f2 f3 f4 f5 f6 f7 f8 : Int32} {a1 a2 a3 a4 a11 a12 a13 a14 a16 a17 : Nat → Int32} {a5 a6 a7 a8 a9 a10 a15 a18 a19 a20 a21 : Nat → Int64}
theorem nj_has {post : Int32 → Prop} (t : Int32) (h : post 0) : wpX_has post (f1, f2, 0, f4, f5, f6, f7, f8, a1, a2, a3, a4, a5, a6, a7, a8, a9, a10, a11, a12, a13, a14, a15, a16, a17, a18, a19, a20, a21) t :=
  br_c (fun _ => h) (fun _ => br_c (fun _ => h) (fun _ => br_t (by rw [Int32.zero_shiftRight, Int32.zero_and]) h))
theorem nj_extend {post : St2 → Prop} (k : Nat) (hk : k < 136) (h : post (f1, f2, 0, f4, f5, f6, f7, f8, a1, a2, a3, a4, a5, a6, a7, a8, a9, a10, a11, a12, a13, a14, a15, a16, a17, a18, a19, a20, a21)) : wpX_extend post (f1, f2, 0, f4, f5, f6, f7, f8, a1, a2, a3, a4, a5, a6, a7, a8, a9, a10, a11, a12, a13, a14, a15, a16, a17, a18, a19, a20, a21) (nI k) :=
  ⟨pk_in k 136 hk, nm_e (pk_loop (σ := Unit) (fun n i _ => wX_extend_9 post (nI k) (a4 (nI k).toNatClampNeg) n (nI i) f1 f2 0 f4 f5 f6 f7 f8 a1 a2 a3 a4 a5 a6 a7 a8 a9 a10 a11 a12 a13 a14 a15 a16 a17 a18 a19 a20 a21) (fun _ _ => True) 8 0 () (by omega) trivial
    (fun n _ _ => pk_le 8 8 (fun _ => h) (fun z => absurd z (by omega)))
    (fun n i _ hi _ hw => pk_le 8 i (fun z => absurd z (by omega)) (fun _ => nj_has _ (br_t rfl (nm_r (nI_1 i) (hw () trivial))))))⟩
theorem nj_plant60 {post : St2 → Prop} (c : Nat) (hc : c ≤ 6) (h : post (f1, f2, 0, f4, f5, f6, f7, f8, a1, a2, a3, a4, a5, a6, a7, a8, a9, a10, a11, a12, a13, a14, a15, a16, a17, a18, a19, a20, a21)) : ∃ n, wX_plant_60 post (nI c) n 0 f1 f2 0 f4 f5 f6 f7 f8 a1 a2 a3 a4 a5 a6 a7 a8 a9 a10 a11 a12 a13 a14 a15 a16 a17 a18 a19 a20 a21 :=
  pk_loop (σ := Unit) (fun n i _ => wX_plant_60 post (nI c) n (nI i) f1 f2 0 f4 f5 f6 f7 f8 a1 a2 a3 a4 a5 a6 a7 a8 a9 a10 a11 a12 a13 a14 a15 a16 a17 a18 a19 a20 a21) (fun _ _ => True) c 0 () (by omega) trivial
    (fun n _ _ => pk_le c c (fun _ => h) (fun z => absurd z (by omega)))
    (fun n i _ hi _ hw => pk_le c i (fun z => absurd z (by omega)) (fun _ => nj_extend i (by omega) (nm_r (nI_1 i) (hw () trivial))))
theorem nj_newC {post : Int32 → St2 → Prop} (c p : Nat) (hc : c < 6) (hp : p < 6) (h : post (nI c) (f1, f2, f3, f4, f5, f6, nI (c + 1), f8, a1, a2, a3, upd a4 c (nI p), vp_updL a5 c 0, vp_updL a6 c 0, vp_updL a7 c 0, vp_updL a8 c 0, a9, a10, a11, a12, a13, a14, a15, a16, a17, a18, a19, a20, a21)) : wpX_newCondition post (f1, f2, f3, f4, f5, f6, nI c, f8, a1, a2, a3, a4, a5, a6, a7, a8, a9, a10, a11, a12, a13, a14, a15, a16, a17, a18, a19, a20, a21) (nI p) 0 := by
  have e : (nI c).toNatClampNeg = c := nI_clamp (by omega)
  have e2 := nj_b8 p (by omega)
  have i1 : vp_in (nI c) 136 := pk_in c 136 (by omega)
  refine pk_le 136 c (fun z => absurd z (by omega)) (fun _ => ?_)
  exact ⟨i1, nm_r (by rw [e, e2]) ⟨i1, nm_r (by rw [e]) ⟨i1, nm_r (by rw [e]) ⟨i1, nm_r (by rw [e]) ⟨i1, nm_r (by rw [e]) (nm_r (nI_1 c) h)⟩⟩⟩⟩⟩
theorem nj_mark {post : St2 → Prop} (k d : Nat) (hk : k < 64) (hd : d < 64) (h : post (f1, f2, f3, f4, f5, f6, f7, f8, a1, a2, a3, a4, a5, vp_updL a6 k (a6 k ||| nj_sh d), a7, a8, a9, a10, a11, a12, a13, a14, a15, a16, a17, a18, a19, a20, a21)) : wpX_mark post (f1, f2, f3, f4, f5, f6, f7, f8, a1, a2, a3, a4, a5, a6, a7, a8, a9, a10, a11, a12, a13, a14, a15, a16, a17, a18, a19, a20, a21) (nI k) (nI d) :=
  pk_le 64 d (fun z => absurd z (by omega)) (fun _ => ⟨pk_in k 136 (by omega), pk_in k 136 (by omega), nm_r (by rw [nI_clamp (by omega)]; rfl) h⟩)
theorem nj_put {post : St2 → Prop} (k d : Nat) (hk : k < 64) (hd : d < 64) (h : post (f1, f2, f3, f4, f5, f6, f7, f8, a1, a2, a3, a4, a5, vp_updL (vp_updL a6 k (a6 k ||| nj_sh d)) d (vp_updL a6 k (a6 k ||| nj_sh d) d ||| nj_sh k), a7, a8, a9, a10, a11, a12, a13, a14, a15, a16, a17, a18, a19, a20, a21)) : wpX_putBeside post (f1, f2, f3, f4, f5, f6, f7, f8, a1, a2, a3, a4, a5, a6, a7, a8, a9, a10, a11, a12, a13, a14, a15, a16, a17, a18, a19, a20, a21) (nI k) (nI d) := by
  unfold wpX_putBeside
  exact nj_mark k d hk hd (nj_mark d k hd hk h)
theorem nj_plant30 {post : St2 → Prop} {J2} (x1 : Int32) (c : Nat) (hc : c < 6) (h0 : ∀ k, k < c → a6 k = nj_B c k) (h1 : a6 c = 0) (H : ∀ b : Nat → Int64, (∀ k, k < c + 1 → b k = nj_B (c + 1) k) → J2 (x1 + 1) f1 f2 f3 f4 f5 f6 f7 f8 a1 a2 a3 a4 a5 b a7 a8 a9 a10 a11 a12 a13 a14 a15 a16 a17 a18 a19 a20 a21) : ∃ n, wX_plant_30 post J2 x1 (nI c) n 0 f1 f2 f3 f4 f5 f6 f7 f8 a1 a2 a3 a4 a5 a6 a7 a8 a9 a10 a11 a12 a13 a14 a15 a16 a17 a18 a19 a20 a21 := by
  refine pk_loop (fun n i s => wX_plant_30 post J2 x1 (nI c) n (nI i) f1 f2 f3 f4 f5 f6 f7 f8 a1 a2 a3 a4 a5 s a7 a8 a9 a10 a11 a12 a13 a14 a15 a16 a17 a18 a19 a20 a21) (fun x s => (∀ k, k < x → s k = nj_B (c + 1) k) ∧ (∀ k, x ≤ k → k < c → s k = nj_B c k) ∧ s c = lN (2 ^ x - 1)) c 0 a6 (by omega) ⟨fun k hk => absurd hk (by omega), fun k _ hk => h0 k hk, h1⟩ ?_ ?_
  · intro n s ⟨g1, _, g3⟩
    refine pk_le c c (fun _ => nm_e (H s (fun k hk => ?_))) (fun z => absurd z (by omega))
    by_cases e : k = c
    · rw [e, g3, nj_Bc c hc]
    · exact g1 k (by omega)
  · intro n x s hx ⟨g1, g2, g3⟩ hw
    refine pk_le c x (fun z => absurd z (by omega)) (fun _ => nj_put x c (by omega) (by omega) (nm_r (nI_1 x) (hw _ ⟨fun k hk => ?_, fun k hk hk2 => ?_, ?_⟩)))
    · rw [pk_uLn (by omega)]
      by_cases e : k = x
      · rw [e, pk_uLs, g2 x (by omega) hx, nj_Bor c hc x hx]
      · rw [pk_uLn e]
        exact g1 k (by omega)
    · rw [pk_uLn (by omega), pk_uLn (by omega)]
      exact g2 k (by omega) hk2
    · rw [pk_uLs, pk_uLn (by omega), g3, nj_Mor x (by omega)]
theorem nj_plant2 {post : St2 → Prop} (n i : Nat) (hn : n ≤ 6) (hi : i < 64) (H : ∀ (c : Nat) (P : Nat → Nat) (a4 : Nat → Int32) (a5 a6 a7 a8 : Nat → Int64), nj_E i n c P → nj_C c P a4 a5 a6 a7 a8 → post (nI n, nI i, 0, f4, f5, f6, nI c, f8, a1, a2, a3, a4, a5, a6, a7, a8, a9, a10, a11, a12, a13, a14, a15, a16, a17, a18, a19, a20, a21)) :
    ∀ (f p : Nat), p ≤ n → n - p < f → ∀ (c : Nat) (P : Nat → Nat) (a4 : Nat → Int32) (a5 a6 a7 a8 : Nat → Int64), nj_E i p c P → nj_C c P a4 a5 a6 a7 a8 → wX_plant_2 post f (nI p) (nI n) (nI i) 0 f4 f5 f6 (nI c) f8 a1 a2 a3 a4 a5 a6 a7 a8 a9 a10 a11 a12 a13 a14 a15 a16 a17 a18 a19 a20 a21 := by
  intro f
  induction f with
  | zero => intro p _ h; omega
  | succ f ih =>
    intro p hp hf c P a4 a5 a6 a7 a8 hE hC
    have hcp : c ≤ p := hE.1
    refine pk_le n p (fun z => ?_) (fun z => ?_)
    · have e : p = n := by omega
      rw [e] at hE
      exact nj_plant60 c (by omega) (H c P a4 a5 a6 a7 a8 hE hC)
    · refine ek_if (nj_bit i hi p (by omega)) (fun t => nm_r (nI_1 p) (ih (p + 1) (by omega) (by omega) c P a4 a5 a6 a7 a8 (nj_Ef hE t) hC)) (fun t => ?_)
      refine nj_newC c p (by omega) (by omega) ?_
      refine nj_plant30 (nI p) c (by omega) (fun k hk => ?_) pk_uLs (fun b hb => ?_)
      · rw [pk_uLn (by omega)]
        exact (hC k hk).2.2.1
      · rw [nI_1]
        exact ih (p + 1) (by omega) (by omega) (c + 1) (nj_ext P c p) _ _ _ _ _ (nj_Et hE t) (nj_Cs hC hb)
theorem nj_leastC {post : Int32 → Prop} (h12 : ∀ j, j < 64 → a12 j = -1) (h : post (-1)) : wpX_leastCandidate post (f1, f2, f3, f4, f5, f6, f7, f8, a1, a2, a3, a4, a5, a6, a7, a8, a9, a10, a11, a12, a13, a14, a15, a16, a17, a18, a19, a20, a21) :=
  pk_loop (σ := Unit) (fun n i _ => wX_leastCandidate_4 post f1 f2 f3 f4 f5 f6 f7 f8 a1 a2 a3 a4 a5 a6 a7 a8 a9 a10 a11 a12 a13 a14 a15 a16 a17 a18 a19 a20 a21 n (-1) (nI i)) (fun _ _ => True) 64 0 () (by omega) trivial
    (fun n _ _ => pk_le 64 64 (fun _ => h) (fun z => absurd z (by omega)))
    (fun n i _ hi _ hw => pk_le 64 i (fun z => absurd z (by omega)) (fun _ => ⟨pk_in i 64 hi, br_t (by rw [nI_clamp (by omega), h12 i hi]; decide) (nm_r (nI_1 i) (hw () trivial))⟩))
theorem nj_unf96 {post : St2 → Prop} (h12 : ∀ j, j < 64 → a12 j = -1) (h : post (f1, f2, f3, f4, f5, 0, f7, f8, a1, a2, a3, a4, a5, a6, a7, a8, a9, a10, a11, a12, a13, a14, a15, a16, a17, a18, a19, a20, a21)) : ∃ n, wX_unfold_96 post n 0 f1 f2 f3 f4 f5 0 f7 f8 a1 a2 a3 a4 a5 a6 a7 a8 a9 a10 a11 a12 a13 a14 a15 a16 a17 a18 a19 a20 a21 :=
  ⟨1, pk_le 64 0 (fun z => absurd z (by omega)) (fun _ => br_t rfl (nj_leastC h12 (br_f (by decide) h)))⟩
theorem nj_unf54 {post : St2 → Prop} (n i : Nat) (hn : n ≤ 6) (hi : i < 64) (H : ∀ (c : Nat) (P : Nat → Nat) (a4 : Nat → Int32) (a5 a6 a7 a8 : Nat → Int64) (a11 a12 : Nat → Int32), nj_E i n c P → nj_C c P a4 a5 a6 a7 a8 → post (nI n, nI i, 0, f4, f5, 0, nI c, f8, a1, a2, a3, a4, a5, a6, a7, a8, a9, a10, a11, a12, a13, a14, a15, a16, a17, a18, a19, a20, a21)) : ∃ m, wX_unfold_54 post (nI n) (nI i) 0 f4 f5 0 0 f8 m 0 a1 a2 a3 a4 a5 a6 a7 a8 a9 a10 a11 a12 a13 a14 a15 a16 a17 a18 a19 a20 a21 := by
  refine pk_loop (σ := (Nat → Int32) × (Nat → Int32)) (fun m k s => wX_unfold_54 post (nI n) (nI i) 0 f4 f5 0 0 f8 m (nI k) a1 a2 a3 a4 a5 a6 a7 a8 a9 a10 s.1 s.2 a13 a14 a15 a16 a17 a18 a19 a20 a21) (fun k s => ∀ j, j < k → s.2 j = -1) 64 0 (a11, a12) (by omega) (fun j hj => absurd hj (by omega)) ?_ ?_
  · intro m s h
    refine pk_le 64 64 (fun _ => ⟨pk_in i 64 hi, nm_e ⟨n + 1, ?_⟩⟩) (fun z => absurd z (by omega))
    exact nj_plant2 n i hn hi (fun c P a4 a5 a6 a7 a8 hE hC => nj_unf96 h (H c P a4 a5 a6 a7 a8 _ _ hE hC)) (n + 1) 0 (by omega) (by omega) 0 (fun _ => 0) a4 a5 a6 a7 a8 (nj_E0 i _) (nj_C0 _ _ _ _ _ _)
  · intro m k s hk h hw
    refine pk_le 64 k (fun z => absurd z (by omega)) (fun _ => ⟨pk_in k 64 hk, nm_e ⟨pk_in k 64 hk, nm_e (nm_r (nI_1 k) (hw (upd s.1 (nI k).toNatClampNeg 0, upd s.2 (nI k).toNatClampNeg (-1)) (fun j hj => ?_)))⟩⟩)
    show upd s.2 (nI k).toNatClampNeg (-1) j = -1
    rw [nI_clamp (by omega)]
    by_cases e : j = k
    · rw [e, pk_us]
    · rw [pk_un e]
      exact h j (by omega)
theorem nj_unf33 {post : St2 → Prop} (n i : Nat) (hn : n ≤ 6) (hi : i < 64) (H : ∀ (c : Nat) (P : Nat → Nat) (a4 : Nat → Int32) (a5 a6 a7 a8 a10 : Nat → Int64) (a11 a12 : Nat → Int32), nj_E i n c P → nj_C c P a4 a5 a6 a7 a8 → post (nI n, nI i, 0, f4, f5, 0, nI c, f8, a1, a2, a3, a4, a5, a6, a7, a8, a9, a10, a11, a12, a13, a14, a15, a16, a17, a18, a19, a20, a21)) : ∃ m, wX_unfold_33 post (nI n) (nI i) 0 f4 f5 0 0 f8 m 0 a1 a2 a3 a4 a5 a6 a7 a8 a9 a10 a11 a12 a13 a14 a15 a16 a17 a18 a19 a20 a21 :=
  pk_loop (fun m k s => wX_unfold_33 post (nI n) (nI i) 0 f4 f5 0 0 f8 m (nI k) a1 a2 a3 a4 a5 a6 a7 a8 a9 s a11 a12 a13 a14 a15 a16 a17 a18 a19 a20 a21) (fun _ _ => True) 66 0 a10 (by omega) trivial
    (fun m s _ => pk_le 66 66 (fun _ => nj_unf54 n i hn hi (fun c P a4 a5 a6 a7 a8 => H c P a4 a5 a6 a7 a8 s)) (fun z => absurd z (by omega)))
    (fun m k s hk _ hw => pk_le 66 k (fun z => absurd z (by omega)) (fun _ => ⟨pk_in k 66 hk, nm_e (nm_r (nI_1 k) (hw _ trivial))⟩))
theorem nj_unfold {post : St2 → Prop} (n i : Nat) (hn : n ≤ 6) (hi : i < 64) (H : ∀ (c : Nat) (P : Nat → Nat) (a4 : Nat → Int32) (a5 a6 a7 a8 a9 a10 : Nat → Int64) (a11 a12 : Nat → Int32), nj_E i n c P → nj_C c P a4 a5 a6 a7 a8 → post (nI n, nI i, 0, f4, f5, 0, nI c, 0, a1, a2, a3, a4, a5, a6, a7, a8, a9, a10, a11, a12, a13, a14, a15, a16, a17, a18, a19, a20, a21)) : wpX_unfold post (nI n, nI i, 0, f4, f5, 0, f7, f8, a1, a2, a3, a4, a5, a6, a7, a8, a9, a10, a11, a12, a13, a14, a15, a16, a17, a18, a19, a20, a21) :=
  pk_loop (fun m k s => wX_unfold_12 post (nI n) (nI i) 0 f4 f5 0 0 0 m (nI k) a1 a2 a3 a4 a5 a6 a7 a8 s a10 a11 a12 a13 a14 a15 a16 a17 a18 a19 a20 a21) (fun _ _ => True) 8 0 a9 (by omega) trivial
    (fun m s _ => pk_le 8 8 (fun _ => nj_unf33 n i hn hi (fun c P a4 a5 a6 a7 a8 => H c P a4 a5 a6 a7 a8 s)) (fun z => absurd z (by omega)))
    (fun m k s hk _ hw => pk_le 8 k (fun z => absurd z (by omega)) (fun _ => ⟨pk_in k 8 hk, nm_e (nm_r (nI_1 k) (hw _ trivial))⟩))
end
end
section
/-! the search for a cut -/
section
variable {f1 f2 f3 f4 f5 f6 f7 f8 : Int32} {a1 a2 a3 a4 a11 a12 a13 a14 a16 a17 : Nat → Int32} {a5 a6 a7 a8 a9 a10 a15 a18 a19 a20 a21 : Nat → Int64}
theorem nj_ones0 {post : Int32 → Prop} (h : post 0) : wpX_ones post () 0 :=
  nm_r (e' := 0) (by decide) (nm_r (e' := 0) (by decide) (nm_r (e' := 0) (by decide) (ek_v (b := (0 : Int32)) (P := post) (by decide) h)))
theorem nj_enter {post : St2 → Prop} (l : Nat) (hl : l < 6) (p1 p2 p3 p4 : Int64) (h : post (f1, f2, f3, f4, f5, f6, f7, f8, a1, a2, a3, a4, a5, a6, a7, a8, a9, a10, a11, a12, a13, a14, a15, a16, upd a17 l (-1), vp_updL a18 l p1, vp_updL a19 l p2, vp_updL a20 l p3, vp_updL a21 l p4)) : wpX_enter post (f1, f2, f3, f4, f5, f6, f7, f8, a1, a2, a3, a4, a5, a6, a7, a8, a9, a10, a11, a12, a13, a14, a15, a16, a17, a18, a19, a20, a21) (nI l) p1 p2 p3 p4 := by
  have e : (nI l).toNatClampNeg = l := nI_clamp (by omega)
  have i1 : vp_in (nI l) 6 := pk_in l 6 hl
  exact ⟨i1, nm_r (by rw [e]) ⟨i1, nm_r (by rw [e]) ⟨i1, nm_r (by rw [e]) ⟨i1, nm_r (by rw [e]) ⟨i1, nm_r (by rw [e]) h⟩⟩⟩⟩⟩
theorem nj_inW {post : Int32 → Prop} (k : Nat) (hk : k < 64) {p1 p2 p3 : Int64} (hb : p1.toBitVec.getLsbD k = true) (h : post 1) : wpX_inWords post () (nI k) p1 p2 p3 :=
  pk_le 64 k (fun z => absurd z (by omega)) (fun _ => br_f (nj_wbit hk hb) h)
theorem nj_none {post : Int32 → Prop} (L c s : Nat) (w : Int32) (hL : L < 6) (hc : c ≤ 6) (hw : a16 L = w) (hs : a17 L + 1 = nI s) (hsc : s ≤ c) (hno : ∀ k, s ≤ k → k < c → ¬ a4 k = w) (h : post (-1)) : wpX_nextOpen post (f1, f2, f3, f4, f5, f6, nI c, f8, a1, a2, a3, a4, a5, a6, a7, a8, a9, a10, a11, a12, a13, a14, a15, a16, a17, a18, a19, a20, a21) (nI L) := by
  have e : (nI L).toNatClampNeg = L := nI_clamp (by omega)
  refine ⟨pk_in L 6 hL, nm_r (e' := w) (by rw [e, hw]) ⟨pk_in L 6 hL, nm_r (e' := nI s) (by rw [e, hs]) ?_⟩⟩
  exact pk_loop (σ := Unit) (fun n i _ => wX_nextOpen_16 post (nI L) w f1 f2 f3 f4 f5 f6 (nI c) f8 a1 a2 a3 a4 a5 a6 a7 a8 a9 a10 a11 a12 a13 a14 a15 a16 a17 a18 a19 a20 a21 n (nI i)) (fun i _ => s ≤ i) c s () hsc (Nat.le_refl s)
    (fun n _ _ => pk_le c c (fun _ => h) (fun z => absurd z (by omega)))
    (fun n i _ hi hI hw => pk_le c i (fun z => absurd z (by omega)) (fun _ => ⟨pk_in i 136 (by omega), br_f (by rw [nI_clamp (by omega)]; exact hno i hI hi) (nm_r (nI_1 i) (hw () (by omega)))⟩))
theorem nj_some {post : Int32 → Prop} (L c t : Nat) (w : Int32) (hL : L < 6) (hc : c ≤ 6) (hw : a16 L = w) (hs : a17 L = -1) (htc : t < c) (hno : ∀ k, k < t → ¬ a4 k = w) (ht : a4 t = w) (hb : (a19 L).toBitVec.getLsbD t = true) (h : post (nI t)) : wpX_nextOpen post (f1, f2, f3, f4, f5, f6, nI c, f8, a1, a2, a3, a4, a5, a6, a7, a8, a9, a10, a11, a12, a13, a14, a15, a16, a17, a18, a19, a20, a21) (nI L) := by
  have e : (nI L).toNatClampNeg = L := nI_clamp (by omega)
  have i1 : vp_in (nI L) 6 := pk_in L 6 hL
  refine ⟨i1, nm_r (e' := w) (by rw [e, hw]) ⟨i1, nm_r (e' := nI 0) (by rw [e, hs]; decide) ?_⟩⟩
  exact pk_loop (σ := Unit) (fun n i _ => wX_nextOpen_16 post (nI L) w f1 f2 f3 f4 f5 f6 (nI c) f8 a1 a2 a3 a4 a5 a6 a7 a8 a9 a10 a11 a12 a13 a14 a15 a16 a17 a18 a19 a20 a21 n (nI i)) (fun _ _ => True) t 0 () (by omega) trivial
    (fun n _ _ => pk_le c t (fun z => absurd z (by omega)) (fun _ => ⟨pk_in t 136 (by omega), br_t (by rw [nI_clamp (by omega)]; exact ht) ⟨i1, i1, i1, nj_inW t (by omega) (by rw [e]; exact hb) (br_f (by decide) h)⟩⟩))
    (fun n i _ hi _ hw => pk_le c i (fun z => absurd z (by omega)) (fun _ => ⟨pk_in i 136 (by omega), br_f (by rw [nI_clamp (by omega)]; exact hno i hi) (nm_r (nI_1 i) (hw () trivial))⟩))
theorem nj_up {post : Int32 → St2 → Prop} (x2 x4 : Int32) (c : Nat) (hc : c ≤ 6) (W : Nat → Nat) (H : post x4 (f1, f2, f3, f4, f5, f6, nI c, f8, a1, a2, a3, a4, a5, a6, a7, a8, a9, a10, a11, a12, a13, a14, a15, a16, a17, a18, a19, a20, a21)) : ∀ (L f st : Nat), L ≤ 6 → L < f → st + L < 1000 → (∀ l, l < L → a16 l = nI (W l) ∧ ∃ J, J < c ∧ a17 l = nI J ∧ ∀ k, J < k → k < c → ¬ a4 k = nI (W l)) → wX_leastCut_77 post x2 f (nI L + (-1)) x4 (nI st) f1 f2 f3 f4 f5 f6 (nI c) f8 a1 a2 a3 a4 a5 a6 a7 a8 a9 a10 a11 a12 a13 a14 a15 a16 a17 a18 a19 a20 a21 := by
  intro L
  induction L with
  | zero =>
    intro f st _ hf hst _
    obtain ⟨f, rfl⟩ : ∃ g, f = g + 1 := ⟨f - 1, by omega⟩
    exact pk_le 1073741824 st (fun z => absurd z (by omega)) (fun _ => br_t (by decide) H)
  | succ L ih =>
    intro f st hL hf hst h
    obtain ⟨f, rfl⟩ : ∃ g, f = g + 1 := ⟨f - 1, by omega⟩
    rw [pk_m1]
    obtain ⟨h1, J, hJ, h2, h3⟩ := h L (by omega)
    refine pk_le 1073741824 st (fun z => absurd z (by omega)) (fun _ => br_f (nI_pos (by omega)) ?_)
    refine nj_none L c (J + 1) (nI (W L)) (by omega) hc h1 (by rw [h2, nI_1]) (by omega) (fun k hk hk2 => h3 k (by omega) hk2) ?_
    exact br_f (by decide) (nm_e (nm_r (nI_1 st) (ih f (st + 1) (by omega) (by omega) (by omega) (fun l hl => h l (by omega)))))
theorem nj_down {post : Int32 → St2 → Prop} (c q : Nat) (P W : Nat → Nat) (hc : c ≤ 6) (hq : q ≤ 6) (hP : ∀ l l', l < c → l' < c → P l = P l' → l = l') (hW : ∀ l l', l < q → l' < q → W l = W l' → l = l') (hPs : ∀ k, k < c → P k < 6) (hWs : ∀ l, l < q → W l < 6) (hC : nj_C c P a4 a5 a6 a7 a8) (h16 : ∀ l, l < q → a16 l = nI (W l))
    (H1 : ((∃ l, l < q ∧ ∀ k, k < c → P k ≠ W l) ∨ (∃ k, k < c ∧ ∀ l, l < q → P k ≠ W l)) → ∀ (a17 : Nat → Int32) (a18 a19 a20 a21 : Nat → Int64), post (-1) (f1, f2, f3, f4, f5, f6, nI c, f8, a1, a2, a3, a4, a5, a6, a7, a8, a9, a10, a11, a12, a13, a14, a15, a16, a17, a18, a19, a20, a21))
    (H0 : (∀ l, l < q → ∃ k, k < c ∧ P k = W l) → (∀ k, k < c → ∃ l, l < q ∧ P k = W l) → ∀ (a17 : Nat → Int32) (a18 a19 a20 a21 : Nat → Int64), post 0 (f1, f2, f3, f4, f5, f6, nI c, f8, a1, a2, a3, a4, a5, a6, a7, a8, a9, a10, a11, a12, a13, a14, a15, a16, a17, a18, a19, a20, a21)) :
    ∀ (d L f st : Nat), L + d = q → 0 < d → L + 2 * d < f → st + L + 2 * d < 1000 → ∀ (a17 : Nat → Int32) (a18 a19 a20 a21 : Nat → Int64), (∀ l, l < L → ∃ J, J < c ∧ a17 l = nI J ∧ P J = W l) → a17 L = -1 → a18 L = 0 → nj_O c P W L (a19 L) → wX_leastCut_77 post (nI q) f (nI L) (-1) (nI st) f1 f2 f3 f4 f5 f6 (nI c) f8 a1 a2 a3 a4 a5 a6 a7 a8 a9 a10 a11 a12 a13 a14 a15 a16 a17 a18 a19 a20 a21 := by
  have hne : ∀ k l, k < c → l < q → P k ≠ W l → ¬ a4 k = nI (W l) := by
    intro k l hk hl hz e
    rw [(hC k hk).1] at e
    have h1 := hPs k hk
    have h2 := hWs l hl
    exact hz ((nI_eq (by omega) (by omega)).mp e)
  have hex : ∀ (a17 : Nat → Int32) (L : Nat), L ≤ q → (∀ l, l < L → ∃ J, J < c ∧ a17 l = nI J ∧ P J = W l) → ∀ l, l < L → a16 l = nI (W l) ∧ ∃ J, J < c ∧ a17 l = nI J ∧ ∀ k, J < k → k < c → ¬ a4 k = nI (W l) := by
    intro a17 L hL h l hl
    obtain ⟨J, hJ, e1, e2⟩ := h l hl
    refine ⟨h16 l (by omega), J, hJ, e1, fun k hk hk2 => hne k l hk2 (by omega) (fun z => ?_)⟩
    have := hP k J hk2 hJ (by rw [z, e2])
    omega
  intro d
  induction d with
  | zero => intro L f st _ h; omega
  | succ d ih =>
    intro L f st hLq _ hf hst a17 a18 a19 a20 a21 h17 h17L h18 hO
    obtain ⟨f, rfl⟩ : ∃ g, f = g + 1 := ⟨f - 1, by omega⟩
    have eL : (nI L).toNatClampNeg = L := nI_clamp (by omega)
    have i1 : vp_in (nI L) 6 := pk_in L 6 (by omega)
    refine pk_le 1073741824 st (fun z => absurd z (by omega)) (fun _ => br_f (nI_pos (by omega)) ?_)
    by_cases hJ : ∃ J, J < c ∧ P J = W L
    · obtain ⟨J, hJ, eJ⟩ := hJ
      have eJc : (nI J).toNatClampNeg = J := nI_clamp (by omega)
      have i2 : vp_in (nI J) 136 := pk_in J 136 (by omega)
      obtain ⟨c4, c5, c6, c7, c8⟩ := hC J hJ
      have hb : (a19 L).toBitVec.getLsbD J = true := by
        refine (hO J (by omega)).mpr ⟨fun _ => hJ, fun l hl z => ?_⟩
        have := hW L l (by omega) (by omega) (by rw [← eJ, z])
        omega
      have h17' : ∀ l, l < L + 1 → ∃ J', J' < c ∧ upd a17 L (nI J) l = nI J' ∧ P J' = W l := by
        intro l hl
        by_cases e : l = L
        · exact ⟨J, hJ, by rw [e, pk_us], by rw [e, eJ]⟩
        · rw [pk_un e]
          exact h17 l (by omega)
      have hO' := nj_Os (by omega) hP hO hJ eJ
      refine nj_some L c J (nI (W L)) (by omega) hc (h16 L (by omega)) h17L hJ (fun k hk => hne k L (by omega) (by omega) (fun z => ?_)) (by rw [c4, eJ]) hb ?_
      · have := hP k J (by omega) hJ (by rw [z, eJ])
        omega
      refine br_t (nI_pos' (by omega)) ⟨i1, nm_r (e' := upd a17 L (nI J)) (by rw [eL, nj_s16 J (by omega)]) ⟨i1, i2, nm_r (e' := 0) (by rw [eL, eJc, h18, c5]; decide) (nj_ones0 ⟨i1, i2, nm_r (e' := a19 L &&& nj_B c J) (by rw [eL, eJc, c6]) ⟨i1, i2, nm_r (e' := 0) (by rw [eJc, c7, Int64.and_zero]) ⟨i1, i2, nm_r (e' := 0) (by rw [eJc, c8, Int64.and_zero]) (br_t (by decide) ?_)⟩⟩⟩)⟩⟩
      refine br_f (by decide) (pk_le (q - 1) L (fun z => ?_) (fun z => ?_) (by obtain ⟨r, rfl⟩ : ∃ r, q = r + 1 := ⟨q - 1, by omega⟩; rw [nI_pred]; rfl))
      · have hall : ∀ l, l < q → ∃ k, k < c ∧ P k = W l := by
          intro l hl
          obtain ⟨J', g1, _, g3⟩ := h17' l (by omega)
          exact ⟨J', g1, g3⟩
        have eq1 : L + 1 = q := by omega
        refine br_f (by decide) (br_c (fun hz => nm_r (nI_1 st) ?_) (fun hz => nm_r (nI_1 st) ?_))
        · rw [Int64.or_zero, Int64.or_zero] at hz
          rw [eq1] at hO'
          have := nj_up (nI q) 0 c hc W (H0 hall (nj_Oz (by omega) hO' hz) (upd a17 L (nI J)) a18 a19 a20 a21) (L + 1) f (st + 1) (by omega) (by omega) (by omega) (hex _ (L + 1) (by omega) h17')
          rw [pk_m1] at this
          exact this
        · rw [Int64.or_zero, Int64.or_zero] at hz
          rw [eq1] at hO'
          have := nj_up (nI q) (-1) c hc W (H1 (Or.inr (nj_On (by omega) hO' hz)) (upd a17 L (nI J)) a18 a19 a20 a21) (L + 1) f (st + 1) (by omega) (by omega) (by omega) (hex _ (L + 1) (by omega) h17')
          rw [pk_m1] at this
          exact this
      · refine nm_r (nI_1 L) (nj_enter (L + 1) (by omega) _ _ _ _ (nm_r (nI_1 st) (ih (L + 1) f (st + 1) (by omega) (by omega) (by omega) (by omega) _ _ _ _ _ (fun l hl => ?_) pk_us pk_uLs (by rw [pk_uLs]; exact hO'))))
        rw [pk_un (by omega)]
        exact h17' l hl
    · have hno : ∀ k, k < c → P k ≠ W L := fun k hk z => hJ ⟨k, hk, z⟩
      refine nj_none L c 0 (nI (W L)) (by omega) hc (h16 L (by omega)) (by rw [h17L]; decide) (by omega) (fun k _ hk => hne k L hk (by omega) (hno k hk)) ?_
      exact br_f (by decide) (nm_e (nm_r (nI_1 st) (nj_up (nI q) (-1) c hc W (H1 (Or.inl ⟨L, by omega, hno⟩) a17 a18 a19 a20 a21) L f (st + 1) (by omega) (by omega) (by omega) (hex _ L (by omega) h17))))
theorem nj_lc21 {post : Int32 → St2 → Prop} (n i m c : Nat) (P : Nat → Nat) (hn : n ≤ 6) (hi : i < 2 ^ n) (hm : m < 2 ^ n) (h0 : m ≠ 0) (hE : nj_E i n c P) (hC : nj_C c P a4 a5 a6 a7 a8) (H : ∀ (a16 a17 : Nat → Int32) (a18 a19 a20 a21 : Nat → Int64), post (nj_far i m) (nI n, f2, f3, f4, f5, f6, nI c, f8, a1, a2, a3, a4, a5, a6, a7, a8, a9, a10, a11, a12, a13, a14, a15, a16, a17, a18, a19, a20, a21)) :
    ∀ (f p : Nat), p ≤ n → n - p < f → ∀ (q : Nat) (W : Nat → Nat) (a16 : Nat → Int32), nj_E m p q W → (∀ l, l < q → a16 l = nI (W l)) → wX_leastCut_21 post (nI m) (nI n) f2 f3 f4 f5 f6 (nI c) f8 f (nI q) (nI p) a1 a2 a3 a4 a5 a6 a7 a8 a9 a10 a11 a12 a13 a14 a15 a16 a17 a18 a19 a20 a21 := by
  intro f
  induction f with
  | zero => intro p _ h; omega
  | succ f ih =>
    intro p hp hf q W a16 hF h16
    have hqp : q ≤ p := hF.1
    have hm64 : m < 64 := by have := nj_p64 n (by omega); omega
    refine pk_le n p (fun z => ?_) (fun z => ?_)
    · have e : p = n := by omega
      rw [e] at hF
      have hcn : c ≤ n := hE.1
      refine nj_enter 0 (by omega) 0 (-1) (-1) (-1) (Exists.intro 100 ?_)
      exact nj_down c q P W (by omega) (by omega) hE.2.2.2 hF.2.2.2 (fun k hk => by have := (hE.2.1 k hk).1; omega) (fun k hk => by have := (hF.2.1 k hk).1; omega) hC h16
        (fun g a17 a18 a19 a20 a21 => by
          have t := H a16 a17 a18 a19 a20 a21
          rw [nj_far_n (nj_Ene hE hF g)] at t
          exact t)
        (fun g1 g2 a17 a18 a19 a20 a21 => by
          have t := H a16 a17 a18 a19 a20 a21
          rw [nj_Eeq hi hm hE hF g1 g2, nj_far_s] at t
          exact t)
        q 0 100 0 (by omega) (nj_Epos hF hm h0) (by omega) (by omega) _ _ _ _ _ (fun l hl => absurd hl (by omega)) pk_us pk_uLs (by rw [pk_uLs]; exact nj_O0 c P W)
    · refine ek_if (nj_bit m hm64 p (by omega)) (fun t => nm_r (nI_1 p) (ih (p + 1) (by omega) (by omega) q W a16 (nj_Ef hF t) h16)) (fun t => ?_)
      have e : (nI q).toNatClampNeg = q := nI_clamp (by omega)
      refine ⟨pk_in q 6 (by omega), nm_r (e' := upd a16 q (nI p)) (by rw [e, nj_b8 p (by omega)]) (nm_r (nI_1 q) (nm_r (nI_1 p) (ih (p + 1) (by omega) (by omega) (q + 1) (nj_ext W q p) _ (nj_Et hF t) (fun l hl => ?_))))⟩
      by_cases z : l = q
      · rw [z, pk_us, nj_ext_s]
      · rw [pk_un z, nj_ext_n z]
        exact h16 l (by omega)
theorem nj_leastCut {post : Int32 → St2 → Prop} (n i m c : Nat) (P : Nat → Nat) (hn : n ≤ 6) (hi : i < 2 ^ n) (hm : m < 2 ^ n) (hE : nj_E i n c P) (hC : nj_C c P a4 a5 a6 a7 a8) (H : ∀ (a16 a17 : Nat → Int32) (a18 a19 a20 a21 : Nat → Int64), post (nj_far i m) (nI n, nI i, f3, f4, f5, f6, nI c, f8, a1, a2, a3, a4, a5, a6, a7, a8, a9, a10, a11, a12, a13, a14, a15, a16, a17, a18, a19, a20, a21)) : wpX_leastCut post (nI n, nI i, f3, f4, f5, f6, nI c, f8, a1, a2, a3, a4, a5, a6, a7, a8, a9, a10, a11, a12, a13, a14, a15, a16, a17, a18, a19, a20, a21) (nI m) := by
  have h64 := nj_p64 n (by omega)
  refine pk_eq m 0 (fun z => pk_eq i 0 (fun y => ?_) (fun y => ?_)) (fun z => Exists.intro (n + 1) ?_)
  · have t := H a16 a17 a18 a19 a20 a21
    rw [show m = i by omega, nj_far_s] at t
    exact t
  · have t := H a16 a17 a18 a19 a20 a21
    rw [nj_far_n (show m ≠ i by omega)] at t
    exact t
  · exact nj_lc21 n i m c P hn hi hm z hE hC H (n + 1) 0 (by omega) (by omega) 0 (fun _ => 0) a16 (nj_E0 m _) (fun l hl => absurd hl (by omega))
end
end
section
/-! judging, and the answers -/
section
variable {f1 f2 f3 f4 f5 f6 f7 f8 : Int32} {a1 a2 a3 a4 a11 a12 a13 a14 a16 a17 : Nat → Int32} {a5 a6 a7 a8 a9 a10 a15 a18 a19 a20 a21 : Nat → Int64}
theorem nj_clash {post : Int32 → Prop} (m : Int32) (h : post 0) : wpX_clashes post (f1, f2, 0, f4, f5, f6, f7, f8, a1, a2, a3, a4, a5, a6, a7, a8, a9, a10, a11, a12, a13, a14, a15, a16, a17, a18, a19, a20, a21) m :=
  pk_loop (σ := Unit) (fun n i _ => wX_clashes_2 post m f1 f2 0 f4 f5 f6 f7 f8 a1 a2 a3 a4 a5 a6 a7 a8 a9 a10 a11 a12 a13 a14 a15 a16 a17 a18 a19 a20 a21 n (nI i)) (fun _ _ => True) 8 0 () (by omega) trivial
    (fun n _ _ => pk_le 8 8 (fun _ => h) (fun z => absurd z (by omega)))
    (fun n i _ hi _ hw => pk_le 8 i (fun z => absurd z (by omega)) (fun _ => nj_has _ (br_t rfl (nm_r (nI_1 i) (hw () trivial)))))
theorem nj_dead {post : Int32 → Prop} (m : Int32) (h : post 1) : wpX_dead post (f1, f2, 0, f4, f5, f6, f7, f8, a1, a2, a3, a4, a5, a6, a7, a8, a9, a10, a11, a12, a13, a14, a15, a16, a17, a18, a19, a20, a21) m :=
  pk_loop (σ := Unit) (fun n i _ => wX_dead_2 post m f1 f2 0 f4 f5 f6 f7 f8 a1 a2 a3 a4 a5 a6 a7 a8 a9 a10 a11 a12 a13 a14 a15 a16 a17 a18 a19 a20 a21 n (nI i)) (fun _ _ => True) 8 0 () (by omega) trivial
    (fun n _ _ => pk_le 8 8 (fun _ => h) (fun z => absurd z (by omega)))
    (fun n i _ hi _ hw => pk_le 8 i (fun z => absurd z (by omega)) (fun _ => nj_has _ (br_t rfl (nm_r (nI_1 i) (hw () trivial)))))
theorem nj_j85 {post : St2 → Prop} (N : Nat) (hN : N ≤ 64) (h : post (f1, f2, 0, f4, f5, 0, f7, f8, a1, a2, a3, a4, a5, a6, a7, a8, a9, a10, a11, a12, a13, a14, a15, a16, a17, a18, a19, a20, a21)) : ∃ n, wX_judge_85 post (nI N) f1 f2 0 f4 f5 f7 f8 a1 a2 a3 a4 a5 a6 a7 a8 a9 a10 a11 a12 a13 a14 a15 a16 a17 a18 a19 a20 a21 n 0 0 :=
  pk_loop (σ := Unit) (fun n i _ => wX_judge_85 post (nI N) f1 f2 0 f4 f5 f7 f8 a1 a2 a3 a4 a5 a6 a7 a8 a9 a10 a11 a12 a13 a14 a15 a16 a17 a18 a19 a20 a21 n (nI i) 0) (fun _ _ => True) N 0 () (by omega) trivial
    (fun n _ _ => pk_le N N (fun _ => h) (fun z => absurd z (by omega)))
    (fun n i _ hi _ hw => pk_le N i (fun z => absurd z (by omega)) (fun _ => ⟨pk_in i 64 (by omega), br_c (fun _ => nm_r (nI_1 i) (hw () trivial)) (fun _ => nj_clash _ (br_t rfl (nm_r (nI_1 i) (hw () trivial))))⟩))
theorem nj_j60 {post : St2 → Prop} (n i c N : Nat) (P : Nat → Nat) (hn : n ≤ 6) (hN : N = 2 ^ n) (hi : i < 2 ^ n) (hE : nj_E i n c P) (hC : nj_C c P a4 a5 a6 a7 a8) (H : ∀ (a3 a16 a17 : Nat → Int32) (a18 a19 a20 a21 : Nat → Int64), (∀ j, j < 64 → a3 j = nj_far i j) → post (nI n, nI i, 0, f4, f5, 0, nI c, f8, a1, a2, a3, a4, a5, a6, a7, a8, a9, a10, a11, a12, a13, a14, a15, a16, a17, a18, a19, a20, a21)) :
    ∀ (f m : Nat), m ≤ N → N - m < f → ∀ (a3 a16 a17 : Nat → Int32) (a18 a19 a20 a21 : Nat → Int64), (∀ j, j < 64 → a3 j = if j < m then nj_far i j else -1) → wX_judge_60 post (nI N) f (nI m) (nI n) (nI i) 0 f4 f5 0 (nI c) f8 a1 a2 a3 a4 a5 a6 a7 a8 a9 a10 a11 a12 a13 a14 a15 a16 a17 a18 a19 a20 a21 := by
  have h64 := nj_p64 n (by omega)
  rw [← hN] at h64 hi
  intro f
  induction f with
  | zero => intro m _ h; omega
  | succ f ih =>
    intro m hm hf a3 a16 a17 a18 a19 a20 a21 h3
    refine pk_le N m (fun z => nj_j85 N h64 (H a3 a16 a17 a18 a19 a20 a21 (fun j hj => ?_))) (fun z => ?_)
    · rw [h3 j hj]
      by_cases e : j < m
      · rw [if_pos e]
      · rw [if_neg e, nj_far_n (by omega)]
    · refine nj_leastCut n i m c P hn (by rw [← hN]; exact hi) (by rw [← hN]; exact z) hE hC (fun a16 a17 a18 a19 a20 a21 => ?_)
      have e : (nI m).toNatClampNeg = m := nI_clamp (by omega)
      refine ⟨pk_in m 64 (by omega), nm_r (e' := upd a3 m (nj_far i m)) (by rw [e, nj_far8]) (nm_r (nI_1 m) (ih (m + 1) (by omega) (by omega) _ a16 a17 a18 a19 a20 a21 (fun j hj => ?_)))⟩
      by_cases y : j = m
      · rw [y, pk_us, if_pos (by omega)]
      · rw [pk_un y, h3 j hj]
        by_cases g : j < m
        · rw [if_pos g, if_pos (by omega)]
        · rw [if_neg g, if_neg (by omega)]
theorem nj_j24 {post : St2 → Prop} (n i c : Nat) (P : Nat → Nat) (hn : n ≤ 6) (hi : i < 2 ^ n) (hE : nj_E i n c P) (hC : nj_C c P a4 a5 a6 a7 a8) (H : ∀ (a3 a16 a17 : Nat → Int32) (a18 a19 a20 a21 : Nat → Int64), (∀ j, j < 64 → a3 j = nj_far i j) → post (nI n, nI i, 0, f4, f5, 0, nI c, f8, a1, a2, a3, a4, a5, a6, a7, a8, a9, a10, a11, a12, a13, a14, a15, a16, a17, a18, a19, a20, a21)) : ∃ m, wX_judge_24 post (nI n) (nI i) 0 f4 f5 0 (nI c) f8 m 0 a1 a2 a3 a4 a5 a6 a7 a8 a9 a10 a11 a12 a13 a14 a15 a16 a17 a18 a19 a20 a21 := by
  refine pk_loop (fun m k s => wX_judge_24 post (nI n) (nI i) 0 f4 f5 0 (nI c) f8 m (nI k) a1 a2 s a4 a5 a6 a7 a8 a9 a10 a11 a12 a13 a14 a15 a16 a17 a18 a19 a20 a21) (fun k s => ∀ j, j < k → s j = -1) 64 0 a3 (by omega) (fun j hj => absurd hj (by omega)) ?_ ?_
  · intro m s h
    refine pk_le 64 64 (fun _ => br_t rfl (nm_r (nj_pow n (by omega)) (Exists.intro (2 ^ n + 1) ?_))) (fun z => absurd z (by omega))
    exact nj_j60 n i c (2 ^ n) P hn rfl hi hE hC H (2 ^ n + 1) 0 (by omega) (by omega) s a16 a17 a18 a19 a20 a21 (fun j hj => by rw [if_neg (by omega)]; exact h j hj)
  · intro m k s hk h hw
    refine pk_le 64 k (fun z => absurd z (by omega)) (fun _ => ⟨pk_in k 64 hk, nm_r (e' := upd s k (-1)) (by rw [nI_clamp (by omega)]) (nm_r (nI_1 k) (hw _ (fun j hj => ?_)))⟩)
    by_cases e : j = k
    · rw [e, pk_us]
    · rw [pk_un e]
      exact h j (by omega)
end
/-- the object between the law's calls: n places, only the marking i, no transition, not judged or rightly judged -/
def nj_I (n i : Nat) (u : St2) : Prop := match u with
  | (f1, f2, f3, f4, f5, f6, f7, f8, a1, a2, a3, a4, a5, a6, a7, a8, a9, a10, a11, a12, a13, a14, a15, a16, a17, a18, a19, a20, a21) => f1 = nI n ∧ f2 = nI i ∧ f3 = 0 ∧ f4 = nI i ∧ (¬ f5 = 0 → f6 = 0 ∧ ∀ j, j < 64 → a3 j = nj_far i j)
def nj_J (n i : Nat) (u : St2) : Prop := match u with
  | (f1, f2, f3, f4, f5, f6, f7, f8, a1, a2, a3, a4, a5, a6, a7, a8, a9, a10, a11, a12, a13, a14, a15, a16, a17, a18, a19, a20, a21) => f1 = nI n ∧ f2 = nI i ∧ f3 = 0 ∧ f4 = nI i ∧ f6 = 0 ∧ ∀ j, j < 64 → a3 j = nj_far i j
theorem nj_JI {n i : Nat} {u : St2} (h : nj_J n i u) : nj_I n i u := by
  obtain ⟨f1, f2, f3, f4, f5, f6, f7, f8, a1, a2, a3, a4, a5, a6, a7, a8, a9, a10, a11, a12, a13, a14, a15, a16, a17, a18, a19, a20, a21⟩ := u
  obtain ⟨h1, h2, h3, h4, h5, h6⟩ := h
  exact ⟨h1, h2, h3, h4, fun _ => ⟨h5, h6⟩⟩
theorem nj_judge {post : St2 → Prop} {n i : Nat} {u : St2} (hn : n ≤ 6) (hi : i < 2 ^ n) (hI : nj_I n i u) (H : ∀ u, nj_J n i u → post u) : wpX_judge post u := by
  obtain ⟨f1, f2, f3, f4, f5, f6, f7, f8, a1, a2, a3, a4, a5, a6, a7, a8, a9, a10, a11, a12, a13, a14, a15, a16, a17, a18, a19, a20, a21⟩ := u
  obtain ⟨h1, h2, h3, h4, h5⟩ := hI
  subst h1 h2 h3 h4
  have h64 := nj_p64 n (by omega)
  refine br_c (fun z => ?_) (fun z => H _ ⟨rfl, rfl, rfl, rfl, (h5 z).1, (h5 z).2⟩)
  exact nj_unfold n i hn (by omega) (fun c P a4 a5 a6 a7 a8 a9 a10 a11 a12 hE hC => nj_j24 n i c P hn hi hE hC (fun a3 a16 a17 a18 a19 a20 a21 h => H _ ⟨rfl, rfl, rfl, rfl, rfl, h⟩))
theorem nj_distance {post : Int32 → St2 → Prop} {n i : Nat} {u : St2} {p : Int32} (hn : n ≤ 6) (hi : i < 2 ^ n) (hI : nj_I n i u) (H : ∀ r u, (p = nI i → r = 0) → (¬ p = nI i → r = -1) → nj_I n i u → post r u) : wpX_distance post u p := by
  have h64 := nj_p64 n (by omega)
  have hJ : ∀ q, nj_I n i u → (∀ u, nj_J n i u → q u) → wpX_judge q u := fun q => nj_judge hn hi
  have hI' := hI
  obtain ⟨f1, f2, f3, f4, f5, f6, f7, f8, a1, a2, a3, a4, a5, a6, a7, a8, a9, a10, a11, a12, a13, a14, a15, a16, a17, a18, a19, a20, a21⟩ := u
  obtain ⟨h1, h2, h3, h4, h5⟩ := hI
  subst h1 h2 h3 h4
  refine br_c (fun z => br_t rfl ?_) (fun z => br_f (by decide) ?_)
  · obtain ⟨k, hk, rfl⟩ := nj_bey (by omega) z
    refine hJ _ hI' (fun u hu => ?_)
    obtain ⟨f1, f2, f3, f4, f5, f6, f7, f8, a1, a2, a3, a4, a5, a6, a7, a8, a9, a10, a11, a12, a13, a14, a15, a16, a17, a18, a19, a20, a21⟩ := u
    have hu' := nj_JI hu
    obtain ⟨g1, g2, g3, g4, g5, g6⟩ := hu
    refine br_t g5 ⟨pk_in k 64 (by omega), H _ _ (fun y => ?_) (fun y => ?_) hu'⟩
    · rw [nI_eq (by omega) (by omega)] at y
      rw [nI_clamp (by omega), g6 k (by omega), y, nj_far_s]
    · rw [nI_eq (by omega) (by omega)] at y
      rw [nI_clamp (by omega), g6 k (by omega), nj_far_n y]
  · exact H _ _ (fun y => absurd (by rw [y]; exact nj_in (by omega) hi) z) (fun _ => rfl) hI'
theorem nj_covers {post : Int32 → St2 → Prop} {n i : Nat} {u : St2} {p : Int32} (hn : n ≤ 6) (hi : i < 2 ^ n) (hI : nj_I n i u) (H : ∀ r u, (p &&& (nI i ^^^ (-1)) = 0 → r = 0) → (¬ p &&& (nI i ^^^ (-1)) = 0 → r = -1) → nj_I n i u → post r u) : wpX_covers post u p := by
  have h64 := nj_p64 n (by omega)
  have hJ : ∀ q, nj_I n i u → (∀ u, nj_J n i u → q u) → wpX_judge q u := fun q => nj_judge hn hi
  have hI' := hI
  obtain ⟨f1, f2, f3, f4, f5, f6, f7, f8, a1, a2, a3, a4, a5, a6, a7, a8, a9, a10, a11, a12, a13, a14, a15, a16, a17, a18, a19, a20, a21⟩ := u
  obtain ⟨h1, h2, h3, h4, h5⟩ := hI
  subst h1 h2 h3 h4
  refine br_c (fun z => br_t rfl ?_) (fun z => br_f (by decide) ?_)
  · refine hJ _ hI' (fun u hu => ?_)
    obtain ⟨f1, f2, f3, f4, f5, f6, f7, f8, a1, a2, a3, a4, a5, a6, a7, a8, a9, a10, a11, a12, a13, a14, a15, a16, a17, a18, a19, a20, a21⟩ := u
    have hu' := nj_JI hu
    obtain ⟨g1, g2, g3, g4, g5, g6⟩ := hu
    refine br_t g5 ?_
    refine pk_loop (fun m k s => wX_covers_27 post p f1 f2 f3 f4 f5 f6 f7 f8 a1 a2 a3 a4 a5 a6 a7 a8 a9 a10 a11 a12 a13 a14 a15 a16 a17 a18 a19 a20 a21 m s (nI k)) (fun k s => (i < k ∧ p &&& (nI i ^^^ (-1)) = 0 → s = 0) ∧ (¬ (i < k ∧ p &&& (nI i ^^^ (-1)) = 0) → s = -1)) 64 0 (-1) (by omega) ⟨fun y => absurd y.1 (by omega), fun _ => rfl⟩ ?_ ?_
    · intro m s ⟨y1, y2⟩
      exact pk_le 64 64 (fun _ => H s _ (fun y => y1 ⟨by omega, y⟩) (fun y => y2 (fun t => y t.2)) hu') (fun z => absurd z (by omega))
    · intro m k s hk ⟨y1, y2⟩ hw
      have e : (nI k).toNatClampNeg = k := nI_clamp (by omega)
      refine pk_le 64 k (fun z => absurd z (by omega)) (fun _ => ⟨pk_in k 64 hk, ?_⟩)
      by_cases ek : k = i
      · subst ek
        refine br_f (by rw [e, g6 k hk, nj_far_s]; decide) ?_
        refine br_c (fun t => br_t (by rw [y2 (fun t => absurd t.1 (by omega))]; decide) ⟨pk_in k 64 hk, nm_e (nm_r (nI_1 k) (hw _ ⟨fun _ => by rw [e, g6 k hk, nj_far_s], fun t' => absurd ⟨by omega, t⟩ t'⟩))⟩) (fun t => nm_r (nI_1 k) (hw _ ⟨fun t' => absurd t'.2 t, fun _ => y2 (fun t' => t t'.2)⟩))
      · exact br_t (by rw [e, g6 k hk, nj_far_n ek]; decide) (nm_r (nI_1 k) (hw _ ⟨fun t => y1 ⟨by omega, t.2⟩, fun t => y2 (fun t' => t ⟨by omega, t'.2⟩)⟩))
  · exact H _ _ (fun y => absurd (nj_under (by omega) hi y) z) (fun _ => rfl) hI'
theorem nj_deadM {post : Int32 → St2 → Prop} {n i : Nat} {u : St2} (hn : n ≤ 6) (hi : i < 2 ^ n) (hI : nj_I n i u) (H : ∀ u, nj_I n i u → post (nI i) u) : wpX_deadMarking post u := by
  have h64 := nj_p64 n (by omega)
  have hJ : ∀ q, nj_I n i u → (∀ u, nj_J n i u → q u) → wpX_judge q u := fun q => nj_judge hn hi
  have hI' := hI
  obtain ⟨f1, f2, f3, f4, f5, f6, f7, f8, a1, a2, a3, a4, a5, a6, a7, a8, a9, a10, a11, a12, a13, a14, a15, a16, a17, a18, a19, a20, a21⟩ := u
  unfold wpX_deadMarking
  refine hJ _ hI' (fun u hu => ?_)
  obtain ⟨f1, f2, f3, f4, f5, f6, f7, f8, a1, a2, a3, a4, a5, a6, a7, a8, a9, a10, a11, a12, a13, a14, a15, a16, a17, a18, a19, a20, a21⟩ := u
  have hu' := nj_JI hu
  obtain ⟨g1, g2, g3, g4, g5, g6⟩ := hu
  subst g3
  refine pk_loop (fun m k s => wX_deadMarking_8 post f1 f2 0 f4 f5 f6 f7 f8 a1 a2 a3 a4 a5 a6 a7 a8 a9 a10 a11 a12 a13 a14 a15 a16 a17 a18 a19 a20 a21 m s (nI k)) (fun k s => (i < k → s = nI i) ∧ (¬ i < k → s = -1)) 64 0 (-1) (by omega) ⟨fun y => absurd y (by omega), fun _ => rfl⟩ ?_ ?_
  · intro m s ⟨y1, y2⟩
    exact pk_le 64 64 (fun _ => by rw [y1 (by omega)]; exact H _ hu') (fun z => absurd z (by omega))
  · intro m k s hk ⟨y1, y2⟩ hw
    have e : (nI k).toNatClampNeg = k := nI_clamp (by omega)
    refine pk_le 64 k (fun z => absurd z (by omega)) (fun _ => br_t g5 ⟨pk_in k 64 hk, ?_⟩)
    by_cases ek : k = i
    · subst ek
      refine br_f (by rw [e, g6 k hk, nj_far_s]; decide) (nj_dead _ (br_f (by decide) (br_t (by rw [y2 (by omega)]; decide) (nm_r (nI_1 k) (hw _ ⟨fun _ => rfl, fun t => absurd (by omega) t⟩)))))
    · exact br_t (by rw [e, g6 k hk, nj_far_n ek]; decide) (nm_r (nI_1 k) (hw _ ⟨fun t => y1 (by omega), fun t => y2 (by omega)⟩))
theorem nj_drop {post : Int32 → St2 → Prop} {n i : Nat} {u : St2} {t : Int32} (hI : nj_I n i u) (H : post 0 u) : wpX_dropTransition post u t := by
  obtain ⟨f1, f2, f3, f4, f5, f6, f7, f8, a1, a2, a3, a4, a5, a6, a7, a8, a9, a10, a11, a12, a13, a14, a15, a16, a17, a18, a19, a20, a21⟩ := u
  obtain ⟨h1, h2, h3, h4, h5⟩ := hI
  subst h3
  unfold wpX_dropTransition
  exact nj_has t (br_t rfl H)
end
section
/-! the transition that is set, and the law -/
def nj_ones (p0 : Int64) : Int32 :=
  let x1 := p0 - (((p0.toUInt64 >>> ((1 : Int32).toInt64.toUInt64 &&& Int64.toUInt64 63)).toInt64) &&& 6148914691236517205)
  let x2 := (x1 &&& 3689348814741910323) + (((x1.toUInt64 >>> ((2 : Int32).toInt64.toUInt64 &&& Int64.toUInt64 63)).toInt64) &&& 3689348814741910323)
  let x3 := (x2 + ((x2.toUInt64 >>> ((4 : Int32).toInt64.toUInt64 &&& Int64.toUInt64 63)).toInt64)) &&& 1085102592571150095
  (((x3 * 72340172838076673).toUInt64 >>> ((56 : Int32).toInt64.toUInt64 &&& Int64.toUInt64 63)).toInt64).toInt32
theorem nj_onesW {post : Int32 → Prop} (p : Int64) (h : post (nj_ones p)) : wpX_ones post () p := nm_e (nm_e (nm_e h))
/-- one or two bits -/
def nj_12 (p : Int32) : Prop := ¬ p = 0 ∧ (p &&& (p - 1)) &&& ((p &&& (p - 1)) - 1) = 0
theorem nj_onesT : ∀ k, k < 64 → ((nj_ones (nI k).toInt64 = 1 ∨ nj_ones (nI k).toInt64 = 2) ↔ (¬ nI k = 0 ∧ (nI k &&& (nI k - 1)) &&& ((nI k &&& (nI k - 1)) - 1) = 0)) := by decide +kernel
def nj_ok (n : Nat) (p : Int32) : Prop := p &&& ((((1 : Int32) <<< (nI n &&& 31)) - 1) ^^^ (-1)) = 0 ∧ nj_12 p
section
variable {f1 f2 f3 f4 f5 f6 f7 f8 : Int32} {a1 a2 a3 a4 a11 a12 a13 a14 a16 a17 : Nat → Int32} {a5 a6 a7 a8 a9 a10 a15 a18 a19 a20 a21 : Nat → Int64}
theorem nj_setOk {post : Int32 → Prop} {n : Nat} {p : Int32} (hn : n ≤ 6) (h1 : nj_ok n p → post 1) (h0 : ¬ nj_ok n p → post 0) : wpX_setOk post (nI n, f2, f3, f4, f5, f6, f7, f8, a1, a2, a3, a4, a5, a6, a7, a8, a9, a10, a11, a12, a13, a14, a15, a16, a17, a18, a19, a20, a21) p := by
  have h64 := nj_p64 n (by omega)
  refine br_c (fun z => br_t rfl ?_) (fun z => br_f (by decide) (h0 (fun t => z t.1)))
  obtain ⟨k, hk, e⟩ := nj_bey (by omega) z
  have T := nj_onesT k (by omega)
  rw [← e] at T
  refine nj_onesW _ (br_c (fun y => h1 ⟨z, T.mp (Or.inl y)⟩) (fun y => br_c (fun y2 => h1 ⟨z, T.mp (Or.inr y2)⟩) (fun y2 => h0 (fun t => ?_))))
  rcases T.mpr t.2 with g | g
  · exact y g
  · exact y2 g
end
theorem nj_oneTwo {post : Int32 → Prop} {n : Nat} {p : Int32} (h1 : nj_ok n p → post 1) (h0 : ¬ nj_ok n p → post 0) : wpL_oneOrTwo post () p (((1 : Int32) <<< (nI n &&& 31)) - 1) :=
  nm_e (br_c (fun z => h0 (fun t => t.2.1 z)) (fun z => br_c (fun y => br_c (fun w => h1 ⟨y, z, w⟩) (fun w => h0 (fun t => w t.2.2))) (fun y => h0 (fun t => y t.1))))
def nj_G (i : Nat) (u : St2) : Prop := match u with
  | (f1, f2, f3, f4, f5, f6, f7, f8, a1, a2, a3, a4, a5, a6, a7, a8, a9, a10, a11, a12, a13, a14, a15, a16, a17, a18, a19, a20, a21) => f4 = nI i
theorem nj_set {post : Int32 → St2 → Prop} {n i : Nat} {u : St2} {t p q : Int32} (hn : n ≤ 6) (hI : nj_I n i u) (H : ∀ r u, ((¬ t < 0 ∧ ¬ 8 ≤ t ∧ nj_ok n p ∧ nj_ok n q) → r = 1) → (¬ (¬ t < 0 ∧ ¬ 8 ≤ t ∧ nj_ok n p ∧ nj_ok n q) → r = 0) → nj_G i u → post r u) : wpX_setTransition post u t p q := by
  obtain ⟨f1, f2, f3, f4, f5, f6, f7, f8, a1, a2, a3, a4, a5, a6, a7, a8, a9, a10, a11, a12, a13, a14, a15, a16, a17, a18, a19, a20, a21⟩ := u
  obtain ⟨h1, h2, h3, h4, h5⟩ := hI
  subst h1 h2 h3 h4
  have no : ¬ (¬ t < 0 ∧ ¬ 8 ≤ t ∧ nj_ok n p ∧ nj_ok n q) → post 0 (nI n, nI i, 0, nI i, f5, f6, f7, f8, a1, a2, a3, a4, a5, a6, a7, a8, a9, a10, a11, a12, a13, a14, a15, a16, a17, a18, a19, a20, a21) := fun z => H 0 _ (fun y => absurd y z) (fun _ => rfl) rfl
  refine br_c (fun z => no (fun y => y.1 z)) (fun z => br_c (fun z2 => no (fun y => y.2.1 z2)) (fun z2 => ?_))
  refine nj_setOk hn (fun z3 => br_f (by decide) ?_) (fun z3 => br_t rfl (no (fun y => z3 y.2.2.1)))
  refine nj_setOk hn (fun z4 => br_f (by decide) ?_) (fun z4 => br_t rfl (no (fun y => z4 y.2.2.2)))
  have hin : vp_in t 8 := by
    rw [vp_in_iff]
    rw [Int32.lt_iff_toInt_lt] at z
    rw [Int32.le_iff_toInt_le] at z2
    have e0 : (0 : Int32).toInt = 0 := by decide
    have e8 : (8 : Int32).toInt = 8 := by decide
    omega
  exact ⟨hin, nm_e ⟨hin, nm_e (nm_e (H 1 _ (fun _ => rfl) (fun y => absurd ⟨z, z2, z3, z4⟩ y) rfl))⟩⟩
theorem nj_133 {post : Int32 → St0 → Prop} {mc ms kc ks i : Nat} {x5 x10 x11 z : Int32} (h1 : x5 = nI i → x10 = 0) (h2 : ¬ x5 = nI i → x10 = -1) (h3 : x5 &&& (nI i ^^^ (-1)) = 0 → x11 = 0) (h4 : ¬ x5 &&& (nI i ^^^ (-1)) = 0 → x11 = -1) (h : post 1 ()) : wL_lawOf_133 post mc ms x5 (nI i) x10 x11 (nI i) 0 z (nI i) z kc ks := by
  have k149 : ∀ y, x10 = y → wL_lawOf_149 post mc ms x5 (nI i) x11 (nI i) 0 z (nI i) z y x10 kc ks := fun y hy =>
    br_t hy (br_c (fun t => br_t (h3 t) (br_t rfl (br_t rfl (br_t rfl (br_t rfl h))))) (fun t => br_t (h4 t) (br_t rfl (br_t rfl (br_t rfl (br_t rfl h))))))
  exact br_c (fun t => k149 0 (h1 t)) (fun t => k149 (-1) (h2 t))
section
variable {f1 f2 f3 f4 f5 f6 f7 f8 : Int32} {a1 a2 a3 a4 a11 a12 a13 a14 a16 a17 : Nat → Int32} {a5 a6 a7 a8 a9 a10 a15 a18 a19 a20 a21 : Nat → Int64}
theorem nj_32 {post : Int32 → St0 → Prop} {mc ms kc ks n i : Nat} {x1 x2 x3 x4 x5 : Int32} (hn : n ≤ 6) (hi : i < 2 ^ n) (hx : x1 &&& (((1 : Int32) <<< (nI n &&& 31)) - 1) = nI i) (hI : nj_I n i (f1, f2, f3, f4, f5, f6, f7, f8, a1, a2, a3, a4, a5, a6, a7, a8, a9, a10, a11, a12, a13, a14, a15, a16, a17, a18, a19, a20, a21)) (h : post 1 ()) : wL_lawOf_32 post mc ms x1 x2 x3 x4 x5 (nI n) kc ks f1 f2 f3 f4 f5 f6 f7 f8 a1 a2 a3 a4 a5 a6 a7 a8 a9 a10 a11 a12 a13 a14 a15 a16 a17 a18 a19 a20 a21 := by
  refine nm_e (nm_r hx ?_)
  refine nj_distance hn hi hI (fun r10 u d1 d2 hI => ?_)
  obtain ⟨f1, f2, f3, f4, f5, f6, f7, f8, a1, a2, a3, a4, a5, a6, a7, a8, a9, a10, a11, a12, a13, a14, a15, a16, a17, a18, a19, a20, a21⟩ := u
  refine nj_covers hn hi hI (fun r11 u c1 c2 hI => ?_)
  obtain ⟨f1, f2, f3, f4, f5, f6, f7, f8, a1, a2, a3, a4, a5, a6, a7, a8, a9, a10, a11, a12, a13, a14, a15, a16, a17, a18, a19, a20, a21⟩ := u
  refine nj_deadM hn hi hI (fun u hI => ?_)
  obtain ⟨f1, f2, f3, f4, f5, f6, f7, f8, a1, a2, a3, a4, a5, a6, a7, a8, a9, a10, a11, a12, a13, a14, a15, a16, a17, a18, a19, a20, a21⟩ := u
  refine nj_drop hI ?_
  refine nj_set hn hI (fun r14 u s1 s2 hG => ?_)
  obtain ⟨f1, f2, f3, f4, f5, f6, f7, f8, a1, a2, a3, a4, a5, a6, a7, a8, a9, a10, a11, a12, a13, a14, a15, a16, a17, a18, a19, a20, a21⟩ := u
  have hG' : f4 = nI i := hG
  subst hG'
  have fin : ∀ z, r14 = z → wL_lawOf_133 post mc ms x5 (nI i) r10 r11 (nI i) 0 r14 (nI i) z kc ks := fun z hz => by
    rw [hz]
    exact nj_133 d1 d2 c1 c2 h
  have fin0 : ¬ (¬ x2 < 0 ∧ ¬ 8 ≤ x2 ∧ nj_ok n x3 ∧ nj_ok n x4) → wL_lawOf_132 post mc ms x5 (nI i) r10 r11 (nI i) 0 r14 (nI i) kc ks := fun z => fin 0 (s2 z)
  have e78 : 7 < x2 ↔ 8 ≤ x2 := by
    rw [Int32.lt_iff_toInt_lt, Int32.le_iff_toInt_le]
    have e7 : (7 : Int32).toInt = 7 := by decide
    have e8 : (8 : Int32).toInt = 8 := by decide
    omega
  refine br_c (fun z => fin0 (fun y => y.1 z)) (fun z => br_c (fun z2 => fin0 (fun y => y.2.1 (e78.mp z2))) (fun z2 => ?_))
  refine nj_oneTwo (fun z3 => br_f (by decide) ?_) (fun z3 => br_t rfl (fin0 (fun y => z3 y.2.2.1)))
  exact nj_oneTwo (fun z4 => br_f (by decide) (fin 1 (s1 ⟨z, fun t => z2 (e78.mpr t), z3, z4⟩))) (fun z4 => br_t rfl (fin0 (fun y => z4 y.2.2.2)))
end
theorem nj_lawOf {post : Int32 → St0 → Prop} (p0 p1 p2 p3 p4 p5 : Int32) (h : post 1 ()) : wpL_lawOf post 842 13472 () p0 p1 p2 p3 p4 p5 := by
  refine ⟨by decide, by decide, 841, 13443, by decide, by decide, ?_⟩
  refine ⟨by decide, by decide, by decide, by decide, by decide, by decide, by decide, by decide, by decide, by decide, by decide, by decide, by decide, by decide, by decide, by decide, by decide, by decide, by decide, by decide, by decide, by decide, by decide, by decide, by decide, by decide, by decide, by decide, by decide, by decide, by decide, by decide, by decide, by decide, by decide, by decide, by decide, by decide, by decide, by decide, by decide, by decide, ?_⟩
  refine br_c (fun h1 => br_c (fun h2 => ?_) (fun h2 => ?_)) (fun h1 => ?_)
  · have h0 : ¬ p0 < 0 := by
      rw [Int32.lt_iff_toInt_lt]
      rw [Int32.le_iff_toInt_le] at h1
      have e0 : (0 : Int32).toInt = 0 := by decide
      have e1 : (1 : Int32).toInt = 1 := by decide
      omega
    obtain ⟨n, hn, e⟩ := nI_of2 (M := 6) (n := 6) (by decide) h0 h2
    subst e
    obtain ⟨i, hi, ei⟩ := nj_low n (by omega) p1
    exact nm_r ei (br_t h1 (br_t h2 (nj_32 hn hi ei ⟨rfl, rfl, rfl, rfl, fun z => absurd rfl z⟩ h)))
  · obtain ⟨i, hi, ei⟩ := nj_low 6 (by omega) p1
    exact nm_r ei (br_t h1 (br_f h2 (nj_32 (n := 6) (by omega) hi ei ⟨rfl, rfl, rfl, rfl, fun z => absurd rfl z⟩ h)))
  · obtain ⟨i, hi, ei⟩ := nj_low 1 (by omega) p1
    exact nm_r ei (br_f h1 (nj_32 (n := 1) (by omega) hi ei ⟨rfl, rfl, rfl, rfl, fun z => absurd rfl z⟩ h))
theorem nj_cell {post : Int32 → Prop} {L : Nat} {xs : Nat → Int32} (hL : L ≤ 6) (k : Nat) (hk : k < 6) (h : ∀ r, post r) : wpL_cellAt post L xs () (nI k) :=
  pk_le L k (fun _ => h 0) (fun z => ⟨pk_in k L z, h _⟩)
end
section
theorem i_vc (xs : Nat → Int32) (L : Nat) (hL : L ≤ 6) : wpL_law (fun r => r = 1) L xs :=
  nj_cell hL 0 (by decide) (fun r1 => nj_cell hL 1 (by decide) (fun r2 => nj_cell hL 2 (by decide) (fun r3 => nj_cell hL 3 (by decide) (fun r4 => nj_cell hL 4 (by decide) (fun r5 => nj_cell hL 5 (by decide) (fun r6 => ⟨842, 13472, by decide, by decide, nj_lawOf r1 r2 r3 r4 r5 r6 rfl⟩))))))
end
