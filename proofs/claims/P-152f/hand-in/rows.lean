section
/-! rows of kit/rows (given starting text) -/
theorem pk_us {f : Nat → Int32} {k : Nat} {x : Int32} : upd f k x k = x := if_pos rfl
theorem pk_un {f : Nat → Int32} {k j : Nat} {x : Int32} (h : j ≠ k) : upd f k x j = f j := if_neg h
theorem pk_uLs {f : Nat → Int64} {k : Nat} {x : Int64} : vp_updL f k x k = x := if_pos rfl
theorem pk_uLn {f : Nat → Int64} {k j : Nat} {x : Int64} (h : j ≠ k) : vp_updL f k x j = f j := if_neg h
theorem pk_m1 (n : Nat) : nI (n + 1) + (-1) = nI n := by
  rw [← nI_1, Int32.add_assoc, show (1 : Int32) + (-1) = 0 from rfl, Int32.add_zero]
theorem pk_mul (a b : Nat) : nI a * nI b = nI (a * b) := (Int32.ofNat_mul a b).symm
theorem pk_ix (x : Int32) {n : Nat} (hn : n < 2 ^ 31) : x < 0 ∨ nI n ≤ x ∨ ∃ j : Nat, j < n ∧ x = nI j := by
  by_cases h : x < 0
  · exact Or.inl h
  · obtain ⟨j, hj, rfl⟩ := nI_of h
    by_cases h2 : j < n
    · exact Or.inr (Or.inr ⟨j, h2, rfl⟩)
    · exact Or.inr (Or.inl (nI_le (by omega) hj))
theorem pk_tn {n : Nat} (h : n < 2 ^ 32) : (nI n).toBitVec.toNat = n := Nat.mod_eq_of_lt h
theorem pk_charN {q : Nat} (hq : q < 65536) : narrow .char (.int (nI q)) = .int (nI q) ∧ fits .char (.int (nI q)) = true := by
  constructor
  · have e : (nI q).toUInt32.toUInt16.toUInt32.toInt32 = nI q := by
      apply Int32.toBitVec_inj.mp
      apply BitVec.eq_of_toNat_eq
      show (nI q).toUInt32.toUInt16.toUInt32.toNat = q % 2 ^ 32
      rw [UInt16.toNat_toUInt32, UInt32.toNat_toUInt16, show (nI q).toUInt32.toNat = q % 2 ^ 32 from rfl]
      omega
    exact congrArg Value.int e
  · have a : (0 : Int32) ≤ nI q := nI_pos' (by omega)
    have b : nI q ≤ 65535 := nI_le (b := 65535) (by omega) (by decide)
    show (decide ((0 : Int32) ≤ nI q) && decide (nI q ≤ 65535)) = true
    rw [decide_eq_true a, decide_eq_true b]
    rfl
theorem pk_char (x : Int32) : (x.toUInt32 % 65536).toInt32 = nI (x.toBitVec.toNat % 65536) := by
  apply Int32.toBitVec_inj.mp
  apply BitVec.eq_of_toNat_eq
  rw [pk_tn (by omega)]
  show (x.toUInt32 % 65536).toNat = _
  rw [UInt32.toNat_mod]
  rfl
theorem pk_nc (x : Int32) : narrow .char (.int (x.toUInt32 % 65536).toInt32) = .int (x.toUInt32 % 65536).toInt32 := by
  rw [pk_char]
  exact (pk_charN (Nat.mod_lt _ (by decide))).1
theorem pk_vb (z : Int32) : vp_nar .byte z.toInt8.toInt32 = z.toInt8.toInt32 := by rw [vp_nar_byte]; simp
theorem pk_vs (z : Int32) : vp_nar .short z.toInt16.toInt32 = z.toInt16.toInt32 := by rw [vp_nar_short]; simp
theorem pk_vc (z : Int32) : vp_nar .char (z.toUInt32 % 65536).toInt32 = (z.toUInt32 % 65536).toInt32 := Value.int.inj (pk_nc z)
def bt (x : Int32) (i : Nat) : Bool := x.toBitVec.getLsbD i
theorem b_ext {x y : Int32} (h : ∀ i, i < 32 → bt x i = bt y i) : x = y := Int32.toBitVec_inj.mp (BitVec.eq_of_getLsbD_eq (fun i hi => h i hi))
theorem b_or (x y : Int32) (i : Nat) : bt (x ||| y) i = (bt x i || bt y i) := by unfold bt; rw [Int32.toBitVec_or, BitVec.getLsbD_or]
theorem b_and (x y : Int32) (i : Nat) : bt (x &&& y) i = (bt x i && bt y i) := by unfold bt; rw [Int32.toBitVec_and, BitVec.getLsbD_and]
theorem b_big {x : Int32} {i : Nat} (h : 32 ≤ i) : bt x i = false := BitVec.getLsbD_of_ge _ _ h
theorem b_65535 (i : Nat) : bt 65535 i = decide (i < 16) := by
  rcases Nat.lt_or_ge i 32 with h | h
  · exact (by decide +kernel : ∀ i, i < 32 → bt 65535 i = decide (i < 16)) i h
  · rw [b_big h, decide_eq_false (by omega)]
theorem b_0 (i : Nat) : bt 0 i = false := BitVec.getLsbD_zero
theorem nf_sh : ∀ l, l < 32 → ((1 : Int32) <<< (nI l &&& 31)).toBitVec = BitVec.twoPow 32 l := by decide +kernel
theorem em_w (v : Int32) : ∃ w : Nat, w < 65536 ∧ (v.toUInt32 % 65536).toInt32 = nI w ∧ v &&& 65535 = nI w := by
  have hr := lw_u16_r v
  have h0 : (0 : Int32).toInt = 0 := by decide
  obtain ⟨w, h1, h2⟩ := nI_of (x := lw_u16 v) (by rw [Int32.lt_iff_toInt_lt]; omega)
  have h3 : (v.toUInt32 % 65536).toInt32 = nI w := h2
  rw [h2, nI_toInt h1] at hr
  exact ⟨w, by omega, h3, by rw [← lg_i2c_mask, ← lg_i2c_nf, h3]⟩
theorem ts_nf {x : Bool} (h : ¬ x = false) : x = true := by cases x <;> first | rfl | exact absurd rfl h
theorem ts_nt {x : Bool} (h : ¬ x = true) : x = false := by cases x <;> first | rfl | exact absurd rfl h
theorem ts_bit {w : Int64} {s : UInt64} {j : Nat} (hj : j < 64) (hs : s.toNat = j) : ((w.toUInt64 >>> s).toInt64 &&& 1) = 0 ↔ w.toBitVec.getLsbD j = false := by
  have e : (w.toUInt64 >>> s).toInt64.toBitVec = w.toBitVec >>> j := by
    apply BitVec.eq_of_toNat_eq
    show (w.toUInt64 >>> s).toNat = _
    rw [UInt64.toNat_shiftRight, hs, Nat.mod_eq_of_lt hj, BitVec.toNat_ushiftRight]
    rfl
  rw [← Int64.toBitVec_inj, Int64.toBitVec_and, e]
  show w.toBitVec >>> j &&& 1#64 = 0#64 ↔ _
  constructor
  · intro h
    have t := congrArg (fun x => x.getLsbD 0) h
    simpa using t
  · intro h
    apply BitVec.eq_of_getLsbD_eq
    intro i hi
    cases i with
    | zero => simp [h]
    | succ i => simp
theorem ts_or {w m : Int64} {j : Nat} (hj : j < 64) (hm : m.toBitVec = BitVec.twoPow 64 j) : (w ||| m) = w ↔ w.toBitVec.getLsbD j = true := by
  rw [← Int64.toBitVec_inj, Int64.toBitVec_or, hm]
  constructor
  · intro h
    have t := congrArg (fun x => x.getLsbD j) h
    simp only [BitVec.getLsbD_or, BitVec.getLsbD_twoPow] at t
    simpa [hj] using t.symm
  · intro h
    apply BitVec.eq_of_getLsbD_eq
    intro i hi
    rw [BitVec.getLsbD_or, BitVec.getLsbD_twoPow]
    by_cases e : j = i
    · subst e; rw [h, Bool.true_or]
    · simp [e]
end
section
/-! the plain law: answers 0 and 1, paths by passes, the left unfolding, what assignable asks -/
noncomputable def ht_b (p : Prop) : Int32 := @ite _ p (Classical.propDecidable p) 1 0
theorem ht_b1 {p : Prop} (h : p) : ht_b p = 1 := if_pos h
theorem ht_b0 {p : Prop} (h : ¬ p) : ht_b p = 0 := if_neg h
theorem ht_bc {p q : Prop} (h : p ↔ q) : ht_b p = ht_b q := by rw [propext h]
theorem ht_bz {p : Prop} : ht_b p = 0 ↔ ¬ p := by
  by_cases h : p
  · rw [ht_b1 h]; exact ⟨fun z => absurd z (by decide), fun z => absurd h z⟩
  · exact ⟨fun _ => h, fun _ => ht_b0 h⟩
theorem ht_bn (p : Prop) : narrow .boolean (.int (ht_b p)) = .int (ht_b p) := by
  by_cases h : p
  · rw [ht_b1 h]; rfl
  · rw [ht_b0 h]; rfl
/-- a path whose inner points are below k -/
def ht_W (M : Nat → Nat → Prop) : Nat → Nat → Nat → Prop
  | 0 => fun a b => M a b
  | k + 1 => fun a b => ht_W M k a b ∨ (ht_W M k a k ∧ ht_W M k k b)
theorem ht_Wi {M : Nat → Nat → Prop} {k a b : Nat} (h : ht_W M k a b) : ht_W M (k + 1) a b := Or.inl h
theorem ht_Wc {M : Nat → Nat → Prop} {k a : Nat} : ht_W M (k + 1) a k ↔ ht_W M k a k := ⟨fun h => Or.elim h id (fun z => z.1), ht_Wi⟩
theorem ht_Wr {M : Nat → Nat → Prop} {k b : Nat} : ht_W M (k + 1) k b ↔ ht_W M k k b := ⟨fun h => Or.elim h id (fun z => z.2), ht_Wi⟩
theorem ht_Wm {M : Nat → Nat → Prop} {a b : Nat} (h : M a b) : ∀ k, ht_W M k a b := by
  intro k
  induction k with
  | zero => exact h
  | succ k ih => exact ht_Wi ih
theorem ht_Wt {M : Nat → Nat → Prop} : ∀ (k a j b : Nat), j < k → ht_W M k a j → ht_W M k j b → ht_W M k a b := by
  intro k
  induction k with
  | zero => intro a j b h; exact absurd h (Nat.not_lt_zero j)
  | succ k ih =>
    intro a j b hj h1 h2
    rcases Nat.lt_or_ge j k with z | z
    · rcases h1 with h1 | ⟨h1, h3⟩
      · rcases h2 with h2 | ⟨h2, h4⟩
        · exact Or.inl (ih a j b z h1 h2)
        · exact Or.inr ⟨ih a j k z h1 h2, h4⟩
      · rcases h2 with h2 | ⟨h2, h4⟩
        · exact Or.inr ⟨h1, ih k j b z h3 h2⟩
        · exact Or.inr ⟨h1, h4⟩
    · have e : j = k := by omega
      subst e
      exact Or.inr ⟨ht_Wc.mp h1, ht_Wr.mp h2⟩
theorem ht_Ws {M R : Nat → Nat → Prop} (hM : ∀ a b, M a b → R a b) (hR : ∀ a j b, R a j → R j b → R a b) : ∀ (k a b : Nat), ht_W M k a b → R a b := by
  intro k
  induction k with
  | zero => exact hM
  | succ k ih =>
    intro a b h
    rcases h with h | ⟨h1, h2⟩
    · exact ih a b h
    · exact hR a k b (ih a k h1) (ih k b h2)
/-- P answers by one step to the left -/
def ht_L (n : Nat) (E P : Nat → Nat → Prop) : Prop := ∀ x y, x < n → (P x y ↔ x = y ∨ ∃ s, E x s ∧ P s y)
def ht_N (n : Nat) (E : Nat → Nat → Prop) (a b : Nat) : Prop := a < n ∧ (a = b ∨ E a b)
theorem ht_WL {n cp : Nat} {E : Nat → Nat → Prop} (hn : n ≤ cp) (hE : ∀ a s, E a s → s < a) : ht_L n E (ht_W (ht_N n E) cp) := by
  have hb : ∀ a b, ht_W (ht_N n E) cp a b → a < n ∧ b < n := by
    refine ht_Ws (R := fun a b => a < n ∧ b < n) ?_ ?_ cp
    · intro a b h
      rcases h with ⟨h1, h2 | h2⟩
      · exact ⟨h1, by omega⟩
      · exact ⟨h1, by have := hE a b h2; omega⟩
    · exact fun a j b h1 h2 => ⟨h1.1, h2.2⟩
  have ht : ∀ a j b, ht_W (ht_N n E) cp a j → ht_W (ht_N n E) cp j b → ht_W (ht_N n E) cp a b := by
    intro a j b h1 h2
    have := (hb a j h1).2
    exact ht_Wt cp a j b (by omega) h1 h2
  intro x y hx
  constructor
  · intro h
    have key : x < n ∧ (x = y ∨ ∃ s, E x s ∧ ht_W (ht_N n E) cp s y) := by
      refine ht_Ws (M := ht_N n E) (R := fun x y => x < n ∧ (x = y ∨ ∃ s, E x s ∧ ht_W (ht_N n E) cp s y)) ?_ ?_ cp x y h
      · intro a b h
        rcases h with ⟨h1, h2 | h2⟩
        · exact ⟨h1, Or.inl h2⟩
        · have := hE a b h2
          exact ⟨h1, Or.inr ⟨b, h2, ht_Wm ⟨by omega, Or.inl rfl⟩ cp⟩⟩
      · intro a j b h1 h2
        refine ⟨h1.1, ?_⟩
        rcases h1.2 with e | ⟨s, hs, hw⟩
        · subst e; exact h2.2
        · refine Or.inr ⟨s, hs, ?_⟩
          rcases h2.2 with e | ⟨s', hs', hw'⟩
          · subst e; exact hw
          · exact ht s j b hw (ht j s' b (ht_Wm ⟨h2.1, Or.inr hs'⟩ cp) hw')
    exact key.2
  · intro h
    rcases h with e | ⟨s, hs, hw⟩
    · subst e; exact ht_Wm ⟨hx, Or.inl rfl⟩ cp
    · exact ht x s y (ht_Wm ⟨hx, Or.inr hs⟩ cp) hw
section
variable {n : Nat} {E P : Nat → Nat → Prop}
theorem ht_Lr (H : ht_L n E P) {x : Nat} (hx : x < n) : P x x := (H x x hx).mpr (Or.inl rfl)
theorem ht_Le (H : ht_L n E P) (hE : ∀ a s, E a s → s < a) {x s : Nat} (hx : x < n) (h : E x s) : P x s := by
  have := hE x s h
  exact (H x s hx).mpr (Or.inr ⟨s, h, ht_Lr H (by omega)⟩)
theorem ht_Lle (H : ht_L n E P) (hE : ∀ a s, E a s → s < a) : ∀ x y, x < n → P x y → y ≤ x := by
  intro x
  induction x using Nat.strongRecOn with
  | _ x ih =>
    intro y hx h
    rcases (H x y hx).mp h with e | ⟨s, hs, hp⟩
    · omega
    · have h1 := hE x s hs
      have h2 := ih s h1 y (by omega) hp
      omega
theorem ht_Lt (H : ht_L n E P) (hE : ∀ a s, E a s → s < a) : ∀ x y z, x < n → P x y → P y z → P x z := by
  intro x
  induction x using Nat.strongRecOn with
  | _ x ih =>
    intro y z hx h1 h2
    rcases (H x y hx).mp h1 with e | ⟨s, hs, hp⟩
    · subst e; exact h2
    · have h3 := hE x s hs
      exact (H x z hx).mpr (Or.inr ⟨s, hs, ih s h3 y z (by omega) hp h2⟩)
theorem ht_Lc (H : ht_L n E P) (hE : ∀ a s, E a s → s < a) {T : Nat → Prop} (hT : ∀ j s, j < n → T j → E j s → T s) : ∀ x y, x < n → P x y → T x → T y := by
  intro x
  induction x using Nat.strongRecOn with
  | _ x ih =>
    intro y hx h1 h2
    rcases (H x y hx).mp h1 with e | ⟨s, hs, hp⟩
    · subst e; exact h2
    · have h3 := hE x s hs
      exact ih s h3 y (by omega) hp (hT x s hx h2 hs)
end
section
variable {n : Nat} {E1 E2 P1 P2 : Nat → Nat → Prop} {I : Nat → Prop}
theorem ht_root (H1 : ht_L n E1 P1) (d1 : ∀ a s, E1 a s → s < a) (hr : ∀ a, 0 < a → a < n → ∃ s, E1 a s) : ∀ x, x < n → P1 x 0 := by
  intro x
  induction x using Nat.strongRecOn with
  | _ x ih =>
    intro hx
    rcases Nat.eq_zero_or_pos x with e | e
    · subst e; exact ht_Lr H1 hx
    · obtain ⟨s, hs⟩ := hr x e hx
      have h := d1 x s hs
      exact (H1 x 0 hx).mpr (Or.inr ⟨s, hs, ih s h (by omega)⟩)
theorem ht_sub (H1 : ht_L n E1 P1) (H2 : ht_L n E2 P2) (d1 : ∀ a s, E1 a s → s < a) (hs : ∀ a s, E1 a s → E2 a s) : ∀ x y, x < n → P1 x y → P2 x y := by
  intro x
  induction x using Nat.strongRecOn with
  | _ x ih =>
    intro y hx h
    rcases (H1 x y hx).mp h with e | ⟨s, h1, hp⟩
    · subst e; exact ht_Lr H2 hx
    · have h3 := d1 x s h1
      exact (H2 x y hx).mpr (Or.inr ⟨s, hs x s h1, ih s h3 y (by omega) hp⟩)
theorem ht_if0 (H2 : ht_L n E2 P2) (d2 : ∀ a s, E2 a s → s < a) (hi : ∀ a s, a < n → E2 a s → E1 a s ∨ I s) (h0 : ∀ a s, a < n → I a → E1 a s → s = 0) : ∀ x t, x < n → I x → ¬ I t → P2 x t → t = 0 := by
  intro x
  induction x using Nat.strongRecOn with
  | _ x ih =>
    intro t hx hI ht h
    rcases (H2 x t hx).mp h with e | ⟨s, h1, hp⟩
    · subst e; exact absurd hI ht
    · have h3 := d2 x s h1
      rcases hi x s hx h1 with h4 | h4
      · have e := h0 x s hx hI h4
        subst e
        have := ht_Lle H2 d2 0 t (by omega) hp
        omega
      · exact ih s h3 t (by omega) h4 ht hp
theorem ht_cls (H1 : ht_L n E1 P1) (H2 : ht_L n E2 P2) (d1 : ∀ a s, E1 a s → s < a) (d2 : ∀ a s, E2 a s → s < a) (hi : ∀ a s, a < n → E2 a s → E1 a s ∨ I s) (h0 : ∀ a s, a < n → I a → E1 a s → s = 0) (hr : ∀ a, 0 < a → a < n → ∃ s, E1 a s) : ∀ x t, x < n → ¬ I t → P2 x t → P1 x t := by
  intro x
  induction x using Nat.strongRecOn with
  | _ x ih =>
    intro t hx ht h
    rcases (H2 x t hx).mp h with e | ⟨s, h1, hp⟩
    · subst e; exact ht_Lr H1 hx
    · have h3 := d2 x s h1
      rcases hi x s hx h1 with h4 | h4
      · exact (H1 x t hx).mpr (Or.inr ⟨s, h4, ih s h3 t (by omega) ht hp⟩)
      · have e := ht_if0 H2 d2 hi h0 s t (by omega) h4 ht hp
        subst e
        exact ht_root H1 d1 hr x hx
end
end
section
/-! the state: steps, reach, well formed; bits -/
def ht_E (m : Nat) (S EF ET : Nat → Int32) (w : Int32) (a b : Nat) : Prop := b < a ∧ (S a = nI b ∨ (¬ w = 0 ∧ ∃ e, e < m ∧ EF e = nI a ∧ ET e = nI b))
def ht_P (cp n m : Nat) (S EF ET : Nat → Int32) (w : Int32) : Nat → Nat → Prop := ht_W (ht_N n (ht_E m S EF ET w)) cp
def ht_F (cp n m : Nat) (S F EF ET : Nat → Int32) : Prop :=
  (1 ≤ cp ∧ cp ≤ 8 ∧ n ≤ cp ∧ m ≤ cp) ∧ (0 < n → S 0 = -1 ∧ F 0 &&& 512 = 0) ∧ (∀ x, 0 < x → x < n → ∃ s, s < x ∧ S x = nI s ∧ F s &&& 512 = 0) ∧ (∀ x, x < n → ¬ F x &&& 512 = 0 → S x = nI 0) ∧ (∀ e, e < m → ∃ a b, b < a ∧ a < n ∧ EF e = nI a ∧ ET e = nI b ∧ ¬ F b &&& 512 = 0)
theorem ht_Ed {m : Nat} {S EF ET : Nat → Int32} {w : Int32} : ∀ a s, ht_E m S EF ET w a s → s < a := fun _ _ h => h.1
theorem ht_PL {cp n m : Nat} {S F EF ET : Nat → Int32} (w : Int32) (hF : ht_F cp n m S F EF ET) : ht_L n (ht_E m S EF ET w) (ht_P cp n m S EF ET w) := ht_WL hF.1.2.2.1 ht_Ed
theorem ht_E0s {m : Nat} {S EF ET : Nat → Int32} {x s b : Nat} (hx : x < 8) (hs : s < x) (e : S x = nI s) : ht_E m S EF ET 0 x b ↔ b = s := by
  constructor
  · intro h
    rcases h with ⟨h1, h2 | ⟨h2, h3⟩⟩
    · rw [e] at h2
      exact ((nI_eq (by omega) (by omega)).mp h2).symm
    · exact absurd rfl h2
  · intro h
    subst h
    exact ⟨hs, Or.inl e⟩
theorem ht_m1 {b : Nat} (h : b < 8) : ¬ (-1 : Int32) = nI b := by
  intro z
  have h1 : ¬ nI b < 0 := nI_pos (by omega)
  rw [← z] at h1
  exact h1 (by decide)
section
variable {cp n m : Nat} {S F EF ET : Nat → Int32}
theorem ht_E1 (hF : ht_F cp n m S F EF ET) {a b : Nat} (ha : a < n) (hb : b < cp) : ht_E m S EF ET 0 a b ↔ S a = nI b := by
  obtain ⟨⟨w1, w2, w3, w4⟩, w5, w6, w7, w8⟩ := hF
  constructor
  · intro h
    rcases h with ⟨h1, h2 | ⟨h2, h3⟩⟩
    · exact h2
    · exact absurd rfl h2
  · intro h
    refine ⟨?_, Or.inl h⟩
    rcases Nat.eq_zero_or_pos a with e | e
    · subst e
      rw [(w5 ha).1] at h
      exact absurd h (ht_m1 (by omega))
    · obtain ⟨s, h1, h2, _⟩ := w6 a e ha
      rw [h2] at h
      have := (nI_eq (by omega) (by omega)).mp h
      omega
theorem ht_E2 (hF : ht_F cp n m S F EF ET) {w : Int32} (hw : ¬ w = 0) {a b : Nat} (ha : a < n) (hb : b < cp) : ht_E m S EF ET w a b ↔ S a = nI b ∨ ∃ e, e < m ∧ EF e = nI a ∧ ET e = nI b := by
  constructor
  · intro h
    rcases h with ⟨h1, h2 | ⟨h2, h3⟩⟩
    · exact Or.inl h2
    · exact Or.inr h3
  · intro h
    rcases h with h | ⟨e, h1, h2, h3⟩
    · exact ⟨((ht_E1 hF ha hb).mpr h).1, Or.inl h⟩
    · obtain ⟨⟨w1, w2, w3, w4⟩, w5, w6, w7, w8⟩ := hF
      obtain ⟨a', b', k1, k2, k3, k4, k5⟩ := w8 e h1
      have e1 : a' = a := (nI_eq (by omega) (by omega)).mp (k3.symm.trans h2)
      have e2 : b' = b := (nI_eq (by omega) (by omega)).mp (k4.symm.trans h3)
      exact ⟨by omega, Or.inr ⟨hw, e, h1, h2, h3⟩⟩
theorem ht_as (hF : ht_F cp n m S F EF ET) {c t : Nat} (hc : c < n) (ht : F t &&& 512 = 0) (h : ht_P cp n m S EF ET 1 c t) : ht_P cp n m S EF ET 0 c t ∧ (¬ F c &&& 512 = 0 → t = 0) := by
  have H1 := ht_PL 0 hF
  have H2 := ht_PL 1 hF
  obtain ⟨⟨w1, w2, w3, w4⟩, w5, w6, w7, w8⟩ := hF
  have hi : ∀ a s, a < n → ht_E m S EF ET 1 a s → ht_E m S EF ET 0 a s ∨ ¬ F s &&& 512 = 0 := by
    intro a s ha h
    rcases h with ⟨h1, h2 | ⟨h2, e, h3, h4, h5⟩⟩
    · exact Or.inl ⟨h1, Or.inl h2⟩
    · obtain ⟨a', b', k1, k2, k3, k4, k5⟩ := w8 e h3
      have e2 : b' = s := (nI_eq (by omega) (by omega)).mp (k4.symm.trans h5)
      subst e2
      exact Or.inr k5
  have h0 : ∀ a s, a < n → ¬ F a &&& 512 = 0 → ht_E m S EF ET 0 a s → s = 0 := by
    intro a s ha hI h
    exact ((ht_E0s (s := 0) (by omega) (by have := h.1; omega) (w7 a ha hI)).mp h)
  have hr : ∀ a, 0 < a → a < n → ∃ s, ht_E m S EF ET 0 a s := by
    intro a h1 h2
    obtain ⟨s, h3, h4, _⟩ := w6 a h1 h2
    exact ⟨s, h3, Or.inl h4⟩
  exact ⟨ht_cls (I := fun s => ¬ F s &&& 512 = 0) H1 H2 ht_Ed ht_Ed hi h0 hr c t hc (fun z => z ht) h, fun hI => ht_if0 (I := fun s => ¬ F s &&& 512 = 0) H2 ht_Ed hi h0 c t hc hI (fun z => z ht) h⟩
theorem ht_up12 (hF : ht_F cp n m S F EF ET) {c t : Nat} (hc : c < n) (h : ht_P cp n m S EF ET 0 c t) : ht_P cp n m S EF ET 1 c t := by
  refine ht_sub (ht_PL 0 hF) (ht_PL 1 hF) ht_Ed ?_ c t hc h
  intro a s h
  rcases h with ⟨h1, h2 | ⟨h2, h3⟩⟩
  · exact ⟨h1, Or.inl h2⟩
  · exact absurd rfl h2
theorem ht_rt (hF : ht_F cp n m S F EF ET) {c : Nat} (hc : c < n) : ht_P cp n m S EF ET 1 c 0 := by
  refine ht_up12 hF hc (ht_root (ht_PL 0 hF) ht_Ed ?_ c hc)
  intro a h1 h2
  obtain ⟨s, h3, h4, _⟩ := hF.2.2.1 a h1 h2
  exact ⟨s, h3, Or.inl h4⟩
end
/-! bits -/
theorem ht_bit (x : Int32) {l : Nat} (hl : l < 32) : (x &&& ((1 : Int32) <<< (nI l &&& 31))) = 0 ↔ bt x l = false := by
  rw [← Int32.toBitVec_inj, Int32.toBitVec_and, nf_sh l hl, BitVec.and_twoPow]
  show _ = 0#32 ↔ x.toBitVec.getLsbD l = false
  cases hb : x.toBitVec.getLsbD l
  · exact ⟨fun _ => rfl, fun _ => by simp⟩
  · refine ⟨fun z => ?_, fun z => absurd z (by decide)⟩
    have t := congrArg (fun y => y.getLsbD l) z
    simp [hl] at t
theorem ht_one {l j : Nat} (hl : l < 32) : bt ((1 : Int32) <<< (nI l &&& 31)) j = true ↔ l = j := by
  unfold bt
  rw [nf_sh l hl, BitVec.getLsbD_twoPow]
  simp [hl]
theorem ht_bor (x : Int32) {l j : Nat} (hl : l < 32) : bt (x ||| ((1 : Int32) <<< (nI l &&& 31))) j = true ↔ bt x j = true ∨ l = j := by
  rw [b_or, Bool.or_eq_true, ht_one hl]
theorem ht_c64 : ∀ b, b < 64 → ((nI b).toInt64.toUInt64 &&& Int64.toUInt64 63).toNat = b := by decide +kernel
theorem ht_s64 : ∀ b, b < 64 → ((1 : Int64) <<< ((nI b).toInt64 &&& 63)).toBitVec = BitVec.twoPow 64 b := by decide +kernel
theorem ht_512 (x : Int32) : (x &&& 65535) &&& 512 = x &&& 512 := by
  rw [Int32.and_assoc]; rfl
theorem ht_two {c : Int32} {l : Nat} (hc : ∀ i, i < 32 → bt c i = decide (i = l)) (x : Int32) : x &&& c = 0 ∨ x &&& c = c := by
  cases hb : bt x l
  · left
    apply b_ext
    intro i hi
    rw [b_and, hc i hi, b_0]
    by_cases e : i = l
    · subst e; rw [hb]; rfl
    · rw [decide_eq_false e, Bool.and_false]
  · right
    apply b_ext
    intro i hi
    rw [b_and, hc i hi]
    by_cases e : i = l
    · subst e; rw [hb, Bool.true_and]
    · rw [decide_eq_false e, Bool.and_false]
theorem ht_t512 (x : Int32) : x &&& 512 = 0 ∨ x &&& 512 = 512 := ht_two (l := 9) (by decide +kernel) x
theorem ht_t16 (x : Int32) : x &&& 16 = 0 ∨ x &&& 16 = 16 := ht_two (l := 4) (by decide +kernel) x
theorem ht_t1024 (x : Int32) : x &&& 1024 = 0 ∨ x &&& 1024 = 1024 := ht_two (l := 10) (by decide +kernel) x
theorem ht_528 (x : Int32) : x &&& 528 = (x &&& 512) ||| (x &&& 16) := by
  apply b_ext
  intro i hi
  rw [b_or, b_and, b_and, b_and, (by decide +kernel : ∀ i, i < 32 → bt 528 i = (bt 512 i || bt 16 i)) i hi]
  cases bt x i <;> rfl
theorem ht_1552 (x : Int32) : x &&& 1552 = ((x &&& 512) ||| (x &&& 16)) ||| (x &&& 1024) := by
  apply b_ext
  intro i hi
  rw [b_or, b_or, b_and, b_and, b_and, b_and, (by decide +kernel : ∀ i, i < 32 → bt 1552 i = ((bt 512 i || bt 16 i) || bt 1024 i)) i hi]
  cases bt x i <;> rfl
theorem ht_pk (x : Int32) : x.toInt16.toInt32 &&& 65535 = x &&& 65535 := by
  apply Int32.toBitVec_inj.mp
  rw [Int32.toBitVec_and, Int32.toBitVec_and, Int16.toBitVec_toInt32, Int32.toBitVec_toInt16]
  apply BitVec.eq_of_getLsbD_eq
  intro i hi
  rw [BitVec.getLsbD_and, BitVec.getLsbD_and]
  have hm : ∀ i < 32, 16 ≤ i → (65535 : Int32).toBitVec.getLsbD i = false := by decide
  rcases Nat.lt_or_ge i 16 with z | z
  · rw [BitVec.getLsbD_signExtend, BitVec.getLsbD_signExtend, if_pos z, if_pos hi]
    simp only [z, hi, decide_true, Bool.true_and]
  · rw [hm i hi z]; simp
theorem ht_by : ∀ s, s < 8 → vp_nar .byte (nI s).toInt8.toInt32 = nI s := by
  intro s hs
  rw [pk_vb]
  exact (by decide +kernel : ∀ s, s < 8 → (nI s).toInt8.toInt32 = nI s) s hs
theorem ht_by1 : vp_nar .byte (-1 : Int32).toInt8.toInt32 = -1 := by rw [pk_vb]; decide
theorem ht_ch (x : Int32) : vp_nar .char (x.toUInt32 % 65536).toInt32 = x &&& 65535 := by
  rw [pk_vc]
  obtain ⟨w, _, h1, h2⟩ := em_w x
  rw [h1, h2]
theorem ht_sh : ∀ s, s < 16 → (nI s + 1).toInt16.toInt32 = nI (s + 1) := by decide +kernel
/-! the matrix: index within, its number, two places with one index -/
theorem ht_lt {cp a b : Nat} (h : cp ≤ 8) (ha : a < cp) (hb : b < cp) : a * cp + b < 64 := by
  have h1 : (a + 1) * cp ≤ 8 * 8 := Nat.mul_le_mul (by omega) h
  rw [Nat.succ_mul] at h1
  omega
theorem ht_in {cp a b : Nat} (h : cp ≤ 8) (ha : a < cp) (hb : b < cp) : vp_in (nI a * nI cp + nI b) 64 := by
  rw [pk_mul, nI_add]
  exact vp_in_nI (ht_lt h ha hb) (by omega)
theorem ht_ix {cp a b : Nat} (h : cp ≤ 8) (ha : a < cp) (hb : b < cp) : (nI a * nI cp + nI b).toNatClampNeg = a * cp + b := by
  have := ht_lt h ha hb
  rw [pk_mul, nI_add, nI_clamp (by omega)]
theorem ht_inj {cp a b a' b' : Nat} (hb : b < cp) (hb' : b' < cp) (h : a * cp + b = a' * cp + b') : a = a' ∧ b = b' := by
  rcases Nat.lt_trichotomy a a' with z | z | z
  · have h1 : (a + 1) * cp ≤ a' * cp := Nat.mul_le_mul_right cp z
    rw [Nat.succ_mul] at h1
    omega
  · subst z
    exact ⟨rfl, by omega⟩
  · have h1 : (a' + 1) * cp ≤ a * cp := Nat.mul_le_mul_right cp z
    rw [Nat.succ_mul] at h1
    omega
end
section
/-! the component's queries, each against ht_P, for every post -/
section
variable {cp n m : Nat} {S F PG EF ET : Nat → Int32}
theorem ht_xv1 {post : Int32 → Prop} {j : Nat} (hj : j < n) (hn : n ≤ 8) (hp : post 1) : wpX_valid post (nI cp, nI n, nI m, S, F, PG, EF, ET) (nI j) :=
  br_f (nI_pos (by omega)) (br_f (nI_ge hj (by omega)) hp)
theorem ht_xv0 {post : Int32 → Prop} {x : Int32} (hx : ¬ ∃ j, j < n ∧ x = nI j) (hn : n ≤ 8) (hp : post 0) : wpX_valid post (nI cp, nI n, nI m, S, F, PG, EF, ET) x := by
  rcases pk_ix x (n := n) (by omega) with h | h | h
  · exact br_t h hp
  · exact br_c (fun _ => hp) (fun _ => br_t h hp)
  · exact absurd h hx
theorem ht_x20 (hF : ht_F cp n m S F EF ET) {post : Int32 → Prop} {d : Nat} (hd : d < n) : ∀ (f x : Nat), x < n → x + 1 < f → post (ht_b (ht_P cp n m S EF ET 0 x d)) → wX_isSubclass_20 post (nI d) (nI cp) (nI n) (nI m) S F PG EF ET f (nI x) := by
  have HL := ht_PL 0 hF
  obtain ⟨⟨w1, w2, w3, w4⟩, w5, w6, w7, w8⟩ := hF
  intro f
  induction f with
  | zero => intro x _ h; omega
  | succ f ih =>
    intro x hx hf hp
    refine br_f (nI_pos (by omega)) ?_
    by_cases e : x = d
    · subst e
      rw [ht_b1 (ht_Lr HL hx)] at hp
      exact br_t rfl hp
    · refine br_f (fun z => e ((nI_eq (by omega) (by omega)).mp z)) ⟨vp_in_nI (by omega) (by omega), ?_⟩
      intro y ey
      rw [nI_clamp (by omega)] at ey
      rcases Nat.eq_zero_or_pos x with x0 | x0
      · subst x0
        rw [(w5 hx).1] at ey
        subst ey
        obtain ⟨g, rfl⟩ : ∃ g, f = g + 1 := ⟨f - 1, by omega⟩
        have hno : ¬ ht_P cp n m S EF ET 0 0 d := by
          intro z
          rcases (HL 0 d hx).mp z with h | ⟨s, h, _⟩
          · exact e h
          · exact absurd h.1 (Nat.not_lt_zero s)
        rw [ht_b0 hno] at hp
        exact br_t (by decide) hp
      · obtain ⟨s, hs, es, _⟩ := w6 x x0 hx
        rw [es] at ey
        subst ey
        refine ih s (by omega) (by omega) ?_
        have hq : ht_P cp n m S EF ET 0 s d ↔ ht_P cp n m S EF ET 0 x d := by
          rw [HL x d hx]
          constructor
          · intro h
            exact Or.inr ⟨s, (ht_E0s (by omega) hs es).mpr rfl, h⟩
          · intro h
            rcases h with h | ⟨s', h1, h2⟩
            · exact absurd h e
            · rw [ht_E0s (by omega) hs es] at h1
              subst h1
              exact h2
        rw [ht_bc hq]
        exact hp
theorem ht_xis (hF : ht_F cp n m S F EF ET) {post : Int32 → Prop} {c d : Nat} (hc : c < n) (hd : d < n) (hp : post (ht_b (ht_P cp n m S EF ET 0 c d))) : wpX_isSubclass post (nI cp, nI n, nI m, S, F, PG, EF, ET) (nI c) (nI d) := by
  have hn : n ≤ 8 := by have h := hF.1; omega
  unfold wpX_isSubclass
  dsimp only
  refine ht_xv1 hc hn (br_f (by decide) ?_)
  refine ht_xv1 hd hn (br_f (by decide) ?_)
  exact ⟨c + 2, ht_x20 hF hd (c + 2) c hc (by omega) hp⟩
theorem ht_xis0 (hF : ht_F cp n m S F EF ET) {post : Int32 → Prop} {x y : Int32} (h : ¬ ((∃ j, j < n ∧ x = nI j) ∧ ∃ j, j < n ∧ y = nI j)) (hp : post 0) : wpX_isSubclass post (nI cp, nI n, nI m, S, F, PG, EF, ET) x y := by
  have hn : n ≤ 8 := by have h := hF.1; omega
  unfold wpX_isSubclass
  dsimp only
  by_cases h1 : ∃ j, j < n ∧ x = nI j
  · have h2 : ¬ ∃ j, j < n ∧ y = nI j := fun z => h ⟨h1, z⟩
    obtain ⟨c, hc, rfl⟩ := h1
    refine ht_xv1 hc hn (br_f (by decide) ?_)
    exact ht_xv0 h2 hn (br_t rfl hp)
  · exact ht_xv0 h1 hn (br_t rfl hp)
theorem ht_x78 (hF : ht_F cp n m S F EF ET) {post : Int32 → Prop} {J : Int32 → Int32 → Prop} {t : Int32} {x : Nat} : ∀ (f e : Nat) (k : Int32), e ≤ m → m < e + f → (∀ k' : Int32, (∀ j, j < 32 → (bt k' j = true ↔ bt k j = true ∨ ∃ e', e ≤ e' ∧ e' < m ∧ EF e' = nI x ∧ ET e' = nI j)) → J k' (nI x + (-1))) → wX_implementsIface_78 post J t (nI x) (nI cp) (nI n) (nI m) S F PG EF ET f k (nI e) := by
  obtain ⟨⟨w1, w2, w3, w4⟩, w5, w6, w7, w8⟩ := hF
  intro f
  induction f with
  | zero => intro e k h1 h2; omega
  | succ f ih =>
    intro e k h1 h2 hJ
    rcases Nat.lt_or_ge e m with h | h
    · refine br_f (nI_ge h (by omega)) ⟨vp_in_nI (by omega) (by omega), ?_⟩
      obtain ⟨a, b, k1, k2, k3, k4, k5⟩ := w8 e h
      by_cases he : EF e = nI x
      · refine br_t (by rw [nI_clamp (by omega)]; exact he) ⟨vp_in_nI (by omega) (by omega), ?_⟩
        intro y ey z ez
        rw [nI_clamp (by omega), k4] at ey
        rw [nI_1] at ez
        subst ez
        subst ey
        refine ih (e + 1) _ (by omega) (by omega) ?_
        intro k' hk'
        refine hJ k' ?_
        intro j hj
        rw [hk' j hj, ht_bor k (by omega)]
        constructor
        · intro z
          rcases z with (z | z) | ⟨e', z1, z2, z3, z4⟩
          · exact Or.inl z
          · exact Or.inr ⟨e, Nat.le_refl e, h, he, by rw [k4, z]⟩
          · exact Or.inr ⟨e', by omega, z2, z3, z4⟩
        · intro z
          rcases z with z | ⟨e', z1, z2, z3, z4⟩
          · exact Or.inl (Or.inl z)
          · by_cases q : e' = e
            · subst q
              rw [k4] at z4
              exact Or.inl (Or.inr ((nI_eq (by omega) (by omega)).mp z4))
            · exact Or.inr ⟨e', by omega, z2, z3, z4⟩
      · refine br_f (by rw [nI_clamp (by omega)]; exact he) ?_
        intro z ez
        rw [nI_1] at ez
        subst ez
        refine ih (e + 1) _ (by omega) (by omega) ?_
        intro k' hk'
        refine hJ k' ?_
        intro j hj
        rw [hk' j hj]
        constructor
        · intro z
          rcases z with z | ⟨e', z1, z2, z3, z4⟩
          · exact Or.inl z
          · exact Or.inr ⟨e', by omega, z2, z3, z4⟩
        · intro z
          rcases z with z | ⟨e', z1, z2, z3, z4⟩
          · exact Or.inl z
          · by_cases q : e' = e
            · subst q
              exact absurd z3 he
            · exact Or.inr ⟨e', by omega, z2, z3, z4⟩
    · refine br_t (nI_le h (by omega)) ?_
      intro y ey
      subst ey
      refine hJ k ?_
      intro j hj
      constructor
      · exact Or.inl
      · intro z
        rcases z with z | ⟨e', z1, z2, z3, z4⟩
        · exact z
        · omega
theorem ht_x40 (hF : ht_F cp n m S F EF ET) {post : Int32 → Prop} {c t : Nat} (hc : c < n) (ht : t < n) (hp : post (ht_b (ht_P cp n m S EF ET 1 c t))) : ∀ (f i : Nat) (k : Int32), i ≤ c + 1 → i < f → bt k c = true → (∀ j, j < 32 → bt k j = true → ht_P cp n m S EF ET 1 c j) → (∀ j, i ≤ j → j < 32 → bt k j = true → ∀ s, ht_E m S EF ET 1 j s → bt k s = true) → wX_implementsIface_40 post (nI t) (nI cp) (nI n) (nI m) S F PG EF ET f k (nI i + (-1)) := by
  have HL := ht_PL 1 hF
  have hF' := hF
  obtain ⟨⟨w1, w2, w3, w4⟩, w5, w6, w7, w8⟩ := hF'
  intro f
  induction f with
  | zero => intro i k h1 h2; omega
  | succ f ih =>
    intro i k h1 h2 kc ks kx
    rcases Nat.eq_zero_or_pos i with i0 | i0
    · subst i0
      refine br_t (by decide) ?_
      by_cases hb : bt k t = true
      · rw [ht_b1 (ks t (by omega) hb)] at hp
        exact br_f (fun z => by rw [ht_bit k (by omega), hb] at z; exact absurd z (by decide)) hp
      · have hno : ¬ ht_P cp n m S EF ET 1 c t := by
          intro z
          exact hb (ht_Lc HL ht_Ed (T := fun j => bt k j = true) (fun j s hj h3 h4 => kx j (Nat.zero_le j) (by omega) h3 s h4) c t hc z kc)
        rw [ht_b0 hno] at hp
        exact br_t ((ht_bit k (by omega)).mpr (ts_nt hb)) hp
    · obtain ⟨x, rfl⟩ : ∃ x, i = x + 1 := ⟨i - 1, by omega⟩
      rw [pk_m1]
      refine br_f (nI_pos (by omega)) ?_
      by_cases hb : bt k x = true
      · have go : ∀ k' : Int32, (∀ j, j < 32 → (bt k' j = true ↔ bt k j = true ∨ ht_E m S EF ET 1 x j)) → wX_implementsIface_40 post (nI t) (nI cp) (nI n) (nI m) S F PG EF ET f k' (nI x + (-1)) := by
          intro k' hk'
          have px := ks x (by omega) hb
          refine ih x k' (by omega) (by omega) ((hk' c (by omega)).mpr (Or.inl kc)) ?_ ?_
          · intro j hj h3
            rcases (hk' j hj).mp h3 with h4 | h4
            · exact ks j hj h4
            · exact ht_Lt HL ht_Ed c x j hc px (ht_Le HL ht_Ed (by omega) h4)
          · intro j hj hj2 h3 s hs
            have hs2 := hs.1
            refine (hk' s (by omega)).mpr ?_
            by_cases q : j = x
            · subst q
              exact Or.inr hs
            · rcases (hk' j hj2).mp h3 with h4 | h4
              · exact Or.inl (kx j (by omega) hj2 h4 s hs)
              · have := h4.1
                omega
        refine br_f (fun z => by rw [ht_bit k (by omega), hb] at z; exact absurd z (by decide)) ⟨vp_in_nI (by omega) (by omega), ?_⟩
        intro y ey
        rw [nI_clamp (by omega)] at ey
        rcases Nat.eq_zero_or_pos x with x0 | x0
        · subst x0
          rw [(w5 (by omega)).1] at ey
          subst ey
          refine br_t (by decide) ⟨m + 1, ht_x78 (x := 0) hF (m + 1) 0 k (Nat.zero_le m) (by omega) ?_⟩
          intro k' hk'
          refine go k' ?_
          intro j hj
          rw [hk' j hj]
          constructor
          · intro z
            rcases z with z | ⟨e', z1, z2, z3, z4⟩
            · exact Or.inl z
            · obtain ⟨a, b, k1, k2, k3, k4, k5⟩ := w8 e' z2
              have := (nI_eq (by omega) (by omega)).mp (k3.symm.trans z3)
              omega
          · intro z
            rcases z with z | z
            · exact Or.inl z
            · exact absurd z.1 (Nat.not_lt_zero j)
        · obtain ⟨s, hs, es, _⟩ := w6 x x0 (by omega)
          rw [es] at ey
          subst ey
          refine br_f (nI_pos (by omega)) ?_
          intro z ez
          subst ez
          refine ⟨m + 1, ht_x78 (x := x) hF (m + 1) 0 _ (Nat.zero_le m) (by omega) ?_⟩
          intro k' hk'
          refine go k' ?_
          intro j hj
          rw [hk' j hj, ht_bor k (by omega)]
          constructor
          · intro z
            rcases z with (z | z) | ⟨e', z1, z2, z3, z4⟩
            · exact Or.inl z
            · subst z
              exact Or.inr ⟨hs, Or.inl es⟩
            · obtain ⟨a, b, k1, k2, k3, k4, k5⟩ := w8 e' z2
              have q1 := (nI_eq (by omega) (by omega)).mp (k3.symm.trans z3)
              have q2 := (nI_eq (by omega) (by omega)).mp (k4.symm.trans z4)
              exact Or.inr ⟨by omega, Or.inr ⟨by decide, e', z2, z3, z4⟩⟩
          · intro z
            rcases z with z | ⟨z1, z2 | ⟨_, e', z2, z3, z4⟩⟩
            · exact Or.inl (Or.inl z)
            · rw [es] at z2
              exact Or.inl (Or.inr ((nI_eq (by omega) (by omega)).mp z2))
            · exact Or.inr ⟨e', Nat.zero_le e', z2, z3, z4⟩
      · refine br_t ((ht_bit k (by omega)).mpr (ts_nt hb)) ?_
        intro y ey
        subst ey
        refine ih x k (by omega) (by omega) kc ks ?_
        intro j hj hj2 h3
        by_cases q : j = x
        · subst q
          exact absurd h3 hb
        · exact kx j (by omega) hj2 h3
theorem ht_xim (hF : ht_F cp n m S F EF ET) {post : Int32 → Prop} {c t : Nat} (hc : c < n) (ht : t < n) (hp : post (ht_b (¬ F t &&& 512 = 0 ∧ ht_P cp n m S EF ET 1 c t))) : wpX_implementsIface post (nI cp, nI n, nI m, S, F, PG, EF, ET) (nI c) (nI t) := by
  have hn : n ≤ 8 := by have h := hF.1; omega
  unfold wpX_implementsIface
  dsimp only
  refine ht_xv1 hc hn (br_f (by decide) ?_)
  refine ht_xv1 ht hn (br_f (by decide) ?_)
  refine ⟨vp_in_nI (by omega) (by omega), ?_⟩
  rw [nI_clamp (by omega)]
  by_cases hi : F t &&& 512 = 0
  · rw [ht_b0 (fun z => z.1 hi)] at hp
    exact br_t hi hp
  · refine br_f hi ?_
    intro y ey
    subst ey
    rw [ht_bc (q := ht_P cp n m S EF ET 1 c t) ⟨fun z => z.2, fun z => ⟨hi, z⟩⟩] at hp
    have key := ht_x40 (PG := PG) hF hc ht hp (c + 2) (c + 1) ((1 : Int32) <<< (nI c &&& 31)) (by omega) (by omega) ((ht_one (by omega)).mpr rfl) ?_ ?_
    · rw [pk_m1] at key
      exact ⟨c + 2, key⟩
    · intro j hj h
      rw [ht_one (by omega)] at h
      subst h
      exact ht_Lr (ht_PL 1 hF) hc
    · intro j hj hj2 h
      rw [ht_one (by omega)] at h
      omega
theorem ht_xim0 (hF : ht_F cp n m S F EF ET) {post : Int32 → Prop} {x y : Int32} (h : ¬ ((∃ j, j < n ∧ x = nI j) ∧ ∃ j, j < n ∧ y = nI j)) (hp : post 0) : wpX_implementsIface post (nI cp, nI n, nI m, S, F, PG, EF, ET) x y := by
  have hn : n ≤ 8 := by have h := hF.1; omega
  unfold wpX_implementsIface
  dsimp only
  by_cases h1 : ∃ j, j < n ∧ x = nI j
  · have h2 : ¬ ∃ j, j < n ∧ y = nI j := fun z => h ⟨h1, z⟩
    obtain ⟨c, hc, rfl⟩ := h1
    refine ht_xv1 hc hn (br_f (by decide) ?_)
    exact ht_xv0 h2 hn (br_t rfl hp)
  · exact ht_xv0 h1 hn (br_t rfl hp)
theorem ht_xas (hF : ht_F cp n m S F EF ET) {post : Int32 → Prop} {c t : Nat} (hc : c < n) (ht : t < n) (hp : post (ht_b (ht_P cp n m S EF ET 1 c t))) : wpX_assignable post (nI cp, nI n, nI m, S, F, PG, EF, ET) (nI c) (nI t) := by
  have hn : n ≤ 8 := by have h := hF.1; omega
  unfold wpX_assignable
  dsimp only
  refine ht_xv1 hc hn (br_f (by decide) ?_)
  refine ht_xv1 ht hn (br_f (by decide) ?_)
  refine ⟨vp_in_nI (by omega) (by omega), ?_⟩
  by_cases hi : F t &&& 512 = 0
  · refine br_t (by rw [nI_clamp (by omega)]; exact hi) ⟨vp_in_nI (by omega) (by omega), ?_⟩
    by_cases hj : F c &&& 512 = 0
    · refine br_t (by rw [nI_clamp (by omega)]; exact hj) ?_
      have hq : ht_P cp n m S EF ET 0 c t ↔ ht_P cp n m S EF ET 1 c t := ⟨fun h => ht_up12 hF hc h, fun h => (ht_as hF hc hi h).1⟩
      refine ht_xis hF hc ht ?_
      refine ⟨ht_bn _, ?_⟩
      rw [ht_bc hq]
      exact hp
    · refine br_f (by rw [nI_clamp (by omega)]; exact hj) ?_
      by_cases e : t = 0
      · subst e
        rw [ht_b1 (ht_rt hF hc)] at hp
        exact br_t rfl hp
      · rw [ht_b0 (fun h => e ((ht_as hF hc hi h).2 hj))] at hp
        exact br_f (nI_ne0 (by omega) (by omega)) hp
  · refine br_f (by rw [nI_clamp (by omega)]; exact hi) ?_
    refine ht_xim hF hc ht ?_
    refine ⟨ht_bn _, ?_⟩
    rw [ht_bc (q := ht_P cp n m S EF ET 1 c t) ⟨fun z => z.2, fun z => ⟨hi, z⟩⟩]
    exact hp
theorem ht_xas0 (hF : ht_F cp n m S F EF ET) {post : Int32 → Prop} {x y : Int32} (h : ¬ ((∃ j, j < n ∧ x = nI j) ∧ ∃ j, j < n ∧ y = nI j)) (hp : post 0) : wpX_assignable post (nI cp, nI n, nI m, S, F, PG, EF, ET) x y := by
  have hn : n ≤ 8 := by have h := hF.1; omega
  unfold wpX_assignable
  dsimp only
  by_cases h1 : ∃ j, j < n ∧ x = nI j
  · have h2 : ¬ ∃ j, j < n ∧ y = nI j := fun z => h ⟨h1, z⟩
    obtain ⟨c, hc, rfl⟩ := h1
    refine ht_xv1 hc hn (br_f (by decide) ?_)
    exact ht_xv0 h2 hn (br_t rfl hp)
  · exact ht_xv0 h1 hn (br_t rfl hp)
end
end
section
/-! the reference's close: the matrix is filled with one step, then closed in three nested loops -/
def ht_R (cp : Nat) (RC : Nat → Int32) (G : Nat → Nat → Prop) : Prop := ∀ a b, a < cp → b < cp → RC (a * cp + b) = ht_b (G a b)
def ht_R0 (cp : Nat) (RC : Nat → Int32) (G : Nat → Nat → Prop) (a b : Nat) : Prop := ∀ a' b', a' < cp → b' < cp → (a' < a ∨ (a' = a ∧ b' < b)) → RC (a' * cp + b') = ht_b (G a' b')
def ht_G (M : Nat → Nat → Prop) (k a b : Nat) (a' b' : Nat) : Prop := ((a' < a ∨ (a' = a ∧ b' < b)) ∧ ht_W M (k + 1) a' b') ∨ ht_W M k a' b'
theorem ht_Rc {cp : Nat} {RC : Nat → Int32} {G G' : Nat → Nat → Prop} (h : ∀ a b, a < cp → b < cp → (G a b ↔ G' a b)) (hR : ht_R cp RC G) : ht_R cp RC G' := fun a b ha hb => (hR a b ha hb).trans (ht_bc (h a b ha hb))
theorem ht_Gc {M : Nat → Nat → Prop} {k a b a' : Nat} : ht_G M k a b a' k ↔ ht_W M k a' k := ⟨fun h => Or.elim h (fun z => ht_Wc.mp z.2) id, Or.inr⟩
theorem ht_Gr {M : Nat → Nat → Prop} {k a b b' : Nat} : ht_G M k a b k b' ↔ ht_W M k k b' := ⟨fun h => Or.elim h (fun z => ht_Wr.mp z.2) id, Or.inr⟩
theorem ht_nb0 : vp_nar .boolean 0 = 0 := rfl
theorem ht_nb1 : vp_nar .boolean 1 = 1 := rfl
theorem ht_G1 {cp : Nat} {RC : Nat → Int32} {M : Nat → Nat → Prop} {k a b : Nat} (hb : b < cp) (hR : ht_R cp RC (ht_G M k a b)) (h1 : ht_W M k a k) (h2 : ht_W M k k b) : ht_R cp (upd RC (a * cp + b) (vp_nar .boolean 1)) (ht_G M k a (b + 1)) := by
  intro a' b' ha' hb'
  by_cases q : a' = a ∧ b' = b
  · obtain ⟨rfl, rfl⟩ := q
    rw [pk_us, ht_nb1]
    exact (ht_b1 (Or.inl ⟨Or.inr ⟨rfl, Nat.lt_succ_self _⟩, Or.inr ⟨h1, h2⟩⟩)).symm
  · rw [pk_un (fun z => q (ht_inj hb' hb z)), hR a' b' ha' hb']
    refine ht_bc ?_
    have hq : (a' < a ∨ (a' = a ∧ b' < b)) ↔ (a' < a ∨ (a' = a ∧ b' < b + 1)) := by omega
    unfold ht_G
    rw [hq]
theorem ht_G0 {cp : Nat} {RC : Nat → Int32} {M : Nat → Nat → Prop} {k a b : Nat} (hR : ht_R cp RC (ht_G M k a b)) (h : ¬ (ht_W M k a k ∧ ht_W M k k b)) : ht_R cp RC (ht_G M k a (b + 1)) := by
  refine ht_Rc ?_ hR
  intro a' b' ha' hb'
  by_cases q : a' = a ∧ b' = b
  · obtain ⟨rfl, rfl⟩ := q
    constructor
    · intro z
      rcases z with ⟨z1, _⟩ | z
      · omega
      · exact Or.inr z
    · intro z
      rcases z with ⟨_, z | z⟩ | z
      · exact Or.inr z
      · exact absurd z h
      · exact Or.inr z
  · have hq : (a' < a ∨ (a' = a ∧ b' < b)) ↔ (a' < a ∨ (a' = a ∧ b' < b + 1)) := by omega
    unfold ht_G
    rw [hq]
theorem ht_Grow {cp : Nat} {RC : Nat → Int32} {M : Nat → Nat → Prop} {k a : Nat} (hR : ht_R cp RC (ht_G M k a cp)) : ht_R cp RC (ht_G M k (a + 1) 0) := by
  refine ht_Rc ?_ hR
  intro a' b' ha' hb'
  have hq : (a' < a ∨ (a' = a ∧ b' < cp)) ↔ (a' < a + 1 ∨ (a' = a + 1 ∧ b' < 0)) := by omega
  unfold ht_G
  rw [hq]
theorem ht_Gpass {cp : Nat} {RC : Nat → Int32} {M : Nat → Nat → Prop} {k : Nat} (hR : ht_R cp RC (ht_G M k cp 0)) : ht_R cp RC (ht_G M (k + 1) 0 0) := by
  refine ht_Rc ?_ hR
  intro a' b' ha' hb'
  constructor
  · intro z
    rcases z with ⟨_, z⟩ | z
    · exact Or.inr z
    · exact Or.inr (ht_Wi z)
  · intro z
    rcases z with ⟨z, _⟩ | z
    · omega
    · exact Or.inl ⟨Or.inl ha', z⟩
theorem ht_Gend {cp : Nat} {RC : Nat → Int32} {M : Nat → Nat → Prop} (hR : ht_R cp RC (ht_G M cp 0 0)) : ht_R cp RC (ht_W M cp) := by
  refine ht_Rc ?_ hR
  intro a' b' ha' hb'
  constructor
  · intro z
    rcases z with ⟨z, _⟩ | z
    · omega
    · exact z
  · exact Or.inr
theorem ht_Gbeg {cp : Nat} {RC : Nat → Int32} {M : Nat → Nat → Prop} (hR : ht_R0 cp RC M cp 0) : ht_R cp RC (ht_G M 0 0 0) := by
  intro a' b' ha' hb'
  rw [hR a' b' ha' hb' (Or.inl ha')]
  refine ht_bc ⟨Or.inr, ?_⟩
  intro z
  rcases z with ⟨z, _⟩ | z
  · omega
  · exact z
theorem ht_put {cp : Nat} {RC : Nat → Int32} {M : Nat → Nat → Prop} {a b : Nat} {v : Int32} (hb : b < cp) (hR : ht_R0 cp RC M a b) (hv : v = ht_b (M a b)) : ht_R0 cp (upd RC (a * cp + b) v) M a (b + 1) := by
  intro a' b' ha' hb' h
  by_cases q : a' = a ∧ b' = b
  · obtain ⟨rfl, rfl⟩ := q
    rw [pk_us]
    exact hv
  · rw [pk_un (fun z => q (ht_inj hb' hb z))]
    exact hR a' b' ha' hb' (by omega)
section
variable {cp : Nat} {S F PK NF : Nat → Int32} {DR : Nat → Int64} {M : Nat → Nat → Prop} {post : SY → Prop} {fn fm : Int32}
theorem ht_y124 (h8 : cp ≤ 8) {J1 J2 : Int32 → (Nat → Int32) → (Nat → Int32) → (Nat → Int32) → (Nat → Int32) → (Nat → Int64) → (Nat → Int32) → Prop} {k a : Nat} (hk : k < cp) (ha : a < cp) (hJ : ∀ RC' : Nat → Int32, ht_R cp RC' (ht_G M k (a + 1) 0) → J2 (nI (a + 1)) S F PK NF DR RC') : ∀ (f b : Nat) (RC : Nat → Int32), b ≤ cp → cp < b + f → ht_R cp RC (ht_G M k a b) → wY_close_124 post J1 J2 (nI cp) (nI k) (nI a) (nI cp) fn fm f (nI b) S F PK NF DR RC := by
  intro f
  induction f with
  | zero => intro b RC h1 h2; omega
  | succ f ih =>
    intro b RC h1 h2 hR
    rcases Nat.lt_or_ge b cp with h | h
    · refine br_f (nI_ge h (by omega)) ⟨ht_in h8 ha hk, ?_⟩
      rw [ht_ix h8 ha hk, hR a k ha hk, ht_bc ht_Gc]
      by_cases q1 : ht_W M k a k
      · refine br_f (fun z => ht_bz.mp z q1) ⟨ht_in h8 hk h, ?_⟩
        rw [ht_ix h8 hk h, hR k b hk h, ht_bc ht_Gr]
        by_cases q2 : ht_W M k k b
        · refine br_f (fun z => ht_bz.mp z q2) ⟨ht_in h8 ha h, ?_⟩
          intro RC1 e1 y ey
          rw [ht_ix h8 ha h] at e1
          rw [nI_1] at ey
          subst ey
          subst e1
          exact ih (b + 1) _ (by omega) (by omega) (ht_G1 h hR q1 q2)
        · refine br_t (ht_b0 q2) ?_
          intro y ey
          rw [nI_1] at ey
          subst ey
          exact ih (b + 1) RC (by omega) (by omega) (ht_G0 hR (fun z => q2 z.2))
      · refine br_t (ht_b0 q1) ?_
        intro y ey
        rw [nI_1] at ey
        subst ey
        exact ih (b + 1) RC (by omega) (by omega) (ht_G0 hR (fun z => q1 z.1))
    · have e : b = cp := by omega
      subst e
      refine br_t (nI_le (Nat.le_refl _) (by omega)) ?_
      intro y ey
      rw [nI_1] at ey
      subst ey
      exact hJ RC (ht_Grow hR)
theorem ht_y115 (h8 : cp ≤ 8) {J1 : Int32 → (Nat → Int32) → (Nat → Int32) → (Nat → Int32) → (Nat → Int32) → (Nat → Int64) → (Nat → Int32) → Prop} {k : Nat} (hk : k < cp) (hJ : ∀ RC' : Nat → Int32, ht_R cp RC' (ht_G M (k + 1) 0 0) → J1 (nI (k + 1)) S F PK NF DR RC') : ∀ (f a : Nat) (RC : Nat → Int32), a ≤ cp → cp < a + f → ht_R cp RC (ht_G M k a 0) → wY_close_115 post J1 (nI cp) (nI k) (nI cp) fn fm f (nI a) S F PK NF DR RC := by
  intro f
  induction f with
  | zero => intro a RC h1 h2; omega
  | succ f ih =>
    intro a RC h1 h2 hR
    rcases Nat.lt_or_ge a cp with h | h
    · refine br_f (nI_ge h (by omega)) ⟨cp + 1, ?_⟩
      exact ht_y124 h8 hk h (fun RC' hR' => ih (a + 1) RC' (by omega) (by omega) hR') (cp + 1) 0 RC (Nat.zero_le _) (by omega) hR
    · have e : a = cp := by omega
      subst e
      refine br_t (nI_le (Nat.le_refl _) (by omega)) ?_
      intro y ey
      rw [nI_1] at ey
      subst ey
      exact hJ RC (ht_Gpass hR)
theorem ht_y106 (h8 : cp ≤ 8) (hp : ∀ RC' : Nat → Int32, ht_R cp RC' (ht_W M cp) → post (nI cp, fn, fm, S, F, PK, NF, DR, RC')) : ∀ (f k : Nat) (RC : Nat → Int32), k ≤ cp → cp < k + f → ht_R cp RC (ht_G M k 0 0) → wY_close_106 post (nI cp) (nI cp) fn fm f (nI k) S F PK NF DR RC := by
  intro f
  induction f with
  | zero => intro k RC h1 h2; omega
  | succ f ih =>
    intro k RC h1 h2 hR
    rcases Nat.lt_or_ge k cp with h | h
    · refine br_f (nI_ge h (by omega)) ⟨cp + 1, ?_⟩
      exact ht_y115 h8 h (fun RC' hR' => ih (k + 1) RC' (by omega) (by omega) hR') (cp + 1) 0 RC (Nat.zero_le _) (by omega) hR
    · have e : k = cp := by omega
      subst e
      exact br_t (nI_le (Nat.le_refl _) (by omega)) (hp RC (ht_Gend hR))
end
section
variable {cp n m : Nat} {S F PK NF EF ET : Nat → Int32} {DR : Nat → Int64} {post : SY → Prop} {fm : Int32}
/-- the bits of DR are the edges -/
def ht_D (m : Nat) (EF ET : Nat → Int32) (DR : Nat → Int64) : Prop := ∀ a b, a < 8 → b < 8 → ((DR a).toBitVec.getLsbD b = true ↔ ∃ e, e < m ∧ EF e = nI a ∧ ET e = nI b)
theorem ht_y22 (hF : ht_F cp n m S F EF ET) (hD : ht_D m EF ET DR) {w : Int32} {J : Int32 → (Nat → Int32) → (Nat → Int32) → (Nat → Int32) → (Nat → Int32) → (Nat → Int64) → (Nat → Int32) → Prop} {a : Nat} (ha : a < cp) (hJ : ∀ RC' : Nat → Int32, ht_R0 cp RC' (ht_N n (ht_E m S EF ET w)) (a + 1) 0 → J (nI (a + 1)) S F PK NF DR RC') : ∀ (f b : Nat) (RC : Nat → Int32), b ≤ cp → cp < b + f → ht_R0 cp RC (ht_N n (ht_E m S EF ET w)) a b → wY_close_22 post J w (nI cp) (nI a) (nI cp) (nI n) fm f (nI b) S F PK NF DR RC := by
  have hq := hF.1
  have h8 : cp ≤ 8 := hq.2.1
  have hn : n ≤ cp := hq.2.2.1
  intro f
  induction f with
  | zero => intro b RC h1 h2; omega
  | succ f ih =>
    intro b RC h1 h2 hR
    rcases Nat.lt_or_ge b cp with h | h
    · have go : ∀ v : Int32, v = ht_b (ht_N n (ht_E m S EF ET w) a b) → (vp_in (nI a * nI cp + nI b) 64 ∧ ∀ RC1 : Nat → Int32, RC1 = upd RC (nI a * nI cp + nI b).toNatClampNeg v → ∀ y : Int32, y = nI b + 1 → wY_close_22 post J w (nI cp) (nI a) (nI cp) (nI n) fm f y S F PK NF DR RC1) := by
        intro v hv
        refine ⟨ht_in h8 ha h, ?_⟩
        intro RC1 e1 y ey
        rw [ht_ix h8 ha h] at e1
        rw [nI_1] at ey
        subst ey
        subst e1
        exact ih (b + 1) _ (by omega) (by omega) (ht_put h hR hv)
      refine br_f (nI_ge h (by omega)) ?_
      rcases Nat.lt_or_ge a n with an | an
      · refine br_f (nI_ge an (by omega)) ?_
        by_cases ab : a = b
        · exact br_t (by rw [ab]) (go _ (ht_b1 ⟨an, Or.inl ab⟩).symm)
        · refine br_f (fun z => ab ((nI_eq (by omega) (by omega)).mp z)) ⟨vp_in_nI (by omega) (by omega), ?_⟩
          rw [nI_clamp (n := a) (by omega)]
          by_cases sb : S a = nI b
          · refine br_t sb (go _ (ht_b1 ⟨an, Or.inr ⟨((ht_E1 hF an h).mpr sb).1, Or.inl sb⟩⟩).symm)
          · refine br_f sb ?_
            by_cases w0 : w = 0
            · refine br_t w0 (go _ (ht_b0 ?_).symm)
              intro z
              rcases z with ⟨_, z | ⟨_, z | ⟨z, _⟩⟩⟩
              · exact ab z
              · exact sb z
              · exact z w0
            · refine br_f w0 ⟨vp_in_nI (by omega) (by omega), ?_⟩
              have hb := ts_bit (w := DR a) (s := (nI b).toInt64.toUInt64 &&& Int64.toUInt64 63) (j := b) (by omega) (ht_c64 b (by omega))
              by_cases db : (DR a).toBitVec.getLsbD b = true
              · refine br_f (fun z => by rw [hb, db] at z; exact absurd z (by decide)) (go _ (ht_b1 ⟨an, Or.inr ?_⟩).symm)
                exact (ht_E2 hF w0 an h).mpr (Or.inr ((hD a b (by omega) (by omega)).mp db))
              · refine br_t (hb.mpr (ts_nt db)) (go _ (ht_b0 ?_).symm)
                intro z
                rcases z with ⟨_, z | z⟩
                · exact ab z
                · rcases (ht_E2 hF w0 an h).mp z with z | z
                  · exact sb z
                  · exact db ((hD a b (by omega) (by omega)).mpr z)
      · exact br_t (nI_le an (by omega)) (go _ (ht_b0 (fun z => Nat.not_lt.mpr an z.1)).symm)
    · have e : b = cp := by omega
      refine br_t (nI_le h (by omega)) ?_
      intro y ey
      rw [nI_1] at ey
      subst ey
      refine hJ RC ?_
      intro a' b' ha' hb' h3
      exact hR a' b' ha' hb' (by omega)
theorem ht_y13 (hF : ht_F cp n m S F EF ET) (hD : ht_D m EF ET DR) {w : Int32} (hp : ∀ RC' : Nat → Int32, ht_R cp RC' (ht_P cp n m S EF ET w) → post (nI cp, nI n, fm, S, F, PK, NF, DR, RC')) : ∀ (f a : Nat) (RC : Nat → Int32), a ≤ cp → cp < a + f → ht_R0 cp RC (ht_N n (ht_E m S EF ET w)) a 0 → wY_close_13 post w (nI cp) (nI cp) (nI n) fm f (nI a) S F PK NF DR RC := by
  have hq := hF.1
  have h8 : cp ≤ 8 := hq.2.1
  intro f
  induction f with
  | zero => intro a RC h1 h2; omega
  | succ f ih =>
    intro a RC h1 h2 hR
    rcases Nat.lt_or_ge a cp with h | h
    · refine br_f (nI_ge h (by omega)) ⟨cp + 1, ?_⟩
      exact ht_y22 hF hD h (fun RC' hR' => ih (a + 1) RC' (by omega) (by omega) hR') (cp + 1) 0 RC (Nat.zero_le _) (by omega) hR
    · have e : a = cp := by omega
      subst e
      refine br_t (nI_le (Nat.le_refl _) (by omega)) ⟨a + 1, ?_⟩
      exact ht_y106 h8 hp (a + 1) 0 RC (Nat.zero_le _) (by omega) (ht_Gbeg hR)
theorem ht_yclose (hF : ht_F cp n m S F EF ET) (hD : ht_D m EF ET DR) {w : Int32} {RC : Nat → Int32} (hp : ∀ RC' : Nat → Int32, ht_R cp RC' (ht_P cp n m S EF ET w) → post (nI cp, nI n, fm, S, F, PK, NF, DR, RC')) : wpY_close post (nI cp, nI n, fm, S, F, PK, NF, DR, RC) w := by
  unfold wpY_close
  dsimp only
  refine ⟨cp + 1, ht_y13 hF hD hp (cp + 1) 0 RC (Nat.zero_le _) (by omega) ?_⟩
  intro a' b' _ _ h
  omega
end
end
section
/-! the relation; the reference's queries; the queries' owed statements -/
/-- the number of edges from a below m -/
def ht_cnt (EF : Nat → Int32) (a : Nat) : Nat → Nat
  | 0 => 0
  | m + 1 => ht_cnt EF a m + (if EF m = nI a then 1 else 0)
def ht_Q (cp n m : Nat) (S F PG EF ET PK NF : Nat → Int32) (DR : Nat → Int64) : Prop :=
  ht_F cp n m S F EF ET ∧ ht_D m EF ET DR ∧ (∀ a, a < n → PG a = PK a &&& 65535) ∧ (∀ a, a < 8 → NF a = nI (ht_cnt EF a m))
/-- the two objects hold one table: supers and flags alike; the reference's packages unmasked, its edges as bits and counts; its matrix is scratch -/
def i_Rel (_ : Nat) (u : SX) (v : SY) : Prop :=
  ∃ (cp n m : Nat) (S F PG EF ET PK NF : Nat → Int32) (DR : Nat → Int64) (RC : Nat → Int32), u = (nI cp, nI n, nI m, S, F, PG, EF, ET) ∧ v = (nI cp, nI n, nI m, S, F, PK, NF, DR, RC) ∧ ht_Q cp n m S F PG EF ET PK NF DR
theorem i_up {k : Nat} {u : SX} {v : SY} (h : i_Rel k u v) : i_Rel (k + 4) u v := h
theorem ht_rel {k cp n m : Nat} {S F PG EF ET PK NF : Nat → Int32} {DR : Nat → Int64} {RC : Nat → Int32} (h : ht_Q cp n m S F PG EF ET PK NF DR) : i_Rel k (nI cp, nI n, nI m, S, F, PG, EF, ET) (nI cp, nI n, nI m, S, F, PK, NF, DR, RC) :=
  ⟨cp, n, m, S, F, PG, EF, ET, PK, NF, DR, RC, rfl, rfl, h⟩
theorem ht_q0 {cp : Nat} (h1 : 1 ≤ cp) (h8 : cp ≤ 8) : ht_Q cp 0 0 (fun _ => 0) (fun _ => 0) (fun _ => 0) (fun _ => 0) (fun _ => 0) (fun _ => 0) (fun _ => 0) (fun _ => 0) := by
  refine ⟨⟨⟨h1, h8, Nat.zero_le _, Nat.zero_le _⟩, fun z => absurd z (Nat.lt_irrefl 0), fun x _ z => absurd z (Nat.not_lt_zero x), fun x z => absurd z (Nat.not_lt_zero x), fun x z => absurd z (Nat.not_lt_zero x)⟩, ?_, fun x z => absurd z (Nat.not_lt_zero x), fun _ _ => rfl⟩
  intro a b _ _
  constructor
  · intro z
    exact absurd z (by rw [show ((fun _ => 0 : Nat → Int64) a).toBitVec = 0#64 from rfl, BitVec.getLsbD_zero]; decide)
  · rintro ⟨e, z, _⟩
    exact absurd z (Nat.not_lt_zero e)
theorem i_vc0 (k0 : Int32) : wpX_init (fun u => wpY_init (fun v => i_Rel 1 u v) k0) k0 := by
  by_cases h1 : 1 ≤ k0
  · by_cases h2 : k0 ≤ 8
    · obtain ⟨j, hj, rfl⟩ := nI_of (x := k0) (by
        rw [Int32.lt_iff_toInt_lt]
        rw [Int32.le_iff_toInt_le] at h1
        have e1 : (1 : Int32).toInt = 1 := by decide
        have e0 : (0 : Int32).toInt = 0 := by decide
        omega)
      have g1 : 1 ≤ j := (nI_leI (a := 1) (by omega) hj).mp h1
      have g2 : j ≤ 8 := (nI_leI (b := 8) hj (by omega)).mp h2
      exact br_t h1 (br_t h2 (br_t h1 (br_t h2 (ht_rel (k := 1) (n := 0) (m := 0) (ht_q0 g1 g2)))))
    · exact br_t h1 (br_f h2 (br_t h1 (br_f h2 (ht_rel (k := 1) (cp := 8) (n := 0) (m := 0) (ht_q0 (by omega) (by omega))))))
  · exact br_f h1 (br_t (by decide) (br_f h1 (ht_rel (k := 1) (cp := 1) (n := 0) (m := 0) (ht_q0 (by omega) (by omega)))))
section
variable {cp n m : Nat} {S F PG EF ET PK NF : Nat → Int32} {DR : Nat → Int64} {RC : Nat → Int32}
theorem ht_yv1 {post : Int32 → Prop} {j : Nat} (hj : j < n) (hn : n ≤ 8) (hp : post 1) : wpY_has post (nI cp, nI n, nI m, S, F, PK, NF, DR, RC) (nI j) :=
  br_f (nI_pos (by omega)) (br_f (nI_ge hj (by omega)) hp)
theorem ht_yv0 {post : Int32 → Prop} {x : Int32} (hx : ¬ ∃ j, j < n ∧ x = nI j) (hn : n ≤ 8) (hp : post 0) : wpY_has post (nI cp, nI n, nI m, S, F, PK, NF, DR, RC) x := by
  rcases pk_ix x (n := n) (by omega) with h | h | h
  · exact br_t h hp
  · exact br_c (fun _ => hp) (fun _ => br_t h hp)
  · exact absurd h hx
theorem ht_yis (hQ : ht_Q cp n m S F PG EF ET PK NF DR) {post : Int32 → SY → Prop} {c d : Nat} (hc : c < n) (hd : d < n) (hp : ∀ RC' : Nat → Int32, post (ht_b (ht_P cp n m S EF ET 0 c d)) (nI cp, nI n, nI m, S, F, PK, NF, DR, RC')) : wpY_isSubclass post (nI cp, nI n, nI m, S, F, PK, NF, DR, RC) (nI c) (nI d) := by
  have hF := hQ.1
  have hq := hF.1
  have hn : n ≤ 8 := by omega
  unfold wpY_isSubclass
  dsimp only
  refine ht_yv1 hc hn (br_f (by decide) ?_)
  refine ht_yv1 hd hn (br_f (by decide) ?_)
  refine ht_yclose hF hQ.2.1 ?_
  intro RC' hR
  dsimp only
  rw [ht_ix hq.2.1 (by omega) (by omega), hR c d (by omega) (by omega)]
  exact ⟨ht_in hq.2.1 (by omega) (by omega), ht_bn _, hp RC'⟩
theorem ht_yis0 (hQ : ht_Q cp n m S F PG EF ET PK NF DR) {post : Int32 → SY → Prop} {x y : Int32} (h : ¬ ((∃ j, j < n ∧ x = nI j) ∧ ∃ j, j < n ∧ y = nI j)) (hp : post 0 (nI cp, nI n, nI m, S, F, PK, NF, DR, RC)) : wpY_isSubclass post (nI cp, nI n, nI m, S, F, PK, NF, DR, RC) x y := by
  have hq := hQ.1.1
  have hn : n ≤ 8 := by omega
  unfold wpY_isSubclass
  dsimp only
  by_cases h1 : ∃ j, j < n ∧ x = nI j
  · have h2 : ¬ ∃ j, j < n ∧ y = nI j := fun z => h ⟨h1, z⟩
    obtain ⟨c, hc, rfl⟩ := h1
    refine ht_yv1 hc hn (br_f (by decide) ?_)
    exact ht_yv0 h2 hn (br_t rfl hp)
  · exact ht_yv0 h1 hn (br_t rfl hp)
theorem ht_yim (hQ : ht_Q cp n m S F PG EF ET PK NF DR) {post : Int32 → SY → Prop} {c t : Nat} (hc : c < n) (ht : t < n) (hp : ∀ RC' : Nat → Int32, post (ht_b (¬ F t &&& 512 = 0 ∧ ht_P cp n m S EF ET 1 c t)) (nI cp, nI n, nI m, S, F, PK, NF, DR, RC')) : wpY_implementsIface post (nI cp, nI n, nI m, S, F, PK, NF, DR, RC) (nI c) (nI t) := by
  have hF := hQ.1
  have hq := hF.1
  have hn : n ≤ 8 := by omega
  unfold wpY_implementsIface
  dsimp only
  refine ht_yv1 hc hn (br_f (by decide) ?_)
  refine ht_yv1 ht hn (br_f (by decide) ?_)
  refine ht_yclose hF hQ.2.1 ?_
  intro RC' hR
  have hp := hp RC'
  dsimp only
  refine ⟨vp_in_nI (by omega) (by omega), ?_⟩
  rw [nI_clamp (n := t) (by omega)]
  by_cases hi : F t &&& 512 = 0
  · rw [ht_b0 (fun z => z.1 hi)] at hp
    exact br_t hi hp
  · refine br_f hi ⟨ht_in hq.2.1 (by omega) (by omega), ?_⟩
    rw [ht_ix hq.2.1 (by omega) (by omega), hR c t (by omega) (by omega)]
    by_cases hj : ht_P cp n m S EF ET 1 c t
    · rw [ht_b1 ⟨hi, hj⟩] at hp
      exact br_f (fun z => ht_bz.mp z hj) hp
    · rw [ht_b0 (fun z => hj z.2)] at hp
      exact br_t (ht_b0 hj) hp
theorem ht_yim0 (hQ : ht_Q cp n m S F PG EF ET PK NF DR) {post : Int32 → SY → Prop} {x y : Int32} (h : ¬ ((∃ j, j < n ∧ x = nI j) ∧ ∃ j, j < n ∧ y = nI j)) (hp : post 0 (nI cp, nI n, nI m, S, F, PK, NF, DR, RC)) : wpY_implementsIface post (nI cp, nI n, nI m, S, F, PK, NF, DR, RC) x y := by
  have hq := hQ.1.1
  have hn : n ≤ 8 := by omega
  unfold wpY_implementsIface
  dsimp only
  by_cases h1 : ∃ j, j < n ∧ x = nI j
  · have h2 : ¬ ∃ j, j < n ∧ y = nI j := fun z => h ⟨h1, z⟩
    obtain ⟨c, hc, rfl⟩ := h1
    refine ht_yv1 hc hn (br_f (by decide) ?_)
    exact ht_yv0 h2 hn (br_t rfl hp)
  · exact ht_yv0 h1 hn (br_t rfl hp)
theorem ht_yas (hQ : ht_Q cp n m S F PG EF ET PK NF DR) {post : Int32 → SY → Prop} {c d : Nat} (hc : c < n) (hd : d < n) (hp : ∀ RC' : Nat → Int32, post (ht_b (ht_P cp n m S EF ET 1 c d)) (nI cp, nI n, nI m, S, F, PK, NF, DR, RC')) : wpY_assignable post (nI cp, nI n, nI m, S, F, PK, NF, DR, RC) (nI c) (nI d) := by
  have hF := hQ.1
  have hq := hF.1
  have hn : n ≤ 8 := by omega
  unfold wpY_assignable
  dsimp only
  refine ht_yv1 hc hn (br_f (by decide) ?_)
  refine ht_yv1 hd hn (br_f (by decide) ?_)
  refine ht_yclose hF hQ.2.1 ?_
  intro RC' hR
  dsimp only
  rw [ht_ix hq.2.1 (by omega) (by omega), hR c d (by omega) (by omega)]
  exact ⟨ht_in hq.2.1 (by omega) (by omega), ht_bn _, hp RC'⟩
theorem ht_yas0 (hQ : ht_Q cp n m S F PG EF ET PK NF DR) {post : Int32 → SY → Prop} {x y : Int32} (h : ¬ ((∃ j, j < n ∧ x = nI j) ∧ ∃ j, j < n ∧ y = nI j)) (hp : post 0 (nI cp, nI n, nI m, S, F, PK, NF, DR, RC)) : wpY_assignable post (nI cp, nI n, nI m, S, F, PK, NF, DR, RC) x y := by
  have hq := hQ.1.1
  have hn : n ≤ 8 := by omega
  unfold wpY_assignable
  dsimp only
  by_cases h1 : ∃ j, j < n ∧ x = nI j
  · have h2 : ¬ ∃ j, j < n ∧ y = nI j := fun z => h ⟨h1, z⟩
    obtain ⟨c, hc, rfl⟩ := h1
    refine ht_yv1 hc hn (br_f (by decide) ?_)
    exact ht_yv0 h2 hn (br_t rfl hp)
  · exact ht_yv0 h1 hn (br_t rfl hp)
/-- nextReceiver's two scans in lockstep: one answer -/
theorem ht_nx (hQ : ht_Q cp n m S F PG EF ET PK NF DR) {t : Nat} (ht : t < n) (y2 : Int32) : ∀ d i : Nat, i + d = n → ∃ r : Int32, (∀ post : Int32 → Prop, post r → wX_nextReceiver_12 post (nI t) y2 (nI cp) (nI n) (nI m) S F PG EF ET (d + 1) (nI i)) ∧ (∀ RC : Nat → Int32, ht_R cp RC (ht_P cp n m S EF ET 1) → ∀ post : Int32 → SY → Prop, post r (nI cp, nI n, nI m, S, F, PK, NF, DR, RC) → wY_nextReceiver_17 post (nI t) y2 (nI cp) (nI n) (nI m) S F PK NF DR RC (d + 1) (nI i)) := by
  have hF := hQ.1
  have hq := hF.1
  have hn : n ≤ 8 := by omega
  intro d
  induction d with
  | zero =>
    intro i hi
    have h : nI n ≤ nI i := nI_le (by omega) (by omega)
    exact ⟨-1, fun _ hp => br_t h hp, fun _ _ _ hp => br_t h hp⟩
  | succ d ih =>
    intro i hi
    have h : ¬ nI n ≤ nI i := nI_ge (by omega) (by omega)
    have hi8 : vp_in (nI i) 8 := vp_in_nI (by omega) (by omega)
    obtain ⟨r, hX, hY⟩ := ih (i + 1) (by omega)
    by_cases g : nI i ≤ y2
    · refine ⟨r, fun post hp => br_f h (br_t g fun y ey => ?_), fun RC hR post hp => br_f h (br_t g fun y ey => ?_)⟩
      · rw [ey, nI_1]; exact hX post hp
      · rw [ey, nI_1]; exact hY RC hR post hp
    · by_cases z : F (nI i).toNatClampNeg &&& 1536 = 0
      · by_cases a : ht_P cp n m S EF ET 1 i t
        · refine ⟨nI i, fun post hp => br_f h (br_f g ⟨hi8, br_t z ?_⟩), fun RC hR post hp => br_f h (br_f g ⟨hi8, br_t z ⟨ht_in hq.2.1 (by omega) (by omega), ?_⟩⟩)⟩
          · refine ht_xas hF (by omega) ht ?_
            exact br_f (fun z => ht_bz.mp z a) hp
          · rw [ht_ix hq.2.1 (by omega) (by omega), hR i t (by omega) (by omega)]
            exact br_f (fun z => ht_bz.mp z a) hp
        · refine ⟨r, fun post hp => br_f h (br_f g ⟨hi8, br_t z ?_⟩), fun RC hR post hp => br_f h (br_f g ⟨hi8, br_t z ⟨ht_in hq.2.1 (by omega) (by omega), ?_⟩⟩)⟩
          · refine ht_xas hF (by omega) ht ?_
            refine br_t (ht_b0 a) ?_
            intro y ey
            rw [ey, nI_1]; exact hX post hp
          · rw [ht_ix hq.2.1 (by omega) (by omega), hR i t (by omega) (by omega)]
            refine br_t (ht_b0 a) ?_
            intro y ey
            rw [ey, nI_1]; exact hY RC hR post hp
      · refine ⟨r, fun post hp => br_f h (br_f g ⟨hi8, br_f z fun y ey => ?_⟩), fun RC hR post hp => br_f h (br_f g ⟨hi8, br_f z fun y ey => ?_⟩)⟩
        · rw [ey, nI_1]; exact hX post hp
        · rw [ey, nI_1]; exact hY RC hR post hp
/-- lostSupertypes' two scans in lockstep -/
theorem ht_ls (hQ : ht_Q cp n m S F PG EF ET PK NF DR) {c : Nat} (hc : c < n) : ∀ (d i : Nat) (l : Int64), i + d = n → ∃ r : Int64, (∀ post : Int64 → Prop, post r → wX_lostSupertypes_16 post (nI c) (nI cp) (nI n) (nI m) S F PG EF ET (d + 1) l (nI i)) ∧ (∀ RC : Nat → Int32, ht_R cp RC (ht_P cp n m S EF ET 1) → ∀ post : Int64 → SY → Prop, post r (nI cp, nI n, nI m, S, F, PK, NF, DR, RC) → wY_lostSupertypes_21 post (nI c) (nI cp) (nI n) (nI m) S F PK NF DR RC (d + 1) l (nI i)) := by
  have hF := hQ.1
  have hq := hF.1
  have hn : n ≤ 8 := by omega
  intro d
  induction d with
  | zero =>
    intro i l hi
    have h : nI n ≤ nI i := nI_le (by omega) (by omega)
    exact ⟨l, fun _ hp => br_t h hp, fun _ _ _ hp => br_t h hp⟩
  | succ d ih =>
    intro i l hi
    have h : ¬ nI n ≤ nI i := nI_ge (by omega) (by omega)
    by_cases a : ht_P cp n m S EF ET 1 c i
    · obtain ⟨r, hX, hY⟩ := ih (i + 1) (l &&& (((1 : Int64) <<< ((nI i).toInt64 &&& 63)) ^^^ (-1))) (by omega)
      refine ⟨r, fun post hp => br_f h ?_, fun RC hR post hp => br_f h ⟨ht_in hq.2.1 (by omega) (by omega), ?_⟩⟩
      · refine ht_xas hF hc (by omega) ?_
        refine br_f (fun z => ht_bz.mp z a) ?_
        intro x ex y ey
        rw [ex, ey, nI_1]; exact hX post hp
      · rw [ht_ix hq.2.1 (by omega) (by omega), hR c i (by omega) (by omega)]
        refine br_f (fun z => ht_bz.mp z a) ?_
        intro x ex y ey
        rw [ex, ey, nI_1]; exact hY RC hR post hp
    · obtain ⟨r, hX, hY⟩ := ih (i + 1) l (by omega)
      refine ⟨r, fun post hp => br_f h ?_, fun RC hR post hp => br_f h ⟨ht_in hq.2.1 (by omega) (by omega), ?_⟩⟩
      · refine ht_xas hF hc (by omega) ?_
        refine br_t (ht_b0 a) ?_
        intro y ey
        rw [ey, nI_1]; exact hX post hp
      · rw [ht_ix hq.2.1 (by omega) (by omega), hR c i (by omega) (by omega)]
        refine br_t (ht_b0 a) ?_
        intro y ey
        rw [ey, nI_1]; exact hY RC hR post hp
end
theorem i_vc_isSubclass {k : Nat} {u : SX} {v : SY} (I : i_Rel k u v) (hk : k + 4 ≤ 2049) (v1 : Int32) (v2 : Int32) : wpX_isSubclass (fun r => wpY_isSubclass (fun r' v' => r' = r ∧ i_Rel (k + 4) u v') v v1 v2) u v1 v2 := by
  obtain ⟨cp, n, m, S, F, PG, EF, ET, PK, NF, DR, RC, rfl, rfl, hQ⟩ := I
  by_cases h : (∃ j, j < n ∧ v1 = nI j) ∧ ∃ j, j < n ∧ v2 = nI j
  · obtain ⟨⟨c, hc, rfl⟩, ⟨d, hd, rfl⟩⟩ := h
    refine ht_xis hQ.1 hc hd ?_
    exact ht_yis hQ hc hd (fun RC' => ⟨rfl, ht_rel hQ⟩)
  · refine ht_xis0 hQ.1 h ?_
    exact ht_yis0 hQ h ⟨rfl, ht_rel hQ⟩
theorem i_vc_implementsIface {k : Nat} {u : SX} {v : SY} (I : i_Rel k u v) (hk : k + 4 ≤ 2049) (v1 : Int32) (v2 : Int32) : wpX_implementsIface (fun r => wpY_implementsIface (fun r' v' => r' = r ∧ i_Rel (k + 4) u v') v v1 v2) u v1 v2 := by
  obtain ⟨cp, n, m, S, F, PG, EF, ET, PK, NF, DR, RC, rfl, rfl, hQ⟩ := I
  by_cases h : (∃ j, j < n ∧ v1 = nI j) ∧ ∃ j, j < n ∧ v2 = nI j
  · obtain ⟨⟨c, hc, rfl⟩, ⟨d, hd, rfl⟩⟩ := h
    refine ht_xim hQ.1 hc hd ?_
    exact ht_yim hQ hc hd (fun RC' => ⟨rfl, ht_rel hQ⟩)
  · refine ht_xim0 hQ.1 h ?_
    exact ht_yim0 hQ h ⟨rfl, ht_rel hQ⟩
theorem i_vc_assignable {k : Nat} {u : SX} {v : SY} (I : i_Rel k u v) (hk : k + 4 ≤ 2049) (v1 : Int32) (v2 : Int32) : wpX_assignable (fun r => wpY_assignable (fun r' v' => r' = r ∧ i_Rel (k + 4) u v') v v1 v2) u v1 v2 := by
  obtain ⟨cp, n, m, S, F, PG, EF, ET, PK, NF, DR, RC, rfl, rfl, hQ⟩ := I
  by_cases h : (∃ j, j < n ∧ v1 = nI j) ∧ ∃ j, j < n ∧ v2 = nI j
  · obtain ⟨⟨c, hc, rfl⟩, ⟨d, hd, rfl⟩⟩ := h
    refine ht_xas hQ.1 hc hd ?_
    exact ht_yas hQ hc hd (fun RC' => ⟨rfl, ht_rel hQ⟩)
  · refine ht_xas0 hQ.1 h ?_
    exact ht_yas0 hQ h ⟨rfl, ht_rel hQ⟩
theorem i_vc_nextReceiver {k : Nat} {u : SX} {v : SY} (I : i_Rel k u v) (hk : k + 4 ≤ 2049) (v1 : Int32) (v2 : Int32) : wpX_nextReceiver (fun r => wpY_nextReceiver (fun r' v' => r' = r ∧ i_Rel (k + 4) u v') v v1 v2) u v1 v2 := by
  obtain ⟨cp, n, m, S, F, PG, EF, ET, PK, NF, DR, RC, rfl, rfl, hQ⟩ := I
  have hq := hQ.1.1
  have hn : n ≤ 8 := by omega
  unfold wpX_nextReceiver
  dsimp only
  by_cases h : ∃ j, j < n ∧ v1 = nI j
  · obtain ⟨t, ht, rfl⟩ := h
    obtain ⟨r, hX, hY⟩ := ht_nx hQ ht v2 n 0 (by omega)
    refine ht_xv1 ht hn (br_f (by decide) ⟨n + 1, ?_⟩)
    refine hX _ ?_
    unfold wpY_nextReceiver
    dsimp only
    refine ht_yv1 ht hn (br_f (by decide) ?_)
    refine ht_yclose hQ.1 hQ.2.1 ?_
    intro RC' hR
    exact ⟨n + 1, hY RC' hR _ ⟨rfl, ht_rel hQ⟩⟩
  · refine ht_xv0 h hn (br_t rfl ?_)
    unfold wpY_nextReceiver
    dsimp only
    exact ht_yv0 h hn (br_t rfl ⟨rfl, ht_rel hQ⟩)
theorem i_vc_lostSupertypes {k : Nat} {u : SX} {v : SY} (I : i_Rel k u v) (hk : k + 4 ≤ 2049) (v1 : Int32) (a1 : Int64) : wpX_lostSupertypes (fun r => wpY_lostSupertypes (fun r' v' => r' = r ∧ i_Rel (k + 4) u v') v v1 a1) u v1 a1 := by
  obtain ⟨cp, n, m, S, F, PG, EF, ET, PK, NF, DR, RC, rfl, rfl, hQ⟩ := I
  have hq := hQ.1.1
  have hn : n ≤ 8 := by omega
  unfold wpX_lostSupertypes
  dsimp only
  by_cases h : ∃ j, j < n ∧ v1 = nI j
  · obtain ⟨c, hc, rfl⟩ := h
    obtain ⟨r, hX, hY⟩ := ht_ls hQ hc n 0 a1 (by omega)
    refine ht_xv1 hc hn (br_f (by decide) ⟨n + 1, ?_⟩)
    refine hX _ ?_
    unfold wpY_lostSupertypes
    dsimp only
    refine ht_yv1 hc hn (br_f (by decide) ?_)
    refine ht_yclose hQ.1 hQ.2.1 ?_
    intro RC' hR
    exact ⟨n + 1, hY RC' hR _ ⟨rfl, ht_rel hQ⟩⟩
  · refine ht_xv0 h hn (br_t rfl ?_)
    unfold wpY_lostSupertypes
    dsimp only
    exact ht_yv0 h hn (br_t rfl ⟨rfl, ht_rel hQ⟩)
theorem i_vc_describe {k : Nat} {u : SX} {v : SY} (I : i_Rel k u v) (hk : k + 4 ≤ 2049) (v1 : Int32) : wpX_describe (fun r => wpY_describe (fun r' => r' = r ∧ i_Rel (k + 4) u v) v v1) u v1 := by
  obtain ⟨cp, n, m, S, F, PG, EF, ET, PK, NF, DR, RC, rfl, rfl, hQ⟩ := I
  have hq := hQ.1.1
  have hn : n ≤ 8 := by omega
  unfold wpX_describe
  dsimp only
  by_cases h : ∃ j, j < n ∧ v1 = nI j
  · obtain ⟨c, hc, rfl⟩ := h
    have hi : vp_in (nI c) 8 := vp_in_nI (by omega) (by omega)
    refine ht_xv1 hc hn (br_f (by decide) ⟨hi, hi, hi, ?_⟩)
    unfold wpY_describe
    dsimp only
    refine ht_yv1 hc hn (br_f (by decide) ⟨hi, hi, hi, ?_, ht_rel hQ⟩)
    rw [nI_clamp (n := c) (by omega), hQ.2.2.1 c hc]
  · refine ht_xv0 h hn (br_t rfl ?_)
    unfold wpY_describe
    dsimp only
    exact ht_yv0 h hn (br_t rfl ⟨rfl, ht_rel hQ⟩)
end
section
/-! addClass -/
section
variable {cp n m : Nat} {S F PG EF ET PK NF : Nat → Int32} {DR : Nat → Int64} {RC : Nat → Int32}
/-- the flags' gate: both sides refuse with -2, or both go on with one z -/
theorem ht_fl (p0 p1 p2 : Int32) (hn : n < cp) (h8 : cp ≤ 8) : (∃ z : Int32, (z = 0 ↔ p1 &&& 512 = 0) ∧ (∀ post : Int32 → SX → Prop, wX_addClass_88 post p0 p1 p2 z (nI cp) (nI n) (nI m) S F PG EF ET → wpX_addClass post (nI cp, nI n, nI m, S, F, PG, EF, ET) p0 p1 p2) ∧ (∀ post : Int32 → SY → Prop, wY_addClass_75 post p0 p1 p2 z (nI cp) (nI n) (nI m) S F PK NF DR RC → wpY_addClass post (nI cp, nI n, nI m, S, F, PK, NF, DR, RC) p0 p1 p2)) ∨ ((∀ post : Int32 → SX → Prop, post (-2) (nI cp, nI n, nI m, S, F, PG, EF, ET) → wpX_addClass post (nI cp, nI n, nI m, S, F, PG, EF, ET) p0 p1 p2) ∧ (∀ post : Int32 → SY → Prop, post (-2) (nI cp, nI n, nI m, S, F, PK, NF, DR, RC) → wpY_addClass post (nI cp, nI n, nI m, S, F, PK, NF, DR, RC) p0 p1 p2)) := by
  have lt : nI n < nI cp := nI_lt hn (by omega)
  have ne : ¬ nI n = nI cp := fun z => by have := (nI_eq (by omega) (by omega)).mp z; omega
  have o : ¬ (1 : Int32) = 0 := by decide
  have k := ht_1552 p1
  rcases ht_t512 p1 with a | a
  · rcases ht_t16 p1 with b | b
    · rcases ht_t1024 p1 with c | c
      · rw [a, b, c, show ((0 : Int32) ||| 0) ||| 0 = 0 from by decide] at k
        exact Or.inl ⟨0, ⟨fun _ => a, fun _ => rfl⟩, fun post h => br_t lt (br_t a (br_t b (br_t c (br_t rfl (br_t rfl h))))), fun post h => br_f ne (nm_r k (br_t rfl h))⟩
      · rw [a, b, c, show ((0 : Int32) ||| 0) ||| 1024 = 1024 from by decide] at k
        have c' : ¬ p1 &&& 1024 = 0 := by rw [c]; decide
        exact Or.inl ⟨0, ⟨fun _ => a, fun _ => rfl⟩, fun post h => br_t lt (br_t a (br_t b (br_f c' (br_t rfl (br_t rfl h))))), fun post h => br_f ne (nm_r k (br_f (by decide) (br_f (by decide) (br_t rfl h))))⟩
    · have b' : ¬ p1 &&& 16 = 0 := by rw [b]; decide
      rcases ht_t1024 p1 with c | c
      · rw [a, b, c, show ((0 : Int32) ||| 16) ||| 0 = 16 from by decide] at k
        exact Or.inl ⟨0, ⟨fun _ => a, fun _ => rfl⟩, fun post h => br_t lt (br_t a (br_f b' (br_t c (br_t rfl (br_f o (br_t rfl h)))))), fun post h => br_f ne (nm_r k (br_f (by decide) (br_t rfl h)))⟩
      · rw [a, b, c, show ((0 : Int32) ||| 16) ||| 1024 = 1040 from by decide] at k
        have c' : ¬ p1 &&& 1024 = 0 := by rw [c]; decide
        exact Or.inr ⟨fun post h => br_t lt (br_t a (br_f b' (br_f c' (br_t rfl (br_f o (br_f o h)))))), fun post h => br_f ne (nm_r k (br_f (by decide) (br_f (by decide) (br_f (by decide) (br_f (by decide) h)))))⟩
  · have a' : ¬ p1 &&& 512 = 0 := by rw [a]; decide
    rcases ht_t16 p1 with b | b
    · rcases ht_t1024 p1 with c | c
      · rw [a, b, c, show ((512 : Int32) ||| 0) ||| 0 = 512 from by decide] at k
        exact Or.inr ⟨fun post h => br_t lt (br_f a' (br_t b (br_t c (br_f o (br_t rfl h))))), fun post h => br_f ne (nm_r k (br_f (by decide) (br_f (by decide) (br_f (by decide) (br_f (by decide) h)))))⟩
      · rw [a, b, c, show ((512 : Int32) ||| 0) ||| 1024 = 1536 from by decide] at k
        have c' : ¬ p1 &&& 1024 = 0 := by rw [c]; decide
        exact Or.inl ⟨1, ⟨fun z => absurd z o, fun z => absurd z a'⟩, fun post h => br_t lt (br_f a' (br_t b (br_f c' (br_f o (br_f o (br_t rfl h)))))), fun post h => br_f ne (nm_r k (br_f (by decide) (br_f (by decide) (br_f (by decide) (br_t rfl h)))))⟩
    · have b' : ¬ p1 &&& 16 = 0 := by rw [b]; decide
      rcases ht_t1024 p1 with c | c
      · rw [a, b, c, show ((512 : Int32) ||| 16) ||| 0 = 528 from by decide] at k
        exact Or.inr ⟨fun post h => br_t lt (br_f a' (br_f b' (br_t c (br_f o (br_t rfl h))))), fun post h => br_f ne (nm_r k (br_f (by decide) (br_f (by decide) (br_f (by decide) (br_f (by decide) h)))))⟩
      · rw [a, b, c, show ((512 : Int32) ||| 16) ||| 1024 = 1552 from by decide] at k
        have c' : ¬ p1 &&& 1024 = 0 := by rw [c]; decide
        exact Or.inr ⟨fun post h => br_t lt (br_f a' (br_f b' (br_f c' (br_f o (br_f o (br_f o h)))))), fun post h => br_f ne (nm_r k (br_f (by decide) (br_f (by decide) (br_f (by decide) (br_f (by decide) h)))))⟩
/-- the super's gate: -3, -4, or on -/
theorem ht_mid (hn : n < cp) (h8 : cp ≤ 8) (p0 p1 p2 z : Int32) : (∃ r : Int32, (∀ post : Int32 → SX → Prop, post r (nI cp, nI n, nI m, S, F, PG, EF, ET) → wX_addClass_88 post p0 p1 p2 z (nI cp) (nI n) (nI m) S F PG EF ET) ∧ (∀ post : Int32 → SY → Prop, post r (nI cp, nI n, nI m, S, F, PK, NF, DR, RC) → wY_addClass_75 post p0 p1 p2 z (nI cp) (nI n) (nI m) S F PK NF DR RC)) ∨ (((n = 0 ∧ p0 = -1) ∨ (0 < n ∧ ∃ s, s < n ∧ p0 = nI s ∧ F s &&& 512 = 0)) ∧ (∀ post : Int32 → SX → Prop, wX_addClass_142 post p0 p1 p2 z (nI cp) (nI n) (nI m) S F PG EF ET → wX_addClass_88 post p0 p1 p2 z (nI cp) (nI n) (nI m) S F PG EF ET) ∧ (∀ post : Int32 → SY → Prop, wY_addClass_121 post p0 p1 p2 z (nI cp) (nI n) (nI m) S F PK NF DR RC → wY_addClass_75 post p0 p1 p2 z (nI cp) (nI n) (nI m) S F PK NF DR RC)) := by
  rcases Nat.eq_zero_or_pos n with n0 | n0
  · have e : nI n = 0 := by rw [n0]; rfl
    by_cases h : p0 = -1
    · exact Or.inr ⟨Or.inl ⟨n0, h⟩, fun post g => br_t e (br_t h g), fun post g => br_t e (br_t h g)⟩
    · exact Or.inl ⟨-3, fun post g => br_t e (br_f h g), fun post g => br_t e (br_f h g)⟩
  · have e : ¬ nI n = 0 := nI_ne0 n0 (by omega)
    rcases pk_ix p0 (n := n) (by omega) with h | h | ⟨s, hs, rfl⟩
    · have hv : ¬ ∃ j, j < n ∧ p0 = nI j := by
        rintro ⟨j, hj, rfl⟩
        exact nI_pos (by omega) h
      exact Or.inl ⟨-3, fun post g => br_f e (ht_xv0 hv (by omega) (br_t rfl g)), fun post g => br_f e (br_t h g)⟩
    · have hv : ¬ ∃ j, j < n ∧ p0 = nI j := by
        rintro ⟨j, hj, rfl⟩
        exact nI_ge hj (by omega) h
      exact Or.inl ⟨-3, fun post g => br_f e (ht_xv0 hv (by omega) (br_t rfl g)), fun post g => br_f e (br_c (fun _ => g) (fun _ => br_f (Int32.not_lt.mpr h) g))⟩
    · have hi : vp_in (nI s) 8 := vp_in_nI (by omega) (by omega)
      have hc : (nI s).toNatClampNeg = s := nI_clamp (by omega)
      have lt : nI s < nI n := nI_lt hs (by omega)
      have k := ht_528 (F s)
      rcases ht_t512 (F s) with a | a
      · rcases ht_t16 (F s) with b | b
        · rw [a, b, show (0 : Int32) ||| 0 = 0 from by decide] at k
          refine Or.inr ⟨Or.inr ⟨n0, s, hs, rfl, a⟩, fun post g => br_f e ?_, fun post g => br_f e (br_f (nI_pos (by omega)) (br_t lt ⟨hi, ?_⟩))⟩
          · refine ht_xv1 hs (by omega) (br_f (by decide) ⟨hi, ?_⟩)
            rw [hc]
            exact nm_e (br_t a (br_t b g))
          · rw [hc]
            exact br_t k g
        · rw [a, b, show (0 : Int32) ||| 16 = 16 from by decide] at k
          have b' : ¬ F s &&& 16 = 0 := by rw [b]; decide
          have k' : ¬ F s &&& 528 = 0 := by rw [k]; decide
          refine Or.inl ⟨-4, fun post g => br_f e ?_, fun post g => br_f e (br_f (nI_pos (by omega)) (br_t lt ⟨hi, ?_⟩))⟩
          · refine ht_xv1 hs (by omega) (br_f (by decide) ⟨hi, ?_⟩)
            rw [hc]
            exact nm_e (br_t a (br_f b' g))
          · rw [hc]
            exact br_f k' g
      · have a' : ¬ F s &&& 512 = 0 := by rw [a]; decide
        have k' : ¬ F s &&& 528 = 0 := by
          rw [k, a]
          rcases ht_t16 (F s) with b | b
          · rw [b]; decide
          · rw [b]; decide
        refine Or.inl ⟨-4, fun post g => br_f e ?_, fun post g => br_f e (br_f (nI_pos (by omega)) (br_t lt ⟨hi, ?_⟩))⟩
        · refine ht_xv1 hs (by omega) (br_f (by decide) ⟨hi, ?_⟩)
          rw [hc]
          exact nm_e (br_f a' g)
        · rw [hc]
          exact br_f k' g
theorem ht_x154 (hn : n < cp) (h8 : cp ≤ 8) {p0 p1 p2 : Int32} {post : Int32 → SX → Prop} (hp : post (nI n) (nI cp, nI (n + 1), nI m, upd S n p0, upd F n (p1 &&& 65535), upd PG n (p2 &&& 65535), EF, ET)) : wX_addClass_154 post p0 p1 p2 (nI cp) (nI n) (nI m) S F PG EF ET := by
  have hi : vp_in (nI n) 8 := vp_in_nI (by omega) (by omega)
  have hc : (nI n).toNatClampNeg = n := nI_clamp (by omega)
  unfold wX_addClass_154
  rw [hc, nI_1]
  exact ⟨hi, nm_e ⟨hi, nm_e ⟨hi, nm_e (nm_e hp)⟩⟩⟩
theorem ht_y133 (hn : n < cp) (h8 : cp ≤ 8) {p0 p1 p2 : Int32} (hb : vp_nar .byte p0.toInt8.toInt32 = p0) {post : Int32 → SY → Prop} (hp : post (nI n) (nI cp, nI (n + 1), nI m, upd S n p0, upd F n (p1 &&& 65535), upd PK n p2.toInt16.toInt32, NF, DR, RC)) : wY_addClass_133 post p0 p1 p2 (nI cp) (nI n) (nI m) S F PK NF DR RC := by
  have hi : vp_in (nI n) 8 := vp_in_nI (by omega) (by omega)
  have hc : (nI n).toNatClampNeg = n := nI_clamp (by omega)
  unfold wY_addClass_133
  rw [hc, nI_1, hb, ht_ch, pk_vs]
  exact nm_e ⟨hi, nm_e ⟨hi, nm_e ⟨hi, nm_e hp⟩⟩⟩
theorem ht_qadd (hQ : ht_Q cp n m S F PG EF ET PK NF DR) (hn : n < cp) {p0 p1 p2 : Int32} (hc : (n = 0 ∧ p0 = -1) ∨ (0 < n ∧ ∃ s, s < n ∧ p0 = nI s ∧ F s &&& 512 = 0)) (hz : ¬ p1 &&& 512 = 0 → p0 = 0) : ht_Q cp (n + 1) m (upd S n p0) (upd F n (p1 &&& 65535)) (upd PG n (p2 &&& 65535)) EF ET (upd PK n p2.toInt16.toInt32) NF DR := by
  obtain ⟨⟨⟨w1, w2, w3, w4⟩, w5, w6, w7, w8⟩, hD, hP, hC⟩ := hQ
  refine ⟨⟨⟨w1, w2, by omega, w4⟩, ?_, ?_, ?_, ?_⟩, hD, ?_, hC⟩
  · intro _
    rcases hc with ⟨c1, c2⟩ | ⟨c1, _⟩
    · subst c1
      rw [pk_us, pk_us, ht_512]
      refine ⟨c2, ?_⟩
      refine Classical.byContradiction fun z => ?_
      have := (hz z).symm.trans c2
      exact absurd this (by decide)
    · rw [pk_un (by omega), pk_un (by omega)]
      exact w5 c1
  · intro x x0 hx
    by_cases e : x = n
    · subst e
      rcases hc with ⟨c1, c2⟩ | ⟨c1, s, hs, c2, c3⟩
      · omega
      · refine ⟨s, hs, ?_, ?_⟩
        · rw [pk_us]; exact c2
        · rw [pk_un (by omega)]; exact c3
    · obtain ⟨s, h1, h2, h3⟩ := w6 x x0 (by omega)
      refine ⟨s, h1, ?_, ?_⟩
      · rw [pk_un e]; exact h2
      · rw [pk_un (by omega)]; exact h3
  · intro x hx h
    by_cases e : x = n
    · subst e
      rw [pk_us, ht_512] at h
      rw [pk_us]
      exact hz h
    · rw [pk_un e] at h
      rw [pk_un e]
      exact w7 x (by omega) h
  · intro e he
    obtain ⟨a, b, k1, k2, k3, k4, k5⟩ := w8 e he
    exact ⟨a, b, k1, by omega, k3, k4, by rw [pk_un (by omega)]; exact k5⟩
  · intro a ha
    by_cases e : a = n
    · subst e
      rw [pk_us, pk_us, ht_pk]
    · rw [pk_un e, pk_un e]
      exact hP a (by omega)
end
theorem i_vc_addClass {k : Nat} {u : SX} {v : SY} (I : i_Rel k u v) (hk : k + 4 ≤ 2049) (v1 : Int32) (v2 : Int32) (v3 : Int32) : wpX_addClass (fun r u' => wpY_addClass (fun r' v' => r' = r ∧ i_Rel (k + 4) u' v') v v1 v2 v3) u v1 v2 v3 := by
  obtain ⟨cp, n, m, S, F, PG, EF, ET, PK, NF, DR, RC, rfl, rfl, hQ⟩ := I
  have hq := hQ.1.1
  have h8 := hq.2.1
  rcases Nat.lt_or_ge n cp with hn | hn
  · rcases ht_fl (m := m) (S := S) (F := F) (PG := PG) (EF := EF) (ET := ET) (PK := PK) (NF := NF) (DR := DR) (RC := RC) v1 v2 v3 hn h8 with ⟨z, hz, hX, hY⟩ | ⟨hX, hY⟩
    · rcases ht_mid (m := m) (S := S) (F := F) (PG := PG) (EF := EF) (ET := ET) (PK := PK) (NF := NF) (DR := DR) (RC := RC) hn h8 v1 v2 v3 z with ⟨r, gX, gY⟩ | ⟨hc, gX, gY⟩
      · exact hX _ (gX _ (hY _ (gY _ ⟨rfl, ht_rel hQ⟩)))
      · have hb : vp_nar .byte v1.toInt8.toInt32 = v1 := by
          rcases hc with ⟨_, c2⟩ | ⟨_, s, hs, c2, _⟩
          · rw [c2]; exact ht_by1
          · rw [c2]; exact ht_by s (by omega)
        by_cases z0 : z = 0
        · have hQ' := ht_qadd (p2 := v3) hQ hn hc (fun q => absurd (hz.mp z0) q)
          refine hX _ (gX _ (br_t z0 (ht_x154 hn h8 ?_)))
          exact hY _ (gY _ (br_t z0 (ht_y133 hn h8 hb ⟨rfl, ht_rel hQ'⟩)))
        · by_cases s0 : v1 = 0
          · have hQ' := ht_qadd (p1 := v2) (p2 := v3) hQ hn hc (fun _ => s0)
            refine hX _ (gX _ (br_f z0 (br_t s0 (ht_x154 hn h8 ?_))))
            exact hY _ (gY _ (br_f z0 (br_t s0 (ht_y133 hn h8 hb ⟨rfl, ht_rel hQ'⟩))))
          · exact hX _ (gX _ (br_f z0 (br_f s0 (hY _ (gY _ (br_f z0 (br_f s0 ⟨rfl, ht_rel hQ⟩)))))))
    · exact hX _ (hY _ ⟨rfl, ht_rel hQ⟩)
  · have e : n = cp := by omega
    refine br_f (nI_nlt hn (by omega)) ?_
    exact br_t (by rw [e]) ⟨rfl, ht_rel hQ⟩
end
section
/-! addIface -/
section
variable {cp n m : Nat} {S F PG EF ET PK NF : Nat → Int32} {DR : Nat → Int64} {RC : Nat → Int32}
theorem ht_cle (EF : Nat → Int32) (a : Nat) : ∀ m, ht_cnt EF a m ≤ m := by
  intro m
  induction m with
  | zero => exact Nat.le_refl 0
  | succ m ih =>
    show ht_cnt EF a m + (if EF m = nI a then 1 else 0) ≤ m + 1
    by_cases h : EF m = nI a
    · rw [if_pos h]; omega
    · rw [if_neg h]; omega
theorem ht_ccg {f g : Nat → Int32} (a : Nat) : ∀ m, (∀ e, e < m → f e = g e) → ht_cnt f a m = ht_cnt g a m := by
  intro m
  induction m with
  | zero => intro _; rfl
  | succ m ih =>
    intro h
    show ht_cnt f a m + (if f m = nI a then 1 else 0) = ht_cnt g a m + (if g m = nI a then 1 else 0)
    rw [ih (fun e he => h e (by omega)), h m (by omega)]
theorem ht_x61 (hm : m < cp) (h8 : cp ≤ 8) {post : Int32 → SX → Prop} {c i : Nat} (hno : ¬ ∃ e, e < m ∧ EF e = nI c ∧ ET e = nI i) (hp : post (nI (ht_cnt EF c m + 1)) (nI cp, nI n, nI (m + 1), S, F, PG, upd EF m (nI c), upd ET m (nI i))) : ∀ d e : Nat, e + d = m → wX_addIface_61 post (nI c) (nI i) (nI cp) (nI n) (nI m) S F PG EF ET (d + 1) (nI (ht_cnt EF c e)) (nI e) := by
  intro d
  induction d with
  | zero =>
    intro e he
    have em : e = m := by omega
    subst em
    have hi : vp_in (nI e) 8 := vp_in_nI (by omega) (by omega)
    refine br_t (nI_le (Nat.le_refl e) (by omega)) ⟨hi, ?_⟩
    rw [nI_clamp (by omega)]
    refine nm_e ⟨hi, nm_e (nm_r (nI_1 e) ?_)⟩
    rw [nI_1 (ht_cnt EF c e)]
    exact hp
  | succ d ih =>
    intro e he
    have hi : vp_in (nI e) 8 := vp_in_nI (by omega) (by omega)
    have hc : (nI e).toNatClampNeg = e := nI_clamp (by omega)
    refine br_f (nI_ge (by omega) (by omega)) ⟨hi, ?_⟩
    rw [hc]
    have key := ih (e + 1) (by omega)
    by_cases h1 : EF e = nI c
    · refine br_t h1 ⟨hi, br_f (fun z => hno ⟨e, by omega, h1, z⟩) ?_⟩
      have ce : ht_cnt EF c (e + 1) = ht_cnt EF c e + 1 := by
        show ht_cnt EF c e + (if EF e = nI c then 1 else 0) = _
        rw [if_pos h1]
      rw [ce] at key
      exact nm_r (nI_1 _) (nm_r (nI_1 e) key)
    · refine br_f h1 ?_
      have ce : ht_cnt EF c (e + 1) = ht_cnt EF c e := by
        show ht_cnt EF c e + (if EF e = nI c then 1 else 0) = _
        rw [if_neg h1]
        rfl
      rw [ce] at key
      exact nm_r (nI_1 e) key
theorem ht_x61d (hm : m ≤ 8) {post : Int32 → SX → Prop} {c i : Nat} (hp : post (-5) (nI cp, nI n, nI m, S, F, PG, EF, ET)) : ∀ (d e : Nat) (q : Int32), e + d = m → (∃ e', e ≤ e' ∧ e' < m ∧ EF e' = nI c ∧ ET e' = nI i) → wX_addIface_61 post (nI c) (nI i) (nI cp) (nI n) (nI m) S F PG EF ET (d + 1) q (nI e) := by
  intro d
  induction d with
  | zero =>
    rintro e q he ⟨e', h1, h2, _⟩
    omega
  | succ d ih =>
    rintro e q he ⟨e', h1, h2, h3, h4⟩
    have hi : vp_in (nI e) 8 := vp_in_nI (by omega) (by omega)
    have hc : (nI e).toNatClampNeg = e := nI_clamp (by omega)
    refine br_f (nI_ge (by omega) (by omega)) ⟨hi, ?_⟩
    rw [hc]
    by_cases g1 : EF e = nI c
    · refine br_t g1 ⟨hi, ?_⟩
      by_cases g2 : ET e = nI i
      · exact br_t g2 hp
      · refine br_f g2 (nm_e (nm_r (nI_1 e) (ih (e + 1) _ (by omega) ⟨e', ?_, h2, h3, h4⟩)))
        rcases Nat.lt_or_ge e e' with z | z
        · exact z
        · have z2 : e' = e := by omega
          rw [z2] at h4
          exact absurd h4 g2
    · refine br_f g1 (nm_r (nI_1 e) (ih (e + 1) _ (by omega) ⟨e', ?_, h2, h3, h4⟩))
      rcases Nat.lt_or_ge e e' with z | z
      · exact z
      · have z2 : e' = e := by omega
        rw [z2] at h3
        exact absurd h3 g1
theorem ht_exm {x y : Int32} {a b : Nat} : (∃ e, e < m + 1 ∧ upd EF m x e = nI a ∧ upd ET m y e = nI b) ↔ (∃ e, e < m ∧ EF e = nI a ∧ ET e = nI b) ∨ (x = nI a ∧ y = nI b) := by
  constructor
  · rintro ⟨e, h1, h2, h3⟩
    by_cases q : e = m
    · subst q
      rw [pk_us] at h2 h3
      exact Or.inr ⟨h2, h3⟩
    · rw [pk_un q] at h2 h3
      exact Or.inl ⟨e, by omega, h2, h3⟩
  · intro h
    rcases h with ⟨e, h1, h2, h3⟩ | ⟨h2, h3⟩
    · exact ⟨e, by omega, by rw [pk_un (by omega)]; exact h2, by rw [pk_un (by omega)]; exact h3⟩
    · exact ⟨m, by omega, by rw [pk_us]; exact h2, by rw [pk_us]; exact h3⟩
theorem ht_qedge (hQ : ht_Q cp n m S F PG EF ET PK NF DR) (hm : m < cp) {c i : Nat} (hc : c < n) (hi : i < c) (hI : ¬ F i &&& 512 = 0) : ht_Q cp n (m + 1) S F PG (upd EF m (nI c)) (upd ET m (nI i)) PK (upd NF c (nI (ht_cnt EF c m + 1))) (vp_updL DR c (DR c ||| ((1 : Int64) <<< ((nI i).toInt64 &&& 63)))) := by
  obtain ⟨⟨⟨w1, w2, w3, w4⟩, w5, w6, w7, w8⟩, hD, hP, hC⟩ := hQ
  refine ⟨⟨⟨w1, w2, w3, by omega⟩, w5, w6, w7, ?_⟩, ?_, hP, ?_⟩
  · intro e he
    by_cases q : e = m
    · subst q
      exact ⟨c, i, hi, hc, pk_us, pk_us, hI⟩
    · obtain ⟨a, b, k1, k2, k3, k4, k5⟩ := w8 e (by omega)
      exact ⟨a, b, k1, k2, (pk_un q).trans k3, (pk_un q).trans k4, k5⟩
  · intro a b ha hb
    rw [ht_exm, ← hD a b ha hb]
    by_cases q : a = c
    · subst q
      rw [pk_uLs, Int64.toBitVec_or, BitVec.getLsbD_or, ht_s64 i (by omega), BitVec.getLsbD_twoPow, Bool.or_eq_true, Bool.and_eq_true, decide_eq_true_eq, decide_eq_true_eq]
      constructor
      · intro z
        rcases z with z | z
        · exact Or.inl z
        · exact Or.inr ⟨rfl, by rw [z.2]⟩
      · intro z
        rcases z with z | z
        · exact Or.inl z
        · exact Or.inr ⟨by omega, (nI_eq (by omega) (by omega)).mp z.2⟩
    · rw [pk_uLn q]
      constructor
      · exact Or.inl
      · intro z
        rcases z with z | z
        · exact z
        · exact absurd ((nI_eq (by omega) (by omega)).mp z.1).symm q
  · intro a ha
    have ce : ht_cnt (upd EF m (nI c)) a (m + 1) = ht_cnt EF a m + (if nI c = nI a then 1 else 0) := by
      show ht_cnt (upd EF m (nI c)) a m + (if upd EF m (nI c) m = nI a then 1 else 0) = _
      rw [pk_us, ht_ccg a m (f := upd EF m (nI c)) (g := EF) (fun e he => pk_un (by omega))]
    rw [ce]
    by_cases q : a = c
    · subst q
      rw [pk_us, if_pos rfl]
    · rw [pk_un q, if_neg (fun z => q ((nI_eq (by omega) (by omega)).mp z).symm)]
      exact hC a ha
end
theorem i_vc_addIface {k : Nat} {u : SX} {v : SY} (I : i_Rel k u v) (hk : k + 4 ≤ 2049) (v1 : Int32) (v2 : Int32) : wpX_addIface (fun r u' => wpY_addIface (fun r' v' => r' = r ∧ i_Rel (k + 4) u' v') v v1 v2) u v1 v2 := by
  obtain ⟨cp, n, m, S, F, PG, EF, ET, PK, NF, DR, RC, rfl, rfl, hQ⟩ := I
  have hq := hQ.1.1
  have h8 := hq.2.1
  have hn : n ≤ 8 := by omega
  have o : ¬ (1 : Int32) = 0 := by decide
  unfold wpX_addIface wpY_addIface
  dsimp only
  by_cases g1 : ∃ j, j < n ∧ v1 = nI j
  · by_cases g2 : ∃ j, j < n ∧ v2 = nI j
    · obtain ⟨c, hc, rfl⟩ := g1
      obtain ⟨i, hi, rfl⟩ := g2
      refine ht_xv1 hc hn (br_f o ?_)
      refine ht_xv1 hi hn (br_f o ?_)
      have vi : vp_in (nI i) 8 := vp_in_nI (by omega) (by omega)
      have vc : vp_in (nI c) 8 := vp_in_nI (by omega) (by omega)
      have ei : (nI i).toNatClampNeg = i := nI_clamp (by omega)
      have ec : (nI c).toNatClampNeg = c := nI_clamp (by omega)
      rw [ei, ec]
      rcases Nat.lt_or_ge i c with hic | hic
      · have lt : nI i < nI c := nI_lt hic (by omega)
        refine br_t lt ⟨vi, ?_⟩
        by_cases hI : F i &&& 512 = 0
        · refine br_t hI ?_
          refine ht_yv1 hc hn (br_f o ?_)
          refine ht_yv1 hi hn (br_f o ?_)
          exact br_t lt ⟨vi, br_t hI ⟨rfl, ht_rel hQ⟩⟩
        · refine br_f hI ?_
          rcases Nat.lt_or_ge m cp with hm | hm
          · have ne : ¬ nI m = nI cp := fun z => by have := (nI_eq (by omega) (by omega)).mp z; omega
            refine br_t (nI_lt hm (by omega)) ⟨m + 1, ?_⟩
            have hor := ts_or (w := DR c) (m := (1 : Int64) <<< ((nI i).toInt64 &&& 63)) (j := i) (by omega) (ht_s64 i (by omega))
            have hbit := hQ.2.1 c i (by omega) (by omega)
            by_cases hd : ∃ e, e < m ∧ EF e = nI c ∧ ET e = nI i
            · have hsame := hor.mpr (hbit.mpr hd)
              obtain ⟨e, d1, d2, d3⟩ := hd
              refine ht_x61d (by omega) ?_ m 0 0 (by omega) ⟨e, Nat.zero_le e, d1, d2, d3⟩
              refine ht_yv1 hc hn (br_f o ?_)
              refine ht_yv1 hi hn (br_f o ?_)
              refine br_t lt ⟨vi, br_f hI (br_f ne ⟨vc, nm_e ⟨vc, vc, nm_e (br_t hsame ⟨rfl, ?_⟩)⟩⟩)⟩
              rw [hsame]
              have hf : vp_updL DR c (DR c) = DR := by
                funext j
                by_cases q : j = c
                · subst q; exact pk_uLs
                · exact pk_uLn q
              rw [hf]
              exact ht_rel hQ
            · have hdiff : ¬ (DR c ||| ((1 : Int64) <<< ((nI i).toInt64 &&& 63))) = DR c := fun z => hd (hbit.mp (hor.mp z))
              have cl := ht_cle EF c m
              have hv : (NF c + 1).toInt16.toInt32 = nI (ht_cnt EF c m + 1) := by
                rw [hQ.2.2.2 c (by omega)]
                exact ht_sh _ (by omega)
              have hv2 : vp_nar .short ((NF c + 1).toInt16.toInt32) = nI (ht_cnt EF c m + 1) := by rw [pk_vs]; exact hv
              refine ht_x61 hm h8 hd ?_ m 0 (by omega)
              refine ht_yv1 hc hn (br_f o ?_)
              refine ht_yv1 hi hn (br_f o ?_)
              refine br_t lt ⟨vi, br_f hI (br_f ne ⟨vc, nm_e ⟨vc, vc, nm_e (br_f hdiff (nm_r (nI_1 m) ⟨vc, vc, nm_e ⟨hv, ?_⟩⟩))⟩⟩)⟩
              rw [hv2]
              exact ht_rel (ht_qedge hQ hm hc hic hI)
          · have e : m = cp := by omega
            refine br_f (nI_nlt hm (by omega)) ?_
            refine ht_yv1 hc hn (br_f o ?_)
            refine ht_yv1 hi hn (br_f o ?_)
            exact br_t lt ⟨vi, br_f hI (br_t (by rw [e]) ⟨rfl, ht_rel hQ⟩)⟩
      · have nlt : ¬ nI i < nI c := nI_nlt hic (by omega)
        refine br_f nlt ?_
        refine ht_yv1 hc hn (br_f o ?_)
        refine ht_yv1 hi hn (br_f o ?_)
        exact br_f nlt ⟨rfl, ht_rel hQ⟩
    · obtain ⟨c, hc, rfl⟩ := g1
      refine ht_xv1 hc hn (br_f o ?_)
      refine ht_xv0 g2 hn (br_t rfl ?_)
      refine ht_yv1 hc hn (br_f o ?_)
      exact ht_yv0 g2 hn (br_t rfl ⟨rfl, ht_rel hQ⟩)
  · refine ht_xv0 g1 hn (br_t rfl ?_)
    exact ht_yv0 g1 hn (br_t rfl ⟨rfl, ht_rel hQ⟩)
end
