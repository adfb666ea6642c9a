section
/-! ===== bits of ints: mb_b x i (rows of BITS.to-paste, renamed) ===== -/
def mb_b (x : Int32) (i : Nat) : Bool := x.toBitVec.getLsbD i
theorem mb_ext {x y : Int32} (h : ∀ i, i < 32 → mb_b x i = mb_b y i) : x = y := Int32.toBitVec_inj.mp (BitVec.eq_of_getLsbD_eq (fun i hi => h i hi))
theorem mb_or (x y : Int32) (i : Nat) : mb_b (x ||| y) i = (mb_b x i || mb_b y i) := by unfold mb_b; rw [Int32.toBitVec_or, BitVec.getLsbD_or]
theorem mb_and (x y : Int32) (i : Nat) : mb_b (x &&& y) i = (mb_b x i && mb_b y i) := by unfold mb_b; rw [Int32.toBitVec_and, BitVec.getLsbD_and]
theorem mb_xor (x y : Int32) (i : Nat) : mb_b (x ^^^ y) i = (mb_b x i ^^ mb_b y i) := by unfold mb_b; rw [Int32.toBitVec_xor, BitVec.getLsbD_xor]
theorem mb_big {x : Int32} {i : Nat} (h : 32 ≤ i) : mb_b x i = false := BitVec.getLsbD_of_ge _ _ h
theorem mb_255 (i : Nat) : mb_b 255 i = decide (i < 8) := by
  rcases Nat.lt_or_ge i 32 with h | h
  · exact (by decide +kernel : ∀ i, i < 32 → mb_b 255 i = decide (i < 8)) i h
  · rw [mb_big h, decide_eq_false (by omega)]
theorem mb_m1 : ∀ i, i < 32 → mb_b (-1) i = true := by decide +kernel
theorem mb_0 (i : Nat) : mb_b 0 i = false := BitVec.getLsbD_zero
theorem mb_1 (i : Nat) : mb_b 1 i = decide (i = 0) := by
  rcases Nat.lt_or_ge i 32 with h | h
  · exact (by decide +kernel : ∀ i, i < 32 → mb_b 1 i = decide (i = 0)) i h
  · rw [mb_big h, decide_eq_false (by omega)]
theorem mb_sl : ∀ n, n < 32 → ((nI n &&& 31).toBitVec.smod 32).toNat = n := by decide +kernel
theorem mb_shl (n : Nat) (hn : n < 32) (x : Int32) {i : Nat} (hi : i < 32) : mb_b (x <<< (nI n &&& 31)) i = (decide (n ≤ i) && mb_b x (i - n)) := by
  unfold mb_b
  rw [Int32.toBitVec_shiftLeft]
  show (x.toBitVec <<< ((nI n &&& 31).toBitVec.smod 32).toNat).getLsbD i = _
  rw [mb_sl n hn, BitVec.getLsbD_shiftLeft]
  rcases Nat.lt_or_ge i n with h | h
  · simp [h, Nat.not_le.mpr h]
  · simp [hi, h, Nat.not_lt.mpr h]
theorem mb_sshr (n : Nat) (hn : n < 32) (x : Int32) {i : Nat} (hi : i < 32) : mb_b (x >>> (nI n &&& 31)) i = if n + i < 32 then mb_b x (n + i) else mb_b x 31 := by
  unfold mb_b
  rw [Int32.toBitVec_shiftRight]
  show (x.toBitVec.sshiftRight ((nI n &&& 31).toBitVec.smod 32).toNat).getLsbD i = _
  rw [mb_sl n hn, BitVec.getLsbD_sshiftRight, BitVec.msb_eq_getLsbD_last]
  simp [hi]
/-- one bit of an int, as the program asks for it -/
theorem mb_tv (x : Int32) (n : Nat) (hn : n < 32) : (x >>> (nI n &&& 31)) &&& 1 = if mb_b x n then 1 else 0 := by
  apply mb_ext
  intro i hi
  rw [mb_and, mb_sshr n hn x hi, mb_1]
  cases i with
  | zero =>
    rw [if_pos (by omega)]
    show (mb_b x n && decide (0 = 0)) = _
    cases h : mb_b x n
    · simp [mb_0]
    · simp [mb_1]
  | succ j =>
    cases h : mb_b x n
    · simp [mb_0]
    · simp [mb_1]
theorem mb_t {x : Int32} {n : Nat} (hn : n < 32) : ((x >>> (nI n &&& 31)) &&& 1) = 1 ↔ mb_b x n = true := by
  rw [mb_tv x n hn]
  cases mb_b x n
  · exact ⟨fun z => absurd z (by decide), fun z => absurd z (by decide)⟩
  · exact ⟨fun _ => rfl, fun _ => rfl⟩
theorem mb_ss (n : Nat) : ∀ i, i < 32 → n < 32 → mb_b ((1 : Int32) <<< (nI n &&& 31)) i = decide (i = n) := by
  intro i hi hn
  rw [mb_shl n hn 1 hi, mb_1]
  by_cases e : i = n
  · subst e; simp
  · by_cases h : n ≤ i
    · simp [h, e, show ¬ i - n = 0 by omega]
    · simp [h, e]
/-! ===== bits of longs: mb_l X k; numbers 0..62 in a long: mb_in X n ===== -/
def mb_l (X : Int64) (k : Nat) : Bool := X.toBitVec.getLsbD k
theorem mb_lext {x y : Int64} (h : ∀ i, i < 64 → mb_l x i = mb_l y i) : x = y := Int64.toBitVec_inj.mp (BitVec.eq_of_getLsbD_eq (fun i hi => h i hi))
theorem mb_lor (x y : Int64) (i : Nat) : mb_l (x ||| y) i = (mb_l x i || mb_l y i) := by unfold mb_l; rw [Int64.toBitVec_or, BitVec.getLsbD_or]
theorem mb_land (x y : Int64) (i : Nat) : mb_l (x &&& y) i = (mb_l x i && mb_l y i) := by unfold mb_l; rw [Int64.toBitVec_and, BitVec.getLsbD_and]
theorem mb_lxor (x y : Int64) (i : Nat) : mb_l (x ^^^ y) i = (mb_l x i ^^ mb_l y i) := by unfold mb_l; rw [Int64.toBitVec_xor, BitVec.getLsbD_xor]
theorem mb_lbig {x : Int64} {i : Nat} (h : 64 ≤ i) : mb_l x i = false := BitVec.getLsbD_of_ge _ _ h
theorem mb_l0 (i : Nat) : mb_l 0 i = false := BitVec.getLsbD_zero
theorem mb_lm1 : ∀ i, i < 64 → mb_l (-1) i = true := by decide +kernel
theorem mb_l1 : ∀ i, i < 64 → mb_l 1 i = decide (i = 0) := by decide +kernel
theorem mb_l65535 : ∀ i, i < 64 → mb_l 65535 i = decide (i < 16) := by decide +kernel
theorem mb_cu : ∀ k, k < 64 → ((nI k).toInt64.toUInt64 &&& Int64.toUInt64 63) = UInt64.ofNat k := by decide +kernel
theorem mb_cs : ∀ k, k < 64 → (((nI k).toInt64 &&& 63).toBitVec.smod 64).toNat = k := by decide +kernel
theorem mb_un {k : Nat} (h : k < 64) : (UInt64.ofNat k).toNat = k := Nat.mod_eq_of_lt (by omega)
theorem mb_lush (X : Int64) {k : Nat} (hk : k < 64) (i : Nat) : mb_l ((X.toUInt64 >>> ((nI k).toInt64.toUInt64 &&& Int64.toUInt64 63)).toInt64) i = mb_l X (k + i) := by
  have e : ((X.toUInt64 >>> ((nI k).toInt64.toUInt64 &&& Int64.toUInt64 63)).toInt64).toBitVec = X.toBitVec >>> k := by
    rw [mb_cu k hk]
    apply BitVec.eq_of_toNat_eq
    show (X.toUInt64 >>> UInt64.ofNat k).toNat = _
    rw [UInt64.toNat_shiftRight, mb_un hk, Nat.mod_eq_of_lt hk, BitVec.toNat_ushiftRight]
    rfl
  unfold mb_l
  rw [e, BitVec.getLsbD_ushiftRight]
theorem mb_lshl (X : Int64) {k : Nat} (hk : k < 64) {i : Nat} (hi : i < 64) : mb_l (X <<< ((nI k).toInt64 &&& 63)) i = (decide (k ≤ i) && mb_l X (i - k)) := by
  unfold mb_l
  rw [Int64.toBitVec_shiftLeft]
  show (X.toBitVec <<< (((nI k).toInt64 &&& 63).toBitVec.smod 64).toNat).getLsbD i = _
  rw [mb_cs k hk, BitVec.getLsbD_shiftLeft]
  rcases Nat.lt_or_ge i k with h | h
  · simp [h, Nat.not_le.mpr h]
  · simp [hi, h, Nat.not_lt.mpr h]
theorem mb_lshr (X : Int64) {k : Nat} (hk : k < 64) {i : Nat} (hi : k + i < 64) : mb_l (X >>> ((nI k).toInt64 &&& 63)) i = mb_l X (k + i) := by
  unfold mb_l
  rw [Int64.toBitVec_shiftRight]
  show (X.toBitVec.sshiftRight (((nI k).toInt64 &&& 63).toBitVec.smod 64).toNat).getLsbD i = _
  rw [mb_cs k hk, BitVec.getLsbD_sshiftRight, if_pos hi]
  simp [show ¬ 64 ≤ i by omega]
theorem mb_ltv (X : Int64) {k : Nat} (hk : k < 64) : ((X.toUInt64 >>> ((nI k).toInt64.toUInt64 &&& Int64.toUInt64 63)).toInt64) &&& 1 = if mb_l X k then 1 else 0 := by
  apply mb_lext
  intro i hi
  rw [mb_land, mb_lush X hk, mb_l1 i hi]
  cases i with
  | zero =>
    show (mb_l X k && decide (0 = 0)) = _
    cases h : mb_l X k
    · simp [mb_l0]
    · simp [mb_l1]
  | succ j =>
    cases h : mb_l X k
    · simp [mb_l0]
    · simp [mb_l1 _ hi]
/-- the number n (0 to 62) is in the set X -/
def mb_in (X : Int64) (n : Int32) : Prop := vp_in n 63 ∧ mb_l X n.toNatClampNeg = true
theorem mb_cl {n : Int32} {N : Nat} (h : vp_in n N) (hN : N < 2 ^ 31) : n.toNatClampNeg < N ∧ n = nI n.toNatClampNeg := by
  obtain ⟨j, hj, rfl⟩ := vp_in_of h hN
  rw [nI_clamp (by omega)]
  exact ⟨hj, rfl⟩
theorem mb_ins {n : Int32} {N M : Nat} (h : vp_in n N) (hN : N < 2 ^ 31) (hM : N ≤ M) : vp_in n M := by
  rw [vp_in_iff] at h ⊢
  omega
theorem mb_in_or {X Y : Int64} {n : Int32} : mb_in (X ||| Y) n ↔ mb_in X n ∨ mb_in Y n := by
  unfold mb_in
  rw [mb_lor, Bool.or_eq_true]
  exact ⟨fun h => h.2.elim (fun a => Or.inl ⟨h.1, a⟩) (fun a => Or.inr ⟨h.1, a⟩), fun h => h.elim (fun a => ⟨a.1, Or.inl a.2⟩) (fun a => ⟨a.1, Or.inr a.2⟩)⟩
theorem mb_in_and {X Y : Int64} {n : Int32} : mb_in (X &&& Y) n ↔ mb_in X n ∧ mb_in Y n := by
  unfold mb_in
  rw [mb_land, Bool.and_eq_true]
  exact ⟨fun h => ⟨⟨h.1, h.2.1⟩, ⟨h.1, h.2.2⟩⟩, fun h => ⟨h.1.1, h.1.2, h.2.2⟩⟩
theorem mb_in_not {X Y : Int64} {n : Int32} : mb_in (X &&& (Y ^^^ (-1))) n ↔ mb_in X n ∧ ¬ mb_in Y n := by
  unfold mb_in
  constructor
  · intro h
    have c := mb_cl h.1 (by omega)
    have h2 := h.2
    rw [mb_land, mb_lxor, mb_lm1 _ (by omega)] at h2
    cases a : mb_l X n.toNatClampNeg <;> cases b : mb_l Y n.toNatClampNeg <;> simp [a, b] at h2 ⊢
    exact h.1
  · intro h
    have c := mb_cl h.1.1 (by omega)
    refine ⟨h.1.1, ?_⟩
    rw [mb_land, mb_lxor, mb_lm1 _ (by omega), h.1.2]
    cases b : mb_l Y n.toNatClampNeg
    · rfl
    · exact absurd ⟨h.1.1, b⟩ h.2
theorem mb_in_0 {n : Int32} : ¬ mb_in 0 n := fun h => absurd h.2 (by rw [mb_l0]; decide)
theorem mb_in_bit {m n : Int32} (hm : vp_in m 63) : mb_in ((1 : Int64) <<< (m.toInt64 &&& 63)) n ↔ n = m := by
  unfold mb_in
  obtain ⟨k, hk, rfl⟩ := vp_in_of hm (by omega)
  constructor
  · intro h
    obtain ⟨j, hj, rfl⟩ := vp_in_of h.1 (by omega)
    have h2 := h.2
    rw [nI_clamp (by omega), mb_lshl 1 (by omega) (by omega), mb_l1 _ (by omega)] at h2
    simp at h2
    rw [show j = k by omega]
  · intro h
    subst h
    refine ⟨hm, ?_⟩
    rw [nI_clamp (by omega), mb_lshl 1 (by omega) (by omega), mb_l1 _ (by omega)]
    simp
theorem mb_in_t1 {X : Int64} {n : Int32} (hn : vp_in n 63) : (((X.toUInt64 >>> (n.toInt64.toUInt64 &&& Int64.toUInt64 63)).toInt64) &&& 1) = 1 ↔ mb_in X n := by
  unfold mb_in
  obtain ⟨k, hk, rfl⟩ := vp_in_of hn (by omega)
  rw [mb_ltv X (by omega), nI_clamp (by omega)]
  cases mb_l X k
  · exact ⟨fun z => absurd z (by decide), fun z => absurd z.2 (by decide)⟩
  · exact ⟨fun _ => ⟨hn, rfl⟩, fun _ => rfl⟩
theorem mb_in_t0 {X : Int64} {n : Int32} (hn : vp_in n 63) : (((X.toUInt64 >>> (n.toInt64.toUInt64 &&& Int64.toUInt64 63)).toInt64) &&& 1) = 0 ↔ ¬ mb_in X n := by
  unfold mb_in
  obtain ⟨k, hk, rfl⟩ := vp_in_of hn (by omega)
  rw [mb_ltv X (by omega), nI_clamp (by omega)]
  cases mb_l X k
  · exact ⟨fun _ z => absurd z.2 (by decide), fun _ => rfl⟩
  · exact ⟨fun z => absurd z (by decide), fun z => absurd ⟨hn, rfl⟩ z⟩
/-! ===== rows 0..7 in an int: mb_r x r ===== -/
def mb_r (x : Int32) (r : Int32) : Prop := vp_in r 8 ∧ mb_b x r.toNatClampNeg = true
theorem mb_r_or {x y r : Int32} : mb_r (x ||| y) r ↔ mb_r x r ∨ mb_r y r := by
  unfold mb_r
  rw [mb_or, Bool.or_eq_true]
  exact ⟨fun h => h.2.elim (fun a => Or.inl ⟨h.1, a⟩) (fun a => Or.inr ⟨h.1, a⟩), fun h => h.elim (fun a => ⟨a.1, Or.inl a.2⟩) (fun a => ⟨a.1, Or.inr a.2⟩)⟩
theorem mb_r_0 {r : Int32} : ¬ mb_r 0 r := fun h => absurd h.2 (by rw [mb_0]; decide)
theorem mb_r_bit {m r : Int32} (hm : vp_in m 8) : mb_r ((1 : Int32) <<< (m &&& 31)) r ↔ r = m := by
  unfold mb_r
  obtain ⟨k, hk, rfl⟩ := vp_in_of hm (by omega)
  constructor
  · intro h
    obtain ⟨j, hj, rfl⟩ := vp_in_of h.1 (by omega)
    have h2 := h.2
    rw [nI_clamp (by omega), mb_ss k j (by omega) (by omega)] at h2
    rw [of_decide_eq_true h2]
  · intro h
    subst h
    refine ⟨hm, ?_⟩
    rw [nI_clamp (by omega), mb_ss k k (by omega) (by omega)]
    simp
theorem mb_r_t {x r : Int32} (hr : vp_in r 8) : ((x >>> (r &&& 31)) &&& 1) = 1 ↔ mb_r x r := by
  unfold mb_r
  obtain ⟨k, hk, rfl⟩ := vp_in_of hr (by omega)
  rw [mb_t (by omega), nI_clamp (by omega)]
  exact ⟨fun h => ⟨hr, h⟩, fun h => h.2⟩
end
section
/-! ===== the plain law: versions v, transactions t, numbers n, rows r ===== -/
/-- n is in X, or is 0 (seen by all) -/
def mh_i (X : Int32 → Prop) (n : Int32) : Prop := n = 0 ∨ X n
/-- a version made by m and ended by e is seen with the numbers X -/
def mh_see (X : Int32 → Prop) (m e : Int32) : Prop := mh_i X m ∧ ¬ (e ≠ 0 ∧ X e)
/-- a transaction's own view -/
def mh_own (S : Nat → Int32 → Prop) (nu : Nat → Int32) (t : Nat) : Int32 → Prop := fun n => S t n ∨ n = nu t
def mh_uq (U : Nat → Prop) (rw mk en : Nat → Int32) (X : Int32 → Prop) : Prop :=
  ∀ v w, U v → U w → rw v = rw w → mh_see X (mk v) (en v) → mh_see X (mk w) (en w) → v = w
def mh_Inv (U : Nat → Prop) (rw mk en : Nat → Int32) (C R : Int32 → Prop) (O : Nat → Prop) (S : Nat → Int32 → Prop) (nu : Nat → Int32) (T V : Nat → Int32 → Prop) : Prop :=
  (∀ t, O t → t < 4 ∧ vp_in (nu t) 63 ∧ nu t ≠ 0 ∧ ¬ C (nu t)) ∧
  (∀ n, R n ↔ ∃ t, O t ∧ nu t = n) ∧
  (∀ t u, O t → O u → nu t = nu u → t = u) ∧
  (∀ t n, O t → S t n → C n) ∧
  (∀ v, U v → v < 96 ∧ vp_in (mk v) 63 ∧ vp_in (en v) 63 ∧ vp_in (rw v) 8) ∧
  (∀ v, U v → en v ≠ 0 → C (en v) → mh_i C (mk v)) ∧
  (∀ v t, U v → O t → en v ≠ 0 → S t (en v) → mh_i (S t) (mk v)) ∧
  (∀ v t, U v → O t → mk v = nu t ∨ en v = nu t → T t (rw v)) ∧
  (∀ v t, U v → O t → en v = nu t → mk v = nu t ∨ mh_i C (mk v)) ∧
  (∀ v t, U v → O t → ¬ V t (rw v) → (mh_i C (mk v) → mh_i (S t) (mk v)) ∧ (mh_i C (en v) → mh_i (S t) (en v))) ∧
  (∀ t u r, O t → O u → T t r → T u r → t = u) ∧
  (∀ t r, O t → T t r → ¬ V t r) ∧
  mh_uq U rw mk en C ∧
  (∀ t, O t → mh_uq U rw mk en (S t)) ∧
  (∀ t, O t → mh_uq U rw mk en (mh_own S nu t))
/-- what the law knows of a row: 65535, and nothing is seen; or the value of what is seen -/
def mh_vw (U : Nat → Prop) (rw va mk en : Nat → Int32) (X : Int32 → Prop) (r c : Int32) : Prop :=
  (c = 65535 ∧ ∀ v, U v → rw v = r → ¬ mh_see X (mk v) (en v)) ∨ (c ≠ 65535 ∧ ∃ v, U v ∧ rw v = r ∧ mh_see X (mk v) (en v) ∧ va v = c)
/-- the same versions are seen -/
def mh_sm (U : Nat → Prop) (mk en : Nat → Int32) (X : Int32 → Prop) (U' : Nat → Prop) (mk' en' : Nat → Int32) (X' : Int32 → Prop) : Prop :=
  ∀ v, (U' v ∧ mh_see X' (mk' v) (en' v)) ↔ (U v ∧ mh_see X (mk v) (en v))
theorem mh_sm_rfl {U : Nat → Prop} {mk en : Nat → Int32} {X : Int32 → Prop} : mh_sm U mk en X U mk en X := fun _ => Iff.rfl
theorem mh_sm_tr {U U' U'' : Nat → Prop} {mk en mk' en' mk'' en'' : Nat → Int32} {X X' X'' : Int32 → Prop} (h : mh_sm U mk en X U' mk' en' X') (h' : mh_sm U' mk' en' X' U'' mk'' en'' X'') : mh_sm U mk en X U'' mk'' en'' X'' :=
  fun v => (h' v).trans (h v)
theorem mh_sm_vw {U U' : Nat → Prop} {rw va mk en mk' en' : Nat → Int32} {X X' : Int32 → Prop} {r c : Int32} (h : mh_sm U mk en X U' mk' en' X') (hv : mh_vw U rw va mk en X r c) : mh_vw U' rw va mk' en' X' r c := by
  rcases hv with ⟨hc, hn⟩ | ⟨hc, v, h1, h2, h3, h4⟩
  · exact Or.inl ⟨hc, fun v hU hr hs => hn v ((h v).mp ⟨hU, hs⟩).1 hr ((h v).mp ⟨hU, hs⟩).2⟩
  · exact Or.inr ⟨hc, v, ((h v).mpr ⟨h1, h3⟩).1, h2, ((h v).mpr ⟨h1, h3⟩).2, h4⟩
/-- n' is as good as n for all who look -/
def mh_eqv (C : Int32 → Prop) (O : Nat → Prop) (S : Nat → Int32 → Prop) (nu : Nat → Int32) (C' : Int32 → Prop) (S' : Nat → Int32 → Prop) (n n' : Int32) : Prop :=
  vp_in n' 63 ∧ (mh_i C' n' ↔ mh_i C n) ∧ (∀ t, O t → (mh_i (S' t) n' ↔ mh_i (S t) n)) ∧ (∀ t, O t → (n' = nu t ↔ n = nu t))
/-- and so for what ends a version -/
def mh_eqe (C : Int32 → Prop) (O : Nat → Prop) (S : Nat → Int32 → Prop) (nu : Nat → Int32) (C' : Int32 → Prop) (S' : Nat → Int32 → Prop) (n n' : Int32) : Prop :=
  vp_in n' 63 ∧ ((n' ≠ 0 ∧ C' n') ↔ (n ≠ 0 ∧ C n)) ∧ (∀ t, O t → ((n' ≠ 0 ∧ S' t n') ↔ (n ≠ 0 ∧ S t n))) ∧ (∀ t, O t → (n' = nu t ↔ n = nu t))
section
variable {U U' : Nat → Prop} {rw mk en va mk' en' : Nat → Int32} {C C' R : Int32 → Prop} {O : Nat → Prop} {S S' : Nat → Int32 → Prop} {nu : Nat → Int32} {T V : Nat → Int32 → Prop}
theorem mh_seeC {m e m' e' : Int32} (hm : mh_eqv C O S nu C' S' m m') (he : mh_eqe C O S nu C' S' e e') : mh_see C' m' e' ↔ mh_see C m e := by
  unfold mh_see
  rw [hm.2.1, he.2.1]
theorem mh_seeS {m e m' e' : Int32} (hm : mh_eqv C O S nu C' S' m m') (he : mh_eqe C O S nu C' S' e e') {t : Nat} (ht : O t) : mh_see (S' t) m' e' ↔ mh_see (S t) m e := by
  unfold mh_see
  rw [hm.2.2.1 t ht, he.2.2.1 t ht]
theorem mh_iown {m : Int32} {t : Nat} : mh_i (mh_own S nu t) m ↔ mh_i (S t) m ∨ m = nu t := by
  unfold mh_i mh_own
  exact or_assoc.symm
theorem mh_eown {e : Int32} {t : Nat} (h0 : nu t ≠ 0) : (e ≠ 0 ∧ mh_own S nu t e) ↔ ((e ≠ 0 ∧ S t e) ∨ e = nu t) := by
  unfold mh_own
  constructor
  · rintro ⟨a, b | b⟩
    · exact Or.inl ⟨a, b⟩
    · exact Or.inr b
  · rintro (⟨a, b⟩ | b)
    · exact ⟨a, Or.inl b⟩
    · exact ⟨by rw [b]; exact h0, Or.inr b⟩
theorem mh_seeO {m e m' e' : Int32} (hm : mh_eqv C O S nu C' S' m m') (he : mh_eqe C O S nu C' S' e e') {t : Nat} (ht : O t) (h0 : nu t ≠ 0) : mh_see (mh_own S' nu t) m' e' ↔ mh_see (mh_own S nu t) m e := by
  unfold mh_see
  rw [mh_iown, mh_iown, mh_eown h0, mh_eown h0, hm.2.2.1 t ht, he.2.2.1 t ht, hm.2.2.2 t ht, he.2.2.2 t ht]
theorem mh_chg (h : mh_Inv U rw mk en C R O S nu T V) (hU : ∀ v, U' v → U v) (hm : ∀ v, U' v → mh_eqv C O S nu C' S' (mk v) (mk' v)) (he : ∀ v, U' v → mh_eqe C O S nu C' S' (en v) (en' v))
    (hC : ∀ n, C' n → C n) (hS : ∀ t n, O t → S' t n → C' n) : mh_Inv U' rw mk' en' C' R O S' nu T V := by
  obtain ⟨h1, h2, h3, h4, h5, h6, h7, h8, h9, h10, h11, h12, h13, h14, h15⟩ := h
  refine ⟨fun t ht => ?_, h2, h3, hS, fun v hv => ?_, fun v hv e0 hc => ?_, fun v t hv ht e0 hs => ?_, fun v t hv ht ho => ?_, fun v t hv ht ho => ?_, fun v t hv ht hn => ?_, h11, h12, ?_, ?_, ?_⟩
  · obtain ⟨a, b, c, d⟩ := h1 t ht
    exact ⟨a, b, c, fun z => d (hC _ z)⟩
  · obtain ⟨a, b, c, d⟩ := h5 v (hU v hv)
    exact ⟨a, (hm v hv).1, (he v hv).1, d⟩
  · obtain ⟨a, b⟩ := (he v hv).2.1.mp ⟨e0, hc⟩
    exact (hm v hv).2.1.mpr (h6 v (hU v hv) a b)
  · obtain ⟨a, b⟩ := ((he v hv).2.2.1 t ht).mp ⟨e0, hs⟩
    exact ((hm v hv).2.2.1 t ht).mpr (h7 v t (hU v hv) ht a b)
  · rw [(hm v hv).2.2.2 t ht, (he v hv).2.2.2 t ht] at ho
    exact h8 v t (hU v hv) ht ho
  · rw [(he v hv).2.2.2 t ht] at ho
    rw [(hm v hv).2.2.2 t ht, (hm v hv).2.1]
    exact h9 v t (hU v hv) ht ho
  · obtain ⟨a, b⟩ := h10 v t (hU v hv) ht hn
    rw [(hm v hv).2.1, (hm v hv).2.2.1 t ht]
    refine ⟨a, fun z => ?_⟩
    by_cases e0 : en' v = 0
    · exact Or.inl e0
    · obtain ⟨c, d⟩ := (he v hv).2.1.mp ⟨e0, z.resolve_left e0⟩
      exact Or.inr (((he v hv).2.2.1 t ht).mpr ⟨c, (b (Or.inr d)).resolve_left c⟩).2
  · intro v w hv hw hr s1 s2
    exact h13 v w (hU v hv) (hU w hw) hr ((mh_seeC (hm v hv) (he v hv)).mp s1) ((mh_seeC (hm w hw) (he w hw)).mp s2)
  · intro t ht v w hv hw hr s1 s2
    exact h14 t ht v w (hU v hv) (hU w hw) hr ((mh_seeS (hm v hv) (he v hv) ht).mp s1) ((mh_seeS (hm w hw) (he w hw) ht).mp s2)
  · intro t ht v w hv hw hr s1 s2
    exact h15 t ht v w (hU v hv) (hU w hw) hr ((mh_seeO (hm v hv) (he v hv) ht (h1 t ht).2.2.1).mp s1) ((mh_seeO (hm w hw) (he w hw) ht (h1 t ht).2.2.1).mp s2)
/-- the views stay if nothing that is seen is taken away -/
theorem mh_chgC (hU : ∀ v, U' v → U v) (hk : ∀ v, U v → ¬ U' v → ¬ mh_see C (mk v) (en v)) (hm : ∀ v, U' v → mh_eqv C O S nu C' S' (mk v) (mk' v)) (he : ∀ v, U' v → mh_eqe C O S nu C' S' (en v) (en' v)) : mh_sm U mk en C U' mk' en' C' := by
  intro v
  constructor
  · rintro ⟨a, b⟩
    exact ⟨hU v a, (mh_seeC (hm v a) (he v a)).mp b⟩
  · rintro ⟨a, b⟩
    have c : U' v := Classical.byContradiction (fun z => hk v a z b)
    exact ⟨c, (mh_seeC (hm v c) (he v c)).mpr b⟩
theorem mh_chgO {t : Nat} (ht : O t) (h0 : nu t ≠ 0) (hU : ∀ v, U' v → U v) (hk : ∀ v, U v → ¬ U' v → ¬ mh_see (mh_own S nu t) (mk v) (en v)) (hm : ∀ v, U' v → mh_eqv C O S nu C' S' (mk v) (mk' v)) (he : ∀ v, U' v → mh_eqe C O S nu C' S' (en v) (en' v)) : mh_sm U mk en (mh_own S nu t) U' mk' en' (mh_own S' nu t) := by
  intro v
  constructor
  · rintro ⟨a, b⟩
    exact ⟨hU v a, (mh_seeO (hm v a) (he v a) ht h0).mp b⟩
  · rintro ⟨a, b⟩
    have c : U' v := Classical.byContradiction (fun z => hk v a z b)
    exact ⟨c, (mh_seeO (hm v c) (he v c) ht h0).mpr b⟩
theorem mh_eqv_rfl {n : Int32} (h : vp_in n 63) : mh_eqv C O S nu C S n n := ⟨h, Iff.rfl, fun _ _ => Iff.rfl, fun _ _ => Iff.rfl⟩
theorem mh_eqe_rfl {n : Int32} (h : vp_in n 63) : mh_eqe C O S nu C S n n := ⟨h, Iff.rfl, fun _ _ => Iff.rfl, fun _ _ => Iff.rfl⟩
/-- the end of a version by a number that is over doesn't count -/
theorem mh_eqe_over (h : mh_Inv U rw mk en C R O S nu T V) {n : Int32} (hC : ¬ C n) (hR : ¬ R n) : mh_eqe C O S nu C S n 0 := by
  obtain ⟨h1, h2, h3, h4, _⟩ := h
  refine ⟨vp_in_iff.mpr (by decide), ⟨fun z => absurd rfl z.1, fun z => absurd z.2 hC⟩, fun t ht => ⟨fun z => absurd rfl z.1, fun z => absurd (h4 t n ht z.2) hC⟩, fun t ht => ⟨fun z => absurd z.symm (h1 t ht).2.2.1, fun z => ?_⟩⟩
  exact absurd ((h2 n).mpr ⟨t, ht, z.symm⟩) hR
/-- what is left after the first loop of tidy -/
def mh_L (C R : Int32 → Prop) (O : Nat → Prop) (S : Nat → Int32 → Prop) (m e : Int32) : Prop :=
  (mh_i C m ∨ R m) ∧ (e = 0 ∨ C e ∨ R e) ∧ (R m → m ≠ e) ∧ (e ≠ 0 → C e → ∃ t, O t ∧ mh_see (S t) m e)
theorem mh_Lchg (h1 : ∀ t, O t → nu t ≠ 0) (h2 : ∀ n, R n ↔ ∃ t, O t ∧ nu t = n) {m e m' e' : Int32} (hm : mh_eqv C O S nu C' S' m m') (he : mh_eqe C O S nu C' S' e e') (h0 : e = 0 → e' = 0) (h : mh_L C R O S m e) : mh_L C' R O S' m' e' := by
  have rm : R m' ↔ R m := by
    rw [h2, h2]
    exact ⟨fun ⟨t, a, b⟩ => ⟨t, a, ((hm.2.2.2 t a).mp b.symm).symm⟩, fun ⟨t, a, b⟩ => ⟨t, a, ((hm.2.2.2 t a).mpr b.symm).symm⟩⟩
  have re : R e' ↔ R e := by
    rw [h2, h2]
    exact ⟨fun ⟨t, a, b⟩ => ⟨t, a, ((he.2.2.2 t a).mp b.symm).symm⟩, fun ⟨t, a, b⟩ => ⟨t, a, ((he.2.2.2 t a).mpr b.symm).symm⟩⟩
  obtain ⟨a, b, c, d⟩ := h
  refine ⟨by rw [hm.2.1, rm]; exact a, ?_, fun z y => ?_, fun z y => ?_⟩
  · by_cases e0 : e = 0
    · exact Or.inl (h0 e0)
    · rcases b.resolve_left e0 with b | b
      · exact Or.inr (Or.inl (he.2.1.mpr ⟨e0, b⟩).2)
      · exact Or.inr (Or.inr (re.mpr b))
  · obtain ⟨t, p, q⟩ := (h2 m').mp z
    have p1 := (hm.2.2.2 t p).mp q.symm
    have p2 := (he.2.2.2 t p).mp (y ▸ q.symm)
    exact c (rm.mp z) (p1.trans p2.symm)
  · obtain ⟨p, q⟩ := he.2.1.mp ⟨z, y⟩
    obtain ⟨t, k, l⟩ := d p q
    exact ⟨t, k, (mh_seeS hm he k).mpr l⟩
/-- dead versions: as the class says it -/
def mh_dead (C R : Int32 → Prop) (O : Nat → Prop) (S : Nat → Int32 → Prop) (m e : Int32) : Prop :=
  (m ≠ 0 ∧ ¬ C m ∧ ¬ R m) ∨ (m = e ∧ m ≠ 0) ∨ (e ≠ 0 ∧ C e ∧ mh_i C m ∧ ∀ t, O t → ¬ mh_see (S t) m e)
theorem mh_deadC {m e : Int32} (hd : mh_dead C R O S m e) : ¬ mh_see C m e := by
  rintro ⟨a, b⟩
  rcases hd with ⟨c, d, _⟩ | ⟨c, d⟩ | ⟨c, d, _⟩
  · exact d (a.resolve_left c)
  · exact b ⟨c ▸ d, c ▸ (a.resolve_left d)⟩
  · exact b ⟨c, d⟩
theorem mh_deadO (h : mh_Inv U rw mk en C R O S nu T V) {m e : Int32} (hd : mh_dead C R O S m e) {t : Nat} (ht : O t) : ¬ mh_see (mh_own S nu t) m e := by
  obtain ⟨h1, h2, h3, h4, _⟩ := h
  rintro ⟨a, b⟩
  rcases hd with ⟨c, d, f⟩ | ⟨c, d⟩ | ⟨c, d, f, g⟩
  · rcases a.resolve_left c with z | z
    · exact d (h4 t m ht z)
    · exact f ((h2 m).mpr ⟨t, ht, z.symm⟩)
  · exact b ⟨c ▸ d, c ▸ (a.resolve_left d)⟩
  · refine g t ht ⟨?_, fun z => b ⟨z.1, Or.inl z.2⟩⟩
    rcases mh_iown.mp a with z | z
    · exact z
    · subst z
      exact absurd (f.resolve_left (h1 t ht).2.2.1) (h1 t ht).2.2.2
theorem mh_live {v : Nat} (h : mh_Inv U rw mk en C R O S nu T V) (hv : U v) (he : en v = 0 ∨ C (en v) ∨ R (en v)) (hd : ¬ mh_dead C R O S (mk v) (en v)) : mh_L C R O S (mk v) (en v) := by
  obtain ⟨h1, h2, h3, h4, h5, h6, _⟩ := h
  refine ⟨?_, he, fun z y => ?_, fun z y => ?_⟩
  · refine Classical.byContradiction (fun z => hd (Or.inl ⟨fun y => z (Or.inl (Or.inl y)), fun y => z (Or.inl (Or.inr y)), fun y => z (Or.inr y)⟩))
  · obtain ⟨t, p, q⟩ := (h2 _).mp z
    exact hd (Or.inr (Or.inl ⟨y, by rw [← q]; exact (h1 t p).2.2.1⟩))
  · refine Classical.byContradiction (fun x => hd (Or.inr (Or.inr ⟨z, y, h6 v hv z y, fun t ht hs => x ⟨t, ht, hs⟩⟩)))
end
end
section
/-! ===== the plain law: what each call does to the picture ===== -/
section
variable {U U' : Nat → Prop} {rw mk en va rw' mk' en' va' : Nat → Int32} {C C' R R' : Int32 → Prop} {O O' : Nat → Prop} {S S' : Nat → Int32 → Prop} {nu nu' : Nat → Int32} {T T' V V' : Nat → Int32 → Prop}
/-- a row is marked as changed by t -/
theorem mh_touch (h : mh_Inv U rw mk en C R O S nu T V) {t : Nat} {r : Int32} (hT : ∀ u q, O u → (T' u q ↔ T u q ∨ (u = t ∧ q = r))) (hb : ∀ u, O u → u ≠ t → ¬ T u r) (hv : ¬ V t r) : mh_Inv U rw mk en C R O S nu T' V := by
  obtain ⟨h1, h2, h3, h4, h5, h6, h7, h8, h9, h10, h11, h12, h13, h14, h15⟩ := h
  refine ⟨h1, h2, h3, h4, h5, h6, h7, fun v u hv hu ho => (hT u _ hu).mpr (Or.inl (h8 v u hv hu ho)), h9, h10, fun u w q hu hw a b => ?_, fun u q hu a => ?_, h13, h14, h15⟩
  · rcases (hT u q hu).mp a with a | ⟨a, a'⟩
    · rcases (hT w q hw).mp b with b | ⟨b, b'⟩
      · exact h11 u w q hu hw a b
      · subst b'
        by_cases e : u = t
        · rw [e, b]
        · exact absurd a (hb u hu e)
    · rcases (hT w q hw).mp b with b | ⟨b, b'⟩
      · subst a'
        by_cases e : w = t
        · rw [e, a]
        · exact absurd b (hb w hw e)
      · rw [a, b]
  · rcases (hT u q hu).mp a with a | ⟨a, a'⟩
    · exact h12 u q hu a
    · rw [a, a']; exact hv
/-- t ends a version that it sees in a row that it has marked -/
theorem mh_end (h : mh_Inv U rw mk en C R O S nu T V) {t : Nat} (ht : O t) {v0 : Nat} (hv0 : U v0) (hT : T t (rw v0)) (hs0 : mh_see (mh_own S nu t) (mk v0) (en v0)) (he : en' v0 = nu t) (he' : ∀ v, v ≠ v0 → en' v = en v) :
    mh_Inv U rw mk en' C R O S nu T V ∧ mh_sm U mk en C U mk en' C ∧ (∀ u, O u → u ≠ t → mh_sm U mk en (mh_own S nu u) U mk en' (mh_own S nu u)) ∧
    (∀ v, U v ∧ mh_see (mh_own S nu t) (mk v) (en' v) ↔ U v ∧ mh_see (mh_own S nu t) (mk v) (en v) ∧ v ≠ v0) := by
  obtain ⟨h1, h2, h3, h4, h5, h6, h7, h8, h9, h10, h11, h12, h13, h14, h15⟩ := h
  obtain ⟨t1, t2, t3, t4⟩ := h1 t ht
  have hV0 : ¬ V t (rw v0) := h12 t _ ht hT
  have oS : ¬ (en v0 ≠ 0 ∧ S t (en v0)) := fun z => hs0.2 ⟨z.1, Or.inl z.2⟩
  have oC : ¬ (en v0 ≠ 0 ∧ C (en v0)) := fun z => oS ⟨z.1, ((h10 v0 t hv0 ht hV0).2 (Or.inr z.2)).resolve_left z.1⟩
  have oN : ∀ u, O u → en v0 ≠ nu u := by
    intro u hu z
    have e : u = t := h11 u t _ hu ht (h8 v0 u hv0 hu (Or.inr z)) hT
    subst e
    exact hs0.2 ⟨by rw [z]; exact t3, Or.inr z⟩
  have mC : mk v0 = nu t ∨ mh_i C (mk v0) := by
    rcases mh_iown.mp hs0.1 with z | z
    · exact Or.inr (z.elim Or.inl (fun y => Or.inr (h4 t _ ht y)))
    · exact Or.inl z
  have sC : ∀ v, mh_see C (mk v) (en' v) ↔ mh_see C (mk v) (en v) := by
    intro v
    by_cases e : v = v0
    · subst e
      unfold mh_see
      rw [he]
      exact ⟨fun z => ⟨z.1, oC⟩, fun z => ⟨z.1, fun y => t4 y.2⟩⟩
    · rw [he' v e]
  have sS : ∀ u, O u → ∀ v, mh_see (S u) (mk v) (en' v) ↔ mh_see (S u) (mk v) (en v) := by
    intro u hu v
    by_cases e : v = v0
    · subst e
      unfold mh_see
      rw [he]
      exact ⟨fun z => ⟨z.1, fun y => oC ⟨y.1, h4 u _ hu y.2⟩⟩, fun z => ⟨z.1, fun y => t4 (h4 u _ hu y.2)⟩⟩
    · rw [he' v e]
  have sO : ∀ u, O u → u ≠ t → ∀ v, mh_see (mh_own S nu u) (mk v) (en' v) ↔ mh_see (mh_own S nu u) (mk v) (en v) := by
    intro u hu hut v
    by_cases e : v = v0
    · subst e
      unfold mh_see
      rw [he]
      refine ⟨fun z => ⟨z.1, fun y => ?_⟩, fun z => ⟨z.1, fun y => ?_⟩⟩
      · rcases y.2 with x | x
        · exact oC ⟨y.1, h4 u _ hu x⟩
        · exact oN u hu x
      · rcases y.2 with x | x
        · exact t4 (h4 u _ hu x)
        · exact hut (h3 u t hu ht x.symm)
    · rw [he' v e]
  have sT : ∀ v, mh_see (mh_own S nu t) (mk v) (en' v) ↔ mh_see (mh_own S nu t) (mk v) (en v) ∧ v ≠ v0 := by
    intro v
    by_cases e : v = v0
    · subst e
      unfold mh_see
      rw [he]
      exact ⟨fun z => absurd ⟨t3, Or.inr rfl⟩ z.2, fun z => absurd rfl z.2⟩
    · rw [he' v e]
      exact ⟨fun z => ⟨z, e⟩, fun z => z.1⟩
  refine ⟨⟨h1, h2, h3, h4, fun v hv => ?_, fun v hv e0 hc => ?_, fun v u hv hu e0 hs => ?_, fun v u hv hu ho => ?_, fun v u hv hu ho => ?_, fun v u hv hu hn => ?_, h11, h12, ?_, ?_, ?_⟩, ?_, ?_, ?_⟩
  · obtain ⟨a, b, c, d⟩ := h5 v hv
    by_cases e : v = v0
    · subst e; rw [he]; exact ⟨a, b, t2, d⟩
    · rw [he' v e]; exact ⟨a, b, c, d⟩
  · by_cases e : v = v0
    · subst e; rw [he] at hc; exact absurd hc t4
    · rw [he' v e] at hc e0; exact h6 v hv e0 hc
  · by_cases e : v = v0
    · subst e; rw [he] at hs; exact absurd (h4 u _ hu hs) t4
    · rw [he' v e] at hs e0; exact h7 v u hv hu e0 hs
  · by_cases e : v = v0
    · subst e
      rw [he] at ho
      rcases ho with ho | ho
      · exact h8 v u hv hu (Or.inl ho)
      · rw [← h3 t u ht hu ho]; exact hT
    · rw [he' v e] at ho; exact h8 v u hv hu ho
  · by_cases e : v = v0
    · subst e
      rw [he] at ho
      rw [← ho]; exact mC
    · rw [he' v e] at ho; exact h9 v u hv hu ho
  · by_cases e : v = v0
    · subst e
      rw [he]
      exact ⟨(h10 v u hv hu hn).1, fun z => absurd (z.resolve_left t3) t4⟩
    · rw [he' v e]; exact h10 v u hv hu hn
  · intro v w hv hw hr a b
    exact h13 v w hv hw hr ((sC v).mp a) ((sC w).mp b)
  · intro u hu v w hv hw hr a b
    exact h14 u hu v w hv hw hr ((sS u hu v).mp a) ((sS u hu w).mp b)
  · intro u hu v w hv hw hr a b
    by_cases e : u = t
    · subst e
      exact h15 u hu v w hv hw hr ((sT v).mp a).1 ((sT w).mp b).1
    · exact h15 u hu v w hv hw hr ((sO u hu e v).mp a) ((sO u hu e w).mp b)
  · exact fun v => ⟨fun z => ⟨z.1, (sC v).mp z.2⟩, fun z => ⟨z.1, (sC v).mpr z.2⟩⟩
  · exact fun u hu e v => ⟨fun z => ⟨z.1, (sO u hu e v).mp z.2⟩, fun z => ⟨z.1, (sO u hu e v).mpr z.2⟩⟩
  · exact fun v => ⟨fun z => ⟨z.1, (sT v).mp z.2⟩, fun z => ⟨z.1, (sT v).mpr z.2⟩⟩
/-- t makes a version in a row that it has marked and where it sees none -/
theorem mh_make (h : mh_Inv U rw mk en C R O S nu T V) {t : Nat} (ht : O t) {w : Nat} (hw : ¬ U w) (hw96 : w < 96) {r : Int32} (hr : vp_in r 8) (hT : T t r) (hs : ∀ v, U v → rw v = r → ¬ mh_see (mh_own S nu t) (mk v) (en v))
    (hU : ∀ v, U' v ↔ U v ∨ v = w) (r1 : rw' w = r) (r2 : ∀ v, v ≠ w → rw' v = rw v) (m1 : mk' w = nu t) (m2 : ∀ v, v ≠ w → mk' v = mk v) (e1 : en' w = 0) (e2 : ∀ v, v ≠ w → en' v = en v) :
    mh_Inv U' rw' mk' en' C R O S nu T V ∧ mh_sm U mk en C U' mk' en' C ∧ (∀ u, O u → u ≠ t → mh_sm U mk en (mh_own S nu u) U' mk' en' (mh_own S nu u)) ∧
    mh_see (mh_own S nu t) (mk' w) (en' w) := by
  obtain ⟨h1, h2, h3, h4, h5, h6, h7, h8, h9, h10, h11, h12, h13, h14, h15⟩ := h
  obtain ⟨t1, t2, t3, t4⟩ := h1 t ht
  have ne : ∀ v, U v → v ≠ w := fun v hv e => hw (e ▸ hv)
  have nC : ¬ mh_see C (mk' w) (en' w) := by
    rw [m1]; exact fun z => t4 (z.1.resolve_left t3)
  have nS : ∀ u, O u → ¬ mh_see (S u) (mk' w) (en' w) := by
    intro u hu
    rw [m1]; exact fun z => t4 (h4 u _ hu (z.1.resolve_left t3))
  have nO : ∀ u, O u → u ≠ t → ¬ mh_see (mh_own S nu u) (mk' w) (en' w) := by
    intro u hu e
    rw [m1]
    intro z
    rcases z.1.resolve_left t3 with y | y
    · exact t4 (h4 u _ hu y)
    · exact e (h3 u t hu ht y.symm)
  have sw : mh_see (mh_own S nu t) (mk' w) (en' w) := by
    rw [m1, e1]; exact ⟨Or.inr (Or.inr rfl), fun z => z.1 rfl⟩
  have old : ∀ v, U v → mk' v = mk v ∧ en' v = en v ∧ rw' v = rw v := fun v hv => ⟨m2 v (ne v hv), e2 v (ne v hv), r2 v (ne v hv)⟩
  refine ⟨⟨h1, h2, h3, h4, fun v hv => ?_, fun v hv e0 hc => ?_, fun v u hv hu e0 hs => ?_, fun v u hv hu ho => ?_, fun v u hv hu ho => ?_, fun v u hv hu hn => ?_, h11, h12, ?_, ?_, ?_⟩, ?_, ?_, sw⟩
  · rcases (hU v).mp hv with z | z
    · obtain ⟨a, b, c⟩ := old v z
      rw [a, b, c]; exact h5 v z
    · subst z; rw [m1, e1, r1]; exact ⟨hw96, t2, vp_in_iff.mpr (by decide), hr⟩
  · rcases (hU v).mp hv with z | z
    · obtain ⟨a, b, c⟩ := old v z
      rw [b] at e0 hc; rw [a]; exact h6 v z e0 hc
    · subst z; exact absurd e1 e0
  · rcases (hU v).mp hv with z | z
    · obtain ⟨a, b, c⟩ := old v z
      rw [b] at e0 hs; rw [a]; exact h7 v u z hu e0 hs
    · subst z; exact absurd e1 e0
  · rcases (hU v).mp hv with z | z
    · obtain ⟨a, b, c⟩ := old v z
      rw [a, b] at ho; rw [c]; exact h8 v u z hu ho
    · subst z
      rw [m1, e1] at ho
      rcases ho with ho | ho
      · rw [← h3 t u ht hu ho, r1]; exact hT
      · exact absurd ho.symm (h1 u hu).2.2.1
  · rcases (hU v).mp hv with z | z
    · obtain ⟨a, b, c⟩ := old v z
      rw [b] at ho; rw [a]; exact h9 v u z hu ho
    · subst z; rw [e1] at ho; exact absurd ho.symm (h1 u hu).2.2.1
  · rcases (hU v).mp hv with z | z
    · obtain ⟨a, b, c⟩ := old v z
      rw [c] at hn; rw [a, b]; exact h10 v u z hu hn
    · subst z
      rw [m1, e1]
      exact ⟨fun z => absurd (z.resolve_left t3) t4, fun _ => Or.inl rfl⟩
  · intro v x hv hx hrr a b
    rcases (hU v).mp hv with z | z
    · rcases (hU x).mp hx with y | y
      · obtain ⟨a1, a2, a3⟩ := old v z
        obtain ⟨b1, b2, b3⟩ := old x y
        rw [a1, a2] at a; rw [b1, b2] at b; rw [a3, b3] at hrr
        exact h13 v x z y hrr a b
      · subst y; exact absurd b nC
    · subst z; exact absurd a nC
  · intro u hu v x hv hx hrr a b
    rcases (hU v).mp hv with z | z
    · rcases (hU x).mp hx with y | y
      · obtain ⟨a1, a2, a3⟩ := old v z
        obtain ⟨b1, b2, b3⟩ := old x y
        rw [a1, a2] at a; rw [b1, b2] at b; rw [a3, b3] at hrr
        exact h14 u hu v x z y hrr a b
      · subst y; exact absurd b (nS u hu)
    · subst z; exact absurd a (nS u hu)
  · intro u hu v x hv hx hrr a b
    rcases (hU v).mp hv with z | z
    · obtain ⟨a1, a2, a3⟩ := old v z
      rw [a1, a2] at a
      rcases (hU x).mp hx with y | y
      · obtain ⟨b1, b2, b3⟩ := old x y
        rw [b1, b2] at b; rw [a3, b3] at hrr
        exact h15 u hu v x z y hrr a b
      · subst y
        by_cases e : u = t
        · subst e
          rw [a3, r1] at hrr
          exact absurd a (hs v z hrr)
        · exact absurd b (nO u hu e)
    · subst z
      by_cases e : u = t
      · subst e
        rcases (hU x).mp hx with y | y
        · obtain ⟨b1, b2, b3⟩ := old x y
          rw [b1, b2] at b
          rw [b3, r1] at hrr
          exact absurd b (hs x y hrr.symm)
        · exact y.symm
      · exact absurd a (nO u hu e)
  · intro v
    constructor
    · rintro ⟨a, b⟩
      rcases (hU v).mp a with z | z
      · obtain ⟨a1, a2, a3⟩ := old v z
        rw [a1, a2] at b; exact ⟨z, b⟩
      · subst z; exact absurd b nC
    · rintro ⟨z, b⟩
      obtain ⟨a1, a2, a3⟩ := old v z
      rw [a1, a2]; exact ⟨(hU v).mpr (Or.inl z), b⟩
  · intro u hu e v
    constructor
    · rintro ⟨a, b⟩
      rcases (hU v).mp a with z | z
      · obtain ⟨a1, a2, a3⟩ := old v z
        rw [a1, a2] at b; exact ⟨z, b⟩
      · subst z; exact absurd b (nO u hu e)
    · rintro ⟨z, b⟩
      obtain ⟨a1, a2, a3⟩ := old v z
      rw [a1, a2]; exact ⟨(hU v).mpr (Or.inl z), b⟩
/-- t is opened with a number that nothing holds -/
theorem mh_open (h : mh_Inv U rw mk en C R O S nu T V) {t : Nat} (ht : ¬ O t) (ht4 : t < 4) {n : Int32} (hn : vp_in n 63) (n0 : n ≠ 0) (nC : ¬ C n) (nR : ¬ R n) (nU : ∀ v, U v → mk v ≠ n ∧ en v ≠ n)
    (hR : ∀ m, R' m ↔ R m ∨ m = n) (hO : ∀ u, O' u ↔ O u ∨ u = t) (s1 : ∀ m, S' t m ↔ C m) (s2 : ∀ u m, u ≠ t → (S' u m ↔ S u m)) (u1 : nu' t = n) (u2 : ∀ u, u ≠ t → nu' u = nu u) (t1 : ∀ r, ¬ T' t r) (t2 : ∀ u r, u ≠ t → (T' u r ↔ T u r)) (v1 : ∀ r, ¬ V' t r) (v2 : ∀ u r, u ≠ t → (V' u r ↔ V u r)) :
    mh_Inv U rw mk en C R' O' S' nu' T' V' ∧ mh_sm U mk en C U mk en (mh_own S' nu' t) ∧ (∀ u, O u → mh_sm U mk en (mh_own S nu u) U mk en (mh_own S' nu' u)) := by
  obtain ⟨h1, h2, h3, h4, h5, h6, h7, h8, h9, h10, h11, h12, h13, h14, h15⟩ := h
  have ne : ∀ u, O u → u ≠ t := fun u hu e => ht (e ▸ hu)
  have eS : ∀ u, u ≠ t → S' u = S u := fun u e => funext (fun m => propext (s2 u m e))
  have eT : ∀ u, u ≠ t → T' u = T u := fun u e => funext (fun m => propext (t2 u m e))
  have eV : ∀ u, u ≠ t → V' u = V u := fun u e => funext (fun m => propext (v2 u m e))
  have eSt : S' t = C := funext (fun m => propext (s1 m))
  have eO : ∀ u, u ≠ t → mh_own S' nu' u = mh_own S nu u := fun u e => by unfold mh_own; rw [eS u e, u2 u e]
  have nnu : ∀ u, O u → nu u ≠ n := fun u hu e => nR ((h2 n).mpr ⟨u, hu, e⟩)
  have sT : ∀ v, U v → (mh_see (mh_own S' nu' t) (mk v) (en v) ↔ mh_see C (mk v) (en v)) := by
    intro v hv
    have a := (nU v hv).1
    have b := (nU v hv).2
    unfold mh_see
    rw [mh_iown, mh_eown (by rw [u1]; exact n0), eSt, u1]
    exact ⟨fun z => ⟨z.1.resolve_right a, fun y => z.2 (Or.inl y)⟩, fun z => ⟨Or.inl z.1, fun y => z.2 (y.resolve_right b)⟩⟩
  refine ⟨⟨fun u hu => ?_, fun m => ?_, fun u w hu hw e => ?_, fun u m hu hs => ?_, h5, h6, fun v u hv hu e0 hs => ?_, fun v u hv hu ho => ?_, fun v u hv hu ho => ?_, fun v u hv hu hn => ?_, fun u w r hu hw a b => ?_, fun u r hu a => ?_, h13, fun u hu => ?_, fun u hu => ?_⟩, ?_, ?_⟩
  · rcases (hO u).mp hu with z | z
    · rw [u2 u (ne u z)]; exact h1 u z
    · subst z; rw [u1]; exact ⟨ht4, hn, n0, nC⟩
  · rw [hR, h2]
    constructor
    · rintro (⟨u, a, b⟩ | a)
      · exact ⟨u, (hO u).mpr (Or.inl a), by rw [u2 u (ne u a)]; exact b⟩
      · exact ⟨t, (hO t).mpr (Or.inr rfl), by rw [u1, a]⟩
    · rintro ⟨u, a, b⟩
      rcases (hO u).mp a with z | z
      · exact Or.inl ⟨u, z, by rw [← b, u2 u (ne u z)]⟩
      · subst z; exact Or.inr (by rw [← b, u1])
  · rcases (hO u).mp hu with z | z
    · rcases (hO w).mp hw with y | y
      · rw [u2 u (ne u z), u2 w (ne w y)] at e; exact h3 u w z y e
      · subst y; rw [u2 u (ne u z), u1] at e; exact absurd e (nnu u z)
    · rcases (hO w).mp hw with y | y
      · subst z; rw [u2 w (ne w y), u1] at e; exact absurd e.symm (nnu w y)
      · rw [z, y]
  · rcases (hO u).mp hu with z | z
    · exact h4 u m z ((s2 u m (ne u z)).mp hs)
    · subst z; exact (s1 m).mp hs
  · rcases (hO u).mp hu with z | z
    · rw [eS u (ne u z)] at hs ⊢; exact h7 v u hv z e0 hs
    · subst z; rw [eSt] at hs ⊢; exact h6 v hv e0 hs
  · rcases (hO u).mp hu with z | z
    · rw [u2 u (ne u z)] at ho; rw [eT u (ne u z)]; exact h8 v u hv z ho
    · subst z; rw [u1] at ho; exact absurd ho (fun y => y.elim (nU v hv).1 (nU v hv).2)
  · rcases (hO u).mp hu with z | z
    · rw [u2 u (ne u z)] at ho ⊢; exact h9 v u hv z ho
    · subst z; rw [u1] at ho; exact absurd ho (nU v hv).2
  · rcases (hO u).mp hu with z | z
    · rw [eV u (ne u z)] at hn; rw [eS u (ne u z)]; exact h10 v u hv z hn
    · subst z; rw [eSt]; exact ⟨id, id⟩
  · rcases (hO u).mp hu with z | z
    · rcases (hO w).mp hw with y | y
      · rw [eT u (ne u z)] at a; rw [eT w (ne w y)] at b; exact h11 u w r z y a b
      · subst y; exact absurd b (t1 r)
    · subst z; exact absurd a (t1 r)
  · rcases (hO u).mp hu with z | z
    · rw [eT u (ne u z)] at a; rw [eV u (ne u z)]; exact h12 u r z a
    · subst z; exact v1 r
  · rcases (hO u).mp hu with z | z
    · rw [eS u (ne u z)]; exact h14 u z
    · subst z; rw [eSt]; exact h13
  · rcases (hO u).mp hu with z | z
    · rw [eO u (ne u z)]; exact h15 u z
    · subst z
      intro v w hv hw hr a b
      exact h13 v w hv hw hr ((sT v hv).mp a) ((sT w hw).mp b)
  · exact fun v => ⟨fun z => ⟨z.1, (sT v z.1).mp z.2⟩, fun z => ⟨z.1, (sT v z.1).mpr z.2⟩⟩
  · intro u hu
    rw [eO u (ne u hu)]
    exact mh_sm_rfl
/-- t is closed, and nothing of it lasts; or all are closed -/
theorem mh_abort (h : mh_Inv U rw mk en C R O S nu T V) (hO : ∀ u, O' u → O u) (hR : ∀ n, R' n ↔ ∃ t, O' t ∧ nu t = n) : mh_Inv U rw mk en C R' O' S nu T V := by
  obtain ⟨h1, h2, h3, h4, h5, h6, h7, h8, h9, h10, h11, h12, h13, h14, h15⟩ := h
  exact ⟨fun t ht => h1 t (hO t ht), hR, fun t u a b => h3 t u (hO t a) (hO u b), fun t n a => h4 t n (hO t a), h5, h6, fun v t a b => h7 v t a (hO t b), fun v t a b => h8 v t a (hO t b), fun v t a b => h9 v t a (hO t b), fun v t a b => h10 v t a (hO t b), fun t u r a b => h11 t u r (hO t a) (hO u b), fun t r a => h12 t r (hO t a), h13, fun t a => h14 t (hO t a), fun t a => h15 t (hO t a)⟩
theorem mh_abortR (h : mh_Inv U rw mk en C R O S nu T V) {t : Nat} (ht : O t) (hO : ∀ u, O' u ↔ O u ∧ u ≠ t) (hR : ∀ n, R' n ↔ R n ∧ n ≠ nu t) : ∀ n, R' n ↔ ∃ u, O' u ∧ nu u = n := by
  obtain ⟨h1, h2, h3, _⟩ := h
  intro n
  rw [hR, h2]
  constructor
  · rintro ⟨⟨u, a, b⟩, c⟩
    exact ⟨u, (hO u).mpr ⟨a, fun e => c (by rw [← b, e])⟩, b⟩
  · rintro ⟨u, a, b⟩
    obtain ⟨p, q⟩ := (hO u).mp a
    exact ⟨⟨u, p, b⟩, fun e => q (h3 u t p ht (by rw [b, e]))⟩
/-- t is closed, and what it did lasts -/
theorem mh_commit (h : mh_Inv U rw mk en C R O S nu T V) {t : Nat} (ht : O t) (hC : ∀ n, C' n ↔ C n ∨ n = nu t) (hO : ∀ u, O' u ↔ O u ∧ u ≠ t) (hR : ∀ n, R' n ↔ R n ∧ n ≠ nu t) (hV : ∀ u r, O' u → (V' u r ↔ V u r ∨ T t r)) :
    mh_Inv U rw mk en C' R' O' S nu T V' ∧ (∀ r, T t r → ∀ v, U v → rw v = r → (mh_see C' (mk v) (en v) ↔ mh_see (mh_own S nu t) (mk v) (en v))) ∧ (∀ r, ¬ T t r → ∀ v, U v → rw v = r → (mh_see C' (mk v) (en v) ↔ mh_see C (mk v) (en v))) := by
  have hR' := mh_abortR h ht hO hR
  obtain ⟨h1, h2, h3, h4, h5, h6, h7, h8, h9, h10, h11, h12, h13, h14, h15⟩ := h
  obtain ⟨t1, t2, t3, t4⟩ := h1 t ht
  have iC : ∀ n, mh_i C' n ↔ mh_i C n ∨ n = nu t := by
    intro n
    unfold mh_i
    rw [hC]
    exact or_assoc.symm
  have eC : ∀ n, (n ≠ 0 ∧ C' n) ↔ (n ≠ 0 ∧ C n) ∨ n = nu t := by
    intro n
    rw [hC]
    exact ⟨fun z => z.2.elim (fun y => Or.inl ⟨z.1, y⟩) Or.inr, fun z => z.elim (fun y => ⟨y.1, Or.inl y.2⟩) (fun y => ⟨by rw [y]; exact t3, Or.inr y⟩)⟩
  have s1 : ∀ r, T t r → ∀ v, U v → rw v = r → (mh_see C' (mk v) (en v) ↔ mh_see (mh_own S nu t) (mk v) (en v)) := by
    intro r hT v hv hr
    subst hr
    obtain ⟨p, q⟩ := h10 v t hv ht (h12 t _ ht hT)
    unfold mh_see
    rw [iC, eC, mh_iown, mh_eown t3]
    have p' : mh_i C (mk v) ↔ mh_i (S t) (mk v) := ⟨p, fun z => z.elim Or.inl (fun y => Or.inr (h4 t _ ht y))⟩
    have q' : (en v ≠ 0 ∧ C (en v)) ↔ (en v ≠ 0 ∧ S t (en v)) := ⟨fun z => ⟨z.1, (q (Or.inr z.2)).resolve_left z.1⟩, fun z => ⟨z.1, h4 t _ ht z.2⟩⟩
    rw [p', q']
  have s2 : ∀ r, ¬ T t r → ∀ v, U v → rw v = r → (mh_see C' (mk v) (en v) ↔ mh_see C (mk v) (en v)) := by
    intro r hT v hv hr
    subst hr
    have a : mk v ≠ nu t := fun z => hT (h8 v t hv ht (Or.inl z))
    have b : en v ≠ nu t := fun z => hT (h8 v t hv ht (Or.inr z))
    unfold mh_see
    rw [iC, eC]
    exact ⟨fun z => ⟨z.1.resolve_right a, fun y => z.2 (Or.inl y)⟩, fun z => ⟨Or.inl z.1, fun y => z.2 (y.resolve_right b)⟩⟩
  have o : ∀ u, O' u → O u ∧ u ≠ t := fun u hu => (hO u).mp hu
  refine ⟨⟨fun u hu => ?_, hR', fun u w a b => h3 u w (o u a).1 (o w b).1, fun u n a b => (hC n).mpr (Or.inl (h4 u n (o u a).1 b)), h5, fun v hv e0 hc => ?_, fun v u a b => h7 v u a (o u b).1, fun v u a b => h8 v u a (o u b).1, fun v u a b c => ?_, fun v u hv hu hn => ?_, fun u w r a b => h11 u w r (o u a).1 (o w b).1, fun u r a b => ?_, ?_, fun u a => h14 u (o u a).1, fun u a => h15 u (o u a).1⟩, s1, s2⟩
  · obtain ⟨a, b, c, d⟩ := h1 u (o u hu).1
    refine ⟨a, b, c, fun z => ?_⟩
    rcases (hC _).mp z with z | z
    · exact d z
    · exact (o u hu).2 (h3 u t (o u hu).1 ht z)
  · rw [iC]
    rcases (hC _).mp hc with z | z
    · exact Or.inl (h6 v hv e0 z)
    · exact (h9 v t hv ht z).symm
  · rw [iC]
    exact (h9 v u a (o u b).1 c).imp id Or.inl
  · have hn' : ¬ V u (rw v) ∧ ¬ T t (rw v) := ⟨fun z => hn ((hV u _ hu).mpr (Or.inl z)), fun z => hn ((hV u _ hu).mpr (Or.inr z))⟩
    obtain ⟨p, q⟩ := h10 v u hv (o u hu).1 hn'.1
    have a : mk v ≠ nu t := fun z => hn'.2 (h8 v t hv ht (Or.inl z))
    have b : en v ≠ nu t := fun z => hn'.2 (h8 v t hv ht (Or.inr z))
    rw [iC, iC]
    exact ⟨fun z => p (z.resolve_right a), fun z => q (z.resolve_right b)⟩
  · intro z
    rcases (hV u r a).mp z with z | z
    · exact h12 u r (o u a).1 b z
    · exact (o u a).2 (h11 u t r (o u a).1 ht b z)
  · intro v w hv hw hr a b
    by_cases e : T t (rw v)
    · exact h15 t ht v w hv hw hr ((s1 _ e v hv rfl).mp a) ((s1 _ e w hw hr.symm).mp b)
    · exact h13 v w hv hw hr ((s2 _ e v hv rfl).mp a) ((s2 _ e w hw hr.symm).mp b)
end
/-! ===== there is room after tidy ===== -/
theorem mh_pg {α : Type} [DecidableEq α] (f : Nat → α) : ∀ (n : Nat) (l : List α), (∀ v, v < n → f v ∈ l) → (∀ v w, v < n → w < n → f v = f w → v = w) → n ≤ l.length := by
  intro n
  induction n with
  | zero => intro l _ _; exact Nat.zero_le _
  | succ n ih =>
    intro l h1 h2
    have hm : f n ∈ l := h1 n (by omega)
    have h3 := ih (l.erase (f n)) (fun v hv => (List.mem_erase_of_ne (fun e => absurd (h2 v n (by omega) (by omega) e) (by omega))).mpr (h1 v (by omega))) (fun v w hv hw e => h2 v w (by omega) (by omega) e)
    rw [List.length_erase_of_mem hm] at h3
    have h4 := List.length_pos_of_mem hm
    omega
section
variable {U : Nat → Prop} {rw mk en : Nat → Int32} {C R : Int32 → Prop} {O : Nat → Prop} {S : Nat → Int32 → Prop} {nu al : Nat → Int32} {T V : Nat → Int32 → Prop}
theorem mh_freeN {P : Int32 → Prop} (h : ∀ n, n ≠ 0 → P n → (∃ t, t < 4 ∧ nu t = n) ∨ (∃ p, p < 16 ∧ al p = n)) : ∃ k, 1 ≤ k ∧ k < 63 ∧ ¬ P (nI k) := by
  refine Classical.byContradiction (fun z => ?_)
  have h2 : ∀ k, 1 ≤ k → k < 63 → P (nI k) := fun k a b => Classical.byContradiction (fun y => z ⟨k, a, b, y⟩)
  have h3 := mh_pg (fun k => nI (k + 1)) 62 ((List.range 4).map nu ++ (List.range 16).map al) (fun v hv => by
    rw [List.mem_append, List.mem_map, List.mem_map]
    rcases h (nI (v + 1)) (nI_ne0 (by omega) (by omega)) (h2 (v + 1) (by omega) (by omega)) with ⟨t, a, b⟩ | ⟨t, a, b⟩
    · exact Or.inl ⟨t, List.mem_range.mpr a, b⟩
    · exact Or.inr ⟨t, List.mem_range.mpr a, b⟩) (fun v w hv hw e => by
    have e' := (nI_eq (show v + 1 < 2 ^ 31 by omega) (show w + 1 < 2 ^ 31 by omega)).mp e
    omega)
  rw [List.length_append, List.length_map, List.length_map, List.length_range, List.length_range] at h3
  omega
/-- a version's place among nine of its row -/
def mh_key (rw mk en : Nat → Int32) (C : Int32 → Prop) (O : Nat → Prop) (S : Nat → Int32 → Prop) (nu : Nat → Int32) (v k : Nat) : Prop :=
  ∃ r, r < 8 ∧ rw v = nI r ∧ ((k = 9 * r ∧ mh_see C (mk v) (en v)) ∨ (∃ t, t < 4 ∧ O t ∧ k = 9 * r + 1 + t ∧ mh_see (S t) (mk v) (en v)) ∨ (∃ t, t < 4 ∧ O t ∧ k = 9 * r + 5 + t ∧ mh_see (mh_own S nu t) (mk v) (en v)))
theorem mh_key_inj (h : mh_Inv U rw mk en C R O S nu T V) {v w k : Nat} (hv : U v) (hw : U w) (a : mh_key rw mk en C O S nu v k) (b : mh_key rw mk en C O S nu w k) : v = w := by
  obtain ⟨_, _, _, _, _, _, _, _, _, _, _, _, h13, h14, h15⟩ := h
  obtain ⟨r, r1, r2, r3⟩ := a
  obtain ⟨q, q1, q2, q3⟩ := b
  have e : r = q := by
    rcases r3 with ⟨x, _⟩ | ⟨t, tx, _, x, _⟩ | ⟨t, tx, _, x, _⟩ <;> rcases q3 with ⟨y, _⟩ | ⟨u, uy, _, y, _⟩ | ⟨u, uy, _, y, _⟩ <;> omega
  subst e
  have er : rw v = rw w := by rw [r2, q2]
  rcases r3 with ⟨x, sx⟩ | ⟨t, tx, ox, x, sx⟩ | ⟨t, tx, ox, x, sx⟩ <;> rcases q3 with ⟨y, sy⟩ | ⟨u, uy, oy, y, sy⟩ | ⟨u, uy, oy, y, sy⟩
  · exact h13 v w hv hw er sx sy
  · exact absurd x (by omega)
  · exact absurd x (by omega)
  · exact absurd x (by omega)
  · have e : t = u := by omega
    subst e
    exact h14 t ox v w hv hw er sx sy
  · exact absurd x (by omega)
  · exact absurd x (by omega)
  · exact absurd x (by omega)
  · have e : t = u := by omega
    subst e
    exact h15 t ox v w hv hw er sx sy
theorem mh_key_ex (h : mh_Inv U rw mk en C R O S nu T V) {v : Nat} (hv : U v) (hL : mh_L C R O S (mk v) (en v)) : ∃ k, k < 72 ∧ mh_key rw mk en C O S nu v k := by
  obtain ⟨h1, h2, h3, h4, h5, h6, h7, h8, h9, h10, h11, _⟩ := h
  obtain ⟨l1, l2, l3, l4⟩ := hL
  obtain ⟨r, r1, r2⟩ := vp_in_of (h5 v hv).2.2.2 (by omega)
  by_cases hm : R (mk v)
  · obtain ⟨t, o, e⟩ := (h2 _).mp hm
    obtain ⟨t1, t2, t3, t4⟩ := h1 t o
    have e0 : en v = 0 := by
      refine Classical.byContradiction (fun z => ?_)
      rcases l2.resolve_left z with y | y
      · rcases h6 v hv z y with x | x
        · exact t3 (by rw [e, x])
        · exact t4 (by rw [e]; exact x)
      · obtain ⟨u, ou, eu⟩ := (h2 _).mp y
        have tu := h11 t u _ o ou (h8 v t hv o (Or.inl e.symm)) (h8 v u hv ou (Or.inr eu.symm))
        subst tu
        exact l3 hm (by rw [← e, ← eu])
    exact ⟨9 * r + 5 + t, by omega, r, r1, r2, Or.inr (Or.inr ⟨t, t1, o, rfl, Or.inr (Or.inr e.symm), fun z => z.1 e0⟩)⟩
  · have m := l1.resolve_right hm
    by_cases c : en v ≠ 0 ∧ C (en v)
    · obtain ⟨t, o, s⟩ := l4 c.1 c.2
      exact ⟨9 * r + 1 + t, by have := (h1 t o).1; omega, r, r1, r2, Or.inr (Or.inl ⟨t, (h1 t o).1, o, rfl, s⟩)⟩
    · exact ⟨9 * r, by omega, r, r1, r2, Or.inl ⟨rfl, m, c⟩⟩
theorem mh_freeV (h : mh_Inv U rw mk en C R O S nu T V) (hL : ∀ v, U v → mh_L C R O S (mk v) (en v)) : ∃ w, w < 96 ∧ ¬ U w := by
  refine Classical.byContradiction (fun z => ?_)
  have h2 : ∀ v, v < 96 → U v := fun v a => Classical.byContradiction (fun y => z ⟨v, a, y⟩)
  have h3 : ∀ v, ∃ k, v < 96 → (k < 72 ∧ mh_key rw mk en C O S nu v k) := by
    intro v
    by_cases hv : v < 96
    · obtain ⟨k, a, b⟩ := mh_key_ex h (h2 v hv) (hL v (h2 v hv))
      exact ⟨k, fun _ => ⟨a, b⟩⟩
    · exact ⟨0, fun y => absurd y hv⟩
  have h4 := mh_pg (fun v => Classical.choose (h3 v)) 96 (List.range 72) (fun v hv => List.mem_range.mpr (Classical.choose_spec (h3 v) hv).1) (fun v w hv hw e => by
    have a := (Classical.choose_spec (h3 v) hv).2
    have b := (Classical.choose_spec (h3 w) hw).2
    have e' : Classical.choose (h3 v) = Classical.choose (h3 w) := e
    rw [e'] at a
    exact mh_key_inj h (h2 v hv) (h2 w hw) a b)
  rw [List.length_range] at h4
  omega
end
end
section
/-! ===== the walks: methods that only read ===== -/
def mw_U (a1 : Nat → Int32) (v : Nat) : Prop := v < 96 ∧ a1 v ≠ 0
def mw_O (a6 : Nat → Int32) (t : Nat) : Prop := t < 4 ∧ a6 t ≠ 0
def mw_S (a7 : Nat → Int64) (t : Nat) : Int32 → Prop := mb_in (a7 t)
def mw_N (a9 : Nat → Int32) (t : Nat) : Int32 := a9 (t * 4)
def mw_T (a10 : Nat → Int32) (t : Nat) (r : Int32) : Prop := mb_r (a10 (t * 4)) r
def mw_V (a11 : Nat → Int32) (t : Nat) (r : Int32) : Prop := mb_r (a11 t) r
/-- the picture holds of a state -/
def mw_Inv (C R : Int64) (a1 a2 a4 a5 a6 : Nat → Int32) (a7 : Nat → Int64) (a8 a9 a10 a11 : Nat → Int32) : Prop :=
  mh_Inv (mw_U a1) a2 a4 a5 (mb_in C) (mb_in R) (mw_O a6) (mw_S a7) (mw_N a9) (mw_T a10) (mw_V a11) ∧ ∀ t, t < 4 → a8 t = 0
theorem mw_t4 {t : Nat} (ht : t < 4) : nI t * 4 = nI (t * 4) := pk_mul t 4
section
variable {C R : Int64} {a1 a2 a3 a4 a5 a6 : Nat → Int32} {a7 : Nat → Int64} {a8 a9 a10 a11 a12 : Nat → Int32}
theorem mw_rng (h : mw_Inv C R a1 a2 a4 a5 a6 a7 a8 a9 a10 a11) : ∀ v, mw_U a1 v → vp_in (a4 v) 63 ∧ vp_in (a5 v) 63 := by
  obtain ⟨⟨_, _, _, _, h5, _⟩, _⟩ := h
  exact fun v hv => ⟨(h5 v hv).2.1, (h5 v hv).2.2.1⟩
theorem mw_nrng (h : mw_Inv C R a1 a2 a4 a5 a6 a7 a8 a9 a10 a11) {t : Nat} (ht : mw_O a6 t) : vp_in (a9 (t * 4)) 63 := by
  obtain ⟨⟨h1, _⟩, _⟩ := h
  exact (h1 t ht).2.1
theorem mw_in {post : Int32 → Prop} {p0 : Int64} {p1 : Int32} (hn : vp_in p1 63) (h1 : mh_i (mb_in p0) p1 → post 1) (h0 : ¬ mh_i (mb_in p0) p1 → post 0) : wpX_in post (C, R, a1, a2, a3, a4, a5, a6, a7, a8, a9, a10, a11, a12) p0 p1 :=
  br_c (fun z => h1 (Or.inl z)) (fun z => br_c (fun y => h1 (Or.inr ((mb_in_t1 hn).mp y))) (fun y => h0 (fun x => x.elim z (fun w => y ((mb_in_t1 hn).mpr w)))))
theorem mw_sees {post : Int32 → Prop} {p0 : Int64} {v : Nat} (hv : v < 96) (hm : vp_in (a4 v) 63) (he : vp_in (a5 v) 63) (h1 : mh_see (mb_in p0) (a4 v) (a5 v) → post 1) (h0 : ¬ mh_see (mb_in p0) (a4 v) (a5 v) → post 0) : wpX_sees post (C, R, a1, a2, a3, a4, a5, a6, a7, a8, a9, a10, a11, a12) p0 (nI v) := by
  unfold wpX_sees
  dsimp only
  rw [nI_clamp (show v < 2 ^ 31 by omega)]
  refine ⟨pk_in v 96 hv, mw_in hm (fun z => br_f (by decide) ⟨pk_in v 96 hv, br_c (fun y => h1 ⟨z, fun x => x.1 y⟩) (fun y => ⟨pk_in v 96 hv, mw_in he (fun x => ?_) (fun x => ?_)⟩)⟩) (fun z => br_t rfl (h0 (fun y => z y.1)))⟩
  · exact br_f (by decide) (h0 (fun w => w.2 ⟨y, x.resolve_left y⟩))
  · exact br_t rfl (h1 ⟨z, fun w => x (Or.inr w.2)⟩)
theorem mw_versionFor {post : Int32 → Prop} {p0 : Int64} {p1 : Int32} (hr : ∀ v, mw_U a1 v → vp_in (a4 v) 63 ∧ vp_in (a5 v) 63)
    (h0 : (∀ v, mw_U a1 v → a2 v = p1 → ¬ mh_see (mb_in p0) (a4 v) (a5 v)) → post (-1)) (h1 : ∀ v, mw_U a1 v → a2 v = p1 → mh_see (mb_in p0) (a4 v) (a5 v) → post (nI v)) : wpX_versionFor post (C, R, a1, a2, a3, a4, a5, a6, a7, a8, a9, a10, a11, a12) p0 p1 := by
  refine pk_loop (σ := Unit) (fun n i _ => wX_versionFor_3 post p0 p1 C R a1 a2 a3 a4 a5 a6 a7 a8 a9 a10 a11 a12 n (nI i)) (fun i _ => ∀ v, v < i → mw_U a1 v → a2 v = p1 → ¬ mh_see (mb_in p0) (a4 v) (a5 v)) 96 0 () (by omega) (fun v hv => absurd hv (by omega)) ?_ ?_
  · intro n _ h
    exact pk_le 96 96 (fun _ => h0 (fun v hv => h v hv.1 hv)) (fun z => absurd z (by omega))
  · intro n i _ hi h hw
    refine pk_le 96 i (fun z => absurd z (by omega)) (fun _ => ⟨pk_in i 96 hi, ?_⟩)
    rw [nI_clamp (show i < 2 ^ 31 by omega)]
    refine br_c (fun z => nm_r (nI_1 i) (hw () (lt_s h (fun y => absurd z y.2)))) (fun z => ⟨pk_in i 96 hi, br_c (fun e => ?_) (fun e => nm_r (nI_1 i) (hw () (lt_s h (fun _ y => absurd y e))))⟩)
    refine mw_sees hi (hr i ⟨hi, z⟩).1 (hr i ⟨hi, z⟩).2 (fun y => br_f (by decide) (h1 i ⟨hi, z⟩ e y)) (fun y => br_t rfl (nm_r (nI_1 i) (hw () (lt_s h (fun _ _ => y)))))
theorem mw_committed {post : Int32 → Prop} {r c : Int32} (h : mw_Inv C R a1 a2 a4 a5 a6 a7 a8 a9 a10 a11) (hr : vp_in r 8) (hv : mh_vw (mw_U a1) a2 a3 a4 a5 (mb_in C) r c) (h0 : c = 65535 → post 0) (h1 : c ≠ 65535 → post c) : wpX_committed post (C, R, a1, a2, a3, a4, a5, a6, a7, a8, a9, a10, a11, a12) r := by
  obtain ⟨k, hk, rfl⟩ := vp_in_of hr (by omega)
  refine br_f (nI_pos (by omega)) (br_t (nI_lt (b := 8) hk (by omega)) (mw_versionFor (mw_rng h) (fun z => ?_) (fun v hU hrv hs => ?_)))
  · refine br_f (by decide) ?_
    rcases hv with ⟨e, _⟩ | ⟨_, v, a, b, s, _⟩
    · exact h0 e
    · exact absurd s (z v a b)
  · refine br_t (nI_pos' (by have := hU.1; omega)) ⟨pk_in v 96 hU.1 rfl (by omega), ?_⟩
    rw [nI_clamp (by have := hU.1; omega)]
    rcases hv with ⟨_, z⟩ | ⟨c0, w, a, b, s, e⟩
    · exact absurd hs (z v hU hrv)
    · obtain ⟨⟨_, _, _, _, _, _, _, _, _, _, _, _, h13, _⟩, _⟩ := h
      rw [h13 v w hU a (by rw [hrv, b]) hs s, e]
      exact h1 c0
theorem mw_refused {post : Int32 → Prop} {t : Nat} (ht : t < 4) (h1 : mw_O a6 t → post 0) (h0 : ¬ mw_O a6 t → post (-2)) : wpX_refused post (C, R, a1, a2, a3, a4, a5, a6, a7, a8, a9, a10, a11, a12) (nI t) := by
  refine br_f (nI_pos (by omega)) (br_t (nI_lt (b := 4) ht (by omega)) ⟨pk_in t 4 ht, ?_⟩)
  rw [nI_clamp (show t < 2 ^ 31 by omega)]
  exact br_c (fun z => h0 (fun y => y.2 z)) (fun z => h1 ⟨ht, z⟩)
theorem mw_refusedRow {post : Int32 → Prop} {t : Nat} {r : Int32} (ht : t < 4) (hr : vp_in r 8) (h1 : mw_O a6 t → post 0) (h0 : ¬ mw_O a6 t → post (-2)) : wpX_refusedRow post (C, R, a1, a2, a3, a4, a5, a6, a7, a8, a9, a10, a11, a12) (nI t) r := by
  obtain ⟨k, hk, rfl⟩ := vp_in_of hr (by omega)
  unfold wpX_refusedRow
  dsimp only
  exact mw_refused ht (fun z => br_t (by decide) (br_f (nI_pos (by omega)) (br_t (nI_lt (b := 8) hk (by omega)) (h1 z)))) (fun z => br_f (by decide) (h0 z))
theorem mw_ownSet {post : Int64 → Prop} {t : Nat} (ht : t < 4) (h8 : a8 t = 0) (hp : post (0 ||| ((1 : Int64) <<< ((a9 (t * 4)).toInt64 &&& 63)))) : wpX_ownSet post (C, R, a1, a2, a3, a4, a5, a6, a7, a8, a9, a10, a11, a12) (nI t) := by
  have e4 : nI t * 4 + 0 = nI (t * 4) := by rw [mw_t4 ht]; exact nI_add (t * 4) 0
  refine ⟨2, pk_in t 4 ht, ?_⟩
  rw [nI_clamp (show t < 2 ^ 31 by omega), h8, e4, nI_clamp (show t * 4 < 2 ^ 31 by omega)]
  refine br_f (by decide) ⟨pk_in (t * 4) 16 (by omega), nm_e (nm_e ⟨pk_in t 4 ht, ?_⟩)⟩
  rw [nI_clamp (show t < 2 ^ 31 by omega), h8]
  exact br_t (by decide) hp
/-- what t sees: its snapshot and its own number -/
theorem mw_ownEq {t : Nat} (hn : vp_in (a9 (t * 4)) 63) : mb_in (a7 t ||| (0 ||| ((1 : Int64) <<< ((a9 (t * 4)).toInt64 &&& 63)))) = mh_own (mw_S a7) (mw_N a9) t := by
  funext n
  apply propext
  rw [mb_in_or, mb_in_or, mb_in_bit hn]
  exact ⟨fun z => z.elim Or.inl (fun y => y.elim (fun x => absurd x mb_in_0) Or.inr), fun z => z.elim Or.inl (fun y => Or.inr (Or.inr y))⟩
theorem mw_versionOf {post : Int32 → Prop} {t : Nat} {r : Int32} (h : mw_Inv C R a1 a2 a4 a5 a6 a7 a8 a9 a10 a11) (ht : mw_O a6 t)
    (h0 : (∀ v, mw_U a1 v → a2 v = r → ¬ mh_see (mh_own (mw_S a7) (mw_N a9) t) (a4 v) (a5 v)) → post (-1)) (h1 : ∀ v, mw_U a1 v → a2 v = r → mh_see (mh_own (mw_S a7) (mw_N a9) t) (a4 v) (a5 v) → post (nI v)) : wpX_versionOf post (C, R, a1, a2, a3, a4, a5, a6, a7, a8, a9, a10, a11, a12) (nI t) r := by
  rw [← mw_ownEq (mw_nrng h ht)] at h0 h1
  refine mw_ownSet ht.1 (h.2 t ht.1) ⟨pk_in t 4 ht.1, ?_⟩
  rw [nI_clamp (show t < 2 ^ 31 by have := ht.1; omega)]
  exact mw_versionFor (mw_rng h) h0 h1
theorem mw_has {post : Int32 → Prop} {t : Nat} {r : Int32} (h : mw_Inv C R a1 a2 a4 a5 a6 a7 a8 a9 a10 a11) (ht : t < 4) (hr : vp_in r 8) (hc : ¬ mw_O a6 t → post 0)
    (h0 : mw_O a6 t → (∀ v, mw_U a1 v → a2 v = r → ¬ mh_see (mh_own (mw_S a7) (mw_N a9) t) (a4 v) (a5 v)) → post 0) (h1 : mw_O a6 t → ∀ v, mw_U a1 v → a2 v = r → mh_see (mh_own (mw_S a7) (mw_N a9) t) (a4 v) (a5 v) → post 1) : wpX_has post (C, R, a1, a2, a3, a4, a5, a6, a7, a8, a9, a10, a11, a12) (nI t) r := by
  unfold wpX_has
  dsimp only
  exact mw_refusedRow ht hr (fun o => br_t rfl (mw_versionOf h o (fun z => br_t (by decide) (h0 o z)) (fun v a b c => br_f (nI_pos (by have := a.1; omega)) (h1 o v a b c)))) (fun o => br_f (by decide) (hc o))
theorem mw_get {post : Int32 → Prop} {t : Nat} {r : Int32} (h : mw_Inv C R a1 a2 a4 a5 a6 a7 a8 a9 a10 a11) (ht : t < 4) (hr : vp_in r 8) (hc : ¬ mw_O a6 t → post 0)
    (h0 : mw_O a6 t → (∀ v, mw_U a1 v → a2 v = r → ¬ mh_see (mh_own (mw_S a7) (mw_N a9) t) (a4 v) (a5 v)) → post 0) (h1 : mw_O a6 t → ∀ v, mw_U a1 v → a2 v = r → mh_see (mh_own (mw_S a7) (mw_N a9) t) (a4 v) (a5 v) → post (a3 v)) : wpX_get post (C, R, a1, a2, a3, a4, a5, a6, a7, a8, a9, a10, a11, a12) (nI t) r := by
  unfold wpX_get
  dsimp only
  exact mw_refusedRow ht hr (fun o => br_t (by decide) (mw_versionOf h o (fun z => br_f (by decide) (h0 o z)) (fun v a b c => br_t (nI_pos' (by have := a.1; omega)) ⟨pk_in v 96 a.1 rfl (by omega), by rw [nI_clamp (by have := a.1; omega)]; exact h1 o v a b c⟩))) (fun o => br_f (by decide) (hc o))
theorem mw_changedBy {post : Int32 → Prop} {t : Nat} (ht : t < 4) (h8 : a8 t = 0) (hp : post (a10 (t * 4))) : wpX_changedBy post (C, R, a1, a2, a3, a4, a5, a6, a7, a8, a9, a10, a11, a12) (nI t) := by
  have e4 : nI t * 4 + 0 = nI (t * 4) := by rw [mw_t4 ht]; exact nI_add (t * 4) 0
  refine ⟨2, pk_in t 4 ht, ?_⟩
  rw [nI_clamp (show t < 2 ^ 31 by omega), h8, e4, nI_clamp (show t * 4 < 2 ^ 31 by omega)]
  refine br_f (by decide) ⟨pk_in (t * 4) 16 (by omega), nm_r (Int32.zero_or) (nm_e ⟨pk_in t 4 ht, ?_⟩)⟩
  rw [nI_clamp (show t < 2 ^ 31 by omega), h8]
  exact br_t (by decide) hp
theorem mw_changed {post : Int32 → Prop} {t : Nat} (h8 : ∀ t, t < 4 → a8 t = 0) (ht : t < 4) (hc : ¬ mw_O a6 t → post (-2)) (h1 : mw_O a6 t → post (a10 (t * 4))) : wpX_changed post (C, R, a1, a2, a3, a4, a5, a6, a7, a8, a9, a10, a11, a12) (nI t) := by
  unfold wpX_changed
  dsimp only
  exact mw_refused ht (fun o => br_t (by decide) (mw_changedBy ht (h8 t ht) (h1 o))) (fun o => br_f (by decide) (hc o))
theorem mw_over {post : Int32 → Prop} {n : Int32} (hn : vp_in n 63) (h1 : n ≠ 0 → ¬ mb_in C n → ¬ mb_in R n → post 1) (h0 : n = 0 ∨ mb_in C n ∨ mb_in R n → post 0) : wpX_over post (C, R, a1, a2, a3, a4, a5, a6, a7, a8, a9, a10, a11, a12) n :=
  br_c (fun z => h0 (Or.inl z)) (fun z => mw_in hn (fun y => br_f (by decide) (h0 (Or.inr (mb_in_or.mp (y.resolve_left z))))) (fun y => br_t rfl (h1 z (fun x => y (Or.inr (mb_in_or.mpr (Or.inl x)))) (fun x => y (Or.inr (mb_in_or.mpr (Or.inr x)))))))
theorem mw_dead {post : Int32 → Prop} {v : Nat} (hv : v < 96) (hm : vp_in (a4 v) 63) (he : vp_in (a5 v) 63) (h1 : mh_dead (mb_in C) (mb_in R) (mw_O a6) (mw_S a7) (a4 v) (a5 v) → post 1) (h0 : ¬ mh_dead (mb_in C) (mb_in R) (mw_O a6) (mw_S a7) (a4 v) (a5 v) → post 0) : wpX_dead post (C, R, a1, a2, a3, a4, a5, a6, a7, a8, a9, a10, a11, a12) (nI v) := by
  have k39 : ¬ (a4 v ≠ 0 ∧ ¬ mb_in C (a4 v) ∧ ¬ mb_in R (a4 v)) → ¬ (a4 v = a5 v ∧ a4 v ≠ 0) → wX_dead_39 post (nI v) C R a1 a2 a3 a4 a5 a6 a7 a8 a9 a10 a11 a12 := by
    intro n1 n2
    unfold wX_dead_39
    rw [nI_clamp (show v < 2 ^ 31 by omega)]
    refine ⟨pk_in v 96 hv, br_c (fun z => h0 (fun d => ?_)) (fun z => ⟨pk_in v 96 hv, mw_in he (fun y => br_f (by decide) ⟨pk_in v 96 hv, mw_in hm (fun x => br_f (by decide) ?_) (fun x => br_t rfl (h0 (fun d => ?_)))⟩) (fun y => br_t rfl (h0 (fun d => ?_)))⟩)⟩
    · rcases d with d | d | d
      · exact n1 d
      · exact n2 d
      · exact d.1 z
    · refine pk_loop (σ := Unit) (fun n i _ => wX_dead_86 post (nI v) C R a1 a2 a3 a4 a5 a6 a7 a8 a9 a10 a11 a12 n (nI i)) (fun i _ => ∀ t, t < i → mw_O a6 t → ¬ mh_see (mw_S a7 t) (a4 v) (a5 v)) 4 0 () (by omega) (fun t ht => absurd ht (by omega)) ?_ ?_
      · intro n _ h
        exact pk_le 4 4 (fun _ => h1 (Or.inr (Or.inr ⟨z, y.resolve_left z, x, fun t ht => h t ht.1 ht⟩))) (fun w => absurd w (by omega))
      · intro n i _ hi h hw
        refine pk_le 4 i (fun w => absurd w (by omega)) (fun _ => ⟨pk_in i 4 hi, ?_⟩)
        rw [nI_clamp (show i < 2 ^ 31 by omega)]
        refine br_c (fun w => nm_r (nI_1 i) (hw () (lt_s h (fun o => absurd w o.2)))) (fun w => ⟨pk_in i 4 hi, mw_sees hv hm he (fun s => br_f (by decide) (h0 (fun d => ?_))) (fun s => br_t rfl (nm_r (nI_1 i) (hw () (lt_s h (fun _ => s)))))⟩)
        rcases d with d | d | d
        · exact n1 d
        · exact n2 d
        · exact d.2.2.2 i ⟨hi, w⟩ s
    · rcases d with d | d | d
      · exact n1 d
      · exact n2 d
      · exact x d.2.2.1
    · rcases d with d | d | d
      · exact n1 d
      · exact n2 d
      · exact y (Or.inr d.2.1)
  unfold wpX_dead
  dsimp only
  rw [nI_clamp (show v < 2 ^ 31 by omega)]
  refine ⟨pk_in v 96 hv, mw_over hm (fun x y z => br_f (by decide) (h1 (Or.inl ⟨x, y, z⟩))) (fun x => br_t rfl ⟨pk_in v 96 hv, pk_in v 96 hv, br_c (fun e => ⟨pk_in v 96 hv, br_c (fun z => k39 (fun w => w.1 z) (fun w => w.2 z)) (fun z => h1 (Or.inr (Or.inl ⟨e, z⟩)))⟩) (fun e => k39 (fun w => ?_) (fun w => e w.1))⟩)⟩
  exact x.elim w.1 (fun y => y.elim w.2.1 w.2.2)
theorem mw_blocked {post : Int32 → Prop} {t : Nat} {r : Int32} (h8 : ∀ t, t < 4 → a8 t = 0) (ht : t < 4) (hr : vp_in r 8) (h4 : ∀ u, mw_O a6 u → u ≠ t → mw_T a10 u r → post (-4))
    (h5 : (∀ u, mw_O a6 u → u ≠ t → ¬ mw_T a10 u r) → mw_V a11 t r → post (-5)) (h0 : (∀ u, mw_O a6 u → u ≠ t → ¬ mw_T a10 u r) → ¬ mw_V a11 t r → post 0) : wpX_blocked post (C, R, a1, a2, a3, a4, a5, a6, a7, a8, a9, a10, a11, a12) (nI t) r := by
  refine pk_loop (σ := Unit) (fun n i _ => wX_blocked_2 post (nI t) r C R a1 a2 a3 a4 a5 a6 a7 a8 a9 a10 a11 a12 n (nI i)) (fun i _ => ∀ u, u < i → mw_O a6 u → u ≠ t → ¬ mw_T a10 u r) 4 0 () (by omega) (fun t ht => absurd ht (by omega)) ?_ ?_
  · intro n _ h
    refine pk_le 4 4 (fun _ => ⟨pk_in t 4 ht, ?_⟩) (fun z => absurd z (by omega))
    rw [nI_clamp (show t < 2 ^ 31 by omega)]
    exact ek_if (mb_r_t hr) (h5 (fun u o => h u o.1 o)) (h0 (fun u o => h u o.1 o))
  · intro n i _ hi h hw
    refine pk_le 4 i (fun z => absurd z (by omega)) (fun _ => pk_eq i t (fun e => nm_r (nI_1 i) (hw () (lt_s h (fun _ y => absurd e y)))) (fun e => ⟨pk_in i 4 hi, ?_⟩))
    rw [nI_clamp (show i < 2 ^ 31 by omega)]
    refine br_c (fun z => nm_r (nI_1 i) (hw () (lt_s h (fun o => absurd z o.2)))) (fun z => mw_changedBy hi (h8 i hi) (ek_if (mb_r_t hr) (fun y => h4 i ⟨hi, z⟩ e y) (fun y => nm_r (nI_1 i) (hw () (lt_s h (fun _ _ => y))))))
theorem mw_current {post : Int32 → Prop} {t : Nat} (h8 : ∀ t, t < 4 → a8 t = 0) (ht : t < 4) (hp : post (nI (t * 4))) : wpX_current post (C, R, a1, a2, a3, a4, a5, a6, a7, a8, a9, a10, a11, a12) (nI t) := by
  refine ⟨pk_in t 4 ht, ?_⟩
  rw [nI_clamp (show t < 2 ^ 31 by omega), h8 t ht, mw_t4 ht]
  exact ek_v (P := post) (nI_add (t * 4) 0) hp
theorem mw_freeVersion {post : Int32 → Prop} (h0 : (∀ v, v < 96 → mw_U a1 v) → post (-1)) (h1 : ∀ v, v < 96 → ¬ mw_U a1 v → post (nI v)) : wpX_freeVersion post (C, R, a1, a2, a3, a4, a5, a6, a7, a8, a9, a10, a11, a12) := by
  refine pk_loop (σ := Unit) (fun n i _ => wX_freeVersion_2 post C R a1 a2 a3 a4 a5 a6 a7 a8 a9 a10 a11 a12 n (nI i)) (fun i _ => ∀ v, v < i → mw_U a1 v) 96 0 () (by omega) (fun t ht => absurd ht (by omega)) ?_ ?_
  · intro n _ h
    exact pk_le 96 96 (fun _ => h0 h) (fun z => absurd z (by omega))
  · intro n i _ hi h hw
    refine pk_le 96 i (fun z => absurd z (by omega)) (fun _ => ⟨pk_in i 96 hi, ?_⟩)
    rw [nI_clamp (show i < 2 ^ 31 by omega)]
    exact br_c (fun z => h1 i hi (fun y => y.2 z)) (fun z => nm_r (nI_1 i) (hw () (lt_s h ⟨hi, z⟩)))
/-- a number is held by something -/
def mw_held (C R : Int64) (a1 a4 a5 : Nat → Int32) (n : Int32) : Prop := mb_in C n ∨ mb_in R n ∨ ∃ v, mw_U a1 v ∧ (a4 v = n ∨ a5 v = n)
theorem mw_freeNumber {post : Int32 → Prop} (hr : ∀ v, mw_U a1 v → vp_in (a4 v) 63 ∧ vp_in (a5 v) 63) (h0 : (∀ k, 1 ≤ k → k < 63 → mw_held C R a1 a4 a5 (nI k)) → post 0) (h1 : ∀ k, 1 ≤ k → k < 63 → ¬ mw_held C R a1 a4 a5 (nI k) → post (nI k)) : wpX_freeNumber post (C, R, a1, a2, a3, a4, a5, a6, a7, a8, a9, a10, a11, a12) := by
  refine nm_e ?_
  refine pk_loop (σ := Int64) (fun n i s => wX_freeNumber_12 post C R a1 a2 a3 a4 a5 a6 a7 a8 a9 a10 a11 a12 n s (nI i)) (fun i s => ∀ n, mb_in s n ↔ mb_in C n ∨ mb_in R n ∨ ∃ v, v < i ∧ mw_U a1 v ∧ (a4 v = n ∨ a5 v = n)) 96 0 (C ||| R) (by omega) (fun n => ?_) ?_ ?_
  · rw [mb_in_or]
    exact ⟨fun z => z.elim Or.inl (fun y => Or.inr (Or.inl y)), fun z => z.elim Or.inl (fun y => y.elim Or.inr (fun ⟨v, x, _⟩ => absurd x (by omega)))⟩
  · intro n s h
    have hh : ∀ n, mb_in s n ↔ mw_held C R a1 a4 a5 n := by
      intro n
      rw [h n]
      exact ⟨fun z => z.imp id (fun y => y.imp id (fun ⟨v, _, x⟩ => ⟨v, x⟩)), fun z => z.imp id (fun y => y.imp id (fun ⟨v, x, w⟩ => ⟨v, x.1, x, w⟩))⟩
    refine pk_le 96 96 (fun _ => ?_) (fun z => absurd z (by omega))
    refine pk_loop (σ := Unit) (fun n i _ => wX_freeNumber_59 post s C R a1 a2 a3 a4 a5 a6 a7 a8 a9 a10 a11 a12 n (nI i)) (fun i _ => 1 ≤ i ∧ ∀ k, k < i → 1 ≤ k → mw_held C R a1 a4 a5 (nI k)) 63 1 () (by omega) ⟨by omega, fun k hk _ => absurd hk (by omega)⟩ ?_ ?_
    · intro n _ g
      exact pk_le 63 63 (fun _ => h0 (fun k a b => g.2 k b a)) (fun z => absurd z (by omega))
    · intro n i _ hi g hw
      exact pk_le 63 i (fun z => absurd z (by omega)) (fun _ => ek_if (mb_in_t0 (vp_in_nI hi (by omega))) (fun z => h1 i g.1 hi (fun y => z ((hh _).mpr y))) (fun z => nm_r (nI_1 i) (hw () ⟨by omega, lt_s g.2 (fun _ => (hh _).mp (Classical.byContradiction z))⟩)))
  · intro n i s hi h hw
    refine pk_le 96 i (fun z => absurd z (by omega)) (fun _ => ⟨pk_in i 96 hi, ?_⟩)
    rw [nI_clamp (show i < 2 ^ 31 by omega)]
    refine br_c (fun z => nm_r (nI_1 i) (hw s (fun n => ?_))) (fun z => ⟨pk_in i 96 hi, ⟨pk_in i 96 hi, nm_e (nm_r (nI_1 i) (hw _ (fun n => ?_)))⟩⟩)
    · rw [h n]
      refine ⟨fun z => z.imp id (fun y => y.imp id (fun ⟨v, x, w⟩ => ⟨v, by omega, w⟩)), fun y => y.imp id (fun y => y.imp id (fun ⟨v, x, w⟩ => ⟨v, ?_, w⟩))⟩
      by_cases e : v = i
      · subst e; exact absurd z w.1.2
      · omega
    · rw [mb_in_or, mb_in_or, h n, mb_in_bit (hr i ⟨hi, z⟩).1, mb_in_bit (hr i ⟨hi, z⟩).2]
      constructor
      · rintro (((y | y | ⟨v, x, w⟩) | y) | y)
        · exact Or.inl y
        · exact Or.inr (Or.inl y)
        · exact Or.inr (Or.inr ⟨v, by omega, w⟩)
        · exact Or.inr (Or.inr ⟨i, by omega, ⟨hi, z⟩, Or.inl y.symm⟩)
        · exact Or.inr (Or.inr ⟨i, by omega, ⟨hi, z⟩, Or.inr y.symm⟩)
      · rintro (y | y | ⟨v, x, u, w⟩)
        · exact Or.inl (Or.inl (Or.inl y))
        · exact Or.inl (Or.inl (Or.inr (Or.inl y)))
        · by_cases e : v = i
          · subst e
            exact w.elim (fun w => Or.inl (Or.inr w.symm)) (fun w => Or.inr w.symm)
          · exact Or.inl (Or.inl (Or.inr (Or.inr ⟨v, by omega, u, w⟩)))
end
end
section
/-! ===== the walks: pattern, standing ===== -/
theorem mw_nIb (m : Nat) {i : Nat} (hi : i < 32) : mb_b (nI m) i = m.testBit i := by
  show (BitVec.ofNat 32 m).getLsbD i = _
  rw [BitVec.getLsbD_ofNat]
  simp [hi]
theorem mw_setb {k i : Nat} (hi : i < 4) : nI k ||| ((1 : Int32) <<< (nI i &&& 31)) = nI (k ||| 2 ^ i) := by
  apply mb_ext
  intro j hj
  rw [mb_or, mb_ss i j hj (by omega), mw_nIb k hj, mw_nIb _ hj, Nat.testBit_or, Nat.testBit_two_pow]
  congr 1
  exact decide_eq_decide.mpr ⟨fun z => z.symm, fun z => z.symm⟩
section
variable {C R : Int64} {a1 a2 a3 a4 a5 a6 : Nat → Int32} {a7 : Nat → Int64} {a8 a9 a10 a11 a12 : Nat → Int32}
theorem mw_pattern {post : Int32 → Prop} {n : Int32} (hn : vp_in n 63) (hp : ∀ k : Nat, k < 16 → (∀ t, t < 4 → (k.testBit t = true ↔ (¬ mw_O a6 t ∨ mh_i (mw_S a7 t) n))) → post (nI k)) : wpX_pattern post (C, R, a1, a2, a3, a4, a5, a6, a7, a8, a9, a10, a11, a12) n := by
  refine pk_loop (σ := Nat) (fun f i k => wX_pattern_4 post n C R a1 a2 a3 a4 a5 a6 a7 a8 a9 a10 a11 a12 f (nI k) (nI i)) (fun i k => k < 2 ^ i ∧ ∀ t, t < i → (k.testBit t = true ↔ (¬ mw_O a6 t ∨ mh_i (mw_S a7 t) n))) 4 0 0 (by omega) ⟨by decide, fun t ht => absurd ht (by omega)⟩ ?_ ?_
  · intro f k h
    exact pk_le 4 4 (fun _ => hp k h.1 h.2) (fun z => absurd z (by omega))
  · intro f i k hi h hw
    have set : (¬ mw_O a6 i ∨ mh_i (mw_S a7 i) n) → wX_pattern_32 post (wX_pattern_4 post n C R a1 a2 a3 a4 a5 a6 a7 a8 a9 a10 a11 a12 f) n (nI k) (nI i) C R a1 a2 a3 a4 a5 a6 a7 a8 a9 a10 a11 a12 := by
      intro c
      refine nm_r (mw_setb hi) (nm_r (nI_1 i) (hw (k ||| 2 ^ i) ⟨?_, lt_s (fun t ht => ?_) ?_⟩))
      · exact Nat.or_lt_two_pow (Nat.lt_trans h.1 (Nat.pow_lt_pow_right (by decide) (by omega))) (Nat.pow_lt_pow_right (by decide) (by omega))
      · rw [Nat.testBit_or, Nat.testBit_two_pow, decide_eq_false (by omega), Bool.or_false]
        exact h.2 t ht
      · rw [Nat.testBit_or, Nat.testBit_two_pow, decide_eq_true rfl, Bool.or_true]
        exact ⟨fun _ => c, fun _ => rfl⟩
    have skip : ¬ (¬ mw_O a6 i ∨ mh_i (mw_S a7 i) n) → wX_pattern_4 post n C R a1 a2 a3 a4 a5 a6 a7 a8 a9 a10 a11 a12 f (nI k) (nI (i + 1)) := by
      intro c
      refine hw k ⟨Nat.lt_trans h.1 (Nat.pow_lt_pow_right (by decide) (by omega)), lt_s h.2 ?_⟩
      rw [Nat.testBit_lt_two_pow h.1]
      exact ⟨fun z => absurd z (by decide), fun z => absurd z c⟩
    refine pk_le 4 i (fun z => absurd z (by omega)) (fun _ => ⟨pk_in i 4 hi, ?_⟩)
    rw [nI_clamp (show i < 2 ^ 31 by omega)]
    exact br_c (fun z => set (Or.inl (fun o => o.2 z))) (fun z => ⟨pk_in i 4 hi, mw_in hn (fun y => br_f (by decide) (set (Or.inr y))) (fun y => br_t rfl (nm_r (nI_1 i) (skip (fun c => c.elim (fun x => x ⟨hi, z⟩) y))))⟩)
end
/-- alike: each is a committed number, and its place says who has it -/
def mw_A (C : Int64) (a6 : Nat → Int32) (a7 : Nat → Int64) (al : Nat → Int32) : Prop :=
  ∀ p : Nat, p < 16 → al p ≠ 0 → vp_in (al p) 63 ∧ mb_in C (al p) ∧ ∀ t, mw_O a6 t → (mw_S a7 t (al p) ↔ p.testBit t = true)
def mw_Q (C : Int64) (al : Nat → Int32) (n : Int32) : Prop := n = 0 ∨ ¬ mb_in C n ∨ ∃ p, p < 16 ∧ al p = n
/-- what standing answers -/
def mw_st (C : Int64) (a6 : Nat → Int32) (a7 : Nat → Int64) (a9 al al' : Nat → Int32) (n n' : Int32) : Prop :=
  mw_A C a6 a7 al' ∧ (∀ p, p < 16 → al p ≠ 0 → al' p = al p) ∧ mh_eqv (mb_in C) (mw_O a6) (mw_S a7) (mw_N a9) (mb_in C) (mw_S a7) n n' ∧
  ((n ≠ 0 → mb_in C n → ∃ t, mw_O a6 t ∧ ¬ mw_S a7 t n) → mh_eqe (mb_in C) (mw_O a6) (mw_S a7) (mw_N a9) (mb_in C) (mw_S a7) n n') ∧ (n = 0 → n' = 0) ∧ mw_Q C al' n'
section
variable {C R : Int64} {a1 a2 a3 a4 a5 a6 : Nat → Int32} {a7 : Nat → Int64} {a8 a9 a10 a11 a12 : Nat → Int32}
theorem mw_Qup {al al' : Nat → Int32} {n : Int32} (h : ∀ p, p < 16 → al p ≠ 0 → al' p = al p) (q : mw_Q C al n) : mw_Q C al' n := by
  by_cases e : n = 0
  · exact Or.inl e
  · rcases q with q | q | ⟨p, a, b⟩
    · exact Or.inl q
    · exact Or.inr (Or.inl q)
    · exact Or.inr (Or.inr ⟨p, a, by rw [h p a (by rw [b]; exact e), b]⟩)
theorem mw_st_rfl {n : Int32} (hn : vp_in n 63) (hA : mw_A C a6 a7 a12) (hq : mw_Q C a12 n) : mw_st C a6 a7 a9 a12 a12 n n :=
  ⟨hA, fun _ _ _ => rfl, mh_eqv_rfl hn, fun _ => mh_eqe_rfl hn, id, hq⟩
theorem mw_st_com (h : mw_Inv C R a1 a2 a4 a5 a6 a7 a8 a9 a10 a11) {n m : Int32} {al' : Nat → Int32} (n0 : n ≠ 0) (nC : mb_in C n) (m0 : m ≠ 0) (mr : vp_in m 63) (mC : mb_in C m) (hs : ∀ t, mw_O a6 t → (mw_S a7 t m ↔ mw_S a7 t n))
    (hA : mw_A C a6 a7 al') (hk : ∀ p, p < 16 → a12 p ≠ 0 → al' p = a12 p) (hq : ∃ p, p < 16 ∧ al' p = m) : mw_st C a6 a7 a9 a12 al' n m := by
  obtain ⟨⟨h1, _⟩, _⟩ := h
  have e : ∀ t, mw_O a6 t → (m = mw_N a9 t ↔ n = mw_N a9 t) := fun t ht => ⟨fun z => absurd (z ▸ mC) (h1 t ht).2.2.2, fun z => absurd (z ▸ nC) (h1 t ht).2.2.2⟩
  refine ⟨hA, hk, ⟨mr, ⟨fun _ => Or.inr nC, fun _ => Or.inr mC⟩, fun t ht => ?_, e⟩, fun _ => ⟨mr, ⟨fun _ => ⟨n0, nC⟩, fun _ => ⟨m0, mC⟩⟩, fun t ht => ?_, e⟩, fun z => absurd z n0, Or.inr (Or.inr hq)⟩
  · unfold mh_i
    rw [hs t ht]
    exact ⟨fun z => Or.inr (z.resolve_left m0), fun z => Or.inr (z.resolve_left n0)⟩
  · rw [hs t ht]
    exact ⟨fun z => ⟨n0, z.2⟩, fun z => ⟨m0, z.2⟩⟩
theorem mw_st_all (h : mw_Inv C R a1 a2 a4 a5 a6 a7 a8 a9 a10 a11) {n : Int32} (n0 : n ≠ 0) (nC : mb_in C n) (hs : ∀ t, mw_O a6 t → mw_S a7 t n) (hA : mw_A C a6 a7 a12) : mw_st C a6 a7 a9 a12 a12 n 0 := by
  obtain ⟨⟨h1, _⟩, _⟩ := h
  refine ⟨hA, fun _ _ _ => rfl, ⟨vp_in_iff.mpr (by decide), ⟨fun _ => Or.inr nC, fun _ => Or.inl rfl⟩, fun t ht => ⟨fun _ => Or.inr (hs t ht), fun _ => Or.inl rfl⟩, fun t ht => ⟨fun z => absurd z.symm (h1 t ht).2.2.1, fun z => absurd (z ▸ nC) (h1 t ht).2.2.2⟩⟩, fun z => ?_, fun z => absurd z n0, Or.inl rfl⟩
  obtain ⟨t, a, b⟩ := z n0 nC
  exact absurd (hs t a) b
theorem mw_A_set {n : Int32} {k : Nat} (hA : mw_A C a6 a7 a12) (hn : vp_in n 63) (nC : mb_in C n) (hs : ∀ t, mw_O a6 t → (mw_S a7 t n ↔ k.testBit t = true)) : mw_A C a6 a7 (upd a12 k n) := by
  intro p hp h0
  by_cases e : p = k
  · subst e
    rw [pk_us]
    exact ⟨hn, nC, hs⟩
  · rw [pk_un e] at h0 ⊢
    exact hA p hp h0
theorem mw_standing {post : Int32 → St1 → Prop} {n : Int32} (h : mw_Inv C R a1 a2 a4 a5 a6 a7 a8 a9 a10 a11) (hn : vp_in n 63) (hA : mw_A C a6 a7 a12) (hp : ∀ (n' : Int32) (al' : Nat → Int32), mw_st C a6 a7 a9 a12 al' n n' → post n' (C, R, a1, a2, a3, a4, a5, a6, a7, a8, a9, a10, a11, al')) : wpX_standing post (C, R, a1, a2, a3, a4, a5, a6, a7, a8, a9, a10, a11, a12) n := by
  refine br_c (fun z => hp n a12 (mw_st_rfl hn hA (Or.inl z))) (fun z => ek_if (mb_in_t0 hn) (fun y => hp n a12 (mw_st_rfl hn hA (Or.inr (Or.inl y)))) (fun y => ?_))
  have nC : mb_in C n := Classical.byContradiction y
  refine mw_pattern hn (fun k hk ht => pk_eq k 15 (fun e => hp 0 a12 ?_) (fun e => ⟨pk_in k 16 hk, ?_⟩))
  · subst e
    refine mw_st_all h z nC (fun t o => ?_) hA
    have b : (15 : Nat).testBit t = true := (by decide : ∀ t, t < 4 → (15 : Nat).testBit t = true) t o.1
    exact (((ht t o.1).mp b).resolve_left (fun x => x o)).resolve_left z
  · have hs : ∀ t, mw_O a6 t → (mw_S a7 t n ↔ k.testBit t = true) := by
      intro t o
      rw [ht t o.1]
      exact ⟨fun x => Or.inr (Or.inr x), fun x => (x.resolve_left (fun w => w o)).resolve_left z⟩
    rw [nI_clamp (show k < 2 ^ 31 by omega)]
    refine br_c (fun x => ⟨pk_in k 16 hk, nm_e ⟨pk_in k 16 hk, hp _ _ ?_⟩⟩) (fun x => ⟨pk_in k 16 hk, hp _ _ ?_⟩)
    · rw [pk_us]
      refine mw_st_com h z nC z hn nC (fun t _ => Iff.rfl) (mw_A_set hA hn nC hs) (fun p _ p0 => ?_) ⟨k, hk, pk_us⟩
      exact pk_un (fun w => p0 (by rw [w]; exact x))
    · obtain ⟨q1, q2, q3⟩ := hA k hk x
      exact mw_st_com h z nC x q1 q2 (fun t o => (q3 t o).trans (hs t o).symm) hA (fun _ _ _ => rfl) ⟨k, hk, rfl⟩
theorem mw_standing_2 {post : Int32 → St1 → Prop} {n : Int32} (h : mw_Inv C R a1 a2 a4 a5 a6 a7 a8 a9 a10 a11) (hn : vp_in n 63) (hA : mw_A C a6 a7 a12) (hp : ∀ (n' : Int32) (al' : Nat → Int32), mw_st C a6 a7 a9 a12 al' n n' → post n' (C, R, a1, a2, a3, a4, a5, a6, a7, a8, a9, a10, a11, al')) : wpX_standing_2 post (C, R, a1, a2, a3, a4, a5, a6, a7, a8, a9, a10, a11, a12) n := by
  refine br_c (fun z => hp n a12 (mw_st_rfl hn hA (Or.inl z))) (fun z => ek_if (mb_in_t0 hn) (fun y => hp n a12 (mw_st_rfl hn hA (Or.inr (Or.inl y)))) (fun y => ?_))
  have nC : mb_in C n := Classical.byContradiction y
  refine mw_pattern hn (fun k hk ht => pk_eq k 15 (fun e => hp 0 a12 ?_) (fun e => ⟨pk_in k 16 hk, ?_⟩))
  · subst e
    refine mw_st_all h z nC (fun t o => ?_) hA
    have b : (15 : Nat).testBit t = true := (by decide : ∀ t, t < 4 → (15 : Nat).testBit t = true) t o.1
    exact (((ht t o.1).mp b).resolve_left (fun x => x o)).resolve_left z
  · have hs : ∀ t, mw_O a6 t → (mw_S a7 t n ↔ k.testBit t = true) := by
      intro t o
      rw [ht t o.1]
      exact ⟨fun x => Or.inr (Or.inr x), fun x => (x.resolve_left (fun w => w o)).resolve_left z⟩
    rw [nI_clamp (show k < 2 ^ 31 by omega)]
    refine br_c (fun x => ⟨pk_in k 16 hk, nm_e ⟨pk_in k 16 hk, hp _ _ ?_⟩⟩) (fun x => ⟨pk_in k 16 hk, hp _ _ ?_⟩)
    · rw [pk_us]
      refine mw_st_com h z nC z hn nC (fun t _ => Iff.rfl) (mw_A_set hA hn nC hs) (fun p _ p0 => ?_) ⟨k, hk, pk_us⟩
      exact pk_un (fun w => p0 (by rw [w]; exact x))
    · obtain ⟨q1, q2, q3⟩ := hA k hk x
      exact mw_st_com h z nC x q1 q2 (fun t o => (q3 t o).trans (hs t o).symm) hA (fun _ _ _ => rfl) ⟨k, hk, rfl⟩
end
end
section
/-! ===== the walks: tidy ===== -/
/-- the same is seen of two states (what is open, and its numbers, being the same) -/
def mw_Sm (a6 a9 : Nat → Int32) (C : Int64) (a1 a4 a5 : Nat → Int32) (a7 : Nat → Int64) (C' : Int64) (a1' a4' a5' : Nat → Int32) (a7' : Nat → Int64) : Prop :=
  mh_sm (mw_U a1) a4 a5 (mb_in C) (mw_U a1') a4' a5' (mb_in C') ∧
  ∀ t, mw_O a6 t → mh_sm (mw_U a1) a4 a5 (mh_own (mw_S a7) (mw_N a9) t) (mw_U a1') a4' a5' (mh_own (mw_S a7') (mw_N a9) t)
/-- what is left -/
def mw_L (C R : Int64) (a1 a4 a5 a6 : Nat → Int32) (a7 : Nat → Int64) : Prop := ∀ v, mw_U a1 v → mh_L (mb_in C) (mb_in R) (mw_O a6) (mw_S a7) (a4 v) (a5 v)
section
variable {C R C' : Int64} {a1 a2 a3 a4 a5 a6 : Nat → Int32} {a7 : Nat → Int64} {a8 a9 a10 a11 a12 : Nat → Int32} {a1' a4' a5' : Nat → Int32} {a7' : Nat → Int64}
theorem mw_Sm_rfl : mw_Sm a6 a9 C a1 a4 a5 a7 C a1 a4 a5 a7 := ⟨mh_sm_rfl, fun _ _ => mh_sm_rfl⟩
theorem mw_Sm_tr {C'' : Int64} {a1'' a4'' a5'' : Nat → Int32} {a7'' : Nat → Int64} (h : mw_Sm a6 a9 C a1 a4 a5 a7 C' a1' a4' a5' a7') (h' : mw_Sm a6 a9 C' a1' a4' a5' a7' C'' a1'' a4'' a5'' a7'') : mw_Sm a6 a9 C a1 a4 a5 a7 C'' a1'' a4'' a5'' a7'' :=
  ⟨mh_sm_tr h.1 h'.1, fun t ht => mh_sm_tr (h.2 t ht) (h'.2 t ht)⟩
theorem mw_chg (h : mw_Inv C R a1 a2 a4 a5 a6 a7 a8 a9 a10 a11) (hU : ∀ v, mw_U a1' v → mw_U a1 v) (hk : ∀ v, mw_U a1 v → ¬ mw_U a1' v → mh_dead (mb_in C) (mb_in R) (mw_O a6) (mw_S a7) (a4 v) (a5 v))
    (hm : ∀ v, mw_U a1' v → mh_eqv (mb_in C) (mw_O a6) (mw_S a7) (mw_N a9) (mb_in C') (mw_S a7') (a4 v) (a4' v)) (he : ∀ v, mw_U a1' v → mh_eqe (mb_in C) (mw_O a6) (mw_S a7) (mw_N a9) (mb_in C') (mw_S a7') (a5 v) (a5' v))
    (hC : ∀ n, mb_in C' n → mb_in C n) (hS : ∀ t n, mw_O a6 t → mw_S a7' t n → mb_in C' n) : mw_Inv C' R a1' a2 a4' a5' a6 a7' a8 a9 a10 a11 ∧ mw_Sm a6 a9 C a1 a4 a5 a7 C' a1' a4' a5' a7' :=
  ⟨⟨mh_chg h.1 hU hm he hC hS, h.2⟩, mh_chgC hU (fun v a b => mh_deadC (hk v a b)) hm he, fun t ht => mh_chgO ht (h.1.1 t ht).2.2.1 hU (fun v a b => mh_deadO h.1 (hk v a b) ht) hm he⟩
theorem mw_S4 (h : mw_Inv C R a1 a2 a4 a5 a6 a7 a8 a9 a10 a11) : ∀ t n, mw_O a6 t → mw_S a7 t n → mb_in C n := by
  obtain ⟨⟨_, _, _, h4, _⟩, _⟩ := h
  exact h4
theorem mw_clear {i : Nat} (h : mw_Inv C R a1 a2 a4 a5 a6 a7 a8 a9 a10 a11) (hC : ¬ mb_in C (a5 i)) (hR : ¬ mb_in R (a5 i)) : mw_Inv C R a1 a2 a4 (upd a5 i 0) a6 a7 a8 a9 a10 a11 ∧ mw_Sm a6 a9 C a1 a4 a5 a7 C a1 a4 (upd a5 i 0) a7 := by
  refine mw_chg h (fun _ z => z) (fun v a b => absurd a b) (fun v hv => mh_eqv_rfl (mw_rng h v hv).1) (fun v hv => ?_) (fun _ z => z) (mw_S4 h)
  by_cases e : v = i
  · subst e
    rw [pk_us]
    exact mh_eqe_over h.1 hC hR
  · rw [pk_un e]
    exact mh_eqe_rfl (mw_rng h v hv).2
theorem mw_Ukeep {i : Nat} (hi : mw_U a1 i) : mw_U (upd a1 i 1) = mw_U a1 := by
  funext v
  apply propext
  unfold mw_U
  by_cases e : v = i
  · subst e
    rw [pk_us]
    exact ⟨fun z => hi, fun z => ⟨z.1, by decide⟩⟩
  · rw [pk_un e]
theorem mw_keep {i : Nat} (hi : mw_U a1 i) (h : mw_Inv C R a1 a2 a4 a5 a6 a7 a8 a9 a10 a11) : mw_Inv C R (upd a1 i 1) a2 a4 a5 a6 a7 a8 a9 a10 a11 ∧ mw_Sm a6 a9 C a1 a4 a5 a7 C (upd a1 i 1) a4 a5 a7 := by
  unfold mw_Inv mw_Sm
  rw [mw_Ukeep hi]
  exact ⟨h, mh_sm_rfl, fun _ _ => mh_sm_rfl⟩
theorem mw_Ukill {i v : Nat} : mw_U (upd a1 i 0) v ↔ mw_U a1 v ∧ v ≠ i := by
  unfold mw_U
  by_cases e : v = i
  · subst e
    rw [pk_us]
    exact ⟨fun z => absurd rfl z.2, fun z => absurd rfl z.2⟩
  · rw [pk_un e]
    exact ⟨fun z => ⟨z, e⟩, fun z => z.1⟩
theorem mw_kill {i : Nat} (h : mw_Inv C R a1 a2 a4 a5 a6 a7 a8 a9 a10 a11) (hd : mh_dead (mb_in C) (mb_in R) (mw_O a6) (mw_S a7) (a4 i) (a5 i)) : mw_Inv C R (upd a1 i 0) a2 a4 a5 a6 a7 a8 a9 a10 a11 ∧ mw_Sm a6 a9 C a1 a4 a5 a7 C (upd a1 i 0) a4 a5 a7 := by
  refine mw_chg h (fun v z => (mw_Ukill.mp z).1) (fun v a b => ?_) (fun v hv => mh_eqv_rfl (mw_rng h v (mw_Ukill.mp hv).1).1) (fun v hv => mh_eqe_rfl (mw_rng h v (mw_Ukill.mp hv).1).2) (fun _ z => z) (mw_S4 h)
  by_cases e : v = i
  · rw [e]; exact hd
  · exact absurd (mw_Ukill.mpr ⟨a, e⟩) b
theorem mw_relM {i : Nat} {m : Int32} (h : mw_Inv C R a1 a2 a4 a5 a6 a7 a8 a9 a10 a11) (hL : mw_L C R a1 a4 a5 a6 a7) (hm : mh_eqv (mb_in C) (mw_O a6) (mw_S a7) (mw_N a9) (mb_in C) (mw_S a7) (a4 i) m) : mw_Inv C R a1 a2 (upd a4 i m) a5 a6 a7 a8 a9 a10 a11 ∧ mw_Sm a6 a9 C a1 a4 a5 a7 C a1 (upd a4 i m) a5 a7 ∧ mw_L C R a1 (upd a4 i m) a5 a6 a7 := by
  have hm' : ∀ v, mw_U a1 v → mh_eqv (mb_in C) (mw_O a6) (mw_S a7) (mw_N a9) (mb_in C) (mw_S a7) (a4 v) (upd a4 i m v) := by
    intro v hv
    by_cases e : v = i
    · subst e; rw [pk_us]; exact hm
    · rw [pk_un e]; exact mh_eqv_rfl (mw_rng h v hv).1
  obtain ⟨x, y⟩ := mw_chg h (fun _ z => z) (fun v a b => absurd a b) hm' (fun v hv => mh_eqe_rfl (mw_rng h v hv).2) (fun _ z => z) (mw_S4 h)
  exact ⟨x, y, fun v hv => mh_Lchg (fun t ht => (h.1.1 t ht).2.2.1) h.1.2.1 (hm' v hv) (mh_eqe_rfl (mw_rng h v hv).2) id (hL v hv)⟩
theorem mw_relE {i : Nat} {m : Int32} (h : mw_Inv C R a1 a2 a4 a5 a6 a7 a8 a9 a10 a11) (hL : mw_L C R a1 a4 a5 a6 a7) (hm : mh_eqe (mb_in C) (mw_O a6) (mw_S a7) (mw_N a9) (mb_in C) (mw_S a7) (a5 i) m) (h0 : a5 i = 0 → m = 0) : mw_Inv C R a1 a2 a4 (upd a5 i m) a6 a7 a8 a9 a10 a11 ∧ mw_Sm a6 a9 C a1 a4 a5 a7 C a1 a4 (upd a5 i m) a7 ∧ mw_L C R a1 a4 (upd a5 i m) a6 a7 := by
  have hm' : ∀ v, mw_U a1 v → mh_eqe (mb_in C) (mw_O a6) (mw_S a7) (mw_N a9) (mb_in C) (mw_S a7) (a5 v) (upd a5 i m v) := by
    intro v hv
    by_cases e : v = i
    · subst e; rw [pk_us]; exact hm
    · rw [pk_un e]; exact mh_eqe_rfl (mw_rng h v hv).2
  obtain ⟨x, y⟩ := mw_chg h (fun _ z => z) (fun v a b => absurd a b) (fun v hv => mh_eqv_rfl (mw_rng h v hv).1) hm' (fun _ z => z) (mw_S4 h)
  refine ⟨x, y, fun v hv => mh_Lchg (fun t ht => (h.1.1 t ht).2.2.1) h.1.2.1 (mh_eqv_rfl (mw_rng h v hv).1) (hm' v hv) (fun z => ?_) (hL v hv)⟩
  by_cases e : v = i
  · subst e; rw [pk_us]; exact h0 z
  · rw [pk_un e]; exact z
/-- a version that is left isn't ended for all -/
theorem mw_Lend {m e : Int32} (hL : mh_L (mb_in C) (mb_in R) (mw_O a6) (mw_S a7) m e) : e ≠ 0 → mb_in C e → ∃ t, mw_O a6 t ∧ ¬ mw_S a7 t e := by
  intro e0 eC
  obtain ⟨t, a, b⟩ := hL.2.2.2 e0 eC
  exact ⟨t, a, fun z => b.2 ⟨e0, z⟩⟩
end
/-- what numbers are held after tidy -/
def mw_QN (C R : Int64) (a1 a4 a5 a9 al : Nat → Int32) : Prop := ∀ n, n ≠ 0 → mw_held C R a1 a4 a5 n → (∃ t, t < 4 ∧ mw_N a9 t = n) ∨ (∃ p, p < 16 ∧ al p = n)
section
variable {C R : Int64} {a1 a2 a3 a4 a5 a6 : Nat → Int32} {a7 : Nat → Int64} {a8 a9 a10 a11 a12 : Nat → Int32}
theorem mw_tidy179 {post : St1 → Prop} {x1 : Int64} (h : mw_Inv C R a1 a2 a4 a5 a6 a7 a8 a9 a10 a11) (hL : mw_L C R a1 a4 a5 a6 a7) (hx : ∀ n, mb_in x1 n ↔ mb_in R n ∨ ∃ v, mw_U a1 v ∧ (a4 v = n ∨ a5 v = n)) (hq : ∀ v, mw_U a1 v → mw_Q C a12 (a4 v) ∧ mw_Q C a12 (a5 v))
    (hp : ∀ a7', mw_Inv (C &&& x1) R a1 a2 a4 a5 a6 a7' a8 a9 a10 a11 → mw_Sm a6 a9 C a1 a4 a5 a7 (C &&& x1) a1 a4 a5 a7' → mw_L (C &&& x1) R a1 a4 a5 a6 a7' → mw_QN (C &&& x1) R a1 a4 a5 a9 a12 → post (C &&& x1, R, a1, a2, a3, a4, a5, a6, a7', a8, a9, a10, a11, a12)) : ∃ n, wX_tidy_179 post x1 (C &&& x1) R n 0 a1 a2 a3 a4 a5 a6 a7 a8 a9 a10 a11 a12 := by
  refine pk_loop (σ := Nat → Int64) (fun n i s => wX_tidy_179 post x1 (C &&& x1) R n (nI i) a1 a2 a3 a4 a5 a6 s a8 a9 a10 a11 a12) (fun i s => (∀ t, t < i → s t = a7 t &&& x1) ∧ ∀ t, i ≤ t → s t = a7 t) 4 0 a7 (by omega) ⟨fun t ht => absurd ht (by omega), fun _ _ => rfl⟩ ?_ ?_
  · intro n s hs
    have S' : ∀ t n, mw_O a6 t → (mw_S s t n ↔ mw_S a7 t n ∧ mb_in x1 n) := by
      intro t n ht
      unfold mw_S
      rw [hs.1 t ht.1, mb_in_and]
    have xm : ∀ v, mw_U a1 v → mb_in x1 (a4 v) := fun v hv => (hx _).mpr (Or.inr ⟨v, hv, Or.inl rfl⟩)
    have xe : ∀ v, mw_U a1 v → mb_in x1 (a5 v) := fun v hv => (hx _).mpr (Or.inr ⟨v, hv, Or.inr rfl⟩)
    have em : ∀ v, mw_U a1 v → mh_eqv (mb_in C) (mw_O a6) (mw_S a7) (mw_N a9) (mb_in (C &&& x1)) (mw_S s) (a4 v) (a4 v) := by
      intro v hv
      refine ⟨(mw_rng h v hv).1, ?_, fun t ht => ?_, fun _ _ => Iff.rfl⟩
      · unfold mh_i
        rw [mb_in_and]
        exact ⟨fun z => z.imp id And.left, fun z => z.imp id (fun y => ⟨y, xm v hv⟩)⟩
      · unfold mh_i
        rw [S' t _ ht]
        exact ⟨fun z => z.imp id And.left, fun z => z.imp id (fun y => ⟨y, xm v hv⟩)⟩
    have ee : ∀ v, mw_U a1 v → mh_eqe (mb_in C) (mw_O a6) (mw_S a7) (mw_N a9) (mb_in (C &&& x1)) (mw_S s) (a5 v) (a5 v) := by
      intro v hv
      refine ⟨(mw_rng h v hv).2, ?_, fun t ht => ?_, fun _ _ => Iff.rfl⟩
      · rw [mb_in_and]
        exact ⟨fun z => ⟨z.1, z.2.1⟩, fun z => ⟨z.1, z.2, xe v hv⟩⟩
      · rw [S' t _ ht]
        exact ⟨fun z => ⟨z.1, z.2.1⟩, fun z => ⟨z.1, z.2, xe v hv⟩⟩
    obtain ⟨x, y⟩ := mw_chg h (fun _ z => z) (fun v a b => absurd a b) em ee (fun n z => (mb_in_and.mp z).1) (fun t n ht z => mb_in_and.mpr ⟨mw_S4 h t n ht ((S' t n ht).mp z).1, ((S' t n ht).mp z).2⟩)
    refine pk_le 4 4 (fun _ => hp s x y (fun v hv => mh_Lchg (fun t ht => (h.1.1 t ht).2.2.1) h.1.2.1 (em v hv) (ee v hv) id (hL v hv)) (fun n n0 hh => ?_)) (fun z => absurd z (by omega))
    have fR : mb_in R n → ∃ t, t < 4 ∧ mw_N a9 t = n := by
      intro z
      obtain ⟨t, p, q⟩ := (h.1.2.1 n).mp z
      exact ⟨t, p.1, q⟩
    have fU : ∀ v, mw_U a1 v → a4 v = n ∨ a5 v = n → (∃ t, t < 4 ∧ mw_N a9 t = n) ∨ (∃ p, p < 16 ∧ a12 p = n) := by
      intro v hv z
      have q : mw_Q C a12 n := by
        rcases z with z | z
        · rw [← z]; exact (hq v hv).1
        · rw [← z]; exact (hq v hv).2
      rcases q with q | q | q
      · exact absurd q n0
      · refine Or.inl (fR ?_)
        obtain ⟨l1, l2, _⟩ := hL v hv
        rcases z with z | z
        · rw [z] at l1; exact l1.elim (fun w => absurd (w.resolve_left n0) q) id
        · rw [z] at l2; exact (l2.resolve_left n0).resolve_left q
      · exact Or.inr q
    rcases hh with z | z | ⟨v, z, w⟩
    · rcases (hx n).mp (mb_in_and.mp z).2 with w | ⟨v, w, u⟩
      · exact Or.inl (fR w)
      · exact fU v w u
    · exact Or.inl (fR z)
    · exact fU v z w
  · intro n i s hi hs hw
    refine pk_le 4 i (fun z => absurd z (by omega)) (fun _ => ⟨pk_in i 4 hi, pk_in i 4 hi, ?_⟩)
    rw [nI_clamp (show i < 2 ^ 31 by omega)]
    refine nm_e (nm_r (nI_1 i) (hw _ ⟨lt_s (fun t ht => ?_) ?_, fun t ht => ?_⟩))
    · rw [pk_uLn (by omega)]; exact hs.1 t ht
    · rw [pk_uLs, hs.2 i (by omega)]
    · rw [pk_uLn (by omega)]; exact hs.2 t (by omega)
theorem mw_tidy90 {post : St1 → Prop} (h : mw_Inv C R a1 a2 a4 a5 a6 a7 a8 a9 a10 a11) (hL : mw_L C R a1 a4 a5 a6 a7) (h0 : mw_A C a6 a7 a12)
    (hp : ∀ C' a4' a5' a7' a12', mw_Inv C' R a1 a2 a4' a5' a6 a7' a8 a9 a10 a11 → mw_Sm a6 a9 C a1 a4 a5 a7 C' a1 a4' a5' a7' → mw_L C' R a1 a4' a5' a6 a7' → mw_QN C' R a1 a4' a5' a9 a12' → post (C', R, a1, a2, a3, a4', a5', a6, a7', a8, a9, a10, a11, a12')) : ∃ n, wX_tidy_90 post n R 0 C R a1 a2 a3 a4 a5 a6 a7 a8 a9 a10 a11 a12 := by
  refine pk_loop (σ := Int64 × (Nat → Int32) × (Nat → Int32) × (Nat → Int32)) (fun n i s => wX_tidy_90 post n s.1 (nI i) C R a1 a2 a3 s.2.1 s.2.2.1 a6 a7 a8 a9 a10 a11 s.2.2.2)
    (fun i s => mw_Inv C R a1 a2 s.2.1 s.2.2.1 a6 a7 a8 a9 a10 a11 ∧ mw_Sm a6 a9 C a1 a4 a5 a7 C a1 s.2.1 s.2.2.1 a7 ∧ mw_L C R a1 s.2.1 s.2.2.1 a6 a7 ∧ mw_A C a6 a7 s.2.2.2 ∧ (∀ n, mb_in s.1 n ↔ mb_in R n ∨ ∃ v, v < i ∧ mw_U a1 v ∧ (s.2.1 v = n ∨ s.2.2.1 v = n)) ∧ (∀ v, v < i → mw_U a1 v → mw_Q C s.2.2.2 (s.2.1 v) ∧ mw_Q C s.2.2.2 (s.2.2.1 v)))
    96 0 (R, a4, a5, a12) (by omega) ⟨h, mw_Sm_rfl, hL, h0, fun n => ⟨Or.inl, fun z => z.elim id (fun ⟨v, w, _⟩ => absurd w (by omega))⟩, fun v hv => absurd hv (by omega)⟩ ?_ ?_
  · rintro n ⟨x1, b4, b5, al⟩ ⟨i1, i2, i3, i4, i5, i6⟩
    dsimp only at i1 i2 i3 i4 i5 i6
    refine pk_le 96 96 (fun _ => nm_e ?_) (fun z => absurd z (by omega))
    refine mw_tidy179 i1 i3 (fun n => (i5 n).trans ⟨fun z => z.imp id (fun ⟨v, _, w⟩ => ⟨v, w⟩), fun z => z.imp id (fun ⟨v, w, u⟩ => ⟨v, w.1, w, u⟩)⟩) (fun v hv => i6 v hv.1 hv) (fun a7' j1 j2 j3 j4 => ?_)
    exact hp _ _ _ _ _ j1 (mw_Sm_tr i2 j2) j3 j4
  · rintro n i ⟨x1, b4, b5, al⟩ hi ⟨i1, i2, i3, i4, i5, i6⟩ hw
    dsimp only at i1 i2 i3 i4 i5 i6
    refine pk_le 96 i (fun z => absurd z (by omega)) (fun _ => ⟨pk_in i 96 hi, ?_⟩)
    rw [nI_clamp (show i < 2 ^ 31 by omega)]
    refine br_c (fun z => nm_r (nI_1 i) (hw (x1, b4, b5, al) ⟨i1, i2, i3, i4, fun n => ?_, lt_s i6 (fun y => absurd z y.2)⟩)) (fun z => ⟨pk_in i 96 hi, ?_⟩)
    · refine (i5 n).trans ⟨fun y => y.imp id (fun ⟨v, w, u⟩ => ⟨v, by omega, u⟩), fun y => y.imp id (fun ⟨v, w, u⟩ => ⟨v, ?_, u⟩)⟩
      by_cases e : v = i
      · subst e; exact absurd z u.1.2
      · omega
    · have hU : mw_U a1 i := ⟨hi, z⟩
      refine mw_standing i1 (mw_rng i1 i hU).1 i4 (fun m al' st => ⟨pk_in i 96 hi, nm_e ⟨pk_in i 96 hi, ?_⟩⟩)
      obtain ⟨m1, m2, m3, -, -, m6⟩ := st
      obtain ⟨k1, k2, k3⟩ := mw_relM i1 i3 m3
      refine mw_standing_2 k1 (mw_rng k1 i hU).2 m1 (fun e al'' st' => ⟨pk_in i 96 hi, nm_e ⟨pk_in i 96 hi, ⟨pk_in i 96 hi, nm_e (nm_r (nI_1 i) ?_)⟩⟩⟩)
      obtain ⟨e1, e2, -, e4, e5, e6⟩ := st'
      obtain ⟨l1, l2, l3⟩ := mw_relE k1 k3 (e4 (mw_Lend (k3 i hU))) e5
      refine hw (_, upd b4 i m, upd b5 i e, al'') ⟨l1, mw_Sm_tr i2 (mw_Sm_tr k2 l2), l3, e1, fun n => ?_, lt_s (fun v hv u => ?_) (fun _ => ?_)⟩
      · dsimp only
        rw [mb_in_or, mb_in_or, mb_in_bit (mw_rng l1 i hU).1, mb_in_bit (mw_rng l1 i hU).2, i5 n, pk_us, pk_us]
        constructor
        · rintro (((y | ⟨v, x, w, u⟩) | y) | y)
          · exact Or.inl y
          · exact Or.inr ⟨v, by omega, w, by rw [pk_un (by omega), pk_un (by omega)]; exact u⟩
          · exact Or.inr ⟨i, by omega, hU, Or.inl (by rw [pk_us]; exact y.symm)⟩
          · exact Or.inr ⟨i, by omega, hU, Or.inr (by rw [pk_us]; exact y.symm)⟩
        · rintro (y | ⟨v, x, w, u⟩)
          · exact Or.inl (Or.inl (Or.inl y))
          · by_cases ev : v = i
            · subst ev
              rw [pk_us, pk_us] at u
              exact u.elim (fun u => Or.inl (Or.inr u.symm)) (fun u => Or.inr u.symm)
            · rw [pk_un ev, pk_un ev] at u
              exact Or.inl (Or.inl (Or.inr ⟨v, by omega, w, u⟩))
      · dsimp only
        rw [pk_un (by omega), pk_un (by omega)]
        exact ⟨mw_Qup e2 (mw_Qup m2 (i6 v hv u).1), mw_Qup e2 (mw_Qup m2 (i6 v hv u).2)⟩
      · dsimp only
        rw [pk_us, pk_us]
        exact ⟨mw_Qup e2 m6, e6⟩
theorem mw_tidy28 {post : St1 → Prop} (h : mw_Inv C R a1 a2 a4 a5 a6 a7 a8 a9 a10 a11)
    (hp : ∀ a1' a5', mw_Inv C R a1' a2 a4 a5' a6 a7 a8 a9 a10 a11 → mw_Sm a6 a9 C a1 a4 a5 a7 C a1' a4 a5' a7 → mw_L C R a1' a4 a5' a6 a7 → ∃ n, wX_tidy_90 post n R 0 C R a1' a2 a3 a4 a5' a6 a7 a8 a9 a10 a11 a12) : ∃ n, wX_tidy_28 post R C R n 0 a1 a2 a3 a4 a5 a6 a7 a8 a9 a10 a11 a12 := by
  refine pk_loop (σ := (Nat → Int32) × (Nat → Int32)) (fun n i s => wX_tidy_28 post R C R n (nI i) s.1 a2 a3 a4 s.2 a6 a7 a8 a9 a10 a11 a12)
    (fun i s => mw_Inv C R s.1 a2 a4 s.2 a6 a7 a8 a9 a10 a11 ∧ mw_Sm a6 a9 C a1 a4 a5 a7 C s.1 a4 s.2 a7 ∧ ∀ v, v < i → mw_U s.1 v → mh_L (mb_in C) (mb_in R) (mw_O a6) (mw_S a7) (a4 v) (s.2 v))
    96 0 (a1, a5) (by omega) ⟨h, mw_Sm_rfl, fun v hv => absurd hv (by omega)⟩ ?_ ?_
  · rintro n ⟨b1, b5⟩ ⟨i1, i2, i3⟩
    exact pk_le 96 96 (fun _ => hp b1 b5 i1 i2 (fun v hv => i3 v hv.1 hv)) (fun z => absurd z (by omega))
  · rintro n i ⟨b1, b5⟩ hi ⟨i1, i2, i3⟩ hw
    dsimp only at i1 i2 i3
    refine pk_le 96 i (fun z => absurd z (by omega)) (fun _ => ⟨pk_in i 96 hi, ?_⟩)
    rw [nI_clamp (show i < 2 ^ 31 by omega)]
    refine br_c (fun z => nm_r (nI_1 i) (hw (b1, b5) ⟨i1, i2, lt_s i3 (fun y => absurd z y.2)⟩)) (fun z => ⟨pk_in i 96 hi, ?_⟩)
    have hU : mw_U b1 i := ⟨hi, z⟩
    have k63 : ∀ c5, mw_Inv C R b1 a2 a4 c5 a6 a7 a8 a9 a10 a11 → mw_Sm a6 a9 C a1 a4 a5 a7 C b1 a4 c5 a7 → (∀ v, v < i → c5 v = b5 v) → (c5 i = 0 ∨ mb_in C (c5 i) ∨ mb_in R (c5 i)) → wX_tidy_63 post (wX_tidy_28 post R C R n) R (nI i) C R b1 a2 a3 a4 c5 a6 a7 a8 a9 a10 a11 a12 := by
      intro c5 j1 j2 j3 j4
      unfold wX_tidy_63
      rw [nI_clamp (show i < 2 ^ 31 by omega)]
      refine mw_dead hi (mw_rng j1 i hU).1 (mw_rng j1 i hU).2 (fun d => br_f (by decide) ⟨pk_in i 96 hi, nm_e (nm_r (nI_1 i) (hw (upd b1 i 0, c5) ?_))⟩) (fun d => br_t rfl ⟨pk_in i 96 hi, nm_e (nm_r (nI_1 i) (hw (upd b1 i 1, c5) ?_))⟩)
      · obtain ⟨x, y⟩ := mw_kill j1 d
        refine ⟨x, mw_Sm_tr j2 y, lt_s (fun v hv u => ?_) (fun u => absurd rfl (mw_Ukill.mp u).2)⟩
        dsimp only at u ⊢
        rw [j3 v hv]
        exact i3 v hv (mw_Ukill.mp u).1
      · obtain ⟨x, y⟩ := mw_keep hU j1
        refine ⟨x, mw_Sm_tr j2 y, lt_s (fun v hv u => ?_) (fun u => ?_)⟩
        · dsimp only at u ⊢
          rw [mw_Ukeep hU] at u
          rw [j3 v hv]
          exact i3 v hv u
        · exact mh_live j1.1 hU j4 d
    refine mw_over (mw_rng i1 i hU).2 (fun x y w => br_f (by decide) ⟨pk_in i 96 hi, nm_e ?_⟩) (fun x => br_t rfl (k63 b5 i1 i2 (fun _ _ => rfl) x))
    obtain ⟨j1, j2⟩ := mw_clear i1 y w
    exact k63 _ j1 (mw_Sm_tr i2 j2) (fun v hv => pk_un (by omega)) (Or.inl pk_us)
theorem mw_tidy {post : St1 → Prop} (h : mw_Inv C R a1 a2 a4 a5 a6 a7 a8 a9 a10 a11)
    (hp : ∀ C' a1' a4' a5' a7' a12', mw_Inv C' R a1' a2 a4' a5' a6 a7' a8 a9 a10 a11 → mw_Sm a6 a9 C a1 a4 a5 a7 C' a1' a4' a5' a7' → mw_L C' R a1' a4' a5' a6 a7' → mw_QN C' R a1' a4' a5' a9 a12' → post (C', R, a1', a2, a3, a4', a5', a6, a7', a8, a9, a10, a11, a12')) : wpX_tidy post (C, R, a1, a2, a3, a4, a5, a6, a7, a8, a9, a10, a11, a12) := by
  refine pk_loop (σ := Nat → Int32) (fun n i s => wX_tidy_2 post C R n (nI i) a1 a2 a3 a4 a5 a6 a7 a8 a9 a10 a11 s) (fun i s => ∀ j, j < i → s j = 0) 16 0 a12 (by omega) (fun j hj => absurd hj (by omega)) ?_ ?_
  · intro n s hs
    refine pk_le 16 16 (fun _ => mw_tidy28 h (fun a1' a5' i1 i2 i3 => mw_tidy90 i1 i3 (fun p hp p0 => absurd (hs p hp) p0) (fun C' a4' a5'' a7' a12' j1 j2 j3 j4 => ?_))) (fun z => absurd z (by omega))
    exact hp _ _ _ _ _ _ j1 (mw_Sm_tr i2 j2) j3 j4
  · intro n i s hi hs hw
    refine pk_le 16 i (fun z => absurd z (by omega)) (fun _ => ⟨pk_in i 16 hi, ?_⟩)
    rw [nI_clamp (show i < 2 ^ 31 by omega)]
    refine nm_e (nm_r (nI_1 i) (hw _ (lt_s (fun j hj => ?_) pk_us)))
    rw [pk_un (by omega)]
    exact hs j hj
end
end
section
/-! ===== the walks: methods that change the state ===== -/
theorem mh_vw_tr {U U' : Nat → Prop} {rw va mk en rw' va' mk' en' : Nat → Int32} {X X' : Int32 → Prop} {r c : Int32} (h1 : ∀ v, U' v → rw' v = r → mh_see X' (mk' v) (en' v) → U v ∧ rw v = r ∧ mh_see X (mk v) (en v))
    (h2 : ∀ v, U v → rw v = r → mh_see X (mk v) (en v) → U' v ∧ rw' v = r ∧ mh_see X' (mk' v) (en' v) ∧ va' v = va v) (h : mh_vw U rw va mk en X r c) : mh_vw U' rw' va' mk' en' X' r c := by
  rcases h with ⟨a, b⟩ | ⟨a, v, b, d, e, f⟩
  · exact Or.inl ⟨a, fun v u w s => b v (h1 v u w s).1 (h1 v u w s).2.1 (h1 v u w s).2.2⟩
  · obtain ⟨p, q, s, t⟩ := h2 v b d e
    exact Or.inr ⟨a, v, p, q, s, by rw [t, f]⟩
theorem mh_vw_sm {U U' : Nat → Prop} {rw va mk en rw' va' mk' en' : Nat → Int32} {X X' : Int32 → Prop} {r c : Int32} (h : mh_sm U mk en X U' mk' en' X') (hr : ∀ v, U v → rw' v = rw v ∧ va' v = va v) (hv : mh_vw U rw va mk en X r c) : mh_vw U' rw' va' mk' en' X' r c :=
  mh_vw_tr (fun v a b s => ⟨((h v).mp ⟨a, s⟩).1, by rw [← (hr v ((h v).mp ⟨a, s⟩).1).1]; exact b, ((h v).mp ⟨a, s⟩).2⟩) (fun v a b s => ⟨((h v).mpr ⟨a, s⟩).1, by rw [(hr v a).1]; exact b, ((h v).mpr ⟨a, s⟩).2, (hr v a).2⟩) hv
/-- t has written x to row r (65535: taken it away), and nobody else sees it -/
def mw_Wr (t : Nat) (r x : Int32) (a6 a9 : Nat → Int32) (C : Int64) (a1 a2 a3 a4 a5 : Nat → Int32) (a7 : Nat → Int64) (C' : Int64) (a1' a2' a3' a4' a5' : Nat → Int32) (a7' : Nat → Int64) : Prop :=
  (∀ q c, mh_vw (mw_U a1) a2 a3 a4 a5 (mb_in C) q c → mh_vw (mw_U a1') a2' a3' a4' a5' (mb_in C') q c) ∧
  (∀ u, mw_O a6 u → u ≠ t → ∀ q c, mh_vw (mw_U a1) a2 a3 a4 a5 (mh_own (mw_S a7) (mw_N a9) u) q c → mh_vw (mw_U a1') a2' a3' a4' a5' (mh_own (mw_S a7') (mw_N a9) u) q c) ∧
  (∀ q c, q ≠ r → mh_vw (mw_U a1) a2 a3 a4 a5 (mh_own (mw_S a7) (mw_N a9) t) q c → mh_vw (mw_U a1') a2' a3' a4' a5' (mh_own (mw_S a7') (mw_N a9) t) q c) ∧
  mh_vw (mw_U a1') a2' a3' a4' a5' (mh_own (mw_S a7') (mw_N a9) t) r x
section
variable {C R : Int64} {a1 a2 a3 a4 a5 a6 : Nat → Int32} {a7 : Nat → Int64} {a8 a9 a10 a11 a12 : Nat → Int32}
theorem mw_touch (h : mw_Inv C R a1 a2 a4 a5 a6 a7 a8 a9 a10 a11) {t : Nat} {r : Int32} (hr : vp_in r 8) (hb : ∀ u, mw_O a6 u → u ≠ t → ¬ mw_T a10 u r) (hv : ¬ mw_V a11 t r) : mw_Inv C R a1 a2 a4 a5 a6 a7 a8 a9 (upd a10 (t * 4) (a10 (t * 4) ||| ((1 : Int32) <<< (r &&& 31)))) a11 := by
  refine ⟨mh_touch h.1 (fun u q hu => ?_) hb hv, h.2⟩
  unfold mw_T
  by_cases e : u = t
  · subst e
    rw [pk_us, mb_r_or, mb_r_bit hr]
    exact ⟨fun z => z.imp id (fun y => ⟨rfl, y⟩), fun z => z.imp id (fun y => y.2)⟩
  · rw [pk_un (by omega)]
    exact ⟨Or.inl, fun z => z.elim id (fun y => absurd y.1 e)⟩
theorem mw_Uset {w v : Nat} (hw : w < 96) : mw_U (upd a1 w 1) v ↔ mw_U a1 v ∨ v = w := by
  unfold mw_U
  by_cases e : v = w
  · subst e
    rw [pk_us]
    exact ⟨fun _ => Or.inr rfl, fun _ => ⟨hw, by decide⟩⟩
  · rw [pk_un e]
    exact ⟨Or.inl, fun z => z.resolve_right e⟩
theorem mw_make1 (h : mw_Inv C R a1 a2 a4 a5 a6 a7 a8 a9 a10 a11) {t w : Nat} {r x : Int32} (ht : mw_O a6 t) (hr : vp_in r 8) (hT : mw_T a10 t r) (hs : ∀ v, mw_U a1 v → a2 v = r → ¬ mh_see (mh_own (mw_S a7) (mw_N a9) t) (a4 v) (a5 v)) (hx : x ≠ 65535) (hw : w < 96) (hU : ¬ mw_U a1 w) :
    mw_Inv C R (upd a1 w 1) (upd a2 w r) (upd a4 w (a9 (t * 4))) (upd a5 w 0) a6 a7 a8 a9 a10 a11 ∧ mw_Wr t r x a6 a9 C a1 a2 a3 a4 a5 a7 C (upd a1 w 1) (upd a2 w r) (upd a3 w x) (upd a4 w (a9 (t * 4))) (upd a5 w 0) a7 := by
  have k := mh_make h.1 ht hU hw hr hT hs (U' := mw_U (upd a1 w 1)) (rw' := upd a2 w r) (mk' := upd a4 w (a9 (t * 4))) (en' := upd a5 w 0) (fun v => mw_Uset hw) pk_us (fun v e => pk_un e) pk_us (fun v e => pk_un e) pk_us (fun v e => pk_un e)
  obtain ⟨k1, k2, k3, k4⟩ := k
  have ne : ∀ v, mw_U a1 v → v ≠ w := fun v hv e => hU (e ▸ hv)
  have ag : ∀ v, mw_U a1 v → upd a2 w r v = a2 v ∧ upd a3 w x v = a3 v := fun v hv => ⟨pk_un (ne v hv), pk_un (ne v hv)⟩
  refine ⟨⟨k1, h.2⟩, fun q c hv => mh_vw_sm k2 ag hv, fun u hu e q c hv => mh_vw_sm (k3 u hu e) ag hv, fun q c e hv => mh_vw_tr (fun v a b s => ?_) (fun v a b s => ?_) hv, Or.inr ⟨hx, w, (mw_Uset hw).mpr (Or.inr rfl), pk_us, k4, pk_us⟩⟩
  · rcases (mw_Uset hw).mp a with z | z
    · rw [pk_un (ne v z)] at b
      rw [pk_un (ne v z), pk_un (ne v z)] at s
      exact ⟨z, b, s⟩
    · subst z
      rw [pk_us] at b
      exact absurd b.symm e
  · refine ⟨(mw_Uset hw).mpr (Or.inl a), by rw [pk_un (ne v a)]; exact b, ?_, pk_un (ne v a)⟩
    rw [pk_un (ne v a), pk_un (ne v a)]
    exact s
theorem mw_Sm_Wr {t : Nat} {r x : Int32} {C' C'' : Int64} {a1' a4' a5' a1'' a2'' a3'' a4'' a5'' : Nat → Int32} {a7' a7'' : Nat → Int64} (ht : mw_O a6 t) (h : mw_Sm a6 a9 C a1 a4 a5 a7 C' a1' a4' a5' a7') (h' : mw_Wr t r x a6 a9 C' a1' a2 a3 a4' a5' a7' C'' a1'' a2'' a3'' a4'' a5'' a7'') : mw_Wr t r x a6 a9 C a1 a2 a3 a4 a5 a7 C'' a1'' a2'' a3'' a4'' a5'' a7'' :=
  ⟨fun q c hv => h'.1 q c (mh_sm_vw h.1 hv), fun u hu e q c hv => h'.2.1 u hu e q c (mh_sm_vw (h.2 u hu) hv), fun q c e hv => h'.2.2.1 q c e (mh_sm_vw (h.2 t ht) hv), h'.2.2.2⟩
theorem mw_make21 {post : St1 → Prop} {r x n : Int32} {w : Nat} (hw : w < 96) (hp : post (C, R, upd a1 w 1, upd a2 w r, upd a3 w x, upd a4 w n, upd a5 w 0, a6, a7, a8, a9, a10, a11, a12)) : wX_makeVersion_21 post r x n (nI w) C R a1 a2 a3 a4 a5 a6 a7 a8 a9 a10 a11 a12 := by
  unfold wX_makeVersion_21
  rw [nI_clamp (show w < 2 ^ 31 by omega)]
  exact ⟨pk_in w 96 hw, nm_e ⟨pk_in w 96 hw, nm_e ⟨pk_in w 96 hw, nm_e ⟨pk_in w 96 hw, nm_e ⟨pk_in w 96 hw, nm_e hp⟩⟩⟩⟩⟩
theorem mw_makeVersion {post : St1 → Prop} {t : Nat} {r x : Int32} (h : mw_Inv C R a1 a2 a4 a5 a6 a7 a8 a9 a10 a11) (ht : mw_O a6 t) (hr : vp_in r 8) (hT : mw_T a10 t r) (hs : ∀ v, mw_U a1 v → a2 v = r → ¬ mh_see (mh_own (mw_S a7) (mw_N a9) t) (a4 v) (a5 v)) (hx : x ≠ 65535)
    (hp : ∀ C' a1' a2' a3' a4' a5' a7' a12', mw_Inv C' R a1' a2' a4' a5' a6 a7' a8 a9 a10 a11 → mw_Wr t r x a6 a9 C a1 a2 a3 a4 a5 a7 C' a1' a2' a3' a4' a5' a7' → post (C', R, a1', a2', a3', a4', a5', a6, a7', a8, a9, a10, a11, a12')) : wpX_makeVersion post (C, R, a1, a2, a3, a4, a5, a6, a7, a8, a9, a10, a11, a12) r x (a9 (t * 4)) := by
  unfold wpX_makeVersion
  dsimp only
  refine mw_freeVersion (fun hf => br_f (by decide) ?_) (fun w hw hU => br_t (nI_pos' (by omega)) (mw_make21 hw ?_))
  · refine mw_tidy h (fun C' a1' a4' a5' a7' a12' i1 i2 i3 i4 => ?_)
    refine mw_freeVersion (fun hf => ?_) (fun w hw hU => mw_make21 hw ?_)
    · obtain ⟨w, hw, hU⟩ := mh_freeV i1.1 i3
      exact absurd (hf w hw) hU
    · obtain ⟨j1, j2⟩ := mw_make1 (a3 := a3) i1 ht hr hT (fun v a b s => hs v (((i2.2 t ht) v).mp ⟨a, s⟩).1 b (((i2.2 t ht) v).mp ⟨a, s⟩).2) hx hw hU
      exact hp _ _ _ _ _ _ _ _ j1 (mw_Sm_Wr ht i2 j2)
  · obtain ⟨j1, j2⟩ := mw_make1 (a3 := a3) h ht hr hT hs hx hw hU
    exact hp _ _ _ _ _ _ _ _ j1 j2
/-- t ends what it sees -/
theorem mw_end (h : mw_Inv C R a1 a2 a4 a5 a6 a7 a8 a9 a10 a11) {t v : Nat} (ht : mw_O a6 t) (hv : mw_U a1 v) (hT : mw_T a10 t (a2 v)) (hs : mh_see (mh_own (mw_S a7) (mw_N a9) t) (a4 v) (a5 v)) :
    mw_Inv C R a1 a2 a4 (upd a5 v (a9 (t * 4))) a6 a7 a8 a9 a10 a11 ∧ mw_Wr t (a2 v) 65535 a6 a9 C a1 a2 a3 a4 a5 a7 C a1 a2 a3 a4 (upd a5 v (a9 (t * 4))) a7 := by
  have k := mh_end h.1 ht hv hT hs (en' := upd a5 v (a9 (t * 4))) pk_us (fun v e => pk_un e)
  obtain ⟨k1, k2, k3, k4⟩ := k
  refine ⟨⟨k1, h.2⟩, fun q c hv => mh_sm_vw k2 hv, fun u hu e q c hv => mh_sm_vw (k3 u hu e) hv, fun q c e hv => mh_vw_tr (fun w a b s => ?_) (fun w a b s => ?_) hv, Or.inl ⟨rfl, fun w a b s => ?_⟩⟩
  · exact ⟨a, b, ((k4 w).mp ⟨a, s⟩).2.1⟩
  · exact ⟨a, b, ((k4 w).mpr ⟨a, s, fun z => e (by rw [← b, z])⟩).2, rfl⟩
  · obtain ⟨p, q, z⟩ := (k4 w).mp ⟨a, s⟩
    obtain ⟨_, _, _, _, _, _, _, _, _, _, _, _, _, _, h15⟩ := h.1
    exact z (h15 t ht w v a hv b q hs)
/-- t writes over what it made itself -/
theorem mw_over3 (h : mw_Inv C R a1 a2 a4 a5 a6 a7 a8 a9 a10 a11) {t v : Nat} {x : Int32} (ht : mw_O a6 t) (hv : mw_U a1 v) (hs : mh_see (mh_own (mw_S a7) (mw_N a9) t) (a4 v) (a5 v)) (hm : a4 v = a9 (t * 4)) (hx : x ≠ 65535) : mw_Wr t (a2 v) x a6 a9 C a1 a2 a3 a4 a5 a7 C a1 a2 (upd a3 v x) a4 a5 a7 := by
  obtain ⟨h1, h2, h3, h4, _⟩ := h.1
  obtain ⟨t1, t2, t3, t4⟩ := h1 t ht
  have hm' : a4 v = mw_N a9 t := hm
  refine ⟨fun q c hv' => mh_vw_tr (fun w a b s => ⟨a, b, s⟩) (fun w a b s => ⟨a, b, s, pk_un (fun e => ?_)⟩) hv', fun u hu e' q c hv' => mh_vw_tr (fun w a b s => ⟨a, b, s⟩) (fun w a b s => ⟨a, b, s, pk_un (fun e => ?_)⟩) hv', fun q c e' hv' => mh_vw_tr (fun w a b s => ⟨a, b, s⟩) (fun w a b s => ⟨a, b, s, pk_un (fun e => ?_)⟩) hv', Or.inr ⟨hx, v, hv, rfl, hs, pk_us⟩⟩
  · subst e
    rw [hm'] at s
    exact t4 (s.1.resolve_left t3)
  · subst e
    rw [hm'] at s
    rcases s.1.resolve_left t3 with y | y
    · exact t4 (h4 u _ hu y)
    · exact e' (h3 u t hu ht y.symm)
  · subst e
    exact e' b.symm
theorem mw_write0 {post : St1 → Prop} {t : Nat} {r x : Int32} (h : mw_Inv C R a1 a2 a4 a5 a6 a7 a8 a9 a10 a11) (ht : mw_O a6 t) (hr : vp_in r 8) (hb : ∀ u, mw_O a6 u → u ≠ t → ¬ mw_T a10 u r) (hv : ¬ mw_V a11 t r) (hx : x ≠ 65535) (p2 : Int32)
    (hd : (p2 = -1 ∧ ∀ v, mw_U a1 v → a2 v = r → ¬ mh_see (mh_own (mw_S a7) (mw_N a9) t) (a4 v) (a5 v)) ∨ ∃ v, p2 = nI v ∧ mw_U a1 v ∧ a2 v = r ∧ mh_see (mh_own (mw_S a7) (mw_N a9) t) (a4 v) (a5 v))
    (hp : ∀ C' a1' a2' a3' a4' a5' a7' a12', mw_Inv C' R a1' a2' a4' a5' a6 a7' a8 a9 (upd a10 (t * 4) (a10 (t * 4) ||| ((1 : Int32) <<< (r &&& 31)))) a11 → mw_Wr t r x a6 a9 C a1 a2 a3 a4 a5 a7 C' a1' a2' a3' a4' a5' a7' → post (C', R, a1', a2', a3', a4', a5', a6, a7', a8, a9, upd a10 (t * 4) (a10 (t * 4) ||| ((1 : Int32) <<< (r &&& 31))), a11, a12')) :
    wpX_write post (C, R, a1, a2, a3, a4, a5, a6, a7, a8, a9, a10, a11, a12) (nI t) r p2 x := by
  have ht4 := ht.1
  have k := mw_touch h (t := t) hr hb hv
  have kT : mw_T (upd a10 (t * 4) (a10 (t * 4) ||| ((1 : Int32) <<< (r &&& 31)))) t r := by
    unfold mw_T
    rw [pk_us, mb_r_or, mb_r_bit hr]
    exact Or.inr rfl
  unfold wpX_write
  dsimp only
  refine mw_current h.2 ht4 ⟨pk_in (t * 4) 16 (by omega), nm_r (by rw [nI_clamp (show t * 4 < 2 ^ 31 by omega)]) (mw_current h.2 ht4 (mw_current h.2 ht4 ⟨pk_in (t * 4) 16 (by omega), pk_in (t * 4) 16 (by omega), nm_r (by rw [nI_clamp (show t * 4 < 2 ^ 31 by omega)]) ?_⟩))⟩
  rcases hd with ⟨e, hs⟩ | ⟨v, e, hU, hrv, hs⟩
  · subst e
    refine br_t (by decide) (br_t (by decide) ?_)
    unfold wX_write_74
    exact mw_makeVersion k ht hr kT hs hx (fun C' a1' a2' a3' a4' a5' a7' a12' i1 i2 => hp _ _ _ _ _ _ _ _ i1 i2)
  · subst e
    have hv96 := hU.1
    refine br_f (nI_pos (by omega)) ⟨pk_in v 96 hv96, ?_⟩
    rw [nI_clamp (show v < 2 ^ 31 by omega)]
    refine br_c (fun z => ⟨pk_in v 96 hv96, nm_e (hp _ _ _ _ _ _ _ _ k ?_)⟩) (fun z => br_f (nI_pos (by omega)) ⟨pk_in v 96 hv96, nm_r (by rw [nI_clamp (show v < 2 ^ 31 by omega)]) ?_⟩)
    · rw [← hrv]
      exact mw_over3 h ht hU hs z hx
    · obtain ⟨j1, j2⟩ := mw_end (a3 := a3) k ht hU (by rw [hrv]; exact kT) hs
      unfold wX_write_74
      refine mw_makeVersion j1 ht hr kT (fun w a b s => ?_) hx (fun C' a1' a2' a3' a4' a5' a7' a12' i1 i2 => hp _ _ _ _ _ _ _ _ i1 ⟨fun q c hv => i2.1 q c (j2.1 q c hv), fun u hu e q c hv => i2.2.1 u hu e q c (j2.2.1 u hu e q c hv), fun q c e hv => i2.2.2.1 q c e (j2.2.2.1 q c (by rw [hrv]; exact e) hv), i2.2.2.2⟩)
      rcases j2.2.2.2 with ⟨_, z⟩ | ⟨z, _⟩
      · exact z w a (by rw [b, hrv]) s
      · exact z rfl
end
end
section
/-! ===== the walks: the calls of the law ===== -/
/-- how many of the low n bits are set, as the program counts them -/
def mw_cnt (x : Int32) : Nat → Int32
  | 0 => 0
  | n + 1 => mw_cnt x n + ((x >>> (nI n &&& 31)) &&& 1)
/-- how many of the first n are open -/
def mw_cntO (a6 : Nat → Int32) : Nat → Int32
  | 0 => 0
  | n + 1 => if a6 n = 0 then mw_cntO a6 n else mw_cntO a6 n + 1
/-- what t sees in row r, and doesn't -/
def mw_Some (a1 a2 a4 a5 : Nat → Int32) (a7 : Nat → Int64) (a9 : Nat → Int32) (t : Nat) (r : Int32) : Prop := ∃ v, mw_U a1 v ∧ a2 v = r ∧ mh_see (mh_own (mw_S a7) (mw_N a9) t) (a4 v) (a5 v)
def mw_None (a1 a2 a4 a5 : Nat → Int32) (a7 : Nat → Int64) (a9 : Nat → Int32) (t : Nat) (r : Int32) : Prop := ∀ v, mw_U a1 v → a2 v = r → ¬ mh_see (mh_own (mw_S a7) (mw_N a9) t) (a4 v) (a5 v)
def mw_Busy (a6 a10 : Nat → Int32) (t : Nat) (r : Int32) : Prop := ∃ u, mw_O a6 u ∧ u ≠ t ∧ mw_T a10 u r
section
variable {C R : Int64} {a1 a2 a3 a4 a5 a6 : Nat → Int32} {a7 : Nat → Int64} {a8 a9 a10 a11 a12 : Nat → Int32}
theorem mw_put {post : Int32 → St1 → Prop} {t : Nat} {r x : Int32} (h : mw_Inv C R a1 a2 a4 a5 a6 a7 a8 a9 a10 a11) (ht : t < 4) (hr : vp_in r 8) (hx : x ≠ 65535)
    (hc : ¬ mw_O a6 t → post (-2) (C, R, a1, a2, a3, a4, a5, a6, a7, a8, a9, a10, a11, a12))
    (h4 : mw_O a6 t → mw_Busy a6 a10 t r → post (-4) (C, R, a1, a2, a3, a4, a5, a6, a7, a8, a9, a10, a11, a12))
    (h5 : mw_O a6 t → ¬ mw_Busy a6 a10 t r → mw_V a11 t r → post (-5) (C, R, a1, a2, a3, a4, a5, a6, a7, a8, a9, a10, a11, a12))
    (hp : mw_O a6 t → ¬ mw_Busy a6 a10 t r → ¬ mw_V a11 t r → ∀ (b : Int32), (b = 1 ∧ mw_Some a1 a2 a4 a5 a7 a9 t r ∨ b = 0 ∧ mw_None a1 a2 a4 a5 a7 a9 t r) → ∀ C' a1' a2' a3' a4' a5' a7' a12', mw_Inv C' R a1' a2' a4' a5' a6 a7' a8 a9 (upd a10 (t * 4) (a10 (t * 4) ||| ((1 : Int32) <<< (r &&& 31)))) a11 → mw_Wr t r x a6 a9 C a1 a2 a3 a4 a5 a7 C' a1' a2' a3' a4' a5' a7' →
      post b (C', R, a1', a2', a3', a4', a5', a6, a7', a8, a9, upd a10 (t * 4) (a10 (t * 4) ||| ((1 : Int32) <<< (r &&& 31))), a11, a12')) :
    wpX_put post (C, R, a1, a2, a3, a4, a5, a6, a7, a8, a9, a10, a11, a12) (nI t) r x := by
  unfold wpX_put
  dsimp only
  refine mw_refusedRow ht hr (fun o => br_t (by decide) (mw_blocked h.2 ht hr (fun u a b c => br_f (by decide) (h4 o ⟨u, a, b, c⟩)) (fun a b => br_f (by decide) (h5 o (fun ⟨u, p, q, s⟩ => a u p q s) b)) (fun a b => br_t (by decide) ?_))) (fun o => br_f (by decide) (hc o))
  have nb : ¬ mw_Busy a6 a10 t r := fun ⟨u, p, q, s⟩ => a u p q s
  refine mw_versionOf h o (fun n => ?_) (fun v p q s => ?_)
  · exact mw_write0 h o hr a b hx _ (Or.inl ⟨rfl, n⟩) (fun C' a1' a2' a3' a4' a5' a7' a12' i1 i2 => br_f (by decide) (hp o nb b 0 (Or.inr ⟨rfl, n⟩) _ _ _ _ _ _ _ _ i1 i2))
  · exact mw_write0 h o hr a b hx _ (Or.inr ⟨v, rfl, p, q, s⟩) (fun C' a1' a2' a3' a4' a5' a7' a12' i1 i2 => br_t (nI_pos' (by have := p.1; omega)) (hp o nb b 1 (Or.inl ⟨rfl, v, p, q, s⟩) _ _ _ _ _ _ _ _ i1 i2))
theorem mw_add {post : Int32 → St1 → Prop} {t : Nat} {r x d : Int32} (h : mw_Inv C R a1 a2 a4 a5 a6 a7 a8 a9 a10 a11) (ht : t < 4) (hr : vp_in r 8) (hx : x ≠ 65535) (hd : mw_O a6 t → ∀ v, mw_U a1 v → a2 v = r → mh_see (mh_own (mw_S a7) (mw_N a9) t) (a4 v) (a5 v) → a3 v + d = x)
    (hc : ¬ mw_O a6 t → post (-2) (C, R, a1, a2, a3, a4, a5, a6, a7, a8, a9, a10, a11, a12))
    (h3 : mw_O a6 t → mw_None a1 a2 a4 a5 a7 a9 t r → post (-3) (C, R, a1, a2, a3, a4, a5, a6, a7, a8, a9, a10, a11, a12))
    (h4 : mw_O a6 t → mw_Some a1 a2 a4 a5 a7 a9 t r → mw_Busy a6 a10 t r → post (-4) (C, R, a1, a2, a3, a4, a5, a6, a7, a8, a9, a10, a11, a12))
    (h5 : mw_O a6 t → mw_Some a1 a2 a4 a5 a7 a9 t r → ¬ mw_Busy a6 a10 t r → mw_V a11 t r → post (-5) (C, R, a1, a2, a3, a4, a5, a6, a7, a8, a9, a10, a11, a12))
    (hp : mw_O a6 t → mw_Some a1 a2 a4 a5 a7 a9 t r → ¬ mw_Busy a6 a10 t r → ¬ mw_V a11 t r → ∀ C' a1' a2' a3' a4' a5' a7' a12', mw_Inv C' R a1' a2' a4' a5' a6 a7' a8 a9 (upd a10 (t * 4) (a10 (t * 4) ||| ((1 : Int32) <<< (r &&& 31)))) a11 → mw_Wr t r x a6 a9 C a1 a2 a3 a4 a5 a7 C' a1' a2' a3' a4' a5' a7' →
      post 0 (C', R, a1', a2', a3', a4', a5', a6, a7', a8, a9, upd a10 (t * 4) (a10 (t * 4) ||| ((1 : Int32) <<< (r &&& 31))), a11, a12')) :
    wpX_add post (C, R, a1, a2, a3, a4, a5, a6, a7, a8, a9, a10, a11, a12) (nI t) r d := by
  unfold wpX_add
  dsimp only
  refine mw_refusedRow ht hr (fun o => br_t (by decide) (mw_versionOf h o (fun n => br_f (by decide) (h3 o n)) (fun v p q s => br_t (nI_pos' (by have := p.1; omega)) ?_))) (fun o => br_f (by decide) (hc o))
  have v96 := p.1
  have sm : mw_Some a1 a2 a4 a5 a7 a9 t r := ⟨v, p, q, s⟩
  refine mw_blocked h.2 ht hr (fun u a b c => br_f (by decide) (h4 o sm ⟨u, a, b, c⟩)) (fun a b => br_f (by decide) (h5 o sm (fun ⟨u, p, q, s⟩ => a u p q s) b)) (fun a b => br_t (by decide) ⟨pk_in v 96 v96, ?_⟩)
  rw [nI_clamp (show v < 2 ^ 31 by omega), hd o v p q s]
  exact mw_write0 h o hr a b hx _ (Or.inr ⟨v, rfl, p, q, s⟩) (fun C' a1' a2' a3' a4' a5' a7' a12' i1 i2 => hp o sm (fun ⟨u, p, q, s⟩ => a u p q s) b _ _ _ _ _ _ _ _ i1 i2)
theorem mw_drop {post : Int32 → St1 → Prop} {t : Nat} {r : Int32} (h : mw_Inv C R a1 a2 a4 a5 a6 a7 a8 a9 a10 a11) (ht : t < 4) (hr : vp_in r 8)
    (hc : ¬ mw_O a6 t → post (-2) (C, R, a1, a2, a3, a4, a5, a6, a7, a8, a9, a10, a11, a12))
    (h3 : mw_O a6 t → mw_None a1 a2 a4 a5 a7 a9 t r → post (-3) (C, R, a1, a2, a3, a4, a5, a6, a7, a8, a9, a10, a11, a12))
    (h4 : mw_O a6 t → mw_Some a1 a2 a4 a5 a7 a9 t r → mw_Busy a6 a10 t r → post (-4) (C, R, a1, a2, a3, a4, a5, a6, a7, a8, a9, a10, a11, a12))
    (h5 : mw_O a6 t → mw_Some a1 a2 a4 a5 a7 a9 t r → ¬ mw_Busy a6 a10 t r → mw_V a11 t r → post (-5) (C, R, a1, a2, a3, a4, a5, a6, a7, a8, a9, a10, a11, a12))
    (hp : mw_O a6 t → mw_Some a1 a2 a4 a5 a7 a9 t r → ¬ mw_Busy a6 a10 t r → ¬ mw_V a11 t r → ∀ a5', mw_Inv C R a1 a2 a4 a5' a6 a7 a8 a9 (upd a10 (t * 4) (a10 (t * 4) ||| ((1 : Int32) <<< (r &&& 31)))) a11 → mw_Wr t r 65535 a6 a9 C a1 a2 a3 a4 a5 a7 C a1 a2 a3 a4 a5' a7 →
      post 0 (C, R, a1, a2, a3, a4, a5', a6, a7, a8, a9, upd a10 (t * 4) (a10 (t * 4) ||| ((1 : Int32) <<< (r &&& 31))), a11, a12)) :
    wpX_drop post (C, R, a1, a2, a3, a4, a5, a6, a7, a8, a9, a10, a11, a12) (nI t) r := by
  unfold wpX_drop
  dsimp only
  refine mw_refusedRow ht hr (fun o => br_t (by decide) (mw_versionOf h o (fun n => br_f (by decide) (h3 o n)) (fun v p q s => br_t (nI_pos' (by have := p.1; omega)) ?_))) (fun o => br_f (by decide) (hc o))
  have v96 := p.1
  have sm : mw_Some a1 a2 a4 a5 a7 a9 t r := ⟨v, p, q, s⟩
  refine mw_blocked h.2 ht hr (fun u a b c => br_f (by decide) (h4 o sm ⟨u, a, b, c⟩)) (fun a b => br_f (by decide) (h5 o sm (fun ⟨u, p, q, s⟩ => a u p q s) b)) (fun a b => br_t (by decide) ?_)
  refine mw_current h.2 ht (mw_current h.2 ht ⟨pk_in (t * 4) 16 (by omega), pk_in (t * 4) 16 (by omega), nm_r (by rw [nI_clamp (show t * 4 < 2 ^ 31 by omega)]) (mw_current h.2 ht ⟨pk_in (t * 4) 16 (by omega), pk_in v 96 v96, nm_r (by rw [nI_clamp (show t * 4 < 2 ^ 31 by omega), nI_clamp (show v < 2 ^ 31 by omega)]) ?_⟩)⟩)
  have k := mw_touch h (t := t) hr a b
  have kT : mw_T (upd a10 (t * 4) (a10 (t * 4) ||| ((1 : Int32) <<< (r &&& 31)))) t (a2 v) := by
    unfold mw_T
    rw [pk_us, mb_r_or, q, mb_r_bit hr]
    exact Or.inr rfl
  obtain ⟨j1, j2⟩ := mw_end (a3 := a3) k o p kT s
  rw [q] at j2
  exact hp o sm (fun ⟨u, p, q, s⟩ => a u p q s) b _ j1 j2
theorem mw_newNumber {post : Int32 → St1 → Prop} (h : mw_Inv C R a1 a2 a4 a5 a6 a7 a8 a9 a10 a11)
    (hp : ∀ C' a1' a4' a5' a7' a12' k, mw_Inv C' R a1' a2 a4' a5' a6 a7' a8 a9 a10 a11 → mw_Sm a6 a9 C a1 a4 a5 a7 C' a1' a4' a5' a7' → 1 ≤ k → k < 63 → ¬ mw_held C' R a1' a4' a5' (nI k) → post (nI k) (C', R ||| ((1 : Int64) <<< ((nI k).toInt64 &&& 63)), a1', a2, a3, a4', a5', a6, a7', a8, a9, a10, a11, a12')) : wpX_newNumber post (C, R, a1, a2, a3, a4, a5, a6, a7, a8, a9, a10, a11, a12) := by
  unfold wpX_newNumber
  dsimp only
  refine mw_freeNumber (mw_rng h) (fun _ => br_t rfl ?_) (fun k k1 k2 kh => br_f (nI_ne0 (by omega) (by omega)) (nm_e (hp _ _ _ _ _ _ k h mw_Sm_rfl k1 k2 kh)))
  refine mw_tidy h (fun C' a1' a4' a5' a7' a12' i1 i2 i3 i4 => ?_)
  refine mw_freeNumber (mw_rng i1) (fun hf => ?_) (fun k k1 k2 kh => nm_e (hp _ _ _ _ _ _ k i1 i2 k1 k2 kh))
  obtain ⟨k, k1, k2, kh⟩ := mh_freeN (P := mw_held C' R a1' a4' a5') (nu := mw_N a9) (al := a12') i4
  exact absurd (hf k k1 k2) kh
theorem mw_open {post : Int32 → St1 → Prop} {t : Nat} (h : mw_Inv C R a1 a2 a4 a5 a6 a7 a8 a9 a10 a11) (ht : t < 4)
    (hc : mw_O a6 t → post (-2) (C, R, a1, a2, a3, a4, a5, a6, a7, a8, a9, a10, a11, a12))
    (hp : ¬ mw_O a6 t → ∀ C' R' a1' a4' a5' a7' a9' a12', mw_Inv C' R' a1' a2 a4' a5' (upd a6 t 1) a7' (upd a8 t 0) a9' (upd a10 (t * 4) 0) (upd a11 t 0) →
      (∀ q c, mh_vw (mw_U a1) a2 a3 a4 a5 (mb_in C) q c → mh_vw (mw_U a1') a2 a3 a4' a5' (mb_in C') q c) →
      (∀ q c, mh_vw (mw_U a1) a2 a3 a4 a5 (mb_in C) q c → mh_vw (mw_U a1') a2 a3 a4' a5' (mh_own (mw_S a7') (mw_N a9') t) q c) →
      (∀ u, mw_O a6 u → ∀ q c, mh_vw (mw_U a1) a2 a3 a4 a5 (mh_own (mw_S a7) (mw_N a9) u) q c → mh_vw (mw_U a1') a2 a3 a4' a5' (mh_own (mw_S a7') (mw_N a9') u) q c) →
      post 0 (C', R', a1', a2, a3, a4', a5', upd a6 t 1, a7', upd a8 t 0, a9', upd a10 (t * 4) 0, upd a11 t 0, a12')) :
    wpX_open post (C, R, a1, a2, a3, a4, a5, a6, a7, a8, a9, a10, a11, a12) (nI t) := by
  unfold wpX_open
  dsimp only
  refine mw_refused ht (fun o => br_f (by decide) (br_f (by decide) (hc o))) (fun o => br_t rfl ?_)
  refine mw_newNumber h (fun C' a1' a4' a5' a7' a12' k i1 i2 k1 k2 kh => ?_)
  rw [nI_clamp (show t < 2 ^ 31 by omega), mw_t4 ht, nI_clamp (show t * 4 < 2 ^ 31 by omega)]
  have kr : vp_in (nI k) 63 := vp_in_nI k2 (by omega)
  obtain ⟨j1, j2, j3⟩ := mh_open i1.1 o ht kr (nI_ne0 (by omega) (by omega)) (fun z => kh (Or.inl z)) (fun z => kh (Or.inr (Or.inl z))) (fun v hv => ⟨fun z => kh (Or.inr (Or.inr ⟨v, hv, Or.inl z⟩)), fun z => kh (Or.inr (Or.inr ⟨v, hv, Or.inr z⟩))⟩)
    (R' := mb_in (R ||| ((1 : Int64) <<< ((nI k).toInt64 &&& 63)))) (O' := mw_O (upd a6 t 1)) (S' := mw_S (vp_updL a7' t C')) (nu' := mw_N (upd a9 (t * 4) (nI k))) (T' := mw_T (upd a10 (t * 4) 0)) (V' := mw_V (upd a11 t 0))
    (fun m => by rw [mb_in_or, mb_in_bit kr])
    (fun u => by
      unfold mw_O
      by_cases e : u = t
      · subst e; rw [pk_us]; exact ⟨fun _ => Or.inr rfl, fun _ => ⟨ht, by decide⟩⟩
      · rw [pk_un e]; exact ⟨Or.inl, fun z => z.resolve_right e⟩)
    (fun m => by unfold mw_S; rw [pk_uLs]) (fun u m e => by unfold mw_S; rw [pk_uLn e]) (by unfold mw_N; rw [pk_us]) (fun u e => by unfold mw_N; rw [pk_un (by omega)])
    (fun r => by unfold mw_T; rw [pk_us]; exact mb_r_0) (fun u r e => by unfold mw_T; rw [pk_un (by omega)])
    (fun r => by unfold mw_V; rw [pk_us]; exact mb_r_0) (fun u r e => by unfold mw_V; rw [pk_un e])
  refine ⟨pk_in t 4 ht, nm_e ⟨pk_in t 4 ht, nm_e ⟨pk_in t 4 ht, nm_e ⟨pk_in (t * 4) 16 (by omega), nm_e ⟨pk_in (t * 4) 16 (by omega), nm_e ⟨pk_in t 4 ht, nm_e ?_⟩⟩⟩⟩⟩⟩
  refine hp o _ _ _ _ _ _ _ _ ⟨j1, fun u hu => ?_⟩ (fun q c hv => mh_sm_vw i2.1 hv) (fun q c hv => mh_sm_vw (mh_sm_tr i2.1 j2) hv) (fun u hu q c hv => mh_sm_vw (mh_sm_tr (i2.2 u hu) (j3 u hu)) hv)
  by_cases e : u = t
  · subst e; rw [pk_us]
  · rw [pk_un e]; exact h.2 u hu
theorem mw_sizeOf {post : Int32 → Prop} {x : Int32} (hp : post (mw_cnt x 8)) : wpX_sizeOf post (C, R, a1, a2, a3, a4, a5, a6, a7, a8, a9, a10, a11, a12) x := by
  refine pk_loop (σ := Unit) (fun n i _ => wX_sizeOf_4 post x C R a1 a2 a3 a4 a5 a6 a7 a8 a9 a10 a11 a12 n (mw_cnt x i) (nI i)) (fun _ _ => True) 8 0 () (by omega) trivial ?_ ?_
  · intro n _ _
    exact pk_le 8 8 (fun _ => hp) (fun z => absurd z (by omega))
  · intro n i _ hi _ hw
    exact pk_le 8 i (fun z => absurd z (by omega)) (fun _ => nm_e (nm_r (nI_1 i) (hw () trivial)))
theorem mw_bits {post : Int32 → Prop} {x : Int32} (hp : post (mw_cnt x 8)) : wpL_bits post () x := by
  refine pk_loop (σ := Unit) (fun n i _ => wL_bits_4 post x n (mw_cnt x i) (nI i)) (fun _ _ => True) 8 0 () (by omega) trivial ?_ ?_
  · intro n _ _
    exact pk_le 8 8 (fun _ => hp) (fun z => absurd z (by omega))
  · intro n i _ hi _ hw
    exact pk_le 8 i (fun z => absurd z (by omega)) (fun _ => nm_e (nm_r (nI_1 i) (hw () trivial)))
theorem mw_Oclose {t u : Nat} : mw_O (upd a6 t 0) u ↔ mw_O a6 u ∧ u ≠ t := by
  unfold mw_O
  by_cases e : u = t
  · subst e
    rw [pk_us]
    exact ⟨fun z => absurd rfl z.2, fun z => absurd rfl z.2⟩
  · rw [pk_un e]
    exact ⟨fun z => ⟨z, e⟩, fun z => z.1⟩
theorem mw_Rclose {n m : Int32} (hm : vp_in m 63) : mb_in (R &&& ((0 ||| ((1 : Int64) <<< (m.toInt64 &&& 63))) ^^^ (-1))) n ↔ mb_in R n ∧ n ≠ m := by
  rw [mb_in_not, mb_in_or, mb_in_bit hm]
  exact ⟨fun z => ⟨z.1, fun y => z.2 (Or.inr y)⟩, fun z => ⟨z.1, fun y => y.elim (fun x => absurd x mb_in_0) z.2⟩⟩
theorem mw_abort {post : Int32 → St1 → Prop} {t : Nat} (h : mw_Inv C R a1 a2 a4 a5 a6 a7 a8 a9 a10 a11) (ht : t < 4)
    (hc : ¬ mw_O a6 t → post (-2) (C, R, a1, a2, a3, a4, a5, a6, a7, a8, a9, a10, a11, a12))
    (hp : mw_O a6 t → ∀ R', mw_Inv C R' a1 a2 a4 a5 (upd a6 t 0) a7 a8 a9 a10 a11 → post (mw_cnt (a10 (t * 4)) 8) (C, R', a1, a2, a3, a4, a5, upd a6 t 0, a7, a8, a9, a10, a11, a12)) :
    wpX_abort post (C, R, a1, a2, a3, a4, a5, a6, a7, a8, a9, a10, a11, a12) (nI t) := by
  unfold wpX_abort
  dsimp only
  refine mw_refused ht (fun o => br_t (by decide) ?_) (fun o => br_f (by decide) (hc o))
  unfold wpX_close
  dsimp only
  refine mw_changedBy ht (h.2 t ht) (mw_ownSet ht (h.2 t ht) (nm_e ⟨pk_in t 4 ht, nm_r (by rw [nI_clamp (show t < 2 ^ 31 by omega)]) (br_t rfl ?_)⟩))
  unfold wX_close_81
  refine mw_sizeOf (hp o _ ⟨mh_abort h.1 (fun u z => (mw_Oclose.mp z).1) ?_, h.2⟩)
  exact mh_abortR h.1 o (fun u => mw_Oclose) (fun n => mw_Rclose (mw_nrng h o))
theorem mw_commit {post : Int32 → St1 → Prop} {t : Nat} (h : mw_Inv C R a1 a2 a4 a5 a6 a7 a8 a9 a10 a11) (ht : t < 4)
    (hc : ¬ mw_O a6 t → post (-2) (C, R, a1, a2, a3, a4, a5, a6, a7, a8, a9, a10, a11, a12))
    (hp : mw_O a6 t → ∀ C' R' a11', (∀ u, u < 4 → a11' u = a11 u ||| a10 (t * 4)) → mw_Inv C' R' a1 a2 a4 a5 (upd a6 t 0) a7 a8 a9 a10 a11' →
      (∀ q c, mw_T a10 t q → mh_vw (mw_U a1) a2 a3 a4 a5 (mh_own (mw_S a7) (mw_N a9) t) q c → mh_vw (mw_U a1) a2 a3 a4 a5 (mb_in C') q c) →
      (∀ q c, ¬ mw_T a10 t q → mh_vw (mw_U a1) a2 a3 a4 a5 (mb_in C) q c → mh_vw (mw_U a1) a2 a3 a4 a5 (mb_in C') q c) →
      post (mw_cnt (a10 (t * 4)) 8) (C', R', a1, a2, a3, a4, a5, upd a6 t 0, a7, a8, a9, a10, a11', a12)) :
    wpX_commit post (C, R, a1, a2, a3, a4, a5, a6, a7, a8, a9, a10, a11, a12) (nI t) := by
  unfold wpX_commit
  dsimp only
  refine mw_refused ht (fun o => br_t (by decide) ?_) (fun o => br_f (by decide) (hc o))
  unfold wpX_close
  dsimp only
  refine mw_changedBy ht (h.2 t ht) (mw_ownSet ht (h.2 t ht) (nm_e ⟨pk_in t 4 ht, nm_r (by rw [nI_clamp (show t < 2 ^ 31 by omega)]) (br_f (by decide) (nm_e ?_))⟩))
  refine pk_loop (σ := Nat → Int32) (fun n i s => wX_close_53 _ (a10 (t * 4)) _ _ n (nI i) a1 a2 a3 a4 a5 (upd a6 t 0) a7 a8 a9 a10 s a12) (fun i s => (∀ u, u < i → s u = a11 u ||| a10 (t * 4)) ∧ ∀ u, i ≤ u → s u = a11 u) 4 0 a11 (by omega) ⟨fun t ht => absurd ht (by omega), fun _ _ => rfl⟩ ?_ ?_
  · intro n s hs
    refine pk_le 4 4 (fun _ => ?_) (fun z => absurd z (by omega))
    unfold wX_close_81
    have hn := mw_nrng h o
    obtain ⟨k1, k2, k3⟩ := mh_commit h.1 o (C' := mb_in (C ||| (0 ||| ((1 : Int64) <<< ((a9 (t * 4)).toInt64 &&& 63))))) (O' := mw_O (upd a6 t 0)) (R' := mb_in (R &&& ((0 ||| ((1 : Int64) <<< ((a9 (t * 4)).toInt64 &&& 63))) ^^^ (-1)))) (V' := mw_V s)
      (fun n => by rw [mb_in_or, mb_in_or, mb_in_bit hn]; exact ⟨fun z => z.imp id (fun y => y.resolve_left mb_in_0), fun z => z.imp id Or.inr⟩)
      (fun u => mw_Oclose) (fun n => mw_Rclose hn) (fun u r hu => by unfold mw_V mw_T; rw [hs.1 u hu.1, mb_r_or])
    refine mw_sizeOf (hp o _ _ s hs.1 ⟨k1, h.2⟩ (fun q c hT hv => mh_vw_tr (fun v a b e => ⟨a, b, (k2 q hT v a b).mp e⟩) (fun v a b e => ⟨a, b, (k2 q hT v a b).mpr e, rfl⟩) hv) (fun q c hT hv => mh_vw_tr (fun v a b e => ⟨a, b, (k3 q hT v a b).mp e⟩) (fun v a b e => ⟨a, b, (k3 q hT v a b).mpr e, rfl⟩) hv))
  · intro n i s hi hs hw
    refine pk_le 4 i (fun z => absurd z (by omega)) (fun _ => ⟨pk_in i 4 hi, pk_in i 4 hi, ?_⟩)
    rw [nI_clamp (show i < 2 ^ 31 by omega)]
    refine nm_e (nm_r (nI_1 i) (hw _ ⟨lt_s (fun u hu => ?_) ?_, fun u hu => ?_⟩))
    · rw [pk_un (by omega)]; exact hs.1 u hu
    · rw [pk_us, hs.2 i (by omega)]
    · rw [pk_un (by omega)]; exact hs.2 u (by omega)
theorem mw_crash {post : Int32 → St1 → Prop} (h : mw_Inv C R a1 a2 a4 a5 a6 a7 a8 a9 a10 a11)
    (hp : ∀ a6', (∀ t, ¬ mw_O a6' t) → mw_Inv C 0 a1 a2 a4 a5 a6' a7 a8 a9 a10 a11 → post (mw_cntO a6 4) (C, 0, a1, a2, a3, a4, a5, a6', a7, a8, a9, a10, a11, a12)) :
    wpX_crash post (C, R, a1, a2, a3, a4, a5, a6, a7, a8, a9, a10, a11, a12) := by
  refine pk_loop (σ := Nat → Int32) (fun n i s => wX_crash_4 post C R n (mw_cntO a6 i) (nI i) a1 a2 a3 a4 a5 s a7 a8 a9 a10 a11 a12) (fun i s => (∀ t, t < i → s t = 0) ∧ ∀ t, i ≤ t → s t = a6 t) 4 0 a6 (by omega) ⟨fun t ht => absurd ht (by omega), fun _ _ => rfl⟩ ?_ ?_
  · intro n s hs
    have no : ∀ t, ¬ mw_O s t := fun t o => o.2 (hs.1 t o.1)
    exact pk_le 4 4 (fun _ => hp s no ⟨mh_abort h.1 (fun u z => absurd z (no u)) (fun n => ⟨fun z => absurd z mb_in_0, fun ⟨t, z, _⟩ => absurd z (no t)⟩), h.2⟩) (fun z => absurd z (by omega))
  · intro n i s hi hs hw
    have st : (∀ t, t < i + 1 → upd s i 0 t = 0) ∧ ∀ t, i + 1 ≤ t → upd s i 0 t = a6 t := by
      refine ⟨lt_s (fun t ht => ?_) pk_us, fun t ht => ?_⟩
      · rw [pk_un (by omega)]; exact hs.1 t ht
      · rw [pk_un (by omega)]; exact hs.2 t (by omega)
    have k := hw _ st
    refine pk_le 4 i (fun z => absurd z (by omega)) (fun _ => ⟨pk_in i 4 hi, ?_⟩)
    rw [nI_clamp (show i < 2 ^ 31 by omega)]
    refine br_c (fun z => ⟨pk_in i 4 hi, nm_e (nm_r (nI_1 i) ?_)⟩) (fun z => nm_e ⟨pk_in i 4 hi, nm_e (nm_r (nI_1 i) ?_)⟩)
    · rw [hs.2 i (by omega)] at z
      have e : mw_cntO a6 (i + 1) = mw_cntO a6 i := if_pos z
      rw [e] at k
      exact k
    · rw [hs.2 i (by omega)] at z
      have e : mw_cntO a6 (i + 1) = mw_cntO a6 i + 1 := if_neg z
      rw [e] at k
      exact k
theorem mw_flush {post : St1 → Prop} (h : mw_Inv C R a1 a2 a4 a5 a6 a7 a8 a9 a10 a11)
    (hp : ∀ a5', mw_Inv C R a1 a2 a4 a5' a6 a7 a8 a9 a10 a11 → mw_Sm a6 a9 C a1 a4 a5 a7 C a1 a4 a5' a7 → post (C, R, a1, a2, a3, a4, a5', a6, a7, a8, a9, a10, a11, a12)) : wpX_flush post (C, R, a1, a2, a3, a4, a5, a6, a7, a8, a9, a10, a11, a12) := by
  refine pk_loop (σ := Nat → Int32) (fun n i s => wX_flush_2 post C R n (nI i) a1 a2 a3 a4 s a6 a7 a8 a9 a10 a11 a12) (fun i s => mw_Inv C R a1 a2 a4 s a6 a7 a8 a9 a10 a11 ∧ mw_Sm a6 a9 C a1 a4 a5 a7 C a1 a4 s a7) 96 0 a5 (by omega) ⟨h, mw_Sm_rfl⟩ ?_ ?_
  · intro n s hs
    exact pk_le 96 96 (fun _ => hp s hs.1 hs.2) (fun z => absurd z (by omega))
  · intro n i s hi hs hw
    refine pk_le 96 i (fun z => absurd z (by omega)) (fun _ => ⟨pk_in i 96 hi, ?_⟩)
    rw [nI_clamp (show i < 2 ^ 31 by omega)]
    refine br_c (fun z => nm_r (nI_1 i) (hw s hs)) (fun z => ⟨pk_in i 96 hi, mw_over (mw_rng hs.1 i ⟨hi, z⟩).2 (fun x y w => br_f (by decide) ⟨pk_in i 96 hi, nm_e (nm_r (nI_1 i) ?_)⟩) (fun x => br_t rfl (nm_r (nI_1 i) (hw s hs)))⟩)
    obtain ⟨j1, j2⟩ := mw_clear hs.1 y w
    exact hw _ ⟨j1, mw_Sm_tr hs.2 j2⟩
end
end
section
/-! ===== the law's packed words ===== -/
def ml_part (x : Int64) (t : Nat) : Int32 := ((x >>> ((16 * nI t).toInt64 &&& 63)) &&& 65535).toInt32
def ml_with (x : Int64) (t : Nat) (c : Int32) : Int64 := (x &&& (((65535 : Int64) <<< ((16 * nI t).toInt64 &&& 63)) ^^^ (-1))) ||| (c.toInt64 <<< ((16 * nI t).toInt64 &&& 63))
def ml_byte (x : Int32) (t : Nat) : Int32 := (x >>> ((8 * nI t) &&& 31)) &&& 255
theorem ml_16 (t : Nat) : 16 * nI t = nI (16 * t) := pk_mul 16 t
theorem ml_8 (t : Nat) : 8 * nI t = nI (8 * t) := pk_mul 8 t
theorem ml_8r (t r : Nat) : 8 * nI t + nI r = nI (8 * t + r) := by rw [ml_8, nI_add]
theorem ml_tr (y : Int64) {i : Nat} (hi : i < 32) : mb_b y.toInt32 i = mb_l y i := by
  unfold mb_b mb_l
  rw [Int64.toBitVec_toInt32, BitVec.getLsbD_signExtend]
  simp [hi, show i < 64 by omega]
theorem ml_lN (k : Nat) {j : Nat} (hj : j < 64) : mb_l (lN k) j = k.testBit j := by
  show (BitVec.ofNat 64 k).getLsbD j = _
  rw [BitVec.getLsbD_ofNat]
  simp [hj]
theorem ml_part_b {x : Int64} {t i : Nat} (ht : t < 4) (hi : i < 32) : mb_b (ml_part x t) i = (decide (i < 16) && mb_l x (16 * t + i)) := by
  unfold ml_part
  rw [ml_16, ml_tr _ hi, mb_land, mb_l65535 i (by omega)]
  by_cases h : i < 16
  · rw [mb_lshr x (by omega) (by omega)]
    simp [h]
  · simp [h]
theorem ml_nIb (m : Nat) {i : Nat} (hi : i < 32) : mb_b (nI m) i = m.testBit i := mw_nIb m hi
theorem ml_tb {k j : Nat} (hk : k < 65536) (hj : 16 ≤ j) : k.testBit j = false := Nat.testBit_lt_two_pow (Nat.lt_of_lt_of_le hk (Nat.pow_le_pow_right (n := 2) (by decide) hj))
theorem ml_with_b {x : Int64} {t i k : Nat} (ht : t < 4) (hi : i < 64) (hk : k < 65536) : mb_l (ml_with x t (nI k)) i = if 16 * t ≤ i ∧ i < 16 * t + 16 then k.testBit (i - 16 * t) else mb_l x i := by
  unfold ml_with
  rw [ml_16, nI_l (n := k) (by omega), mb_lor, mb_land, mb_lxor, mb_lm1 i hi, mb_lshl _ (by omega) hi, mb_lshl _ (by omega) hi, mb_l65535 _ (by omega), ml_lN k (by omega)]
  by_cases h1 : 16 * t ≤ i
  · by_cases h2 : i < 16 * t + 16
    · rw [if_pos ⟨h1, h2⟩]
      simp [h1, show i - 16 * t < 16 by omega]
    · rw [if_neg (fun z => h2 z.2), ml_tb hk (by omega)]
      simp [h1, show ¬ i - 16 * t < 16 by omega]
  · rw [if_neg (fun z => h1 z.1)]
    simp [h1]
theorem ml_part_with {x : Int64} {t u : Nat} {c : Int32} (ht : t < 4) (hu : u < 4) (hc : vp_in c 65536) : ml_part (ml_with x t c) u = if u = t then c else ml_part x u := by
  obtain ⟨k, hk, rfl⟩ := vp_in_of hc (by omega)
  apply mb_ext
  intro i hi
  rw [ml_part_b hu hi]
  by_cases h : i < 16
  · rw [ml_with_b ht (by omega) hk]
    by_cases e : u = t
    · subst e
      rw [if_pos ⟨by omega, by omega⟩, if_pos rfl, ml_nIb k hi, decide_eq_true h, Bool.true_and, Nat.add_sub_cancel_left]
    · rw [if_neg (by omega), if_neg e, ml_part_b hu hi]
  · by_cases e : u = t
    · subst e
      rw [if_pos rfl, decide_eq_false h, Bool.false_and, ml_nIb k hi, ml_tb hk (by omega)]
    · rw [if_neg e, ml_part_b hu hi, decide_eq_false h, Bool.false_and, Bool.false_and]
theorem ml_part_in {x : Int64} {t : Nat} (ht : t < 4) : vp_in (ml_part x t) 65536 := by
  have e : ml_part x t = ml_part x t &&& 65535 := by
    apply mb_ext
    intro i hi
    rw [mb_and, ml_part_b ht hi]
    by_cases h : i < 16
    · rw [(by decide +kernel : ∀ i, i < 16 → mb_b 65535 i = true) i h, Bool.and_true]
    · rw [decide_eq_false h]; rfl
  rw [e]
  exact pk_andIn (ml_part x t) (m := 65535) 16 (by decide) (by decide)
theorem ml_byte_b {x : Int32} {t i : Nat} (ht : t < 4) (hi : i < 32) : mb_b (ml_byte x t) i = (decide (i < 8) && mb_b x (8 * t + i)) := by
  unfold ml_byte
  rw [ml_8, mb_and, mb_sshr _ (by omega) x hi, mb_255]
  by_cases h : i < 8
  · rw [if_pos (by omega)]
    simp [h]
  · simp [h]
theorem ml_byte_set {x : Int32} {t u r : Nat} (ht : t < 4) (hu : u < 4) (hr : r < 8) : ml_byte (x ||| ((1 : Int32) <<< ((8 * nI t + nI r) &&& 31))) u = if u = t then ml_byte x t ||| ((1 : Int32) <<< (nI r &&& 31)) else ml_byte x u := by
  apply mb_ext
  intro i hi
  rw [ml_8r, ml_byte_b hu hi]
  by_cases h : i < 8
  · rw [mb_or, mb_ss _ _ (by omega) (by omega)]
    by_cases e : u = t
    · subst e
      rw [if_pos rfl, mb_or, ml_byte_b hu hi, mb_ss _ _ hi (by omega), decide_eq_true h, Bool.true_and, Bool.true_and]
      congr 1
      exact decide_eq_decide.mpr ⟨fun z => by omega, fun z => by omega⟩
    · rw [if_neg e, ml_byte_b hu hi, decide_eq_false (show ¬ 8 * u + i = 8 * t + r by omega), Bool.or_false]
  · by_cases e : u = t
    · subst e
      rw [decide_eq_false h, Bool.false_and, if_pos rfl, mb_or, ml_byte_b hu hi, mb_ss _ _ hi (by omega), decide_eq_false h, decide_eq_false (show ¬ i = r by omega)]
      simp
    · rw [if_neg e, ml_byte_b hu hi, decide_eq_false h, Bool.false_and, Bool.false_and]
theorem ml_byte_clr {x : Int32} {t u : Nat} (ht : t < 4) (hu : u < 4) : ml_byte (x &&& (((255 : Int32) <<< ((8 * nI t) &&& 31)) ^^^ (-1))) u = if u = t then 0 else ml_byte x u := by
  apply mb_ext
  intro i hi
  rw [ml_8, ml_byte_b hu hi]
  by_cases h : i < 8
  · rw [mb_and, mb_xor, mb_m1 _ (by omega), mb_shl _ (by omega) _ (by omega), mb_255]
    by_cases e : u = t
    · subst e
      rw [if_pos rfl, mb_0]
      simp [h, show 8 * u + i - 8 * u < 8 by omega]
    · rw [if_neg e, ml_byte_b hu hi]
      have z : (decide (8 * t ≤ 8 * u + i) && decide (8 * u + i - 8 * t < 8)) = false := by
        by_cases g : 8 * t ≤ 8 * u + i
        · rw [decide_eq_false (show ¬ 8 * u + i - 8 * t < 8 by omega), Bool.and_false]
        · rw [decide_eq_false g, Bool.false_and]
      rw [z]
      simp
  · by_cases e : u = t
    · subst e
      rw [if_pos rfl, mb_0, decide_eq_false h, Bool.false_and]
    · rw [if_neg e, ml_byte_b hu hi, decide_eq_false h, Bool.false_and, Bool.false_and]
theorem ml_byte_or {x y : Int32} {t u : Nat} (ht : t < 4) (hu : u < 4) (hy : ∀ i, 8 ≤ i → i < 32 → mb_b y i = false) : ml_byte (x ||| (y <<< ((8 * nI t) &&& 31))) u = if u = t then ml_byte x t ||| y else ml_byte x u := by
  apply mb_ext
  intro i hi
  rw [ml_8, ml_byte_b hu hi]
  by_cases h : i < 8
  · rw [mb_or, mb_shl _ (by omega) _ (by omega)]
    by_cases e : u = t
    · subst e
      rw [if_pos rfl, mb_or, ml_byte_b hu hi, decide_eq_true h, Bool.true_and, Bool.true_and, decide_eq_true (show 8 * u ≤ 8 * u + i by omega), Bool.true_and, Nat.add_sub_cancel_left]
    · rw [if_neg e, ml_byte_b hu hi]
      have z : (decide (8 * t ≤ 8 * u + i) && mb_b y (8 * u + i - 8 * t)) = false := by
        by_cases g : 8 * t ≤ 8 * u + i
        · rw [hy _ (by omega) (by omega), Bool.and_false]
        · rw [decide_eq_false g, Bool.false_and]
      rw [z, Bool.or_false]
  · by_cases e : u = t
    · subst e
      rw [decide_eq_false h, Bool.false_and, if_pos rfl, mb_or, ml_byte_b hu hi, hy i (by omega) hi, decide_eq_false h]
      simp
    · rw [if_neg e, ml_byte_b hu hi, decide_eq_false h, Bool.false_and, Bool.false_and]
theorem ml_byte_hi {x : Int32} {t : Nat} (ht : t < 4) : ∀ i, 8 ≤ i → i < 32 → mb_b (ml_byte x t) i = false := by
  intro i h hi
  rw [ml_byte_b ht hi, decide_eq_false (by omega), Bool.false_and]
theorem ml_byte_t {x r : Int32} {t : Nat} (ht : t < 4) (hr : vp_in r 8) : ((x >>> ((8 * nI t + r) &&& 31)) &&& 1) = 1 ↔ mb_r (ml_byte x t) r := by
  obtain ⟨k, hk, rfl⟩ := vp_in_of hr (by omega)
  unfold mb_r
  rw [ml_8r, mb_t (by omega), nI_clamp (by omega), ml_byte_b ht (by omega), decide_eq_true hk, Bool.true_and]
  exact ⟨fun z => ⟨hr, z⟩, fun z => z.2⟩
theorem ml_bset {x : Int32} {t i : Nat} (ht : t < 32) (hi : i < 32) : mb_b (x ||| ((1 : Int32) <<< (nI t &&& 31))) i = true ↔ mb_b x i = true ∨ i = t := by
  rw [mb_or, mb_ss t i hi ht, Bool.or_eq_true, decide_eq_true_iff]
theorem ml_bclr {x : Int32} {t i : Nat} (ht : t < 32) (hi : i < 32) : mb_b (x &&& (((1 : Int32) <<< (nI t &&& 31)) ^^^ (-1))) i = true ↔ mb_b x i = true ∧ i ≠ t := by
  rw [mb_and, mb_xor, mb_ss t i hi ht, mb_m1 i hi, Bool.and_eq_true]
  by_cases e : i = t
  · simp [e]
  · simp [e]
theorem ml_cnt {x6 : Int32} {a6 : Nat → Int32} (h : ∀ i, i < 32 → (mb_b x6 i = true ↔ mw_O a6 i)) : mw_cntO a6 4 = mw_cnt x6 8 := by
  have lo : ∀ n, n ≤ 4 → mw_cnt x6 n = mw_cntO a6 n := by
    intro n
    induction n with
    | zero => intro _; rfl
    | succ n ih =>
      intro hn
      show mw_cnt x6 n + ((x6 >>> (nI n &&& 31)) &&& 1) = if a6 n = 0 then mw_cntO a6 n else mw_cntO a6 n + 1
      rw [ih (by omega), mb_tv x6 n (by omega)]
      by_cases e : a6 n = 0
      · rw [if_pos e, if_neg (fun z => ((h n (by omega)).mp z).2 e), Int32.add_zero]
      · rw [if_neg e, if_pos ((h n (by omega)).mpr ⟨by omega, e⟩)]
  have hi : ∀ n, 4 ≤ n → n < 32 → mw_cnt x6 (n + 1) = mw_cnt x6 n := by
    intro n h4 hn
    show mw_cnt x6 n + ((x6 >>> (nI n &&& 31)) &&& 1) = _
    rw [mb_tv x6 n (by omega), if_neg (fun z => absurd ((h n (by omega)).mp z).1 (by omega)), Int32.add_zero]
  rw [hi 7 (by omega) (by omega), hi 6 (by omega) (by omega), hi 5 (by omega) (by omega), hi 4 (by omega) (by omega), lo 4 (by omega)]
end
section
/-! ===== the law: its picture, and the checks at a round's end ===== -/
abbrev ml_JT : Type := Int32 → Int64 → Int32 → Int32 → Int32 → Int32 → Int64 → Int64 → (Nat → Int32) → (Nat → Int32) → (Nat → Int32) → (Nat → Int32) → (Nat → Int32) → (Nat → Int32) → (Nat → Int64) → (Nat → Int32) → (Nat → Int32) → (Nat → Int32) → (Nat → Int32) → (Nat → Int32) → Prop
/-- what the law's words say of the state -/
def ml_K (row x3 : Int32) (x4 : Int64) (x6 x7 x8 : Int32) (C R : Int64) (a1 a2 a3 a4 a5 a6 : Nat → Int32) (a7 : Nat → Int64) (a8 a9 a10 a11 : Nat → Int32) : Prop :=
  mw_Inv C R a1 a2 a4 a5 a6 a7 a8 a9 a10 a11 ∧ vp_in row 8 ∧ vp_in x3 65536 ∧ mh_vw (mw_U a1) a2 a3 a4 a5 (mb_in C) row x3 ∧ (∀ i, i < 32 → (mb_b x6 i = true ↔ mw_O a6 i)) ∧
  ∀ t, mw_O a6 t → mh_vw (mw_U a1) a2 a3 a4 a5 (mh_own (mw_S a7) (mw_N a9) t) row (ml_part x4 t) ∧ a10 (t * 4) = ml_byte x7 t ∧ a11 t = ml_byte x8 t
theorem ml_wpart {post : Int32 → Prop} {x : Int64} {t : Nat} (hp : post (ml_part x t)) : wpL_part post () x (nI t) := hp
theorem ml_wwith {post : Int64 → Prop} {x : Int64} {t : Nat} {c : Int32} (hp : post (ml_with x t c)) : wpL_with post () x (nI t) c := hp
section
variable {post : Int32 → Prop} {L : Nat} {xs : Nat → Int32} {J42 : ml_JT} {row x3 : Int32} {x4 : Int64} {x6 x7 x8 x9 : Int32} {kc ks : Nat} {C R : Int64} {a1 a2 a3 a4 a5 a6 : Nat → Int32} {a7 : Nat → Int64} {a8 a9 a10 a11 a12 : Nat → Int32}
theorem ml_951 {J833 : Int32 → Prop} {u : Nat} {z : Int32} (hJ : J833 (nI (u + 1))) : wL_law_951 post L xs J42 J833 row x3 x4 x6 x7 x8 x9 (nI u) z z kc ks C R a1 a2 a3 a4 a5 a6 a7 a8 a9 a10 a11 a12 :=
  br_t rfl (nm_r (nI_1 u) hJ)
theorem ml_918 {J833 : Int32 → Prop} {u : Nat} {x24 z : Int32} (k : ml_K row x3 x4 x6 x7 x8 C R a1 a2 a3 a4 a5 a6 a7 a8 a9 a10 a11) (hu : u < 4) (hx : (x24 = 1 ∧ mw_O a6 u) ∨ (x24 = 0 ∧ ¬ mw_O a6 u)) (hJ : J833 (nI (u + 1))) : wL_law_918 post L xs J42 J833 row x3 x4 x6 x7 x8 x9 (nI u) x24 z z kc ks C R a1 a2 a3 a4 a5 a6 a7 a8 a9 a10 a11 a12 := by
  refine br_t rfl (mw_changed k.1.2 hu (fun o => ?_) (fun o => ?_))
  · rcases hx with ⟨_, y⟩ | ⟨e, _⟩
    · exact absurd y o
    · exact br_t e (ml_951 hJ)
  · rcases hx with ⟨e, _⟩ | ⟨_, y⟩
    · refine br_f (by rw [e]; decide) ?_
      rw [(k.2.2.2.2.2 u o).2.1]
      exact ml_951 hJ
    · exact absurd o y
theorem ml_855 {J833 : Int32 → Prop} {u : Nat} {x24 : Int32} (k : ml_K row x3 x4 x6 x7 x8 C R a1 a2 a3 a4 a5 a6 a7 a8 a9 a10 a11) (hu : u < 4) (hx : (x24 = 1 ∧ mw_O a6 u) ∨ (x24 = 0 ∧ ¬ mw_O a6 u)) (hJ : J833 (nI (u + 1))) : wL_law_855 post L xs J42 J833 row x3 x4 x6 x7 x8 x9 (nI u) x24 kc ks C R a1 a2 a3 a4 a5 a6 a7 a8 a9 a10 a11 a12 := by
  have k1 := k.1
  have kr := k.2.1
  unfold wL_law_855
  refine ml_wpart ?_
  rcases hx with ⟨e, o⟩ | ⟨e, o⟩
  · subst e
    have k2 := (k.2.2.2.2.2 u o).1
    obtain ⟨_, _, _, _, _, _, _, _, _, _, _, _, _, _, h15⟩ := k1.1
    refine mw_has k1 hu kr (fun n => absurd o n) (fun _ n => br_f (by decide) ?_) (fun _ v p q s => br_f (by decide) ?_)
    · rcases k2 with ⟨e, _⟩ | ⟨_, w, p, q, s, _⟩
      · refine br_t e (br_t rfl (mw_get k1 hu kr (fun n => absurd o n) (fun _ _ => br_f (by decide) (br_t e (ml_918 k hu (Or.inl ⟨rfl, o⟩) hJ))) (fun _ w p q s => absurd s (n w p q))))
      · exact absurd s (n w p q)
    · rcases k2 with ⟨_, n⟩ | ⟨e, w, p', q', s', e'⟩
      · exact absurd s (n v p q)
      · refine br_f e (br_t rfl (mw_get k1 hu kr (fun n => absurd o n) (fun _ n => absurd s (n v p q)) (fun _ y p2 q2 s2 => br_f (by decide) (br_f e ?_))))
        rw [h15 u o y w p2 p' (by rw [q2, q']) s2 s', e']
        exact ml_918 k hu (Or.inl ⟨rfl, o⟩) hJ
  · subst e
    refine mw_has k1 hu kr (fun n => br_t rfl (br_t rfl ?_)) (fun n => absurd n o) (fun n => absurd n o)
    exact mw_get k1 hu kr (fun n => br_t rfl (ml_918 k hu (Or.inr ⟨rfl, o⟩) hJ)) (fun n => absurd n o) (fun n => absurd n o)
theorem ml_825 {z : Int32} (k : ml_K row x3 x4 x6 x7 x8 C R a1 a2 a3 a4 a5 a6 a7 a8 a9 a10 a11) (hJ : J42 x3 x4 x6 x7 x8 (x9 + 2) C R a1 a2 a3 a4 a5 a6 a7 a8 a9 a10 a11 a12) : wL_law_825 post L xs J42 row x3 x4 x6 x7 x8 x9 z z kc ks C R a1 a2 a3 a4 a5 a6 a7 a8 a9 a10 a11 a12 := by
  refine br_t rfl ?_
  refine pk_loop (σ := Unit) (fun n i _ => wL_law_833 post L xs J42 row x3 x4 x6 x7 x8 x9 kc ks C R a1 a2 a3 a4 a5 a6 a7 a8 a9 a10 a11 a12 n (nI i)) (fun _ _ => True) 4 0 () (by omega) trivial ?_ ?_
  · intro n _ _
    exact pk_le 4 4 (fun _ => nm_e hJ) (fun z => absurd z (by omega))
  · intro n i _ hi _ hw
    refine pk_le 4 i (fun z => absurd z (by omega)) (fun _ => ek_if (mb_t (show i < 32 by omega)) (fun b => ?_) (fun b => ?_))
    · exact ml_855 k hi (Or.inl ⟨rfl, (k.2.2.2.2.1 i (by omega)).mp b⟩) (hw () trivial)
    · exact ml_855 k hi (Or.inr ⟨rfl, fun o => b ((k.2.2.2.2.1 i (by omega)).mpr o)⟩) (hw () trivial)
theorem ml_802 {z y : Int32} (e : z = y) (k : ml_K row x3 x4 x6 x7 x8 C R a1 a2 a3 a4 a5 a6 a7 a8 a9 a10 a11) (hJ : J42 x3 x4 x6 x7 x8 (x9 + 2) C R a1 a2 a3 a4 a5 a6 a7 a8 a9 a10 a11 a12) : wL_law_802 post L xs J42 row x3 x4 x6 x7 x8 x9 z y kc ks C R a1 a2 a3 a4 a5 a6 a7 a8 a9 a10 a11 a12 :=
  br_t e (mw_committed k.1 k.2.1 k.2.2.2.1 (fun w => br_t w (ml_825 k hJ)) (fun w => br_f w (ml_825 k hJ)))
end
end
section
/-! ===== the law: put, drop, add ===== -/
def ml_J (J42 : ml_JT) (row x9 : Int32) : Prop := ∀ (x3 : Int32) (x4 : Int64) (x6 x7 x8 : Int32) (C R : Int64) (a1 a2 a3 a4 a5 a6 : Nat → Int32) (a7 : Nat → Int64) (a8 a9 a10 a11 a12 : Nat → Int32),
  ml_K row x3 x4 x6 x7 x8 C R a1 a2 a3 a4 a5 a6 a7 a8 a9 a10 a11 → J42 x3 x4 x6 x7 x8 (x9 + 2) C R a1 a2 a3 a4 a5 a6 a7 a8 a9 a10 a11 a12
def ml_up (a6 : Nat → Int32) (t : Nat) (x15 : Int32) : Prop := (x15 = 1 ∧ mw_O a6 t) ∨ (x15 = 0 ∧ ¬ mw_O a6 t)
def ml_G (a6 a10 a11 : Nat → Int32) (t : Nat) (r g : Int32) : Prop :=
  (¬ mw_O a6 t ∧ g = -2) ∨ (mw_O a6 t ∧ mw_Busy a6 a10 t r ∧ g = -4) ∨ (mw_O a6 t ∧ ¬ mw_Busy a6 a10 t r ∧ mw_V a11 t r ∧ g = -5) ∨ (mw_O a6 t ∧ ¬ mw_Busy a6 a10 t r ∧ ¬ mw_V a11 t r ∧ g = 0)
def ml_th (a1 a2 a4 a5 a6 : Nat → Int32) (a7 : Nat → Int64) (a9 : Nat → Int32) (t : Nat) (r x20 : Int32) : Prop :=
  (x20 = 1 ∧ mw_O a6 t ∧ mw_Some a1 a2 a4 a5 a7 a9 t r) ∨ (x20 = 0 ∧ (mw_O a6 t → mw_None a1 a2 a4 a5 a7 a9 t r))
section
variable {post : Int32 → Prop} {L : Nat} {xs : Nat → Int32} {J42 : ml_JT} {row x3 : Int32} {x4 : Int64} {x6 x7 x8 x9 : Int32} {kc ks : Nat} {C R : Int64} {a1 a2 a3 a4 a5 a6 : Nat → Int32} {a7 : Nat → Int64} {a8 a9 a10 a11 a12 : Nat → Int32}
theorem ml_K_wr {C' : Int64} {a1' a2' a3' a4' a5' : Nat → Int32} {a7' : Nat → Int64} {t : Nat} {r x : Int32} (k : ml_K row x3 x4 x6 x7 x8 C R a1 a2 a3 a4 a5 a6 a7 a8 a9 a10 a11) (o : mw_O a6 t) (hr : vp_in r 8) (hx : vp_in x 65536)
    (i1 : mw_Inv C' R a1' a2' a4' a5' a6 a7' a8 a9 (upd a10 (t * 4) (a10 (t * 4) ||| ((1 : Int32) <<< (r &&& 31)))) a11) (i2 : mw_Wr t r x a6 a9 C a1 a2 a3 a4 a5 a7 C' a1' a2' a3' a4' a5' a7') :
    ml_K row x3 (if r = row then ml_with x4 t x else x4) x6 (x7 ||| ((1 : Int32) <<< ((8 * nI t + r) &&& 31))) x8 C' R a1' a2' a3' a4' a5' a6 a7' a8 a9 (upd a10 (t * 4) (a10 (t * 4) ||| ((1 : Int32) <<< (r &&& 31)))) a11 := by
  obtain ⟨k1, k2, k3, k4, k5, k6⟩ := k
  obtain ⟨w1, w2, w3, w4⟩ := i2
  refine ⟨i1, k2, k3, w1 _ _ k4, k5, fun u hu => ?_⟩
  obtain ⟨p1, p2, p3⟩ := k6 u hu
  obtain ⟨q, hq, e⟩ := vp_in_of hr (by omega)
  refine ⟨?_, ?_, p3⟩
  · by_cases c : r = row
    · rw [if_pos c, ml_part_with o.1 hu.1 hx]
      by_cases d : u = t
      · rw [if_pos d, d, ← c]
        exact w4
      · rw [if_neg d]
        exact w2 u hu d _ _ p1
    · rw [if_neg c]
      by_cases d : u = t
      · rw [d] at p1 ⊢
        exact w3 _ _ (fun z => c z.symm) p1
      · exact w2 u hu d _ _ p1
  · rw [e, ml_byte_set o.1 hu.1 hq]
    by_cases d : u = t
    · rw [if_pos d, d, pk_us, ← d, p2]
    · rw [if_neg d, pk_un (by omega), p2]
theorem ml_535n {x10 x12 x13 x14 g : Int32} (hg : g < 0) (k : ml_K row x3 x4 x6 x7 x8 C R a1 a2 a3 a4 a5 a6 a7 a8 a9 a10 a11) (hJ : ml_J J42 row x9) : wL_law_535 post L xs J42 row x3 x4 x6 x7 x8 x9 x10 x12 x13 x14 g g kc ks C R a1 a2 a3 a4 a5 a6 a7 a8 a9 a10 a11 a12 := by
  refine br_t hg (br_t hg ?_)
  unfold wL_law_608 wL_law_610
  exact ml_802 rfl k (hJ _ _ _ _ _ _ _ _ _ _ _ _ _ _ _ _ _ _ _ k)
theorem ml_510n {x10 x12 x13 x14 x20 g : Int32} (hg : g < 0) (k : ml_K row x3 x4 x6 x7 x8 C R a1 a2 a3 a4 a5 a6 a7 a8 a9 a10 a11) (hJ : ml_J J42 row x9) : wL_law_510 post L xs J42 row x3 x4 x6 x7 x8 x9 x10 x12 x13 x14 x20 g g kc ks C R a1 a2 a3 a4 a5 a6 a7 a8 a9 a10 a11 a12 := by
  refine br_f (fun z => ?_) ?_
  · rw [z] at hg
    exact absurd hg (by decide)
  · unfold wL_law_533
    exact ml_535n hg k hJ
theorem ml_479a {x10 x12 x13 x14 x19 x20 : Int32} (k : ml_K row x3 x4 x6 x7 x8 C R a1 a2 a3 a4 a5 a6 a7 a8 a9 a10 a11) (hJ : ml_J J42 row x9) : wL_law_479 post L xs J42 row x3 x4 x6 x7 x8 x9 x10 x12 x13 x14 0 x19 x20 (-2) kc ks C R a1 a2 a3 a4 a5 a6 a7 a8 a9 a10 a11 a12 :=
  br_t rfl (ml_510n (by decide) k hJ)
theorem ml_479b {x12 x13 x14 x19 : Int32} {o : Nat} (h8 : 8 ≤ o) (h16 : o < 16) (k : ml_K row x3 x4 x6 x7 x8 C R a1 a2 a3 a4 a5 a6 a7 a8 a9 a10 a11) (hJ : ml_J J42 row x9) : wL_law_479 post L xs J42 row x3 x4 x6 x7 x8 x9 (nI o) x12 x13 x14 1 x19 0 (-3) kc ks C R a1 a2 a3 a4 a5 a6 a7 a8 a9 a10 a11 a12 :=
  br_f (by decide) (pk_le o 7 (fun z => absurd z (by omega)) (fun _ => br_t rfl (ml_510n (by decide) k hJ)))
theorem ml_479c {x12 x13 x14 x20 g : Int32} {o : Nat} (h8 : o < 8 ∨ x20 = 1) (h16 : o < 16) (hg : g < 0) (k : ml_K row x3 x4 x6 x7 x8 C R a1 a2 a3 a4 a5 a6 a7 a8 a9 a10 a11) (hJ : ml_J J42 row x9) : wL_law_479 post L xs J42 row x3 x4 x6 x7 x8 x9 (nI o) x12 x13 x14 1 g x20 g kc ks C R a1 a2 a3 a4 a5 a6 a7 a8 a9 a10 a11 a12 := by
  refine br_f (by decide) (pk_le o 7 (fun z => ?_) (fun z => br_f (by rw [h8.resolve_left (by omega)]; decide) ?_))
  · unfold wL_law_508
    exact ml_510n hg k hJ
  · unfold wL_law_508
    exact ml_510n hg k hJ
/-- the value that the law takes down -/
def ml_x (o : Nat) (x14 x : Int32) : Prop := (10 ≤ o ∧ x = 1) ∨ (8 ≤ o ∧ o < 10 ∧ x = 65535) ∨ (o < 8 ∧ x = x14)
theorem ml_535p {x14 r x g : Int32} {t o : Nat} (h16 : o < 16) (hg : ¬ g < 0) (hx : ml_x o x14 x) (k : ml_K row x3 (if r = row then ml_with x4 t x else x4) x6 (x7 ||| ((1 : Int32) <<< ((8 * nI t + r) &&& 31))) x8 C R a1 a2 a3 a4 a5 a6 a7 a8 a9 a10 a11) (hJ : ml_J J42 row x9) : wL_law_535 post L xs J42 row x3 x4 x6 x7 x8 x9 (nI o) (nI t) r x14 g g kc ks C R a1 a2 a3 a4 a5 a6 a7 a8 a9 a10 a11 a12 := by
  refine br_f hg (br_f hg (br_c (fun c => ?_) (fun c => ?_)))
  · rw [if_pos c] at k
    have fin : ∀ y, y = x → wL_law_602 post L xs J42 row x3 x6 (x7 ||| ((1 : Int32) <<< ((8 * nI t + r) &&& 31))) x8 x9 g g y (nI t) x4 kc ks C R a1 a2 a3 a4 a5 a6 a7 a8 a9 a10 a11 a12 := by
      intro y e
      rw [e]
      unfold wL_law_602
      refine ml_wwith ?_
      unfold wL_law_610
      exact ml_802 rfl k (hJ _ _ _ _ _ _ _ _ _ _ _ _ _ _ _ _ _ _ _ k)
    refine pk_le 8 o (fun z => pk_le 10 o (fun y => fin _ ?_) (fun y => fin _ ?_)) (fun z => fin _ ?_)
    · rcases hx with h | h | h
      · exact h.2.symm
      · exact absurd h.2.1 (by omega)
      · exact absurd h.1 (by omega)
    · rcases hx with h | h | h
      · exact absurd h.1 (by omega)
      · exact h.2.2.symm
      · exact absurd h.1 (by omega)
    · rcases hx with h | h | h
      · exact absurd h.1 (by omega)
      · exact absurd h.1 (by omega)
      · exact h.2.symm
  · rw [if_neg c] at k
    unfold wL_law_608 wL_law_610
    exact ml_802 rfl k (hJ _ _ _ _ _ _ _ _ _ _ _ _ _ _ _ _ _ _ _ k)
theorem ml_479p {x14 r x z x20 : Int32} {t o : Nat} (h16 : o < 16) (hz : (o < 8 ∧ ((z = 1 ∧ x20 = 1) ∨ (z = 0 ∧ x20 = 0))) ∨ (8 ≤ o ∧ x20 = 1 ∧ z = 0)) (hx : ml_x o x14 x) (k : ml_K row x3 (if r = row then ml_with x4 t x else x4) x6 (x7 ||| ((1 : Int32) <<< ((8 * nI t + r) &&& 31))) x8 C R a1 a2 a3 a4 a5 a6 a7 a8 a9 a10 a11) (hJ : ml_J J42 row x9) : wL_law_479 post L xs J42 row x3 x4 x6 x7 x8 x9 (nI o) (nI t) r x14 1 0 x20 z kc ks C R a1 a2 a3 a4 a5 a6 a7 a8 a9 a10 a11 a12 := by
  have k510 : wL_law_510 post L xs J42 row x3 x4 x6 x7 x8 x9 (nI o) (nI t) r x14 x20 z 0 kc ks C R a1 a2 a3 a4 a5 a6 a7 a8 a9 a10 a11 a12 := by
    refine br_t rfl (pk_le 8 o (fun y => ?_) (fun y => br_c (fun e => ?_) (fun e => ?_)))
    · rcases hz with h | h
      · exact absurd h.1 (by omega)
      · rw [h.2.2]
        unfold wL_law_533
        exact ml_535p h16 (by decide) hx k hJ
    · rcases hz with ⟨_, h | h⟩ | h
      · rw [h.2] at e
        exact absurd e (by decide)
      · rw [h.1]
        unfold wL_law_533
        exact ml_535p h16 (by decide) hx k hJ
      · exact absurd h.1 (by omega)
    · rcases hz with ⟨_, h | h⟩ | h
      · rw [h.1]
        exact ml_535p h16 (by decide) hx k hJ
      · exact absurd h.2 e
      · exact absurd h.1 (by omega)
  refine br_f (by decide) (pk_le o 7 (fun y => ?_) (fun y => br_f (fun e => ?_) ?_))
  · unfold wL_law_508
    exact k510
  · rcases hz with h | h
    · exact absurd h.1 (by omega)
    · rw [h.2.1] at e
      exact absurd e (by decide)
  · unfold wL_law_508
    exact k510
theorem ml_427 {x15 x19 x20 r small : Int32} {t o q : Nat} (h16 : o < 16) (ht : t < 4) (hr : vp_in r 8) (hq : q < 1024) (k : ml_K row x3 x4 x6 x7 x8 C R a1 a2 a3 a4 a5 a6 a7 a8 a9 a10 a11) (hup : ml_up a6 t x15) (hG : ml_G a6 a10 a11 t r x19) (hth : ml_th a1 a2 a4 a5 a6 a7 a9 t r x20)
    (hsm : 10 ≤ o → mw_O a6 t → ∀ v, mw_U a1 v → a2 v = r → mh_see (mh_own (mw_S a7) (mw_N a9) t) (a4 v) (a5 v) → a3 v + (1 - small) = 1) (hJ : ml_J J42 row x9) :
    wL_law_427 post L xs J42 row x3 x4 x6 x7 x8 x9 (nI o) (nI t) r (nI q) x15 x19 x20 small kc ks C R a1 a2 a3 a4 a5 a6 a7 a8 a9 a10 a11 a12 := by
  have u0 : ¬ mw_O a6 t → x15 = 0 := fun n => hup.elim (fun z => absurd z.2 n) (fun z => z.1)
  have u1 : mw_O a6 t → x15 = 1 := fun n => hup.elim (fun z => z.1) (fun z => absurd n z.2)
  have g4 : mw_O a6 t → mw_Busy a6 a10 t r → x19 = -4 := by
    intro a b
    rcases hG with h | h | h | h
    · exact absurd a h.1
    · exact h.2.2
    · exact absurd b h.2.1
    · exact absurd b h.2.1
  have g5 : mw_O a6 t → ¬ mw_Busy a6 a10 t r → mw_V a11 t r → x19 = -5 := by
    intro a b c
    rcases hG with h | h | h | h
    · exact absurd a h.1
    · exact absurd h.2.1 b
    · exact h.2.2.2
    · exact absurd c h.2.2.1
  have g0 : mw_O a6 t → ¬ mw_Busy a6 a10 t r → ¬ mw_V a11 t r → x19 = 0 := by
    intro a b c
    rcases hG with h | h | h | h
    · exact absurd a h.1
    · exact absurd h.2.1 b
    · exact absurd h.2.2.1 c
    · exact h.2.2.2
  have s1 : mw_O a6 t → mw_Some a1 a2 a4 a5 a7 a9 t r → x20 = 1 := by
    intro a ⟨v, b, c, d⟩
    rcases hth with h | h
    · exact h.1
    · exact absurd d (h.2 a v b c)
  have s0 : mw_O a6 t → mw_None a1 a2 a4 a5 a7 a9 t r → x20 = 0 := by
    intro a n
    rcases hth with ⟨_, _, v, b, c, d⟩ | h
    · exact absurd d (n v b c)
    · exact h.1
  refine pk_le 8 o (fun h8 => pk_le 10 o (fun h10 => ?_) (fun h10 => ?_)) (fun h8 => ?_)
  · refine mw_add (x := 1) k.1 ht hr (by decide) (hsm h10) (fun n => ?_) (fun a b => ?_) (fun a b c => ?_) (fun a b c d => ?_) (fun a b c d C' a1' a2' a3' a4' a5' a7' a12' i1 i2 => ?_)
    · rw [u0 n]; exact ml_479a k hJ
    · rw [u1 a, s0 a b]; exact ml_479b h8 h16 k hJ
    · rw [u1 a, g4 a c]; exact ml_479c (Or.inr (s1 a b)) h16 (by decide) k hJ
    · rw [u1 a, g5 a c d]; exact ml_479c (Or.inr (s1 a b)) h16 (by decide) k hJ
    · rw [u1 a, g0 a c d]
      exact ml_479p (x := 1) h16 (Or.inr ⟨h8, s1 a b, rfl⟩) (Or.inl ⟨h10, rfl⟩) (ml_K_wr k a hr (vp_in_iff.mpr (by decide)) i1 i2) hJ
  · refine mw_drop k.1 ht hr (fun n => ?_) (fun a b => ?_) (fun a b c => ?_) (fun a b c d => ?_) (fun a b c d a5' i1 i2 => ?_)
    · rw [u0 n]; exact ml_479a k hJ
    · rw [u1 a, s0 a b]; exact ml_479b h8 h16 k hJ
    · rw [u1 a, g4 a c]; exact ml_479c (Or.inr (s1 a b)) h16 (by decide) k hJ
    · rw [u1 a, g5 a c d]; exact ml_479c (Or.inr (s1 a b)) h16 (by decide) k hJ
    · rw [u1 a, g0 a c d]
      exact ml_479p (x := 65535) h16 (Or.inr ⟨h8, s1 a b, rfl⟩) (Or.inr (Or.inl ⟨h8, h10, rfl⟩)) (ml_K_wr k a hr (vp_in_iff.mpr (by decide)) i1 i2) hJ
  · have hne : nI q ≠ 65535 := fun e => absurd ((nI_eq (show q < 2 ^ 31 by omega) (show 65535 < 2 ^ 31 by omega)).mp e) (by omega)
    refine mw_put k.1 ht hr hne (fun n => ?_) (fun a c => ?_) (fun a c d => ?_) (fun a c d z hz C' a1' a2' a3' a4' a5' a7' a12' i1 i2 => ?_)
    · rw [u0 n]; exact ml_479a k hJ
    · rw [u1 a, g4 a c]; exact ml_479c (Or.inl h8) h16 (by decide) k hJ
    · rw [u1 a, g5 a c d]; exact ml_479c (Or.inl h8) h16 (by decide) k hJ
    · rw [u1 a, g0 a c d]
      refine ml_479p (x := nI q) h16 (Or.inl ⟨h8, ?_⟩) (Or.inr (Or.inr ⟨h8, rfl⟩)) (ml_K_wr k a hr (vp_in_nI (by omega) (by omega)) i1 i2) hJ
      exact hz.imp (fun y => ⟨y.1, s1 a y.2⟩) (fun y => ⟨y.1, s0 a y.2⟩)
end
end
section
/-! ===== the law: open, commit, abort, crash, vacuum and flush ===== -/
section
variable {post : Int32 → Prop} {L : Nat} {xs : Nat → Int32} {J42 : ml_JT} {row x3 : Int32} {x4 : Int64} {x6 x7 x8 x9 : Int32} {kc ks : Nat} {C R : Int64} {a1 a2 a3 a4 a5 a6 : Nat → Int32} {a7 : Nat → Int64} {a8 a9 a10 a11 a12 : Nat → Int32}
theorem ml_fin {z y : Int32} (e : z = y) (k : ml_K row x3 x4 x6 x7 x8 C R a1 a2 a3 a4 a5 a6 a7 a8 a9 a10 a11) (hJ : ml_J J42 row x9) : wL_law_802 post L xs J42 row x3 x4 x6 x7 x8 x9 z y kc ks C R a1 a2 a3 a4 a5 a6 a7 a8 a9 a10 a11 a12 :=
  ml_802 e k (hJ _ _ _ _ _ _ _ _ _ _ _ _ _ _ _ _ _ _ _ k)
/-- t was open already -/
theorem ml_310o {t : Nat} (o : mw_O a6 t) (k : ml_K row x3 x4 x6 x7 x8 C R a1 a2 a3 a4 a5 a6 a7 a8 a9 a10 a11) (hJ : ml_J J42 row x9) : wL_law_310 post L xs J42 row x3 x4 x6 x7 x8 x9 (nI t) 1 (-2) (-2) kc ks C R a1 a2 a3 a4 a5 a6 a7 a8 a9 a10 a11 a12 := by
  refine br_f (by decide) (br_f (by decide) (br_f (by decide) (nm_e (ml_fin rfl ?_ hJ))))
  obtain ⟨k1, k2, k3, k4, k5, k6⟩ := k
  refine ⟨k1, k2, k3, k4, fun i hi => ?_, k6⟩
  have := o.1
  rw [ml_bset (by omega) hi, k5 i hi]
  exact ⟨fun z => z.elim id (fun y => by rw [y]; exact o), Or.inl⟩
theorem ml_310n {t : Nat} {C' R' : Int64} {a1' a4' a5' a9' : Nat → Int32} {a7' : Nat → Int64} (ht : t < 4) (k : ml_K row x3 x4 x6 x7 x8 C R a1 a2 a3 a4 a5 a6 a7 a8 a9 a10 a11) (i1 : mw_Inv C' R' a1' a2 a4' a5' (upd a6 t 1) a7' (upd a8 t 0) a9' (upd a10 (t * 4) 0) (upd a11 t 0))
    (v1 : ∀ q c, mh_vw (mw_U a1) a2 a3 a4 a5 (mb_in C) q c → mh_vw (mw_U a1') a2 a3 a4' a5' (mb_in C') q c)
    (v2 : ∀ q c, mh_vw (mw_U a1) a2 a3 a4 a5 (mb_in C) q c → mh_vw (mw_U a1') a2 a3 a4' a5' (mh_own (mw_S a7') (mw_N a9') t) q c)
    (v3 : ∀ u, mw_O a6 u → ∀ q c, mh_vw (mw_U a1) a2 a3 a4 a5 (mh_own (mw_S a7) (mw_N a9) u) q c → mh_vw (mw_U a1') a2 a3 a4' a5' (mh_own (mw_S a7') (mw_N a9') u) q c) (hJ : ml_J J42 row x9) :
    wL_law_310 post L xs J42 row x3 x4 x6 x7 x8 x9 (nI t) 0 0 0 kc ks C' R' a1' a2 a3 a4' a5' (upd a6 t 1) a7' (upd a8 t 0) a9' (upd a10 (t * 4) 0) (upd a11 t 0) a12 := by
  refine br_t rfl (ml_wwith (br_t rfl (br_t rfl (nm_e (ml_fin rfl ?_ hJ)))))
  obtain ⟨k1, k2, k3, k4, k5, k6⟩ := k
  have eO : ∀ u, mw_O (upd a6 t 1) u ↔ mw_O a6 u ∨ u = t := by
    intro u
    unfold mw_O
    by_cases e : u = t
    · subst e; rw [pk_us]; exact ⟨fun _ => Or.inr rfl, fun _ => ⟨ht, by decide⟩⟩
    · rw [pk_un e]; exact ⟨Or.inl, fun z => z.resolve_right e⟩
  refine ⟨i1, k2, k3, v1 _ _ k4, fun i hi => ?_, fun u hu => ?_⟩
  · rw [ml_bset (by omega) hi, k5 i hi, eO]
  · rw [ml_part_with ht hu.1 k3, ml_byte_clr ht hu.1, ml_byte_clr ht hu.1]
    by_cases e : u = t
    · subst e
      rw [if_pos rfl, if_pos rfl, if_pos rfl, pk_us, pk_us]
      exact ⟨v2 _ _ k4, rfl, rfl⟩
    · rw [if_neg e, if_neg e, if_neg e, pk_un (by omega), pk_un e]
      have o := ((eO u).mp hu).resolve_right e
      exact ⟨v3 u o _ _ (k6 u o).1, (k6 u o).2⟩
/-- closing a transaction that isn't open changes no bit -/
theorem ml_Kclosed {t : Nat} (ht : t < 4) (n : ¬ mw_O a6 t) (k : ml_K row x3 x4 x6 x7 x8 C R a1 a2 a3 a4 a5 a6 a7 a8 a9 a10 a11) : ml_K row x3 x4 (x6 &&& (((1 : Int32) <<< (nI t &&& 31)) ^^^ (-1))) x7 x8 C R a1 a2 a3 a4 a5 a6 a7 a8 a9 a10 a11 := by
  obtain ⟨k1, k2, k3, k4, k5, k6⟩ := k
  refine ⟨k1, k2, k3, k4, fun i hi => ?_, k6⟩
  rw [ml_bclr (by omega) hi, k5 i hi]
  exact ⟨fun z => z.1, fun z => ⟨z, fun e => n (e ▸ z)⟩⟩
theorem ml_Oclr {t i : Nat} (ht : t < 4) (hi : i < 32) (k5 : ∀ i, i < 32 → (mb_b x6 i = true ↔ mw_O a6 i)) : mb_b (x6 &&& (((1 : Int32) <<< (nI t &&& 31)) ^^^ (-1))) i = true ↔ mw_O (upd a6 t 0) i := by
  rw [ml_bclr (by omega) hi, k5 i hi, mw_Oclose]
theorem ml_Kabort {t : Nat} {R' : Int64} (ht : t < 4) (k : ml_K row x3 x4 x6 x7 x8 C R a1 a2 a3 a4 a5 a6 a7 a8 a9 a10 a11) (i1 : mw_Inv C R' a1 a2 a4 a5 (upd a6 t 0) a7 a8 a9 a10 a11) : ml_K row x3 x4 (x6 &&& (((1 : Int32) <<< (nI t &&& 31)) ^^^ (-1))) x7 x8 C R' a1 a2 a3 a4 a5 (upd a6 t 0) a7 a8 a9 a10 a11 := by
  obtain ⟨k1, k2, k3, k4, k5, k6⟩ := k
  exact ⟨i1, k2, k3, k4, fun i hi => ml_Oclr ht hi k5, fun u hu => k6 u (mw_Oclose.mp hu).1⟩
theorem ml_672 {t : Nat} {x15 x16 x21 x22 : Int32} (hy : ∀ i, 8 ≤ i → i < 32 → mb_b x16 i = false) (H : ∀ y, (x15 = 0 ∧ y = x8) ∨ (x15 ≠ 0 ∧ ∀ u, u < 4 → ml_byte y u = ml_byte x8 u ||| x16) → wL_law_802 post L xs J42 row x3 x4 (x6 &&& (((1 : Int32) <<< (nI t &&& 31)) ^^^ (-1))) x7 y x9 x21 x22 kc ks C R a1 a2 a3 a4 a5 a6 a7 a8 a9 a10 a11 a12) :
    ∃ n, wL_law_672 post L xs J42 row x3 x4 x6 x7 x9 (nI t) x15 x16 x21 x22 kc ks C R a1 a2 a3 a4 a5 a6 a7 a8 a9 a10 a11 a12 n x8 0 := by
  refine pk_loop (σ := Int32) (fun n i y => wL_law_672 post L xs J42 row x3 x4 x6 x7 x9 (nI t) x15 x16 x21 x22 kc ks C R a1 a2 a3 a4 a5 a6 a7 a8 a9 a10 a11 a12 n y (nI i)) (fun i y => (x15 = 0 ∧ y = x8) ∨ (x15 ≠ 0 ∧ ∀ u, u < 4 → ml_byte y u = if u < i then ml_byte x8 u ||| x16 else ml_byte x8 u)) 4 0 x8 (by omega) ?_ ?_ ?_
  · by_cases e : x15 = 0
    · exact Or.inl ⟨e, rfl⟩
    · exact Or.inr ⟨e, fun u _ => (if_neg (by omega)).symm⟩
  · intro n y h
    exact pk_le 4 4 (fun _ => nm_e (H y (h.imp id (fun z => ⟨z.1, fun u hu => (z.2 u hu).trans (if_pos hu)⟩)))) (fun z => absurd z (by omega))
  · intro n i y hi h hw
    refine pk_le 4 i (fun z => absurd z (by omega)) (fun _ => br_c (fun e => nm_r (nI_1 i) (hw y ?_)) (fun e => nm_e (nm_r (nI_1 i) (hw _ ?_))))
    · exact h.elim Or.inl (fun z => absurd e z.1)
    · refine Or.inr ⟨e, fun u hu => ?_⟩
      have h2 := (h.elim (fun z => absurd z.1 e) (fun z => z)).2
      rw [ml_byte_or hi hu hy]
      by_cases d : u = i
      · subst d
        rw [if_pos rfl, if_pos (by omega), h2 u hu, if_neg (by omega)]
      · rw [if_neg d, h2 u hu]
        by_cases c : u < i
        · rw [if_pos c, if_pos (by omega)]
        · rw [if_neg c, if_neg (by omega)]
theorem ml_Kcommit {t : Nat} {y3 y8 : Int32} {C' R' : Int64} {a11' : Nat → Int32} (ht : t < 4) (k : ml_K row x3 x4 x6 x7 x8 C R a1 a2 a3 a4 a5 a6 a7 a8 a9 a10 a11) (i1 : mw_Inv C' R' a1 a2 a4 a5 (upd a6 t 0) a7 a8 a9 a10 a11') (e3 : vp_in y3 65536) (e4 : mh_vw (mw_U a1) a2 a3 a4 a5 (mb_in C') row y3)
    (e8 : ∀ u, u < 4 → ml_byte y8 u = ml_byte x8 u ||| a10 (t * 4)) (e11 : ∀ u, u < 4 → a11' u = a11 u ||| a10 (t * 4)) : ml_K row y3 x4 (x6 &&& (((1 : Int32) <<< (nI t &&& 31)) ^^^ (-1))) x7 y8 C' R' a1 a2 a3 a4 a5 (upd a6 t 0) a7 a8 a9 a10 a11' := by
  obtain ⟨k1, k2, k3, k4, k5, k6⟩ := k
  refine ⟨i1, k2, e3, e4, fun i hi => ml_Oclr ht hi k5, fun u hu => ?_⟩
  obtain ⟨p1, p2, p3⟩ := k6 u (mw_Oclose.mp hu).1
  exact ⟨p1, p2, by rw [e11 u hu.1, e8 u hu.1, p3]⟩
theorem ml_645o {t : Nat} {x21 : Int32} {C' R' : Int64} {a11' : Nat → Int32} (ht : t < 4) (o : mw_O a6 t) (k : ml_K row x3 x4 x6 x7 x8 C R a1 a2 a3 a4 a5 a6 a7 a8 a9 a10 a11) (e11 : ∀ u, u < 4 → a11' u = a11 u ||| a10 (t * 4)) (i1 : mw_Inv C' R' a1 a2 a4 a5 (upd a6 t 0) a7 a8 a9 a10 a11')
    (v1 : ∀ q c, mw_T a10 t q → mh_vw (mw_U a1) a2 a3 a4 a5 (mh_own (mw_S a7) (mw_N a9) t) q c → mh_vw (mw_U a1) a2 a3 a4 a5 (mb_in C') q c)
    (v2 : ∀ q c, ¬ mw_T a10 t q → mh_vw (mw_U a1) a2 a3 a4 a5 (mb_in C) q c → mh_vw (mw_U a1) a2 a3 a4 a5 (mb_in C') q c) (hJ : ml_J J42 row x9) :
    wL_law_645 post L xs J42 row x3 x4 x6 x7 x8 x9 (nI t) 1 (ml_byte x7 t) (ml_part x4 t) x21 x21 kc ks C' R' a1 a2 a3 a4 a5 (upd a6 t 0) a7 a8 a9 a10 a11' a12 := by
  have e10 := (k.2.2.2.2.2 t o).2.1
  refine br_f (by decide) (ek_if (mb_r_t k.2.1) (fun b => ?_) (fun b => ?_))
  · refine ml_672 (ml_byte_hi ht) (fun y hy => ml_fin rfl (ml_Kcommit ht k i1 (ml_part_in ht) (v1 _ _ ?_ (k.2.2.2.2.2 t o).1) ?_ e11) hJ)
    · unfold mw_T
      rw [e10]
      exact b
    · rw [e10]
      exact (hy.elim (fun z => absurd z.1 (by decide)) (fun z => z)).2
  · refine ml_672 (ml_byte_hi ht) (fun y hy => ml_fin rfl (ml_Kcommit ht k i1 k.2.2.1 (v2 _ _ ?_ k.2.2.2.1) ?_ e11) hJ)
    · unfold mw_T
      rw [e10]
      exact b
    · rw [e10]
      exact (hy.elim (fun z => absurd z.1 (by decide)) (fun z => z)).2
theorem ml_645n {t : Nat} {x17 : Int32} (ht : t < 4) (n : ¬ mw_O a6 t) (k : ml_K row x3 x4 x6 x7 x8 C R a1 a2 a3 a4 a5 a6 a7 a8 a9 a10 a11) (hJ : ml_J J42 row x9) : wL_law_645 post L xs J42 row x3 x4 x6 x7 x8 x9 (nI t) 0 (ml_byte x7 t) x17 (-2) (-2) kc ks C R a1 a2 a3 a4 a5 a6 a7 a8 a9 a10 a11 a12 := by
  refine br_t rfl (ml_672 (ml_byte_hi ht) (fun y hy => ml_fin rfl ?_ hJ))
  rcases hy with ⟨_, e⟩ | ⟨e, _⟩
  · rw [e]
    exact ml_Kclosed ht n k
  · exact absurd rfl e
theorem ml_Kcrash {a6' : Nat → Int32} {R' : Int64} (k : ml_K row x3 x4 x6 x7 x8 C R a1 a2 a3 a4 a5 a6 a7 a8 a9 a10 a11) (hn : ∀ t, ¬ mw_O a6' t) (i1 : mw_Inv C R' a1 a2 a4 a5 a6' a7 a8 a9 a10 a11) : ml_K row x3 x4 0 x7 x8 C R' a1 a2 a3 a4 a5 a6' a7 a8 a9 a10 a11 := by
  obtain ⟨k1, k2, k3, k4, k5, k6⟩ := k
  refine ⟨i1, k2, k3, k4, fun i hi => ?_, fun u hu => absurd hu (hn u)⟩
  rw [mb_0]
  exact ⟨fun z => absurd z (by decide), fun z => absurd z (hn i)⟩
theorem ml_KSm {C' : Int64} {a1' a4' a5' : Nat → Int32} {a7' : Nat → Int64} (k : ml_K row x3 x4 x6 x7 x8 C R a1 a2 a3 a4 a5 a6 a7 a8 a9 a10 a11) (i1 : mw_Inv C' R a1' a2 a4' a5' a6 a7' a8 a9 a10 a11) (i2 : mw_Sm a6 a9 C a1 a4 a5 a7 C' a1' a4' a5' a7') : ml_K row x3 x4 x6 x7 x8 C' R a1' a2 a3 a4' a5' a6 a7' a8 a9 a10 a11 := by
  obtain ⟨k1, k2, k3, k4, k5, k6⟩ := k
  exact ⟨i1, k2, k3, mh_sm_vw i2.1 k4, k5, fun u hu => ⟨mh_sm_vw (i2.2 u hu) (k6 u hu).1, (k6 u hu).2⟩⟩
theorem ml_277 {x11 x15 x19 x20 r : Int32} {t o q : Nat} (h16 : o < 16) (ht : t < 4) (hr : vp_in r 8) (hq : q < 1024) (k : ml_K row x3 x4 x6 x7 x8 C R a1 a2 a3 a4 a5 a6 a7 a8 a9 a10 a11) (hup : ml_up a6 t x15) (hG : ml_G a6 a10 a11 t r x19) (hth : ml_th a1 a2 a4 a5 a6 a7 a9 t r x20) (hJ : ml_J J42 row x9) :
    wL_law_277 post L xs J42 row x3 x4 x6 x7 x8 x9 (nI o) x11 (nI t) r (nI q) x15 (ml_byte x7 t) (ml_part x4 t) x19 x20 kc ks C R a1 a2 a3 a4 a5 a6 a7 a8 a9 a10 a11 a12 := by
  have u0 : ¬ mw_O a6 t → x15 = 0 := fun n => hup.elim (fun z => absurd z.2 n) (fun z => z.1)
  have u1 : mw_O a6 t → x15 = 1 := fun n => hup.elim (fun z => z.1) (fun z => absurd n z.2)
  refine pk_le 4 o (fun h4 => pk_le 11 o (fun h11 => pk_le 14 o (fun h14 => pk_eq o 14 (fun e => ?_) (fun e => br_c (fun c => ?_) (fun c => ?_))) (fun h14 => ?_)) (fun h11 => ?_)) (fun h4 => ?_)
  · refine mw_abort k.1 ht (fun n => ?_) (fun a R' i1 => ?_)
    · rw [u0 n]
      exact br_t rfl (nm_e (ml_fin rfl (ml_Kclosed ht n k) hJ))
    · rw [u1 a]
      refine br_f (by decide) (mw_bits (nm_e (ml_fin ?_ (ml_Kabort ht k i1) hJ)))
      rw [(k.2.2.2.2.2 t a).2.1]
  · refine mw_crash k.1 (fun a6' hn i1 => mw_bits (ml_fin ?_ (ml_Kcrash k hn i1) hJ))
    exact ml_cnt k.2.2.2.2.1
  · unfold wpX_vacuum
    dsimp only
    refine mw_tidy k.1 (fun C' a1' a4' a5' a7' a12' i1 i2 _ _ => mw_flush i1 (fun a5'' j1 j2 => ml_fin rfl (ml_KSm (ml_KSm k i1 i2) j1 j2) hJ))
  · refine mw_commit k.1 ht (fun n => ?_) (fun a C' R' a11' e11 i1 v1 v2 => ?_)
    · rw [u0 n]
      exact br_t rfl (ml_645n ht n k hJ)
    · rw [u1 a]
      refine br_f (by decide) (mw_bits ?_)
      rw [(k.2.2.2.2.2 t a).2.1]
      exact ml_645o ht a k e11 i1 v1 v2 hJ
  · refine br_c (fun e => ?_) (fun e => pk_le o 7 (fun z => ?_) (fun z => ?_))
    · unfold wL_law_426
      refine ml_427 h16 ht hr hq k hup hG hth (fun _ a v p1 p2 p3 => ?_) hJ
      rcases hth with h | h
      · rw [h.1] at e
        exact absurd e (by decide)
      · exact absurd p3 (h.2 a v p1 p2)
    · unfold wL_law_426
      exact ml_427 h16 ht hr hq k hup hG hth (fun y => absurd y (by omega)) hJ
    · refine mw_get k.1 ht hr (fun n => ?_) (fun a n => ?_) (fun a v p1 p2 p3 => ?_)
      · rcases hth with h | h
        · exact absurd h.2.1 n
        · exact absurd h.1 e
      · rcases hth with ⟨_, _, v, p1, p2, p3⟩ | h
        · exact absurd p3 (n v p1 p2)
        · exact absurd h.1 e
      · refine ml_427 h16 ht hr hq k hup hG hth (fun _ _ w q1 q2 q3 => ?_) hJ
        obtain ⟨_, _, _, _, _, _, _, _, _, _, _, _, _, _, h15⟩ := k.1.1
        rw [h15 t a w v q1 p1 (by rw [q2, p2]) q3 p3]
        generalize a3 v = y
        grind
  · refine mw_open k.1 ht (fun a => ?_) (fun n C' R' a1' a4' a5' a7' a9' a12' i1 v1 v2 v3 => ?_)
    · rw [u1 a]
      exact br_f (by decide) (ml_310o a k hJ)
    · rw [u0 n]
      exact br_t rfl (ml_310n ht k i1 v1 v2 v3 hJ)
end
end
section
/-! ===== the law: a round's head, the loop, the start ===== -/
section
variable {post : Int32 → Prop} {L : Nat} {xs : Nat → Int32} {J42 : ml_JT} {row x3 : Int32} {x4 : Int64} {x6 x7 x8 x9 : Int32} {kc ks : Nat} {C R : Int64} {a1 a2 a3 a4 a5 a6 : Nat → Int32} {a7 : Nat → Int64} {a8 a9 a10 a11 a12 : Nat → Int32}
theorem ml_254 {x11 x15 x19 r : Int32} {t o q : Nat} (h16 : o < 16) (ht : t < 4) (hr : vp_in r 8) (hq : q < 1024) (k : ml_K row x3 x4 x6 x7 x8 C R a1 a2 a3 a4 a5 a6 a7 a8 a9 a10 a11) (hup : ml_up a6 t x15) (hG : ml_G a6 a10 a11 t r x19) (hJ : ml_J J42 row x9) :
    wL_law_254 post L xs J42 row x3 x4 x6 x7 x8 x9 (nI o) x11 (nI t) r (nI q) x15 (ml_byte x7 t) (ml_part x4 t) x19 kc ks C R a1 a2 a3 a4 a5 a6 a7 a8 a9 a10 a11 a12 := by
  refine br_c (fun e => ?_) (fun e => mw_has k.1 ht hr (fun n => ?_) (fun a n => br_t rfl ?_) (fun a v p1 p2 p3 => br_f (by decide) ?_))
  · unfold wL_law_276
    refine ml_277 h16 ht hr hq k hup hG (Or.inr ⟨rfl, fun a => ?_⟩) hJ
    rcases hup with h | h
    · rw [h.1] at e
      exact absurd e (by decide)
    · exact absurd a h.2
  · rcases hup with h | h
    · exact absurd h.2 n
    · exact absurd h.1 e
  · unfold wL_law_276
    exact ml_277 h16 ht hr hq k hup hG (Or.inr ⟨rfl, fun _ => n⟩) hJ
  · exact ml_277 h16 ht hr hq k hup hG (Or.inl ⟨rfl, a, v, p1, p2, p3⟩) hJ
theorem ml_152 {x11 x15 r : Int32} {t o q : Nat} (h16 : o < 16) (ht : t < 4) (hr : vp_in r 8) (hq : q < 1024) (k : ml_K row x3 x4 x6 x7 x8 C R a1 a2 a3 a4 a5 a6 a7 a8 a9 a10 a11) (hup : ml_up a6 t x15) (hJ : ml_J J42 row x9) :
    ∃ n, wL_law_152 post L xs J42 row x3 x4 x6 x7 x8 x9 (nI o) x11 (nI t) r (nI q) x15 (ml_byte x7 t) (ml_part x4 t) kc ks C R a1 a2 a3 a4 a5 a6 a7 a8 a9 a10 a11 a12 n 0 0 := by
  refine pk_loop (σ := Int32) (fun n i s => wL_law_152 post L xs J42 row x3 x4 x6 x7 x8 x9 (nI o) x11 (nI t) r (nI q) x15 (ml_byte x7 t) (ml_part x4 t) kc ks C R a1 a2 a3 a4 a5 a6 a7 a8 a9 a10 a11 a12 n s (nI i))
    (fun i s => (s = 0 ∧ ∀ u, u < i → mw_O a6 u → u ≠ t → ¬ mw_T a10 u r) ∨ (s = 1 ∧ mw_Busy a6 a10 t r)) 4 0 0 (by omega) (Or.inl ⟨rfl, fun u hu => absurd hu (by omega)⟩) ?_ ?_
  · intro n s h
    refine pk_le 4 4 (fun _ => br_c (fun e => ?_) (fun e => br_c (fun f => ?_) (fun f => ?_))) (fun z => absurd z (by omega))
    · refine ml_254 h16 ht hr hq k hup (Or.inl ⟨fun a => ?_, rfl⟩) hJ
      rcases hup with h | h
      · rw [h.1] at e
        exact absurd e (by decide)
      · exact absurd a h.2
    · have a : mw_O a6 t := hup.elim (fun z => z.2) (fun z => absurd z.1 e)
      have nb : ¬ mw_Busy a6 a10 t r := by
        rintro ⟨u, p1, p2, p3⟩
        rcases h with h | h
        · exact h.2 u p1.1 p1 p2 p3
        · rw [h.1] at f
          exact absurd f (by decide)
      have ev : mw_V a11 t r ↔ mb_r (ml_byte x8 t) r := by
        unfold mw_V
        rw [(k.2.2.2.2.2 t a).2.2]
      exact ek_if (ml_byte_t ht hr) (fun b => ml_254 h16 ht hr hq k hup (Or.inr (Or.inr (Or.inl ⟨a, nb, ev.mpr b, rfl⟩))) hJ) (fun b => ml_254 h16 ht hr hq k hup (Or.inr (Or.inr (Or.inr ⟨a, nb, fun z => b (ev.mp z), rfl⟩))) hJ)
    · have a : mw_O a6 t := hup.elim (fun z => z.2) (fun z => absurd z.1 e)
      exact ml_254 h16 ht hr hq k hup (Or.inr (Or.inl ⟨a, (h.resolve_left (fun z => f z.1)).2, rfl⟩)) hJ
  · intro n i s hi h hw
    refine pk_le 4 i (fun z => absurd z (by omega)) (fun _ => br_c (fun f => ?_) (fun f => nm_r (nI_1 i) (hw 1 (Or.inr ⟨rfl, (h.resolve_left (fun z => f z.1)).2⟩))))
    have h0 : ∀ u, u < i → mw_O a6 u → u ≠ t → ¬ mw_T a10 u r := by
      rcases h with h | h
      · exact h.2
      · rw [h.1] at f
        exact absurd f (by decide)
    refine pk_eq i t (fun e => nm_r (nI_1 i) (hw 0 (Or.inl ⟨rfl, lt_s h0 (fun _ z => absurd e z)⟩))) (fun e => ek_if (mb_t (show i < 32 by omega)) (fun b => ek_if (ml_byte_t hi hr) (fun c => nm_r (nI_1 i) (hw 1 (Or.inr ⟨rfl, ?_⟩))) (fun c => nm_r (nI_1 i) (hw 0 (Or.inl ⟨rfl, lt_s h0 (fun a _ z => ?_)⟩)))) (fun b => nm_r (nI_1 i) (hw 0 (Or.inl ⟨rfl, lt_s h0 (fun a => ?_)⟩))))
    · have a := (k.2.2.2.2.1 i (by omega)).mp b
      refine ⟨i, a, e, ?_⟩
      unfold mw_T
      rw [(k.2.2.2.2.2 i a).2.1]
      exact c
    · unfold mw_T at z
      rw [(k.2.2.2.2.2 i a).2.1] at z
      exact c z
    · exact absurd ((k.2.2.2.2.1 i (by omega)).mpr a) b
theorem ml_92 {x11 r : Int32} {t o : Nat} (h16 : o < 16) (ht : t < 4) (hr : vp_in r 8) (k : ml_K row x3 x4 x6 x7 x8 C R a1 a2 a3 a4 a5 a6 a7 a8 a9 a10 a11) (hJ : ml_J J42 row x9) :
    wL_law_92 post L xs J42 row x3 x4 x6 x7 x8 x9 (nI o) x11 (nI t) r kc ks C R a1 a2 a3 a4 a5 a6 a7 a8 a9 a10 a11 a12 := by
  obtain ⟨q, hq, eq⟩ := pk_andE (x11 >>> ((6 : Int32) &&& 31)) (m := 1023) 10 (by decide)
  refine nm_r eq (ek_if (mb_t (show t < 32 by omega)) (fun b => nm_e (ml_wpart (ml_152 h16 ht hr hq k (Or.inl ⟨rfl, (k.2.2.2.2.1 t (by omega)).mp b⟩) hJ))) (fun b => nm_e (ml_wpart (ml_152 h16 ht hr hq k (Or.inr ⟨rfl, fun a => b ((k.2.2.2.2.1 t (by omega)).mpr a)⟩) hJ))))
end
theorem ml_start (row : Int32) (hr : vp_in row 8) : ml_K row 65535 0 0 0 0 0 0 (fun _ => 0) (fun _ => 0) (fun _ => 0) (fun _ => 0) (fun _ => 0) (fun _ => 0) (fun _ => 0) (fun _ => 0) (fun _ => 0) (fun _ => 0) (fun _ => 0) := by
  have nU : ∀ v, ¬ mw_U (fun _ => 0) v := fun v z => z.2 rfl
  have nO : ∀ v, ¬ mw_O (fun _ => 0) v := fun v z => z.2 rfl
  refine ⟨⟨⟨fun t z => absurd z (nO t), fun n => ⟨fun z => absurd z mb_in_0, fun ⟨t, z, _⟩ => absurd z (nO t)⟩, fun t u z => absurd z (nO t), fun t n z => absurd z (nO t), fun v z => absurd z (nU v), fun v z => absurd z (nU v), fun v t z => absurd z (nU v), fun v t z => absurd z (nU v), fun v t z => absurd z (nU v), fun v t z => absurd z (nU v), fun t u r z => absurd z (nO t), fun t r z => absurd z (nO t), fun v w z => absurd z (nU v), fun t z => absurd z (nO t), fun t z => absurd z (nO t)⟩, fun _ _ => rfl⟩, hr, vp_in_iff.mpr (by decide), Or.inl ⟨rfl, fun v z => absurd z (nU v)⟩, fun i hi => ?_, fun u hu => absurd hu (nO u)⟩
  rw [mb_0]
  exact ⟨fun z => absurd z (by decide), fun z => absurd z (nO i)⟩
theorem ml_42 {L : Nat} {xs : Nat → Int32} {row : Int32} {kc ks : Nat} (hL : L ≤ 260) (hr : vp_in row 8) : wL_law_23 (fun r => r = 1) L xs row kc ks 0 0 (fun _ => 0) (fun _ => 0) (fun _ => 0) (fun _ => 0) (fun _ => 0) (fun _ => 0) (fun _ => 0) (fun _ => 0) (fun _ => 0) (fun _ => 0) (fun _ => 0) (fun _ => 0) := by
  refine pk_loop (σ := Int32 × Int64 × Int32 × Int32 × Int32 × Int64 × Int64 × (Nat → Int32) × (Nat → Int32) × (Nat → Int32) × (Nat → Int32) × (Nat → Int32) × (Nat → Int32) × (Nat → Int64) × (Nat → Int32) × (Nat → Int32) × (Nat → Int32) × (Nat → Int32) × (Nat → Int32))
    (fun n i s => match s with | (x3, x4, x6, x7, x8, C, R, a1, a2, a3, a4, a5, a6, a7, a8, a9, a10, a11, a12) => wL_law_42 (fun r => r = 1) L xs row kc ks n x3 x4 x6 x7 x8 (nI (2 * i + 1)) C R a1 a2 a3 a4 a5 a6 a7 a8 a9 a10 a11 a12)
    (fun i s => match s with | (x3, x4, x6, x7, x8, C, R, a1, a2, a3, a4, a5, a6, a7, a8, a9, a10, a11, a12) => ml_K row x3 x4 x6 x7 x8 C R a1 a2 a3 a4 a5 a6 a7 a8 a9 a10 a11)
    ((L - 1) / 2) 0 (65535, 0, 0, 0, 0, 0, 0, (fun _ => 0), (fun _ => 0), (fun _ => 0), (fun _ => 0), (fun _ => 0), (fun _ => 0), (fun _ => 0), (fun _ => 0), (fun _ => 0), (fun _ => 0), (fun _ => 0), (fun _ => 0)) (by omega) (ml_start row hr) ?_ ?_
  · rintro n ⟨x3, x4, x6, x7, x8, C, R, a1, a2, a3, a4, a5, a6, a7, a8, a9, a10, a11, a12⟩ k
    exact pk_le L (2 * ((L - 1) / 2) + 2) (fun _ => rfl) (fun z => absurd z (by omega)) rfl (nI_1 _)
  · rintro n i ⟨x3, x4, x6, x7, x8, C, R, a1, a2, a3, a4, a5, a6, a7, a8, a9, a10, a11, a12⟩ hi k hw
    dsimp only at k hw
    have e1 : nI (2 * i + 1) + 1 = nI (2 * i + 2) := nI_1 _
    have e2 : nI (2 * i + 1) + 2 = nI (2 * (i + 1) + 1) := nI_add (2 * i + 1) 2
    have hJ : ml_J (wL_law_42 (fun r => r = 1) L xs row kc ks n) row (nI (2 * i + 1)) := by
      intro x3 x4 x6 x7 x8 C R a1 a2 a3 a4 a5 a6 a7 a8 a9 a10 a11 a12 kk
      rw [e2]
      exact hw (x3, x4, x6, x7, x8, C, R, a1, a2, a3, a4, a5, a6, a7, a8, a9, a10, a11, a12) kk
    obtain ⟨o, ho, eo⟩ := pk_andE (xs (2 * i + 1)) (m := 15) 4 (by decide)
    obtain ⟨t, ht, et⟩ := pk_andE (xs (2 * i + 2)) (m := 3) 2 (by decide)
    refine pk_le L (2 * i + 2) (fun z => absurd z (by omega)) (fun z => ⟨pk_in (2 * i + 1) L (by omega) rfl (by omega), nm_r (by rw [nI_clamp (show 2 * i + 1 < 2 ^ 31 by omega)]; exact eo) ⟨pk_in (2 * i + 2) L (by omega) e1 (by omega), nm_r (by rw [e1, nI_clamp (show 2 * i + 2 < 2 ^ 31 by omega)]) (nm_r et (br_c (fun _ => ml_92 ho ht hr k hJ) (fun _ => ml_92 ho ht ?_ k hJ)))⟩⟩) rfl e1
    exact pk_andIn (xs (2 * i + 2) >>> ((3 : Int32) &&& 31)) (m := 7) 3 (by decide) (by decide)
theorem i_vc (xs : Nat → Int32) (L : Nat) (hL : L ≤ 260) : wpL_law (fun r => r = 1) L xs := by
  refine ⟨12, 544, by omega, by omega, ?_⟩
  unfold wpX_init
  dsimp only
  refine ⟨by omega, by omega, by omega, by omega, by omega, by omega, by omega, by omega, by omega, by omega, by omega, by omega, by omega, by omega, by omega, by omega, by omega, by omega, by omega, by omega, by omega, by omega, by omega, by omega, ?_⟩
  refine pk_le L 0 (fun z => ml_42 hL (vp_in_iff.mpr (by decide))) (fun z => ⟨pk_in 0 L z rfl (by omega), ml_42 hL ?_⟩)
  exact pk_andIn (xs (0 : Int32).toNatClampNeg) (m := 7) 3 (by decide) (by decide)
end
