section
/-! bits of an int (a family of kit/laws/BITS.to-paste, renamed) -/
def qv_bt (x : Int32) (i : Nat) : Bool := x.toBitVec.getLsbD i
theorem qv_ext {x y : Int32} (h : ∀ i, i < 32 → qv_bt x i = qv_bt y i) : x = y := Int32.toBitVec_inj.mp (BitVec.eq_of_getLsbD_eq (fun i hi => h i hi))
theorem qv_or (x y : Int32) (i : Nat) : qv_bt (x ||| y) i = (qv_bt x i || qv_bt y i) := by unfold qv_bt; rw [Int32.toBitVec_or, BitVec.getLsbD_or]
theorem qv_and (x y : Int32) (i : Nat) : qv_bt (x &&& y) i = (qv_bt x i && qv_bt y i) := by unfold qv_bt; rw [Int32.toBitVec_and, BitVec.getLsbD_and]
theorem qv_xor (x y : Int32) (i : Nat) : qv_bt (x ^^^ y) i = (qv_bt x i ^^ qv_bt y i) := by unfold qv_bt; rw [Int32.toBitVec_xor, BitVec.getLsbD_xor]
theorem qv_255 : ∀ i, i < 8 → qv_bt 255 i = true := by decide +kernel
theorem qv_m1 : ∀ i, i < 32 → qv_bt (-1) i = true := by decide +kernel
theorem qv_b1 : ∀ i, i < 32 → qv_bt 1 i = decide (i = 0) := by decide +kernel
theorem qv_b0 (i : Nat) : qv_bt 0 i = false := BitVec.getLsbD_zero
theorem qv_big {x : Int32} {i : Nat} (h : 32 ≤ i) : qv_bt x i = false := BitVec.getLsbD_of_ge _ _ h
theorem qv_sl : ∀ n, n < 32 → ((nI n &&& 31).toBitVec.smod 32).toNat = n := by decide +kernel
theorem qv_su : ∀ n, n < 32 → (((nI n).toUInt32 &&& Int32.toUInt32 31).toBitVec % 32).toNat = n := by decide +kernel
theorem qv_shl (n : Nat) (hn : n < 32) (x : Int32) {i : Nat} (hi : i < 32) : qv_bt (x <<< (nI n &&& 31)) i = (decide (n ≤ i) && qv_bt x (i - n)) := by
  unfold qv_bt
  rw [Int32.toBitVec_shiftLeft]
  show (x.toBitVec <<< ((nI n &&& 31).toBitVec.smod 32).toNat).getLsbD i = _
  rw [qv_sl n hn, BitVec.getLsbD_shiftLeft]
  rcases Nat.lt_or_ge i n with h | h
  · simp [h, Nat.not_le.mpr h]
  · simp [hi, h, Nat.not_lt.mpr h]
theorem qv_ushr (n : Nat) (hn : n < 32) (x : Int32) (i : Nat) : qv_bt ((x.toUInt32 >>> ((nI n).toUInt32 &&& Int32.toUInt32 31)).toInt32) i = qv_bt x (n + i) := by
  show (x.toUInt32 >>> ((nI n).toUInt32 &&& Int32.toUInt32 31)).toBitVec.getLsbD i = x.toUInt32.toBitVec.getLsbD (n + i)
  rw [UInt32.toBitVec_shiftRight]
  show (x.toUInt32.toBitVec >>> (((nI n).toUInt32 &&& Int32.toUInt32 31).toBitVec % 32).toNat).getLsbD i = _
  rw [qv_su n hn, BitVec.getLsbD_ushiftRight]
/-- one bit of x, as the code takes it out -/
theorem qv_pick (x : Int32) {v : Nat} (hv : v < 32) {i : Nat} (hi : i < 32) : qv_bt ((x.toUInt32 >>> ((nI v).toUInt32 &&& Int32.toUInt32 31)).toInt32 &&& 1) i = (decide (i = 0) && qv_bt x v) := by
  rw [qv_and, qv_ushr v hv, qv_b1 i hi]
  by_cases h : i = 0
  · subst h; simp
  · simp [h]
theorem qv_bit (x : Int32) {v : Nat} (hv : v < 32) : ((x.toUInt32 >>> ((nI v).toUInt32 &&& Int32.toUInt32 31)).toInt32 &&& 1) = 0 ↔ qv_bt x v = false := by
  constructor
  · intro h
    have h1 := qv_pick x hv (show 0 < 32 by omega)
    rw [h, qv_b0] at h1
    simpa using h1.symm
  · intro h
    apply qv_ext
    intro i hi
    rw [qv_pick x hv hi, qv_b0, h, Bool.and_false]
/-- the one bit v -/
theorem qv_one {v : Nat} (hv : v < 32) {i : Nat} (hi : i < 32) : qv_bt ((1 : Int32) <<< (nI v &&& 31)) i = decide (i = v) := by
  rw [qv_shl v hv _ hi, qv_b1 _ (by omega)]
  by_cases h : i = v
  · subst h; simp
  · have h2 : ¬ (v ≤ i ∧ i - v = 0) := by omega
    rw [← Bool.decide_and, decide_eq_false h2, decide_eq_false h]
/-- x's bit v put back at v -/
theorem qv_back (x : Int32) {v : Nat} (hv : v < 32) {i : Nat} (hi : i < 32) : qv_bt (((x.toUInt32 >>> ((nI v).toUInt32 &&& Int32.toUInt32 31)).toInt32 &&& 1) <<< (nI v &&& 31)) i = (decide (i = v) && qv_bt x v) := by
  rw [qv_shl v hv _ hi, qv_pick x hv (by omega), ← Bool.and_assoc, ← Bool.decide_and]
  by_cases h : i = v
  · subst h; simp
  · have h2 : ¬ (v ≤ i ∧ i - v = 0) := by omega
    rw [decide_eq_false h2, decide_eq_false h]
/-- a and not b is nothing: a is in b -/
theorem qv_sub {a b : Int32} (h : ∀ i, i < 32 → qv_bt a i = true → qv_bt b i = true) : (a &&& (b ^^^ (-1))) = 0 := by
  apply qv_ext
  intro i hi
  rw [qv_and, qv_xor, qv_m1 i hi, qv_b0]
  cases ha : qv_bt a i
  · rfl
  · rw [h i hi ha]; rfl
/-! weights: the stake of a set of validators -/
def qv_W (S : Nat → Nat) (m : Int32) : Nat → Nat
  | 0 => 0
  | k + 1 => qv_W S m k + (if qv_bt m k = true then S k else 0)
theorem qv_W_t {S : Nat → Nat} {m : Int32} {k : Nat} (h : qv_bt m k = true) : qv_W S m (k + 1) = qv_W S m k + S k := by
  show qv_W S m k + (if qv_bt m k = true then S k else 0) = _
  rw [if_pos h]
theorem qv_W_f {S : Nat → Nat} {m : Int32} {k : Nat} (h : qv_bt m k = false) : qv_W S m (k + 1) = qv_W S m k := by
  show qv_W S m k + (if qv_bt m k = true then S k else 0) = _
  rw [if_neg (by rw [h]; decide)]
  rfl
theorem qv_W_le {S : Nat → Nat} (hS : ∀ v, v < 8 → S v ≤ 3) (m : Int32) : ∀ k, k ≤ 8 → qv_W S m k ≤ 3 * k := by
  intro k
  induction k with
  | zero => intro _; exact Nat.le_refl 0
  | succ k ih =>
    intro hk
    have h1 := ih (by omega)
    have h2 := hS k (by omega)
    cases hb : qv_bt m k
    · rw [qv_W_f hb]; omega
    · rw [qv_W_t hb]; omega
theorem qv_W_mono {S : Nat → Nat} {m m' : Int32} : ∀ k, k ≤ 8 → (∀ v, v < 8 → qv_bt m v = true → qv_bt m' v = true) → qv_W S m k ≤ qv_W S m' k := by
  intro k
  induction k with
  | zero => intro _ _; exact Nat.le_refl 0
  | succ k ih =>
    intro hk h
    have h1 := ih (by omega) h
    cases hb : qv_bt m k
    · rw [qv_W_f hb]
      cases hb' : qv_bt m' k
      · rw [qv_W_f hb']; omega
      · rw [qv_W_t hb']; omega
    · rw [qv_W_t hb, qv_W_t (h k (by omega) hb)]; omega
/-- two sets whose common part lies in o -/
theorem qv_W_two {S : Nat → Nat} {m m' o : Int32} : ∀ k, k ≤ 8 → (∀ v, v < 8 → qv_bt m v = true → qv_bt m' v = true → qv_bt o v = true) → qv_W S m k + qv_W S m' k ≤ qv_W S 255 k + qv_W S o k := by
  intro k
  induction k with
  | zero => intro _ _; exact Nat.le_refl 0
  | succ k ih =>
    intro hk h
    have h1 := ih (by omega) h
    rw [qv_W_t (qv_255 k (by omega))]
    have ho : qv_W S o k ≤ qv_W S o (k + 1) := Nat.le_add_right _ _
    cases hb : qv_bt m k
    · rw [qv_W_f hb]
      cases hb' : qv_bt m' k
      · rw [qv_W_f hb']; omega
      · rw [qv_W_t hb']; omega
    · rw [qv_W_t hb]
      cases hb' : qv_bt m' k
      · rw [qv_W_f hb']; omega
      · rw [qv_W_t hb', qv_W_t (h k (by omega) hb hb')]; omega
end
section
/-! the picture of a state -/
/-- a set of voters is a supermajority -/
def qv_sup (S : Nat → Nat) (m : Int32) : Prop := 2 * qv_W S 255 8 < 3 * qv_W S m 8
/-- c is justified: in every set that holds 0 and is closed under the supported links -/
def qv_J (S : Nat → Nat) (n : Nat) (a6 a7 a8 : Nat → Int32) (c : Nat) : Prop :=
  ∀ P : Nat → Prop, P 0 → (∀ k, k < n → qv_sup S (a8 k) → P (a6 k).toNatClampNeg → P (a7 k).toNatClampNeg) → P c
/-- the table of the justified is right -/
def qv_K (S : Nat → Nat) (n : Nat) (a6 a7 a8 a9 : Nat → Int32) : Prop := ∀ c, c < 128 → (a9 c = 0 ↔ ¬ qv_J S n a6 a7 a8 c)
/-- links go to later epochs, and stand in the order of their targets -/
def qv_L (n : Nat) (a6 a7 : Nat → Int32) : Prop :=
  (∀ k, k < n → ∃ f t : Nat, t < 128 ∧ f / 4 < t / 4 ∧ a6 k = nI f ∧ a7 k = nI t) ∧ (∀ j k, j ≤ k → k < n → (a7 j).toNatClampNeg ≤ (a7 k).toNatClampNeg)
/-- who voted is counted at the target's epoch, and who voted for two targets of one epoch is an offender -/
def qv_D (n : Nat) (o : Int32) (a4 a7 a8 : Nat → Int32) : Prop :=
  (∀ k v, k < n → v < 8 → qv_bt (a8 k) v = true → ¬ a4 (32 * v + (a7 k).toNatClampNeg / 4) ≤ 0) ∧
  (∀ j k v, j < n → k < n → v < 8 → qv_bt (a8 j) v = true → qv_bt (a8 k) v = true → (a7 j).toNatClampNeg / 4 = (a7 k).toNatClampNeg / 4 → a7 j ≠ a7 k → qv_bt o v = true)
/-- the stakes -/
def qv_S (S : Nat → Nat) (a1 : Nat → Int32) : Prop := ∀ v, v < 8 → a1 v = nI (S v) ∧ S v ≤ 3
/-- the counts -/
def qv_N (h : Nat) (a4 : Nat → Int32) : Prop := ∀ j, j < 256 → ∃ c, c ≤ h ∧ a4 j = nI c
def qv_C (S : Nat → Nat) (h n : Nat) (o : Int32) (a1 a4 a6 a7 a8 : Nat → Int32) : Prop :=
  n ≤ h ∧ h ≤ 64 ∧ qv_S S a1 ∧ qv_N h a4 ∧ qv_L n a6 a7 ∧ qv_D n o a4 a7 a8
/-- every link is still there, with no fewer voters -/
def qv_M (n : Nat) (a6 a7 a8 : Nat → Int32) (n' : Nat) (b6 b7 b8 : Nat → Int32) : Prop :=
  ∀ k, k < n → ∃ k', k' < n' ∧ b6 k' = a6 k ∧ b7 k' = a7 k ∧ ∀ v, v < 8 → qv_bt (a8 k) v = true → qv_bt (b8 k') v = true
/-- no offender is forgotten -/
def qv_O (o o' : Int32) : Prop := ∀ v, v < 8 → qv_bt o v = true → qv_bt o' v = true

theorem qv_O_r (o : Int32) : qv_O o o := fun _ _ h => h
theorem qv_O_t {o o' o'' : Int32} (h : qv_O o o') (h' : qv_O o' o'') : qv_O o o'' := fun v hv z => h' v hv (h v hv z)
theorem qv_M_r (n : Nat) (a6 a7 a8 : Nat → Int32) : qv_M n a6 a7 a8 n a6 a7 a8 := fun k hk => ⟨k, hk, rfl, rfl, fun _ _ h => h⟩
theorem qv_M_t {n : Nat} {a6 a7 a8 : Nat → Int32} {n' : Nat} {b6 b7 b8 : Nat → Int32} {n'' : Nat} {c6 c7 c8 : Nat → Int32}
    (h : qv_M n a6 a7 a8 n' b6 b7 b8) (h' : qv_M n' b6 b7 b8 n'' c6 c7 c8) : qv_M n a6 a7 a8 n'' c6 c7 c8 := by
  intro k hk
  obtain ⟨k', hk', e6, e7, e8⟩ := h k hk
  obtain ⟨k'', hk'', g6, g7, g8⟩ := h' k' hk'
  exact ⟨k'', hk'', g6.trans e6, g7.trans e7, fun v hv z => g8 v hv (e8 v hv z)⟩
theorem qv_sup_mono {S : Nat → Nat} {m m' : Int32} (h : ∀ v, v < 8 → qv_bt m v = true → qv_bt m' v = true) (hs : qv_sup S m) : qv_sup S m' := by
  have := qv_W_mono (S := S) 8 (Nat.le_refl 8) h
  unfold qv_sup at hs ⊢
  omega
/-- nothing that was justified is lost -/
theorem qv_J_mono {S : Nat → Nat} {n : Nat} {a6 a7 a8 : Nat → Int32} {n' : Nat} {b6 b7 b8 : Nat → Int32} {c : Nat}
    (h : qv_M n a6 a7 a8 n' b6 b7 b8) (hj : qv_J S n a6 a7 a8 c) : qv_J S n' b6 b7 b8 c := by
  intro P h0 hs
  refine hj P h0 (fun k hk hk2 hf => ?_)
  obtain ⟨k', hk', e6, e7, e8⟩ := h k hk
  have := hs k' hk' (qv_sup_mono e8 hk2)
  rw [e6, e7] at this
  exact this hf
theorem qv_J_0 {S : Nat → Nat} {n : Nat} {a6 a7 a8 : Nat → Int32} : qv_J S n a6 a7 a8 0 := fun _ h0 _ => h0
theorem qv_J_s {S : Nat → Nat} {n : Nat} {a6 a7 a8 : Nat → Int32} {k : Nat} (hk : k < n) (hs : qv_sup S (a8 k)) (h : qv_J S n a6 a7 a8 (a6 k).toNatClampNeg) : qv_J S n a6 a7 a8 (a7 k).toNatClampNeg :=
  fun P h0 hP => hP k hk hs (h P h0 hP)
theorem qv_J_inv {S : Nat → Nat} {n : Nat} {a6 a7 a8 : Nat → Int32} {c : Nat} (h : qv_J S n a6 a7 a8 c) : c = 0 ∨ ∃ k, k < n ∧ qv_sup S (a8 k) ∧ (a7 k).toNatClampNeg = c :=
  h (fun c => c = 0 ∨ ∃ k, k < n ∧ qv_sup S (a8 k) ∧ (a7 k).toNatClampNeg = c) (Or.inl rfl) (fun k hk hs _ => Or.inr ⟨k, hk, hs, rfl⟩)
/-- the law: two justified checkpoints of one epoch (not 0): a third has offended -/
theorem qv_third {S : Nat → Nat} {n : Nat} {o : Int32} {a4 a6 a7 a8 : Nat → Int32} (hD : qv_D n o a4 a7 a8) {c d : Nat} (hc : qv_J S n a6 a7 a8 c) (hd : qv_J S n a6 a7 a8 d)
    (hc0 : c ≠ 0) (hd0 : d ≠ 0) (he : c / 4 = d / 4) (hne : c ≠ d) : qv_W S 255 8 ≤ 3 * qv_W S o 8 := by
  rcases qv_J_inv hc with z | ⟨j, hj, sj, ej⟩
  · exact absurd z hc0
  rcases qv_J_inv hd with z | ⟨k, hk, sk, ek⟩
  · exact absurd z hd0
  have hw := qv_W_two (S := S) (m := a8 j) (m' := a8 k) (o := o) 8 (Nat.le_refl 8) (fun v hv h1 h2 => hD.2 j k v hj hk hv h1 h2 (by rw [ej, ek]; exact he) (fun z => hne (by rw [← ej, ← ek, z])))
  unfold qv_sup at sj sk
  omega
/-! one more vote on a link that is there -/
theorem qv_gt0 {c : Nat} (h : c < 2 ^ 31) : ¬ nI c ≤ 0 ↔ 0 < c := by
  rw [← nI_0, nI_leI h (by omega)]
  omega
theorem qv_D_add {n h : Nat} {o o' : Int32} {a4 a7 a8 : Nat → Int32} {k v t : Nat} (hN : qv_N h a4) (hh : h ≤ 64) (hD : qv_D n o a4 a7 a8) (ht : t < 128) (hk : a7 k = nI t) (hv : v < 8)
    (hO : qv_O o o') (ho : ¬ a4 (32 * v + t / 4) ≤ 0 → qv_bt o' v = true) :
    qv_D n o' (upd a4 (32 * v + t / 4) (a4 (32 * v + t / 4) + 1)) a7 (upd a8 k (a8 k ||| ((1 : Int32) <<< (nI v &&& 31)))) := by
  have hb : ∀ j u, u < 8 → qv_bt (upd a8 k (a8 k ||| ((1 : Int32) <<< (nI v &&& 31))) j) u = true → qv_bt (a8 j) u = true ∨ (j = k ∧ u = v) := by
    intro j u hu z
    by_cases e : j = k
    · subst e
      rw [pk_us, qv_or, qv_one (by omega) (by omega)] at z
      rcases Bool.or_eq_true_iff.mp z with z | z
      · exact Or.inl z
      · exact Or.inr ⟨rfl, of_decide_eq_true z⟩
    · rw [pk_un e] at z
      exact Or.inl z
  have hclt : (a7 k).toNatClampNeg = t := by rw [hk]; exact nI_clamp (by omega)
  have hnew : ¬ (upd a4 (32 * v + t / 4) (a4 (32 * v + t / 4) + 1)) (32 * v + t / 4) ≤ 0 := by
    obtain ⟨c, hc, ec⟩ := hN (32 * v + t / 4) (by omega)
    rw [pk_us, ec, nI_1, qv_gt0 (by omega)]
    omega
  have hold : ∀ i, ¬ a4 i ≤ 0 → ¬ (upd a4 (32 * v + t / 4) (a4 (32 * v + t / 4) + 1)) i ≤ 0 := by
    intro i hi
    by_cases e : i = 32 * v + t / 4
    · rw [e]; exact hnew
    · rw [pk_un e]; exact hi
  refine ⟨fun j u hj hu z => ?_, fun i j u hi hj hu zi zj he hne => ?_⟩
  · rcases hb j u hu z with y | ⟨rfl, rfl⟩
    · exact hold _ (hD.1 j u hj hu y)
    · rw [hclt]; exact hnew
  · rcases hb i u hu zi with yi | ⟨ei, eu⟩
    · rcases hb j u hu zj with yj | ⟨ej, eu⟩
      · exact hO u hu (hD.2 i j u hi hj hu yi yj he hne)
      · subst eu
        have := hD.1 i u hi hu yi
        rw [he, ej, hclt] at this
        exact ho this
    · rcases hb j u hu zj with yj | ⟨ej, _⟩
      · subst eu
        have := hD.1 j u hj hu yj
        rw [← he, ei, hclt] at this
        exact ho this
      · exact absurd (show a7 i = a7 j by rw [ei, ej]) hne
theorem qv_M_add {n : Nat} {a6 a7 a8 : Nat → Int32} {k : Nat} {x : Int32} : qv_M n a6 a7 a8 n a6 a7 (upd a8 k (a8 k ||| x)) := by
  intro j hj
  refine ⟨j, hj, rfl, rfl, fun v hv z => ?_⟩
  by_cases e : j = k
  · rw [e] at z
    rw [e, pk_us, qv_or, z, Bool.true_or]
  · rw [pk_un e]; exact z
theorem qv_N_add {h i : Nat} {a4 : Nat → Int32} (hN : qv_N h a4) (hi : i < 256) : qv_N (h + 1) (upd a4 i (a4 i + 1)) := by
  intro j hj
  by_cases e : j = i
  · obtain ⟨c, hc, ec⟩ := hN i hi
    exact ⟨c + 1, by omega, by rw [e, pk_us, ec, nI_1]⟩
  · obtain ⟨c, hc, ec⟩ := hN j hj
    exact ⟨c, by omega, by rw [pk_un e, ec]⟩
/-! a link put in its place -/
/-- b is a with x put in at p (of n places) -/
def qv_ins (n p : Nat) (x : Int32) (a b : Nat → Int32) : Prop := (∀ j, j < p → b j = a j) ∧ b p = x ∧ (∀ j, p ≤ j → j < n → b (j + 1) = a j)
theorem qv_ins_at {n p : Nat} (j : Nat) (hp : p ≤ n) (hj : j < n + 1) : (j < p ∧ ∀ x a b, qv_ins n p x a b → b j = a j) ∨ (j = p ∧ ∀ x a b, qv_ins n p x a b → b j = x) ∨ (p < j ∧ j - 1 < n ∧ ∀ x a b, qv_ins n p x a b → b j = a (j - 1)) := by
  rcases Nat.lt_trichotomy j p with h | h | h
  · exact Or.inl ⟨h, fun x a b hb => hb.1 j h⟩
  · exact Or.inr (Or.inl ⟨h, fun x a b hb => by rw [h]; exact hb.2.1⟩)
  · refine Or.inr (Or.inr ⟨h, by omega, fun x a b hb => ?_⟩)
    have := hb.2.2 (j - 1) (by omega) (by omega)
    rw [show j - 1 + 1 = j by omega] at this
    exact this
theorem qv_L_ins {n p s t : Nat} {a6 a7 b6 b7 : Nat → Int32} (hp : p ≤ n) (hL : qv_L n a6 a7) (ht : t < 128) (hst : s / 4 < t / 4) (h6 : qv_ins n p (nI s) a6 b6) (h7 : qv_ins n p (nI t) a7 b7)
    (hlo : ∀ j, j < p → (a7 j).toNatClampNeg ≤ t) (hhi : ∀ j, p ≤ j → j < n → t < (a7 j).toNatClampNeg) : qv_L (n + 1) b6 b7 := by
  have hct : (nI t).toNatClampNeg = t := nI_clamp (by omega)
  refine ⟨fun k hk => ?_, fun j k hjk hk => ?_⟩
  · rcases qv_ins_at k hp hk with ⟨h, e⟩ | ⟨h, e⟩ | ⟨h, h', e⟩
    · rw [e _ _ _ h6, e _ _ _ h7]; exact hL.1 k (by omega)
    · rw [e _ _ _ h6, e _ _ _ h7]; exact ⟨s, t, ht, hst, rfl, rfl⟩
    · rw [e _ _ _ h6, e _ _ _ h7]; exact hL.1 (k - 1) h'
  · rcases qv_ins_at k hp hk with ⟨h, e⟩ | ⟨h, e⟩ | ⟨h, h', e⟩
    · rw [e _ _ _ h7, h7.1 j (by omega)]; exact hL.2 j k hjk (by omega)
    · rw [e _ _ _ h7, hct]
      rcases qv_ins_at j hp (by omega) with ⟨g, f⟩ | ⟨g, f⟩ | ⟨g, g', f⟩
      · rw [f _ _ _ h7]; exact hlo j g
      · rw [f _ _ _ h7, hct]; omega
      · omega
    · rw [e _ _ _ h7]
      rcases qv_ins_at j hp (by omega) with ⟨g, f⟩ | ⟨g, f⟩ | ⟨g, g', f⟩
      · rw [f _ _ _ h7]; exact hL.2 j (k - 1) (by omega) h'
      · rw [f _ _ _ h7, hct]; exact Nat.le_of_lt (hhi (k - 1) (by omega) h')
      · rw [f _ _ _ h7]; exact hL.2 (j - 1) (k - 1) (by omega) h'
/-- where an old link lies now -/
theorem qv_ins_old {n p : Nat} (j : Nat) (hj : j < n) : ∃ k, k < n + 1 ∧ ∀ x a b, qv_ins n p x a b → b k = a j := by
  rcases Nat.lt_or_ge j p with h | h
  · exact ⟨j, by omega, fun x a b hb => hb.1 j h⟩
  · exact ⟨j + 1, by omega, fun x a b hb => hb.2.2 j h hj⟩
/-- what lies at a place that has a voter was there before -/
theorem qv_ins_new {n p : Nat} {a8 b8 : Nat → Int32} {k v : Nat} (hp : p ≤ n) (h8 : qv_ins n p 0 a8 b8) (hk : k < n + 1) (hb : qv_bt (b8 k) v = true) : ∃ j, j < n ∧ ∀ x a b, qv_ins n p x a b → b k = a j := by
  rcases qv_ins_at k hp hk with ⟨h, e⟩ | ⟨h, e⟩ | ⟨h, h', e⟩
  · exact ⟨k, by omega, e⟩
  · rw [e _ _ _ h8, qv_b0] at hb
    exact absurd hb (by decide)
  · exact ⟨k - 1, h', e⟩
theorem qv_M_ins {n p : Nat} {x y z : Int32} {a6 a7 a8 b6 b7 b8 : Nat → Int32} (h6 : qv_ins n p x a6 b6) (h7 : qv_ins n p y a7 b7) (h8 : qv_ins n p z a8 b8) : qv_M n a6 a7 a8 (n + 1) b6 b7 b8 := by
  intro j hj
  obtain ⟨k, hk, e⟩ := qv_ins_old (p := p) j hj
  exact ⟨k, hk, e _ _ _ h6, e _ _ _ h7, fun v hv w => by rw [e _ _ _ h8]; exact w⟩
theorem qv_D_ins {n p : Nat} {o x : Int32} {a4 a7 a8 b7 b8 : Nat → Int32} (hp : p ≤ n) (h7 : qv_ins n p x a7 b7) (h8 : qv_ins n p 0 a8 b8) (hD : qv_D n o a4 a7 a8) : qv_D (n + 1) o a4 b7 b8 := by
  refine ⟨fun k v hk hv z => ?_, fun j k v hj hk hv zj zk he hne => ?_⟩
  · obtain ⟨i, hi, e⟩ := qv_ins_new hp h8 hk z
    rw [e _ _ _ h8] at z
    rw [e _ _ _ h7]
    exact hD.1 i v hi hv z
  · obtain ⟨i, hi, e⟩ := qv_ins_new hp h8 hj zj
    obtain ⟨i', hi', e'⟩ := qv_ins_new hp h8 hk zk
    rw [e _ _ _ h8] at zj
    rw [e' _ _ _ h8] at zk
    rw [e _ _ _ h7, e' _ _ _ h7] at he hne
    exact hD.2 i i' v hi hi' hv zj zk he hne
end
section
/-! the methods that read: stakes, isSupported, justifyAll, justified, offender, justifiedIn, offended, safe -/
theorem qv_nf {b : Bool} (h : ¬ b = false) : b = true := by
  cases b
  · exact absurd rfl h
  · rfl
theorem qv_stakes {post : Int32 → Prop} {S : Nat → Nat} {m o h l kn : Int32} {a1 a2 a3 a4 a5 a6 a7 a8 a9 : Nat → Int32} (hS : qv_S S a1) (H : post (nI (qv_W S m 8))) :
    wpX_stakes post (o, h, l, kn, a1, a2, a3, a4, a5, a6, a7, a8, a9) m :=
  pk_loop (σ := Unit) (fun n i _ => wX_stakes_4 post m o h l kn a1 a2 a3 a4 a5 a6 a7 a8 a9 n (nI (qv_W S m i)) (nI i)) (fun _ _ => True) 8 0 () (by omega) trivial
    (fun n _ _ => pk_le 8 8 (fun _ => H) (fun z => absurd z (by omega)))
    (fun n i _ hi _ hw => pk_le 8 i (fun z => absurd z (by omega)) (fun _ => ek_if (qv_bit m (show i < 32 by omega))
      (fun z => nm_r (show nI (qv_W S m i) + 0 = nI (qv_W S m (i + 1)) by rw [qv_W_f z, ← nI_0, nI_add, Nat.add_zero]) (nm_r (nI_1 i) (hw () trivial)))
      (fun z => ⟨pk_in i 8 hi, nm_r (show nI (qv_W S m i) + a1 (nI i).toNatClampNeg = nI (qv_W S m (i + 1)) by rw [nI_clamp (by omega), (hS i hi).1, nI_add, qv_W_t (qv_nf z)]) (nm_r (nI_1 i) (hw () trivial))⟩)))
theorem qv_isSup {post : Int32 → Prop} {S : Nat → Nat} {k : Nat} {o h l kn : Int32} {a1 a2 a3 a4 a5 a6 a7 a8 a9 : Nat → Int32} (hS : qv_S S a1) (hk : k < 64) (H1 : qv_sup S (a8 k) → post 1) (H0 : ¬ qv_sup S (a8 k) → post 0) :
    wpX_isSupported post (o, h, l, kn, a1, a2, a3, a4, a5, a6, a7, a8, a9) (nI k) := by
  have hb : ∀ m, qv_W S m 8 ≤ 24 := fun m => qv_W_le (fun v hv => (hS v hv).2) m 8 (Nat.le_refl 8)
  unfold wpX_isSupported
  refine qv_stakes (S := S) hS ⟨pk_in k 64 hk, ?_⟩
  rw [nI_clamp (show k < 2 ^ 31 by omega)]
  refine qv_stakes (S := S) hS ?_
  have h1 := hb (a8 k)
  have h2 := hb 255
  exact pk_le (3 * qv_W S (a8 k) 8) (2 * qv_W S 255 8) (fun z => H0 (by unfold qv_sup; omega)) (fun z => H1 (by unfold qv_sup; omega)) (pk_mul 3 _) (pk_mul 2 _) (by omega) (by omega)
/-! justifyAll -/
def qv_I (S : Nat → Nat) (n : Nat) (a6 a7 a8 : Nat → Int32) (i : Nat) (s : Nat → Int32) : Prop :=
  (∀ c, c < 128 → ¬ s c = 0 → qv_J S n a6 a7 a8 c) ∧ ¬ s 0 = 0 ∧ (∀ j, j < i → qv_sup S (a8 j) → ¬ s (a6 j).toNatClampNeg = 0 → ¬ s (a7 j).toNatClampNeg = 0)
theorem qv_I_end {S : Nat → Nat} {n : Nat} {a6 a7 a8 s : Nat → Int32} (h : qv_I S n a6 a7 a8 n s) : qv_K S n a6 a7 a8 s := by
  intro c hc
  refine ⟨fun z hj => hj (fun c => ¬ s c = 0) h.2.1 h.2.2 z, fun hj => ?_⟩
  by_cases z : s c = 0
  · exact z
  · exact absurd (h.1 c hc z) hj
theorem qv_I_f {S : Nat → Nat} {n i : Nat} {a6 a7 a8 s : Nat → Int32} (h : qv_I S n a6 a7 a8 i s) (hf : s (a6 i).toNatClampNeg = 0 ∨ ¬ qv_sup S (a8 i)) : qv_I S n a6 a7 a8 (i + 1) s := by
  refine ⟨h.1, h.2.1, fun j hj hs hz => ?_⟩
  by_cases e : j = i
  · subst e
    rcases hf with hf | hf
    · exact absurd hf hz
    · exact absurd hs hf
  · exact h.2.2 j (by omega) hs hz
theorem qv_I_t {S : Nat → Nat} {n i : Nat} {a6 a7 a8 s : Nat → Int32} (hL : qv_L n a6 a7) (hi : i < n) (h : qv_I S n a6 a7 a8 i s) (hf : ¬ s (a6 i).toNatClampNeg = 0) (hs : qv_sup S (a8 i)) :
    qv_I S n a6 a7 a8 (i + 1) (upd s (a7 i).toNatClampNeg 1) := by
  have up : ∀ c, ¬ s c = 0 → ¬ upd s (a7 i).toNatClampNeg 1 c = 0 := by
    intro c hc
    by_cases e : c = (a7 i).toNatClampNeg
    · rw [e, pk_us]; decide
    · rw [pk_un e]; exact hc
  have h1 : ∀ k, k < n → (a6 k).toNatClampNeg < 128 ∧ (a6 k).toNatClampNeg / 4 < (a7 k).toNatClampNeg / 4 := by
    intro k hk
    obtain ⟨f, t, ht, hft, e6, e7⟩ := hL.1 k hk
    rw [e6, e7, nI_clamp (by omega), nI_clamp (by omega)]
    omega
  refine ⟨fun c hc hz => ?_, up 0 h.2.1, fun j hj hsj hz => ?_⟩
  · by_cases e : c = (a7 i).toNatClampNeg
    · rw [e]
      exact qv_J_s hi hs (h.1 _ (h1 i hi).1 hf)
    · rw [pk_un e] at hz
      exact h.1 c hc hz
  · by_cases e : j = i
    · subst e
      rw [pk_us]; decide
    · have g1 := (h1 j (by omega)).2
      have g2 := hL.2 j i (by omega) hi
      have g3 : (a6 j).toNatClampNeg ≠ (a7 i).toNatClampNeg := by
        intro z
        rw [z] at g1
        have := Nat.div_le_div_right (c := 4) g2
        omega
      rw [pk_un g3] at hz
      exact up _ (h.2.2 j (by omega) hsj hz)
theorem qv_j45 {post : St1 → Prop} {S : Nat → Nat} {n : Nat} {o h kn : Int32} {a1 a2 a3 a4 a5 a6 a7 a8 a9 : Nat → Int32} (hS : qv_S S a1) (hn : n ≤ 64) (hL : qv_L n a6 a7)
    (H : ∀ b, qv_K S n a6 a7 a8 b → post (o, h, nI n, kn, a1, a2, a3, a4, a5, a6, a7, a8, b)) (h9 : qv_I S n a6 a7 a8 0 a9) :
    ∃ f, wX_justifyAll_45 post o h (nI n) kn f 0 a1 a2 a3 a4 a5 a6 a7 a8 a9 := by
  refine pk_loop (fun f i s => wX_justifyAll_45 post o h (nI n) kn f (nI i) a1 a2 a3 a4 a5 a6 a7 a8 s) (fun i s => qv_I S n a6 a7 a8 i s) n 0 a9 (by omega) h9 (fun f s hI => ?_) (fun f i s hi hI hw => ?_)
  · exact pk_le n n (fun _ => H s (qv_I_end hI)) (fun z => absurd z (by omega))
  · obtain ⟨F, T, hT, hFT, e6, e7⟩ := hL.1 i hi
    have c6 : (a6 i).toNatClampNeg = F := by rw [e6]; exact nI_clamp (by omega)
    have c7 : (a7 i).toNatClampNeg = T := by rw [e7]; exact nI_clamp (by omega)
    refine pk_le n i (fun z => absurd z (by omega)) (fun _ => ⟨pk_in i 64 (by omega), ?_⟩)
    rw [nI_clamp (show i < 2 ^ 31 by omega)]
    refine ⟨pk_in F 128 (by omega) e6, br_c (fun z => nm_r (nI_1 i) (hw s (qv_I_f hI (Or.inl z)))) (fun z => ?_)⟩
    refine qv_isSup (S := S) hS (by omega) (fun hs => ?_) (fun hs => ?_)
    · exact br_f (by decide) ⟨pk_in i 64 (by omega), pk_in T 128 hT e7, nm_e (nm_r (nI_1 i) (hw _ (qv_I_t hL hi hI z hs)))⟩
    · exact br_t rfl (nm_r (nI_1 i) (hw s (qv_I_f hI (Or.inr hs))))
theorem qv_j15 {post : St1 → Prop} {S : Nat → Nat} {n : Nat} {o h kn : Int32} {a1 a2 a3 a4 a5 a6 a7 a8 a9 : Nat → Int32} (hS : qv_S S a1) (hn : n ≤ 64) (hL : qv_L n a6 a7)
    (H : ∀ b, qv_K S n a6 a7 a8 b → post (o, h, nI n, kn, a1, a2, a3, a4, a5, a6, a7, a8, b)) :
    ∃ f, wX_justifyAll_15 post o h (nI n) kn f 0 a1 a2 a3 a4 a5 a6 a7 a8 a9 := by
  refine pk_loop (fun f i s => wX_justifyAll_15 post o h (nI n) kn f (nI i) a1 a2 a3 a4 a5 a6 a7 a8 s) (fun i s => ∀ j, j < i → s j = if j = 0 then 1 else 0) 128 0 a9 (by omega) (fun j hj => absurd hj (by omega)) (fun f s hI => ?_) (fun f i s hi hI hw => ?_)
  · refine pk_le 128 128 (fun _ => qv_j45 hS hn hL H ⟨fun c hc hz => ?_, ?_, fun j hj => absurd hj (by omega)⟩) (fun z => absurd z (by omega))
    · by_cases e : c = 0
      · rw [e]; exact qv_J_0
      · rw [hI c hc, if_neg e] at hz
        exact absurd rfl hz
    · rw [hI 0 (by omega), if_pos rfl]; decide
  · refine pk_le 128 i (fun z => absurd z (by omega)) (fun _ => ?_)
    rw [nI_clamp (show i < 2 ^ 31 by omega)]
    refine pk_eq i 0 (fun z => ⟨pk_in i 128 hi, nm_e (nm_r (nI_1 i) (hw _ ?_))⟩) (fun z => ⟨pk_in i 128 hi, nm_e (nm_r (nI_1 i) (hw _ ?_))⟩)
    · intro j hj
      by_cases e : j = i
      · rw [e, pk_us, if_pos z]
      · rw [pk_un e]; exact hI j (by omega)
    · intro j hj
      by_cases e : j = i
      · rw [e, pk_us, if_neg z]
      · rw [pk_un e]; exact hI j (by omega)
theorem qv_jall {post : St1 → Prop} {S : Nat → Nat} {n : Nat} {o h kn : Int32} {a1 a2 a3 a4 a5 a6 a7 a8 a9 : Nat → Int32} (hS : qv_S S a1) (hn : n ≤ 64) (hL : qv_L n a6 a7)
    (hK : kn = 0 ∨ qv_K S n a6 a7 a8 a9) (H : ∀ kn' b, qv_K S n a6 a7 a8 b → post (o, h, nI n, kn', a1, a2, a3, a4, a5, a6, a7, a8, b)) :
    wpX_justifyAll post (o, h, nI n, kn, a1, a2, a3, a4, a5, a6, a7, a8, a9) := by
  unfold wpX_justifyAll
  exact br_c (fun _ => qv_j15 hS hn hL (H 1)) (fun z => hK.elim (fun y => absurd y z) (H kn a9))
/-! justified -/
theorem qv_isCk {post : Int32 → Prop} {u : St2} {c : Nat} (hc : c ≤ 126) (H0 : (nI c &&& 3) = 3 → post 0) (H1 : ¬ (nI c &&& 3) = 3 → post 1) : wpX_isCheckpoint post u (nI c) :=
  pk_lt c 0 (fun z => absurd z (by omega)) (fun _ => pk_lt 126 c (fun z => absurd z (by omega)) (fun _ => br_c H0 H1))
theorem qv_just {post : Int32 → St1 → Prop} {S : Nat → Nat} {n c : Nat} {o h kn : Int32} {a1 a2 a3 a4 a5 a6 a7 a8 a9 : Nat → Int32} (hS : qv_S S a1) (hn : n ≤ 64) (hL : qv_L n a6 a7)
    (hK : kn = 0 ∨ qv_K S n a6 a7 a8 a9) (hc : c ≤ 126)
    (H : ∀ r kn' b, (kn' = 0 ∨ qv_K S n a6 a7 a8 b) → (r = 1 ↔ (¬ (nI c &&& 3) = 3 ∧ qv_J S n a6 a7 a8 c)) → post r (o, h, nI n, kn', a1, a2, a3, a4, a5, a6, a7, a8, b)) :
    wpX_justified post (o, h, nI n, kn, a1, a2, a3, a4, a5, a6, a7, a8, a9) (nI c) := by
  unfold wpX_justified
  refine qv_isCk hc (fun z => br_t rfl (H _ _ _ hK ⟨fun y => absurd y (by decide), fun y => absurd z y.1⟩)) (fun z => br_f (by decide) ?_)
  refine qv_jall hS hn hL hK (fun kn' b hb => ?_)
  refine ⟨pk_in c 128 (by omega), ?_⟩
  rw [nI_clamp (show c < 2 ^ 31 by omega)]
  refine br_c (fun y => H _ _ _ (Or.inr hb) ⟨fun x => absurd x (by decide), fun x => absurd x.2 ((hb c (by omega)).mp y)⟩) (fun y => H _ _ _ (Or.inr hb) ⟨fun _ => ⟨z, ?_⟩, fun _ => rfl⟩)
  by_cases g : qv_J S n a6 a7 a8 c
  · exact g
  · exact absurd ((hb c (by omega)).mpr g) y
theorem qv_ljust {post : Int32 → St1 → Prop} {S : Nat → Nat} {n : Nat} {o h kn : Int32} {a1 a2 a3 a4 a5 a6 a7 a8 a9 : Nat → Int32} (hS : qv_S S a1) (hn : n ≤ 64) (hL : qv_L n a6 a7)
    (hK : kn = 0 ∨ qv_K S n a6 a7 a8 a9)
    (H : ∀ r kn' b, (kn' = 0 ∨ qv_K S n a6 a7 a8 b) → (∀ j, j < 32 → (qv_bt r j = true ↔ (j < 24 ∧ ¬ (nI j &&& 3) = 3 ∧ qv_J S n a6 a7 a8 j))) → post r (o, h, nI n, kn', a1, a2, a3, a4, a5, a6, a7, a8, b)) :
    wpL_justified post (o, h, nI n, kn, a1, a2, a3, a4, a5, a6, a7, a8, a9) 0 := by
  refine pk_loop (σ := Int32 × Int32 × (Nat → Int32)) (fun f i s => wL_justified_4 post 0 f s.1 (nI i) o h (nI n) s.2.1 a1 a2 a3 a4 a5 a6 a7 a8 s.2.2)
    (fun i s => (s.2.1 = 0 ∨ qv_K S n a6 a7 a8 s.2.2) ∧ ∀ j, j < 32 → (qv_bt s.1 j = true ↔ (j < i ∧ ¬ (nI j &&& 3) = 3 ∧ qv_J S n a6 a7 a8 j))) 24 0 (0, kn, a9) (by omega) ⟨hK, fun j _ => ?_⟩ (fun f s hI => ?_) (fun f i s hi hI hw => ?_)
  · show qv_bt 0 j = true ↔ _
    rw [qv_b0]
    exact ⟨fun z => absurd z (by decide), fun z => absurd z.1 (by omega)⟩
  · exact pk_le 24 24 (fun _ => H _ _ _ hI.1 hI.2) (fun z => absurd z (by omega))
  · refine pk_le 24 i (fun z => absurd z (by omega)) (fun _ => nm_r (show 0 + nI i = nI i by rw [← nI_0, nI_add, Nat.zero_add]) ?_)
    refine qv_just hS hn hL hI.1 (by omega) (fun r kn' b hb hr => ?_)
    refine br_c (fun z => nm_e (nm_r (nI_1 i) (hw (_, kn', b) ⟨hb, fun j hj => ?_⟩))) (fun z => nm_r (nI_1 i) (hw (s.1, kn', b) ⟨hb, fun j hj => ?_⟩))
    · show qv_bt (s.1 ||| ((1 : Int32) <<< (nI i &&& 31))) j = true ↔ _
      rw [qv_or, qv_one (by omega) hj, Bool.or_eq_true_iff, hI.2 j hj, decide_eq_true_iff]
      have hz := hr.mp z
      by_cases e : j = i
      · subst e
        exact ⟨fun _ => ⟨by omega, hz⟩, fun _ => Or.inr rfl⟩
      · exact ⟨fun y => y.elim (fun y => ⟨by omega, y.2⟩) (fun y => absurd y e), fun y => Or.inl ⟨by omega, y.2⟩⟩
    · show qv_bt s.1 j = true ↔ _
      rw [hI.2 j hj]
      by_cases e : j = i
      · subst e
        exact ⟨fun y => absurd y.1 (by omega), fun y => absurd (hr.mpr y.2) z⟩
      · exact ⟨fun y => ⟨by omega, y.2⟩, fun y => ⟨by omega, y.2⟩⟩
/-! offenders -/
theorem qv_isVal {post : Int32 → Prop} {u : St2} {v : Nat} (hv : v < 8) (H : post 1) : wpX_isValidator post u (nI v) :=
  pk_lt v 0 (fun z => absurd z (by omega)) (fun _ => pk_lt 7 v (fun z => absurd z (by omega)) (fun _ => H))
theorem qv_loff {post : Int32 → Prop} {o h l kn : Int32} {a1 a2 a3 a4 a5 a6 a7 a8 a9 : Nat → Int32}
    (H : ∀ r, (∀ j, j < 32 → qv_bt r j = (decide (j < 8) && qv_bt o j)) → post r) :
    wpL_offenders post (o, h, l, kn, a1, a2, a3, a4, a5, a6, a7, a8, a9) := by
  refine pk_loop (fun f i s => wL_offenders_4 post o h l kn a1 a2 a3 a4 a5 a6 a7 a8 a9 f s (nI i)) (fun i s => ∀ j, j < 32 → qv_bt s j = (decide (j < i) && qv_bt o j)) 8 0 0 (by omega) (fun j _ => ?_) (fun f s hI => ?_) (fun f i s hi hI hw => ?_)
  · rw [qv_b0, decide_eq_false (by omega), Bool.false_and]
  · exact pk_le 8 8 (fun _ => H s hI) (fun z => absurd z (by omega))
  · refine pk_le 8 i (fun z => absurd z (by omega)) (fun _ => ?_)
    unfold wpX_offender
    refine qv_isVal hi (br_f (by decide) (nm_e (nm_r (nI_1 i) (hw _ (fun j hj => ?_)))))
    rw [qv_or, qv_back o (by omega) hj, hI j hj]
    by_cases e : j = i
    · subst e
      rw [decide_eq_false (by omega), decide_eq_true (rfl : j = j), decide_eq_true (show j < j + 1 by omega), Bool.false_and, Bool.false_or]
    · rw [decide_eq_false e, Bool.false_and, Bool.or_false]
      congr 1
      exact decide_eq_decide.mpr (by omega)
/-! justifiedIn, offended, safe -/
def qv_cnt (J : Nat → Prop) (e i c : Nat) : Prop := c ≤ i ∧ (1 ≤ c → ∃ x, 4 * e ≤ x ∧ x < 4 * e + i ∧ J x) ∧ (2 ≤ c → ∃ x y, 4 * e ≤ x ∧ x < y ∧ y < 4 * e + i ∧ J x ∧ J y)
theorem qv_cnt_0 {J : Nat → Prop} {e : Nat} : qv_cnt J e 0 0 := ⟨Nat.le_refl 0, fun h => absurd h (by omega), fun h => absurd h (by omega)⟩
theorem qv_cnt_f {J : Nat → Prop} {e i c : Nat} (h : qv_cnt J e i c) : qv_cnt J e (i + 1) c := by
  refine ⟨by have := h.1; omega, fun z => ?_, fun z => ?_⟩
  · obtain ⟨x, h1, h2, h3⟩ := h.2.1 z
    exact ⟨x, h1, by omega, h3⟩
  · obtain ⟨x, y, h1, h2, h3, h4⟩ := h.2.2 z
    exact ⟨x, y, h1, h2, by omega, h4⟩
theorem qv_cnt_t {J : Nat → Prop} {e i c : Nat} (h : qv_cnt J e i c) (hJ : J (4 * e + i)) : qv_cnt J e (i + 1) (c + 1) := by
  refine ⟨by have := h.1; omega, fun _ => ⟨4 * e + i, by omega, by omega, hJ⟩, fun z => ?_⟩
  obtain ⟨x, h1, h2, h3⟩ := h.2.1 (by omega)
  exact ⟨x, 4 * e + i, h1, by omega, by omega, h3, hJ⟩
theorem qv_jin {post : Int32 → St1 → Prop} {S : Nat → Nat} {n e : Nat} {o h kn : Int32} {a1 a2 a3 a4 a5 a6 a7 a8 a9 : Nat → Int32} (hS : qv_S S a1) (hn : n ≤ 64) (hL : qv_L n a6 a7)
    (hK : kn = 0 ∨ qv_K S n a6 a7 a8 a9) (he : e < 32)
    (H : ∀ c kn' b, (kn' = 0 ∨ qv_K S n a6 a7 a8 b) → qv_cnt (qv_J S n a6 a7 a8) e 3 c → post (nI c) (o, h, nI n, kn', a1, a2, a3, a4, a5, a6, a7, a8, b)) :
    wpX_justifiedIn post (o, h, nI n, kn, a1, a2, a3, a4, a5, a6, a7, a8, a9) (nI e) := by
  unfold wpX_justifiedIn
  refine pk_lt e 0 (fun z => absurd z (by omega)) (fun _ => pk_le e 31 (fun _ => ?_) (fun z => absurd z (by omega)))
  refine qv_jall hS hn hL hK (fun kn' b hb => ?_)
  refine nm_r (show 4 * nI e = nI (4 * e + 0) from pk_mul 4 e) ?_
  refine pk_loop (fun f i s => wX_justifiedIn_22 post (nI e) o h (nI n) kn' a1 a2 a3 a4 a5 a6 a7 a8 b f (nI s) (nI (4 * e + i))) (fun i s => qv_cnt (qv_J S n a6 a7 a8) e i s) 3 0 0 (by omega) qv_cnt_0 (fun f s hI => ?_) (fun f i s hi hI hw => ?_)
  · exact pk_le (4 * e + 3) (4 * e + 3) (fun _ => H s kn' b (Or.inr hb) hI) (fun z => absurd z (by omega)) (by rw [show (4 : Int32) * nI e = nI (4 * e) from pk_mul 4 e]; exact nI_add (4 * e) 3)
  · refine pk_le (4 * e + 3) (4 * e + i) (fun z => absurd z (by omega)) (fun _ => ⟨pk_in (4 * e + i) 128 (by omega), ?_⟩) (by rw [show (4 : Int32) * nI e = nI (4 * e) from pk_mul 4 e]; exact nI_add (4 * e) 3)
    rw [nI_clamp (show 4 * e + i < 2 ^ 31 by omega)]
    refine br_c (fun z => nm_r (show nI s + 0 = nI s by rw [← nI_0, nI_add, Nat.add_zero]) (nm_r (nI_1 _) (hw s (qv_cnt_f hI)))) (fun z => nm_r (nI_1 s) (nm_r (nI_1 _) (hw (s + 1) (qv_cnt_t hI ?_))))
    by_cases g : qv_J S n a6 a7 a8 (4 * e + i)
    · exact g
    · exact absurd ((hb _ (by omega)).mpr g) z
theorem qv_lsafe {post : Int32 → St1 → Prop} {S : Nat → Nat} {n : Nat} {o h kn : Int32} {a1 a2 a3 a4 a5 a6 a7 a8 a9 : Nat → Int32} (hS : qv_S S a1) (hn : n ≤ 64) (hL : qv_L n a6 a7)
    (hK : kn = 0 ∨ qv_K S n a6 a7 a8 a9) (hD : qv_D n o a4 a7 a8)
    (H : ∀ kn' b, (kn' = 0 ∨ qv_K S n a6 a7 a8 b) → post 1 (o, h, nI n, kn', a1, a2, a3, a4, a5, a6, a7, a8, b)) :
    wpL_safe post (o, h, nI n, kn, a1, a2, a3, a4, a5, a6, a7, a8, a9) (nI (qv_W S 255 8)) := by
  have hw : ∀ m, qv_W S m 8 ≤ 24 := fun m => qv_W_le (fun v hv => (hS v hv).2) m 8 (Nat.le_refl 8)
  refine pk_loop (σ := Int32 × (Nat → Int32)) (fun f i s => wL_safe_2 post (nI (qv_W S 255 8)) f (nI i) o h (nI n) s.1 a1 a2 a3 a4 a5 a6 a7 a8 s.2)
    (fun i s => 1 ≤ i ∧ (s.1 = 0 ∨ qv_K S n a6 a7 a8 s.2)) 32 1 (kn, a9) (by omega) ⟨Nat.le_refl 1, hK⟩ (fun f s hI => ?_) (fun f i s hi hI hw => ?_)
  · exact pk_le 32 32 (fun _ => H _ _ hI.2) (fun z => absurd z (by omega))
  · refine pk_le 32 i (fun z => absurd z (by omega)) (fun _ => ?_)
    refine qv_jin hS hn hL hI.2 hi (fun c kn' b hb hc => ?_)
    have hc3 := hc.1
    refine pk_lt c 2 (fun z => nm_r (nI_1 i) (hw (kn', b) ⟨by omega, hb⟩)) (fun z => ?_)
    unfold wpX_offended
    refine qv_stakes (S := S) hS ?_
    obtain ⟨x, y, h1, h2, h3, h4, h5⟩ := hc.2.2 z
    have h6 := qv_third hD h4 h5 (by omega) (by omega) (by omega) (by omega)
    have h7 := qv_W_le (S := S) (fun v hv => (hS v hv).2) 255 8 (Nat.le_refl 8)
    have h8 := qv_W_le (S := S) (fun v hv => (hS v hv).2) o 8 (Nat.le_refl 8)
    exact pk_le (qv_W S 255 8) (3 * qv_W S o 8) (fun _ => nm_r (nI_1 i) (hw (kn', b) ⟨by omega, hb⟩)) (fun z => absurd z (by omega)) rfl (pk_mul 3 _) (by omega) (by omega)
end
section
/-! vote and what it calls -/
theorem qv_isCkA {post : Int32 → Prop} {u : St2} {p : Int32} (H0 : post 0) (H1 : ∀ c, c ≤ 126 → p = nI c → post 1) : wpX_isCheckpoint post u p := by
  refine br_c (fun _ => H0) (fun z => br_c (fun _ => H0) (fun y => br_c (fun _ => H0) (fun _ => ?_)))
  obtain ⟨c, hc, e⟩ := nI_of2 (x := p) (M := 126) (n := 126) (by decide) z (Int32.not_lt.mp y)
  exact H1 c hc e
theorem qv_linkOf {post : Int32 → Prop} {n : Nat} {o h kn p q : Int32} {a1 a2 a3 a4 a5 a6 a7 a8 a9 : Nat → Int32} (hn : n ≤ 64) (H0 : post (-1)) (H1 : ∀ k, k < n → a6 k = p → a7 k = q → post (nI k)) :
    wpX_linkOf post (o, h, nI n, kn, a1, a2, a3, a4, a5, a6, a7, a8, a9) p q := by
  refine pk_loop (σ := Unit) (fun f i _ => wX_linkOf_2 post p q o h (nI n) kn a1 a2 a3 a4 a5 a6 a7 a8 a9 f (nI i)) (fun _ _ => True) n 0 () (by omega) trivial (fun f _ _ => ?_) (fun f i _ hi _ hw => ?_)
  · exact pk_le n n (fun _ => H0) (fun z => absurd z (by omega))
  · refine pk_le n i (fun z => absurd z (by omega)) (fun _ => ⟨pk_in i 64 (by omega), ?_⟩)
    rw [nI_clamp (show i < 2 ^ 31 by omega)]
    exact br_c (fun z => ⟨pk_in i 64 (by omega), br_c (fun y => H1 i hi z y) (fun y => nm_r (nI_1 i) (hw () trivial))⟩) (fun z => nm_r (nI_1 i) (hw () trivial))
theorem qv_judge {post : Int32 → Prop} {v s t : Nat} {o h l kn : Int32} {a1 a2 a3 a4 a5 a6 a7 a8 a9 : Nat → Int32} (hv : v < 8) (hs : s < 32) (ht : t < 32) (H : ∀ r, (¬ a4 (32 * v + t) ≤ 0 → r ≠ 0) → post r) :
    wpX_judge post (o, h, l, kn, a1, a2, a3, a4, a5, a6, a7, a8, a9) (nI v) (nI s) (nI t) := by
  have e1 : nI (32 * v) + nI t = nI (32 * v + t) := nI_add _ _
  have e2 : nI (32 * v) + nI s = nI (32 * v + s) := nI_add _ _
  have h45 : ∀ z0 z1 : Int32, post (z1 + z0 + 0) → post (z1 + z0 + 4) → wX_judge_45 post (nI s) (nI t) (nI (32 * v)) z0 z1 o h l kn a1 a2 a3 a4 a5 a6 a7 a8 a9 := by
    intro z0 z1 g0 g4
    exact nm_e ⟨pk_in (32 * v + s) 256 (by omega) e2, br_c (fun _ => nm_e g0) (fun _ => nm_e g4)⟩
  have h23 : ∀ z0 : Int32, post (z0 + 0 + 0) → post (z0 + 0 + 4) → post (z0 + 2 + 0) → post (z0 + 2 + 4) → wX_judge_23 post (nI s) (nI t) (nI (32 * v)) z0 o h l kn a1 a2 a3 a4 a5 a6 a7 a8 a9 := by
    intro z0 g1 g2 g3 g4
    exact ⟨pk_in (32 * v + s) 256 (by omega) e2, br_c (fun _ => h45 0 z0 g1 g2) (fun _ => h45 2 z0 g3 g4)⟩
  unfold wpX_judge
  refine nm_r (show 32 * nI v = nI (32 * v) from pk_mul 32 v) ⟨pk_in (32 * v + t) 256 (by omega) e1, ?_⟩
  rw [e1, nI_clamp (show 32 * v + t < 2 ^ 31 by omega)]
  exact br_c (fun z => h23 0 (H _ (fun y => absurd z y)) (H _ (fun y => absurd z y)) (H _ (fun y => absurd z y)) (H _ (fun y => absurd z y)))
    (fun z => h23 1 (H _ (fun _ => by decide)) (H _ (fun _ => by decide)) (H _ (fun _ => by decide)) (H _ (fun _ => by decide)))
theorem qv_e77 {post : St1 → Prop} {v i0 : Nat} {o h l kn x3 : Int32} {a1 a2 a3 a4 a5 a6 a7 a8 a9 : Nat → Int32} (hv : v < 8) (hi0 : i0 ≤ 32) (H : ∀ b3, post (o, h, l, kn, a1, a2, b3, a4, a5, a6, a7, a8, a9)) :
    ∃ f, wX_enter_77 post x3 (nI (32 * v)) o h l kn f (nI i0) a1 a2 a3 a4 a5 a6 a7 a8 a9 := by
  refine pk_loop (fun f i c => wX_enter_77 post x3 (nI (32 * v)) o h l kn f (nI i) a1 a2 c a4 a5 a6 a7 a8 a9) (fun _ _ => True) 32 i0 a3 hi0 trivial (fun f c _ => ?_) (fun f i c hi _ hw => ?_)
  · exact pk_le 32 32 (fun _ => H c) (fun z => absurd z (by omega))
  · have g : vp_in (nI (32 * v) + nI i) 256 := pk_in (32 * v + i) 256 (by omega) (nI_add _ _)
    exact pk_le 32 i (fun z => absurd z (by omega)) (fun _ => ⟨g, br_c (fun _ => ⟨g, g, nm_e (nm_r (nI_1 i) (hw _ trivial))⟩) (fun _ => ⟨g, nm_e (nm_r (nI_1 i) (hw _ trivial))⟩)⟩)
theorem qv_e22 {post : St1 → Prop} {v s : Nat} {o h l kn x3 : Int32} {a1 a2 a3 a4 a5 a6 a7 a8 a9 : Nat → Int32} (hv : v < 8) (hs : s < 32) (H : ∀ b2 b3, post (o, h, l, kn, a1, b2, b3, a4, a5, a6, a7, a8, a9)) :
    ∃ f, wX_enter_22 post (nI s) x3 (nI (32 * v)) o h l kn f 0 a1 a2 a3 a4 a5 a6 a7 a8 a9 := by
  refine pk_loop (fun f i c => wX_enter_22 post (nI s) x3 (nI (32 * v)) o h l kn f (nI i) a1 c a3 a4 a5 a6 a7 a8 a9) (fun _ _ => True) s 0 a2 (by omega) trivial (fun f c _ => ?_) (fun f i c hi _ hw => ?_)
  · exact pk_le s s (fun _ => nm_r (nI_1 s) (qv_e77 hv (by omega) (H c))) (fun z => absurd z (by omega))
  · have g : vp_in (nI (32 * v) + nI i) 256 := pk_in (32 * v + i) 256 (by omega) (nI_add _ _)
    exact pk_le s i (fun z => absurd z (by omega)) (fun _ => ⟨g, br_c (fun _ => ⟨g, g, nm_e (nm_r (nI_1 i) (hw _ trivial))⟩) (fun _ => ⟨g, nm_e (nm_r (nI_1 i) (hw _ trivial))⟩)⟩)
theorem qv_enter {post : St1 → Prop} {v s t : Nat} {o h l kn : Int32} {a1 a2 a3 a4 a5 a6 a7 a8 a9 : Nat → Int32} (hv : v < 8) (hs : s < 32) (ht : t < 32)
    (H : ∀ b2 b3, post (o, h, l, kn, a1, b2, b3, upd a4 (32 * v + t) (a4 (32 * v + t) + 1), a5, a6, a7, a8, a9)) :
    wpX_enter post (o, h, l, kn, a1, a2, a3, a4, a5, a6, a7, a8, a9) (nI v) (nI s) (nI t) := by
  have e1 : nI (32 * v) + nI t = nI (32 * v + t) := nI_add _ _
  have g : vp_in (nI (32 * v) + nI t) 256 := pk_in (32 * v + t) 256 (by omega) e1
  unfold wpX_enter
  refine nm_r (show 32 * nI v = nI (32 * v) from pk_mul 32 v) ⟨g, g, nm_r (by rw [e1, nI_clamp (show 32 * v + t < 2 ^ 31 by omega)]) (qv_e22 hv hs H)⟩
/-! openLink -/
/-- b is a with a gap at p -/
def qv_gap (n p : Nat) (a b : Nat → Int32) : Prop := (∀ j, j < p → b j = a j) ∧ (∀ j, p ≤ j → j < n → b (j + 1) = a j)
theorem qv_gap_0 (n : Nat) (a : Nat → Int32) : qv_gap n n a a := ⟨fun _ _ => rfl, fun j h1 h2 => absurd h1 (by omega)⟩
theorem qv_gap_s {n p : Nat} {a b : Nat → Int32} (h : qv_gap n (p + 1) a b) : qv_gap n p a (upd b (p + 1) (b p)) := by
  refine ⟨fun j hj => ?_, fun j h1 h2 => ?_⟩
  · rw [pk_un (by omega)]; exact h.1 j (by omega)
  · by_cases e : j = p
    · rw [e, pk_us]; exact h.1 p (by omega)
    · rw [pk_un (by omega)]; exact h.2 j (by omega) h2
theorem qv_gap_i {n p : Nat} {x : Int32} {a b : Nat → Int32} (h : qv_gap n p a b) : qv_ins n p x a (upd b p x) := by
  refine ⟨fun j hj => ?_, pk_us, fun j h1 h2 => ?_⟩
  · rw [pk_un (by omega)]; exact h.1 j hj
  · rw [pk_un (by omega)]; exact h.2 j h1 h2
def qv_G (n t : Nat) (a6 a7 a8 : Nat → Int32) (i p : Nat) (b6 b7 b8 : Nat → Int32) : Prop :=
  i ≤ p ∧ p ≤ n ∧ qv_gap n p a6 b6 ∧ qv_gap n p a7 b7 ∧ qv_gap n p a8 b8 ∧ (∀ j, p ≤ j → j < n → t < (a7 j).toNatClampNeg) ∧ (i < p → (a7 (p - 1)).toNatClampNeg ≤ t)
theorem qv_open {post : Int32 → St1 → Prop} {n s t : Nat} {o h kn : Int32} {a1 a2 a3 a4 a5 a6 a7 a8 a9 : Nat → Int32} (hn : n < 64) (hL : qv_L n a6 a7) (ht : t < 128)
    (H : ∀ p b6 b7 b8, p ≤ n → qv_ins n p (nI s) a6 b6 → qv_ins n p (nI t) a7 b7 → qv_ins n p 0 a8 b8 → (∀ j, j < p → (a7 j).toNatClampNeg ≤ t) → (∀ j, p ≤ j → j < n → t < (a7 j).toNatClampNeg) →
      post (nI p) (o, h, nI (n + 1), kn, a1, a2, a3, a4, a5, b6, b7, b8, a9)) :
    wpX_openLink post (o, h, nI n, kn, a1, a2, a3, a4, a5, a6, a7, a8, a9) (nI s) (nI t) := by
  refine ⟨n + 1, pk_loopD (σ := Nat × (Nat → Int32) × (Nat → Int32) × (Nat → Int32))
    (fun f i s' => wX_openLink_11 post (nI s) (nI t) o h (nI n) kn f (nI s'.1) (nI i) a1 a2 a3 a4 a5 s'.2.1 s'.2.2.1 s'.2.2.2 a9)
    (fun i s' => qv_G n t a6 a7 a8 i s'.1 s'.2.1 s'.2.2.1 s'.2.2.2) (fun f s' hI => ?_) (fun f i s' hI hw => ?_) n (n, a6, a7, a8) ⟨Nat.le_refl n, Nat.le_refl n, qv_gap_0 n a6, qv_gap_0 n a7, qv_gap_0 n a8, fun j h1 h2 => absurd h1 (by omega), fun z => absurd z (by omega)⟩⟩
  · obtain ⟨p, b6, b7, b8⟩ := s'
    obtain ⟨h1, h2, g6, g7, g8, hhi, hlo⟩ : qv_G n t a6 a7 a8 0 p b6 b7 b8 := hI
    show wX_openLink_11 post (nI s) (nI t) o h (nI n) kn (f + 1) (nI p) (nI 0) a1 a2 a3 a4 a5 b6 b7 b8 a9
    have gi : vp_in (nI p) 64 := pk_in p 64 (by omega)
    have gc : (nI p).toNatClampNeg = p := nI_clamp (by omega)
    refine pk_le 0 0 (fun _ => ⟨gi, nm_r (by rw [gc]) ⟨gi, nm_r (by rw [gc]) ⟨gi, nm_r (by rw [gc]) (nm_r (nI_1 n) ?_)⟩⟩⟩) (fun z => absurd z (by omega))
    refine H p _ _ _ h2 (qv_gap_i g6) (qv_gap_i g7) (qv_gap_i g8) (fun j hj => ?_) hhi
    exact Nat.le_trans (hL.2 j (p - 1) (by omega) (by omega)) (hlo (by omega))
  · obtain ⟨p, b6, b7, b8⟩ := s'
    obtain ⟨h1, h2, g6, g7, g8, hhi, hlo⟩ : qv_G n t a6 a7 a8 (i + 1) p b6 b7 b8 := hI
    show wX_openLink_11 post (nI s) (nI t) o h (nI n) kn (f + 1) (nI p) (nI (i + 1)) a1 a2 a3 a4 a5 b6 b7 b8 a9
    have gi : vp_in (nI i) 64 := pk_in i 64 (by omega)
    have gi1 : vp_in (nI (i + 1)) 64 := pk_in (i + 1) 64 (by omega)
    have gc : (nI i).toNatClampNeg = i := nI_clamp (by omega)
    have gc1 : (nI (i + 1)).toNatClampNeg = i + 1 := nI_clamp (by omega)
    refine pk_le (i + 1) 0 (fun z => absurd z (by omega)) (fun _ => ?_)
    rw [nI_pred, gc, gc1]
    refine pk_eq p (i + 1) (fun z => ⟨gi, ?_⟩) (fun z => nm_r (pk_m1 i) (hw (p, b6, b7, b8) ⟨by omega, h2, g6, g7, g8, hhi, fun _ => hlo (by omega)⟩))
    subst z
    obtain ⟨F, T, hT, hFT, e6, e7⟩ := hL.1 i (by omega)
    have c7 : (a7 i).toNatClampNeg = T := by rw [e7]; exact nI_clamp (by omega)
    refine pk_le T t (fun y => nm_r (pk_m1 i) (hw (i + 1, b6, b7, b8) ⟨by omega, h2, g6, g7, g8, hhi, fun _ => ?_⟩))
      (fun y => ⟨gi, gi1, nm_e ⟨gi, gi1, nm_e ⟨gi, gi1, nm_e (nm_e (nm_r (pk_m1 i) (hw (i, _, _, _) ⟨Nat.le_refl i, by omega, qv_gap_s g6, qv_gap_s g7, qv_gap_s g8, fun j hj1 hj2 => ?_, fun z => absurd z (by omega)⟩)))⟩⟩⟩)
      ((g7.1 i (by omega)).trans e7)
    · show (a7 i).toNatClampNeg ≤ t
      omega
    · by_cases e : j = i
      · rw [e]; omega
      · exact hhi j (by omega) hj2
/-! vote -/
theorem qv_v137 {post : Int32 → St1 → Prop} {h k v : Nat} {o l kn x6 : Int32} {a1 a2 a3 a4 a5 a6 a7 a8 a9 : Nat → Int32} (hk : k < 64) (hv : v < 8)
    (H : ∀ b5, post x6 (o, nI (h + 1), l, 0, a1, a2, a3, a4, b5, a6, a7, upd a8 k (a8 k ||| ((1 : Int32) <<< (nI v &&& 31))), a9)) :
    wX_vote_137 post (nI v) (nI k) x6 o (nI h) l kn a1 a2 a3 a4 a5 a6 a7 a8 a9 := by
  have gi : vp_in (nI k) 64 := pk_in k 64 hk
  have gv : vp_in (nI v) 8 := pk_in v 8 hv
  have gc : (nI k).toNatClampNeg = k := nI_clamp (by omega)
  exact ⟨gi, gi, nm_r (by rw [gc]) (nm_r (nI_1 h) ⟨gv, gv, nm_e (H _)⟩)⟩
theorem qv_v113 {post : Int32 → St1 → Prop} {S : Nat → Nat} {h n v s t : Nat} {o o' kn x4 x6 : Int32} {a1 a2 a3 a4 a5 a6 a7 a8 a9 : Nat → Int32} (hC : qv_C S h n o a1 a4 a6 a7 a8)
    (hh : h < 64) (hv : v < 8) (ht : t < 128) (hst : s / 4 < t / 4) (hO : qv_O o o') (ho : ¬ a4 (32 * v + t / 4) ≤ 0 → qv_bt o' v = true)
    (hx : x4 = -1 ∨ ∃ k, k < n ∧ x4 = nI k ∧ a7 k = nI t)
    (H : ∀ h' n' b2 b3 b4 b5 b6 b7 b8, qv_C S h' n' o' a1 b4 b6 b7 b8 → qv_M n a6 a7 a8 n' b6 b7 b8 → post x6 (o', nI h', nI n', 0, a1, b2, b3, b4, b5, b6, b7, b8, a9)) :
    wX_vote_113 post (nI v) (nI s) (nI t) x4 x6 o' (nI h) (nI n) kn a1 a2 a3 a4 a5 a6 a7 a8 a9 := by
  obtain ⟨hnh, _, hS, hN, hL, hD⟩ := hC
  have es : nI s >>> ((2 : Int32) &&& 31) = nI (s / 4) := pk_shrN (by omega) _ 2 (by decide)
  have et : nI t >>> ((2 : Int32) &&& 31) = nI (t / 4) := pk_shrN (by omega) _ 2 (by decide)
  unfold wX_vote_113
  rw [es, et]
  refine qv_enter hv (by omega) (by omega) (fun b2 b3 => ?_)
  have hN' := qv_N_add (i := 32 * v + t / 4) hN (by omega)
  rcases hx with hx | ⟨k, hk, hx, e7⟩
  · subst hx
    refine br_f (by decide) (qv_open (by omega) hL ht (fun p b6 b7 b8 hp i6 i7 i8 hlo hhi => ?_))
    refine qv_v137 (by omega) hv (fun b5 => H (h + 1) (n + 1) _ _ _ b5 b6 b7 _ ⟨by omega, by omega, hS, hN', qv_L_ins hp hL ht hst i6 i7 hlo hhi, ?_⟩ ?_)
    · exact qv_D_add hN (by omega) (qv_D_ins hp i7 i8 hD) ht i7.2.1 hv hO ho
    · exact qv_M_t (qv_M_ins i6 i7 i8) qv_M_add
  · subst hx
    refine br_t (nI_pos' (by omega)) (qv_v137 (by omega) hv (fun b5 => H (h + 1) n _ _ _ b5 a6 a7 _ ⟨by omega, by omega, hS, hN', hL, ?_⟩ qv_M_add))
    exact qv_D_add hN (by omega) hD ht e7 hv hO ho
theorem qv_v63 {post : Int32 → St1 → Prop} {S : Nat → Nat} {h n v s t : Nat} {o kn x4 : Int32} {a1 a2 a3 a4 a5 a6 a7 a8 a9 : Nat → Int32} (hC : qv_C S h n o a1 a4 a6 a7 a8)
    (hv : v < 8) (ht : t < 128) (hst : s / 4 < t / 4) (hx : x4 = -1 ∨ ∃ k, k < n ∧ x4 = nI k ∧ a7 k = nI t)
    (H0 : post (-2) (o, nI h, nI n, kn, a1, a2, a3, a4, a5, a6, a7, a8, a9))
    (H : ∀ r h' n' o' b2 b3 b4 b5 b6 b7 b8, qv_C S h' n' o' a1 b4 b6 b7 b8 → qv_M n a6 a7 a8 n' b6 b7 b8 → qv_O o o' → post r (o', nI h', nI n', 0, a1, b2, b3, b4, b5, b6, b7, b8, a9)) :
    wX_vote_63 post (nI v) (nI s) (nI t) x4 o (nI h) (nI n) kn a1 a2 a3 a4 a5 a6 a7 a8 a9 := by
  have hh := hC.2.1
  have es : nI s >>> ((2 : Int32) &&& 31) = nI (s / 4) := pk_shrN (by omega) _ 2 (by decide)
  have et : nI t >>> ((2 : Int32) &&& 31) = nI (t / 4) := pk_shrN (by omega) _ 2 (by decide)
  unfold wX_vote_63 wX_vote_64
  rw [es, et]
  refine br_t rfl (pk_lt h 64 (fun z => ?_) (fun _ => H0))
  refine qv_judge hv (by omega) (by omega) (fun r hr => br_c (fun y => ?_) (fun y => nm_e ?_))
  · exact qv_v113 hC z hv ht hst (qv_O_r o) (fun g => absurd y (hr g)) hx (fun h' n' b2 b3 b4 b5 b6 b7 b8 hC' hM => H r h' n' o b2 b3 b4 b5 b6 b7 b8 hC' hM (qv_O_r o))
  · have hO : qv_O o (o ||| ((1 : Int32) <<< (nI v &&& 31))) := fun u hu g => by rw [qv_or, g, Bool.true_or]
    have ho : qv_bt (o ||| ((1 : Int32) <<< (nI v &&& 31))) v = true := by rw [qv_or, qv_one (by omega) (by omega), decide_eq_true rfl, Bool.or_true]
    exact qv_v113 hC z hv ht hst hO (fun _ => ho) hx (fun h' n' b2 b3 b4 b5 b6 b7 b8 hC' hM => H r h' n' _ b2 b3 b4 b5 b6 b7 b8 hC' hM hO)
theorem qv_vote {post : Int32 → St1 → Prop} {S : Nat → Nat} {h n v : Nat} {o kn p q : Int32} {a1 a2 a3 a4 a5 a6 a7 a8 a9 : Nat → Int32} (hC : qv_C S h n o a1 a4 a6 a7 a8)
    (hK : kn = 0 ∨ qv_K S n a6 a7 a8 a9) (hv : v < 8)
    (H : ∀ r h' n' o' kn' b2 b3 b4 b5 b6 b7 b8, qv_C S h' n' o' a1 b4 b6 b7 b8 → qv_M n a6 a7 a8 n' b6 b7 b8 → qv_O o o' → (kn' = 0 ∨ qv_K S n' b6 b7 b8 a9) → post r (o', nI h', nI n', kn', a1, b2, b3, b4, b5, b6, b7, b8, a9)) :
    wpX_vote post (o, nI h, nI n, kn, a1, a2, a3, a4, a5, a6, a7, a8, a9) (nI v) p q := by
  have rej : ∀ r, post r (o, nI h, nI n, kn, a1, a2, a3, a4, a5, a6, a7, a8, a9) := fun r => H r h n o kn a2 a3 a4 a5 a6 a7 a8 hC (qv_M_r n a6 a7 a8) (qv_O_r o) hK
  have acc : ∀ r h' n' o' b2 b3 b4 b5 b6 b7 b8, qv_C S h' n' o' a1 b4 b6 b7 b8 → qv_M n a6 a7 a8 n' b6 b7 b8 → qv_O o o' → post r (o', nI h', nI n', 0, a1, b2, b3, b4, b5, b6, b7, b8, a9) :=
    fun r h' n' o' b2 b3 b4 b5 b6 b7 b8 hC' hM hO => H r h' n' o' 0 b2 b3 b4 b5 b6 b7 b8 hC' hM hO (Or.inl rfl)
  have hn : n ≤ 64 := Nat.le_trans hC.1 hC.2.1
  unfold wpX_vote
  refine qv_isVal hv (br_f (by decide) ?_)
  refine qv_isCkA (br_t rfl (rej _)) (fun s hs es => br_f (by decide) ?_)
  refine qv_isCkA (br_t rfl (rej _)) (fun t ht et => br_f (by decide) ?_)
  subst es et
  have es : nI s >>> ((2 : Int32) &&& 31) = nI (s / 4) := pk_shrN (by omega) _ 2 (by decide)
  have et : nI t >>> ((2 : Int32) &&& 31) = nI (t / 4) := pk_shrN (by omega) _ 2 (by decide)
  rw [es, et]
  refine pk_lt (s / 4) (t / 4) (fun hst => ?_) (fun _ => rej _)
  refine qv_linkOf hn (br_t (by decide) (qv_v63 hC hv (by omega) hst (Or.inl rfl) (rej _) acc)) (fun k hk e6 e7 => br_f (nI_pos (by omega)) ⟨pk_in k 64 (by omega), ?_⟩)
  refine br_c (fun _ => qv_v63 hC hv (by omega) hst (Or.inr ⟨k, hk, rfl, e7⟩) (rej _) acc) (fun _ => ?_)
  unfold wX_vote_64
  exact br_f (by decide) (rej _)
end
section
/-! the law's own loops -/
theorem qv_l162 {L i h0 n0 : Nat} {xs : Nat → Int32} {J63 : Int32 → Int32 → Int32 → Int32 → Int32 → (Nat → Int32) → (Nat → Int32) → (Nat → Int32) → (Nat → Int32) → (Nat → Int32) → (Nat → Int32) → (Nat → Int32) → (Nat → Int32) → (Nat → Int32) → Prop}
    {S : Nat → Nat} {low bad x8 x9 x10 o0 : Int32} {kc ks : Nat} {a1 a9 c6 c7 c8 : Nat → Int32}
    (hlow : ∀ j, j < 32 → qv_bt low j = true → (j < 24 ∧ ¬ (nI j &&& 3) = 3 ∧ qv_J S n0 c6 c7 c8 j))
    (hbad : ∀ j, j < 32 → qv_bt bad j = true → (j < 8 ∧ qv_bt o0 j = true))
    (HJ : ∀ (h n : Nat) (o kn : Int32) (a2 a3 a4 a5 a6 a7 a8 a9 : Nat → Int32), qv_C S h n o a1 a4 a6 a7 a8 → (kn = 0 ∨ qv_K S n a6 a7 a8 a9) → J63 (nI (i + 3)) o (nI h) (nI n) kn a1 a2 a3 a4 a5 a6 a7 a8 a9) :
    ∀ (d v h n : Nat) (o kn : Int32) (a2 a3 a4 a5 a6 a7 a8 : Nat → Int32), v + d = 8 → qv_C S h n o a1 a4 a6 a7 a8 → (kn = 0 ∨ qv_K S n a6 a7 a8 a9) → qv_M n0 c6 c7 c8 n a6 a7 a8 → qv_O o0 o →
      wL_law_162 (fun r => r = 1) L xs J63 (nI (qv_W S 255 8)) (nI i) low bad x8 x9 x10 kc ks (d + 1) (nI v) o (nI h) (nI n) kn a1 a2 a3 a4 a5 a6 a7 a8 a9 := by
  intro d
  induction d with
  | zero =>
    intro v h n o kn a2 a3 a4 a5 a6 a7 a8 hvd hC hK hM hO
    obtain ⟨hnh, hh, hS, hN, hL, hD⟩ := hC
    have hC : qv_C S h n o a1 a4 a6 a7 a8 := ⟨hnh, hh, hS, hN, hL, hD⟩
    refine pk_le 8 v (fun _ => ?_) (fun z => absurd z (by omega))
    refine qv_ljust hS (by omega) hL hK (fun r kn' b hK' hr => br_t (qv_sub (fun j hj z => ?_)) ?_)
    · have y := hlow j hj z
      exact (hr j hj).mpr ⟨y.1, y.2.1, qv_J_mono hM y.2.2⟩
    · refine qv_loff (fun r2 hr2 => br_t (qv_sub (fun j hj z => ?_)) ?_)
      · have y := hbad j hj z
        rw [hr2 j hj, decide_eq_true y.1, hO j y.1 y.2]
        rfl
      · exact qv_lsafe hS (by omega) hL hK' hD (fun kn'' b' hK'' => br_f (by decide) (nm_r (nI_add i 3) (HJ h n o kn'' a2 a3 a4 a5 a6 a7 a8 b' hC hK'')))
  | succ d ih =>
    intro v h n o kn a2 a3 a4 a5 a6 a7 a8 hvd hC hK hM hO
    refine pk_le 8 v (fun z => absurd z (by omega)) (fun _ => br_c (fun _ => nm_r (nI_1 v) (ih (v + 1) h n o kn a2 a3 a4 a5 a6 a7 a8 (by omega) hC hK hM hO)) (fun _ => ?_))
    exact qv_vote hC hK (by omega) (fun r h' n' o' kn' b2 b3 b4 b5 b6 b7 b8 hC' hM' hO' hK' => nm_r (nI_1 v) (ih (v + 1) h' n' o' kn' b2 b3 b4 b5 b6 b7 b8 (by omega) hC' hK' (qv_M_t hM hM') (qv_O_t hO hO')))
theorem qv_l63 {L : Nat} {xs : Nat → Int32} {S : Nat → Nat} {kc ks : Nat} {a1 : Nat → Int32} (hLL : L ≤ 260) :
    ∀ (d i h n : Nat) (o kn : Int32) (a2 a3 a4 a5 a6 a7 a8 a9 : Nat → Int32), L < i + 3 * (d + 1) → i ≤ 1000 → qv_C S h n o a1 a4 a6 a7 a8 → (kn = 0 ∨ qv_K S n a6 a7 a8 a9) →
      wL_law_63 (fun r => r = 1) L xs (nI (qv_W S 255 8)) kc ks (d + 1) (nI i) o (nI h) (nI n) kn a1 a2 a3 a4 a5 a6 a7 a8 a9 := by
  intro d
  induction d with
  | zero =>
    intro i h n o kn a2 a3 a4 a5 a6 a7 a8 a9 hi hi2 hC hK
    exact pk_lt L (i + 3) (fun _ => rfl) (fun z => absurd z (by omega)) rfl (nI_add i 3)
  | succ d ih =>
    intro i h n o kn a2 a3 a4 a5 a6 a7 a8 a9 hi hi2 hC hK
    refine pk_lt L (i + 3) (fun _ => rfl) (fun z => ?_) rfl (nI_add i 3)
    obtain ⟨hnh, hh, hS, hN, hL, hD⟩ := hC
    have hC : qv_C S h n o a1 a4 a6 a7 a8 := ⟨hnh, hh, hS, hN, hL, hD⟩
    refine qv_ljust hS (by omega) hL hK (fun low kn1 b hK1 hlow => ?_)
    refine qv_loff (fun bad hbad => ?_)
    have T : ∀ x7 z0 z1 : Int32, wL_law_129 (fun r => r = 1) L xs (wL_law_63 (fun r => r = 1) L xs (nI (qv_W S 255 8)) kc ks (d + 1)) (nI (qv_W S 255 8)) (nI i) low bad x7 z0 z1 kc ks o (nI h) (nI n) kn1 a1 a2 a3 a4 a5 a6 a7 a8 b := by
      intro x7 z0 z1
      refine nm_e ⟨pk_in (i + 1) L (by omega) (nI_1 i), nm_e ⟨pk_in (i + 2) L (by omega) (nI_add i 2), nm_e ⟨9, ?_⟩⟩⟩
      refine qv_l162 (h0 := h) (n0 := n) (o0 := o) (c6 := a6) (c7 := a7) (c8 := a8) (fun j hj y => (hlow j hj).mp y) (fun j hj y => ?_) (fun h' n' o' kn' b2 b3 b4 b5 b6 b7 b8 b9 hC' hK' => ?_) 8 0 h n o kn1 a2 a3 a4 a5 a6 a7 a8 (by omega) hC hK1 (qv_M_r n a6 a7 a8) (qv_O_r o)
      · rw [hbad j hj, Bool.and_eq_true, decide_eq_true_iff] at y
        exact y
      · exact ih (i + 3) h' n' o' kn' b2 b3 b4 b5 b6 b7 b8 b9 (by omega) (by omega) hC' hK'
    exact ⟨pk_in i L (by omega), nm_e ⟨pk_in i L (by omega), by decide, nm_e (br_c (fun _ => T _ _ _) (fun _ => ⟨pk_in (i + 1) L (by omega) (nI_1 i), by decide, T _ _ _⟩))⟩⟩
/-! the stakes -/
theorem qv_stake {post : Int32 → St1 → Prop} {v s : Nat} {o h l kn : Int32} {a1 a2 a3 a4 a5 a6 a7 a8 a9 : Nat → Int32} (hv : v < 8) (hs : s ≤ 3) (H : ∀ r, post r (o, h, l, 0, upd a1 v (nI s), a2, a3, a4, a5, a6, a7, a8, a9)) :
    wpX_stake post (o, h, l, kn, a1, a2, a3, a4, a5, a6, a7, a8, a9) (nI v) (nI s) := by
  have gv : vp_in (nI v) 8 := pk_in v 8 hv
  unfold wpX_stake
  refine qv_isVal hv (br_f (by decide) ⟨gv, nm_e ?_⟩)
  exact pk_le 0 s (fun _ => pk_le s 100 (fun _ => ⟨gv, nm_r (by rw [nI_clamp (show v < 2 ^ 31 by omega)]) (H _)⟩) (fun z => absurd z (by omega))) (fun z => absurd z (by omega))
def qv_st (L : Nat) (xs : Nat → Int32) (j : Nat) : Nat := if j < L then (xs j).toBitVec.toNat % 2 ^ 2 else 1
theorem qv_st_le (L : Nat) (xs : Nat → Int32) (j : Nat) : qv_st L xs j ≤ 3 := by
  unfold qv_st
  split
  · omega
  · omega
theorem qv_l12 {L : Nat} {xs : Nat → Int32} {kc ks : Nat} {a1 a2 a3 : Nat → Int32} (hL : L ≤ 260) :
    ∃ f, wL_law_12 (fun r => r = 1) L xs kc ks f 0 0 0 0 0 0 a1 a2 a3 (fun _ => 0) (fun _ => 0) (fun _ => 0) (fun _ => 0) (fun _ => 0) (fun _ => 0) := by
  refine pk_loop (fun f v s => wL_law_12 (fun r => r = 1) L xs kc ks f (nI (qv_W (qv_st L xs) 255 v)) (nI v) 0 0 0 0 s a2 a3 (fun _ => 0) (fun _ => 0) (fun _ => 0) (fun _ => 0) (fun _ => 0) (fun _ => 0)) (fun v s => ∀ j, j < v → s j = nI (qv_st L xs j)) 8 0 a1 (by omega) (fun j hj => absurd hj (by omega)) (fun f s hI => ?_) (fun f v s hv hI hw => ?_)
  · refine pk_le 8 8 (fun _ => br_c (fun _ => rfl) (fun _ => ⟨L + 1, ?_⟩)) (fun z => absurd z (by omega))
    refine qv_l63 (S := qv_st L xs) hL L 8 0 0 0 0 a2 a3 _ _ _ _ _ _ (by omega) (by omega) ⟨Nat.le_refl 0, by omega, fun j hj => ⟨hI j hj, qv_st_le L xs j⟩, fun j _ => ⟨0, Nat.le_refl 0, rfl⟩, ⟨fun k hk => absurd hk (by omega), fun j k _ hk => absurd hk (by omega)⟩, ⟨fun k v hk => absurd hk (by omega), fun j k v hj => absurd hj (by omega)⟩⟩ (Or.inl rfl)
  · have hx : ∀ z : Int32, z = nI (qv_st L xs v) → wL_law_33 (fun r => r = 1) L xs (wL_law_12 (fun r => r = 1) L xs kc ks f) (nI (qv_W (qv_st L xs) 255 v)) (nI v) z kc ks 0 0 0 0 s a2 a3 (fun _ => 0) (fun _ => 0) (fun _ => 0) (fun _ => 0) (fun _ => 0) (fun _ => 0) := by
      intro z hz
      subst hz
      unfold wL_law_33
      refine qv_stake hv (qv_st_le L xs v) (fun r => nm_r (show nI (qv_W (qv_st L xs) 255 v) + nI (qv_st L xs v) = nI (qv_W (qv_st L xs) 255 (v + 1)) by rw [nI_add, qv_W_t (qv_255 v hv)]) (nm_r (nI_1 v) (hw _ (fun j hj => ?_))))
      by_cases e : j = v
      · rw [e, pk_us]
      · rw [pk_un e]; exact hI j (by omega)
    refine pk_le 8 v (fun z => absurd z (by omega)) (fun _ => pk_le L v (fun z => hx _ ?_) (fun z => ⟨pk_in v L z, hx _ ?_⟩))
    · unfold qv_st
      rw [if_neg (by omega)]
      rfl
    · unfold qv_st
      rw [if_pos z, nI_clamp (show v < 2 ^ 31 by omega)]
      exact pk_and _ 2 (by decide)
/-! the constructor -/
theorem qv_i103 {post : St1 → Prop} {mc ms kc ks : Nat} {o h l kn : Int32} {a1 a2 a3 a4 a5 a6 a7 a8 a9 : Nat → Int32} (H : ∀ b2 b3, post (o, h, l, kn, a1, b2, b3, a4, a5, a6, a7, a8, a9)) :
    ∃ f, wX_init_103 post mc ms kc ks o h l kn f 0 a1 a2 a3 a4 a5 a6 a7 a8 a9 := by
  refine pk_loop (σ := (Nat → Int32) × (Nat → Int32)) (fun f i s => wX_init_103 post mc ms kc ks o h l kn f (nI i) a1 s.1 s.2 a4 a5 a6 a7 a8 a9) (fun _ _ => True) 256 0 (a2, a3) (by omega) trivial (fun f s _ => ?_) (fun f i s hi _ hw => ?_)
  · exact pk_le 256 256 (fun _ => H s.1 s.2) (fun z => absurd z (by omega))
  · exact pk_le 256 i (fun z => absurd z (by omega)) (fun _ => ⟨pk_in i 256 hi, nm_e ⟨pk_in i 256 hi, nm_e (nm_r (nI_1 i) (hw (_, _) trivial))⟩⟩)
theorem qv_i82 {post : St1 → Prop} {mc ms kc ks : Nat} {o h l kn : Int32} {a1 a2 a3 a4 a5 a6 a7 a8 a9 : Nat → Int32} (H : ∀ b1 b2 b3, post (o, h, l, kn, b1, b2, b3, a4, a5, a6, a7, a8, a9)) :
    ∃ f, wX_init_82 post mc ms kc ks o h l kn f 0 a1 a2 a3 a4 a5 a6 a7 a8 a9 := by
  refine pk_loop (fun f i s => wX_init_82 post mc ms kc ks o h l kn f (nI i) s a2 a3 a4 a5 a6 a7 a8 a9) (fun _ _ => True) 8 0 a1 (by omega) trivial (fun f s _ => ?_) (fun f i s hi _ hw => ?_)
  · exact pk_le 8 8 (fun _ => qv_i103 (H s)) (fun z => absurd z (by omega))
  · exact pk_le 8 i (fun z => absurd z (by omega)) (fun _ => ⟨pk_in i 8 hi, nm_e (nm_r (nI_1 i) (hw _ trivial))⟩)
theorem i_vc (xs : Nat → Int32) (L : Nat) (hL : L ≤ 260) : wpL_law (fun r => r = 1) L xs := by
  refine ⟨9, 1104, by omega, by omega, ?_⟩
  unfold wpX_init
  exact ⟨by omega, by omega, by omega, by omega, by omega, by omega, by omega, by omega, by omega, by omega, by omega, by omega, by omega, by omega, by omega, by omega, by omega, by omega, qv_i82 (fun b1 b2 b3 => qv_l12 hL)⟩
end
