section
/-! base rows: stores, bytes, counts, bits of a long. The rows ts_ and wb_ are from the kit's rows to paste -/
theorem pk_us {f : Nat → Int32} {k : Nat} {x : Int32} : upd f k x k = x := if_pos rfl
theorem pk_un {f : Nat → Int32} {k j : Nat} {x : Int32} (h : j ≠ k) : upd f k x j = f j := if_neg h
theorem pk_uLs {f : Nat → Int64} {k : Nat} {x : Int64} : vp_updL f k x k = x := if_pos rfl
theorem pk_uLn {f : Nat → Int64} {k j : Nat} {x : Int64} (h : j ≠ k) : vp_updL f k x j = f j := if_neg h
theorem za_id {f : Nat → Int32} {k : Nat} {x : Int32} (h : f k = x) : upd f k x = f := by
  funext j
  by_cases e : j = k
  · rw [e, pk_us, h]
  · rw [pk_un e]
theorem za_b : ∀ j, j < 12 → vp_nar .byte (nI j).toInt8.toInt32 = nI j ∧ vp_nar .byte (nI j) = nI j := by
  intro j hj
  have h : ∀ j, j < 12 → (nI j).toInt8.toInt32.toInt8.toInt32 = nI j ∧ (nI j).toInt8.toInt32 = nI j := by decide +kernel
  rw [vp_nar_byte, vp_nar_byte]
  exact h j hj
theorem za_bv {x : Int32} (h : vp_in x 12) : vp_nar .byte x.toInt8.toInt32 = x := by
  obtain ⟨j, hj, rfl⟩ := vp_in_of h (by decide)
  exact (za_b j hj).1
theorem za_bw {x : Int32} (h : vp_in x 12) : vp_nar .byte x = x := by
  obtain ⟨j, hj, rfl⟩ := vp_in_of h (by decide)
  exact (za_b j hj).2
theorem za_lt {x : Int32} {n : Nat} (h : vp_in x n) (hn : n < 2 ^ 31) : x.toNatClampNeg < n := by
  obtain ⟨j, hj, rfl⟩ := vp_in_of h hn
  rw [nI_clamp (by omega)]
  exact hj
theorem za_nI {x : Int32} {n : Nat} (h : vp_in x n) (hn : n < 2 ^ 31) : nI x.toNatClampNeg = x := by
  obtain ⟨j, hj, rfl⟩ := vp_in_of h hn
  rw [nI_clamp (by omega)]
theorem za_l12 {x : Int32} (h : vp_in x 12) : x.toNatClampNeg < 12 := za_lt h (by decide)
theorem za_i12 {j : Nat} (h : j < 12) : vp_in (nI j) 12 := vp_in_nI h (by decide)
theorem za_i40 {j : Nat} (h : j < 40) : vp_in (nI j) 40 := vp_in_nI h (by decide)
theorem za_c12 {j : Nat} (h : j < 12) : (nI j).toNatClampNeg = j := nI_clamp (by omega)
theorem za_c40 {j : Nat} (h : j < 40) : (nI j).toNatClampNeg = j := nI_clamp (by omega)
theorem za_inj {x y : Int32} (hx : vp_in x 12) (hy : vp_in y 12) (h : x.toNatClampNeg = y.toNatClampNeg) : x = y := by
  rw [← za_nI hx (by decide), ← za_nI hy (by decide), h]
/-- how many i below n satisfy P -/
def za_cn (P : Nat → Bool) : Nat → Nat
  | 0 => 0
  | n + 1 => za_cn P n + (if P n = true then 1 else 0)
theorem za_cn_b (P : Nat → Bool) (n : Nat) : za_cn P n ≤ n := by
  induction n with
  | zero => exact Nat.le_refl _
  | succ n ih => unfold za_cn; split <;> omega
theorem za_cn_le {P Q : Nat → Bool} : ∀ n, (∀ i, i < n → P i = true → Q i = true) → za_cn P n ≤ za_cn Q n := by
  intro n
  induction n with
  | zero => intro _; exact Nat.le_refl _
  | succ n ih =>
    intro h
    have h1 := ih (fun i hi => h i (by omega))
    have h2 := h n (by omega)
    unfold za_cn
    by_cases hp : P n = true
    · rw [if_pos hp, if_pos (h2 hp)]; omega
    · rw [if_neg hp]; split <;> omega
theorem za_cn_eq {P Q : Nat → Bool} (n : Nat) (h : ∀ i, i < n → P i = Q i) : za_cn P n = za_cn Q n :=
  Nat.le_antisymm (za_cn_le n (fun i hi e => by rw [← h i hi]; exact e)) (za_cn_le n (fun i hi e => by rw [h i hi]; exact e))
theorem za_cn_lt {P Q : Nat → Bool} : ∀ n, (∀ i, i < n → P i = true → Q i = true) → ∀ j, j < n → P j = false → Q j = true → za_cn P n + 1 ≤ za_cn Q n := by
  intro n
  induction n with
  | zero => intro _ j hj; omega
  | succ n ih =>
    intro h j hj hp hq
    unfold za_cn
    by_cases e : j = n
    · subst e
      have h1 := za_cn_le (P := P) (Q := Q) j (fun i hi => h i (by omega))
      rw [if_pos hq, if_neg (by rw [hp]; decide)]
      omega
    · have h1 := ih (fun i hi => h i (by omega)) j (by omega) hp hq
      have h2 := h n (by omega)
      by_cases hn : P n = true
      · rw [if_pos hn, if_pos (h2 hn)]; omega
      · rw [if_neg hn]; split <;> omega
/-- an injection of the P's below n into the Q's below m -/
theorem za_cn_inj {P : Nat → Bool} (g : Nat → Nat) (m : Nat) : ∀ n (Q : Nat → Bool), (∀ i, i < n → P i = true → g i < m ∧ Q (g i) = true) → (∀ i j, i < n → j < n → P i = true → P j = true → g i = g j → i = j) → za_cn P n ≤ za_cn Q m := by
  intro n
  induction n with
  | zero => intro Q _ _; exact Nat.zero_le _
  | succ n ih =>
    intro Q h1 h2
    show za_cn P n + (if P n = true then 1 else 0) ≤ _
    by_cases hp : P n = true
    · rw [if_pos hp]
      obtain ⟨a1, a2⟩ := h1 n (by omega) hp
      have h3 : za_cn P n ≤ za_cn (fun j => Q j && !(decide (j = g n))) m := by
        refine ih _ (fun i hi e => ?_) (fun i j hi hj => h2 i j (by omega) (by omega))
        obtain ⟨b1, b2⟩ := h1 i (by omega) e
        refine ⟨b1, ?_⟩
        have : g i ≠ g n := fun z => by have := h2 i n (by omega) (by omega) e hp z; omega
        simp [b2, this]
      have h4 : za_cn (fun j => Q j && !(decide (j = g n))) m + 1 ≤ za_cn Q m := by
        refine za_cn_lt m (fun i _ e => ?_) (g n) a1 (by simp) a2
        simp at e
        exact e.1
      omega
    · rw [if_neg hp]
      exact ih Q (fun i hi => h1 i (by omega)) (fun i j hi hj => h2 i j (by omega) (by omega))
/-! bits of a long -/
theorem ts_bit {w : Int64} {s : UInt64} {j : Nat} (hj : j < 64) (hs : s.toNat = j) : ((w.toUInt64 >>> s).toInt64 &&& 1) = 0 ↔ w.toBitVec.getLsbD j = false := by
  have e : (w.toUInt64 >>> s).toInt64.toBitVec = w.toBitVec >>> j := by
    apply BitVec.eq_of_toNat_eq
    show (w.toUInt64 >>> s).toNat = _
    rw [UInt64.toNat_shiftRight, hs, Nat.mod_eq_of_lt hj, BitVec.toNat_ushiftRight]
    rfl
  rw [← Int64.toBitVec_inj, Int64.toBitVec_and, e]
  show w.toBitVec >>> j &&& 1#64 = 0#64 ↔ _
  constructor
  · intro h
    have t := congrArg (fun x => x.getLsbD 0) h
    simpa using t
  · intro h
    apply BitVec.eq_of_getLsbD_eq
    intro i hi
    cases i with
    | zero => simp [h]
    | succ i => simp
theorem wb_tb (n : Nat) : (lN n).toBitVec = BitVec.ofNat 64 n := rfl
theorem wb_inj {a b : Int64} (h : a.toBitVec = b.toBitVec) : a = b := Int64.toBitVec_inj.mp h
theorem wb_tn {n : Nat} (h : n < 2 ^ 64) : (lN n).toBitVec.toNat = n := by rw [wb_tb, BitVec.toNat_ofNat, Nat.mod_eq_of_lt h]
theorem wb_of (x : Int64) : ∃ n, n < 2 ^ 64 ∧ x = lN n := ⟨x.toBitVec.toNat, x.toBitVec.isLt, wb_inj (by rw [wb_tb]; simp)⟩
theorem wb_c : ∀ k, k < 64 → ((nI k).toInt64 &&& 63) = lN k := by decide +kernel
theorem wb_cu : ∀ k, k < 64 → ((nI k).toInt64.toUInt64 &&& Int64.toUInt64 63) = UInt64.ofNat k := by decide +kernel
def za_bt (x : Int64) (i : Nat) : Bool := x.toBitVec.getLsbD i
theorem za_bt_or (x y : Int64) (i : Nat) : za_bt (x ||| y) i = (za_bt x i || za_bt y i) := by
  unfold za_bt; rw [Int64.toBitVec_or, BitVec.getLsbD_or]
theorem za_bt_and (x y : Int64) (i : Nat) : za_bt (x &&& y) i = (za_bt x i && za_bt y i) := by
  unfold za_bt; rw [Int64.toBitVec_and, BitVec.getLsbD_and]
theorem za_bt_0 (i : Nat) : za_bt 0 i = false := by
  show (0#64).getLsbD i = false
  exact BitVec.getLsbD_zero
theorem za_bt_big {x : Int64} {i : Nat} (h : 64 ≤ i) : za_bt x i = false := BitVec.getLsbD_of_ge _ _ h
theorem za_one : ∀ k, k < 64 → ((1 : Int64) <<< ((nI k).toInt64 &&& 63)).toBitVec = BitVec.twoPow 64 k := by decide +kernel
theorem za_bt_1 {s : Nat} (hs : s < 64) (i : Nat) : za_bt ((1 : Int64) <<< ((nI s).toInt64 &&& 63)) i = decide (s = i) := by
  unfold za_bt
  rw [za_one s hs, BitVec.getLsbD_twoPow]
  by_cases e : s = i
  · simp [e, show i < 64 by omega]
  · simp [e]
theorem za_bt_c {s : Nat} (hs : s < 64) (x : Int64) (i : Nat) : za_bt (x &&& (((1 : Int64) <<< ((nI s).toInt64 &&& 63)) ^^^ (-1))) i = (za_bt x i && !(decide (s = i))) := by
  have ha : (-1 : Int64).toBitVec = BitVec.allOnes 64 := by decide
  by_cases hi : i < 64
  · rw [za_bt_and]
    congr 1
    unfold za_bt
    rw [Int64.toBitVec_xor, za_one s hs, ha, BitVec.getLsbD_xor, BitVec.getLsbD_twoPow, BitVec.getLsbD_allOnes]
    by_cases e : s = i
    · simp [e, hi]
    · simp [e, hi]
  · rw [za_bt_big (by omega), za_bt_big (by omega)]
    rfl
theorem za_bt_ext {x : Int64} (h : ∀ i, za_bt x i = false) : x = 0 := by
  apply wb_inj
  apply BitVec.eq_of_getLsbD_eq
  intro i hi
  have := h i
  unfold za_bt at this
  rw [this]
  exact (za_bt_0 i).symm
theorem za_bt_t {x : Int64} {s : Nat} (hs : s < 64) : (((x.toUInt64 >>> ((nI s).toInt64.toUInt64 &&& Int64.toUInt64 63)).toInt64) &&& 1) = 0 ↔ za_bt x s = false := by
  rw [wb_cu s hs]
  refine ts_bit hs ?_
  show (BitVec.ofNat 64 s).toNat = s
  rw [BitVec.toNat_ofNat, Nat.mod_eq_of_lt (by omega)]
/-- the lowest bit of a shifted long is 0 or 1 -/
theorem za_bt_v {x : Int64} {s : Nat} (hs : s < 64) : (((x.toUInt64 >>> ((nI s).toInt64.toUInt64 &&& Int64.toUInt64 63)).toInt64) &&& 1).toInt32 = if za_bt x s = true then 1 else 0 := by
  by_cases e : za_bt x s = false
  · rw [(za_bt_t hs).mpr e, e]
    decide
  · have h1 : za_bt x s = true := by cases h : za_bt x s <;> simp_all
    rw [if_pos h1]
    have h2 := fun z => e ((za_bt_t hs).mp z)
    generalize (x.toUInt64 >>> ((nI s).toInt64.toUInt64 &&& Int64.toUInt64 63)).toInt64 = w at h2 ⊢
    have h3 : w &&& 1 = 0 ∨ w &&& 1 = 1 := by
      obtain ⟨m, hm, rfl⟩ := wb_of w
      have h4 : lN m &&& 1 = lN (m % 2) := by
        apply wb_inj
        rw [Int64.toBitVec_and]
        apply BitVec.eq_of_toNat_eq
        rw [BitVec.toNat_and, wb_tn hm, wb_tn (by omega)]
        exact Nat.and_one_is_mod m
      rw [h4]
      rcases Nat.mod_two_eq_zero_or_one m with h | h
      · left; rw [h]; rfl
      · right; rw [h]; rfl
    rcases h3 with h | h
    · exact absurd h h2
    · rw [h]; decide
/-- some bit of a long that isn't 0 is set -/
theorem za_bt_ne {x : Int64} (h : x ≠ 0) : ∃ i, za_bt x i = true := by
  apply Classical.byContradiction
  intro hn
  apply h
  apply za_bt_ext
  intro i
  cases hb : za_bt x i with
  | false => rfl
  | true => exact absurd ⟨i, hb⟩ hn
end
section
/-! statements, models, what is sound: plain mathematics -/
def ms_op (k p q : Int32) : Int32 := if k = 3 then p + q else if k = 4 then p * q else if p = q then 1 else 0
/-- statement i holds in the model -/
def ms_H (K AX AY AZ : Nat → Int32) (e : Nat → Nat) (t v : Nat → Int32) (l r : Nat → Nat) (i : Nat) : Prop :=
  (K i = 0 → e (AX i).toNatClampNeg = e (AY i).toNatClampNeg) ∧
  (K i = 1 → t (AX i).toNatClampNeg = 1 ∧ v (AX i).toNatClampNeg = AY i) ∧
  (K i = 2 → t (AX i).toNatClampNeg = 2 ∧ l (AX i).toNatClampNeg = e (AY i).toNatClampNeg ∧ r (AX i).toNatClampNeg = e (AZ i).toNatClampNeg) ∧
  ((K i = 3 ∨ K i = 4 ∨ K i = 7) → t (AY i).toNatClampNeg = 1 → t (AZ i).toNatClampNeg = 1 → t (AX i).toNatClampNeg = 1 ∧ v (AX i).toNatClampNeg = ms_op (K i) (v (AY i).toNatClampNeg) (v (AZ i).toNatClampNeg)) ∧
  (K i = 5 → t (AY i).toNatClampNeg = 2 → e (AX i).toNatClampNeg = l (AY i).toNatClampNeg) ∧
  (K i = 6 → t (AY i).toNatClampNeg = 2 → e (AX i).toNatClampNeg = r (AY i).toNatClampNeg)
/-- a model respects its own classes -/
def ms_G (e : Nat → Nat) (t v : Nat → Int32) (l r : Nat → Nat) : Prop := ∀ a b, a < 12 → b < 12 → e a = e b → t a = t b ∧ (t a = 1 → v a = v b) ∧ (t a = 2 → l a = l b ∧ r a = r b)
def ms_M (n : Nat) (K AX AY AZ : Nat → Int32) (e : Nat → Nat) (t v : Nat → Int32) (l r : Nat → Nat) : Prop := ms_G e t v l r ∧ ∀ i, i < n → ms_H K AX AY AZ e t v l r i
/-- no model at all -/
def ms_N (n : Nat) (K AX AY AZ : Nat → Int32) : Prop := ∀ (e : Nat → Nat) (t v : Nat → Int32) (l r : Nat → Nat), ms_M n K AX AY AZ e t v l r → False
/-- valid statements -/
def ms_V1 (K AX AY AZ : Nat → Int32) (i : Nat) : Prop := (K i = 0 ∨ K i = 1 ∨ K i = 2 ∨ K i = 3 ∨ K i = 4 ∨ K i = 5 ∨ K i = 6 ∨ K i = 7) ∧ vp_in (AX i) 12 ∧ (K i ≠ 1 → vp_in (AY i) 12) ∧ ((K i = 2 ∨ K i = 3 ∨ K i = 4 ∨ K i = 7) → vp_in (AZ i) 12)
def ms_V (n : Nat) (K AX AY AZ : Nat → Int32) : Prop := ∀ i, i < n → ms_V1 K AX AY AZ i
/-- a state (h: heads; I: has an int; P: has a pair) is below the model -/
def ms_L (e : Nat → Nat) (t v : Nat → Int32) (l r : Nat → Nat) (h : Nat → Nat) (I P : Nat → Prop) (nm lf rt : Nat → Int32) : Prop :=
  (∀ x, x < 12 → e (h x) = e x) ∧ ∀ x, x < 12 → h x = x → (I x → t x = 1 ∧ v x = nm x) ∧ (P x → t x = 2 ∧ l x = e (lf x).toNatClampNeg ∧ r x = e (rt x).toNatClampNeg)
theorem ms_up {e : Nat → Nat} {t v : Nat → Int32} {l r : Nat → Nat} {h : Nat → Nat} {I P : Nat → Prop} {nm lf rt : Nat → Int32} (g : ms_G e t v l r) (H : ms_L e t v l r h I P nm lf rt) (hh : ∀ x, x < 12 → h x < 12 ∧ h (h x) = h x) {x : Nat} (hx : x < 12) : (I (h x) → t x = 1 ∧ v x = nm (h x)) ∧ (P (h x) → t x = 2 ∧ l x = e (lf (h x)).toNatClampNeg ∧ r x = e (rt (h x)).toNatClampNeg) := by
  obtain ⟨h1, h2⟩ := hh x hx
  have g1 := g (h x) x h1 hx (H.1 x hx)
  have g2 := H.2 (h x) h1 h2
  refine ⟨fun hi => ?_, fun hp => ?_⟩
  · obtain ⟨a1, a2⟩ := g2.1 hi
    exact ⟨g1.1 ▸ a1, (g1.2.1 a1) ▸ a2⟩
  · obtain ⟨a1, a2, a3⟩ := g2.2 hp
    obtain ⟨b1, b2⟩ := g1.2.2 a1
    exact ⟨g1.1 ▸ a1, b1 ▸ a2, b2 ▸ a3⟩
theorem ms_H_cg {K AX AY AZ K' AX' AY' AZ' : Nat → Int32} {e : Nat → Nat} {t v : Nat → Int32} {l r : Nat → Nat} {i : Nat} (h1 : K' i = K i) (h2 : AX' i = AX i) (h3 : AY' i = AY i) (h4 : AZ' i = AZ i) : ms_H K' AX' AY' AZ' e t v l r i ↔ ms_H K AX AY AZ e t v l r i := by
  unfold ms_H
  rw [h1, h2, h3, h4]
theorem ms_V1_cg {K AX AY AZ K' AX' AY' AZ' : Nat → Int32} {i : Nat} (h1 : K' i = K i) (h2 : AX' i = AX i) (h3 : AY' i = AY i) (h4 : AZ' i = AZ i) : ms_V1 K' AX' AY' AZ' i ↔ ms_V1 K AX AY AZ i := by
  unfold ms_V1
  rw [h1, h2, h3, h4]
theorem ms_V_x {n : Nat} {K AX AY AZ : Nat → Int32} {i : Nat} (h : ms_V n K AX AY AZ) (hi : i < n) : (AX i).toNatClampNeg < 12 := za_l12 (h i hi).2.1
theorem ms_V_y {n : Nat} {K AX AY AZ : Nat → Int32} {i : Nat} (h : ms_V n K AX AY AZ) (hi : i < n) (hk : K i ≠ 1) : (AY i).toNatClampNeg < 12 := za_l12 ((h i hi).2.2.1 hk)
theorem ms_V_z {n : Nat} {K AX AY AZ : Nat → Int32} {i : Nat} (h : ms_V n K AX AY AZ) (hi : i < n) (hk : K i = 2 ∨ K i = 3 ∨ K i = 4 ∨ K i = 7) : (AZ i).toNatClampNeg < 12 := za_l12 ((h i hi).2.2.2 hk)
end
section
/-! the component's state, plainly: h the heads, sp the suspended, rd the ready, jq couples to be joined, st nm lf rt of the heads, wt the waiters, ja jb the couples -/
/-- f respects the classes and the couples that are to be joined -/
def xi_F (f : Nat → Nat) (h : Nat → Nat) (jq : Nat) (ja jb : Nat → Int32) : Prop := (∀ x, x < 12 → f (h x) = f x) ∧ ∀ j, j < jq → f (ja j).toNatClampNeg = f (jb j).toNatClampNeg
/-- a suspended statement with sources ya, za that wants d -/
def xi_W (h : Nat → Nat) (rd : Int64) (st : Nat → Int32) (wt : Nat → Int64) (ya za : Nat) (d : Int32) (i : Nat) : Prop :=
  za_bt rd i = true ∨ (st (h ya) = 0 ∧ za_bt (wt (h ya)) i = true) ∨ (st (h za) = 0 ∧ za_bt (wt (h za)) i = true) ∨ (st (h ya) ≠ 0 ∧ st (h ya) ≠ d) ∨ (st (h za) ≠ 0 ∧ st (h za) ≠ d)
/-- what is kept of statement i -/
def xi_CI (K AX AY AZ : Nat → Int32) (f : Nat → Nat) (h : Nat → Nat) (sp : Int64) (rd : Int64) (jq : Nat) (st : Nat → Int32) (nm : Nat → Int32) (lf : Nat → Int32) (rt : Nat → Int32) (wt : Nat → Int64) (ja : Nat → Int32) (jb : Nat → Int32) (i : Nat) : Prop :=
  (K i = 0 → f (AX i).toNatClampNeg = f (AY i).toNatClampNeg) ∧
  (K i = 1 → st (h (AX i).toNatClampNeg) = 1 ∧ nm (h (AX i).toNatClampNeg) = AY i) ∧
  (K i = 2 → st (h (AX i).toNatClampNeg) = 2 ∧ f (lf (h (AX i).toNatClampNeg)).toNatClampNeg = f (AY i).toNatClampNeg ∧ f (rt (h (AX i).toNatClampNeg)).toNatClampNeg = f (AZ i).toNatClampNeg) ∧
  ((K i = 3 ∨ K i = 4 ∨ K i = 7) → (za_bt sp i = true → xi_W h rd st wt (AY i).toNatClampNeg (AZ i).toNatClampNeg 1 i) ∧ (za_bt sp i = false → st (h (AY i).toNatClampNeg) = 1 ∧ st (h (AZ i).toNatClampNeg) = 1 ∧ st (h (AX i).toNatClampNeg) = 1 ∧ nm (h (AX i).toNatClampNeg) = ms_op (K i) (nm (h (AY i).toNatClampNeg)) (nm (h (AZ i).toNatClampNeg)))) ∧
  (K i = 5 → (za_bt sp i = true → xi_W h rd st wt (AY i).toNatClampNeg (AY i).toNatClampNeg 2 i) ∧ (za_bt sp i = false → st (h (AY i).toNatClampNeg) = 2 ∧ f (AX i).toNatClampNeg = f (lf (h (AY i).toNatClampNeg)).toNatClampNeg)) ∧
  (K i = 6 → (za_bt sp i = true → xi_W h rd st wt (AY i).toNatClampNeg (AY i).toNatClampNeg 2 i) ∧ (za_bt sp i = false → st (h (AY i).toNatClampNeg) = 2 ∧ f (AX i).toNatClampNeg = f (rt (h (AY i).toNatClampNeg)).toNatClampNeg))
/-- how many classes, how many free heads -/
def xi_cl (h : Nat → Nat) : Nat := za_cn (fun x => decide (h x = x)) 12
def xi_fr (h : Nat → Nat) (st : Nat → Int32) : Nat := za_cn (fun x => decide (h x = x) && decide (st x = 0)) 12
def xi_mu (h : Nat → Nat) (sp rd : Int64) (jq : Nat) (st : Nat → Int32) : Nat := 50 * (xi_cl h + xi_fr h st) + 3 * za_cn (za_bt sp) 40 + jq + za_cn (za_bt rd) 40
/-- ranges -/
def xi_A (n : Nat) (K : Nat → Int32) (h : Nat → Nat) (sp : Int64) (rd : Int64) (jq : Nat) (st : Nat → Int32) (nm : Nat → Int32) (lf : Nat → Int32) (rt : Nat → Int32) (wt : Nat → Int64) (ja : Nat → Int32) (jb : Nat → Int32) : Prop :=
  (∀ x, x < 12 → h x < 12 ∧ h (h x) = h x) ∧ (∀ x, x < 12 → st x = 0 ∨ st x = 1 ∨ st x = 2) ∧ (∀ x, x < 12 → st x = 2 → vp_in (lf x) 12 ∧ vp_in (rt x) 12) ∧
  (∀ j, j < jq → vp_in (ja j) 12 ∧ vp_in (jb j) 12) ∧ jq + xi_cl h ≤ 14 ∧ (∀ i, za_bt rd i = true → za_bt sp i = true) ∧
  (∀ i, za_bt sp i = true → i < n ∧ (K i = 3 ∨ K i = 4 ∨ K i = 5 ∨ K i = 6 ∨ K i = 7))
/-- soundness -/
def xi_C (n : Nat) (K AX AY AZ : Nat → Int32) (h : Nat → Nat) (sp : Int64) (rd : Int64) (jq : Nat) (st : Nat → Int32) (nm : Nat → Int32) (lf : Nat → Int32) (rt : Nat → Int32) (wt : Nat → Int64) (ja : Nat → Int32) (jb : Nat → Int32) : Prop := ∀ (e : Nat → Nat) (t v : Nat → Int32) (l r : Nat → Nat), ms_M n K AX AY AZ e t v l r → ms_L e t v l r h (fun x => st x = 1) (fun x => st x = 2) nm lf rt ∧ ∀ j, j < jq → e (ja j).toNatClampNeg = e (jb j).toNatClampNeg
/-- completeness -/
def xi_B (n : Nat) (K AX AY AZ : Nat → Int32) (h : Nat → Nat) (sp : Int64) (rd : Int64) (jq : Nat) (st : Nat → Int32) (nm : Nat → Int32) (lf : Nat → Int32) (rt : Nat → Int32) (wt : Nat → Int64) (ja : Nat → Int32) (jb : Nat → Int32) : Prop := ∀ f, xi_F f h jq ja jb → ∀ i, i < n → xi_CI K AX AY AZ f h sp rd jq st nm lf rt wt ja jb i
def xi_I (n : Nat) (K AX AY AZ : Nat → Int32) (h : Nat → Nat) (sp : Int64) (rd : Int64) (jq : Nat) (st : Nat → Int32) (nm : Nat → Int32) (lf : Nat → Int32) (rt : Nat → Int32) (wt : Nat → Int64) (ja : Nat → Int32) (jb : Nat → Int32) : Prop := xi_A n K h sp rd jq st nm lf rt wt ja jb ∧ xi_B n K AX AY AZ h sp rd jq st nm lf rt wt ja jb ∧ xi_C n K AX AY AZ h sp rd jq st nm lf rt wt ja jb
/-- a step that keeps what is kept of statement i -/
def xi_Mo (h : Nat → Nat) (sp : Int64) (rd : Int64) (jq : Nat) (st : Nat → Int32) (nm : Nat → Int32) (lf : Nat → Int32) (rt : Nat → Int32) (wt : Nat → Int64) (ja : Nat → Int32) (jb : Nat → Int32) (h' : Nat → Nat) (sp' : Int64) (rd' : Int64) (jq' : Nat) (st' : Nat → Int32) (nm' : Nat → Int32) (lf' : Nat → Int32) (rt' : Nat → Int32) (wt' : Nat → Int64) (ja' : Nat → Int32) (jb' : Nat → Int32) (i : Nat) : Prop :=
  (∀ f, xi_F f h' jq' ja' jb' → xi_F f h jq ja jb) ∧
  (∀ x, x < 12 → st (h x) ≠ 0 → st' (h' x) = st (h x) ∧ (st (h x) = 1 → nm' (h' x) = nm (h x)) ∧ (st (h x) = 2 → ∀ f, xi_F f h' jq' ja' jb' → f (lf' (h' x)).toNatClampNeg = f (lf (h x)).toNatClampNeg ∧ f (rt' (h' x)).toNatClampNeg = f (rt (h x)).toNatClampNeg)) ∧
  za_bt sp' i = za_bt sp i ∧ (za_bt rd i = true → za_bt rd' i = true) ∧
  (∀ x, x < 12 → st (h x) = 0 → za_bt (wt (h x)) i = true → za_bt sp i = true → za_bt rd' i = true ∨ (st' (h' x) = 0 ∧ za_bt (wt' (h' x)) i = true))
theorem xi_W_mo {h : Nat → Nat} {sp : Int64} {rd : Int64} {jq : Nat} {st : Nat → Int32} {nm : Nat → Int32} {lf : Nat → Int32} {rt : Nat → Int32} {wt : Nat → Int64} {ja : Nat → Int32} {jb : Nat → Int32} {h' : Nat → Nat} {sp' : Int64} {rd' : Int64} {jq' : Nat} {st' : Nat → Int32} {nm' : Nat → Int32} {lf' : Nat → Int32} {rt' : Nat → Int32} {wt' : Nat → Int64} {ja' : Nat → Int32} {jb' : Nat → Int32} {i : Nat} (H : xi_Mo h sp rd jq st nm lf rt wt ja jb h' sp' rd' jq' st' nm' lf' rt' wt' ja' jb' i) (hs : za_bt sp i = true) {ya za : Nat} (hy : ya < 12) (hz : za < 12) {d : Int32} (w : xi_W h rd st wt ya za d i) : xi_W h' rd' st' wt' ya za d i := by
  obtain ⟨_, H2, _, H4, H5⟩ := H
  unfold xi_W at w ⊢
  rcases w with w | ⟨w1, w2⟩ | ⟨w1, w2⟩ | ⟨w1, w2⟩ | ⟨w1, w2⟩
  · exact Or.inl (H4 w)
  · rcases H5 ya hy w1 w2 hs with q | q
    · exact Or.inl q
    · exact Or.inr (Or.inl q)
  · rcases H5 za hz w1 w2 hs with q | q
    · exact Or.inl q
    · exact Or.inr (Or.inr (Or.inl q))
  · have q := (H2 ya hy w1).1
    exact Or.inr (Or.inr (Or.inr (Or.inl ⟨by rw [q]; exact w1, by rw [q]; exact w2⟩)))
  · have q := (H2 za hz w1).1
    exact Or.inr (Or.inr (Or.inr (Or.inr ⟨by rw [q]; exact w1, by rw [q]; exact w2⟩)))
theorem xi_mono {n : Nat} {K AX AY AZ : Nat → Int32} {f : Nat → Nat} {h : Nat → Nat} {sp : Int64} {rd : Int64} {jq : Nat} {st : Nat → Int32} {nm : Nat → Int32} {lf : Nat → Int32} {rt : Nat → Int32} {wt : Nat → Int64} {ja : Nat → Int32} {jb : Nat → Int32} {h' : Nat → Nat} {sp' : Int64} {rd' : Int64} {jq' : Nat} {st' : Nat → Int32} {nm' : Nat → Int32} {lf' : Nat → Int32} {rt' : Nat → Int32} {wt' : Nat → Int64} {ja' : Nat → Int32} {jb' : Nat → Int32} {i : Nat} (V : ms_V n K AX AY AZ) (hi : i < n) (H : xi_Mo h sp rd jq st nm lf rt wt ja jb h' sp' rd' jq' st' nm' lf' rt' wt' ja' jb' i) (hf : xi_F f h' jq' ja' jb') (c : xi_CI K AX AY AZ f h sp rd jq st nm lf rt wt ja jb i) : xi_CI K AX AY AZ f h' sp' rd' jq' st' nm' lf' rt' wt' ja' jb' i := by
  have hx := ms_V_x V hi
  have hy := ms_V_y V hi
  have hz := ms_V_z V hi
  have H' := H
  obtain ⟨_, H2, H3, _, _⟩ := H
  obtain ⟨c0, c1, c2, c3, c5, c6⟩ := c
  have n0 : (1 : Int32) ≠ 0 := by decide
  have n2 : (2 : Int32) ≠ 0 := by decide
  have one : ∀ x, x < 12 → st (h x) = 1 → st' (h' x) = 1 ∧ nm' (h' x) = nm (h x) := by
    intro x hx q
    obtain ⟨a1, a2, _⟩ := H2 x hx (by rw [q]; exact n0)
    exact ⟨a1.trans q, a2 q⟩
  have two : ∀ x, x < 12 → st (h x) = 2 → st' (h' x) = 2 ∧ f (lf' (h' x)).toNatClampNeg = f (lf (h x)).toNatClampNeg ∧ f (rt' (h' x)).toNatClampNeg = f (rt (h x)).toNatClampNeg := by
    intro x hx q
    obtain ⟨a1, _, a3⟩ := H2 x hx (by rw [q]; exact n2)
    exact ⟨a1.trans q, a3 q f hf⟩
  refine ⟨c0, fun hk => ?_, fun hk => ?_, fun hk => ?_, fun hk => ?_, fun hk => ?_⟩
  · obtain ⟨a1, a2⟩ := c1 hk
    obtain ⟨b1, b2⟩ := one _ hx a1
    exact ⟨b1, b2.trans a2⟩
  · obtain ⟨a1, a2, a3⟩ := c2 hk
    obtain ⟨b1, b2, b3⟩ := two _ hx a1
    exact ⟨b1, b2.trans a2, b3.trans a3⟩
  · obtain ⟨a1, a2⟩ := c3 hk
    have k1 : K i ≠ 1 := by rcases hk with q | q | q <;> rw [q] <;> decide
    have hy' := hy k1
    have hz' := hz (Or.inr hk)
    rw [H3]
    refine ⟨fun q => xi_W_mo H' q hy' hz' (a1 q), fun q => ?_⟩
    obtain ⟨b1, b2, b3, b4⟩ := a2 q
    obtain ⟨d1, d2⟩ := one _ hy' b1
    obtain ⟨d3, d4⟩ := one _ hz' b2
    obtain ⟨d5, d6⟩ := one _ hx b3
    exact ⟨d1, d3, d5, by rw [d6, d2, d4]; exact b4⟩
  · obtain ⟨a1, a2⟩ := c5 hk
    have hy' := hy (by rw [hk]; decide)
    rw [H3]
    refine ⟨fun q => xi_W_mo H' q hy' hy' (a1 q), fun q => ?_⟩
    obtain ⟨b1, b2⟩ := a2 q
    obtain ⟨d1, d2, _⟩ := two _ hy' b1
    exact ⟨d1, b2.trans d2.symm⟩
  · obtain ⟨a1, a2⟩ := c6 hk
    have hy' := hy (by rw [hk]; decide)
    rw [H3]
    refine ⟨fun q => xi_W_mo H' q hy' hy' (a1 q), fun q => ?_⟩
    obtain ⟨b1, b2⟩ := a2 q
    obtain ⟨d1, _, d3⟩ := two _ hy' b1
    exact ⟨d1, b2.trans d3.symm⟩
/-- an equal state but for the bits of the others -/
theorem xi_Mo_tr {h : Nat → Nat} {sp : Int64} {rd : Int64} {jq : Nat} {st : Nat → Int32} {nm : Nat → Int32} {lf : Nat → Int32} {rt : Nat → Int32} {wt : Nat → Int64} {ja : Nat → Int32} {jb : Nat → Int32} {h' : Nat → Nat} {sp' : Int64} {rd' : Int64} {jq' : Nat} {st' : Nat → Int32} {nm' : Nat → Int32} {lf' : Nat → Int32} {rt' : Nat → Int32} {wt' : Nat → Int64} {ja' : Nat → Int32} {jb' : Nat → Int32} {i : Nat} (e1 : h' = h) (e2 : st' = st) (e3 : nm' = nm) (e4 : lf' = lf) (e5 : rt' = rt) (e6 : ∀ f, xi_F f h' jq' ja' jb' → xi_F f h jq ja jb) (e7 : za_bt sp' i = za_bt sp i) (e8 : za_bt rd' i = za_bt rd i) (e9 : ∀ x, za_bt (wt x) i = true → za_bt (wt' x) i = true) : xi_Mo h sp rd jq st nm lf rt wt ja jb h' sp' rd' jq' st' nm' lf' rt' wt' ja' jb' i := by
  subst e1 e2 e3 e4 e5
  refine ⟨e6, fun x _ _ => ⟨rfl, fun _ => rfl, fun _ f _ => ⟨rfl, rfl⟩⟩, e7, fun q => by rw [e8]; exact q, fun x _ q1 q2 _ => Or.inr ⟨q1, e9 _ q2⟩⟩
/-- more couples -/
theorem xi_F_more {f h : Nat → Nat} {jq jq' : Nat} {ja jb ja' jb' : Nat → Int32} (hq : jq ≤ jq') (ea : ∀ j, j < jq → ja' j = ja j) (eb : ∀ j, j < jq → jb' j = jb j) (H : xi_F f h jq' ja' jb') : xi_F f h jq ja jb :=
  ⟨H.1, fun j hj => by rw [← ea j hj, ← eb j hj]; exact H.2 j (by omega)⟩
end
section
/-! the component's steps, plainly -/
theorem xi_bind {n : Nat} {K AX AY AZ : Nat → Int32} {h : Nat → Nat} {sp : Int64} {rd : Int64} {jq : Nat} {st : Nat → Int32} {nm : Nat → Int32} {lf : Nat → Int32} {rt : Nat → Int32} {wt : Nat → Int64} {ja : Nat → Int32} {jb : Nat → Int32} {rd' : Int64} {st' nm' lf' rt' : Nat → Int32} {wt' : Nat → Int64} {b : Nat} (A : xi_A n K h sp rd jq st nm lf rt wt ja jb) (Cc : xi_C n K AX AY AZ h sp rd jq st nm lf rt wt ja jb) (hb : b < 12) (hbb : h b = b) (s0 : st b = 0)
    (e1 : ∀ x, x ≠ b → st' x = st x ∧ nm' x = nm x ∧ lf' x = lf x ∧ rt' x = rt x ∧ wt' x = wt x) (e2 : st' b = 1 ∨ st' b = 2)
    (e3 : ∀ i, za_bt rd' i = (za_bt rd i || (za_bt (wt b) i && za_bt sp i))) (e4 : st' b = 2 → vp_in (lf' b) 12 ∧ vp_in (rt' b) 12)
    (e5 : ∀ (e : Nat → Nat) (t v : Nat → Int32) (l r : Nat → Nat), ms_M n K AX AY AZ e t v l r → (st' b = 1 → t b = 1 ∧ v b = nm' b) ∧ (st' b = 2 → t b = 2 ∧ l b = e (lf' b).toNatClampNeg ∧ r b = e (rt' b).toNatClampNeg)) :
    xi_A n K h sp rd' jq st' nm' lf' rt' wt' ja jb ∧ xi_C n K AX AY AZ h sp rd' jq st' nm' lf' rt' wt' ja jb ∧ (∀ i, xi_Mo h sp rd jq st nm lf rt wt ja jb h sp rd' jq st' nm' lf' rt' wt' ja jb i) ∧ xi_mu h sp rd' jq st' < xi_mu h sp rd jq st := by
  obtain ⟨A1, A2, A3, A4, A5, A6, A7⟩ := A
  refine ⟨⟨A1, fun x hx => ?_, fun x hx q => ?_, A4, A5, fun i q => ?_, A7⟩, ?_, fun i => ⟨fun f q => q, fun x hx q => ?_, rfl, fun q => ?_, fun x hx q1 q2 q3 => ?_⟩, ?_⟩
  · by_cases e : x = b
    · subst e; exact Or.inr e2
    · rw [(e1 x e).1]; exact A2 x hx
  · by_cases e : x = b
    · subst e; exact e4 q
    · obtain ⟨f1, f2, f3, f4, f5⟩ := e1 x e
      rw [f3, f4]
      exact A3 x hx (by rw [← f1]; exact q)
  · rw [e3] at q
    cases hr : za_bt rd i with
    | true => exact A6 i hr
    | false => rw [hr] at q; simp at q; exact q.2
  · intro e t v l r hM
    obtain ⟨⟨c1, c2⟩, c3⟩ := Cc e t v l r hM
    refine ⟨⟨c1, fun x hx q => ?_⟩, c3⟩
    by_cases e0 : x = b
    · subst e0; exact e5 e t v l r hM
    · obtain ⟨f1, f2, f3, f4, f5⟩ := e1 x e0
      dsimp only
      rw [f1, f2, f3, f4]
      exact c2 x hx q
  · have e0 : h x ≠ b := fun z => q (by rw [z]; exact s0)
    obtain ⟨f1, f2, f3, f4, f5⟩ := e1 _ e0
    rw [f1, f2, f3, f4]
    exact ⟨rfl, fun _ => rfl, fun _ f _ => ⟨rfl, rfl⟩⟩
  · rw [e3, q]; rfl
  · by_cases e0 : h x = b
    · left
      rw [e0] at q2
      rw [e3, q2, q3]
      simp
    · obtain ⟨f1, f2, f3, f4, f5⟩ := e1 _ e0
      rw [f1, f5]
      exact Or.inr ⟨q1, q2⟩
  · have m1 : xi_fr h st' + 1 ≤ xi_fr h st := by
      refine za_cn_lt 12 (fun i hi q => ?_) b hb ?_ ?_
      · simp only [Bool.and_eq_true, decide_eq_true_eq] at q ⊢
        refine ⟨q.1, ?_⟩
        by_cases e0 : i = b
        · subst e0; exact s0
        · rw [← (e1 i e0).1]; exact q.2
      · have : ¬ st' b = 0 := by rcases e2 with z | z <;> rw [z] <;> decide
        simp [this]
      · simp [hbb, s0]
    have m2 := za_cn_b (za_bt rd') 40
    unfold xi_mu
    omega
theorem xi_want {n : Nat} {K AX AY AZ : Nat → Int32} {h : Nat → Nat} {sp : Int64} {rd : Int64} {jq : Nat} {st : Nat → Int32} {nm : Nat → Int32} {lf : Nat → Int32} {rt : Nat → Int32} {wt : Nat → Int64} {ja : Nat → Int32} {jb : Nat → Int32} {jq' : Nat} {ja' jb' : Nat → Int32} (A : xi_A n K h sp rd jq st nm lf rt wt ja jb) (Cc : xi_C n K AX AY AZ h sp rd jq st nm lf rt wt ja jb) (hq : jq ≤ jq') (ea : ∀ j, j < jq → ja' j = ja j) (eb : ∀ j, j < jq → jb' j = jb j)
    (hn : ∀ j, jq ≤ j → j < jq' → vp_in (ja' j) 12 ∧ vp_in (jb' j) 12 ∧ ∀ (e : Nat → Nat) (t v : Nat → Int32) (l r : Nat → Nat), ms_M n K AX AY AZ e t v l r → e (ja' j).toNatClampNeg = e (jb' j).toNatClampNeg) (hc : jq' + xi_cl h ≤ 14) :
    xi_A n K h sp rd jq' st nm lf rt wt ja' jb' ∧ xi_C n K AX AY AZ h sp rd jq' st nm lf rt wt ja' jb' ∧ (∀ i, xi_Mo h sp rd jq st nm lf rt wt ja jb h sp rd jq' st nm lf rt wt ja' jb' i) := by
  obtain ⟨A1, A2, A3, A4, A5, A6, A7⟩ := A
  refine ⟨⟨A1, A2, A3, fun j hj => ?_, hc, A6, A7⟩, ?_, fun i => xi_Mo_tr rfl rfl rfl rfl rfl (fun f q => xi_F_more hq ea eb q) rfl rfl (fun _ q => q)⟩
  · by_cases z : j < jq
    · rw [ea j z, eb j z]; exact A4 j z
    · have := hn j (by omega) hj
      exact ⟨this.1, this.2.1⟩
  · intro e t v l r hM
    obtain ⟨c1, c3⟩ := Cc e t v l r hM
    refine ⟨c1, fun j hj => ?_⟩
    by_cases z : j < jq
    · rw [ea j z, eb j z]; exact c3 j z
    · exact (hn j (by omega) hj).2.2 e t v l r hM
/-- the heads behind a join -/
def xi_hj (h : Nat → Nat) (big small : Nat) : Nat → Nat := fun x => if h x = small then big else h x
theorem xi_hj_s {h : Nat → Nat} {big small x : Nat} (q : h x = small) : xi_hj h big small x = big := if_pos q
theorem xi_hj_n {h : Nat → Nat} {big small x : Nat} (q : h x ≠ small) : xi_hj h big small x = h x := if_neg q
/-- what a join of two heads leaves -/
def xi_J (big small : Nat) (sp rd : Int64) (jq : Nat) (st nm lf rt : Nat → Int32) (wt : Nat → Int64) (ja jb : Nat → Int32) (rd' : Int64) (jq' : Nat) (st' nm' lf' rt' : Nat → Int32) (wt' : Nat → Int64) (ja' jb' : Nat → Int32) : Prop :=
  (∀ x, x ≠ big → st' x = st x ∧ nm' x = nm x ∧ lf' x = lf x ∧ rt' x = rt x ∧ wt' x = wt x) ∧
  (st big ≠ 0 → (st small = 0 ∨ st small = st big) ∧ (st small = 1 → nm small = nm big) ∧ st' big = st big ∧ nm' big = nm big ∧ lf' big = lf big ∧ rt' big = rt big) ∧
  (st big = 0 → st' big = st small ∧ (st small = 1 → nm' big = nm small) ∧ (st small = 2 → lf' big = lf small ∧ rt' big = rt small)) ∧
  (st' big = 0 → rd' = rd ∧ ∀ i, za_bt (wt' big) i = (za_bt (wt big) i || za_bt (wt small) i)) ∧
  (st' big ≠ 0 → ∀ i, za_bt rd' i = (za_bt rd i || ((za_bt (wt big) i || za_bt (wt small) i) && za_bt sp i))) ∧
  ((st big = 2 ∧ st small = 2 ∧ jq' = jq + 2 ∧ (∀ j, j < jq → ja' j = ja j ∧ jb' j = jb j) ∧ ja' jq = lf big ∧ jb' jq = lf small ∧ ja' (jq + 1) = rt big ∧ jb' (jq + 1) = rt small) ∨
   (¬ (st big = 2 ∧ st small = 2) ∧ jq' = jq ∧ ja' = ja ∧ jb' = jb))
section
variable {n : Nat} {K AX AY AZ : Nat → Int32} {h : Nat → Nat} {sp : Int64} {rd : Int64} {jq : Nat} {st : Nat → Int32} {nm : Nat → Int32} {lf : Nat → Int32} {rt : Nat → Int32} {wt : Nat → Int64} {ja : Nat → Int32} {jb : Nat → Int32} {rd' : Int64} {jq' : Nat} {st' nm' lf' rt' : Nat → Int32} {wt' : Nat → Int64} {ja' jb' : Nat → Int32} {big small : Nat}
theorem xi_J_rd (J : xi_J big small sp rd jq st nm lf rt wt ja jb rd' jq' st' nm' lf' rt' wt' ja' jb') (i : Nat) : (za_bt rd i = true → za_bt rd' i = true) ∧ (za_bt rd' i = true → za_bt rd i = true ∨ za_bt sp i = true) := by
  obtain ⟨_, _, _, J4, J5, _⟩ := J
  by_cases z : st' big = 0
  · rw [(J4 z).1]; exact ⟨id, Or.inl⟩
  · rw [J5 z i]
    cases za_bt rd i <;> cases za_bt sp i <;> simp
theorem xi_J_q (J : xi_J big small sp rd jq st nm lf rt wt ja jb rd' jq' st' nm' lf' rt' wt' ja' jb') : jq ≤ jq' ∧ jq' ≤ jq + 2 ∧ ∀ j, j < jq → ja' j = ja j ∧ jb' j = jb j := by
  obtain ⟨_, _, _, _, _, J6⟩ := J
  rcases J6 with ⟨_, _, a, b, _⟩ | ⟨_, a, b, c⟩
  · exact ⟨by omega, by omega, b⟩
  · exact ⟨by omega, by omega, fun j _ => by rw [b, c]; exact ⟨rfl, rfl⟩⟩
theorem xi_J_cl (hh : ∀ x, x < 12 → h x < 12 ∧ h (h x) = h x) (hb : big < 12) (hs : small < 12) (hbb : h big = big) (hss : h small = small) (hne : big ≠ small) : (∀ x, x < 12 → xi_hj h big small x < 12 ∧ xi_hj h big small (xi_hj h big small x) = xi_hj h big small x) ∧ (∀ x, xi_hj h big small x = x → h x = x ∧ x ≠ small) ∧ xi_cl (xi_hj h big small) + 1 ≤ xi_cl h := by
  have b0 : xi_hj h big small big = big := by rw [xi_hj_n (by rw [hbb]; exact hne), hbb]
  have k2 : ∀ x, xi_hj h big small x = x → h x = x ∧ x ≠ small := by
    intro x q
    by_cases z : h x = small
    · rw [xi_hj_s z] at q
      rw [← q, hbb] at z
      exact absurd z hne
    · rw [xi_hj_n z] at q
      exact ⟨q, fun y => z (by rw [q]; exact y)⟩
  refine ⟨fun x hx => ?_, k2, ?_⟩
  · by_cases z : h x = small
    · rw [xi_hj_s z, b0]; exact ⟨hb, rfl⟩
    · rw [xi_hj_n z]
      obtain ⟨a1, a2⟩ := hh x hx
      exact ⟨a1, by rw [xi_hj_n (by rw [a2]; exact z), a2]⟩
  · refine za_cn_lt 12 (fun i _ q => ?_) small hs ?_ ?_
    · simp only [decide_eq_true_eq] at q ⊢
      exact (k2 i q).1
    · have : ¬ xi_hj h big small small = small := fun z => (k2 small z).2 rfl
      simp [this]
    · simp [hss]
theorem xi_joinA (A : xi_A n K h sp rd (jq + 1) st nm lf rt wt ja jb) (hb : big < 12) (hs : small < 12) (hbb : h big = big) (hss : h small = small) (hne : big ≠ small)
    (J : xi_J big small sp rd jq st nm lf rt wt ja jb rd' jq' st' nm' lf' rt' wt' ja' jb') :
    xi_A n K (xi_hj h big small) sp rd' jq' st' nm' lf' rt' wt' ja' jb' ∧ xi_mu (xi_hj h big small) sp rd' jq' st' < xi_mu h sp rd (jq + 1) st := by
  obtain ⟨A1, A2, A3, A4, A5, A6, A7⟩ := A
  obtain ⟨k1, k2, k3⟩ := xi_J_cl A1 hb hs hbb hss hne
  obtain ⟨q1, q2, q3⟩ := xi_J_q J
  have rr := xi_J_rd J
  obtain ⟨J1, J2, J3, J4, J5, J6⟩ := J
  refine ⟨⟨k1, fun x hx => ?_, fun x hx q => ?_, fun j hj => ?_, by omega, fun i q => ?_, A7⟩, ?_⟩
  · by_cases z : x = big
    · subst z
      by_cases y : st x = 0
      · rw [(J3 y).1]; exact A2 _ hs
      · rw [(J2 y).2.2.1]; exact A2 _ hx
    · rw [(J1 x z).1]; exact A2 x hx
  · by_cases z : x = big
    · subst z
      by_cases y : st x = 0
      · obtain ⟨a1, a2, a3⟩ := J3 y
        rw [a1] at q
        rw [(a3 q).1, (a3 q).2]
        exact A3 _ hs q
      · obtain ⟨_, _, a1, _, a3, a4⟩ := J2 y
        rw [a1] at q
        rw [a3, a4]
        exact A3 _ hx q
    · obtain ⟨f1, f2, f3, f4, f5⟩ := J1 x z
      rw [f1] at q
      rw [f3, f4]
      exact A3 x hx q
  · by_cases z : j < jq
    · rw [(q3 j z).1, (q3 j z).2]; exact A4 j (by omega)
    · rcases J6 with ⟨s1, s2, a, b, c1, c2, c3, c4⟩ | ⟨_, a, b, c⟩
      · have u1 := A3 big hb s1
        have u2 := A3 small hs s2
        have : j = jq ∨ j = jq + 1 := by omega
        rcases this with y | y
        · rw [y, c1, c2]; exact ⟨u1.1, u2.1⟩
        · rw [y, c3, c4]; exact ⟨u1.2, u2.2⟩
      · omega
  · rcases (rr i).2 q with y | y
    · exact A6 i y
    · exact y
  · have m1 : xi_fr (xi_hj h big small) st' ≤ xi_fr h st := by
      refine za_cn_le 12 (fun i hi q => ?_)
      simp only [Bool.and_eq_true, decide_eq_true_eq] at q ⊢
      refine ⟨(k2 i q.1).1, ?_⟩
      by_cases z : i = big
      · subst z
        apply Classical.byContradiction
        intro y
        exact y (by rw [← (J2 y).2.2.1]; exact q.2)
      · rw [← (J1 i z).1]; exact q.2
    have m2 := za_cn_b (za_bt rd') 40
    unfold xi_mu
    omega
theorem xi_joinC (A : xi_A n K h sp rd (jq + 1) st nm lf rt wt ja jb) (Cc : xi_C n K AX AY AZ h sp rd (jq + 1) st nm lf rt wt ja jb) (hb : big < 12) (hs : small < 12) (hbb : h big = big) (hss : h small = small) (hne : big ≠ small)
    (hxy : (h (ja jq).toNatClampNeg = big ∧ h (jb jq).toNatClampNeg = small) ∨ (h (ja jq).toNatClampNeg = small ∧ h (jb jq).toNatClampNeg = big))
    (J : xi_J big small sp rd jq st nm lf rt wt ja jb rd' jq' st' nm' lf' rt' wt' ja' jb') :
    xi_C n K AX AY AZ (xi_hj h big small) sp rd' jq' st' nm' lf' rt' wt' ja' jb' := by
  obtain ⟨A1, A2, A3, A4, A5, A6, A7⟩ := A
  obtain ⟨k1, k2, k3⟩ := xi_J_cl A1 hb hs hbb hss hne
  obtain ⟨q1, q2, q3⟩ := xi_J_q J
  obtain ⟨J1, J2, J3, J4, J5, J6⟩ := J
  intro e t v l r hM
  obtain ⟨⟨c1, c2⟩, c3⟩ := Cc e t v l r hM
  have g := hM.1
  have lx := za_l12 (A4 jq (by omega)).1
  have ly := za_l12 (A4 jq (by omega)).2
  have exy := c3 jq (by omega)
  have ebs : e big = e small := by
    rcases hxy with ⟨a1, a2⟩ | ⟨a1, a2⟩
    · rw [← a1, ← a2, c1 _ lx, c1 _ ly]; exact exy
    · rw [← a1, ← a2, c1 _ lx, c1 _ ly]; exact exy.symm
  obtain ⟨g1, g2, g3⟩ := g big small hb hs ebs
  have cb := c2 big hb hbb
  have cs := c2 small hs hss
  refine ⟨⟨fun x hx => ?_, fun x hx q => ?_⟩, fun j hj => ?_⟩
  · by_cases z : h x = small
    · rw [xi_hj_s z, ebs, ← z]; exact c1 x hx
    · rw [xi_hj_n z]; exact c1 x hx
  · obtain ⟨p1, p2⟩ := k2 x q
    dsimp only
    by_cases z : x = big
    · subst z
      by_cases y : st x = 0
      · obtain ⟨a1, a2, a3⟩ := J3 y
        rw [a1]
        refine ⟨fun w => ?_, fun w => ?_⟩
        · obtain ⟨b1, b2⟩ := cs.1 w
          rw [a2 w, g1]
          exact ⟨b1, by rw [g2 (g1.trans b1)]; exact b2⟩
        · obtain ⟨b1, b2, b3⟩ := cs.2 w
          obtain ⟨d1, d2⟩ := g3 (g1.trans b1)
          rw [(a3 w).1, (a3 w).2, g1, d1, d2]
          exact ⟨b1, b2, b3⟩
      · obtain ⟨_, _, a1, a2, a3, a4⟩ := J2 y
        rw [a1, a2, a3, a4]
        exact cb
    · obtain ⟨f1, f2, f3, f4, f5⟩ := J1 x z
      rw [f1, f2, f3, f4]
      exact c2 x hx p1
  · by_cases z : j < jq
    · rw [(q3 j z).1, (q3 j z).2]; exact c3 j (by omega)
    · rcases J6 with ⟨s1, s2, a, b, d1, d2, d3, d4⟩ | ⟨_, a, b, c⟩
      · obtain ⟨u1, u2, u3⟩ := cb.2 s1
        obtain ⟨w1, w2, w3⟩ := cs.2 s2
        obtain ⟨x1, x2⟩ := g3 u1
        have : j = jq ∨ j = jq + 1 := by omega
        rcases this with y | y
        · rw [y, d1, d2, ← u2, ← w2]; exact x1
        · rw [y, d3, d4, ← u3, ← w3]; exact x2
      · omega
theorem xi_joinM (A : xi_A n K h sp rd (jq + 1) st nm lf rt wt ja jb) (hb : big < 12) (hs : small < 12) (hbb : h big = big) (hss : h small = small) (hne : big ≠ small)
    (hxy : (h (ja jq).toNatClampNeg = big ∧ h (jb jq).toNatClampNeg = small) ∨ (h (ja jq).toNatClampNeg = small ∧ h (jb jq).toNatClampNeg = big))
    (J : xi_J big small sp rd jq st nm lf rt wt ja jb rd' jq' st' nm' lf' rt' wt' ja' jb') (i : Nat) :
    xi_Mo h sp rd (jq + 1) st nm lf rt wt ja jb (xi_hj h big small) sp rd' jq' st' nm' lf' rt' wt' ja' jb' i := by
  obtain ⟨A1, A2, A3, A4, A5, A6, A7⟩ := A
  obtain ⟨k1, k2, k3⟩ := xi_J_cl A1 hb hs hbb hss hne
  obtain ⟨q1, q2, q3⟩ := xi_J_q J
  have rr := xi_J_rd J
  obtain ⟨J1, J2, J3, J4, J5, J6⟩ := J
  have lx := za_l12 (A4 jq (by omega)).1
  have ly := za_l12 (A4 jq (by omega)).2
  refine ⟨fun f F => ⟨fun x hx => ?_, fun j hj => ?_⟩, fun x hx q => ?_, rfl, (rr i).1, fun x hx w1 w2 w3 => ?_⟩
  · obtain ⟨a1, a2⟩ := A1 x hx
    have e1 : xi_hj h big small (h x) = xi_hj h big small x := by
      unfold xi_hj; rw [a2]
    rw [← F.1 x hx, ← F.1 (h x) a1, e1]
  · by_cases z : j < jq
    · rw [← (q3 j z).1, ← (q3 j z).2]; exact F.2 j (by omega)
    · have : j = jq := by omega
      subst this
      have b0 : xi_hj h big small big = big := by rw [xi_hj_n (by rw [hbb]; exact hne), hbb]
      have e1 : xi_hj h big small (ja j).toNatClampNeg = big := by
        rcases hxy with ⟨a1, a2⟩ | ⟨a1, a2⟩
        · rw [xi_hj_n (by rw [a1]; exact hne), a1]
        · rw [xi_hj_s a1]
      have e2 : xi_hj h big small (jb j).toNatClampNeg = big := by
        rcases hxy with ⟨a1, a2⟩ | ⟨a1, a2⟩
        · rw [xi_hj_s a2]
        · rw [xi_hj_n (by rw [a2]; exact hne), a2]
      rw [← F.1 _ lx, ← F.1 _ ly, e1, e2]
  · by_cases z : h x = small
    · rw [xi_hj_s z]
      rw [z] at q ⊢
      by_cases y : st big = 0
      · obtain ⟨a1, a2, a3⟩ := J3 y
        exact ⟨a1, a2, fun w f _ => by rw [(a3 w).1, (a3 w).2]; exact ⟨rfl, rfl⟩⟩
      · obtain ⟨a1, a2, a3, a4, a5, a6⟩ := J2 y
        have a1 : st small = st big := by rcases a1 with p | p; exact absurd p q; exact p
        refine ⟨a3.trans a1.symm, fun w => a4.trans (a2 w).symm, fun w f F => ?_⟩
        rw [a5, a6]
        rcases J6 with ⟨s1, s2, a, b, d1, d2, d3, d4⟩ | ⟨p, _⟩
        · have f1 := F.2 jq (by omega)
          have f2 := F.2 (jq + 1) (by omega)
          rw [d1, d2] at f1
          rw [d3, d4] at f2
          exact ⟨f1, f2⟩
        · exact absurd ⟨a1 ▸ w, w⟩ p
    · rw [xi_hj_n z]
      by_cases y : h x = big
      · rw [y] at q ⊢
        obtain ⟨_, _, a3, a4, a5, a6⟩ := J2 q
        rw [a3, a4, a5, a6]
        exact ⟨rfl, fun _ => rfl, fun _ f _ => ⟨rfl, rfl⟩⟩
      · obtain ⟨f1, f2, f3, f4, f5⟩ := J1 _ y
        rw [f1, f2, f3, f4]
        exact ⟨rfl, fun _ => rfl, fun _ f _ => ⟨rfl, rfl⟩⟩
  · by_cases z : h x = small ∨ h x = big
    · have e1 : xi_hj h big small x = big := by
        rcases z with z | z
        · rw [xi_hj_s z]
        · rw [xi_hj_n (by rw [z]; exact hne), z]
      have e2 : (za_bt (wt big) i || za_bt (wt small) i) = true := by
        rcases z with z | z <;> rw [z] at w2 <;> rw [w2] <;> simp
      rw [e1]
      by_cases y : st' big = 0
      · right
        exact ⟨y, by rw [(J4 y).2 i]; exact e2⟩
      · left
        rw [J5 y i, e2, w3]
        simp
    · have z1 : h x ≠ small := fun y => z (Or.inl y)
      have z2 : h x ≠ big := fun y => z (Or.inr y)
      obtain ⟨f1, f2, f3, f4, f5⟩ := J1 _ z2
      rw [xi_hj_n z1, f1, f5]
      exact Or.inr ⟨w1, w2⟩
end
end
section
/-! the component's walks: head, wake, want, bindNumber, bindCouple, join -/
def fo_P (p d h : Nat → Nat) (a : Nat → Int32) : Prop := ∀ x, x < 12 → a x = nI (p x) ∧ p x < 12 ∧ h x < 12 ∧ h (h x) = h x ∧ h (p x) = h x ∧ (p x = x ↔ h x = x) ∧ (p x ≠ x → d (p x) < d x)
/-- a leads every variable to its head h -/
def fo_F (a : Nat → Int32) (h : Nat → Nat) : Prop := ∃ p d : Nat → Nat, fo_P p d h a
theorem fo_h {a : Nat → Int32} {h : Nat → Nat} (F : fo_F a h) {x : Nat} (hx : x < 12) : h x < 12 ∧ h (h x) = h x := by
  obtain ⟨p, d, P⟩ := F
  obtain ⟨_, _, c, d, _⟩ := P x hx
  exact ⟨c, d⟩
theorem fo_r {a : Nat → Int32} {h : Nat → Nat} (F : fo_F a h) {x : Nat} (hx : x < 12) : a x = nI x ↔ h x = x := by
  obtain ⟨p, d, P⟩ := F
  obtain ⟨a1, a2, _, _, _, a6, _⟩ := P x hx
  rw [a1, nI_eq (by omega) (by omega)]
  exact a6
theorem fo_join {a : Nat → Int32} {h : Nat → Nat} (F : fo_F a h) {big small : Nat} (hb : big < 12) (hs : small < 12) (hbb : h big = big) (hss : h small = small) (hne : big ≠ small) : fo_F (upd a small (nI big)) (xi_hj h big small) := by
  obtain ⟨p, d, P⟩ := F
  have hh : ∀ x, x < 12 → h x < 12 ∧ h (h x) = h x := fun x hx => ⟨(P x hx).2.2.1, (P x hx).2.2.2.1⟩
  obtain ⟨k1, k2, _⟩ := xi_J_cl hh hb hs hbb hss hne
  have b0 : xi_hj h big small big = big := by rw [xi_hj_n (by rw [hbb]; exact hne), hbb]
  have s0 : xi_hj h big small small = big := xi_hj_s hss
  refine ⟨fun x => if x = small then big else p x, fun x => if h x = small then d x + d big + 1 else d x, fun x hx => ?_⟩
  obtain ⟨a1, a2, a3, a4, a5, a6, a7⟩ := P x hx
  by_cases z : x = small
  · subst z
    dsimp only
    rw [pk_us, if_pos rfl, s0, b0, if_pos hss, if_neg (by rw [hbb]; exact hne)]
    exact ⟨rfl, hb, hb, rfl, rfl, Iff.rfl, fun _ => by omega⟩
  · dsimp only
    rw [pk_un z, if_neg z]
    have e1 : xi_hj h big small (p x) = xi_hj h big small x := by unfold xi_hj; rw [a5]
    refine ⟨a1, a2, (k1 x hx).1, (k1 x hx).2, e1, ⟨fun q => ?_, fun q => a6.mpr (k2 x q).1⟩, fun q => ?_⟩
    · have q2 := a6.mp q
      rw [xi_hj_n (by rw [q2]; exact z), q2]
    · have := a7 q
      rw [a5]
      split <;> omega
section
variable {sc : Int32} {sp : Int64} {jc : Int32} {rd : Int64} {br : Int32} {kd : Nat → Int32} {tg : Nat → Int32} {sy : Nat → Int32} {sz : Nat → Int32} {a : Nat → Int32} {wg : Nat → Int32} {st : Nat → Int32} {nm : Nat → Int32} {lf : Nat → Int32} {rt : Nat → Int32} {wt : Nat → Int64} {ja : Nat → Int32} {jb : Nat → Int32} {h : Nat → Nat}
theorem xw_head_l {post : Int32 → SX → Prop} {d : Nat → Nat} : ∀ (n x : Nat) (p : Nat → Nat) (a : Nat → Int32), d x < n → x < 12 → fo_P p d h a → (∀ a', fo_F a' h → post (nI (h x)) (sc, sp, jc, rd, br, kd, tg, sy, sz, a', wg, st, nm, lf, rt, wt, ja, jb)) → wX_head_2 post sc sp jc rd br n (nI x) kd tg sy sz a wg st nm lf rt wt ja jb := by
  intro n
  induction n with
  | zero => intro x p a hd; omega
  | succ n ih =>
    intro x p a hd hx P H
    obtain ⟨a1, a2, a3, a4, a5, a6, a7⟩ := P x hx
    obtain ⟨b1, b2, b3, b4, b5, b6, b7⟩ := P (p x) a2
    unfold wX_head_2
    rw [za_c12 hx, a1, za_c12 a2, b1]
    refine ⟨za_i12 hx, ?_⟩
    by_cases hc : p x = x
    · refine br_t (by rw [hc]) ?_
      have H' := H a ⟨p, d, P⟩
      rw [a6.mp hc] at H'
      exact H'
    · refine br_f (fun z => hc ((nI_eq (by omega) (by omega)).mp z)) ⟨za_i12 hx, za_i12 a2, za_i12 hx, ?_⟩
      rw [(za_b _ b2).2]
      intro a6' ea
      refine ⟨za_i12 hx, ?_⟩
      intro x8 ex
      rw [ex, ea, pk_us]
      have dd : d (p (p x)) < d x := by
        have := a7 hc
        by_cases q : p (p x) = p x
        · rw [q]; exact this
        · have := b7 q; omega
      have hp2 : h (p (p x)) = h x := by rw [b5, a5]
      refine ih (p (p x)) (fun y => if y = x then p (p x) else p y) _ (by omega) b2 (fun y hy => ?_) (by rw [hp2]; exact H)
      obtain ⟨c1, c2, c3, c4, c5, c6, c7⟩ := P y hy
      by_cases z : y = x
      · subst z
        dsimp only
        rw [pk_us, if_pos rfl]
        refine ⟨rfl, b2, c3, c4, hp2, ⟨fun q => ?_, fun q => absurd (c6.mpr q) hc⟩, fun _ => dd⟩
        rw [q] at dd; omega
      · dsimp only
        rw [pk_un z, if_neg z]
        exact ⟨c1, c2, c3, c4, c5, c6, c7⟩
theorem xw_head {post : Int32 → SX → Prop} {p0 : Int32} (F : fo_F a h) (hp : vp_in p0 12) (H : ∀ a', fo_F a' h → post (nI (h p0.toNatClampNeg)) (sc, sp, jc, rd, br, kd, tg, sy, sz, a', wg, st, nm, lf, rt, wt, ja, jb)) : wpX_head post (sc, sp, jc, rd, br, kd, tg, sy, sz, a, wg, st, nm, lf, rt, wt, ja, jb) p0 := by
  obtain ⟨p, d, P⟩ := F
  obtain ⟨j, hj, rfl⟩ := vp_in_of hp (by decide)
  rw [za_c12 hj] at H
  unfold wpX_head
  dsimp only
  exact ⟨d j + 1, xw_head_l (d j + 1) j p a (by omega) hj P H⟩
theorem xw_wake {post : SX → Prop} {b : Nat} (hb : b < 12) (H : post (sc, sp, jc, rd ||| (wt b &&& sp), br, kd, tg, sy, sz, a, wg, st, nm, lf, rt, vp_updL wt b 0, ja, jb)) : wpX_wake post (sc, sp, jc, rd, br, kd, tg, sy, sz, a, wg, st, nm, lf, rt, wt, ja, jb) (nI b) := by
  unfold wpX_wake
  dsimp only
  rw [za_c12 hb]
  exact ⟨za_i12 hb, nm_e ⟨za_i12 hb, nm_e H⟩⟩
theorem xw_want {post : SX → Prop} {jq : Nat} {p0 p1 : Int32} (hq : jq < 40) (h0 : vp_in p0 12) (h1 : vp_in p1 12) (H : post (sc, sp, nI (jq + 1), rd, br, kd, tg, sy, sz, a, wg, st, nm, lf, rt, wt, upd ja jq p0, upd jb jq p1)) : wpX_want post (sc, sp, nI jq, rd, br, kd, tg, sy, sz, a, wg, st, nm, lf, rt, wt, ja, jb) p0 p1 := by
  unfold wpX_want
  dsimp only
  rw [za_c40 hq, za_bv h0, za_bv h1, nI_1]
  exact ⟨za_i40 hq, nm_e ⟨za_i40 hq, nm_e (nm_e H)⟩⟩
theorem za_b1 : vp_nar .byte 1 = 1 := (za_b 1 (by decide)).2
theorem za_b2 : vp_nar .byte 2 = 2 := (za_b 2 (by decide)).2
theorem za_b0 : vp_nar .byte 0 = 0 := (za_b 0 (by decide)).2
theorem xw_bn {post : SX → Prop} {p0 p1 : Int32} (F : fo_F a h) (hp : vp_in p0 12) {b : Nat} (hb : h p0.toNatClampNeg = b)
    (H0 : st b = 0 → ∀ a', fo_F a' h → post (sc, sp, jc, rd ||| (wt b &&& sp), br, kd, tg, sy, sz, a', wg, upd st b 1, upd nm b p1, lf, rt, vp_updL wt b 0, ja, jb))
    (H1 : st b ≠ 0 → st b ≠ 2 → nm b = p1 → ∀ a', fo_F a' h → post (sc, sp, jc, rd, br, kd, tg, sy, sz, a', wg, st, nm, lf, rt, wt, ja, jb))
    (H2 : st b ≠ 0 → (st b = 2 ∨ nm b ≠ p1) → ∀ a', fo_F a' h → post (sc, sp, jc, rd, 1, kd, tg, sy, sz, a', wg, st, nm, lf, rt, wt, ja, jb)) : wpX_bindNumber post (sc, sp, jc, rd, br, kd, tg, sy, sz, a, wg, st, nm, lf, rt, wt, ja, jb) p0 p1 := by
  unfold wpX_bindNumber
  dsimp only
  have hb2 : b < 12 := hb ▸ (fo_h F (za_l12 hp)).1
  refine xw_head F hp (fun a' F' => ?_)
  dsimp only
  rw [hb, za_c12 hb2, za_b1]
  refine ⟨za_i12 hb2, br_c (fun q => ⟨za_i12 hb2, nm_e ⟨za_i12 hb2, nm_e ?_⟩⟩) (fun q => ⟨za_i12 hb2, br_c (fun q2 => H2 q (Or.inl q2) a' F') (fun q2 => ⟨za_i12 hb2, br_c (fun q3 => H1 q q2 q3 a' F') (fun q3 => H2 q (Or.inr q3) a' F')⟩)⟩)⟩
  refine xw_wake hb2 ?_
  exact H0 q a' F'
theorem xw_bc {post : SX → Prop} {jq : Nat} {p0 p1 p2 : Int32} (F : fo_F a h) (hp : vp_in p0 12) (h1 : vp_in p1 12) (h2 : vp_in p2 12) {b : Nat} (hb : h p0.toNatClampNeg = b) (hq : st b = 2 → jq + 1 < 40) (hl : st b = 2 → vp_in (lf b) 12 ∧ vp_in (rt b) 12)
    (H0 : st b = 0 → ∀ a', fo_F a' h → post (sc, sp, nI jq, rd ||| (wt b &&& sp), br, kd, tg, sy, sz, a', wg, upd st b 2, nm, upd lf b p1, upd rt b p2, vp_updL wt b 0, ja, jb))
    (H1 : st b = 2 → ∀ a', fo_F a' h → post (sc, sp, nI (jq + 1 + 1), rd, br, kd, tg, sy, sz, a', wg, st, nm, lf, rt, wt, upd (upd ja jq (lf b)) (jq + 1) (rt b), upd (upd jb jq p1) (jq + 1) p2))
    (H2 : st b ≠ 0 → st b ≠ 2 → ∀ a', fo_F a' h → post (sc, sp, nI jq, rd, 1, kd, tg, sy, sz, a', wg, st, nm, lf, rt, wt, ja, jb)) : wpX_bindCouple post (sc, sp, nI jq, rd, br, kd, tg, sy, sz, a, wg, st, nm, lf, rt, wt, ja, jb) p0 p1 p2 := by
  unfold wpX_bindCouple
  dsimp only
  have hb2 : b < 12 := hb ▸ (fo_h F (za_l12 hp)).1
  refine xw_head F hp (fun a' F' => ?_)
  dsimp only
  rw [hb, za_c12 hb2, za_b2, za_bv h1, za_bv h2]
  refine ⟨za_i12 hb2, br_c (fun q => ⟨za_i12 hb2, nm_e ⟨za_i12 hb2, nm_e ⟨za_i12 hb2, nm_e ?_⟩⟩⟩) (fun q => ⟨za_i12 hb2, br_c (fun q2 => ⟨za_i12 hb2, ?_⟩) (fun q2 => H2 q q2 a' F')⟩)⟩
  · refine xw_wake hb2 ?_
    exact H0 q a' F'
  · refine xw_want (by have := hq q2; omega) (hl q2).1 h1 ?_
    dsimp only
    refine ⟨za_i12 hb2, ?_⟩
    refine xw_want (hq q2) (hl q2).2 h2 ?_
    exact H1 q2 a' F'
theorem xw_j158 {post : SX → Prop} {b : Nat} (hb : b < 12) (H0 : st b = 0 → post (sc, sp, jc, rd, br, kd, tg, sy, sz, a, wg, st, nm, lf, rt, wt, ja, jb)) (H1 : st b ≠ 0 → post (sc, sp, jc, rd ||| (wt b &&& sp), br, kd, tg, sy, sz, a, wg, st, nm, lf, rt, vp_updL wt b 0, ja, jb)) : wX_join_158 post (nI b) sc sp jc rd br kd tg sy sz a wg st nm lf rt wt ja jb := by
  unfold wX_join_158
  rw [za_c12 hb]
  refine ⟨za_i12 hb, br_c H0 (fun q => ?_)⟩
  refine xw_wake hb ?_
  exact H1 q
theorem xw_w1 {big small : Nat} (i : Nat) : za_bt (rd ||| (vp_updL wt big (wt big ||| wt small) big &&& sp)) i = (za_bt rd i || ((za_bt (wt big) i || za_bt (wt small) i) && za_bt sp i)) := by
  rw [pk_uLs, za_bt_or, za_bt_and, za_bt_or]
theorem xw_w2 {big small : Nat} (i : Nat) : za_bt (rd ||| (vp_updL wt big (wt big ||| wt small) big &&& sp) ||| (vp_updL (vp_updL wt big (wt big ||| wt small)) big 0 big &&& sp)) i = (za_bt rd i || ((za_bt (wt big) i || za_bt (wt small) i) && za_bt sp i)) := by
  rw [za_bt_or, xw_w1, pk_uLs, za_bt_and, za_bt_0]
  simp
theorem xw_n {α : Type} {x big : Nat} (hx : x ≠ big) {p q : α} : (if x = big then p else q) = q := if_neg hx
end
end
section
/-! the component's join -/
section
variable {sc : Int32} {sp : Int64} {jc : Int32} {rd : Int64} {br : Int32} {kd : Nat → Int32} {tg : Nat → Int32} {sy : Nat → Int32} {sz : Nat → Int32} {a : Nat → Int32} {wg : Nat → Int32} {st : Nat → Int32} {nm : Nat → Int32} {lf : Nat → Int32} {rt : Nat → Int32} {wt : Nat → Int64} {ja : Nat → Int32} {jb : Nat → Int32} {h : Nat → Nat}
theorem xw_j56 {post : SX → Prop} {jq big small : Nat} (F : fo_F a h) (hb : big < 12) (hs : small < 12) (hbb : h big = big) (hss : h small = small) (hne : big ≠ small) (hq : jq + 1 < 40)
    (A2 : ∀ x, x < 12 → st x = 0 ∨ st x = 1 ∨ st x = 2) (A3 : ∀ x, x < 12 → st x = 2 → vp_in (lf x) 12 ∧ vp_in (rt x) 12)
    (HJ : ∀ a' wg' rd' jq' st' nm' lf' rt' wt' ja' jb', fo_F a' (xi_hj h big small) → xi_J big small sp rd jq st nm lf rt wt ja jb rd' jq' st' nm' lf' rt' wt' ja' jb' → post (sc, sp, nI jq', rd', br, kd, tg, sy, sz, a', wg', st', nm', lf', rt', wt', ja', jb'))
    (HB : st big ≠ 0 → st small ≠ 0 → (st big ≠ st small ∨ (st big = 1 ∧ nm small ≠ nm big)) → ∀ a' wg' rd' jc' st' nm' lf' rt' wt' ja' jb', post (sc, sp, jc', rd', 1, kd, tg, sy, sz, a', wg', st', nm', lf', rt', wt', ja', jb')) :
    wX_join_56 post (nI big) (nI small) sc sp (nI jq) rd br kd tg sy sz a wg st nm lf rt wt ja jb := by
  have F1 := fo_join F hb hs hbb hss hne
  have b0 : xi_hj h big small big = big := by rw [xi_hj_n (by rw [hbb]; exact hne), hbb]
  have n10 : (1 : Int32) ≠ 0 := by decide
  have n20 : (2 : Int32) ≠ 0 := by decide
  have n12 : (1 : Int32) ≠ 2 := by decide
  have n21 : (2 : Int32) ≠ 1 := by decide
  have b0' : xi_hj h big small (nI big).toNatClampNeg = big := by rw [za_c12 hb, b0]
  unfold wX_join_56
  rw [za_c12 hb, za_c12 hs, (za_b _ hb).1]
  refine ⟨za_i12 hs, nm_e ⟨za_i12 hb, za_i12 hs, za_i12 hb, nm_e ⟨za_i12 hb, za_i12 hs, za_i12 hb, nm_e ⟨za_i12 hs, br_c (fun q => ⟨za_i12 hs, ?_⟩) (fun q => ?_)⟩⟩⟩⟩
  · refine xw_bn (b := big) F1 (za_i12 hb) b0' ?_ ?_ ?_
    · intro z a' F'
      dsimp only
      unfold wX_join_127
      rw [za_c12 hs, pk_un hne.symm]
      refine ⟨za_i12 hs, br_f (by rw [q]; exact n12) ?_⟩
      refine xw_j158 hb (fun w => absurd w (by rw [pk_us]; exact n10)) (fun _ => ?_)
      refine HJ _ _ _ _ _ _ _ _ _ _ _ F' ⟨fun x hx => ?_, fun w => absurd z w, fun _ => ?_, fun w => absurd w (by rw [pk_us]; exact n10), fun _ i => xw_w2 i, Or.inr ⟨fun w => n12 (q.symm.trans w.2), rfl, rfl, rfl⟩⟩
      · rw [pk_un hx, pk_un hx, pk_uLn hx, pk_uLn hx, pk_uLn hx]; exact ⟨rfl, rfl, rfl, rfl, rfl⟩
      · rw [pk_us, pk_us]; exact ⟨q.symm, fun _ => rfl, fun w => absurd (q.symm.trans w) n12⟩
    · intro z z2 z3 a' F'
      dsimp only
      have z1 : st big = 1 := by rcases A2 big hb with y | y | y; exact absurd y z; exact y; exact absurd y z2
      unfold wX_join_127
      rw [za_c12 hs]
      refine ⟨za_i12 hs, br_f (by rw [q]; exact n12) ?_⟩
      refine xw_j158 hb (fun w => absurd w z) (fun _ => ?_)
      refine HJ _ _ _ _ _ _ _ _ _ _ _ F' ⟨fun x hx => ?_, fun _ => ⟨Or.inr (q.trans z1.symm), fun _ => z3.symm, rfl, rfl, rfl, rfl⟩, fun w => absurd w z, fun w => absurd w z, fun _ i => xw_w1 i, Or.inr ⟨fun w => z2 w.1, rfl, rfl, rfl⟩⟩
      rw [pk_uLn hx, pk_uLn hx]; exact ⟨rfl, rfl, rfl, rfl, rfl⟩
    · intro z z2 a' F'
      dsimp only
      have hB := HB z (by rw [q]; exact n10) (by
        rcases A2 big hb with y | y | y
        · exact absurd y z
        · rcases z2 with w | w
          · exact absurd (y.symm.trans w) n12
          · exact Or.inr ⟨y, fun u => w u.symm⟩
        · left; rw [y, q]; exact n21)
      unfold wX_join_127
      rw [za_c12 hs]
      refine ⟨za_i12 hs, br_f (by rw [q]; exact n12) ?_⟩
      exact xw_j158 hb (fun _ => hB _ _ _ _ _ _ _ _ _ _ _) (fun _ => hB _ _ _ _ _ _ _ _ _ _ _)
  · unfold wX_join_127
    rw [za_c12 hs]
    refine ⟨za_i12 hs, br_c (fun q2 => ⟨za_i12 hs, za_i12 hs, ?_⟩) (fun q2 => ?_)⟩
    · have ls := A3 small hs q2
      refine xw_bc (b := big) F1 (za_i12 hb) ls.1 ls.2 b0' (fun _ => hq) (fun w => A3 big hb w) ?_ ?_ ?_
      · intro z a' F'
        dsimp only
        refine xw_j158 hb (fun w => absurd w (by rw [pk_us]; exact n20)) (fun _ => ?_)
        refine HJ _ _ _ _ _ _ _ _ _ _ _ F' ⟨fun x hx => ?_, fun w => absurd z w, fun _ => ?_, fun w => absurd w (by rw [pk_us]; exact n20), fun _ i => xw_w2 i, Or.inr ⟨fun w => n20 (w.1.symm.trans z), rfl, rfl, rfl⟩⟩
        · rw [pk_un hx, pk_un hx, pk_un hx, pk_uLn hx, pk_uLn hx, pk_uLn hx]; exact ⟨rfl, rfl, rfl, rfl, rfl⟩
        · rw [pk_us, pk_us, pk_us]; exact ⟨q2.symm, fun w => absurd w q, fun _ => ⟨rfl, rfl⟩⟩
      · intro z a' F'
        dsimp only
        have z0 : st big ≠ 0 := by rw [z]; exact n20
        refine xw_j158 hb (fun w => absurd w z0) (fun _ => ?_)
        refine HJ _ _ _ _ _ _ _ _ _ _ _ F' ⟨fun x hx => ?_, fun _ => ⟨Or.inr (q2.trans z.symm), fun w => absurd w q, rfl, rfl, rfl, rfl⟩, fun w => absurd w z0, fun w => absurd w z0, fun _ i => xw_w1 i, Or.inl ⟨z, q2, rfl, fun j hj => ?_, ?_, ?_, ?_, ?_⟩⟩
        · rw [pk_uLn hx, pk_uLn hx]; exact ⟨rfl, rfl, rfl, rfl, rfl⟩
        · rw [pk_un (by omega), pk_un (by omega), pk_un (by omega), pk_un (by omega)]; exact ⟨rfl, rfl⟩
        · rw [pk_un (by omega), pk_us]
        · rw [pk_un (by omega), pk_us]
        · rw [pk_us]
        · rw [pk_us]
      · intro z z2 a' F'
        dsimp only
        have hB := HB z (by rw [q2]; exact n20) (Or.inl (by rw [q2]; exact z2))
        exact xw_j158 hb (fun _ => hB _ _ _ _ _ _ _ _ _ _ _) (fun _ => hB _ _ _ _ _ _ _ _ _ _ _)
    · have q0 : st small = 0 := by rcases A2 small hs with y | y | y; exact y; exact absurd y q; exact absurd y q2
      refine xw_j158 hb (fun z => ?_) (fun z => ?_)
      · refine HJ _ _ _ _ _ _ _ _ _ _ _ F1 ⟨fun x hx => ?_, fun w => absurd z w, fun _ => ⟨z.trans q0.symm, fun w => absurd w q, fun w => absurd w q2⟩, fun _ => ⟨rfl, fun i => ?_⟩, fun w => absurd z w, Or.inr ⟨fun w => q2 w.2, rfl, rfl, rfl⟩⟩
        · rw [pk_uLn hx]; exact ⟨rfl, rfl, rfl, rfl, rfl⟩
        · rw [pk_uLs, za_bt_or]
      · refine HJ _ _ _ _ _ _ _ _ _ _ _ F1 ⟨fun x hx => ?_, fun _ => ⟨Or.inl q0, fun w => absurd w q, rfl, rfl, rfl, rfl⟩, fun w => absurd w z, fun w => absurd w z, fun _ i => xw_w1 i, Or.inr ⟨fun w => q2 w.2, rfl, rfl, rfl⟩⟩
        rw [pk_uLn hx, pk_uLn hx]; exact ⟨rfl, rfl, rfl, rfl, rfl⟩
theorem xw_join {post : SX → Prop} {jq : Nat} {p0 p1 : Int32} (F : fo_F a h) (hp0 : vp_in p0 12) (hp1 : vp_in p1 12) (hq : jq + 1 < 40)
    (A2 : ∀ x, x < 12 → st x = 0 ∨ st x = 1 ∨ st x = 2) (A3 : ∀ x, x < 12 → st x = 2 → vp_in (lf x) 12 ∧ vp_in (rt x) 12)
    (H0 : h p0.toNatClampNeg = h p1.toNatClampNeg → ∀ a', fo_F a' h → post (sc, sp, nI jq, rd, br, kd, tg, sy, sz, a', wg, st, nm, lf, rt, wt, ja, jb))
    (HJ : ∀ big small, h p0.toNatClampNeg ≠ h p1.toNatClampNeg → ((h p0.toNatClampNeg = big ∧ h p1.toNatClampNeg = small) ∨ (h p0.toNatClampNeg = small ∧ h p1.toNatClampNeg = big)) → ∀ a' wg' rd' jq' st' nm' lf' rt' wt' ja' jb', fo_F a' (xi_hj h big small) → xi_J big small sp rd jq st nm lf rt wt ja jb rd' jq' st' nm' lf' rt' wt' ja' jb' → post (sc, sp, nI jq', rd', br, kd, tg, sy, sz, a', wg', st', nm', lf', rt', wt', ja', jb'))
    (HB : ∀ big small, ((h p0.toNatClampNeg = big ∧ h p1.toNatClampNeg = small) ∨ (h p0.toNatClampNeg = small ∧ h p1.toNatClampNeg = big)) → st big ≠ 0 → st small ≠ 0 → (st big ≠ st small ∨ (st big = 1 ∧ nm small ≠ nm big)) → ∀ a' wg' rd' jc' st' nm' lf' rt' wt' ja' jb', post (sc, sp, jc', rd', 1, kd, tg, sy, sz, a', wg', st', nm', lf', rt', wt', ja', jb')) :
    wpX_join post (sc, sp, nI jq, rd, br, kd, tg, sy, sz, a, wg, st, nm, lf, rt, wt, ja, jb) p0 p1 := by
  obtain ⟨f1, f2⟩ := fo_h F (za_l12 hp0)
  obtain ⟨g1, g2⟩ := fo_h F (za_l12 hp1)
  unfold wpX_join
  dsimp only
  refine xw_head F hp0 (fun a1 F1 => ?_)
  dsimp only
  refine xw_head F1 hp1 (fun a2 F2 => ?_)
  dsimp only
  rw [za_c12 f1, za_c12 g1]
  have ne : ¬ nI (h p0.toNatClampNeg) = nI (h p1.toNatClampNeg) → h p0.toNatClampNeg ≠ h p1.toNatClampNeg := fun q w => q (by rw [w])
  refine br_c (fun q => H0 ((nI_eq (by omega) (by omega)).mp q) a2 F2) (fun q => ⟨za_i12 f1, za_i12 g1, br_c (fun _ => ?_) (fun _ => ?_)⟩)
  · unfold wX_join_42
    refine br_f (fun w => q w.symm) ?_
    exact xw_j56 F2 g1 f1 g2 f2 (fun w => ne q w.symm) hq A2 A3 (HJ _ _ (ne q) (Or.inr ⟨rfl, rfl⟩)) (HB _ _ (Or.inr ⟨rfl, rfl⟩))
  · unfold wX_join_42
    refine br_t rfl ?_
    exact xw_j56 F2 f1 g1 f2 g2 (ne q) hq A2 A3 (HJ _ _ (ne q) (Or.inl ⟨rfl, rfl⟩)) (HB _ _ (Or.inl ⟨rfl, rfl⟩))
end
end
section
/-! the component's lowestReady, computed, tryStatement: walks -/
section
variable {sc : Int32} {sp : Int64} {jc : Int32} {rd : Int64} {br : Int32} {kd : Nat → Int32} {tg : Nat → Int32} {sy : Nat → Int32} {sz : Nat → Int32} {a : Nat → Int32} {wg : Nat → Int32} {st : Nat → Int32} {nm : Nat → Int32} {lf : Nat → Int32} {rt : Nat → Int32} {wt : Nat → Int64} {ja : Nat → Int32} {jb : Nat → Int32} {h : Nat → Nat}
theorem xw_low_l {post : Int32 → Prop} (He : ∃ j, j < 40 ∧ za_bt rd j = true) (H : ∀ s, s < 40 → za_bt rd s = true → post (nI s)) : ∀ m n i, i + m = 39 → m < n → (∀ j, j < i → za_bt rd j = false) → wX_lowestReady_2 post sc sp jc rd br kd tg sy sz a wg st nm lf rt wt ja jb n (nI i) := by
  intro m
  induction m with
  | zero =>
    intro n i hi hn hj
    obtain ⟨n, rfl⟩ : ∃ k, n = k + 1 := ⟨n - 1, by omega⟩
    have : i = 39 := by omega
    subst this
    unfold wX_lowestReady_2
    refine br_t (by decide) ?_
    obtain ⟨j, h1, h2⟩ := He
    refine H 39 (by decide) ?_
    have : j = 39 := by
      apply Classical.byContradiction
      intro q
      have := hj j (by omega)
      rw [h2] at this
      exact absurd this (by decide)
    rw [← this]
    exact h2
  | succ m ih =>
    intro n i hi hn hj
    obtain ⟨n, rfl⟩ : ∃ k, n = k + 1 := ⟨n - 1, by omega⟩
    unfold wX_lowestReady_2
    have : ¬ (39 : Int32) ≤ nI i := nI_ge (b := 39) (by omega) (by decide)
    refine br_f this (br_c (fun q => ?_) (fun q => ?_))
    · have q1 := (za_bt_t (by omega)).mp q
      refine nm_r (nI_1 i) ?_
      refine ih n (i + 1) (by omega) (by omega) (fun j h1 => ?_)
      by_cases z : j = i
      · rw [z]; exact q1
      · exact hj j (by omega)
    · have q1 : za_bt rd i = true := by
        cases hb : za_bt rd i with
        | true => rfl
        | false => exact absurd ((za_bt_t (by omega)).mpr hb) q
      exact H i (by omega) q1
theorem xw_low {post : Int32 → Prop} (He : ∃ j, j < 40 ∧ za_bt rd j = true) (H : ∀ s, s < 40 → za_bt rd s = true → post (nI s)) : wpX_lowestReady post (sc, sp, jc, rd, br, kd, tg, sy, sz, a, wg, st, nm, lf, rt, wt, ja, jb) := by
  unfold wpX_lowestReady
  dsimp only
  exact ⟨40, xw_low_l He H 39 40 0 (by decide) (by decide) (fun j hj => absurd hj (by omega))⟩
theorem xw_comp {post : Int32 → Prop} {p0 p1 p2 : Int32} (H : post (ms_op p0 p1 p2)) : wpX_computed post (sc, sp, jc, rd, br, kd, tg, sy, sz, a, wg, st, nm, lf, rt, wt, ja, jb) p0 p1 p2 := by
  unfold wpX_computed
  dsimp only
  unfold ms_op at H
  refine br_c (fun q => ?_) (fun q => br_c (fun q2 => ?_) (fun q2 => br_c (fun q3 => ?_) (fun q3 => ?_)))
  · rw [if_pos q] at H; exact H
  · rw [if_neg q, if_pos q2] at H; exact H
  · rw [if_neg q, if_neg q2, if_pos q3] at H; exact H
  · rw [if_neg q, if_neg q2, if_neg q3] at H; exact H
theorem xw_t98 {post : SX → Prop} {s w : Nat} (hw : w < 12) (H : post (sc, sp, jc, rd, br, kd, tg, sy, sz, a, wg, st, nm, lf, rt, vp_updL wt w (wt w ||| ((1 : Int64) <<< ((nI s).toInt64 &&& 63))), ja, jb)) : wX_tryStatement_98 post (nI s) (nI w) sc sp jc rd br kd tg sy sz a wg st nm lf rt wt ja jb := by
  unfold wX_tryStatement_98
  rw [za_c12 hw]
  exact ⟨za_i12 hw, za_i12 hw, nm_e H⟩
theorem xw_t80 {post : SX → Prop} {s y z : Nat} (hy : y < 12) (hz : z < 12) (hs : st y = 0 ∨ st z = 0) (H : ∀ w, (w = y ∨ w = z) → st w = 0 → post (sc, sp, jc, rd, br, kd, tg, sy, sz, a, wg, st, nm, lf, rt, vp_updL wt w (wt w ||| ((1 : Int64) <<< ((nI s).toInt64 &&& 63))), ja, jb)) : wX_tryStatement_80 post (nI s) (nI y) (nI z) sc sp jc rd br kd tg sy sz a wg st nm lf rt wt ja jb := by
  unfold wX_tryStatement_80
  rw [za_c12 hy]
  refine ⟨za_i12 hy, br_c (fun q => xw_t98 hy (H y (Or.inl rfl) q)) (fun q => xw_t98 hz (H z (Or.inr rfl) ?_))⟩
  rcases hs with e | e
  · exact absurd e q
  · exact e
theorem xw_t60 {post : SX → Prop} {s y z jq : Nat} {x4 d : Int32} (F : fo_F a h) (hs : s < 40) (hy : y < 12) (hz : z < 12) (hd : d ≠ 0) (ht : vp_in (tg s) 12)
    (hq : jq < 40) (hl : st y = 2 → vp_in (lf y) 12 ∧ vp_in (rt y) 12) (hx4 : x4 ≠ 0 → d = 2)
    (Hw : ∀ w, (w = y ∨ w = z) → st w = 0 → post (sc, sp, nI jq, rd, br, kd, tg, sy, sz, a, wg, st, nm, lf, rt, vp_updL wt w (wt w ||| ((1 : Int64) <<< ((nI s).toInt64 &&& 63))), ja, jb))
    (Hn : (st y ≠ 0 ∧ st y ≠ d) ∨ (st z ≠ 0 ∧ st z ≠ d) → post (sc, sp, nI jq, rd, br, kd, tg, sy, sz, a, wg, st, nm, lf, rt, wt, ja, jb))
    (E0 : x4 = 0 → st y = d → st z = d → ∀ b, h (tg s).toNatClampNeg = b → st b = 0 → ∀ a', fo_F a' h → post (sc, sp &&& (((1 : Int64) <<< ((nI s).toInt64 &&& 63)) ^^^ (-1)), nI jq, rd ||| (wt b &&& (sp &&& (((1 : Int64) <<< ((nI s).toInt64 &&& 63)) ^^^ (-1)))), br, kd, tg, sy, sz, a', wg, upd st b 1, upd nm b (ms_op (kd s) (nm y) (nm z)), lf, rt, vp_updL wt b 0, ja, jb))
    (E1 : x4 = 0 → st y = d → st z = d → ∀ b, h (tg s).toNatClampNeg = b → st b ≠ 0 → st b ≠ 2 → nm b = ms_op (kd s) (nm y) (nm z) → ∀ a', fo_F a' h → post (sc, sp &&& (((1 : Int64) <<< ((nI s).toInt64 &&& 63)) ^^^ (-1)), nI jq, rd, br, kd, tg, sy, sz, a', wg, st, nm, lf, rt, wt, ja, jb))
    (E2 : x4 = 0 → st y = d → st z = d → ∀ b, h (tg s).toNatClampNeg = b → st b ≠ 0 → (st b = 2 ∨ nm b ≠ ms_op (kd s) (nm y) (nm z)) → ∀ a', fo_F a' h → post (sc, sp &&& (((1 : Int64) <<< ((nI s).toInt64 &&& 63)) ^^^ (-1)), nI jq, rd, 1, kd, tg, sy, sz, a', wg, st, nm, lf, rt, wt, ja, jb))
    (T5 : x4 ≠ 0 → st y = d → st z = d → kd s = 5 → post (sc, sp &&& (((1 : Int64) <<< ((nI s).toInt64 &&& 63)) ^^^ (-1)), nI (jq + 1), rd, br, kd, tg, sy, sz, a, wg, st, nm, lf, rt, wt, upd ja jq (tg s), upd jb jq (lf y)))
    (T6 : x4 ≠ 0 → st y = d → st z = d → kd s ≠ 5 → post (sc, sp &&& (((1 : Int64) <<< ((nI s).toInt64 &&& 63)) ^^^ (-1)), nI (jq + 1), rd, br, kd, tg, sy, sz, a, wg, st, nm, lf, rt, wt, upd ja jq (tg s), upd jb jq (rt y))) :
    wX_tryStatement_60 post (nI s) (nI y) (nI z) x4 d sc sp (nI jq) rd br kd tg sy sz a wg st nm lf rt wt ja jb := by
  unfold wX_tryStatement_60
  rw [za_c12 hy, za_c12 hz, za_c40 hs]
  refine ⟨za_i12 hy, br_c (fun q => xw_t80 hy hz (Or.inl q) Hw) (fun q => ⟨za_i12 hz, br_c (fun q2 => xw_t80 hy hz (Or.inr q2) Hw) (fun q2 => ⟨za_i12 hy, br_c (fun q3 => ⟨za_i12 hz, br_c (fun q4 => nm_e (br_c (fun q5 => ⟨za_i40 hs, za_i12 hy, za_i12 hz, ?_⟩) (fun q5 => ⟨za_i40 hs, za_i40 hs, br_c (fun q6 => ⟨za_i12 hy, ?_⟩) (fun q6 => ⟨za_i12 hy, ?_⟩)⟩))) (fun q4 => Hn (Or.inr ⟨q2, q4⟩))⟩) (fun q3 => Hn (Or.inl ⟨q, q3⟩))⟩)⟩)⟩
  · refine xw_comp ?_
    refine ⟨za_i40 hs, ?_⟩
    exact xw_bn F ht rfl (E0 q5 q3 q4 _ rfl) (E1 q5 q3 q4 _ rfl) (E2 q5 q3 q4 _ rfl)
  · unfold wX_tryStatement_182
    have l := hl (q3.trans (hx4 q5))
    exact xw_want hq ht l.1 (T5 q5 q3 q4 q6)
  · unfold wX_tryStatement_182
    have l := hl (q3.trans (hx4 q5))
    exact xw_want hq ht l.2 (T6 q5 q3 q4 q6)
/-- the walk down to the join at 60: all that it needs of the kind -/
theorem xw_try {post : SX → Prop} {s jq : Nat} (F : fo_F a h) (hs : s < 40) (hy : vp_in (sy s) 12) (hz : vp_in (sz s) 12)
    (H5 : kd s = 5 ∨ kd s = 6 → ∀ a', fo_F a' h → wX_tryStatement_60 post (nI s) (nI (h (sy s).toNatClampNeg)) (nI (h (sz s).toNatClampNeg)) 1 2 sc sp (nI jq) rd br kd tg sy sz a' wg st nm lf rt wt ja jb)
    (H3 : kd s ≠ 5 → kd s ≠ 6 → ∀ a', fo_F a' h → wX_tryStatement_60 post (nI s) (nI (h (sy s).toNatClampNeg)) (nI (h (sz s).toNatClampNeg)) 0 1 sc sp (nI jq) rd br kd tg sy sz a' wg st nm lf rt wt ja jb) : wpX_tryStatement post (sc, sp, nI jq, rd, br, kd, tg, sy, sz, a, wg, st, nm, lf, rt, wt, ja, jb) (nI s) := by
  unfold wpX_tryStatement
  dsimp only
  rw [za_c40 hs]
  refine ⟨za_i40 hs, ?_⟩
  refine xw_head F hy (fun a1 F1 => ?_)
  dsimp only
  refine ⟨za_i40 hs, ?_⟩
  refine xw_head F1 hz (fun a2 F2 => ?_)
  dsimp only
  have g5 : kd s = 5 ∨ kd s = 6 → wX_tryStatement_43 post (nI s) (nI (h (sy s).toNatClampNeg)) (nI (h (sz s).toNatClampNeg)) sc sp (nI jq) rd br kd tg sy sz a2 wg st nm lf rt wt ja jb := by
    intro q
    unfold wX_tryStatement_43 wX_tryStatement_48
    exact br_f (by decide) (H5 q a2 F2)
  refine ⟨za_i40 hs, br_c (fun q => g5 (Or.inl q)) (fun q => ⟨za_i40 hs, br_c (fun q2 => g5 (Or.inr q2)) (fun q2 => ?_)⟩)⟩
  unfold wX_tryStatement_48
  exact br_t rfl (H3 q q2 a2 F2)
end
end
section
/-! the component: what a statement tried or told leaves, plainly -/
section
variable {n : Nat} {K AX AY AZ : Nat → Int32} {f : Nat → Nat} {h : Nat → Nat} {sp : Int64} {rd : Int64} {jq : Nat} {st : Nat → Int32} {nm : Nat → Int32} {lf : Nat → Int32} {rt : Nat → Int32} {wt : Nat → Int64} {ja : Nat → Int32} {jb : Nat → Int32} {i : Nat}
theorem xi_CI0 (hk : K i = 0) (H : f (AX i).toNatClampNeg = f (AY i).toNatClampNeg) : xi_CI K AX AY AZ f h sp rd jq st nm lf rt wt ja jb i := by
  refine ⟨fun _ => H, fun q => ?_, fun q => ?_, fun q => ?_, fun q => ?_, fun q => ?_⟩ <;> rw [hk] at q <;> exact absurd q (by decide)
theorem xi_CI1 (hk : K i = 1) (H : st (h (AX i).toNatClampNeg) = 1 ∧ nm (h (AX i).toNatClampNeg) = AY i) : xi_CI K AX AY AZ f h sp rd jq st nm lf rt wt ja jb i := by
  refine ⟨fun q => ?_, fun _ => H, fun q => ?_, fun q => ?_, fun q => ?_, fun q => ?_⟩ <;> rw [hk] at q <;> exact absurd q (by decide)
theorem xi_CI2 (hk : K i = 2) (H : st (h (AX i).toNatClampNeg) = 2 ∧ f (lf (h (AX i).toNatClampNeg)).toNatClampNeg = f (AY i).toNatClampNeg ∧ f (rt (h (AX i).toNatClampNeg)).toNatClampNeg = f (AZ i).toNatClampNeg) : xi_CI K AX AY AZ f h sp rd jq st nm lf rt wt ja jb i := by
  refine ⟨fun q => ?_, fun q => ?_, fun _ => H, fun q => ?_, fun q => ?_, fun q => ?_⟩ <;> rw [hk] at q <;> exact absurd q (by decide)
theorem xi_CI3 (hk : K i = 3 ∨ K i = 4 ∨ K i = 7) (H : (za_bt sp i = true → xi_W h rd st wt (AY i).toNatClampNeg (AZ i).toNatClampNeg 1 i) ∧ (za_bt sp i = false → st (h (AY i).toNatClampNeg) = 1 ∧ st (h (AZ i).toNatClampNeg) = 1 ∧ st (h (AX i).toNatClampNeg) = 1 ∧ nm (h (AX i).toNatClampNeg) = ms_op (K i) (nm (h (AY i).toNatClampNeg)) (nm (h (AZ i).toNatClampNeg)))) : xi_CI K AX AY AZ f h sp rd jq st nm lf rt wt ja jb i := by
  refine ⟨fun q => ?_, fun q => ?_, fun q => ?_, fun _ => H, fun q => ?_, fun q => ?_⟩ <;> rw [q] at hk <;> exact absurd hk (by decide)
theorem xi_CI5 (hk : K i = 5) (H : (za_bt sp i = true → xi_W h rd st wt (AY i).toNatClampNeg (AY i).toNatClampNeg 2 i) ∧ (za_bt sp i = false → st (h (AY i).toNatClampNeg) = 2 ∧ f (AX i).toNatClampNeg = f (lf (h (AY i).toNatClampNeg)).toNatClampNeg)) : xi_CI K AX AY AZ f h sp rd jq st nm lf rt wt ja jb i := by
  refine ⟨fun q => ?_, fun q => ?_, fun q => ?_, fun q => ?_, fun _ => H, fun q => ?_⟩ <;> rw [hk] at q <;> exact absurd q (by decide)
theorem xi_CI6 (hk : K i = 6) (H : (za_bt sp i = true → xi_W h rd st wt (AY i).toNatClampNeg (AY i).toNatClampNeg 2 i) ∧ (za_bt sp i = false → st (h (AY i).toNatClampNeg) = 2 ∧ f (AX i).toNatClampNeg = f (rt (h (AY i).toNatClampNeg)).toNatClampNeg)) : xi_CI K AX AY AZ f h sp rd jq st nm lf rt wt ja jb i := by
  refine ⟨fun q => ?_, fun q => ?_, fun q => ?_, fun q => ?_, fun q => ?_, fun _ => H⟩ <;> rw [hk] at q <;> exact absurd q (by decide)
/-- five kinds of a suspended statement -/
theorem xi_k5 (hk : K i = 3 ∨ K i = 4 ∨ K i = 5 ∨ K i = 6 ∨ K i = 7) : (K i = 3 ∨ K i = 4 ∨ K i = 7) ∨ K i = 5 ∨ K i = 6 := by
  rcases hk with q | q | q | q | q
  · exact Or.inl (Or.inl q)
  · exact Or.inl (Or.inr (Or.inl q))
  · exact Or.inr (Or.inl q)
  · exact Or.inr (Or.inr q)
  · exact Or.inl (Or.inr (Or.inr q))
theorem xi_cnt {x x' : Int64} {s : Nat} (hs : s < 40) (hx : za_bt x s = true) (er : ∀ i, za_bt x' i = (za_bt x i && !(decide (s = i)))) : za_cn (za_bt x') 40 + 1 ≤ za_cn (za_bt x) 40 := by
  refine za_cn_lt 40 (fun i _ q => ?_) s hs (by rw [er s]; simp) hx
  rw [er i] at q
  cases hb : za_bt x i with
  | true => rfl
  | false => rw [hb] at q; simp at q
end
section
variable {n : Nat} {K AX AY AZ : Nat → Int32} {h : Nat → Nat} {sp : Int64} {rd : Int64} {jq : Nat} {st : Nat → Int32} {nm : Nat → Int32} {lf : Nat → Int32} {rt : Nat → Int32} {wt : Nat → Int64} {ja : Nat → Int32} {jb : Nat → Int32} {s : Nat} {rd' sp' : Int64} {wt' : Nat → Int64}
/-- statement s goes back to waiting, or can never run -/
theorem xi_tryS (V : ms_V n K AX AY AZ) (hn : n ≤ 40) (I : xi_I n K AX AY AZ h sp rd jq st nm lf rt wt ja jb) (hr : za_bt rd s = true) (er : ∀ i, za_bt rd' i = (za_bt rd i && !(decide (s = i)))) (ew : ∀ x i, za_bt (wt x) i = true → za_bt (wt' x) i = true)
    (W3 : (K s = 3 ∨ K s = 4 ∨ K s = 7) → xi_W h rd' st wt' (AY s).toNatClampNeg (AZ s).toNatClampNeg 1 s) (W5 : (K s = 5 ∨ K s = 6) → xi_W h rd' st wt' (AY s).toNatClampNeg (AY s).toNatClampNeg 2 s) :
    xi_I n K AX AY AZ h sp rd' jq st nm lf rt wt' ja jb ∧ xi_mu h sp rd' jq st < xi_mu h sp rd jq st := by
  obtain ⟨⟨A1, A2, A3, A4, A5, A6, A7⟩, B, Cc⟩ := I
  have hsp := A6 s hr
  obtain ⟨hs, hk⟩ := A7 s hsp
  have r1 : ∀ i, za_bt rd' i = true → za_bt rd i = true := by
    intro i q
    rw [er i] at q
    cases hb : za_bt rd i with
    | true => rfl
    | false => rw [hb] at q; simp at q
  have fs : ∀ {P : Prop}, za_bt sp s = false → P := fun q => by rw [hsp] at q; exact absurd q (by decide)
  refine ⟨⟨⟨A1, A2, A3, A4, A5, fun i q => A6 i (r1 i q), A7⟩, fun f F i hi => ?_, Cc⟩, ?_⟩
  · by_cases z : s = i
    · subst z
      rcases xi_k5 hk with k | k | k
      · exact xi_CI3 k ⟨fun _ => W3 k, fs⟩
      · exact xi_CI5 k ⟨fun _ => W5 (Or.inl k), fs⟩
      · exact xi_CI6 k ⟨fun _ => W5 (Or.inr k), fs⟩
    · refine xi_mono V hi (xi_Mo_tr rfl rfl rfl rfl rfl (fun _ q => q) rfl ?_ (fun x q => ew x i q)) F (B f F i hi)
      rw [er i]
      simp [z]
  · have := xi_cnt (by omega) hr er
    unfold xi_mu
    omega
/-- statement s is taken out -/
theorem xi_ex1 (hn : n ≤ 40) (I : xi_I n K AX AY AZ h sp rd jq st nm lf rt wt ja jb) (hr : za_bt rd s = true) (er : ∀ i, za_bt rd' i = (za_bt rd i && !(decide (s = i)))) (es : ∀ i, za_bt sp' i = (za_bt sp i && !(decide (s = i)))) :
    xi_A n K h sp' rd' jq st nm lf rt wt ja jb ∧ xi_C n K AX AY AZ h sp' rd' jq st nm lf rt wt ja jb ∧ (∀ i, s ≠ i → xi_Mo h sp rd jq st nm lf rt wt ja jb h sp' rd' jq st nm lf rt wt ja jb i) ∧ xi_mu h sp' rd' jq st + 4 ≤ xi_mu h sp rd jq st := by
  obtain ⟨⟨A1, A2, A3, A4, A5, A6, A7⟩, B, Cc⟩ := I
  have hsp := A6 s hr
  obtain ⟨hs, hk⟩ := A7 s hsp
  refine ⟨⟨A1, A2, A3, A4, A5, fun i q => ?_, fun i q => A7 i ?_⟩, Cc, fun i z => xi_Mo_tr rfl rfl rfl rfl rfl (fun _ q => q) ?_ ?_ (fun _ q => q), ?_⟩
  · rw [er i] at q
    rw [es i]
    have q2 := A6 i
    revert q
    cases hb : za_bt rd i with
    | true => rw [q2 hb]; exact id
    | false => intro q; simp at q
  · rw [es i] at q
    cases hb : za_bt sp i with
    | true => rfl
    | false => rw [hb] at q; simp at q
  · rw [es i]; simp [z]
  · rw [er i]; simp [z]
  · have m1 := xi_cnt (by omega) hr er
    have m2 := xi_cnt (by omega) hsp es
    unfold xi_mu
    omega
theorem xi_opM (V : ms_V n K AX AY AZ) (A : xi_A n K h sp rd jq st nm lf rt wt ja jb) (Cc : xi_C n K AX AY AZ h sp rd jq st nm lf rt wt ja jb) (hs : s < n) (hk : K s = 3 ∨ K s = 4 ∨ K s = 7) (hy : st (h (AY s).toNatClampNeg) = 1) (hz : st (h (AZ s).toNatClampNeg) = 1) {e : Nat → Nat} {t v : Nat → Int32} {l r : Nat → Nat} (hM : ms_M n K AX AY AZ e t v l r) : t (AX s).toNatClampNeg = 1 ∧ v (AX s).toNatClampNeg = ms_op (K s) (nm (h (AY s).toNatClampNeg)) (nm (h (AZ s).toNatClampNeg)) := by
  have k1 : K s ≠ 1 := by rcases hk with q | q | q <;> rw [q] <;> decide
  have ly := ms_V_y V hs k1
  have lz := ms_V_z V hs (Or.inr hk)
  have L := (Cc e t v l r hM).1
  obtain ⟨y1, y2⟩ := (ms_up hM.1 L A.1 ly).1 hy
  obtain ⟨z1, z2⟩ := (ms_up hM.1 L A.1 lz).1 hz
  obtain ⟨_, _, _, H3, _, _⟩ := hM.2 s hs
  obtain ⟨x1, x2⟩ := H3 hk y1 z1
  exact ⟨x1, by rw [x2, y2, z2]⟩
theorem xi_exX (V : ms_V n K AX AY AZ) (A : xi_A n K h sp rd jq st nm lf rt wt ja jb) (Cc : xi_C n K AX AY AZ h sp rd jq st nm lf rt wt ja jb) (hs : s < n) (hk : K s = 3 ∨ K s = 4 ∨ K s = 7) (hy : st (h (AY s).toNatClampNeg) = 1) (hz : st (h (AZ s).toNatClampNeg) = 1) (h0 : st (h (AX s).toNatClampNeg) ≠ 0) (hc : st (h (AX s).toNatClampNeg) = 2 ∨ nm (h (AX s).toNatClampNeg) ≠ ms_op (K s) (nm (h (AY s).toNatClampNeg)) (nm (h (AZ s).toNatClampNeg))) : ms_N n K AX AY AZ := by
  intro e t v l r hM
  obtain ⟨x1, x2⟩ := xi_opM V A Cc hs hk hy hz hM
  have lx := ms_V_x V hs
  have L := (Cc e t v l r hM).1
  have U := ms_up hM.1 L A.1 lx
  by_cases q : st (h (AX s).toNatClampNeg) = 2
  · have := (U.2 q).1
    rw [x1] at this
    exact absurd this (by decide)
  · have q1 : st (h (AX s).toNatClampNeg) = 1 := by rcases A.2.1 _ (A.1 _ lx).1 with y | y | y; exact absurd y h0; exact y; exact absurd y q
    have := (U.1 q1).2
    rcases hc with w | w
    · exact q w
    · exact w (by rw [← this]; exact x2)
/-- statement s has run, its number was there already -/
theorem xi_exK (V : ms_V n K AX AY AZ) (hn : n ≤ 40) (I : xi_I n K AX AY AZ h sp rd jq st nm lf rt wt ja jb) (hr : za_bt rd s = true) (er : ∀ i, za_bt rd' i = (za_bt rd i && !(decide (s = i)))) (es : ∀ i, za_bt sp' i = (za_bt sp i && !(decide (s = i))))
    (hk : K s = 3 ∨ K s = 4 ∨ K s = 7) (hy : st (h (AY s).toNatClampNeg) = 1) (hz : st (h (AZ s).toNatClampNeg) = 1) (hx : st (h (AX s).toNatClampNeg) = 1) (hm : nm (h (AX s).toNatClampNeg) = ms_op (K s) (nm (h (AY s).toNatClampNeg)) (nm (h (AZ s).toNatClampNeg))) :
    xi_I n K AX AY AZ h sp' rd' jq st nm lf rt wt ja jb ∧ xi_mu h sp' rd' jq st < xi_mu h sp rd jq st := by
  obtain ⟨a1, a2, a3, a4⟩ := xi_ex1 hn I hr er es
  refine ⟨⟨a1, fun f F i hi => ?_, a2⟩, by omega⟩
  by_cases z : s = i
  · subst z
    refine xi_CI3 hk ⟨fun q => ?_, fun _ => ⟨hy, hz, hx, hm⟩⟩
    rw [es s] at q
    simp at q
  · exact xi_mono V hi (a3 i z) F (I.2.1 f F i hi)
/-- statement s has run and binds -/
theorem xi_exB {rd2 : Int64} {st2 nm2 : Nat → Int32} {wt2 : Nat → Int64} {b : Nat} (V : ms_V n K AX AY AZ) (hn : n ≤ 40) (I : xi_I n K AX AY AZ h sp rd jq st nm lf rt wt ja jb) (hr : za_bt rd s = true) (er : ∀ i, za_bt rd' i = (za_bt rd i && !(decide (s = i)))) (es : ∀ i, za_bt sp' i = (za_bt sp i && !(decide (s = i))))
    (hk : K s = 3 ∨ K s = 4 ∨ K s = 7) (hy : st (h (AY s).toNatClampNeg) = 1) (hz : st (h (AZ s).toNatClampNeg) = 1) (hb : h (AX s).toNatClampNeg = b) (s0 : st b = 0)
    (e1 : st2 = upd st b 1) (e2 : nm2 = upd nm b (ms_op (K s) (nm (h (AY s).toNatClampNeg)) (nm (h (AZ s).toNatClampNeg)))) (e3 : rd2 = rd' ||| (wt b &&& sp')) (e4 : wt2 = vp_updL wt b 0) :
    xi_I n K AX AY AZ h sp' rd2 jq st2 nm2 lf rt wt2 ja jb ∧ xi_mu h sp' rd2 jq st2 < xi_mu h sp rd jq st := by
  obtain ⟨a1, a2, a3, a4⟩ := xi_ex1 hn I hr er es
  have hs := (I.1.2.2.2.2.2.2 s (I.1.2.2.2.2.2.1 s hr)).1
  have k1 : K s ≠ 1 := by rcases hk with q | q | q <;> rw [q] <;> decide
  have lx := ms_V_x V hs
  have ly := ms_V_y V hs k1
  have lz := ms_V_z V hs (Or.inr hk)
  have hb2 : b < 12 := hb ▸ (I.1.1 _ lx).1
  have hbb : h b = b := hb ▸ (I.1.1 _ lx).2
  have n10 : (1 : Int32) ≠ 0 := by decide
  subst e1 e2 e3 e4
  obtain ⟨b1, b2, b3, b4⟩ := xi_bind (rd' := rd' ||| (wt b &&& sp')) (st' := upd st b 1) (nm' := upd nm b (ms_op (K s) (nm (h (AY s).toNatClampNeg)) (nm (h (AZ s).toNatClampNeg)))) (lf' := lf) (rt' := rt) (wt' := vp_updL wt b 0) a1 a2 hb2 hbb s0
    (fun x hx => by rw [pk_un hx, pk_un hx, pk_uLn hx]; exact ⟨rfl, rfl, rfl, rfl, rfl⟩) (Or.inl pk_us) (fun i => by rw [za_bt_or, za_bt_and]) (fun q => by rw [pk_us] at q; exact absurd q (by decide))
    (fun e t v l r hM => by
      refine ⟨fun _ => ?_, fun q => by rw [pk_us] at q; exact absurd q (by decide)⟩
      obtain ⟨x1, x2⟩ := xi_opM V I.1 I.2.2 hs hk hy hz hM
      have eb := (I.2.2 e t v l r hM).1.1 _ lx
      rw [hb] at eb
      obtain ⟨g1, g2, _⟩ := hM.1 b _ hb2 lx eb
      rw [pk_us]
      exact ⟨g1.trans x1, (g2 (g1.trans x1)).trans x2⟩)
  refine ⟨⟨b1, fun f F i hi => ?_, b2⟩, by omega⟩
  have F1 := (b3 i).1 f F
  by_cases z : s = i
  · subst z
    obtain ⟨_, M2, _⟩ := b3 s
    obtain ⟨y1, y2, _⟩ := M2 _ ly (by rw [hy]; exact n10)
    obtain ⟨z1, z2, _⟩ := M2 _ lz (by rw [hz]; exact n10)
    refine xi_CI3 hk ⟨fun q => ?_, fun _ => ⟨y1.trans hy, z1.trans hz, by rw [hb, pk_us], ?_⟩⟩
    · rw [es s] at q
      simp at q
    · rw [y2 hy, z2 hz, hb, pk_us]
  · exact xi_mono V hi (b3 i) F (xi_mono V hi (a3 i z) F1 (I.2.1 f F1 i hi))
/-- statement s has run and wants a join; g: the half of the couple that it takes -/
theorem xi_exT {ja2 jb2 : Nat → Int32} {g : Nat → Int32} (V : ms_V n K AX AY AZ) (hn : n ≤ 40) (I : xi_I n K AX AY AZ h sp rd jq st nm lf rt wt ja jb) (hr : za_bt rd s = true) (er : ∀ i, za_bt rd' i = (za_bt rd i && !(decide (s = i)))) (es : ∀ i, za_bt sp' i = (za_bt sp i && !(decide (s = i))))
    (hk : (K s = 5 ∧ g = lf) ∨ (K s = 6 ∧ g = rt)) (hy : st (h (AY s).toNatClampNeg) = 2) (hq : jq + 1 + xi_cl h ≤ 14)
    (e1 : ja2 = upd ja jq (AX s)) (e2 : jb2 = upd jb jq (g (h (AY s).toNatClampNeg))) :
    xi_I n K AX AY AZ h sp' rd' (jq + 1) st nm lf rt wt ja2 jb2 ∧ xi_mu h sp' rd' (jq + 1) st < xi_mu h sp rd jq st := by
  obtain ⟨a1, a2, a3, a4⟩ := xi_ex1 hn I hr er es
  have hs := (I.1.2.2.2.2.2.2 s (I.1.2.2.2.2.2.1 s hr)).1
  have k1 : K s ≠ 1 := by rcases hk with ⟨q, _⟩ | ⟨q, _⟩ <;> rw [q] <;> decide
  have lx := ms_V_x V hs
  have ly := ms_V_y V hs k1
  have lr := I.1.2.2.1 _ (I.1.1 _ ly).1 hy
  have lg : vp_in (g (h (AY s).toNatClampNeg)) 12 := by rcases hk with ⟨_, q⟩ | ⟨_, q⟩ <;> rw [q]; exact lr.1; exact lr.2
  have mg : ∀ (e : Nat → Nat) (t v : Nat → Int32) (l r : Nat → Nat), ms_M n K AX AY AZ e t v l r → e (AX s).toNatClampNeg = e (g (h (AY s).toNatClampNeg)).toNatClampNeg := by
    intro e t v l r hM
    obtain ⟨y1, y2, y3⟩ := (ms_up hM.1 (I.2.2 e t v l r hM).1 I.1.1 ly).2 hy
    obtain ⟨_, _, _, _, H5, H6⟩ := hM.2 s hs
    rcases hk with ⟨q, w⟩ | ⟨q, w⟩
    · rw [w, H5 q y1, y2]
    · rw [w, H6 q y1, y3]
  subst e1 e2
  obtain ⟨b1, b2, b3⟩ := xi_want (jq' := jq + 1) (ja' := upd ja jq (AX s)) (jb' := upd jb jq (g (h (AY s).toNatClampNeg))) a1 a2 (by omega) (fun j hj => pk_un (by omega)) (fun j hj => pk_un (by omega))
    (fun j h1 h2 => by
      have : j = jq := by omega
      subst this
      rw [pk_us, pk_us]
      exact ⟨(V s hs).2.1, lg, mg⟩) hq
  refine ⟨⟨b1, fun f F i hi => ?_, b2⟩, by unfold xi_mu at a4 ⊢; omega⟩
  have F1 := (b3 i).1 f F
  by_cases z : s = i
  · subst z
    have Fq := F.2 jq (by omega)
    rw [pk_us, pk_us] at Fq
    have sf : za_bt sp' s = true → False := fun q => by rw [es s] at q; simp at q
    rcases hk with ⟨q, w⟩ | ⟨q, w⟩
    · exact xi_CI5 q ⟨fun u => (sf u).elim, fun _ => ⟨hy, by rw [← w]; exact Fq⟩⟩
    · exact xi_CI6 q ⟨fun u => (sf u).elim, fun _ => ⟨hy, by rw [← w]; exact Fq⟩⟩
  · exact xi_mono V hi (b3 i) F (xi_mono V hi (a3 i z) F1 (I.2.1 f F1 i hi))
end
end
section
/-! the component's work loop -/
/-- the component's statements are the given ones -/
def xa_S (n : Nat) (K AX AY AZ : Nat → Int32) (kd tg sy sz : Nat → Int32) : Prop := ∀ i, i < n → kd i = K i ∧ tg i = AX i ∧ ((K i = 3 ∨ K i = 4 ∨ K i = 7) → sy i = AY i ∧ sz i = AZ i) ∧ ((K i = 5 ∨ K i = 6) → sy i = AY i ∧ sz i = AY i)
theorem xi_joinX {n : Nat} {K AX AY AZ : Nat → Int32} {h : Nat → Nat} {sp : Int64} {rd : Int64} {jq : Nat} {st : Nat → Int32} {nm : Nat → Int32} {lf : Nat → Int32} {rt : Nat → Int32} {wt : Nat → Int64} {ja : Nat → Int32} {jb : Nat → Int32} {big small : Nat} (A : xi_A n K h sp rd (jq + 1) st nm lf rt wt ja jb) (Cc : xi_C n K AX AY AZ h sp rd (jq + 1) st nm lf rt wt ja jb) (hxy : (h (ja jq).toNatClampNeg = big ∧ h (jb jq).toNatClampNeg = small) ∨ (h (ja jq).toNatClampNeg = small ∧ h (jb jq).toNatClampNeg = big))
    (h1 : st big ≠ 0) (h2 : st small ≠ 0) (hc : st big ≠ st small ∨ (st big = 1 ∧ nm small ≠ nm big)) : ms_N n K AX AY AZ := by
  intro e t v l r hM
  obtain ⟨A1, A2, A3, A4, A5, A6, A7⟩ := A
  obtain ⟨L, c3⟩ := Cc e t v l r hM
  have lx := za_l12 (A4 jq (by omega)).1
  have ly := za_l12 (A4 jq (by omega)).2
  have exy := c3 jq (by omega)
  obtain ⟨g1, g2, g3⟩ := hM.1 _ _ lx ly exy
  have ux := ms_up hM.1 L A1 lx
  have uy := ms_up hM.1 L A1 ly
  have sx := A2 _ (A1 _ lx).1
  have sy := A2 _ (A1 _ ly).1
  have key : ∀ p q, h (ja jq).toNatClampNeg = p → h (jb jq).toNatClampNeg = q → st p ≠ 0 → st q ≠ 0 → st p = st q ∧ (st p = 1 → nm p = nm q) := by
    intro p q ep eq zp zq
    rw [ep] at ux sx
    rw [eq] at uy sy
    rcases sx with z | z | z
    · exact absurd z zp
    · obtain ⟨a1, a2⟩ := ux.1 z
      rcases sy with y | y | y
      · exact absurd y zq
      · obtain ⟨b1, b2⟩ := uy.1 y
        exact ⟨z.trans y.symm, fun _ => by rw [← a2, ← b2]; exact g2 a1⟩
      · have b1 := (uy.2 y).1
        rw [g1, b1] at a1
        exact absurd a1 (by decide)
    · have a1 := (ux.2 z).1
      rcases sy with y | y | y
      · exact absurd y zq
      · have b1 := (uy.1 y).1
        rw [g1, b1] at a1
        exact absurd a1 (by decide)
      · exact ⟨z.trans y.symm, fun w => by rw [z] at w; exact absurd w (by decide)⟩
  rcases hxy with ⟨e1, e2⟩ | ⟨e1, e2⟩
  · obtain ⟨k1, k2⟩ := key big small e1 e2 h1 h2
    rcases hc with w | ⟨w1, w2⟩
    · exact w k1
    · exact w2 (k2 w1).symm
  · obtain ⟨k1, k2⟩ := key small big e1 e2 h2 h1
    rcases hc with w | ⟨w1, w2⟩
    · exact w k1.symm
    · exact w2 (k2 (k1.trans w1))
theorem xi_cl12 (h : Nat → Nat) : xi_cl h ≤ 12 := za_cn_b _ 12
section
variable {sc : Int32} {kd tg sy sz : Nat → Int32} {n : Nat} {K AX AY AZ : Nat → Int32}
theorem xw_work_l {post : SX → Prop} (V : ms_V n K AX AY AZ) (hn : n ≤ 40) (SA : xa_S n K AX AY AZ kd tg sy sz)
    (HF : ∀ a' wg' h' sp' st' nm' lf' rt' wt' ja' jb', fo_F a' h' → xi_I n K AX AY AZ h' sp' 0 0 st' nm' lf' rt' wt' ja' jb' → post (sc, sp', nI 0, 0, 0, kd, tg, sy, sz, a', wg', st', nm', lf', rt', wt', ja', jb'))
    (HB : ms_N n K AX AY AZ → ∀ a' wg' sp' rd' jc' st' nm' lf' rt' wt' ja' jb', post (sc, sp', jc', rd', 1, kd, tg, sy, sz, a', wg', st', nm', lf', rt', wt', ja', jb')) :
    ∀ (m : Nat) (a wg : Nat → Int32) (h : Nat → Nat) (sp : Int64) (rd : Int64) (jq : Nat) (st : Nat → Int32) (nm : Nat → Int32) (lf : Nat → Int32) (rt : Nat → Int32) (wt : Nat → Int64) (ja : Nat → Int32) (jb : Nat → Int32), xi_mu h sp rd jq st + 2 ≤ m → fo_F a h → xi_I n K AX AY AZ h sp rd jq st nm lf rt wt ja jb → wX_work_0 post m sc sp (nI jq) rd 0 kd tg sy sz a wg st nm lf rt wt ja jb := by
  intro m
  induction m with
  | zero => intro a wg h sp rd jq st nm lf rt wt ja jb hm; omega
  | succ m ih =>
    intro a wg h sp rd jq st nm lf rt wt ja jb hm F I
    have HB1 : ms_N n K AX AY AZ → ∀ a' wg' sp' rd' jc' st' nm' lf' rt' wt' ja' jb', wX_work_0 post m sc sp' jc' rd' 1 kd tg sy sz a' wg' st' nm' lf' rt' wt' ja' jb' := by
      intro hN a' wg' sp' rd' jc' st' nm' lf' rt' wt' ja' jb'
      obtain ⟨m, rfl⟩ : ∃ k, m = k + 1 := ⟨m - 1, by omega⟩
      unfold wX_work_0
      exact br_f (by decide) (HB hN _ _ _ _ _ _ _ _ _ _ _ _)
    have A := I.1
    obtain ⟨A1, A2, A3, A4, A5, A6, A7⟩ := I.1
    have w23 : (jq = 0 → rd ≠ 0) → wX_work_23 post (wX_work_0 post m) sc sp (nI jq) rd 0 kd tg sy sz a wg st nm lf rt wt ja jb := by
      intro hor
      unfold wX_work_23
      by_cases hq : jq = 0
      · subst hq
        refine br_t (by decide) ?_
        obtain ⟨j, hj⟩ := za_bt_ne (hor rfl)
        refine xw_low ⟨j, by have := (A7 j (A6 j hj)).1; omega, hj⟩ (fun s hs40 hr => ?_)
        have hsp := A6 s hr
        obtain ⟨hs, hk⟩ := A7 s hsp
        obtain ⟨hkd, htg, S3, S5⟩ := SA s hs
        obtain ⟨_, Vx, Vy, Vz⟩ := V s hs
        have er := za_bt_c (s := s) (by omega) rd
        have es := za_bt_c (s := s) (by omega) sp
        have lx := za_l12 Vx
        refine nm_e ?_
        rcases xi_k5 hk with k | k
        · obtain ⟨e1, e2⟩ := S3 k
          have vy := Vy (by rcases k with q | q | q <;> rw [q] <;> decide)
          have vz := Vz (Or.inr k)
          have ly := za_l12 vy
          have lz := za_l12 vz
          refine xw_try F hs40 (by rw [e1]; exact vy) (by rw [e2]; exact vz) (fun q => ?_) (fun _ _ a' F' => ?_)
          · rw [hkd] at q
            exact absurd q (by rcases k with w | w | w <;> rw [w] <;> decide)
          · rw [e1, e2]
            refine xw_t60 F' hs40 (A1 _ ly).1 (A1 _ lz).1 (by decide) (by rw [htg]; exact Vx) (by omega) (A3 _ (A1 _ ly).1) (fun q => absurd rfl q) ?_ ?_ ?_ ?_ ?_ ?_ ?_
            · intro w hw sw
              have ew : ∀ x i, za_bt (wt x) i = true → za_bt (vp_updL wt w (wt w ||| ((1 : Int64) <<< ((nI s).toInt64 &&& 63))) x) i = true := by
                intro x i q
                by_cases z : x = w
                · subst z; rw [pk_uLs, za_bt_or, q]; rfl
                · rw [pk_uLn z]; exact q
              have eb : za_bt (vp_updL wt w (wt w ||| ((1 : Int64) <<< ((nI s).toInt64 &&& 63))) w) s = true := by
                rw [pk_uLs, za_bt_or, za_bt_1 (by omega)]; simp
              obtain ⟨I', mu'⟩ := xi_tryS V hn I hr er ew (fun _ => by
                rcases hw with z | z
                · exact Or.inr (Or.inl ⟨by rw [← z]; exact sw, by rw [← z]; exact eb⟩)
                · exact Or.inr (Or.inr (Or.inl ⟨by rw [← z]; exact sw, by rw [← z]; exact eb⟩)))
                (fun q => absurd q (by rcases k with w | w | w <;> rw [w] <;> decide))
              exact ih _ _ _ _ _ _ _ _ _ _ _ _ _ (by omega) F' I'
            · intro hw
              obtain ⟨I', mu'⟩ := xi_tryS (wt' := wt) V hn I hr er (fun _ _ q => q) (fun _ => by
                rcases hw with z | z
                · exact Or.inr (Or.inr (Or.inr (Or.inl z)))
                · exact Or.inr (Or.inr (Or.inr (Or.inr z))))
                (fun q => absurd q (by rcases k with w | w | w <;> rw [w] <;> decide))
              exact ih _ _ _ _ _ _ _ _ _ _ _ _ _ (by omega) F' I'
            · rw [htg, hkd]
              intro _ y1 z1 b hb s0 a2 F2
              obtain ⟨I', mu'⟩ := xi_exB V hn I hr er es k y1 z1 hb s0 rfl rfl rfl rfl
              exact ih _ _ _ _ _ _ _ _ _ _ _ _ _ (by omega) F2 I'
            · rw [htg, hkd]
              intro _ y1 z1 b hb s0 s2 hm2 a2 F2
              subst hb
              have s1 : st (h (AX s).toNatClampNeg) = 1 := by rcases A2 _ (A1 _ lx).1 with y | y | y; exact absurd y s0; exact y; exact absurd y s2
              obtain ⟨I', mu'⟩ := xi_exK V hn I hr er es k y1 z1 s1 hm2
              exact ih _ _ _ _ _ _ _ _ _ _ _ _ _ (by omega) F2 I'
            · rw [htg, hkd]
              intro _ y1 z1 b hb s0 hc a2 F2
              subst hb
              exact HB1 (xi_exX V I.1 I.2.2 hs k y1 z1 s0 hc) _ _ _ _ _ _ _ _ _ _ _ _
            · intro q; exact absurd rfl q
            · intro q; exact absurd rfl q
        · obtain ⟨e1, e2⟩ := S5 k
          have vy := Vy (by rcases k with q | q <;> rw [q] <;> decide)
          have ly := za_l12 vy
          refine xw_try F hs40 (by rw [e1]; exact vy) (by rw [e2]; exact vy) (fun _ a' F' => ?_) (fun q1 q2 => ?_)
          · rw [e1, e2]
            refine xw_t60 F' hs40 (A1 _ ly).1 (A1 _ ly).1 (by decide) (by rw [htg]; exact Vx) (by omega) (A3 _ (A1 _ ly).1) (fun q => rfl) ?_ ?_ ?_ ?_ ?_ ?_ ?_
            · intro w hw sw
              have ew : ∀ x i, za_bt (wt x) i = true → za_bt (vp_updL wt w (wt w ||| ((1 : Int64) <<< ((nI s).toInt64 &&& 63))) x) i = true := by
                intro x i q
                by_cases z : x = w
                · subst z; rw [pk_uLs, za_bt_or, q]; rfl
                · rw [pk_uLn z]; exact q
              have eb : za_bt (vp_updL wt w (wt w ||| ((1 : Int64) <<< ((nI s).toInt64 &&& 63))) w) s = true := by
                rw [pk_uLs, za_bt_or, za_bt_1 (by omega)]; simp
              obtain ⟨I', mu'⟩ := xi_tryS V hn I hr er ew (fun q => absurd q (by rcases k with w | w <;> rw [w] <;> decide)) (fun _ => by
                rcases hw with z | z
                · exact Or.inr (Or.inl ⟨by rw [← z]; exact sw, by rw [← z]; exact eb⟩)
                · exact Or.inr (Or.inr (Or.inl ⟨by rw [← z]; exact sw, by rw [← z]; exact eb⟩)))
              exact ih _ _ _ _ _ _ _ _ _ _ _ _ _ (by omega) F' I'
            · intro hw
              obtain ⟨I', mu'⟩ := xi_tryS (wt' := wt) V hn I hr er (fun _ _ q => q) (fun q => absurd q (by rcases k with w | w <;> rw [w] <;> decide)) (fun _ => by
                rcases hw with z | z
                · exact Or.inr (Or.inr (Or.inr (Or.inl z)))
                · exact Or.inr (Or.inr (Or.inr (Or.inr z))))
              exact ih _ _ _ _ _ _ _ _ _ _ _ _ _ (by omega) F' I'
            · intro q; exact absurd q (by decide)
            · intro q; exact absurd q (by decide)
            · intro q; exact absurd q (by decide)
            · rw [htg, hkd]
              intro _ y1 _ k5
              have c12 := xi_cl12 h
              obtain ⟨I', mu'⟩ := xi_exT V hn I hr er es (Or.inl ⟨k5, rfl⟩) y1 (by omega) rfl rfl
              exact ih _ _ _ _ _ _ _ _ _ _ _ _ _ (by omega) F' I'
            · rw [htg, hkd]
              intro _ y1 _ k5
              have c12 := xi_cl12 h
              have k6 : K s = 6 := by rcases k with w | w; exact absurd w k5; exact w
              obtain ⟨I', mu'⟩ := xi_exT V hn I hr er es (Or.inr ⟨k6, rfl⟩) y1 (by omega) rfl rfl
              exact ih _ _ _ _ _ _ _ _ _ _ _ _ _ (by omega) F' I'
          · rw [hkd] at q1 q2
            rcases k with w | w
            · exact absurd w q1
            · exact absurd w q2
      · obtain ⟨q, rfl⟩ : ∃ k, jq = k + 1 := ⟨jq - 1, by omega⟩
        refine br_f (nI_nle (by omega) (by omega)) (nm_r (nI_pred q) ?_)
        rw [za_c40 (show q < 40 by omega)]
        obtain ⟨vx, vy⟩ := A4 q (by omega)
        refine ⟨za_i40 (by omega), za_i40 (by omega), ?_⟩
        refine xw_join F vx vy (by omega) A2 A3 (fun e a' F' => ?_) (fun big small ne hbs a' wg' rd' jq' st' nm' lf' rt' wt' ja' jb' F' J => ?_) (fun big small hbs h1 h2 hc a' wg' rd' jc' st' nm' lf' rt' wt' ja' jb' => HB1 (xi_joinX A I.2.2 hbs h1 h2 hc) _ _ _ _ _ _ _ _ _ _ _ _)
        · refine ih _ _ _ _ _ _ _ _ _ _ _ _ _ ?_ F' (show xi_I n K AX AY AZ h sp rd q st nm lf rt wt ja jb from ?_)
          · unfold xi_mu at hm ⊢; omega
          · refine ⟨⟨A1, A2, A3, fun j hj => A4 j (by omega), by omega, A6, A7⟩, fun f Ff i hi => ?_, fun e t v l r hM => ⟨(I.2.2 e t v l r hM).1, fun j hj => (I.2.2 e t v l r hM).2 j (by omega)⟩⟩
            refine I.2.1 f ⟨Ff.1, fun j hj => ?_⟩ i hi
            by_cases z : j < q
            · exact Ff.2 j z
            · have : j = q := by omega
              subst this
              rw [← Ff.1 _ (za_l12 vx), ← Ff.1 _ (za_l12 vy), e]
        · have b12 : big < 12 ∧ h big = big ∧ small < 12 ∧ h small = small ∧ big ≠ small := by
            obtain ⟨x1, x2⟩ := A1 _ (za_l12 vx)
            obtain ⟨y1, y2⟩ := A1 _ (za_l12 vy)
            rcases hbs with ⟨z1, z2⟩ | ⟨z1, z2⟩ <;> rw [z1] at x1 x2 ne <;> rw [z2] at y1 y2 ne
            · exact ⟨x1, x2, y1, y2, ne⟩
            · exact ⟨y1, y2, x1, x2, fun u => ne u.symm⟩
          obtain ⟨b1, b2, b3, b4, b5⟩ := b12
          obtain ⟨A', mu'⟩ := xi_joinA A b1 b3 b2 b4 b5 J
          have C' := xi_joinC A I.2.2 b1 b3 b2 b4 b5 hbs J
          have M' := xi_joinM A b1 b3 b2 b4 b5 hbs J
          refine ih _ _ _ _ _ _ _ _ _ _ _ _ _ (by omega) F' ⟨A', fun f Ff i hi => ?_, C'⟩
          exact xi_mono V hi (M' i) Ff (I.2.1 f ((M' i).1 f Ff) i hi)
    unfold wX_work_0
    refine br_t rfl ?_
    by_cases hq : jq = 0
    · subst hq
      refine br_f (by decide) (br_c (fun q => ?_) (fun q => w23 (fun _ => q)))
      subst q
      exact HF _ _ _ _ _ _ _ _ _ _ _ F I
    · refine br_t ?_ (w23 (fun z => absurd z hq))
      exact nI_lt (a := 0) (by omega) (by omega)
theorem xw_work {post : SX → Prop} {a wg : Nat → Int32} {h : Nat → Nat} {sp : Int64} {rd : Int64} {jq : Nat} {st : Nat → Int32} {nm : Nat → Int32} {lf : Nat → Int32} {rt : Nat → Int32} {wt : Nat → Int64} {ja : Nat → Int32} {jb : Nat → Int32} (V : ms_V n K AX AY AZ) (hn : n ≤ 40) (SA : xa_S n K AX AY AZ kd tg sy sz)
    (HF : ∀ a' wg' h' sp' st' nm' lf' rt' wt' ja' jb', fo_F a' h' → xi_I n K AX AY AZ h' sp' 0 0 st' nm' lf' rt' wt' ja' jb' → post (sc, sp', nI 0, 0, 0, kd, tg, sy, sz, a', wg', st', nm', lf', rt', wt', ja', jb'))
    (HB : ms_N n K AX AY AZ → ∀ a' wg' sp' rd' jc' st' nm' lf' rt' wt' ja' jb', post (sc, sp', jc', rd', 1, kd, tg, sy, sz, a', wg', st', nm', lf', rt', wt', ja', jb'))
    (F : fo_F a h) (I : xi_I n K AX AY AZ h sp rd jq st nm lf rt wt ja jb) : wpX_work post (sc, sp, nI jq, rd, 0, kd, tg, sy, sz, a, wg, st, nm, lf, rt, wt, ja, jb) := by
  unfold wpX_work
  dsimp only
  exact ⟨_, xw_work_l V hn SA HF HB _ a wg h sp rd jq st nm lf rt wt ja jb (Nat.le_refl _) F I⟩
theorem xw_workB {post : SX → Prop} {sc : Int32} {sp : Int64} {jc : Int32} {rd : Int64} {kd : Nat → Int32} {tg : Nat → Int32} {sy : Nat → Int32} {sz : Nat → Int32} {a : Nat → Int32} {wg : Nat → Int32} {st : Nat → Int32} {nm : Nat → Int32} {lf : Nat → Int32} {rt : Nat → Int32} {wt : Nat → Int64} {ja : Nat → Int32} {jb : Nat → Int32} (H : post (sc, sp, jc, rd, 1, kd, tg, sy, sz, a, wg, st, nm, lf, rt, wt, ja, jb)) : wpX_work post (sc, sp, jc, rd, 1, kd, tg, sy, sz, a, wg, st, nm, lf, rt, wt, ja, jb) := by
  unfold wpX_work
  dsimp only
  refine ⟨1, ?_⟩
  unfold wX_work_0
  exact br_f (by decide) H
end
end
section
/-! the component: a new statement, plainly -/
theorem xi_CI_cg {K AX AY AZ K' AX' AY' AZ' : Nat → Int32} {f : Nat → Nat} {h : Nat → Nat} {sp : Int64} {rd : Int64} {jq : Nat} {st : Nat → Int32} {nm : Nat → Int32} {lf : Nat → Int32} {rt : Nat → Int32} {wt : Nat → Int64} {ja : Nat → Int32} {jb : Nat → Int32} {i : Nat} (h1 : K' i = K i) (h2 : AX' i = AX i) (h3 : AY' i = AY i) (h4 : AZ' i = AZ i) (H : xi_CI K AX AY AZ f h sp rd jq st nm lf rt wt ja jb i) : xi_CI K' AX' AY' AZ' f h sp rd jq st nm lf rt wt ja jb i := by
  unfold xi_CI
  rw [h1, h2, h3, h4]
  exact H
theorem xi_ag {n : Nat} {K AX AY AZ K' AX' AY' AZ' : Nat → Int32} {h : Nat → Nat} {sp : Int64} {rd : Int64} {jq : Nat} {st : Nat → Int32} {nm : Nat → Int32} {lf : Nat → Int32} {rt : Nat → Int32} {wt : Nat → Int64} {ja : Nat → Int32} {jb : Nat → Int32} (H : ∀ i, i < n → K' i = K i ∧ AX' i = AX i ∧ AY' i = AY i ∧ AZ' i = AZ i) (I : xi_I n K AX AY AZ h sp rd jq st nm lf rt wt ja jb) : xi_I n K' AX' AY' AZ' h sp rd jq st nm lf rt wt ja jb := by
  obtain ⟨⟨A1, A2, A3, A4, A5, A6, A7⟩, B, Cc⟩ := I
  refine ⟨⟨A1, A2, A3, A4, A5, A6, fun i q => ?_⟩, fun f F i hi => ?_, fun e t v l r hM => ?_⟩
  · obtain ⟨a, b⟩ := A7 i q
    rw [(H i a).1]
    exact ⟨a, b⟩
  · obtain ⟨a, b, c, d⟩ := H i hi
    exact xi_CI_cg a b c d (B f F i hi)
  · refine Cc e t v l r ⟨hM.1, fun i hi => ?_⟩
    obtain ⟨a, b, c, d⟩ := H i hi
    exact (ms_H_cg a b c d).mp (hM.2 i hi)
section
variable {n : Nat} {K AX AY AZ : Nat → Int32} {h : Nat → Nat} {sp : Int64} {rd : Int64} {jq : Nat} {st : Nat → Int32} {nm : Nat → Int32} {lf : Nat → Int32} {rt : Nat → Int32} {wt : Nat → Int64} {ja : Nat → Int32} {jb : Nat → Int32}
theorem xi_grA (A : xi_A n K h sp rd jq st nm lf rt wt ja jb) : xi_A (n + 1) K h sp rd jq st nm lf rt wt ja jb := by
  obtain ⟨A1, A2, A3, A4, A5, A6, A7⟩ := A
  exact ⟨A1, A2, A3, A4, A5, A6, fun i q => ⟨by have := (A7 i q).1; omega, (A7 i q).2⟩⟩
theorem ms_grM {e : Nat → Nat} {t v : Nat → Int32} {l r : Nat → Nat} (hM : ms_M (n + 1) K AX AY AZ e t v l r) : ms_M n K AX AY AZ e t v l r := ⟨hM.1, fun i hi => hM.2 i (by omega)⟩
theorem xi_grC (Cc : xi_C n K AX AY AZ h sp rd jq st nm lf rt wt ja jb) : xi_C (n + 1) K AX AY AZ h sp rd jq st nm lf rt wt ja jb := fun e t v l r hM => Cc e t v l r (ms_grM hM)
theorem xi_tl {h' : Nat → Nat} {sp' : Int64} {rd' : Int64} {jq' : Nat} {st' : Nat → Int32} {nm' : Nat → Int32} {lf' : Nat → Int32} {rt' : Nat → Int32} {wt' : Nat → Int64} {ja' : Nat → Int32} {jb' : Nat → Int32} (V : ms_V (n + 1) K AX AY AZ) (I : xi_I n K AX AY AZ h sp rd jq st nm lf rt wt ja jb) (A' : xi_A (n + 1) K h' sp' rd' jq' st' nm' lf' rt' wt' ja' jb') (C' : xi_C (n + 1) K AX AY AZ h' sp' rd' jq' st' nm' lf' rt' wt' ja' jb') (Mo : ∀ i, i < n → xi_Mo h sp rd jq st nm lf rt wt ja jb h' sp' rd' jq' st' nm' lf' rt' wt' ja' jb' i) (cn : ∀ f, xi_F f h' jq' ja' jb' → xi_CI K AX AY AZ f h' sp' rd' jq' st' nm' lf' rt' wt' ja' jb' n) : xi_I (n + 1) K AX AY AZ h' sp' rd' jq' st' nm' lf' rt' wt' ja' jb' := by
  refine ⟨A', fun f F i hi => ?_, C'⟩
  by_cases z : i = n
  · subst z; exact cn f F
  · have hi' : i < n := by omega
    exact xi_mono V hi (Mo i hi') F (I.2.1 f ((Mo i hi').1 f F) i hi')
theorem xi_tl1 {b : Nat} (V : ms_V (n + 1) K AX AY AZ) (I : xi_I n K AX AY AZ h sp rd jq st nm lf rt wt ja jb) (hk : K n = 1) (hb : h (AX n).toNatClampNeg = b) (s0 : st b = 0) : xi_I (n + 1) K AX AY AZ h sp (rd ||| (wt b &&& sp)) jq (upd st b 1) (upd nm b (AY n)) lf rt (vp_updL wt b 0) ja jb := by
  have lx := ms_V_x V (show n < n + 1 by omega)
  have hb2 : b < 12 := hb ▸ (I.1.1 _ lx).1
  have hbb : h b = b := hb ▸ (I.1.1 _ lx).2
  obtain ⟨b1, b2, b3, _⟩ := xi_bind (rd' := rd ||| (wt b &&& sp)) (st' := upd st b 1) (nm' := upd nm b (AY n)) (lf' := lf) (rt' := rt) (wt' := vp_updL wt b 0) (xi_grA I.1) (xi_grC I.2.2) hb2 hbb s0
    (fun x hx => by rw [pk_un hx, pk_un hx, pk_uLn hx]; exact ⟨rfl, rfl, rfl, rfl, rfl⟩) (Or.inl pk_us) (fun i => by rw [za_bt_or, za_bt_and]) (fun q => by rw [pk_us] at q; exact absurd q (by decide))
    (fun e t v l r hM => by
      refine ⟨fun _ => ?_, fun q => by rw [pk_us] at q; exact absurd q (by decide)⟩
      obtain ⟨_, H1, _⟩ := hM.2 n (by omega)
      obtain ⟨x1, x2⟩ := H1 hk
      have eb := (I.2.2 e t v l r (ms_grM hM)).1.1 _ lx
      rw [hb] at eb
      obtain ⟨g1, g2, _⟩ := hM.1 b _ hb2 lx eb
      rw [pk_us]
      exact ⟨g1.trans x1, (g2 (g1.trans x1)).trans x2⟩)
  refine xi_tl V I b1 b2 (fun i _ => b3 i) (fun f F => xi_CI1 hk ?_)
  rw [hb, pk_us, pk_us]
  exact ⟨rfl, rfl⟩
theorem xi_Mo_rf (i : Nat) : xi_Mo h sp rd jq st nm lf rt wt ja jb h sp rd jq st nm lf rt wt ja jb i := xi_Mo_tr rfl rfl rfl rfl rfl (fun _ q => q) rfl rfl (fun _ q => q)
theorem xi_tl1k {b : Nat} (V : ms_V (n + 1) K AX AY AZ) (I : xi_I n K AX AY AZ h sp rd jq st nm lf rt wt ja jb) (hk : K n = 1) (hb : h (AX n).toNatClampNeg = b) (s0 : st b ≠ 0) (s2 : st b ≠ 2) (hm : nm b = AY n) : xi_I (n + 1) K AX AY AZ h sp rd jq st nm lf rt wt ja jb := by
  have lx := ms_V_x V (show n < n + 1 by omega)
  have hb2 : b < 12 := hb ▸ (I.1.1 _ lx).1
  refine xi_tl V I (xi_grA I.1) (xi_grC I.2.2) (fun i _ => xi_Mo_rf i) (fun f F => xi_CI1 hk ?_)
  rw [hb]
  refine ⟨?_, hm⟩
  rcases I.1.2.1 b hb2 with y | y | y
  · exact absurd y s0
  · exact y
  · exact absurd y s2
theorem xi_tl1x {b : Nat} (V : ms_V (n + 1) K AX AY AZ) (I : xi_I n K AX AY AZ h sp rd jq st nm lf rt wt ja jb) (hk : K n = 1) (hb : h (AX n).toNatClampNeg = b) (s0 : st b ≠ 0) (hc : st b = 2 ∨ nm b ≠ AY n) : ms_N (n + 1) K AX AY AZ := by
  have lx := ms_V_x V (show n < n + 1 by omega)
  have hb2 : b < 12 := hb ▸ (I.1.1 _ lx).1
  intro e t v l r hM
  obtain ⟨_, H1, _⟩ := hM.2 n (by omega)
  obtain ⟨x1, x2⟩ := H1 hk
  have U := ms_up hM.1 (I.2.2 e t v l r (ms_grM hM)).1 I.1.1 lx
  rw [hb] at U
  by_cases q : st b = 2
  · have := (U.2 q).1
    rw [x1] at this
    exact absurd this (by decide)
  · have q1 : st b = 1 := by rcases I.1.2.1 b hb2 with y | y | y; exact absurd y s0; exact y; exact absurd y q
    rcases hc with w | w
    · exact q w
    · exact w ((U.1 q1).2.symm.trans x2)
theorem xi_tl2 {b : Nat} (V : ms_V (n + 1) K AX AY AZ) (I : xi_I n K AX AY AZ h sp rd jq st nm lf rt wt ja jb) (hk : K n = 2) (hb : h (AX n).toNatClampNeg = b) (s0 : st b = 0) : xi_I (n + 1) K AX AY AZ h sp (rd ||| (wt b &&& sp)) jq (upd st b 2) nm (upd lf b (AY n)) (upd rt b (AZ n)) (vp_updL wt b 0) ja jb := by
  have lx := ms_V_x V (show n < n + 1 by omega)
  obtain ⟨_, _, Vy, Vz⟩ := V n (by omega)
  have vy := Vy (by rw [hk]; decide)
  have vz := Vz (Or.inl hk)
  have hb2 : b < 12 := hb ▸ (I.1.1 _ lx).1
  have hbb : h b = b := hb ▸ (I.1.1 _ lx).2
  obtain ⟨b1, b2, b3, _⟩ := xi_bind (rd' := rd ||| (wt b &&& sp)) (st' := upd st b 2) (nm' := nm) (lf' := upd lf b (AY n)) (rt' := upd rt b (AZ n)) (wt' := vp_updL wt b 0) (xi_grA I.1) (xi_grC I.2.2) hb2 hbb s0
    (fun x hx => by rw [pk_un hx, pk_un hx, pk_un hx, pk_uLn hx]; exact ⟨rfl, rfl, rfl, rfl, rfl⟩) (Or.inr pk_us) (fun i => by rw [za_bt_or, za_bt_and]) (fun q => by rw [pk_us, pk_us]; exact ⟨vy, vz⟩)
    (fun e t v l r hM => by
      refine ⟨fun q => by rw [pk_us] at q; exact absurd q (by decide), fun _ => ?_⟩
      obtain ⟨_, _, H2, _⟩ := hM.2 n (by omega)
      obtain ⟨x1, x2, x3⟩ := H2 hk
      have eb := (I.2.2 e t v l r (ms_grM hM)).1.1 _ lx
      rw [hb] at eb
      obtain ⟨g1, _, g3⟩ := hM.1 b _ hb2 lx eb
      obtain ⟨g4, g5⟩ := g3 (g1.trans x1)
      rw [pk_us, pk_us]
      exact ⟨g1.trans x1, g4.trans x2, g5.trans x3⟩)
  refine xi_tl V I b1 b2 (fun i _ => b3 i) (fun f F => xi_CI2 hk ?_)
  rw [hb, pk_us, pk_us, pk_us]
  exact ⟨rfl, rfl, rfl⟩
theorem xi_tl2x {b : Nat} (V : ms_V (n + 1) K AX AY AZ) (I : xi_I n K AX AY AZ h sp rd jq st nm lf rt wt ja jb) (hk : K n = 2) (hb : h (AX n).toNatClampNeg = b) (s0 : st b ≠ 0) (s2 : st b ≠ 2) : ms_N (n + 1) K AX AY AZ := by
  have lx := ms_V_x V (show n < n + 1 by omega)
  have hb2 : b < 12 := hb ▸ (I.1.1 _ lx).1
  intro e t v l r hM
  obtain ⟨_, _, H2, _⟩ := hM.2 n (by omega)
  have x1 := (H2 hk).1
  have U := ms_up hM.1 (I.2.2 e t v l r (ms_grM hM)).1 I.1.1 lx
  rw [hb] at U
  have q1 : st b = 1 := by rcases I.1.2.1 b hb2 with y | y | y; exact absurd y s0; exact y; exact absurd y s2
  have := (U.1 q1).1
  rw [x1] at this
  exact absurd this (by decide)
end
section
variable {n : Nat} {K AX AY AZ : Nat → Int32} {h : Nat → Nat} {sp rd : Int64} {st nm lf rt : Nat → Int32} {wt : Nat → Int64} {ja jb : Nat → Int32}
theorem xi_tl0 (V : ms_V (n + 1) K AX AY AZ) (I : xi_I n K AX AY AZ h sp rd 0 st nm lf rt wt ja jb) (hk : K n = 0) : xi_I (n + 1) K AX AY AZ h sp rd (0 + 1) st nm lf rt wt (upd ja 0 (AX n)) (upd jb 0 (AY n)) := by
  obtain ⟨_, Vx, Vy, _⟩ := V n (by omega)
  have vy := Vy (by rw [hk]; decide)
  have c12 := xi_cl12 h
  obtain ⟨b1, b2, b3⟩ := xi_want (jq' := 0 + 1) (ja' := upd ja 0 (AX n)) (jb' := upd jb 0 (AY n)) (xi_grA I.1) (xi_grC I.2.2) (by omega) (fun j hj => absurd hj (by omega)) (fun j hj => absurd hj (by omega))
    (fun j h1 h2 => by
      have : j = 0 := by omega
      subst this
      rw [pk_us, pk_us]
      refine ⟨Vx, vy, fun e t v l r hM => ?_⟩
      obtain ⟨H0, _⟩ := hM.2 n (by omega)
      exact H0 hk) (by omega)
  refine xi_tl V I b1 b2 (fun i _ => b3 i) (fun f F => xi_CI0 hk ?_)
  have Fq := F.2 0 (by omega)
  rw [pk_us, pk_us] at Fq
  exact Fq
theorem xi_tl2w {b : Nat} (V : ms_V (n + 1) K AX AY AZ) (I : xi_I n K AX AY AZ h sp rd 0 st nm lf rt wt ja jb) (hk : K n = 2) (hb : h (AX n).toNatClampNeg = b) (s2 : st b = 2) : xi_I (n + 1) K AX AY AZ h sp rd (0 + 1 + 1) st nm lf rt wt (upd (upd ja 0 (lf b)) (0 + 1) (rt b)) (upd (upd jb 0 (AY n)) (0 + 1) (AZ n)) := by
  obtain ⟨_, Vx, Vy, Vz⟩ := V n (by omega)
  have vy := Vy (by rw [hk]; decide)
  have vz := Vz (Or.inl hk)
  have lx := za_l12 Vx
  have hb2 : b < 12 := hb ▸ (I.1.1 _ lx).1
  have c12 := xi_cl12 h
  have lr := I.1.2.2.1 b hb2 s2
  have a0 : upd (upd ja 0 (lf b)) (0 + 1) (rt b) 0 = lf b := by rw [pk_un (by omega), pk_us]
  have a1 : upd (upd ja 0 (lf b)) (0 + 1) (rt b) (0 + 1) = rt b := pk_us
  have c0 : upd (upd jb 0 (AY n)) (0 + 1) (AZ n) 0 = AY n := by rw [pk_un (by omega), pk_us]
  have c1 : upd (upd jb 0 (AY n)) (0 + 1) (AZ n) (0 + 1) = AZ n := pk_us
  obtain ⟨b1, b2, b3⟩ := xi_want (jq' := 0 + 1 + 1) (ja' := upd (upd ja 0 (lf b)) (0 + 1) (rt b)) (jb' := upd (upd jb 0 (AY n)) (0 + 1) (AZ n)) (xi_grA I.1) (xi_grC I.2.2) (by omega) (fun j hj => absurd hj (by omega)) (fun j hj => absurd hj (by omega))
    (fun j h1 h2 => by
      have U : ∀ (e : Nat → Nat) (t v : Nat → Int32) (l r : Nat → Nat), ms_M (n + 1) K AX AY AZ e t v l r → e (lf b).toNatClampNeg = e (AY n).toNatClampNeg ∧ e (rt b).toNatClampNeg = e (AZ n).toNatClampNeg := by
        intro e t v l r hM
        obtain ⟨_, _, H2, _⟩ := hM.2 n (by omega)
        obtain ⟨x1, x2, x3⟩ := H2 hk
        have U := ms_up hM.1 (I.2.2 e t v l r (ms_grM hM)).1 I.1.1 lx
        rw [hb] at U
        obtain ⟨u1, u2, u3⟩ := U.2 s2
        exact ⟨u2.symm.trans x2, u3.symm.trans x3⟩
      have : j = 0 ∨ j = 0 + 1 := by omega
      rcases this with z | z
      · rw [z, a0, c0]
        exact ⟨lr.1, vy, fun e t v l r hM => (U e t v l r hM).1⟩
      · rw [z, a1, c1]
        exact ⟨lr.2, vz, fun e t v l r hM => (U e t v l r hM).2⟩) (by omega)
  refine xi_tl V I b1 b2 (fun i _ => b3 i) (fun f F => xi_CI2 hk ?_)
  have F0 := F.2 0 (by omega)
  have F1 := F.2 (0 + 1) (by omega)
  rw [a0, c0] at F0
  rw [a1, c1] at F1
  rw [hb]
  exact ⟨s2, F0, F1⟩
theorem xi_tl3 {jq : Nat} {sp' rd' : Int64} (V : ms_V (n + 1) K AX AY AZ) (I : xi_I n K AX AY AZ h sp rd jq st nm lf rt wt ja jb) (hk : K n = 3 ∨ K n = 4 ∨ K n = 5 ∨ K n = 6 ∨ K n = 7) (es : ∀ i, za_bt sp' i = (za_bt sp i || decide (n = i))) (er : ∀ i, za_bt rd' i = (za_bt rd i || decide (n = i))) : xi_I (n + 1) K AX AY AZ h sp' rd' jq st nm lf rt wt ja jb := by
  obtain ⟨A1, A2, A3, A4, A5, A6, A7⟩ := I.1
  have e1 : za_bt rd' n = true := by rw [er]; simp
  have e2 : za_bt sp' n = true := by rw [es]; simp
  have no : ∀ {P : Prop}, za_bt sp' n = false → P := fun q => by rw [e2] at q; exact absurd q (by decide)
  refine xi_tl V I ⟨A1, A2, A3, A4, A5, fun i q => ?_, fun i q => ?_⟩ (xi_grC I.2.2) (fun i hi => xi_Mo_tr rfl rfl rfl rfl rfl (fun _ q => q) ?_ ?_ (fun _ q => q)) (fun f F => ?_)
  · rw [er] at q
    rw [es]
    by_cases z : n = i
    · simp [z]
    · simp [z] at q ⊢
      exact A6 i q
  · rw [es] at q
    by_cases z : n = i
    · subst z; exact ⟨by omega, hk⟩
    · simp [z] at q
      exact ⟨by have := (A7 i q).1; omega, (A7 i q).2⟩
  · rw [es]; simp [show n ≠ i by omega]
  · rw [er]; simp [show n ≠ i by omega]
  · rcases xi_k5 hk with k | k | k
    · exact xi_CI3 k ⟨fun _ => Or.inl e1, no⟩
    · exact xi_CI5 k ⟨fun _ => Or.inl e1, no⟩
    · exact xi_CI6 k ⟨fun _ => Or.inl e1, no⟩
end
end
section
/-! the component's tell: walk -/
def tl_ok (v1 v2 v3 v4 : Int32) : Prop := (v1 = 0 ∨ v1 = 1 ∨ v1 = 2 ∨ v1 = 3 ∨ v1 = 4 ∨ v1 = 5 ∨ v1 = 6 ∨ v1 = 7) ∧ vp_in v2 12 ∧ (v1 ≠ 1 → vp_in v3 12) ∧ ((v1 = 2 ∨ v1 = 3 ∨ v1 = 4 ∨ v1 = 7) → vp_in v4 12)
theorem tl_k {x : Int32} (h0 : ¬ x < 0) (h7 : ¬ (7 : Int32) < x) : x = 0 ∨ x = 1 ∨ x = 2 ∨ x = 3 ∨ x = 4 ∨ x = 5 ∨ x = 6 ∨ x = 7 := by
  obtain ⟨j, hj, rfl⟩ := nI_of2 (M := 7) (n := 7) (by decide) h0 (Int32.not_lt.mp h7)
  have : j = 0 ∨ j = 1 ∨ j = 2 ∨ j = 3 ∨ j = 4 ∨ j = 5 ∨ j = 6 ∨ j = 7 := by omega
  rcases this with z | z | z | z | z | z | z | z <;> subst z <;> decide
theorem tl_kr {x : Int32} (h : x = 0 ∨ x = 1 ∨ x = 2 ∨ x = 3 ∨ x = 4 ∨ x = 5 ∨ x = 6 ∨ x = 7) : ¬ x < 0 ∧ ¬ (7 : Int32) < x := by
  rcases h with z | z | z | z | z | z | z | z <;> subst z <;> decide
theorem tl_kb {x : Int32} (h : x = 0 ∨ x = 1 ∨ x = 2 ∨ x = 3 ∨ x = 4 ∨ x = 5 ∨ x = 6 ∨ x = 7) : vp_in x 12 := by
  rcases h with z | z | z | z | z | z | z | z <;> subst z
  · exact za_i12 (j := 0) (by decide)
  · exact za_i12 (j := 1) (by decide)
  · exact za_i12 (j := 2) (by decide)
  · exact za_i12 (j := 3) (by decide)
  · exact za_i12 (j := 4) (by decide)
  · exact za_i12 (j := 5) (by decide)
  · exact za_i12 (j := 6) (by decide)
  · exact za_i12 (j := 7) (by decide)
theorem tl_in {x : Int32} : vp_in x 12 ↔ ¬ x < 0 ∧ ¬ (11 : Int32) < x := by
  rw [vp_in_iff, Int32.lt_iff_toInt_lt, Int32.lt_iff_toInt_lt, show (0 : Int32).toInt = 0 from by decide, show (11 : Int32).toInt = 11 from by decide]
  omega
section
variable {sc : Int32} {sp : Int64} {jc : Int32} {rd : Int64} {br : Int32} {kd : Nat → Int32} {tg : Nat → Int32} {sy : Nat → Int32} {sz : Nat → Int32} {a : Nat → Int32} {wg : Nat → Int32} {st : Nat → Int32} {nm : Nat → Int32} {lf : Nat → Int32} {rt : Nat → Int32} {wt : Nat → Int64} {ja : Nat → Int32} {jb : Nat → Int32} {h : Nat → Nat}
theorem xw_isv {post : Int32 → Prop} {p : Int32} (H1 : vp_in p 12 → post 1) (H0 : ¬ vp_in p 12 → post 0) : wpX_isVariable post (sc, sp, jc, rd, br, kd, tg, sy, sz, a, wg, st, nm, lf, rt, wt, ja, jb) p := by
  unfold wpX_isVariable
  dsimp only
  refine br_c (fun q => H0 (fun w => (tl_in.mp w).1 q)) (fun q => br_c (fun q2 => H0 (fun w => (tl_in.mp w).2 q2)) (fun q2 => H1 (tl_in.mpr ⟨q, q2⟩)))
theorem xw_tell_83 {post : Int32 → SX → Prop} {v1 v2 v3 v4 z0 : Int32} (hb : ¬ z0 = 0 → ¬ vp_in v4 12 → post (-1) (sc, sp, jc, rd, br, kd, tg, sy, sz, a, wg, st, nm, lf, rt, wt, ja, jb)) (hk : (z0 = 0 ∨ vp_in v4 12) → wX_tell_101 post v1 v2 v3 v4 z0 sc sp jc rd br kd tg sy sz a wg st nm lf rt wt ja jb) : wX_tell_83 post v1 v2 v3 v4 z0 sc sp jc rd br kd tg sy sz a wg st nm lf rt wt ja jb := by
  unfold wX_tell_83
  refine br_c (fun q => hk (Or.inl q)) (fun q => ?_)
  refine xw_isv (fun w => br_f (by decide) (hk (Or.inr w))) (fun w => br_t rfl (hb q w))
theorem xw_tell_57 {post : Int32 → SX → Prop} {v1 v2 v3 v4 : Int32} (hb : (v1 = 2 ∨ v1 = 3 ∨ v1 = 4 ∨ v1 = 7) → ¬ vp_in v4 12 → post (-1) (sc, sp, jc, rd, br, kd, tg, sy, sz, a, wg, st, nm, lf, rt, wt, ja, jb))
    (h0 : ¬ (v1 = 2 ∨ v1 = 3 ∨ v1 = 4 ∨ v1 = 7) → wX_tell_101 post v1 v2 v3 v4 0 sc sp jc rd br kd tg sy sz a wg st nm lf rt wt ja jb) (h1 : (v1 = 2 ∨ v1 = 3 ∨ v1 = 4 ∨ v1 = 7) → vp_in v4 12 → wX_tell_101 post v1 v2 v3 v4 1 sc sp jc rd br kd tg sy sz a wg st nm lf rt wt ja jb) : wX_tell_57 post v1 v2 v3 v4 sc sp jc rd br kd tg sy sz a wg st nm lf rt wt ja jb := by
  have t : (v1 = 2 ∨ v1 = 3 ∨ v1 = 4 ∨ v1 = 7) → wX_tell_78 post v1 v2 v3 v4 sc sp jc rd br kd tg sy sz a wg st nm lf rt wt ja jb := by
    intro q
    unfold wX_tell_78
    refine xw_tell_83 (fun _ => hb q) (fun w => h1 q ?_)
    rcases w with w | w
    · exact absurd w (by decide)
    · exact w
  unfold wX_tell_57
  refine br_c (fun q => t (Or.inl q)) (fun q2 => br_c (fun q => t (Or.inr (Or.inl q))) (fun q3 => br_c (fun q => t (Or.inr (Or.inr (Or.inl q)))) (fun q4 => br_c (fun q => t (Or.inr (Or.inr (Or.inr q)))) (fun q7 => ?_))))
  refine xw_tell_83 (fun w => absurd rfl w) (fun _ => h0 ?_)
  intro w
  rcases w with w | w | w | w
  · exact q2 w
  · exact q3 w
  · exact q4 w
  · exact q7 w
theorem xw_tell_g {post : Int32 → SX → Prop} {n : Nat} {v1 v2 v3 v4 : Int32} (hn : n ≤ 40) (hf : n = 40 → post (-2) (nI n, sp, jc, rd, 0, kd, tg, sy, sz, a, wg, st, nm, lf, rt, wt, ja, jb)) (hb : n < 40 → ¬ tl_ok v1 v2 v3 v4 → post (-1) (nI n, sp, jc, rd, 0, kd, tg, sy, sz, a, wg, st, nm, lf, rt, wt, ja, jb))
    (h0 : n < 40 → tl_ok v1 v2 v3 v4 → ¬ (v1 = 2 ∨ v1 = 3 ∨ v1 = 4 ∨ v1 = 7) → wX_tell_101 post v1 v2 v3 v4 0 (nI n) sp jc rd 0 kd tg sy sz a wg st nm lf rt wt ja jb)
    (h1 : n < 40 → tl_ok v1 v2 v3 v4 → (v1 = 2 ∨ v1 = 3 ∨ v1 = 4 ∨ v1 = 7) → wX_tell_101 post v1 v2 v3 v4 1 (nI n) sp jc rd 0 kd tg sy sz a wg st nm lf rt wt ja jb) : wpX_tell post (nI n, sp, jc, rd, 0, kd, tg, sy, sz, a, wg, st, nm, lf, rt, wt, ja, jb) v1 v2 v3 v4 := by
  unfold wpX_tell
  dsimp only
  refine br_t rfl ?_
  by_cases hn2 : n = 40
  · refine br_f ?_ (hf hn2)
    subst hn2
    decide
  · have hn3 : n < 40 := by omega
    refine br_t (nI_lt (b := 40) hn3 (by decide)) ?_
    refine br_c (fun q => hb hn3 (fun w => (tl_kr w.1).1 q)) (fun q => br_c (fun q7 => hb hn3 (fun w => (tl_kr w.1).2 q7)) (fun q7 => ?_))
    have k := tl_k q q7
    refine xw_isv (fun i2 => br_f (by decide) ?_) (fun i2 => br_t rfl (hb hn3 (fun w => i2 w.2.1)))
    have go : (v1 ≠ 1 → vp_in v3 12) → wX_tell_57 post v1 v2 v3 v4 (nI n) sp jc rd 0 kd tg sy sz a wg st nm lf rt wt ja jb := by
      intro i3
      exact xw_tell_57 (fun w1 w2 => hb hn3 (fun w => w2 (w.2.2.2 w1))) (fun w => h0 hn3 ⟨k, i2, i3, fun u => absurd u w⟩ w) (fun w1 w2 => h1 hn3 ⟨k, i2, i3, fun _ => w2⟩ w1)
    refine br_c (fun q1 => go (fun w => absurd q1 w)) (fun q1 => ?_)
    refine xw_isv (fun i3 => br_f (by decide) (go (fun _ => i3))) (fun i3 => br_t rfl (hb hn3 (fun w => i3 (w.2.2.1 q1))))
end
section
variable {n : Nat} {K AX AY AZ : Nat → Int32}
theorem xw_232 {post : Int32 → SX → Prop} {sc : Int32} {kd tg sy sz a wg : Nat → Int32} {h : Nat → Nat} {sp : Int64} {rd : Int64} {jq : Nat} {st : Nat → Int32} {nm : Nat → Int32} {lf : Nat → Int32} {rt : Nat → Int32} {wt : Nat → Int64} {ja : Nat → Int32} {jb : Nat → Int32} (V : ms_V n K AX AY AZ) (hn : n ≤ 40) (SA : xa_S n K AX AY AZ kd tg sy sz)
    (HF : ∀ a' wg' h' sp' st' nm' lf' rt' wt' ja' jb', fo_F a' h' → xi_I n K AX AY AZ h' sp' 0 0 st' nm' lf' rt' wt' ja' jb' → post sc (sc, sp', nI 0, 0, 0, kd, tg, sy, sz, a', wg', st', nm', lf', rt', wt', ja', jb'))
    (HB : ms_N n K AX AY AZ → ∀ a' wg' sp' rd' jc' st' nm' lf' rt' wt' ja' jb', post (-3) (sc, sp', jc', rd', 1, kd, tg, sy, sz, a', wg', st', nm', lf', rt', wt', ja', jb'))
    (F : fo_F a h) (I : xi_I n K AX AY AZ h sp rd jq st nm lf rt wt ja jb) : wX_tell_232 post sc sp (nI jq) rd 0 kd tg sy sz a wg st nm lf rt wt ja jb := by
  unfold wX_tell_232
  refine xw_work V hn SA (fun a' wg' h' sp' st' nm' lf' rt' wt' ja' jb' F' I' => ?_) (fun hN a' wg' sp' rd' jc' st' nm' lf' rt' wt' ja' jb' => ?_) F I
  · exact br_t rfl (HF _ _ _ _ _ _ _ _ _ _ _ F' I')
  · exact br_f (by decide) (HB hN _ _ _ _ _ _ _ _ _ _ _ _)
theorem xw_232B {post : Int32 → SX → Prop} {sc : Int32} {sp : Int64} {jc : Int32} {rd : Int64} {kd : Nat → Int32} {tg : Nat → Int32} {sy : Nat → Int32} {sz : Nat → Int32} {a : Nat → Int32} {wg : Nat → Int32} {st : Nat → Int32} {nm : Nat → Int32} {lf : Nat → Int32} {rt : Nat → Int32} {wt : Nat → Int64} {ja : Nat → Int32} {jb : Nat → Int32} (H : post (-3) (sc, sp, jc, rd, 1, kd, tg, sy, sz, a, wg, st, nm, lf, rt, wt, ja, jb)) : wX_tell_232 post sc sp jc rd 1 kd tg sy sz a wg st nm lf rt wt ja jb := by
  unfold wX_tell_232
  refine xw_workB ?_
  exact br_f (by decide) H
/-- a valid statement: K AX AY AZ hold it already as their row n -/
theorem xw_101 {post : Int32 → SX → Prop} {v1 v2 v3 v4 z0 : Int32} {kd tg sy sz a wg : Nat → Int32} {h : Nat → Nat} {sp : Int64} {st nm lf rt : Nat → Int32} {wt : Nat → Int64} {ja jb : Nat → Int32} (V : ms_V (n + 1) K AX AY AZ) (hn : n < 40) (SA : xa_S n K AX AY AZ kd tg sy sz)
    (e1 : K n = v1) (e2 : AX n = v2) (e3 : AY n = v3) (e4 : AZ n = v4) (hz : (v1 = 3 ∨ v1 = 4 ∨ v1 = 7) → z0 ≠ 0) (hz5 : (v1 = 5 ∨ v1 = 6) → z0 = 0)
    (HF : ∀ kd' tg' sy' sz' a' wg' h' sp' st' nm' lf' rt' wt' ja' jb', xa_S (n + 1) K AX AY AZ kd' tg' sy' sz' → fo_F a' h' → xi_I (n + 1) K AX AY AZ h' sp' 0 0 st' nm' lf' rt' wt' ja' jb' → post (nI (n + 1)) (nI (n + 1), sp', nI 0, 0, 0, kd', tg', sy', sz', a', wg', st', nm', lf', rt', wt', ja', jb'))
    (HB : ms_N (n + 1) K AX AY AZ → ∀ kd' tg' sy' sz' a' wg' sp' rd' jc' st' nm' lf' rt' wt' ja' jb', post (-3) (nI (n + 1), sp', jc', rd', 1, kd', tg', sy', sz', a', wg', st', nm', lf', rt', wt', ja', jb'))
    (F : fo_F a h) (I : xi_I n K AX AY AZ h sp 0 0 st nm lf rt wt ja jb) : wX_tell_101 post v1 v2 v3 v4 z0 (nI n) sp (nI 0) 0 0 kd tg sy sz a wg st nm lf rt wt ja jb := by
  obtain ⟨Vk, Vx, Vy, Vz⟩ := V n (by omega)
  rw [e1] at Vk Vy Vz
  rw [e2] at Vx
  rw [e3] at Vy
  rw [e4] at Vz
  have SA' : ∀ sy' sz', (∀ i, i < n → sy' i = sy i ∧ sz' i = sz i) → ((v1 = 3 ∨ v1 = 4 ∨ v1 = 7) → sy' n = v3 ∧ sz' n = v4) → ((v1 = 5 ∨ v1 = 6) → sy' n = v3 ∧ sz' n = v3) → xa_S (n + 1) K AX AY AZ (upd kd n v1) (upd tg n v2) sy' sz' := by
    intro sy' sz' h1 h2 h3 i hi
    by_cases z : i = n
    · subst z
      rw [pk_us, pk_us, e1, e2, e3, e4]
      exact ⟨rfl, rfl, h2, h3⟩
    · rw [pk_un z, pk_un z, (h1 i (by omega)).1, (h1 i (by omega)).2]
      exact SA i (by omega)
  have HF1 := fun kd' tg' sy' sz' (S' : xa_S (n + 1) K AX AY AZ kd' tg' sy' sz') a' wg' h' sp' st' nm' lf' rt' wt' ja' jb' => HF kd' tg' sy' sz' a' wg' h' sp' st' nm' lf' rt' wt' ja' jb' S'
  unfold wX_tell_101
  rw [za_c40 hn, za_bv (tl_kb Vk), za_bv Vx]
  refine nm_r (nI_1 n) ⟨za_i40 hn, nm_e ⟨za_i40 hn, nm_e (br_c (fun k1 => ?_) (fun k1 => br_c (fun k0 => ?_) (fun k0 => br_c (fun k2 => ?_) (fun k2 => ⟨za_i40 hn, ?_⟩))))⟩⟩
  · have S' := SA' sy sz (fun i _ => ⟨rfl, rfl⟩) (fun q => by rw [k1] at q; exact absurd q (by decide)) (fun q => by rw [k1] at q; exact absurd q (by decide))
    have ek : K n = 1 := e1.trans k1
    refine xw_bn F Vx rfl (fun s0 a' F' => ?_) (fun s0 s2 hm a' F' => ?_) (fun s0 hc a' F' => ?_)
    · have I' := xi_tl1 V I ek (by rw [e2]) s0
      rw [e3] at I'
      exact xw_232 V (by omega) S' (HF1 _ _ _ _ S') (fun hN => HB hN _ _ _ _) F' I'
    · have I' := xi_tl1k V I ek (by rw [e2]) s0 s2 (hm.trans e3.symm)
      exact xw_232 V (by omega) S' (HF1 _ _ _ _ S') (fun hN => HB hN _ _ _ _) F' I'
    · have hN := xi_tl1x V I ek (by rw [e2]) s0 (by rw [e3]; exact hc)
      exact xw_232B (HB hN _ _ _ _ _ _ _ _ _ _ _ _ _ _ _ _)
  · have S' := SA' sy sz (fun i _ => ⟨rfl, rfl⟩) (fun q => by rw [k0] at q; exact absurd q (by decide)) (fun q => by rw [k0] at q; exact absurd q (by decide))
    have ek : K n = 0 := e1.trans k0
    have I' := xi_tl0 V I ek
    rw [e2, e3] at I'
    refine xw_want (by decide) Vx (Vy k1) ?_
    exact xw_232 V (by omega) S' (HF1 _ _ _ _ S') (fun hN => HB hN _ _ _ _) F I'
  · have S' := SA' sy sz (fun i _ => ⟨rfl, rfl⟩) (fun q => by rw [k2] at q; exact absurd q (by decide)) (fun q => by rw [k2] at q; exact absurd q (by decide))
    have ek : K n = 2 := e1.trans k2
    have vy := Vy k1
    have vz := Vz (Or.inl k2)
    refine xw_bc F Vx vy vz rfl (fun _ => by decide) (fun s2 => I.1.2.2.1 _ (fo_h F (za_l12 Vx)).1 s2) (fun s0 a' F' => ?_) (fun s2 a' F' => ?_) (fun s0 s2 a' F' => ?_)
    · have I' := xi_tl2 V I ek (by rw [e2]) s0
      rw [e3, e4] at I'
      exact xw_232 V (by omega) S' (HF1 _ _ _ _ S') (fun hN => HB hN _ _ _ _) F' I'
    · have I' := xi_tl2w V I ek (by rw [e2]) s2
      rw [e3, e4] at I'
      exact xw_232 V (by omega) S' (HF1 _ _ _ _ S') (fun hN => HB hN _ _ _ _) F' I'
    · have hN := xi_tl2x V I ek (by rw [e2]) s0 s2
      exact xw_232B (HB hN _ _ _ _ _ _ _ _ _ _ _ _ _ _ _ _)
  · have vy := Vy k1
    rw [za_bv vy]
    have kk : v1 = 3 ∨ v1 = 4 ∨ v1 = 5 ∨ v1 = 6 ∨ v1 = 7 := by
      rcases Vk with w | w | w | w | w | w | w | w
      · exact absurd w k0
      · exact absurd w k1
      · exact absurd w k2
      · exact Or.inl w
      · exact Or.inr (Or.inl w)
      · exact Or.inr (Or.inr (Or.inl w))
      · exact Or.inr (Or.inr (Or.inr (Or.inl w)))
      · exact Or.inr (Or.inr (Or.inr (Or.inr w)))
    have g : ∀ w, vp_in w 12 → ((v1 = 3 ∨ v1 = 4 ∨ v1 = 7) → w = v4) → ((v1 = 5 ∨ v1 = 6) → w = v3) → wX_tell_204 post (nI n) w (nI n) (nI (n + 1)) sp (nI 0) 0 0 (upd kd n v1) (upd tg n v2) (upd sy n v3) sz a wg st nm lf rt wt ja jb := by
      intro w vw w3 w5
      unfold wX_tell_204
      rw [za_c40 hn, za_bv vw]
      refine ⟨za_i40 hn, nm_e (nm_e (nm_e ?_))⟩
      have S' := SA' (upd sy n v3) (upd sz n w) (fun i hi => by rw [pk_un (by omega), pk_un (by omega)]; exact ⟨rfl, rfl⟩) (fun q => by rw [pk_us, pk_us]; exact ⟨rfl, w3 q⟩) (fun q => by rw [pk_us, pk_us]; exact ⟨rfl, w5 q⟩)
      have I' := xi_tl3 (sp' := sp ||| ((1 : Int64) <<< ((nI n).toInt64 &&& 63))) (rd' := 0 ||| ((1 : Int64) <<< ((nI n).toInt64 &&& 63))) V I (by rw [e1]; exact kk) (fun i => by rw [za_bt_or, za_bt_1 (by omega)]) (fun i => by rw [za_bt_or, za_bt_1 (by omega)])
      exact xw_232 V (by omega) S' (HF1 _ _ _ _ S') (fun hN => HB hN _ _ _ _) F I'
    refine nm_e (br_c (fun q => g v3 vy (fun w => absurd q (hz w)) (fun _ => rfl)) (fun q => g v4 ?_ (fun _ => rfl) (fun w => absurd (hz5 w) q)))
    rcases kk with w | w | w | w | w
    · exact Vz (Or.inr (Or.inl w))
    · exact Vz (Or.inr (Or.inr (Or.inl w)))
    · exact absurd (hz5 (Or.inl w)) q
    · exact absurd (hz5 (Or.inr w)) q
    · exact Vz (Or.inr (Or.inr (Or.inr w)))
end
end
section
/-! the reference's state, plainly: L the least of each class -/
def yi_W (L : Nat → Nat) (yl yi yp yo yt : Nat → Int32) : Prop := ∀ x, x < 12 → yl x = nI (L x) ∧ L x ≤ x ∧ L (L x) = L x ∧ (yi x = 0 ∨ yi x = 1) ∧ (yp x = 0 ∨ yp x = 1) ∧ (yp x = 1 → vp_in (yo x) 12 ∧ vp_in (yt x) 12)
def yi_N (L : Nat → Nat) (yi yp : Nat → Int32) : Prop := ∀ x, x < 12 → L x = x → yi x = 1 → yp x = 1 → False
def yi_S (n : Nat) (K AX AY AZ : Nat → Int32) (yb : Int32) (L : Nat → Nat) (yi yv yp yo yt : Nat → Int32) : Prop := ∀ (e : Nat → Nat) (t v : Nat → Int32) (l r : Nat → Nat), ms_M n K AX AY AZ e t v l r → yb = 0 ∧ ms_L e t v l r L (fun x => yi x = 1) (fun x => yp x = 1) yv yo yt
def yi_I (n : Nat) (K AX AY AZ : Nat → Int32) (yb : Int32) (L : Nat → Nat) (yl yi yv yp yo yt : Nat → Int32) : Prop := yi_W L yl yi yp yo yt ∧ (yb = 0 ∨ yb = 1) ∧ (yb = 0 → yi_N L yi yp) ∧ yi_S n K AX AY AZ yb L yi yv yp yo yt
def yi_u (L : Nat → Nat) (yi yp : Nat → Int32) : Nat := za_cn (fun x => decide (L x = x) && (decide (yi x = 0) && decide (yp x = 0))) 12
def yi_m (L : Nat → Nat) (yi yp : Nat → Int32) : Nat := xi_cl L + yi_u L yi yp
/-- a step that is more than nothing -/
def yi_P (yb : Int32) (L : Nat → Nat) (yi yp : Nat → Int32) (yb' yf' : Int32) (L' : Nat → Nat) (yi' yp' : Nat → Int32) : Prop := (yb = 1 → yb' = 1) ∧ (yb' = 1 ∨ (yf' = 1 ∧ yi_m L' yi' yp' < yi_m L yi yp)) ∧ (∀ x, x < 12 → yp (L x) = 1 → yp' (L' x) = 1)
section
variable {n : Nat} {K AX AY AZ : Nat → Int32} {yb yf : Int32} {L : Nat → Nat} {yl yi yv yp yo yt : Nat → Int32}
theorem yi_hh (W : yi_W L yl yi yp yo yt) : ∀ x, x < 12 → L x < 12 ∧ L (L x) = L x := fun x hx => by
  obtain ⟨_, a, b, _⟩ := W x hx
  exact ⟨by omega, b⟩
theorem yi_01 {x : Int32} (h : x = 0 ∨ x = 1) (h0 : ¬ x = 0) : x = 1 := by
  rcases h with z | z
  · exact absurd z h0
  · exact z
theorem yi_W_i {p : Nat} (W : yi_W L yl yi yp yo yt) : yi_W L yl (upd yi p 1) yp yo yt := by
  intro x hx
  obtain ⟨a, b, c, d, e⟩ := W x hx
  refine ⟨a, b, c, ?_, e⟩
  by_cases z : x = p
  · subst z; rw [pk_us]; exact Or.inr rfl
  · rw [pk_un z]; exact d
theorem yi_W_p {p : Nat} {y z : Int32} (W : yi_W L yl yi yp yo yt) (hy : vp_in y 12) (hz : vp_in z 12) : yi_W L yl yi (upd yp p 1) (upd yo p y) (upd yt p z) := by
  intro x hx
  obtain ⟨a, b, c, d, e, f⟩ := W x hx
  by_cases q : x = p
  · subst q; rw [pk_us, pk_us, pk_us]; exact ⟨a, b, c, d, Or.inr rfl, fun _ => ⟨hy, hz⟩⟩
  · rw [pk_un q, pk_un q, pk_un q]; exact ⟨a, b, c, d, e, f⟩
theorem yi_brk (W : yi_W L yl yi yp yo yt) (hN : ms_N n K AX AY AZ) : yi_I n K AX AY AZ 1 L yl yi yv yp yo yt := ⟨W, Or.inr rfl, fun q => absurd q (by decide), fun e t v l r hM => (hN e t v l r hM).elim⟩
/-- what a model that is above the state says of x -/
theorem yi_up (I : yi_I n K AX AY AZ yb L yl yi yv yp yo yt) {x : Nat} (hx : x < 12) {e : Nat → Nat} {t v : Nat → Int32} {l r : Nat → Nat} (hM : ms_M n K AX AY AZ e t v l r) : e (L x) = e x ∧ (yi (L x) = 1 → t x = 1 ∧ v x = yv (L x)) ∧ (yp (L x) = 1 → t x = 2 ∧ l x = e (yo (L x)).toNatClampNeg ∧ r x = e (yt (L x)).toNatClampNeg) := by
  have S := (I.2.2.2 e t v l r hM).2
  have U := ms_up hM.1 S (yi_hh I.1) hx
  exact ⟨S.1 x hx, U.1, U.2⟩
theorem yi_setI {p : Nat} {m : Int32} (I : yi_I n K AX AY AZ yb L yl yi yv yp yo yt) (hp : p < 12) (hpp : L p = p) (z1 : yi p = 0) (z2 : yp p = 0) (hM : ∀ (e : Nat → Nat) (t v : Nat → Int32) (l r : Nat → Nat), ms_M n K AX AY AZ e t v l r → t p = 1 ∧ v p = m) :
    yi_I n K AX AY AZ yb L yl (upd yi p 1) (upd yv p m) yp yo yt ∧ yi_m L (upd yi p 1) yp < yi_m L yi yp := by
  obtain ⟨W, B, N, S⟩ := I
  refine ⟨⟨yi_W_i W, B, fun q x hx e1 e2 e3 => ?_, fun e t v l r hm => ⟨(S e t v l r hm).1, (S e t v l r hm).2.1, fun x hx e1 => ?_⟩⟩, ?_⟩
  · by_cases z : x = p
    · subst z; rw [z2] at e3; exact absurd e3 (by decide)
    · rw [pk_un z] at e2; exact N q x hx e1 e2 e3
  · have c := (S e t v l r hm).2.2 x hx e1
    dsimp only
    by_cases z : x = p
    · subst z
      rw [pk_us, pk_us]
      exact ⟨fun _ => hM e t v l r hm, c.2⟩
    · rw [pk_un z, pk_un z]; exact c
  · have m1 : yi_u L (upd yi p 1) yp + 1 ≤ yi_u L yi yp := by
      refine za_cn_lt 12 (fun i hi q => ?_) p hp ?_ ?_
      · simp only [Bool.and_eq_true, decide_eq_true_eq] at q ⊢
        refine ⟨q.1, ?_, q.2.2⟩
        by_cases z : i = p
        · subst z; exact z1
        · rw [← pk_un (f := yi) (x := 1) z]; exact q.2.1
      · rw [pk_us]; simp
      · simp [hpp, z1, z2]
    unfold yi_m
    omega
theorem yi_setP {p : Nat} {y z : Int32} (I : yi_I n K AX AY AZ yb L yl yi yv yp yo yt) (hp : p < 12) (hpp : L p = p) (z1 : yi p = 0) (z2 : yp p = 0) (hy : vp_in y 12) (hz : vp_in z 12) (hM : ∀ (e : Nat → Nat) (t v : Nat → Int32) (l r : Nat → Nat), ms_M n K AX AY AZ e t v l r → t p = 2 ∧ l p = e y.toNatClampNeg ∧ r p = e z.toNatClampNeg) :
    yi_I n K AX AY AZ yb L yl yi yv (upd yp p 1) (upd yo p y) (upd yt p z) ∧ yi_m L yi (upd yp p 1) < yi_m L yi yp := by
  obtain ⟨W, B, N, S⟩ := I
  refine ⟨⟨yi_W_p W hy hz, B, fun q x hx e1 e2 e3 => ?_, fun e t v l r hm => ⟨(S e t v l r hm).1, (S e t v l r hm).2.1, fun x hx e1 => ?_⟩⟩, ?_⟩
  · by_cases w : x = p
    · subst w; rw [z1] at e2; exact absurd e2 (by decide)
    · rw [pk_un w] at e3; exact N q x hx e1 e2 e3
  · have c := (S e t v l r hm).2.2 x hx e1
    dsimp only
    by_cases w : x = p
    · subst w
      rw [pk_us, pk_us, pk_us]
      exact ⟨c.1, fun _ => hM e t v l r hm⟩
    · rw [pk_un w, pk_un w, pk_un w]; exact c
  · have m1 : yi_u L yi (upd yp p 1) + 1 ≤ yi_u L yi yp := by
      refine za_cn_lt 12 (fun i hi q => ?_) p hp ?_ ?_
      · simp only [Bool.and_eq_true, decide_eq_true_eq] at q ⊢
        refine ⟨q.1, q.2.1, ?_⟩
        by_cases w : i = p
        · subst w; exact z2
        · rw [← pk_un (f := yp) (x := 1) w]; exact q.2.2
      · rw [pk_us]; simp
      · simp [hpp, z1, z2]
    unfold yi_m
    omega
/-- the classes of p and q made one -/
theorem yi_mid {p q : Nat} {yl' : Nat → Int32} (I : yi_I n K AX AY AZ yb L yl yi yv yp yo yt) (hpq : p < q) (hq : q < 12) (hpp : L p = p) (hqq : L q = q) (hl : ∀ x, x < 12 → yl' x = nI (xi_hj L p q x)) (hM : ∀ (e : Nat → Nat) (t v : Nat → Int32) (l r : Nat → Nat), ms_M n K AX AY AZ e t v l r → e p = e q) :
    yi_I n K AX AY AZ yb (xi_hj L p q) yl' yi yv yp yo yt ∧ yi_m (xi_hj L p q) yi yp < yi_m L yi yp ∧ xi_hj L p q p = p := by
  obtain ⟨W, B, N, S⟩ := I
  have hp : p < 12 := by omega
  obtain ⟨k1, k2, k3⟩ := xi_J_cl (yi_hh W) hp hq hpp hqq (by omega)
  refine ⟨⟨fun x hx => ?_, B, fun z x hx e1 e2 e3 => N z x hx (k2 x e1).1 e2 e3, fun e t v l r hm => ⟨(S e t v l r hm).1, fun x hx => ?_, fun x hx e1 => (S e t v l r hm).2.2 x hx (k2 x e1).1⟩⟩, ?_, ?_⟩
  · obtain ⟨a, b, c, d, e, f⟩ := W x hx
    refine ⟨hl x hx, ?_, (k1 x hx).2, d, e, f⟩
    by_cases z : L x = q
    · rw [xi_hj_s z]; omega
    · rw [xi_hj_n z]; exact b
  · by_cases z : L x = q
    · rw [xi_hj_s z, hM e t v l r hm, ← z]; exact (S e t v l r hm).2.1 x hx
    · rw [xi_hj_n z]; exact (S e t v l r hm).2.1 x hx
  · have m1 : yi_u (xi_hj L p q) yi yp ≤ yi_u L yi yp := by
      refine za_cn_le 12 (fun i hi z => ?_)
      simp only [Bool.and_eq_true, decide_eq_true_eq] at z ⊢
      exact ⟨(k2 i z.1).1, z.2⟩
    unfold yi_m
    omega
  · rw [xi_hj_n (by rw [hpp]; omega), hpp]
theorem yi_P_tr {yb1 yb2 yf1 yf2 : Int32} {L1 L2 : Nat → Nat} {yi1 yp1 yi2 yp2 : Nat → Int32} (a : yi_P yb L yi yp yb1 yf1 L1 yi1 yp1) (b : yi_P yb1 L1 yi1 yp1 yb2 yf2 L2 yi2 yp2) : yi_P yb L yi yp yb2 yf2 L2 yi2 yp2 := by
  obtain ⟨a1, a2, a3⟩ := a
  obtain ⟨b1, b2, b3⟩ := b
  refine ⟨fun q => b1 (a1 q), ?_, fun x hx q => b3 x hx (a3 x hx q)⟩
  rcases b2 with b2 | ⟨b2, b4⟩
  · exact Or.inl b2
  · rcases a2 with a2 | ⟨a2, a4⟩
    · exact Or.inl (b1 a2)
    · exact Or.inr ⟨b2, by omega⟩
/-! the reference's state as a model -/
end
def ym_t (L : Nat → Nat) (yi yp : Nat → Int32) : Nat → Int32 := fun x => if yi (L x) = 1 then 1 else if yp (L x) = 1 then 2 else 0
def ym_v (L : Nat → Nat) (yv : Nat → Int32) : Nat → Int32 := fun x => yv (L x)
def ym_o (L : Nat → Nat) (yo : Nat → Int32) : Nat → Nat := fun x => L (yo (L x)).toNatClampNeg
theorem ym_t1 {L : Nat → Nat} {yi yp : Nat → Int32} {x : Nat} : ym_t L yi yp x = 1 ↔ yi (L x) = 1 := by
  unfold ym_t
  by_cases a : yi (L x) = 1
  · rw [if_pos a]; exact ⟨fun _ => a, fun _ => rfl⟩
  · rw [if_neg a]
    refine ⟨fun q => ?_, fun q => absurd q a⟩
    by_cases b : yp (L x) = 1
    · rw [if_pos b] at q; exact absurd q (by decide)
    · rw [if_neg b] at q; exact absurd q (by decide)
theorem ym_t2 {L : Nat → Nat} {yi yp : Nat → Int32} {x : Nat} : ym_t L yi yp x = 2 ↔ (yi (L x) ≠ 1 ∧ yp (L x) = 1) := by
  unfold ym_t
  by_cases a : yi (L x) = 1
  · rw [if_pos a]
    exact ⟨fun q => absurd q (by decide), fun q => absurd a q.1⟩
  · rw [if_neg a]
    by_cases b : yp (L x) = 1
    · rw [if_pos b]; exact ⟨fun _ => ⟨a, b⟩, fun _ => rfl⟩
    · rw [if_neg b]
      exact ⟨fun q => absurd q (by decide), fun q => absurd q.2 b⟩
theorem ym_G {L : Nat → Nat} {yi yv yp yo yt : Nat → Int32} : ms_G L (ym_t L yi yp) (ym_v L yv) (ym_o L yo) (ym_o L yt) := by
  intro a b _ _ q
  unfold ym_t ym_v ym_o
  rw [q]
  exact ⟨rfl, fun _ => rfl, fun _ => ⟨rfl, rfl⟩⟩
end
section
/-! the reference's walks: ready, beInt, join, bePair -/
theorem yw_n1 : vp_nar .boolean 1 = 1 := rfl
theorem yw_n0 : vp_nar .boolean 0 = 0 := rfl
theorem yw_nb {x : Int32} (h : x = 0 ∨ x = 1) : narrow .boolean (.int x) = .int x := by
  rcases h with z | z <;> subst z <;> rfl
/-- statement i is ready -/
def yr_R (K AX AY AZ : Nat → Int32) (L : Nat → Nat) (yi yp : Nat → Int32) (i : Nat) : Prop := (K i = 0 ∨ K i = 1 ∨ K i = 2) ∨ ((K i = 3 ∨ K i = 4 ∨ K i = 7) ∧ yi (L (AY i).toNatClampNeg) = 1 ∧ yi (L (AZ i).toNatClampNeg) = 1) ∨ ((K i = 5 ∨ K i = 6) ∧ yp (L (AY i).toNatClampNeg) = 1)
section
variable {yn : Int32} {yb : Int32} {yf : Int32} {K : Nat → Int32} {AX : Nat → Int32} {AY : Nat → Int32} {AZ : Nat → Int32} {yl : Nat → Int32} {yi : Nat → Int32} {yv : Nat → Int32} {yp : Nat → Int32} {yo : Nat → Int32} {yt : Nat → Int32} {n : Nat} {L : Nat → Nat}
theorem yw_ready {post : Int32 → Prop} {i : Nat} (V : ms_V1 K AX AY AZ i) (hi : i < 40) (W : yi_W L yl yi yp yo yt) (H1 : yr_R K AX AY AZ L yi yp i → post 1) (H0 : ¬ yr_R K AX AY AZ L yi yp i → post 0) : wpY_ready post (yn, yb, yf, K, AX, AY, AZ, yl, yi, yv, yp, yo, yt) (nI i) := by
  obtain ⟨Vk, Vx, Vy, Vz⟩ := V
  unfold wpY_ready
  dsimp only
  rw [za_c40 hi]
  refine ⟨za_i40 hi, br_c (fun q => ?_) (fun q => ?_)⟩
  · have k0 : K i ≠ 0 := fun z => by rw [z] at q; exact absurd q (by decide)
    have k1 : K i ≠ 1 := fun z => by rw [z] at q; exact absurd q (by decide)
    have k2 : K i ≠ 2 := fun z => by rw [z] at q; exact absurd q (by decide)
    have vy := Vy k1
    have ly := za_l12 vy
    obtain ⟨a1, a2, a3, _⟩ := W _ ly
    have lL : L (AY i).toNatClampNeg < 12 := by omega
    obtain ⟨_, _, _, b4, b5, _⟩ := W _ lL
    refine ⟨za_i40 hi, vy, nm_r a1 ?_⟩
    rw [za_c12 lL]
    have g5 : (K i = 5 ∨ K i = 6) → narrow .boolean (.int (yp (L (AY i).toNatClampNeg))) = .int (yp (L (AY i).toNatClampNeg)) ∧ post (yp (L (AY i).toNatClampNeg)) := by
      intro k
      refine ⟨yw_nb b5, ?_⟩
      rcases b5 with z | z
      · rw [z]
        refine H0 (fun R => ?_)
        rcases R with R | ⟨R, _⟩ | ⟨_, R⟩
        · rcases R with R | R | R
          · exact k0 R
          · exact k1 R
          · exact k2 R
        · rcases k with k | k <;> rw [k] at R <;> exact absurd R (by decide)
        · rw [z] at R; exact absurd R (by decide)
      · rw [z]
        exact H1 (Or.inr (Or.inr ⟨k, z⟩))
    refine ⟨za_i40 hi, br_c (fun k5 => ⟨za_i12 lL, g5 (Or.inl k5)⟩) (fun k5 => ⟨za_i40 hi, br_c (fun k6 => ⟨za_i12 lL, g5 (Or.inr k6)⟩) (fun k6 => ⟨za_i12 lL, ?_⟩)⟩)⟩
    have kk : K i = 3 ∨ K i = 4 ∨ K i = 7 := by
      rcases Vk with w | w | w | w | w | w | w | w
      · exact absurd w k0
      · exact absurd w k1
      · exact absurd w k2
      · exact Or.inl w
      · exact Or.inr (Or.inl w)
      · exact absurd w k5
      · exact absurd w k6
      · exact Or.inr (Or.inr w)
    have no : ¬ (yi (L (AY i).toNatClampNeg) = 1 ∧ yi (L (AZ i).toNatClampNeg) = 1) → ¬ yr_R K AX AY AZ L yi yp i := by
      intro w R
      rcases R with R | ⟨_, R⟩ | ⟨R, _⟩
      · rcases R with R | R | R
        · exact k0 R
        · exact k1 R
        · exact k2 R
      · exact w R
      · rcases R with R | R
        · exact k5 R
        · exact k6 R
    have vz := Vz (Or.inr kk)
    have lz := za_l12 vz
    obtain ⟨c1, c2, c3, _⟩ := W _ lz
    have lM : L (AZ i).toNatClampNeg < 12 := by omega
    obtain ⟨_, _, _, d4, _⟩ := W _ lM
    refine br_c (fun z => H0 (no (fun w => by rw [z] at w; exact absurd w.1 (by decide)))) (fun z => ⟨za_i40 hi, vz, ?_⟩)
    rw [c1, za_c12 lM]
    exact ⟨za_i12 lM, br_c (fun y => H0 (no (fun w => by rw [y] at w; exact absurd w.2 (by decide)))) (fun y => H1 (Or.inr (Or.inl ⟨kk, yi_01 b4 z, yi_01 d4 y⟩)))⟩
  · refine H1 (Or.inl ?_)
    rcases Vk with w | w | w | w | w | w | w | w
    · exact Or.inl w
    · exact Or.inr (Or.inl w)
    · exact Or.inr (Or.inr w)
    all_goals exact absurd (by rw [w]; decide) q
theorem yw_bi54 {post : SY → Prop} {p : Nat} {m : Int32} (hp : p < 12) (H : post (yn, yb, yf, K, AX, AY, AZ, yl, upd yi p 1, upd yv p m, yp, yo, yt)) : wY_beInt_54 post m (nI p) yn yb yf K AX AY AZ yl yi yv yp yo yt := by
  unfold wY_beInt_54
  rw [za_c12 hp, yw_n1]
  exact ⟨za_i12 hp, nm_e ⟨za_i12 hp, nm_e H⟩⟩
theorem yw_bi40 {post : SY → Prop} {p : Nat} {m : Int32} (hp : p < 12) (H0 : yi p = 0 → post (yn, yb, 1, K, AX, AY, AZ, yl, upd yi p 1, upd yv p m, yp, yo, yt)) (H1 : ¬ yi p = 0 → post (yn, yb, yf, K, AX, AY, AZ, yl, upd yi p 1, upd yv p m, yp, yo, yt)) : wY_beInt_40 post m (nI p) yn yb yf K AX AY AZ yl yi yv yp yo yt := by
  unfold wY_beInt_40
  rw [za_c12 hp]
  exact ⟨za_i12 hp, br_c (fun q => yw_bi54 hp (H0 q)) (fun q => yw_bi54 hp (H1 q))⟩
theorem yw_beInt {post : SY → Prop} {p0 m : Int32} (I : yi_I n K AX AY AZ yb L yl yi yv yp yo yt) (hx : vp_in p0 12) (hM : ∀ (e : Nat → Nat) (t v : Nat → Int32) (l r : Nat → Nat), ms_M n K AX AY AZ e t v l r → t p0.toNatClampNeg = 1 ∧ v p0.toNatClampNeg = m)
    (H0 : yi (L p0.toNatClampNeg) = 1 → yv (L p0.toNatClampNeg) = m → yp (L p0.toNatClampNeg) = 0 → post (yn, yb, yf, K, AX, AY, AZ, yl, yi, yv, yp, yo, yt))
    (H1 : ∀ yb' yf' yi' yv', yi_I n K AX AY AZ yb' L yl yi' yv' yp yo yt → yi_P yb L yi yp yb' yf' L yi' yp → post (yn, yb', yf', K, AX, AY, AZ, yl, yi', yv', yp, yo, yt)) : wpY_beInt post (yn, yb, yf, K, AX, AY, AZ, yl, yi, yv, yp, yo, yt) p0 m := by
  have lx := za_l12 hx
  obtain ⟨a1, a2, a3, _⟩ := I.1 _ lx
  have lL : L p0.toNatClampNeg < 12 := by omega
  obtain ⟨_, _, _, b4, b5, _⟩ := I.1 _ lL
  have bad : (yp (L p0.toNatClampNeg) = 1 ∨ (yi (L p0.toNatClampNeg) = 1 ∧ yv (L p0.toNatClampNeg) ≠ m)) → ms_N n K AX AY AZ := by
    intro q e t v l r hm
    obtain ⟨x1, x2⟩ := hM e t v l r hm
    obtain ⟨_, u1, u2⟩ := yi_up I lx hm
    rcases q with q | ⟨q1, q2⟩
    · have := (u2 q).1
      rw [x1] at this
      exact absurd this (by decide)
    · exact q2 ((u1 q1).2.symm.trans x2)
  have bad35 : ms_N n K AX AY AZ → wY_beInt_35 post m (nI (L p0.toNatClampNeg)) yn yb yf K AX AY AZ yl yi yv yp yo yt := by
    intro hN
    unfold wY_beInt_35
    have g : ∀ yf', post (yn, 1, yf', K, AX, AY, AZ, yl, upd yi (L p0.toNatClampNeg) 1, upd yv (L p0.toNatClampNeg) m, yp, yo, yt) := fun yf' => H1 1 yf' _ _ (yi_brk (yi_W_i I.1) hN) ⟨fun _ => rfl, Or.inl rfl, fun x _ q => q⟩
    exact yw_bi40 lL (fun _ => g _) (fun _ => g _)
  unfold wpY_beInt
  dsimp only
  refine ⟨hx, nm_r a1 ?_⟩
  rw [za_c12 lL]
  refine ⟨za_i12 lL, br_c (fun q => ⟨za_i12 lL, br_c (fun q2 => ?_) (fun q2 => ⟨za_i12 lL, br_c (fun q3 => ?_) (fun q3 => bad35 (bad (Or.inr ⟨yi_01 b4 q2, q3⟩)))⟩)⟩) (fun q => bad35 (bad (Or.inl (yi_01 b5 q))))⟩
  · refine yw_bi40 lL (fun _ => ?_) (fun w => absurd q2 w)
    obtain ⟨I', mu'⟩ := yi_setI (m := m) I lL a3 q2 q (fun e t v l r hm => by
      obtain ⟨x1, x2⟩ := hM e t v l r hm
      have eb := (I.2.2.2 e t v l r hm).2.1 _ lx
      obtain ⟨g1, g2, _⟩ := hm.1 _ _ lL lx eb
      exact ⟨g1.trans x1, (g2 (g1.trans x1)).trans x2⟩)
    exact H1 _ _ _ _ I' ⟨fun w => w, Or.inr ⟨rfl, mu'⟩, fun x _ w => w⟩
  · refine yw_bi40 lL (fun w => absurd w q2) (fun _ => ?_)
    rw [za_id (yi_01 b4 q2), za_id q3]
    exact H0 (yi_01 b4 q2) q3 q
theorem yw_j157 {post : SY → Prop} {p q : Nat} (hp : p < 12) (hq : q < 12) (H0 : yp p = 0 → post (yn, yb, yf, K, AX, AY, AZ, yl, yi, yv, upd yp p 1, upd yo p (yo q), upd yt p (yt q))) (H1 : ¬ yp p = 0 → post (yn, yb, yf, K, AX, AY, AZ, yl, yi, yv, yp, yo, yt)) : wY_join_157 post (nI p) (nI q) yn yb yf K AX AY AZ yl yi yv yp yo yt := by
  unfold wY_join_157
  rw [za_c12 hp, za_c12 hq, yw_n1]
  exact ⟨za_i12 hp, br_c (fun w => ⟨za_i12 hp, nm_e ⟨za_i12 hq, za_i12 hp, nm_e ⟨za_i12 hq, za_i12 hp, nm_e (H0 w)⟩⟩⟩) H1⟩
theorem yw_j133 {post : SY → Prop} {p q : Nat} (I : yi_I n K AX AY AZ yb L yl yi yv yp yo yt) (hp : p < 12) (hq : q < 12) (hpp : L p = p) (hM : yp q = 1 → ∀ (e : Nat → Nat) (t v : Nat → Int32) (l r : Nat → Nat), ms_M n K AX AY AZ e t v l r → t p = 2 ∧ l p = e (yo q).toNatClampNeg ∧ r p = e (yt q).toNatClampNeg)
    (H : ∀ yb' yp' yo' yt', yi_I n K AX AY AZ yb' L yl yi yv yp' yo' yt' → (yb = 1 → yb' = 1) → (yb' = 0 → yi_m L yi yp' ≤ yi_m L yi yp) → (∀ x, yp x = 1 → yp' x = 1) → (yp q = 1 → yp' p = 1) → post (yn, yb', yf, K, AX, AY, AZ, yl, yi, yv, yp', yo', yt')) : wY_join_133 post (nI p) (nI q) yn yb yf K AX AY AZ yl yi yv yp yo yt := by
  obtain ⟨_, _, _, b4, b5, _⟩ := I.1 p hp
  obtain ⟨_, _, _, c4, c5, c6⟩ := I.1 q hq
  unfold wY_join_133
  rw [za_c12 hp, za_c12 hq]
  refine ⟨za_i12 hq, br_c (fun w => H _ _ _ _ I id (fun _ => Nat.le_refl _) (fun _ z => z) (fun z => by rw [w] at z; exact absurd z (by decide))) (fun w => ⟨za_i12 hp, br_c (fun w2 => ?_) (fun w2 => ?_)⟩)⟩
  · have q1 := yi_01 c5 w
    refine yw_j157 hp hq (fun w3 => ?_) (fun w3 => H _ _ _ _ I id (fun _ => Nat.le_refl _) (fun _ z => z) (fun _ => yi_01 b5 w3))
    obtain ⟨I', mu'⟩ := yi_setP I hp hpp w2 w3 (c6 q1).1 (c6 q1).2 (hM q1)
    refine H _ _ _ _ I' id (fun _ => Nat.le_of_lt mu') (fun x z => ?_) (fun _ => pk_us)
    by_cases y : x = p
    · rw [y, pk_us]
    · rw [pk_un y]; exact z
  · have q1 := yi_01 c5 w
    have p1 := yi_01 b4 w2
    have hN : ms_N n K AX AY AZ := by
      intro e t v l r hm
      have a := (hM q1 e t v l r hm).1
      have b := ((I.2.2.2 e t v l r hm).2.2 p hp hpp).1 p1
      rw [b.1] at a
      exact absurd a (by decide)
    refine yw_j157 hp hq (fun w3 => ?_) (fun w3 => H _ _ _ _ (yi_brk I.1 hN) (fun _ => rfl) (fun z => absurd z (by decide)) (fun _ z => z) (fun _ => yi_01 b5 w3))
    refine H _ _ _ _ (yi_brk (yi_W_p I.1 (c6 q1).1 (c6 q1).2) hN) (fun _ => rfl) (fun z => absurd z (by decide)) (fun x z => ?_) (fun _ => pk_us)
    by_cases y : x = p
    · rw [y, pk_us]
    · rw [pk_un y]; exact z
theorem yw_j78 {post : SY → Prop} {p q : Nat} (hp : p < 12) (hq : q < 12) (hL : ∀ x, x < 12 → L x < 12)
    (Hend : ∀ yl', (∀ x, x < 12 → yl' x = nI (xi_hj L p q x)) → wY_join_78 post (nI p) (nI q) yn yb yf 1 (nI 12) K AX AY AZ yl' yi yv yp yo yt) :
    ∀ (m i : Nat) (yl : Nat → Int32), i + m = 12 → (∀ x, x < i → yl x = nI (xi_hj L p q x)) → (∀ x, i ≤ x → x < 12 → yl x = nI (L x)) → wY_join_78 post (nI p) (nI q) yn yb yf (m + 1) (nI i) K AX AY AZ yl yi yv yp yo yt := by
  intro m
  induction m with
  | zero =>
    intro i yl hi h1 h2
    have : i = 12 := by omega
    subst this
    exact Hend yl h1
  | succ m ih =>
    intro i yl hi h1 h2
    have hi12 : i < 12 := by omega
    unfold wY_join_78
    rw [za_c12 hi12, h2 i (by omega) hi12]
    have lL := hL i hi12
    refine br_f (nI_ge (b := 12) hi12 (by decide)) ⟨za_i12 hi12, br_c (fun w => ⟨za_i12 hi12, nm_e (nm_r (nI_1 i) ?_)⟩) (fun w => nm_r (nI_1 i) ?_)⟩
    · have w1 : L i = q := (nI_eq (by omega) (by omega)).mp w
      refine ih (i + 1) _ (by omega) (fun x hx => ?_) (fun x hx hx2 => ?_)
      · by_cases z : x = i
        · subst z; rw [pk_us, xi_hj_s w1]
        · rw [pk_un z]; exact h1 x (by omega)
      · rw [pk_un (by omega)]; exact h2 x (by omega) hx2
    · have w1 : L i ≠ q := fun z => w (by rw [z])
      refine ih (i + 1) _ (by omega) (fun x hx => ?_) (fun x hx hx2 => h2 x (by omega) hx2)
      by_cases z : x = i
      · subst z; rw [xi_hj_n w1]; exact h2 x (by omega) hi12
      · exact h1 x (by omega)
theorem yw_j61 {post : SY → Prop} {p q : Nat} (I : yi_I n K AX AY AZ yb L yl yi yv yp yo yt) (hpq : p ≤ q) (hq : q < 12) (hpp : L p = p) (hqq : L q = q) (hM : ∀ (e : Nat → Nat) (t v : Nat → Int32) (l r : Nat → Nat), ms_M n K AX AY AZ e t v l r → e p = e q)
    (H0 : p = q → post (yn, yb, yf, K, AX, AY, AZ, yl, yi, yv, yp, yo, yt))
    (H1 : ∀ yb' yf' L' yl' yi' yv' yp' yo' yt', yi_I n K AX AY AZ yb' L' yl' yi' yv' yp' yo' yt' → yi_P yb L yi yp yb' yf' L' yi' yp' → post (yn, yb', yf', K, AX, AY, AZ, yl', yi', yv', yp', yo', yt')) : wY_join_61 post (nI p) (nI q) yn yb yf K AX AY AZ yl yi yv yp yo yt := by
  have hp : p < 12 := by omega
  unfold wY_join_61
  refine br_c (fun w => H0 ((nI_eq (by omega) (by omega)).mp w)) (fun w => ?_)
  have hlt : p < q := by
    have : p ≠ q := fun z => w (by rw [z])
    omega
  refine ⟨13, yw_j78 hp hq (fun x hx => (yi_hh I.1 x hx).1) (fun yl' hl => ?_) 12 0 yl (by decide) (fun x hx => absurd hx (by omega)) (fun x _ hx => (I.1 x hx).1)⟩
  obtain ⟨I1, mu1, pp1⟩ := yi_mid (yl' := yl') I hlt hq hpp hqq hl hM
  -- what models say of q
  have mq : ∀ (e : Nat → Nat) (t v : Nat → Int32) (l r : Nat → Nat), ms_M n K AX AY AZ e t v l r → (yi q = 1 → t p = 1 ∧ v p = yv q) ∧ (yp q = 1 → t p = 2 ∧ l p = e (yo q).toNatClampNeg ∧ r p = e (yt q).toNatClampNeg) := by
    intro e t v l r hm
    obtain ⟨u1, u2⟩ := (I.2.2.2 e t v l r hm).2.2 q hq hqq
    obtain ⟨g1, g2, g3⟩ := hm.1 p q hp hq (hM e t v l r hm)
    refine ⟨fun z => ?_, fun z => ?_⟩
    · obtain ⟨x1, x2⟩ := u1 z
      exact ⟨g1.trans x1, (g2 (g1.trans x1)).trans x2⟩
    · obtain ⟨x1, x2, x3⟩ := u2 z
      obtain ⟨y1, y2⟩ := g3 (g1.trans x1)
      exact ⟨g1.trans x1, y1.trans x2, y2.trans x3⟩
  have keep : ∀ yp' : Nat → Int32, (∀ x, yp x = 1 → yp' x = 1) → (yp q = 1 → yp' p = 1) → ∀ x, x < 12 → yp (L x) = 1 → yp' (xi_hj L p q x) = 1 := by
    intro yp' k1 k2 x hx z
    by_cases y : L x = q
    · rw [xi_hj_s y]; rw [y] at z; exact k2 z
    · rw [xi_hj_n y]; exact k1 _ z
  obtain ⟨_, _, _, q4, _⟩ := I.1 q hq
  unfold wY_join_78
  rw [za_c12 hq]
  refine br_t (by decide) ⟨za_i12 hq, br_c (fun z => ?_) (fun z => ⟨za_i12 hq, ?_⟩)⟩
  · refine yw_j133 I1 hp hq pp1 (fun z => fun e t v l r hm => (mq e t v l r hm).2 z) (fun yb' yp' yo' yt' I' k0 k1 k2 k3 => ?_)
    refine H1 _ _ _ _ _ _ _ _ _ I' ⟨k0, ?_, keep yp' k2 k3⟩
    rcases I'.2.1 with y | y
    · exact Or.inr ⟨rfl, by have := k1 y; omega⟩
    · exact Or.inl y
  · have z1 := yi_01 q4 z
    refine yw_beInt I1 (za_i12 hp) (fun e t v l r hm => by rw [za_c12 hp]; exact (mq e t v l r hm).1 z1) (fun _ _ _ => ?_) (fun yb' yf' yi' yv' I2 P2 => ?_)
    · refine yw_j133 I1 hp hq pp1 (fun z => fun e t v l r hm => (mq e t v l r hm).2 z) (fun yb' yp' yo' yt' I' k0 k1 k2 k3 => ?_)
      refine H1 _ _ _ _ _ _ _ _ _ I' ⟨k0, ?_, keep yp' k2 k3⟩
      rcases I'.2.1 with y | y
      · exact Or.inr ⟨rfl, by have := k1 y; omega⟩
      · exact Or.inl y
    · refine yw_j133 I2 hp hq pp1 (fun z => fun e t v l r hm => (mq e t v l r hm).2 z) (fun yb2 yp' yo' yt' I' k0 k1 k2 k3 => ?_)
      refine H1 _ _ _ _ _ _ _ _ _ I' ⟨fun y => k0 (P2.1 y), ?_, keep yp' k2 k3⟩
      rcases P2.2.1 with y | ⟨y1, y2⟩
      · exact Or.inl (k0 y)
      · rcases I'.2.1 with y | y
        · exact Or.inr ⟨y1, by have := k1 y; omega⟩
        · exact Or.inl y
theorem yw_join {post : SY → Prop} {p0 p1 : Int32} (I : yi_I n K AX AY AZ yb L yl yi yv yp yo yt) (hx : vp_in p0 12) (hy : vp_in p1 12) (hM : ∀ (e : Nat → Nat) (t v : Nat → Int32) (l r : Nat → Nat), ms_M n K AX AY AZ e t v l r → e p0.toNatClampNeg = e p1.toNatClampNeg)
    (H0 : L p0.toNatClampNeg = L p1.toNatClampNeg → post (yn, yb, yf, K, AX, AY, AZ, yl, yi, yv, yp, yo, yt))
    (H1 : ∀ yb' yf' L' yl' yi' yv' yp' yo' yt', yi_I n K AX AY AZ yb' L' yl' yi' yv' yp' yo' yt' → yi_P yb L yi yp yb' yf' L' yi' yp' → post (yn, yb', yf', K, AX, AY, AZ, yl', yi', yv', yp', yo', yt')) : wpY_join post (yn, yb, yf, K, AX, AY, AZ, yl, yi, yv, yp, yo, yt) p0 p1 := by
  have lx := za_l12 hx
  have ly := za_l12 hy
  obtain ⟨a1, a2, a3, _⟩ := I.1 _ lx
  obtain ⟨b1, b2, b3, _⟩ := I.1 _ ly
  have eL : ∀ (e : Nat → Nat) (t v : Nat → Int32) (l r : Nat → Nat), ms_M n K AX AY AZ e t v l r → e (L p0.toNatClampNeg) = e (L p1.toNatClampNeg) := fun e t v l r hm => by
    have S := (I.2.2.2 e t v l r hm).2.1
    rw [S _ lx, S _ ly]
    exact hM e t v l r hm
  unfold wpY_join wY_join_30
  dsimp only
  rw [a1, b1]
  have hc : (nI (L p1.toNatClampNeg) ≤ nI (L p0.toNatClampNeg)) ↔ L p1.toNatClampNeg ≤ L p0.toNatClampNeg := nI_leI (by omega) (by omega)
  refine ⟨hx, hy, br_c (fun w => ⟨hy, hx, hy, br_t w ⟨hx, ?_⟩⟩) (fun w => ⟨hx, hx, hy, br_f w ⟨hy, ?_⟩⟩)⟩
  · exact yw_j61 I (hc.mp w) (by omega) b3 a3 (fun e t v l r hm => (eL e t v l r hm).symm) (fun z => H0 z.symm) H1
  · have : ¬ L p1.toNatClampNeg ≤ L p0.toNatClampNeg := fun z => w (hc.mpr z)
    exact yw_j61 I (by omega) (by omega) a3 b3 eL H0 H1
/-- bePair, from a state that isn't broken -/
theorem yw_bePair {post : SY → Prop} {p0 p1 p2 : Int32} (I : yi_I n K AX AY AZ 0 L yl yi yv yp yo yt) (hx : vp_in p0 12) (hy : vp_in p1 12) (hz : vp_in p2 12) (hM : ∀ (e : Nat → Nat) (t v : Nat → Int32) (l r : Nat → Nat), ms_M n K AX AY AZ e t v l r → t p0.toNatClampNeg = 2 ∧ l p0.toNatClampNeg = e p1.toNatClampNeg ∧ r p0.toNatClampNeg = e p2.toNatClampNeg)
    (H0 : yi (L p0.toNatClampNeg) = 0 → yp (L p0.toNatClampNeg) = 1 → L (yo (L p0.toNatClampNeg)).toNatClampNeg = L p1.toNatClampNeg → L (yt (L p0.toNatClampNeg)).toNatClampNeg = L p2.toNatClampNeg → post (yn, 0, yf, K, AX, AY, AZ, yl, yi, yv, yp, yo, yt))
    (H1 : ∀ yb' yf' L' yl' yi' yv' yp' yo' yt', yi_I n K AX AY AZ yb' L' yl' yi' yv' yp' yo' yt' → yi_P 0 L yi yp yb' yf' L' yi' yp' → post (yn, yb', yf', K, AX, AY, AZ, yl', yi', yv', yp', yo', yt')) : wpY_bePair post (yn, 0, yf, K, AX, AY, AZ, yl, yi, yv, yp, yo, yt) p0 p1 p2 := by
  have lx := za_l12 hx
  obtain ⟨a1, a2, a3, _⟩ := I.1 _ lx
  have lL : L p0.toNatClampNeg < 12 := by omega
  obtain ⟨_, _, _, b4, b5, b6⟩ := I.1 _ lL
  have kp : ∀ x, x < 12 → yp (L x) = 1 → upd yp (L p0.toNatClampNeg) 1 (L x) = 1 := by
    intro x _ w
    by_cases y : L x = L p0.toNatClampNeg
    · rw [y, pk_us]
    · rw [pk_un y]; exact w
  unfold wpY_bePair
  dsimp only
  refine ⟨hx, nm_r a1 ?_⟩
  unfold wY_bePair_23
  rw [za_c12 lL, yw_n1]
  refine ⟨za_i12 lL, br_c (fun q => ⟨za_i12 lL, br_c (fun q2 => ⟨za_i12 lL, nm_e ⟨za_i12 lL, nm_e ⟨za_i12 lL, nm_e ?_⟩⟩⟩) (fun q2 => ⟨za_i12 lL, ?_⟩)⟩) (fun q => ⟨za_i12 lL, br_c (fun q2 => ⟨za_i12 lL, nm_e ⟨za_i12 lL, nm_e ⟨za_i12 lL, nm_e ?_⟩⟩⟩) (fun q2 => absurd (yi_01 b5 q2) (I.2.2.1 rfl _ lL a3 (yi_01 b4 q)))⟩)⟩
  · obtain ⟨I', mu'⟩ := yi_setP I lL a3 q q2 hy hz (fun e t v l r hm => by
      obtain ⟨x1, x2, x3⟩ := hM e t v l r hm
      have eb := (I.2.2.2 e t v l r hm).2.1 _ lx
      obtain ⟨g1, _, g3⟩ := hm.1 _ _ lL lx eb
      obtain ⟨y1, y2⟩ := g3 (g1.trans x1)
      exact ⟨g1.trans x1, y1.trans x2, y2.trans x3⟩)
    exact H1 _ _ _ _ _ _ _ _ _ I' ⟨fun w => w, Or.inr ⟨rfl, mu'⟩, kp⟩
  · have p1' := yi_01 b5 q2
    obtain ⟨vo, vt⟩ := b6 p1'
    refine yw_join I vo hy (fun e t v l r hm => ?_) (fun w => ?_) (fun yb' yf' L' yl' yi' yv' yp' yo' yt' I' P' => ?_)
    · obtain ⟨_, _, u2⟩ := yi_up I lx hm
      exact (u2 p1').2.1.symm.trans (hM e t v l r hm).2.1
    · dsimp only
      refine ⟨hx, nm_r a1 ?_⟩
      rw [za_c12 lL]
      refine ⟨za_i12 lL, ?_⟩
      refine yw_join I vt hz (fun e t v l r hm => ?_) (fun w2 => H0 q p1' w w2) H1
      obtain ⟨_, _, u2⟩ := yi_up I lx hm
      exact (u2 p1').2.2.symm.trans (hM e t v l r hm).2.2
    · obtain ⟨c1, c2, c3, _⟩ := I'.1 _ lx
      have lM : L' p0.toNatClampNeg < 12 := by omega
      have p2' := P'.2.2 _ lx p1'
      obtain ⟨_, _, _, _, _, d6⟩ := I'.1 _ lM
      obtain ⟨vo', vt'⟩ := d6 p2'
      dsimp only
      refine ⟨hx, nm_r c1 ?_⟩
      rw [za_c12 lM]
      refine ⟨za_i12 lM, ?_⟩
      refine yw_join I' vt' hz (fun e t v l r hm => ?_) (fun w2 => H1 _ _ _ _ _ _ _ _ _ I' P') (fun yb2 yf2 L2 yl2 yi2 yv2 yp2 yo2 yt2 I2 P2 => H1 _ _ _ _ _ _ _ _ _ I2 (yi_P_tr P' P2))
      obtain ⟨_, _, u2⟩ := yi_up I' lx hm
      exact (u2 p2').2.2.symm.trans (hM e t v l r hm).2.2
  · have hN : ms_N n K AX AY AZ := by
      intro e t v l r hm
      obtain ⟨_, u1, _⟩ := yi_up I lx hm
      have a := (u1 (yi_01 b4 q)).1
      rw [(hM e t v l r hm).1] at a
      exact absurd a (by decide)
    exact H1 _ _ _ _ _ _ _ _ _ (yi_brk (yi_W_p I.1 hy hz) hN) ⟨fun _ => rfl, Or.inl rfl, kp⟩
end
end
section
/-! the reference's apply and follow -/
section
variable {K AX AY AZ : Nat → Int32} {e : Nat → Nat} {t v : Nat → Int32} {l r : Nat → Nat} {i : Nat}
theorem ms_H0 (hk : K i = 0) (H : e (AX i).toNatClampNeg = e (AY i).toNatClampNeg) : ms_H K AX AY AZ e t v l r i := by
  refine ⟨fun _ => H, fun q => ?_, fun q => ?_, fun q => ?_, fun q => ?_, fun q => ?_⟩ <;> rw [hk] at q <;> exact absurd q (by decide)
theorem ms_H1 (hk : K i = 1) (H : t (AX i).toNatClampNeg = 1 ∧ v (AX i).toNatClampNeg = AY i) : ms_H K AX AY AZ e t v l r i := by
  refine ⟨fun q => ?_, fun _ => H, fun q => ?_, fun q => ?_, fun q => ?_, fun q => ?_⟩ <;> rw [hk] at q <;> exact absurd q (by decide)
theorem ms_H2 (hk : K i = 2) (H : t (AX i).toNatClampNeg = 2 ∧ l (AX i).toNatClampNeg = e (AY i).toNatClampNeg ∧ r (AX i).toNatClampNeg = e (AZ i).toNatClampNeg) : ms_H K AX AY AZ e t v l r i := by
  refine ⟨fun q => ?_, fun q => ?_, fun _ => H, fun q => ?_, fun q => ?_, fun q => ?_⟩ <;> rw [hk] at q <;> exact absurd q (by decide)
theorem ms_H3 (hk : K i = 3 ∨ K i = 4 ∨ K i = 7) (H : t (AY i).toNatClampNeg = 1 → t (AZ i).toNatClampNeg = 1 → t (AX i).toNatClampNeg = 1 ∧ v (AX i).toNatClampNeg = ms_op (K i) (v (AY i).toNatClampNeg) (v (AZ i).toNatClampNeg)) : ms_H K AX AY AZ e t v l r i := by
  refine ⟨fun q => ?_, fun q => ?_, fun q => ?_, fun _ => H, fun q => ?_, fun q => ?_⟩ <;> rw [q] at hk <;> exact absurd hk (by decide)
theorem ms_H5 (hk : K i = 5) (H : t (AY i).toNatClampNeg = 2 → e (AX i).toNatClampNeg = l (AY i).toNatClampNeg) : ms_H K AX AY AZ e t v l r i := by
  refine ⟨fun q => ?_, fun q => ?_, fun q => ?_, fun q => ?_, fun _ => H, fun q => ?_⟩ <;> rw [hk] at q <;> exact absurd q (by decide)
theorem ms_H6 (hk : K i = 6) (H : t (AY i).toNatClampNeg = 2 → e (AX i).toNatClampNeg = r (AY i).toNatClampNeg) : ms_H K AX AY AZ e t v l r i := by
  refine ⟨fun q => ?_, fun q => ?_, fun q => ?_, fun q => ?_, fun q => ?_, fun _ => H⟩ <;> rw [hk] at q <;> exact absurd q (by decide)
end
/-- statement i holds in the reference's state -/
def ym_H (K AX AY AZ : Nat → Int32) (L : Nat → Nat) (yi yv yp yo yt : Nat → Int32) (i : Nat) : Prop := ms_H K AX AY AZ L (ym_t L yi yp) (ym_v L yv) (ym_o L yo) (ym_o L yt) i
section
variable {yn : Int32} {yb : Int32} {yf : Int32} {K : Nat → Int32} {AX : Nat → Int32} {AY : Nat → Int32} {AZ : Nat → Int32} {yl : Nat → Int32} {yi : Nat → Int32} {yv : Nat → Int32} {yp : Nat → Int32} {yo : Nat → Int32} {yt : Nat → Int32} {n : Nat} {L : Nat → Nat}
/-- a statement that isn't ready holds -/
theorem ym_nr {i : Nat} (V : ms_V1 K AX AY AZ i) (R : ¬ yr_R K AX AY AZ L yi yp i) : ym_H K AX AY AZ L yi yv yp yo yt i := by
  rcases V.1 with w | w | w | w | w | w | w | w
  · exact absurd (Or.inl (Or.inl w)) R
  · exact absurd (Or.inl (Or.inr (Or.inl w))) R
  · exact absurd (Or.inl (Or.inr (Or.inr w))) R
  · exact ms_H3 (Or.inl w) (fun a b => absurd (Or.inr (Or.inl ⟨Or.inl w, ym_t1.mp a, ym_t1.mp b⟩)) R)
  · exact ms_H3 (Or.inr (Or.inl w)) (fun a b => absurd (Or.inr (Or.inl ⟨Or.inr (Or.inl w), ym_t1.mp a, ym_t1.mp b⟩)) R)
  · exact ms_H5 w (fun a => absurd (Or.inr (Or.inr ⟨Or.inl w, (ym_t2.mp a).2⟩)) R)
  · exact ms_H6 w (fun a => absurd (Or.inr (Or.inr ⟨Or.inr w, (ym_t2.mp a).2⟩)) R)
  · exact ms_H3 (Or.inr (Or.inr w)) (fun a b => absurd (Or.inr (Or.inl ⟨Or.inr (Or.inr w), ym_t1.mp a, ym_t1.mp b⟩)) R)
theorem yw_a70 {post : SY → Prop} {i p q : Nat} {z0 : Int32} (V : ms_V n K AX AY AZ) (hi : i < n) (hi40 : i < 40) (I : yi_I n K AX AY AZ 0 L yl yi yv yp yo yt) (R : yr_R K AX AY AZ L yi yp i) (hp : p < 12) (vz : vp_in z0 12) (eq : L z0.toNatClampNeg = q)
    (hpL : K i ≠ 1 → p = L (AY i).toNatClampNeg) (hqL : (K i = 3 ∨ K i = 4 ∨ K i = 7) → q = L (AZ i).toNatClampNeg)
    (HS : ym_H K AX AY AZ L yi yv yp yo yt i → post (yn, 0, yf, K, AX, AY, AZ, yl, yi, yv, yp, yo, yt))
    (HP : ∀ yb' yf' L' yl' yi' yv' yp' yo' yt', yi_I n K AX AY AZ yb' L' yl' yi' yv' yp' yo' yt' → yi_P 0 L yi yp yb' yf' L' yi' yp' → post (yn, yb', yf', K, AX, AY, AZ, yl', yi', yv', yp', yo', yt')) : wY_apply_70 post (nI i) (nI p) z0 yn 0 yf K AX AY AZ yl yi yv yp yo yt := by
  obtain ⟨Vk, Vx, Vy, Vz⟩ := V i hi
  have lz := za_l12 vz
  obtain ⟨a1, a2, a3, _⟩ := I.1 _ lz
  have hq : q < 12 := by omega
  rw [eq] at a1
  have lx := za_l12 Vx
  -- the numbers
  have op : (K i = 3 ∨ K i = 4 ∨ K i = 7) → ∀ m, m = ms_op (K i) (yv p) (yv q) → wpY_beInt post (yn, 0, yf, K, AX, AY, AZ, yl, yi, yv, yp, yo, yt) (AX i) m := by
    intro k m em
    have k1 : K i ≠ 1 := by rcases k with w | w | w <;> rw [w] <;> decide
    have ly := za_l12 (Vy k1)
    have lzz := za_l12 (Vz (Or.inr k))
    obtain ⟨r1, r2⟩ : yi (L (AY i).toNatClampNeg) = 1 ∧ yi (L (AZ i).toNatClampNeg) = 1 := by
      rcases R with R | ⟨_, R⟩ | ⟨R, _⟩
      · rcases k with w | w | w <;> rw [w] at R <;> exact absurd R (by decide)
      · exact R
      · rcases k with w | w | w <;> rw [w] at R <;> exact absurd R (by decide)
    rw [hpL k1, hqL k] at em
    refine yw_beInt I Vx (fun e t v l r hm => ?_) (fun x1 x2 x3 => ?_) (fun yb' yf' yi' yv' I' P' => HP _ _ _ _ _ _ _ _ _ I' P')
    · obtain ⟨_, u1, _⟩ := yi_up I ly hm
      obtain ⟨_, w1, _⟩ := yi_up I lzz hm
      obtain ⟨_, _, _, H3, _⟩ := hm.2 i hi
      obtain ⟨b1, b2⟩ := H3 k (u1 r1).1 (w1 r2).1
      exact ⟨b1, by rw [b2, (u1 r1).2, (w1 r2).2, em]⟩
    · refine HS (ms_H3 k (fun _ _ => ⟨ym_t1.mpr x1, ?_⟩))
      exact x2.trans em
  -- the halves
  have tk : (K i = 5 ∨ K i = 6) → yp (L (AY i).toNatClampNeg) = 1 ∧ p = L (AY i).toNatClampNeg ∧ vp_in (yo p) 12 ∧ vp_in (yt p) 12 := by
    intro k
    have k1 : K i ≠ 1 := by rcases k with w | w <;> rw [w] <;> decide
    have ly := za_l12 (Vy k1)
    have r1 : yp (L (AY i).toNatClampNeg) = 1 := by
      rcases R with R | ⟨R, _⟩ | ⟨_, R⟩
      · rcases k with w | w <;> rw [w] at R <;> exact absurd R (by decide)
      · rcases k with w | w <;> rw [w] at R <;> exact absurd R (by decide)
      · exact R
    have e1 := hpL k1
    obtain ⟨_, _, _, _, _, b6⟩ := I.1 p hp
    rw [← e1] at r1
    exact ⟨by rw [← e1]; exact r1, e1, b6 r1⟩
  unfold wY_apply_70
  refine ⟨vz, nm_r a1 ?_⟩
  rw [za_c40 hi40, za_c12 hp, za_c12 hq]
  have i40 := za_i40 hi40
  refine ⟨i40, br_c (fun k => ⟨i40, i40, ?_⟩) (fun k0 => ⟨i40, br_c (fun k => ⟨i40, i40, ?_⟩) (fun k1 => ⟨i40, br_c (fun k => ⟨i40, i40, i40, ?_⟩) (fun k2 => ⟨i40, br_c (fun k => ⟨i40, za_i12 hp, za_i12 hq, ?_⟩) (fun k3 => ⟨i40, br_c (fun k => ⟨i40, za_i12 hp, za_i12 hq, ?_⟩) (fun k4 => ⟨i40, br_c (fun k => ⟨i40, za_i12 hp, ?_⟩) (fun k5 => ⟨i40, br_c (fun k => ⟨i40, za_i12 hp, ?_⟩) (fun k6 => ⟨i40, za_i12 hp, za_i12 hq, ?_⟩)⟩)⟩)⟩)⟩)⟩)⟩)⟩
  · refine yw_join I Vx (Vy (by rw [k]; decide)) (fun e t v l r hm => ?_) (fun w => HS (ms_H0 k w)) HP
    obtain ⟨H0, _⟩ := hm.2 i hi
    exact H0 k
  · refine yw_beInt I Vx (fun e t v l r hm => ?_) (fun x1 x2 x3 => HS (ms_H1 k ⟨ym_t1.mpr x1, x2⟩)) (fun yb' yf' yi' yv' I' P' => HP _ _ _ _ _ _ _ _ _ I' P')
    obtain ⟨_, H1, _⟩ := hm.2 i hi
    exact H1 k
  · refine yw_bePair I Vx (Vy k1) (Vz (Or.inl k)) (fun e t v l r hm => ?_) (fun x1 x2 x3 x4 => HS (ms_H2 k ⟨ym_t2.mpr ⟨by rw [x1]; decide, x2⟩, x3, x4⟩)) HP
    obtain ⟨_, _, H2, _⟩ := hm.2 i hi
    exact H2 k
  · refine op (Or.inl k) _ ?_
    unfold ms_op
    rw [if_pos k]
  · refine op (Or.inr (Or.inl k)) _ ?_
    unfold ms_op
    rw [if_neg k3, if_pos k]
  · obtain ⟨r1, e1, vo, vt⟩ := tk (Or.inl k)
    refine yw_join I Vx vo (fun e t v l r hm => ?_) (fun w => HS (ms_H5 k (fun _ => ?_))) HP
    · obtain ⟨_, _, u2⟩ := yi_up I (za_l12 (Vy k1)) hm
      obtain ⟨_, _, _, _, H5, _⟩ := hm.2 i hi
      obtain ⟨y1, y2, _⟩ := u2 r1
      rw [H5 k y1, y2, e1]
    · rw [w, e1]; rfl
  · obtain ⟨r1, e1, vo, vt⟩ := tk (Or.inr k)
    refine yw_join I Vx vt (fun e t v l r hm => ?_) (fun w => HS (ms_H6 k (fun _ => ?_))) HP
    · obtain ⟨_, _, u2⟩ := yi_up I (za_l12 (Vy k1)) hm
      obtain ⟨_, _, _, _, _, H6⟩ := hm.2 i hi
      obtain ⟨y1, _, y3⟩ := u2 r1
      rw [H6 k y1, y3, e1]
    · rw [w, e1]; rfl
  · have k7 : K i = 7 := by
      rcases Vk with w | w | w | w | w | w | w | w
      · exact absurd w k0
      · exact absurd w k1
      · exact absurd w k2
      · exact absurd w k3
      · exact absurd w k4
      · exact absurd w k5
      · exact absurd w k6
      · exact w
    unfold wY_apply_322
    refine br_c (fun w => ?_) (fun w => ?_)
    · refine op (Or.inr (Or.inr k7)) _ ?_
      unfold ms_op
      rw [if_neg k3, if_neg k4, if_pos w]
    · refine op (Or.inr (Or.inr k7)) _ ?_
      unfold ms_op
      rw [if_neg k3, if_neg k4, if_neg w]
theorem yw_apply {post : SY → Prop} {i : Nat} (V : ms_V n K AX AY AZ) (hi : i < n) (hi40 : i < 40) (I : yi_I n K AX AY AZ 0 L yl yi yv yp yo yt) (R : yr_R K AX AY AZ L yi yp i)
    (HS : ym_H K AX AY AZ L yi yv yp yo yt i → post (yn, 0, yf, K, AX, AY, AZ, yl, yi, yv, yp, yo, yt))
    (HP : ∀ yb' yf' L' yl' yi' yv' yp' yo' yt', yi_I n K AX AY AZ yb' L' yl' yi' yv' yp' yo' yt' → yi_P 0 L yi yp yb' yf' L' yi' yp' → post (yn, yb', yf', K, AX, AY, AZ, yl', yi', yv', yp', yo', yt')) : wpY_apply post (yn, 0, yf, K, AX, AY, AZ, yl, yi, yv, yp, yo, yt) (nI i) := by
  obtain ⟨Vk, Vx, Vy, Vz⟩ := V i hi
  have i40 := za_i40 hi40
  have v0 : vp_in (0 : Int32) 12 := za_i12 (j := 0) (by decide)
  have inn : ∀ {x : Int32}, ¬ x < 0 → x ≤ 11 → vp_in x 12 := fun a b => tl_in.mpr ⟨a, Int32.not_lt.mpr b⟩
  have out1 : ∀ {x : Int32}, x < 0 → ¬ vp_in x 12 := fun a b => (tl_in.mp b).1 a
  have out2 : ∀ {x : Int32}, ¬ x ≤ 11 → ¬ vp_in x 12 := fun a b => a (Int32.not_lt.mp (tl_in.mp b).2)
  have g34 : ∀ w, vp_in w 12 → (K i ≠ 1 → w = AY i) → wY_apply_34 post (nI i) w yn 0 yf K AX AY AZ yl yi yv yp yo yt := by
    intro w vw ew
    have lw := za_l12 vw
    obtain ⟨a1, a2, a3, _⟩ := I.1 _ lw
    have lL : L w.toNatClampNeg < 12 := by omega
    have g70 : ∀ z, vp_in z 12 → ((K i = 3 ∨ K i = 4 ∨ K i = 7) → z = AZ i) → wY_apply_70 post (nI i) (nI (L w.toNatClampNeg)) z yn 0 yf K AX AY AZ yl yi yv yp yo yt := by
      intro z vz ez
      exact yw_a70 V hi hi40 I R lL vz rfl (fun k => by rw [ew k]) (fun k => by rw [ez k]) HS HP
    have g60 : ¬ vp_in (AZ i) 12 → wY_apply_60 post (nI i) (nI (L w.toNatClampNeg)) yn 0 yf K AX AY AZ yl yi yv yp yo yt := by
      intro nz
      unfold wY_apply_60
      exact g70 0 v0 (fun k => absurd (Vz (Or.inr k)) nz)
    unfold wY_apply_34
    refine ⟨vw, nm_r a1 ⟨i40, ?_⟩⟩
    rw [za_c40 hi40]
    exact br_c (fun q => g60 (out1 q)) (fun q => ⟨i40, br_c (fun q2 => ⟨i40, g70 _ (inn q q2) (fun _ => rfl)⟩) (fun q2 => g60 (out2 q2))⟩)
  have g24 : ¬ vp_in (AY i) 12 → wY_apply_24 post (nI i) yn 0 yf K AX AY AZ yl yi yv yp yo yt := by
    intro ny
    unfold wY_apply_24
    exact g34 0 v0 (fun k => absurd (Vy k) ny)
  unfold wpY_apply
  dsimp only
  rw [za_c40 hi40]
  exact ⟨i40, br_c (fun q => g24 (out1 q)) (fun q => ⟨i40, br_c (fun q2 => ⟨i40, g34 _ (inn q q2) (fun _ => rfl)⟩) (fun q2 => g24 (out2 q2))⟩)⟩
end
/-- within a round -/
def yz_Z (n : Nat) (K AX AY AZ : Nat → Int32) (m0 i : Nat) (yb yf : Int32) (L : Nat → Nat) (yl yi yv yp yo yt : Nat → Int32) : Prop := yi_I n K AX AY AZ yb L yl yi yv yp yo yt ∧ (yb = 0 → (yf = 0 ∧ yi_m L yi yp ≤ m0 ∧ ∀ j, j < i → ym_H K AX AY AZ L yi yv yp yo yt j) ∨ (yf = 1 ∧ yi_m L yi yp < m0))
section
variable {n : Nat} {K AX AY AZ : Nat → Int32}
theorem yw_f69 {post : SY → Prop} {J : Int32 → Int32 → Int32 → Int32 → (Nat → Int32) → (Nat → Int32) → (Nat → Int32) → (Nat → Int32) → (Nat → Int32) → (Nat → Int32) → (Nat → Int32) → (Nat → Int32) → (Nat → Int32) → (Nat → Int32) → Prop} {rr m0 : Nat} (V : ms_V n K AX AY AZ) (hn : n ≤ 40)
    (HJ : ∀ yb yf L yl yi yv yp yo yt, yz_Z n K AX AY AZ m0 n yb yf L yl yi yv yp yo yt → J (nI (rr + 1)) (nI n) yb yf K AX AY AZ yl yi yv yp yo yt) :
    ∀ (m i : Nat) (yb yf : Int32) (L : Nat → Nat) (yl yi yv yp yo yt : Nat → Int32), i + m = n → yz_Z n K AX AY AZ m0 i yb yf L yl yi yv yp yo yt → wY_follow_69 post J (nI rr) (m + 1) (nI i) (nI n) yb yf K AX AY AZ yl yi yv yp yo yt := by
  have br1 : ∀ (i : Nat) (yb yf : Int32) (L : Nat → Nat) (yl yi yv yp yo yt : Nat → Int32), yz_Z n K AX AY AZ m0 i yb yf L yl yi yv yp yo yt → ¬ yb = 0 → J (nI (rr + 1)) (nI n) yb yf K AX AY AZ yl yi yv yp yo yt := by
    intro i yb yf L yl yi yv yp yo yt Z hb
    exact HJ _ _ _ _ _ _ _ _ _ ⟨Z.1, fun q => absurd q hb⟩
  intro m
  induction m with
  | zero =>
    intro i yb yf L yl yi yv yp yo yt hi Z
    have : i = n := by omega
    subst this
    unfold wY_follow_69
    exact br_t (nI_le (Nat.le_refl _) (by omega)) (nm_r (nI_1 rr) (HJ _ _ _ _ _ _ _ _ _ Z))
  | succ m ih =>
    intro i yb yf L yl yi yv yp yo yt hi Z
    unfold wY_follow_69
    refine br_f (nI_ge (by omega) (by omega)) (br_c (fun hb => ?_) (fun hb => nm_r (nI_1 rr) (br1 i _ _ _ _ _ _ _ _ _ Z hb)))
    subst hb
    obtain ⟨I, Zb⟩ := Z
    have hin : i < n := by omega
    have same : ym_H K AX AY AZ L yi yv yp yo yt i → yz_Z n K AX AY AZ m0 (i + 1) 0 yf L yl yi yv yp yo yt := by
      intro H
      refine ⟨I, fun q => ?_⟩
      rcases Zb q with ⟨z1, z2, z3⟩ | z
      · refine Or.inl ⟨z1, z2, fun j hj => ?_⟩
        by_cases w : j = i
        · rw [w]; exact H
        · exact z3 j (by omega)
      · exact Or.inr z
    have ml : yi_m L yi yp ≤ m0 := by
      rcases Zb rfl with ⟨_, z2, _⟩ | ⟨_, z⟩
      · exact z2
      · omega
    refine yw_ready (V i hin) (by omega) I.1 (fun R => br_f (by decide) ?_) (fun R => br_t rfl (nm_r (nI_1 i) (ih (i + 1) _ _ _ _ _ _ _ _ _ (by omega) (same (ym_nr (V i hin) R)))))
    refine yw_apply V hin (by omega) I R (fun H => ?_) (fun yb' yf' L' yl' yi' yv' yp' yo' yt' I' P' => ?_)
    · exact nm_r (nI_1 i) (ih (i + 1) _ _ _ _ _ _ _ _ _ (by omega) (same H))
    · refine nm_r (nI_1 i) (ih (i + 1) _ _ _ _ _ _ _ _ _ (by omega) ⟨I', fun q => Or.inr ?_⟩)
      rcases P'.2.1 with z | ⟨z1, z2⟩
      · rw [q] at z; exact absurd z (by decide)
      · exact ⟨z1, by omega⟩
theorem yw_f42 {post : SY → Prop} (V : ms_V n K AX AY AZ) (hn : n ≤ 40)
    (HF : ∀ yb yf L yl yi yv yp yo yt, yi_I n K AX AY AZ yb L yl yi yv yp yo yt → (yb = 0 → ∀ j, j < n → ym_H K AX AY AZ L yi yv yp yo yt j) → post (nI n, yb, yf, K, AX, AY, AZ, yl, yi, yv, yp, yo, yt)) :
    ∀ (m rr : Nat) (yb yf : Int32) (L : Nat → Nat) (yl yi yv yp yo yt : Nat → Int32), rr + m = 40 → yi_I n K AX AY AZ yb L yl yi yv yp yo yt → (yb = 0 → (yf = 0 ∧ ∀ j, j < n → ym_H K AX AY AZ L yi yv yp yo yt j) ∨ (yf = 1 ∧ yi_m L yi yp + rr ≤ 24)) → wY_follow_42 post (m + 1) (nI rr) (nI n) yb yf K AX AY AZ yl yi yv yp yo yt := by
  intro m
  induction m with
  | zero =>
    intro rr yb yf L yl yi yv yp yo yt hr I Z
    have : rr = 40 := by omega
    subst this
    unfold wY_follow_42
    refine br_t (by decide) (HF _ _ _ _ _ _ _ _ _ I (fun q => ?_))
    rcases Z q with ⟨_, z⟩ | ⟨_, z⟩
    · exact z
    · omega
  | succ m ih =>
    intro rr yb yf L yl yi yv yp yo yt hr I Z
    unfold wY_follow_42
    refine br_f (nI_ge (b := 40) (by omega) (by decide)) (br_c (fun q => ?_) (fun q => br_c (fun hb => ?_) (fun hb => HF _ _ _ _ _ _ _ _ _ I (fun z => absurd z hb))))
    · refine HF _ _ _ _ _ _ _ _ _ I (fun hb => ?_)
      rcases Z hb with ⟨_, z⟩ | ⟨z, _⟩
      · exact z
      · rw [q] at z; exact absurd z (by decide)
    · subst hb
      have zm : yi_m L yi yp + rr ≤ 24 := by
        rcases Z rfl with ⟨z, _⟩ | ⟨_, z⟩
        · exact absurd z q
        · exact z
      refine ⟨n + 1, yw_f69 (m0 := yi_m L yi yp) V hn (fun yb yf L yl yi yv yp yo yt Z' => ?_) n 0 _ _ _ _ _ _ _ _ _ (by omega) ⟨I, fun _ => Or.inl ⟨rfl, Nat.le_refl _, fun j hj => absurd hj (by omega)⟩⟩⟩
      refine ih (rr + 1) _ _ _ _ _ _ _ _ _ (by omega) Z'.1 (fun hb => ?_)
      rcases Z'.2 hb with ⟨z1, _, z3⟩ | ⟨z1, z2⟩
      · exact Or.inl ⟨z1, z3⟩
      · exact Or.inr ⟨z1, by omega⟩
theorem yw_f2 {post : SY → Prop} {yn yb yf : Int32} {yv yo yt : Nat → Int32}
    (Hend : ∀ yl' yi' yp', (∀ x, x < 12 → yl' x = nI x ∧ yi' x = 0 ∧ yp' x = 0) → wY_follow_2 post yn yb yf 1 (nI 12) K AX AY AZ yl' yi' yv yp' yo yt) :
    ∀ (m i : Nat) (yl yi yp : Nat → Int32), i + m = 12 → (∀ x, x < i → yl x = nI x ∧ yi x = 0 ∧ yp x = 0) → wY_follow_2 post yn yb yf (m + 1) (nI i) K AX AY AZ yl yi yv yp yo yt := by
  intro m
  induction m with
  | zero =>
    intro i yl yi yp hi H
    have : i = 12 := by omega
    subst this
    exact Hend _ _ _ H
  | succ m ih =>
    intro i yl yi yp hi H
    have h12 : i < 12 := by omega
    unfold wY_follow_2
    rw [za_c12 h12, yw_n0]
    refine br_f (nI_ge (b := 12) h12 (by decide)) ⟨za_i12 h12, nm_e ⟨za_i12 h12, nm_e ⟨za_i12 h12, nm_e (nm_r (nI_1 i) ?_)⟩⟩⟩
    refine ih (i + 1) _ _ _ (by omega) (fun x hx => ?_)
    by_cases z : x = i
    · subst z; rw [pk_us, pk_us, pk_us]; exact ⟨rfl, rfl, rfl⟩
    · rw [pk_un z, pk_un z, pk_un z]; exact H x (by omega)
theorem yw_follow {post : SY → Prop} {yf : Int32} {yl yi yv yp yo yt : Nat → Int32} (V : ms_V n K AX AY AZ) (hn : n ≤ 40)
    (HF : ∀ yb yf L yl yi yv yp yo yt, yi_I n K AX AY AZ yb L yl yi yv yp yo yt → (yb = 0 → ∀ j, j < n → ym_H K AX AY AZ L yi yv yp yo yt j) → post (nI n, yb, yf, K, AX, AY, AZ, yl, yi, yv, yp, yo, yt)) : wpY_follow post (nI n, 0, yf, K, AX, AY, AZ, yl, yi, yv, yp, yo, yt) := by
  unfold wpY_follow
  dsimp only
  refine ⟨13, yw_f2 (fun yl' yi' yp' H => ?_) 12 0 yl yi yp (by decide) (fun x hx => absurd hx (by omega))⟩
  unfold wY_follow_2
  refine br_t (by decide) ⟨41, yw_f42 V hn HF 40 0 _ _ (fun x => x) _ _ _ _ _ _ (by decide) ⟨fun x hx => ?_, Or.inl rfl, fun _ x hx _ e1 => ?_, fun e t v l r hm => ⟨rfl, fun x _ => rfl, fun x hx _ => ⟨fun w => ?_, fun w => ?_⟩⟩⟩ (fun _ => Or.inr ⟨rfl, ?_⟩)⟩
  · obtain ⟨a, b, c⟩ := H x hx
    exact ⟨a, Nat.le_refl _, rfl, Or.inl b, Or.inl c, fun w => by rw [c] at w; exact absurd w (by decide)⟩
  · rw [(H x hx).2.1] at e1; exact absurd e1 (by decide)
  · have := (H x hx).2.1; rw [show yi' x = 1 from w] at this; exact absurd this (by decide)
  · have := (H x hx).2.2; rw [show yp' x = 1 from w] at this; exact absurd this (by decide)
  · have a := xi_cl12 (fun x => x)
    have b : yi_u (fun x => x) yi' yp' ≤ 12 := za_cn_b _ 12
    unfold yi_m
    omega
end
end
section
/-! the component: restart, its state as a model, and the questions' walks -/
section
variable {sc : Int32} {sp : Int64} {jc : Int32} {rd : Int64} {br : Int32} {kd : Nat → Int32} {tg : Nat → Int32} {sy : Nat → Int32} {sz : Nat → Int32} {a : Nat → Int32} {wg : Nat → Int32} {st : Nat → Int32} {nm : Nat → Int32} {lf : Nat → Int32} {rt : Nat → Int32} {wt : Nat → Int64} {ja : Nat → Int32} {jb : Nat → Int32} {h : Nat → Nat}
theorem xw_restart_l {post : SX → Prop} (H : ∀ a' wg' st' wt', (∀ x, x < 12 → a' x = nI x ∧ st' x = 0) → post (sc, sp, jc, rd, br, kd, tg, sy, sz, a', wg', st', nm, lf, rt, wt', ja, jb)) :
    ∀ (m i : Nat) (a wg st : Nat → Int32) (wt : Nat → Int64), i + m = 12 → (∀ x, x < i → a x = nI x ∧ st x = 0) → wX_restart_27 post sc sp jc rd br (m + 1) (nI i) kd tg sy sz a wg st nm lf rt wt ja jb := by
  intro m
  induction m with
  | zero =>
    intro i a wg st wt hi h1
    have : i = 12 := by omega
    subst this
    unfold wX_restart_27
    exact br_t (by decide) (H _ _ _ _ h1)
  | succ m ih =>
    intro i a wg st wt hi h1
    have h12 : i < 12 := by omega
    unfold wX_restart_27
    rw [za_c12 h12, (za_b i h12).1, za_b0]
    refine br_f (nI_ge (b := 12) h12 (by decide)) ⟨za_i12 h12, nm_e ⟨za_i12 h12, nm_e ⟨za_i12 h12, nm_e ⟨za_i12 h12, nm_e (nm_r (nI_1 i) ?_)⟩⟩⟩⟩
    refine ih (i + 1) _ _ _ _ (by omega) (fun x hx => ?_)
    by_cases z : x = i
    · subst z; rw [pk_us, pk_us]; exact ⟨rfl, rfl⟩
    · rw [pk_un z, pk_un z]; exact h1 x (by omega)
theorem xw_restart {post : SX → Prop} {K AX AY AZ : Nat → Int32} (H : ∀ a' wg' st' wt', fo_F a' (fun x => x) → xi_I 0 K AX AY AZ (fun x => x) 0 0 0 st' nm lf rt wt' ja jb → post (0, 0, 0, 0, 0, kd, tg, sy, sz, a', wg', st', nm, lf, rt, wt', ja, jb)) : wpX_restart post (sc, sp, jc, rd, br, kd, tg, sy, sz, a, wg, st, nm, lf, rt, wt, ja, jb) := by
  unfold wpX_restart
  dsimp only
  refine ⟨13, xw_restart_l (fun a' wg' st' wt' h1 => ?_) 12 0 a wg st wt (by decide) (fun x hx => absurd hx (by omega))⟩
  refine H _ _ _ _ ⟨fun x => x, fun _ => 0, fun x hx => ⟨(h1 x hx).1, hx, hx, rfl, rfl, Iff.rfl, fun z => absurd rfl z⟩⟩ ⟨⟨fun x hx => ⟨hx, rfl⟩, fun x hx => Or.inl (h1 x hx).2, fun x hx q => ?_, fun j hj => absurd hj (by omega), ?_, fun i q => ?_, fun i q => ?_⟩, fun f F i hi => absurd hi (by omega), fun e t v l r hM => ⟨⟨fun x _ => rfl, fun x hx _ => ⟨fun q => ?_, fun q => ?_⟩⟩, fun j hj => absurd hj (by omega)⟩⟩
  · rw [(h1 x hx).2] at q; exact absurd q (by decide)
  · have := xi_cl12 (fun x => x)
    omega
  · rw [za_bt_0] at q; exact absurd q (by decide)
  · rw [za_bt_0] at q; exact absurd q (by decide)
  · have := (h1 x hx).2; rw [show st' x = 1 from q] at this; exact absurd this (by decide)
  · have := (h1 x hx).2; rw [show st' x = 2 from q] at this; exact absurd this (by decide)
end
def xm_t (h : Nat → Nat) (st : Nat → Int32) : Nat → Int32 := fun x => st (h x)
def xm_o (h : Nat → Nat) (lf : Nat → Int32) : Nat → Nat := fun x => h (lf (h x)).toNatClampNeg
section
variable {n : Nat} {K AX AY AZ : Nat → Int32} {h : Nat → Nat} {sp : Int64} {st nm lf rt : Nat → Int32} {wt : Nat → Int64} {ja jb : Nat → Int32}
theorem xi_Wf {ya za : Nat} {d : Int32} {i : Nat} (w : xi_W h 0 st wt ya za d i) (d0 : d ≠ 0) (hy : st (h ya) = d) (hz : st (h za) = d) : False := by
  rcases w with w | ⟨w1, w2⟩ | ⟨w1, w2⟩ | ⟨w1, w2⟩ | ⟨w1, w2⟩
  · rw [za_bt_0] at w; exact absurd w (by decide)
  · exact d0 (hy.symm.trans w1)
  · exact d0 (hz.symm.trans w1)
  · exact w2 hy
  · exact w2 hz
theorem xm_M (V : ms_V n K AX AY AZ) (I : xi_I n K AX AY AZ h sp 0 0 st nm lf rt wt ja jb) : ms_M n K AX AY AZ h (xm_t h st) (xm_t h nm) (xm_o h lf) (xm_o h rt) := by
  refine ⟨fun a b _ _ q => ?_, fun i hi => ?_⟩
  · unfold xm_t xm_o
    rw [q]
    exact ⟨rfl, fun _ => rfl, fun _ => ⟨rfl, rfl⟩⟩
  · obtain ⟨c0, c1, c2, c3, c5, c6⟩ := I.2.1 h ⟨fun x hx => (I.1.1 x hx).2, fun j hj => absurd hj (by omega)⟩ i hi
    refine ⟨c0, c1, c2, fun k y1 z1 => ?_, fun k y1 => ?_, fun k y1 => ?_⟩
    · obtain ⟨a1, a2⟩ := c3 k
      cases hb : za_bt sp i with
      | true => exact (xi_Wf (a1 hb) (by decide) y1 z1).elim
      | false => exact (a2 hb).2.2
    · obtain ⟨a1, a2⟩ := c5 k
      cases hb : za_bt sp i with
      | true => exact (xi_Wf (a1 hb) (by decide) y1 y1).elim
      | false => exact (a2 hb).2
    · obtain ⟨a1, a2⟩ := c6 k
      cases hb : za_bt sp i with
      | true => exact (xi_Wf (a1 hb) (by decide) y1 y1).elim
      | false => exact (a2 hb).2
end
/-! counting: waiting, classes -/
theorem za_cn_s (P : Nat → Bool) (i : Nat) : nI (za_cn P i) + (if P i = true then 1 else 0) = nI (za_cn P (i + 1)) := by
  show _ = nI (za_cn P i + (if P i = true then 1 else 0))
  by_cases z : P i = true
  · rw [if_pos z, if_pos z, nI_1]
  · rw [if_neg z, if_neg z, Int32.add_zero]
    rfl
section
variable {sc : Int32} {sp : Int64} {jc : Int32} {rd : Int64} {br : Int32} {kd : Nat → Int32} {tg : Nat → Int32} {sy : Nat → Int32} {sz : Nat → Int32} {a : Nat → Int32} {wg : Nat → Int32} {st : Nat → Int32} {nm : Nat → Int32} {lf : Nat → Int32} {rt : Nat → Int32} {wt : Nat → Int64} {ja : Nat → Int32} {jb : Nat → Int32} {h : Nat → Nat}
theorem xw_waiting_l {post : Int32 → Prop} {n : Nat} (hn : n ≤ 40) (H : post (nI (za_cn (za_bt sp) n))) : ∀ m i, i + m = n → wX_waiting_14 post (nI n) sp jc rd br kd tg sy sz a wg st nm lf rt wt ja jb (m + 1) (nI (za_cn (za_bt sp) i)) (nI i) := by
  intro m
  induction m with
  | zero =>
    intro i hi
    have : i = n := by omega
    subst this
    unfold wX_waiting_14
    exact br_t (nI_le (Nat.le_refl _) (by omega)) H
  | succ m ih =>
    intro i hi
    unfold wX_waiting_14
    rw [za_bt_v (show i < 64 by omega)]
    exact br_f (nI_ge (by omega) (by omega)) (nm_r (za_cn_s _ i) (nm_r (nI_1 i) (ih (i + 1) (by omega))))
theorem xw_waiting {post : Int32 → Prop} {n : Nat} (hn : n ≤ 40) (H : post (nI (za_cn (za_bt sp) n))) : wpX_waiting post (nI n, sp, jc, rd, 0, kd, tg, sy, sz, a, wg, st, nm, lf, rt, wt, ja, jb) := by
  unfold wpX_waiting
  dsimp only
  exact br_t rfl ⟨n + 1, xw_waiting_l hn H n 0 (by omega)⟩
theorem xw_classes_l {post : Int32 → Prop} (F : fo_F a h) (H : post (nI (xi_cl h))) : ∀ m i, i + m = 12 → wX_classes_14 post sc sp jc rd br kd tg sy sz a wg st nm lf rt wt ja jb (m + 1) (nI (za_cn (fun x => decide (h x = x)) i)) (nI i) := by
  intro m
  induction m with
  | zero =>
    intro i hi
    have : i = 12 := by omega
    subst this
    unfold wX_classes_14
    exact br_t (by decide) H
  | succ m ih =>
    intro i hi
    have h12 : i < 12 := by omega
    have e := za_cn_s (fun x => decide (h x = x)) i
    unfold wX_classes_14
    rw [za_c12 h12]
    refine br_f (nI_ge (b := 12) h12 (by decide)) ⟨za_i12 h12, br_c (fun q => ?_) (fun q => ?_)⟩
    · have q1 := (fo_r F h12).mp q
      rw [if_pos (by simp [q1])] at e
      exact nm_r e (nm_r (nI_1 i) (ih (i + 1) (by omega)))
    · have q1 : ¬ h i = i := fun z => q ((fo_r F h12).mpr z)
      rw [if_neg (by simp [q1]), Int32.add_zero] at e
      rw [e]
      exact nm_r (nI_1 i) (ih (i + 1) (by omega))
theorem xw_classes {post : Int32 → Prop} (F : fo_F a h) (H : post (nI (xi_cl h))) : wpX_classes post (sc, sp, jc, rd, 0, kd, tg, sy, sz, a, wg, st, nm, lf, rt, wt, ja, jb) := by
  unfold wpX_classes
  dsimp only
  exact br_t rfl ⟨13, xw_classes_l F H 12 0 (by decide)⟩
/-- the smallest variable with the given head -/
theorem xw_part_l {post : Int32 → SX → Prop} {g s0 : Nat} (h12 : s0 < 12) (hg : g < 12) (e0 : h s0 = g) (ne : ∀ s, s < s0 → h s ≠ g) (hh : ∀ x, x < 12 → h x < 12) (H : ∀ a', fo_F a' h → post (nI s0) (sc, sp, jc, rd, br, kd, tg, sy, sz, a', wg, st, nm, lf, rt, wt, ja, jb)) : ∀ (m s : Nat) (a : Nat → Int32), s + m = s0 → fo_F a h → wX_part_72 post (nI g) (m + 1) (nI s) sc sp jc rd br kd tg sy sz a wg st nm lf rt wt ja jb := by
  intro m
  induction m with
  | zero =>
    intro s a hs F
    have : s = s0 := by omega
    subst this
    unfold wX_part_72
    refine xw_head F (za_i12 h12) (fun a' F' => ?_)
    dsimp only
    rw [za_c12 h12, e0]
    exact br_t rfl (H a' F')
  | succ m ih =>
    intro s a hs F
    have hs12 : s < 12 := by omega
    unfold wX_part_72
    refine xw_head F (za_i12 hs12) (fun a' F' => ?_)
    dsimp only
    rw [za_c12 hs12]
    have := hh s hs12
    exact br_f (fun z => ne s (by omega) ((nI_eq (by omega) (by omega)).mp z)) (nm_r (nI_1 s) (ih (s + 1) a' (by omega) F'))
theorem xw_part64 {post : Int32 → SX → Prop} {z0 : Int32} {s0 : Nat} (F : fo_F a h) (hz : vp_in z0 12) (h12 : s0 < 12) (e0 : h s0 = h z0.toNatClampNeg) (ne : ∀ s, s < s0 → h s ≠ h z0.toNatClampNeg) (H : ∀ a', fo_F a' h → post (nI s0) (sc, sp, jc, rd, br, kd, tg, sy, sz, a', wg, st, nm, lf, rt, wt, ja, jb)) : wX_part_64 post z0 sc sp jc rd br kd tg sy sz a wg st nm lf rt wt ja jb := by
  unfold wX_part_64
  refine xw_head F hz (fun a' F' => ?_)
  dsimp only
  exact ⟨s0 + 1, xw_part_l h12 (fo_h F (za_l12 hz)).1 e0 ne (fun x hx => (fo_h F hx).1) H s0 0 a' (by omega) F'⟩
end
section
variable {yn : Int32} {yb : Int32} {yf : Int32} {K : Nat → Int32} {AX : Nat → Int32} {AY : Nat → Int32} {AZ : Nat → Int32} {yl : Nat → Int32} {yi : Nat → Int32} {yv : Nat → Int32} {yp : Nat → Int32} {yo : Nat → Int32} {yt : Nat → Int32} {n : Nat} {L : Nat → Nat}
theorem yw_waiting_l {post : Int32 → Prop} {b : Nat → Bool} (V : ms_V n K AX AY AZ) (hn : n ≤ 40) (W : yi_W L yl yi yp yo yt) (hb : ∀ i, i < n → (b i = true ↔ ¬ yr_R K AX AY AZ L yi yp i)) (H : post (nI (za_cn b n))) : ∀ m i, i + m = n → wY_waiting_14 post (nI n) yb yf K AX AY AZ yl yi yv yp yo yt (m + 1) (nI (za_cn b i)) (nI i) := by
  intro m
  induction m with
  | zero =>
    intro i hi
    have : i = n := by omega
    subst this
    unfold wY_waiting_14
    exact br_t (nI_le (Nat.le_refl _) (by omega)) H
  | succ m ih =>
    intro i hi
    have e := za_cn_s b i
    have hi2 : i < n := by omega
    unfold wY_waiting_14
    refine br_f (nI_ge (by omega) (by omega)) ?_
    refine yw_ready (V i hi2) (by omega) W (fun R => br_f (by decide) ?_) (fun R => br_t rfl ?_)
    · have : ¬ b i = true := fun z => (hb i hi2).mp z R
      rw [if_neg this, Int32.add_zero] at e
      rw [e]
      exact nm_r (nI_1 i) (ih (i + 1) (by omega))
    · rw [if_pos ((hb i hi2).mpr R)] at e
      exact nm_r e (nm_r (nI_1 i) (ih (i + 1) (by omega)))
theorem yw_waiting {post : Int32 → Prop} {b : Nat → Bool} (V : ms_V n K AX AY AZ) (hn : n ≤ 40) (W : yi_W L yl yi yp yo yt) (hb : ∀ i, i < n → (b i = true ↔ ¬ yr_R K AX AY AZ L yi yp i)) (H : post (nI (za_cn b n))) : wpY_waiting post (nI n, 0, yf, K, AX, AY, AZ, yl, yi, yv, yp, yo, yt) := by
  unfold wpY_waiting
  dsimp only
  exact br_t rfl ⟨n + 1, yw_waiting_l V hn W hb H n 0 (by omega)⟩
theorem yw_classes_l {post : Int32 → Prop} (W : yi_W L yl yi yp yo yt) (H : post (nI (xi_cl L))) : ∀ m i, i + m = 12 → wY_classes_14 post yn yb yf K AX AY AZ yl yi yv yp yo yt (m + 1) (nI (za_cn (fun x => decide (L x = x)) i)) (nI i) := by
  intro m
  induction m with
  | zero =>
    intro i hi
    have : i = 12 := by omega
    subst this
    unfold wY_classes_14
    exact br_t (by decide) H
  | succ m ih =>
    intro i hi
    have h12 : i < 12 := by omega
    have e := za_cn_s (fun x => decide (L x = x)) i
    obtain ⟨a1, a2, _⟩ := W i h12
    unfold wY_classes_14
    rw [za_c12 h12, a1]
    refine br_f (nI_ge (b := 12) h12 (by decide)) ⟨za_i12 h12, br_c (fun q => ?_) (fun q => ?_)⟩
    · have q1 : L i = i := (nI_eq (by omega) (by omega)).mp q
      rw [if_pos (by simp [q1])] at e
      exact nm_r e (nm_r (nI_1 i) (ih (i + 1) (by omega)))
    · have q1 : ¬ L i = i := fun z => q (by rw [z])
      rw [if_neg (by simp [q1]), Int32.add_zero] at e
      rw [e]
      exact nm_r (nI_1 i) (ih (i + 1) (by omega))
theorem yw_classes {post : Int32 → Prop} (W : yi_W L yl yi yp yo yt) (H : post (nI (xi_cl L))) : wpY_classes post (yn, 0, yf, K, AX, AY, AZ, yl, yi, yv, yp, yo, yt) := by
  unfold wpY_classes
  dsimp only
  exact br_t rfl ⟨13, yw_classes_l W H 12 0 (by decide)⟩
theorem yw_isv {post : Int32 → Prop} {p : Int32} (H1 : vp_in p 12 → post 1) (H0 : ¬ vp_in p 12 → post 0) : wpY_isVariable post (yn, yb, yf, K, AX, AY, AZ, yl, yi, yv, yp, yo, yt) p := by
  unfold wpY_isVariable
  dsimp only
  refine br_c (fun q => H0 (fun w => (tl_in.mp w).1 q)) (fun q => br_c (fun q2 => H0 (fun w => (tl_in.mp w).2 q2)) (fun q2 => H1 (tl_in.mpr ⟨q, q2⟩)))
theorem yw_fits {post : Int32 → Prop} {v1 v2 v3 v4 : Int32} (H1 : tl_ok v1 v2 v3 v4 → post 1) (H0 : ¬ tl_ok v1 v2 v3 v4 → post 0) : wpY_fits post (yn, yb, yf, K, AX, AY, AZ, yl, yi, yv, yp, yo, yt) v1 v2 v3 v4 := by
  unfold wpY_fits
  dsimp only
  refine br_c (fun q => H0 (fun w => (tl_kr w.1).1 q)) (fun q => br_c (fun q7 => H0 (fun w => (tl_kr w.1).2 q7)) (fun q7 => ?_))
  have k := tl_k q q7
  have go : vp_in v2 12 → (v1 ≠ 1 → vp_in v3 12) → wY_fits_35 post v1 v4 yn yb yf K AX AY AZ yl yi yv yp yo yt := by
    intro i2 i3
    have ok1 : ¬ (v1 = 2 ∨ v1 = 3 ∨ v1 = 4 ∨ v1 = 7) → tl_ok v1 v2 v3 v4 := fun z => ⟨k, i2, i3, fun y => absurd y z⟩
    unfold wY_fits_35
    refine br_c (fun z => H1 (ok1 (by rw [z]; decide))) (fun z0 => br_c (fun z => H1 (ok1 (by rw [z]; decide))) (fun z1 => br_c (fun z => H1 (ok1 (by rw [z]; decide))) (fun z5 => br_c (fun z => H1 (ok1 (by rw [z]; decide))) (fun z6 => ?_))))
    have kk : v1 = 2 ∨ v1 = 3 ∨ v1 = 4 ∨ v1 = 7 := by
      rcases k with w | w | w | w | w | w | w | w
      · exact absurd w z0
      · exact absurd w z1
      · exact Or.inl w
      · exact Or.inr (Or.inl w)
      · exact Or.inr (Or.inr (Or.inl w))
      · exact absurd w z5
      · exact absurd w z6
      · exact Or.inr (Or.inr (Or.inr w))
    exact yw_isv (fun i4 => br_f (by decide) (H1 ⟨k, i2, i3, fun _ => i4⟩)) (fun i4 => br_t rfl (H0 (fun w => i4 (w.2.2.2 kk))))
  refine yw_isv (fun i2 => br_f (by decide) ?_) (fun i2 => br_t rfl (H0 (fun w => i2 w.2.1)))
  refine br_c (fun q1 => go i2 (fun w => absurd q1 w)) (fun q1 => ?_)
  exact yw_isv (fun i3 => br_f (by decide) (go i2 (fun _ => i3))) (fun i3 => br_t rfl (H0 (fun w => i3 (w.2.2.1 q1))))
theorem yw_tell {post : Int32 → SY → Prop} {v1 v2 v3 v4 : Int32} (V : ms_V n K AX AY AZ) (hn : n ≤ 40) (hf : n = 40 → post (-2) (nI n, 0, yf, K, AX, AY, AZ, yl, yi, yv, yp, yo, yt)) (hb : n < 40 → ¬ tl_ok v1 v2 v3 v4 → post (-1) (nI n, 0, yf, K, AX, AY, AZ, yl, yi, yv, yp, yo, yt))
    (ho : n < 40 → tl_ok v1 v2 v3 v4 → ms_V (n + 1) (upd K n v1) (upd AX n v2) (upd AY n v3) (upd AZ n v4) → ∀ yb yf L yl yi yv yp yo yt, yi_I (n + 1) (upd K n v1) (upd AX n v2) (upd AY n v3) (upd AZ n v4) yb L yl yi yv yp yo yt → (yb = 0 → ∀ j, j < n + 1 → ym_H (upd K n v1) (upd AX n v2) (upd AY n v3) (upd AZ n v4) L yi yv yp yo yt j) → (yb = 0 → post (nI (n + 1)) (nI (n + 1), yb, yf, upd K n v1, upd AX n v2, upd AY n v3, upd AZ n v4, yl, yi, yv, yp, yo, yt)) ∧ (¬ yb = 0 → post (-3) (nI (n + 1), yb, yf, upd K n v1, upd AX n v2, upd AY n v3, upd AZ n v4, yl, yi, yv, yp, yo, yt))) :
    wpY_tell post (nI n, 0, yf, K, AX, AY, AZ, yl, yi, yv, yp, yo, yt) v1 v2 v3 v4 := by
  unfold wpY_tell
  dsimp only
  refine br_t rfl ?_
  by_cases h40 : n = 40
  · refine br_t ?_ (hf h40)
    subst h40
    rfl
  · have hn2 : n < 40 := by omega
    refine br_f (fun z => h40 ((nI_eq (b := 40) (by omega) (by decide)).mp z)) ?_
    refine yw_fits (fun ok => br_f (by decide) ?_) (fun ok => br_t rfl (hb hn2 ok))
    rw [za_c40 hn2]
    have V' : ms_V (n + 1) (upd K n v1) (upd AX n v2) (upd AY n v3) (upd AZ n v4) := by
      intro i hi
      by_cases z : i = n
      · subst z
        unfold ms_V1
        rw [pk_us, pk_us, pk_us, pk_us]
        exact ok
      · exact (ms_V1_cg (pk_un z) (pk_un z) (pk_un z) (pk_un z)).mpr (V i (by omega))
    refine ⟨za_i40 hn2, nm_e ⟨za_i40 hn2, nm_e ⟨za_i40 hn2, nm_e ⟨za_i40 hn2, nm_e (nm_r (nI_1 n) ?_)⟩⟩⟩⟩
    exact yw_follow V' (by omega) (fun yb yf L yl yi yv yp yo yt I' H' => ho hn2 ok V' yb yf L yl yi yv yp yo yt I' H')
end
end
section
/-! where the two meet -/
section
variable {n : Nat} {K AX AY AZ : Nat → Int32} {h : Nat → Nat} {sp : Int64} {st nm lf rt : Nat → Int32} {wt : Nat → Int64} {ja jb : Nat → Int32} {L : Nat → Nat} {yl yi yv yp yo yt : Nat → Int32}
/-- the reference's state is a model -/
theorem ym_M (H : ∀ j, j < n → ym_H K AX AY AZ L yi yv yp yo yt j) : ms_M n K AX AY AZ L (ym_t L yi yp) (ym_v L yv) (ym_o L yo) (ym_o L yt) := ⟨ym_G, H⟩
/-- with the component whole, the reference isn't broken -/
theorem re_nb {yb : Int32} (V : ms_V n K AX AY AZ) (Ix : xi_I n K AX AY AZ h sp 0 0 st nm lf rt wt ja jb) (Iy : yi_I n K AX AY AZ yb L yl yi yv yp yo yt) : yb = 0 := (Iy.2.2.2 _ _ _ _ _ (xm_M V Ix)).1
theorem re_eqE (V : ms_V n K AX AY AZ) (Ix : xi_I n K AX AY AZ h sp 0 0 st nm lf rt wt ja jb) (Iy : yi_I n K AX AY AZ 0 L yl yi yv yp yo yt) (H : ∀ j, j < n → ym_H K AX AY AZ L yi yv yp yo yt j) {x y : Nat} (hx : x < 12) (hy : y < 12) : h x = h y ↔ L x = L y := by
  have a := (Ix.2.2 _ _ _ _ _ (ym_M H)).1.1
  have b := (Iy.2.2.2 _ _ _ _ _ (xm_M V Ix)).2.1
  exact ⟨fun q => by rw [← a x hx, ← a y hy, q], fun q => by rw [← b x hx, ← b y hy, q]⟩
theorem re_eqI (V : ms_V n K AX AY AZ) (Ix : xi_I n K AX AY AZ h sp 0 0 st nm lf rt wt ja jb) (Iy : yi_I n K AX AY AZ 0 L yl yi yv yp yo yt) (H : ∀ j, j < n → ym_H K AX AY AZ L yi yv yp yo yt j) {x : Nat} (hx : x < 12) : (st (h x) = 1 ↔ yi (L x) = 1) ∧ (st (h x) = 1 → nm (h x) = yv (L x)) := by
  have a := (ms_up ym_G (Ix.2.2 _ _ _ _ _ (ym_M H)).1 Ix.1.1 hx).1
  have b := (ms_up (xm_M V Ix).1 (Iy.2.2.2 _ _ _ _ _ (xm_M V Ix)).2 (yi_hh Iy.1) hx).1
  refine ⟨⟨fun q => ym_t1.mp (a q).1, fun q => (b q).1⟩, fun q => (a q).2.symm⟩
theorem re_eqP (V : ms_V n K AX AY AZ) (Ix : xi_I n K AX AY AZ h sp 0 0 st nm lf rt wt ja jb) (Iy : yi_I n K AX AY AZ 0 L yl yi yv yp yo yt) (H : ∀ j, j < n → ym_H K AX AY AZ L yi yv yp yo yt j) {x : Nat} (hx : x < 12) : (st (h x) = 2 ↔ yp (L x) = 1) ∧ (st (h x) = 2 → L (lf (h x)).toNatClampNeg = L (yo (L x)).toNatClampNeg ∧ L (rt (h x)).toNatClampNeg = L (yt (L x)).toNatClampNeg) := by
  have a := (ms_up ym_G (Ix.2.2 _ _ _ _ _ (ym_M H)).1 Ix.1.1 hx).2
  have b := (ms_up (xm_M V Ix).1 (Iy.2.2.2 _ _ _ _ _ (xm_M V Ix)).2 (yi_hh Iy.1) hx).2
  refine ⟨⟨fun q => (ym_t2.mp (a q).1).2, fun q => (b q).1⟩, fun q => ⟨(a q).2.1.symm, (a q).2.2.symm⟩⟩
/-- suspended in the component: not ready in the reference -/
theorem re_sp (V : ms_V n K AX AY AZ) (Ix : xi_I n K AX AY AZ h sp 0 0 st nm lf rt wt ja jb) (Iy : yi_I n K AX AY AZ 0 L yl yi yv yp yo yt) (H : ∀ j, j < n → ym_H K AX AY AZ L yi yv yp yo yt j) {i : Nat} (hi : i < n) : za_bt sp i = true ↔ ¬ yr_R K AX AY AZ L yi yp i := by
  obtain ⟨Vk, Vx, Vy, Vz⟩ := V i hi
  obtain ⟨c0, c1, c2, c3, c5, c6⟩ := Ix.2.1 h ⟨fun x hx => (Ix.1.1 x hx).2, fun j hj => absurd hj (by omega)⟩ i hi
  constructor
  · intro q R
    obtain ⟨_, hk⟩ := Ix.1.2.2.2.2.2.2 i q
    rcases xi_k5 hk with k | k | k
    · have k1 : K i ≠ 1 := by rcases k with w | w | w <;> rw [w] <;> decide
      have ly := za_l12 (Vy k1)
      have lz := za_l12 (Vz (Or.inr k))
      rcases R with R | ⟨_, R1, R2⟩ | ⟨R, _⟩
      · rcases k with w | w | w <;> rw [w] at R <;> exact absurd R (by decide)
      · exact xi_Wf ((c3 k).1 q) (by decide) ((re_eqI V Ix Iy H ly).1.mpr R1) ((re_eqI V Ix Iy H lz).1.mpr R2)
      · rcases k with w | w | w <;> rw [w] at R <;> exact absurd R (by decide)
    · have ly := za_l12 (Vy (by rw [k]; decide))
      rcases R with R | ⟨R, _⟩ | ⟨_, R⟩
      · rw [k] at R; exact absurd R (by decide)
      · rw [k] at R; exact absurd R (by decide)
      · have s2 := (re_eqP V Ix Iy H ly).1.mpr R
        exact xi_Wf ((c5 k).1 q) (by decide) s2 s2
    · have ly := za_l12 (Vy (by rw [k]; decide))
      rcases R with R | ⟨R, _⟩ | ⟨_, R⟩
      · rw [k] at R; exact absurd R (by decide)
      · rw [k] at R; exact absurd R (by decide)
      · have s2 := (re_eqP V Ix Iy H ly).1.mpr R
        exact xi_Wf ((c6 k).1 q) (by decide) s2 s2
  · intro R
    cases hb : za_bt sp i with
    | true => rfl
    | false =>
      exfalso
      apply R
      have op : (K i = 3 ∨ K i = 4 ∨ K i = 7) → yr_R K AX AY AZ L yi yp i := by
        intro k
        have k1 : K i ≠ 1 := by rcases k with w | w | w <;> rw [w] <;> decide
        have ly := za_l12 (Vy k1)
        have lz := za_l12 (Vz (Or.inr k))
        obtain ⟨b1, b2, _⟩ := (c3 k).2 hb
        exact Or.inr (Or.inl ⟨k, (re_eqI V Ix Iy H ly).1.mp b1, (re_eqI V Ix Iy H lz).1.mp b2⟩)
      rcases Vk with w | w | w | w | w | w | w | w
      · exact Or.inl (Or.inl w)
      · exact Or.inl (Or.inr (Or.inl w))
      · exact Or.inl (Or.inr (Or.inr w))
      · exact op (Or.inl w)
      · exact op (Or.inr (Or.inl w))
      · have ly := za_l12 (Vy (by rw [w]; decide))
        exact Or.inr (Or.inr ⟨Or.inl w, (re_eqP V Ix Iy H ly).1.mp ((c5 w).2 hb).1⟩)
      · have ly := za_l12 (Vy (by rw [w]; decide))
        exact Or.inr (Or.inr ⟨Or.inr w, (re_eqP V Ix Iy H ly).1.mp ((c6 w).2 hb).1⟩)
      · exact op (Or.inr (Or.inr w))
/-- as many heads as leasts -/
theorem re_cl (V : ms_V n K AX AY AZ) (Ix : xi_I n K AX AY AZ h sp 0 0 st nm lf rt wt ja jb) (Iy : yi_I n K AX AY AZ 0 L yl yi yv yp yo yt) (H : ∀ j, j < n → ym_H K AX AY AZ L yi yv yp yo yt j) : xi_cl h = xi_cl L := by
  have E := fun {x y : Nat} (hx : x < 12) (hy : y < 12) => re_eqE V Ix Iy H hx hy
  have hh := Ix.1.1
  have hL := yi_hh Iy.1
  apply Nat.le_antisymm
  · refine za_cn_inj L 12 12 _ (fun i hi q => ?_) (fun i j hi hj q1 q2 q => ?_)
    · simp only [decide_eq_true_eq]
      exact hL i hi
    · simp only [decide_eq_true_eq] at q1 q2
      have := (E hi hj).mpr q
      rw [q1, q2] at this
      exact this
  · refine za_cn_inj h 12 12 _ (fun i hi q => ?_) (fun i j hi hj q1 q2 q => ?_)
    · simp only [decide_eq_true_eq]
      exact hh i hi
    · simp only [decide_eq_true_eq] at q1 q2
      have := (E hi hj).mp q
      rw [q1, q2] at this
      exact this
end
/-- the two states belong together -/
def re_R (sc : Int32) (sp : Int64) (jc : Int32) (rd : Int64) (br : Int32) (kd : Nat → Int32) (tg : Nat → Int32) (sy : Nat → Int32) (sz : Nat → Int32) (a : Nat → Int32) (wg : Nat → Int32) (st : Nat → Int32) (nm : Nat → Int32) (lf : Nat → Int32) (rt : Nat → Int32) (wt : Nat → Int64) (ja : Nat → Int32) (jb : Nat → Int32) (yn : Int32) (yb : Int32) (yf : Int32) (K : Nat → Int32) (AX : Nat → Int32) (AY : Nat → Int32) (AZ : Nat → Int32) (yl : Nat → Int32) (yi : Nat → Int32) (yv : Nat → Int32) (yp : Nat → Int32) (yo : Nat → Int32) (yt : Nat → Int32) : Prop := ∃ n : Nat, n ≤ 40 ∧ sc = nI n ∧ yn = nI n ∧ ((br = 1 ∧ yb = 1) ∨ (br = 0 ∧ yb = 0 ∧ jc = nI 0 ∧ rd = 0 ∧ ms_V n K AX AY AZ ∧ xa_S n K AX AY AZ kd tg sy sz ∧ ∃ h L, fo_F a h ∧ xi_I n K AX AY AZ h sp 0 0 st nm lf rt wt ja jb ∧ yi_I n K AX AY AZ 0 L yl yi yv yp yo yt ∧ ∀ j, j < n → ym_H K AX AY AZ L yi yv yp yo yt j))
/-- the relation at the head of a turn whose first cell is k -/
def i_Rel (k : Nat) (u : SX) (v : SY) : Prop := match u, v with
  | (sc, sp, jc, rd, br, kd, tg, sy, sz, a, wg, st, nm, lf, rt, wt, ja, jb), (yn, yb, yf, K, AX, AY, AZ, yl, yi, yv, yp, yo, yt) => re_R sc sp jc rd br kd tg sy sz a wg st nm lf rt wt ja jb yn yb yf K AX AY AZ yl yi yv yp yo yt
theorem i_up {k : Nat} {u : SX} {v : SY} (h : i_Rel k u v) : i_Rel (k + 5) u v := h
section
variable {k : Nat} {sc : Int32} {sp : Int64} {jc : Int32} {rd : Int64} {br : Int32} {kd : Nat → Int32} {tg : Nat → Int32} {sy : Nat → Int32} {sz : Nat → Int32} {a : Nat → Int32} {wg : Nat → Int32} {st : Nat → Int32} {nm : Nat → Int32} {lf : Nat → Int32} {rt : Nat → Int32} {wt : Nat → Int64} {ja : Nat → Int32} {jb : Nat → Int32} {yn : Int32} {yb : Int32} {yf : Int32} {K : Nat → Int32} {AX : Nat → Int32} {AY : Nat → Int32} {AZ : Nat → Int32} {yl : Nat → Int32} {yi : Nat → Int32} {yv : Nat → Int32} {yp : Nat → Int32} {yo : Nat → Int32} {yt : Nat → Int32}
theorem re_B {n : Nat} (hn : n ≤ 40) : i_Rel k (nI n, sp, jc, rd, 1, kd, tg, sy, sz, a, wg, st, nm, lf, rt, wt, ja, jb) (nI n, 1, yf, K, AX, AY, AZ, yl, yi, yv, yp, yo, yt) := ⟨n, hn, rfl, rfl, Or.inl ⟨rfl, rfl⟩⟩
theorem re_G {n : Nat} {h L : Nat → Nat} (hn : n ≤ 40) (V : ms_V n K AX AY AZ) (SA : xa_S n K AX AY AZ kd tg sy sz) (F : fo_F a h) (Ix : xi_I n K AX AY AZ h sp 0 0 st nm lf rt wt ja jb) (Iy : yi_I n K AX AY AZ 0 L yl yi yv yp yo yt) (H : ∀ j, j < n → ym_H K AX AY AZ L yi yv yp yo yt j) : i_Rel k (nI n, sp, nI 0, 0, 0, kd, tg, sy, sz, a, wg, st, nm, lf, rt, wt, ja, jb) (nI n, 0, yf, K, AX, AY, AZ, yl, yi, yv, yp, yo, yt) :=
  ⟨n, hn, rfl, rfl, Or.inr ⟨rfl, rfl, rfl, rfl, V, SA, h, L, F, Ix, Iy, H⟩⟩
end
theorem re_el {P : SX → SY → Prop} {k : Nat} {u : SX} {v : SY}
    (hB : ∀ (n : Nat) (sc : Int32) (sp : Int64) (jc : Int32) (rd : Int64) (br : Int32) (kd : Nat → Int32) (tg : Nat → Int32) (sy : Nat → Int32) (sz : Nat → Int32) (a : Nat → Int32) (wg : Nat → Int32) (st : Nat → Int32) (nm : Nat → Int32) (lf : Nat → Int32) (rt : Nat → Int32) (wt : Nat → Int64) (ja : Nat → Int32) (jb : Nat → Int32) (yn : Int32) (yb : Int32) (yf : Int32) (K : Nat → Int32) (AX : Nat → Int32) (AY : Nat → Int32) (AZ : Nat → Int32) (yl : Nat → Int32) (yi : Nat → Int32) (yv : Nat → Int32) (yp : Nat → Int32) (yo : Nat → Int32) (yt : Nat → Int32), n ≤ 40 → P (nI n, sp, jc, rd, 1, kd, tg, sy, sz, a, wg, st, nm, lf, rt, wt, ja, jb) (nI n, 1, yf, K, AX, AY, AZ, yl, yi, yv, yp, yo, yt))
    (hG : ∀ (n : Nat) (sc : Int32) (sp : Int64) (jc : Int32) (rd : Int64) (br : Int32) (kd : Nat → Int32) (tg : Nat → Int32) (sy : Nat → Int32) (sz : Nat → Int32) (a : Nat → Int32) (wg : Nat → Int32) (st : Nat → Int32) (nm : Nat → Int32) (lf : Nat → Int32) (rt : Nat → Int32) (wt : Nat → Int64) (ja : Nat → Int32) (jb : Nat → Int32) (yn : Int32) (yb : Int32) (yf : Int32) (K : Nat → Int32) (AX : Nat → Int32) (AY : Nat → Int32) (AZ : Nat → Int32) (yl : Nat → Int32) (yi : Nat → Int32) (yv : Nat → Int32) (yp : Nat → Int32) (yo : Nat → Int32) (yt : Nat → Int32) (h L : Nat → Nat), n ≤ 40 → ms_V n K AX AY AZ → xa_S n K AX AY AZ kd tg sy sz → fo_F a h → xi_I n K AX AY AZ h sp 0 0 st nm lf rt wt ja jb → yi_I n K AX AY AZ 0 L yl yi yv yp yo yt → (∀ j, j < n → ym_H K AX AY AZ L yi yv yp yo yt j) → P (nI n, sp, nI 0, 0, 0, kd, tg, sy, sz, a, wg, st, nm, lf, rt, wt, ja, jb) (nI n, 0, yf, K, AX, AY, AZ, yl, yi, yv, yp, yo, yt))
    (I : i_Rel k u v) : P u v := by
  obtain ⟨sc, sp, jc, rd, br, kd, tg, sy, sz, a, wg, st, nm, lf, rt, wt, ja, jb⟩ := u
  obtain ⟨yn, yb, yf, K, AX, AY, AZ, yl, yi, yv, yp, yo, yt⟩ := v
  obtain ⟨n, hn, e1, e2, I⟩ := I
  rcases I with ⟨e3, e4⟩ | ⟨e3, e4, e5, e6, V, SA, h, L, F, Ix, Iy, H⟩
  · subst e1 e2 e3 e4
    exact hB n 0 sp jc rd 0 kd tg sy sz a wg st nm lf rt wt ja jb 0 0 yf K AX AY AZ yl yi yv yp yo yt hn
  · subst e1 e2 e3 e4 e5 e6
    exact hG n 0 sp 0 0 0 kd tg sy sz a wg st nm lf rt wt ja jb 0 0 yf K AX AY AZ yl yi yv yp yo yt h L hn V SA F Ix Iy H
end
section
/-! what is owed -/
theorem i_vc0 : wpX_init (fun u => wpY_init (fun v => i_Rel 0 u v)) := by
  unfold wpX_init
  refine xw_restart (K := fun _ => 0) (AX := fun _ => 0) (AY := fun _ => 0) (AZ := fun _ => 0) (fun a' wg' st' wt' F I => ?_)
  dsimp only
  unfold wpY_init
  have V : ms_V 0 (fun _ => 0) (fun _ => 0) (fun _ => 0) (fun _ => 0) := fun i hi => absurd hi (by omega)
  refine yw_follow (n := 0) V (by decide) (fun yb yf L yl yi yv yp yo yt I' H' => ?_)
  have e := re_nb V I I'
  subst e
  exact re_G (n := 0) (by decide) V (fun i hi => absurd hi (by omega)) F I I' (H' rfl)
theorem i_vc_clear {k : Nat} {u : SX} {v : SY} (I : i_Rel k u v) (hk : k + 5 ≤ 2560) : wpX_clear (fun r u' => wpY_clear (fun r' v' => r' = r ∧ i_Rel (k + 5) u' v') v) u := by
  have g : ∀ (n : Nat) (sc : Int32) (sp : Int64) (jc : Int32) (rd : Int64) (br : Int32) (kd : Nat → Int32) (tg : Nat → Int32) (sy : Nat → Int32) (sz : Nat → Int32) (a : Nat → Int32) (wg : Nat → Int32) (st : Nat → Int32) (nm : Nat → Int32) (lf : Nat → Int32) (rt : Nat → Int32) (wt : Nat → Int64) (ja : Nat → Int32) (jb : Nat → Int32) (yn : Int32) (yb : Int32) (yf : Int32) (K : Nat → Int32) (AX : Nat → Int32) (AY : Nat → Int32) (AZ : Nat → Int32) (yl : Nat → Int32) (yi : Nat → Int32) (yv : Nat → Int32) (yp : Nat → Int32) (yo : Nat → Int32) (yt : Nat → Int32), wpX_clear (fun r u' => wpY_clear (fun r' v' => r' = r ∧ i_Rel (k + 5) u' v') (nI n, yb, yf, K, AX, AY, AZ, yl, yi, yv, yp, yo, yt)) (nI n, sp, jc, rd, br, kd, tg, sy, sz, a, wg, st, nm, lf, rt, wt, ja, jb) := by
    intro n sc sp jc rd br kd tg sy sz a wg st nm lf rt wt ja jb yn yb yf K AX AY AZ yl yi yv yp yo yt
    unfold wpX_clear
    dsimp only
    refine xw_restart (K := K) (AX := AX) (AY := AY) (AZ := AZ) (fun a' wg' st' wt' F I => ?_)
    dsimp only
    unfold wpY_clear
    dsimp only
    have V : ms_V 0 K AX AY AZ := fun i hi => absurd hi (by omega)
    refine yw_follow (n := 0) V (by decide) (fun yb yf L yl yi yv yp yo yt I' H' => ?_)
    have e := re_nb V I I'
    subst e
    exact ⟨rfl, re_G (n := 0) (by decide) V (fun i hi => absurd hi (by omega)) F I I' (H' rfl)⟩
  refine re_el (P := fun u v => wpX_clear (fun r u' => wpY_clear (fun r' v' => r' = r ∧ i_Rel (k + 5) u' v') v) u) ?_ ?_ I
  · intro n sc sp jc rd br kd tg sy sz a wg st nm lf rt wt ja jb yn yb yf K AX AY AZ yl yi yv yp yo yt hn
    exact g n 0 sp jc rd 1 kd tg sy sz a wg st nm lf rt wt ja jb 0 1 yf K AX AY AZ yl yi yv yp yo yt
  · intro n sc sp jc rd br kd tg sy sz a wg st nm lf rt wt ja jb yn yb yf K AX AY AZ yl yi yv yp yo yt h L hn V SA F Ix Iy H
    exact g n 0 sp (nI 0) 0 0 kd tg sy sz a wg st nm lf rt wt ja jb 0 0 yf K AX AY AZ yl yi yv yp yo yt
theorem i_vc_failed {k : Nat} {u : SX} {v : SY} (I : i_Rel k u v) (hk : k + 5 ≤ 2560) : wpX_failed (fun r => wpY_failed (fun r' => r' = r ∧ i_Rel (k + 5) u v) v) u := by
  have I' := i_up I
  revert I'
  refine re_el (P := fun u v => i_Rel (k + 5) u v → wpX_failed (fun r => wpY_failed (fun r' => r' = r ∧ i_Rel (k + 5) u v) v) u) ?_ ?_ I
  · intro n sc sp jc rd br kd tg sy sz a wg st nm lf rt wt ja jb yn yb yf K AX AY AZ yl yi yv yp yo yt hn I'
    unfold wpX_failed wpY_failed
    exact ⟨yw_nb (Or.inr rfl), yw_nb (Or.inr rfl), rfl, I'⟩
  · intro n sc sp jc rd br kd tg sy sz a wg st nm lf rt wt ja jb yn yb yf K AX AY AZ yl yi yv yp yo yt h L hn V SA F Ix Iy H I'
    unfold wpX_failed wpY_failed
    exact ⟨yw_nb (Or.inl rfl), yw_nb (Or.inl rfl), rfl, I'⟩
theorem i_vc_waiting {k : Nat} {u : SX} {v : SY} (I : i_Rel k u v) (hk : k + 5 ≤ 2560) : wpX_waiting (fun r => wpY_waiting (fun r' => r' = r ∧ i_Rel (k + 5) u v) v) u := by
  have I' := i_up I
  revert I'
  refine re_el (P := fun u v => i_Rel (k + 5) u v → wpX_waiting (fun r => wpY_waiting (fun r' => r' = r ∧ i_Rel (k + 5) u v) v) u) ?_ ?_ I
  · intro n sc sp jc rd br kd tg sy sz a wg st nm lf rt wt ja jb yn yb yf K AX AY AZ yl yi yv yp yo yt hn I'
    unfold wpX_waiting wpY_waiting
    exact br_f (by decide) (br_f (by decide) ⟨rfl, I'⟩)
  · intro n sc sp jc rd br kd tg sy sz a wg st nm lf rt wt ja jb yn yb yf K AX AY AZ yl yi yv yp yo yt h L hn V SA F Ix Iy H I'
    refine xw_waiting hn ?_
    exact yw_waiting V hn Iy.1 (fun i hi => re_sp V Ix Iy H hi) ⟨rfl, I'⟩
theorem i_vc_classes {k : Nat} {u : SX} {v : SY} (I : i_Rel k u v) (hk : k + 5 ≤ 2560) : wpX_classes (fun r => wpY_classes (fun r' => r' = r ∧ i_Rel (k + 5) u v) v) u := by
  have I' := i_up I
  revert I'
  refine re_el (P := fun u v => i_Rel (k + 5) u v → wpX_classes (fun r => wpY_classes (fun r' => r' = r ∧ i_Rel (k + 5) u v) v) u) ?_ ?_ I
  · intro n sc sp jc rd br kd tg sy sz a wg st nm lf rt wt ja jb yn yb yf K AX AY AZ yl yi yv yp yo yt hn I'
    unfold wpX_classes wpY_classes
    exact br_f (by decide) (br_f (by decide) ⟨rfl, I'⟩)
  · intro n sc sp jc rd br kd tg sy sz a wg st nm lf rt wt ja jb yn yb yf K AX AY AZ yl yi yv yp yo yt h L hn V SA F Ix Iy H I'
    refine xw_classes F ?_
    refine yw_classes Iy.1 ⟨?_, I'⟩
    rw [re_cl V Ix Iy H]
theorem i_vc_state {k : Nat} {u : SX} {v : SY} (I : i_Rel k u v) (hk : k + 5 ≤ 2560) (v1 : Int32) : wpX_state (fun r u' => wpY_state (fun r' => r' = r ∧ i_Rel (k + 5) u' v) v v1) u v1 := by
  refine re_el (P := fun u v => wpX_state (fun r u' => wpY_state (fun r' => r' = r ∧ i_Rel (k + 5) u' v) v v1) u v1) ?_ ?_ I
  · intro n sc sp jc rd br kd tg sy sz a wg st nm lf rt wt ja jb yn yb yf K AX AY AZ yl yi yv yp yo yt hn
    unfold wpX_state wpY_state
    exact br_f (by decide) (br_f (by decide) ⟨rfl, re_B hn⟩)
  · intro n sc sp jc rd br kd tg sy sz a wg st nm lf rt wt ja jb yn yb yf K AX AY AZ yl yi yv yp yo yt h L hn V SA F Ix Iy H
    unfold wpX_state
    dsimp only
    refine br_t rfl ?_
    refine xw_isv (fun iv => br_f (by decide) ?_) (fun iv => br_t rfl ?_)
    · refine xw_head F iv (fun a' F' => ?_)
      have lx := za_l12 iv
      obtain ⟨hx, hxx⟩ := Ix.1.1 _ lx
      obtain ⟨c1, c2, c3, _⟩ := Iy.1 _ lx
      have lL : L v1.toNatClampNeg < 12 := by omega
      obtain ⟨_, _, _, d4, d5, _⟩ := Iy.1 _ lL
      have eI := (re_eqI V Ix Iy H lx).1
      have eP := (re_eqP V Ix Iy H lx).1
      have G : i_Rel (k + 5) (nI n, sp, nI 0, 0, 0, kd, tg, sy, sz, a', wg, st, nm, lf, rt, wt, ja, jb) (nI n, 0, yf, K, AX, AY, AZ, yl, yi, yv, yp, yo, yt) := re_G hn V SA F' Ix Iy H
      dsimp only
      rw [za_c12 hx]
      refine ⟨za_i12 hx, ?_⟩
      unfold wpY_state
      dsimp only
      refine br_t rfl ?_
      refine yw_isv (fun _ => br_f (by decide) ?_) (fun w => absurd iv w)
      rw [c1, za_c12 lL]
      refine ⟨iv, za_i12 lL, br_c (fun q => ⟨iv, za_i12 lL, br_c (fun q2 => ⟨?_, G⟩) (fun q2 => ⟨?_, G⟩)⟩) (fun q => ⟨?_, G⟩)⟩
      · rcases Ix.1.2.1 _ hx with y | y | y
        · exact y.symm
        · have := eI.mp y; rw [q] at this; exact absurd this (by decide)
        · have := eP.mp y; rw [q2] at this; exact absurd this (by decide)
      · exact (eP.mpr (yi_01 d5 q2)).symm
      · exact (eI.mpr (yi_01 d4 q)).symm
    · unfold wpY_state
      dsimp only
      refine br_t rfl ?_
      exact yw_isv (fun w => absurd w iv) (fun _ => br_t rfl ⟨rfl, re_G hn V SA F Ix Iy H⟩)
theorem i_vc_value {k : Nat} {u : SX} {v : SY} (I : i_Rel k u v) (hk : k + 5 ≤ 2560) (v1 : Int32) : wpX_value (fun r u' => wpY_value (fun r' => r' = r ∧ i_Rel (k + 5) u' v) v v1) u v1 := by
  refine re_el (P := fun u v => wpX_value (fun r u' => wpY_value (fun r' => r' = r ∧ i_Rel (k + 5) u' v) v v1) u v1) ?_ ?_ I
  · intro n sc sp jc rd br kd tg sy sz a wg st nm lf rt wt ja jb yn yb yf K AX AY AZ yl yi yv yp yo yt hn
    unfold wpX_value wpY_value
    dsimp only
    exact xw_isv (fun iv => br_f (by decide) (br_f (by decide) (br_f (by decide) ⟨rfl, re_B hn⟩))) (fun iv => br_t rfl (br_f (by decide) ⟨rfl, re_B hn⟩))
  · intro n sc sp jc rd br kd tg sy sz a wg st nm lf rt wt ja jb yn yb yf K AX AY AZ yl yi yv yp yo yt h L hn V SA F Ix Iy H
    unfold wpX_value
    dsimp only
    refine xw_isv (fun iv => br_f (by decide) (br_t rfl ?_)) (fun iv => br_t rfl ?_)
    · refine xw_head F iv (fun a' F' => ?_)
      have lx := za_l12 iv
      obtain ⟨hx, hxx⟩ := Ix.1.1 _ lx
      obtain ⟨c1, c2, c3, _⟩ := Iy.1 _ lx
      have lL : L v1.toNatClampNeg < 12 := by omega
      obtain ⟨_, _, _, d4, d5, _⟩ := Iy.1 _ lL
      obtain ⟨eI, eV⟩ := re_eqI V Ix Iy H lx
      have G : i_Rel (k + 5) (nI n, sp, nI 0, 0, 0, kd, tg, sy, sz, a', wg, st, nm, lf, rt, wt, ja, jb) (nI n, 0, yf, K, AX, AY, AZ, yl, yi, yv, yp, yo, yt) := re_G hn V SA F' Ix Iy H
      dsimp only
      rw [za_c12 hx]
      unfold wpY_value
      dsimp only
      rw [c1, za_c12 lL]
      refine ⟨za_i12 hx, br_c (fun q => ⟨za_i12 hx, br_t rfl ?_⟩) (fun q => br_t rfl ?_)⟩
      · refine yw_isv (fun _ => br_f (by decide) ⟨iv, za_i12 lL, br_f ?_ ⟨iv, za_i12 lL, (eV q).symm, G⟩⟩) (fun w => absurd iv w)
        rw [eI.mp q]; decide
      · refine yw_isv (fun _ => br_f (by decide) ⟨iv, za_i12 lL, br_t ?_ ⟨rfl, G⟩⟩) (fun w => absurd iv w)
        rcases d4 with z | z
        · exact z
        · exact absurd (eI.mpr z) q
    · unfold wpY_value
      dsimp only
      refine br_t rfl ?_
      exact yw_isv (fun w => absurd w iv) (fun _ => br_t rfl ⟨rfl, re_G hn V SA F Ix Iy H⟩)
theorem i_vc_linked {k : Nat} {u : SX} {v : SY} (I : i_Rel k u v) (hk : k + 5 ≤ 2560) (v1 : Int32) (v2 : Int32) : wpX_linked (fun r u' => wpY_linked (fun r' => r' = r ∧ i_Rel (k + 5) u' v) v v1 v2) u v1 v2 := by
  refine re_el (P := fun u v => wpX_linked (fun r u' => wpY_linked (fun r' => r' = r ∧ i_Rel (k + 5) u' v) v v1 v2) u v1 v2) ?_ ?_ I
  · intro n sc sp jc rd br kd tg sy sz a wg st nm lf rt wt ja jb yn yb yf K AX AY AZ yl yi yv yp yo yt hn
    unfold wpX_linked wpY_linked
    dsimp only
    exact xw_isv (fun _ => br_f (by decide) (xw_isv (fun _ => br_f (by decide) (br_f (by decide) (br_f (by decide) ⟨rfl, re_B hn⟩))) (fun _ => br_t rfl (br_f (by decide) ⟨rfl, re_B hn⟩)))) (fun _ => br_t rfl (br_f (by decide) ⟨rfl, re_B hn⟩))
  · intro n sc sp jc rd br kd tg sy sz a wg st nm lf rt wt ja jb yn yb yf K AX AY AZ yl yi yv yp yo yt h L hn V SA F Ix Iy H
    unfold wpX_linked
    dsimp only
    refine xw_isv (fun iv => br_f (by decide) ?_) (fun iv => br_t rfl ?_)
    · refine xw_isv (fun iw => br_f (by decide) (br_t rfl ?_)) (fun iw => br_t rfl ?_)
      · refine xw_head F iv (fun a1 F1 => ?_)
        dsimp only
        refine xw_head F1 iw (fun a2 F2 => ?_)
        have lx := za_l12 iv
        have ly := za_l12 iw
        obtain ⟨hx, _⟩ := Ix.1.1 _ lx
        obtain ⟨hy, _⟩ := Ix.1.1 _ ly
        obtain ⟨c1, c2, c3, _⟩ := Iy.1 _ lx
        obtain ⟨d1, d2, d3, _⟩ := Iy.1 _ ly
        have E := re_eqE V Ix Iy H lx ly
        have G : i_Rel (k + 5) (nI n, sp, nI 0, 0, 0, kd, tg, sy, sz, a2, wg, st, nm, lf, rt, wt, ja, jb) (nI n, 0, yf, K, AX, AY, AZ, yl, yi, yv, yp, yo, yt) := re_G hn V SA F2 Ix Iy H
        dsimp only
        unfold wpY_linked
        dsimp only
        rw [c1, d1]
        refine br_c (fun q => br_t rfl ?_) (fun q => br_t rfl ?_)
        · refine yw_isv (fun _ => br_f (by decide) (yw_isv (fun _ => br_f (by decide) ⟨iv, iw, br_t ?_ ⟨rfl, G⟩⟩) (fun w => absurd iw w))) (fun w => absurd iv w)
          rw [E.mp ((nI_eq (by omega) (by omega)).mp q)]
        · refine yw_isv (fun _ => br_f (by decide) (yw_isv (fun _ => br_f (by decide) ⟨iv, iw, br_f ?_ ⟨rfl, G⟩⟩) (fun w => absurd iw w))) (fun w => absurd iv w)
          intro z
          exact q (by rw [E.mpr ((nI_eq (by omega) (by omega)).mp z)])
      · unfold wpY_linked
        dsimp only
        refine br_t rfl ?_
        exact yw_isv (fun _ => br_f (by decide) (yw_isv (fun w => absurd w iw) (fun _ => br_t rfl ⟨rfl, re_G hn V SA F Ix Iy H⟩))) (fun w => absurd iv w)
    · unfold wpY_linked
      dsimp only
      refine br_t rfl ?_
      exact yw_isv (fun w => absurd w iv) (fun _ => br_t rfl ⟨rfl, re_G hn V SA F Ix Iy H⟩)
theorem i_vc_part {k : Nat} {u : SX} {v : SY} (I : i_Rel k u v) (hk : k + 5 ≤ 2560) (v1 : Int32) (v2 : Int32) : wpX_part (fun r u' => wpY_part (fun r' => r' = r ∧ i_Rel (k + 5) u' v) v v1 v2) u v1 v2 := by
  refine re_el (P := fun u v => wpX_part (fun r u' => wpY_part (fun r' => r' = r ∧ i_Rel (k + 5) u' v) v v1 v2) u v1 v2) ?_ ?_ I
  · intro n sc sp jc rd br kd tg sy sz a wg st nm lf rt wt ja jb yn yb yf K AX AY AZ yl yi yv yp yo yt hn
    unfold wpX_part wpY_part
    dsimp only
    exact xw_isv (fun _ => br_f (by decide) (br_f (by decide) (br_f (by decide) ⟨rfl, re_B hn⟩))) (fun _ => br_t rfl (br_f (by decide) ⟨rfl, re_B hn⟩))
  · intro n sc sp jc rd br kd tg sy sz a wg st nm lf rt wt ja jb yn yb yf K AX AY AZ yl yi yv yp yo yt h L hn V SA F Ix Iy H
    unfold wpX_part
    dsimp only
    refine xw_isv (fun iv => br_f (by decide) (br_t rfl ?_)) (fun iv => br_t rfl ?_)
    · have lx := za_l12 iv
      obtain ⟨hx, _⟩ := Ix.1.1 _ lx
      obtain ⟨c1, c2, c3, _⟩ := Iy.1 _ lx
      have lL : L v1.toNatClampNeg < 12 := by omega
      obtain ⟨_, _, _, d4, d5, d6⟩ := Iy.1 _ lL
      obtain ⟨eP, eV⟩ := re_eqP V Ix Iy H lx
      -- whatever the reference finds first
      have yp0 : (yp (L v1.toNatClampNeg) = 0 ∨ v2 < 0 ∨ ¬ v2 ≤ 1) → ∀ a', fo_F a' h → wpY_part (fun r' => r' = -1 ∧ i_Rel (k + 5) (nI n, sp, nI 0, 0, 0, kd, tg, sy, sz, a', wg, st, nm, lf, rt, wt, ja, jb) (nI n, 0, yf, K, AX, AY, AZ, yl, yi, yv, yp, yo, yt)) (nI n, 0, yf, K, AX, AY, AZ, yl, yi, yv, yp, yo, yt) v1 v2 := by
        intro hor a' F'
        have G : i_Rel (k + 5) (nI n, sp, nI 0, 0, 0, kd, tg, sy, sz, a', wg, st, nm, lf, rt, wt, ja, jb) (nI n, 0, yf, K, AX, AY, AZ, yl, yi, yv, yp, yo, yt) := re_G hn V SA F' Ix Iy H
        unfold wpY_part
        dsimp only
        rw [c1, za_c12 lL]
        refine br_t rfl ?_
        refine yw_isv (fun _ => br_f (by decide) ⟨iv, za_i12 lL, br_c (fun _ => ⟨rfl, G⟩) (fun q => br_c (fun _ => ⟨rfl, G⟩) (fun q2 => ?_))⟩) (fun w => absurd iv w)
        rcases hor with z | z | z
        · exact absurd z q
        · exact absurd z q2
        · exact br_f z ⟨rfl, G⟩
      refine br_c (fun q => yp0 (Or.inr (Or.inl q)) a F) (fun q => br_c (fun q1 => ?_) (fun q1 => yp0 (Or.inr (Or.inr q1)) a F))
      refine xw_head F iv (fun a1 F1 => ?_)
      dsimp only
      rw [za_c12 hx]
      refine ⟨za_i12 hx, br_c (fun s2 => ?_) (fun s2 => yp0 (Or.inl ?_) a1 F1)⟩
      · obtain ⟨vl, vr⟩ := Ix.1.2.2.1 _ hx s2
        have p1 := eP.mp s2
        obtain ⟨vo, vt⟩ := d6 p1
        obtain ⟨eo, et⟩ := eV s2
        have np : ¬ yp (L v1.toNatClampNeg) = 0 := by rw [p1]; decide
        have low : ∀ w, w < 12 → L w < 12 ∧ h (L w) = h w ∧ ∀ s, s < L w → h s ≠ h w := by
          intro w hw
          obtain ⟨_, e2, e3, _⟩ := Iy.1 w hw
          have l1 : L w < 12 := by omega
          refine ⟨l1, (re_eqE V Ix Iy H l1 hw).mpr e3, fun s hs z => ?_⟩
          have e4 := (re_eqE V Ix Iy H (show s < 12 by omega) hw).mp z
          obtain ⟨_, e5, _⟩ := Iy.1 s (by omega)
          omega
        refine br_c (fun z => ⟨za_i12 hx, ?_⟩) (fun z => ⟨za_i12 hx, ?_⟩)
        · obtain ⟨l1, l2, l3⟩ := low _ (za_l12 vl)
          refine xw_part64 F1 vl l1 l2 l3 (fun a2 F2 => ?_)
          have G : i_Rel (k + 5) (nI n, sp, nI 0, 0, 0, kd, tg, sy, sz, a2, wg, st, nm, lf, rt, wt, ja, jb) (nI n, 0, yf, K, AX, AY, AZ, yl, yi, yv, yp, yo, yt) := re_G hn V SA F2 Ix Iy H
          unfold wpY_part
          dsimp only
          rw [c1, za_c12 lL]
          refine br_t rfl ?_
          refine yw_isv (fun _ => br_f (by decide) ⟨iv, za_i12 lL, br_f np (br_f q (br_t q1 (br_t z ⟨iv, za_i12 lL, vo, ?_, G⟩)))⟩) (fun w => absurd iv w)
          rw [(Iy.1 _ (za_l12 vo)).1, eo]
        · obtain ⟨l1, l2, l3⟩ := low _ (za_l12 vr)
          refine xw_part64 F1 vr l1 l2 l3 (fun a2 F2 => ?_)
          have G : i_Rel (k + 5) (nI n, sp, nI 0, 0, 0, kd, tg, sy, sz, a2, wg, st, nm, lf, rt, wt, ja, jb) (nI n, 0, yf, K, AX, AY, AZ, yl, yi, yv, yp, yo, yt) := re_G hn V SA F2 Ix Iy H
          unfold wpY_part
          dsimp only
          rw [c1, za_c12 lL]
          refine br_t rfl ?_
          refine yw_isv (fun _ => br_f (by decide) ⟨iv, za_i12 lL, br_f np (br_f q (br_t q1 (br_f z ⟨iv, za_i12 lL, vt, ?_, G⟩)))⟩) (fun w => absurd iv w)
          rw [(Iy.1 _ (za_l12 vt)).1, et]
      · rcases d5 with z | z
        · exact z
        · exact absurd (eP.mpr z) s2
    · unfold wpY_part
      dsimp only
      refine br_t rfl ?_
      exact yw_isv (fun w => absurd w iv) (fun _ => br_t rfl ⟨rfl, re_G hn V SA F Ix Iy H⟩)
theorem i_vc_tell {k : Nat} {u : SX} {v : SY} (I : i_Rel k u v) (hk : k + 5 ≤ 2560) (v1 : Int32) (v2 : Int32) (v3 : Int32) (v4 : Int32) : wpX_tell (fun r u' => wpY_tell (fun r' v' => r' = r ∧ i_Rel (k + 5) u' v') v v1 v2 v3 v4) u v1 v2 v3 v4 := by
  refine re_el (P := fun u v => wpX_tell (fun r u' => wpY_tell (fun r' v' => r' = r ∧ i_Rel (k + 5) u' v') v v1 v2 v3 v4) u v1 v2 v3 v4) ?_ ?_ I
  · intro n sc sp jc rd br kd tg sy sz a wg st nm lf rt wt ja jb yn yb yf K AX AY AZ yl yi yv yp yo yt hn
    unfold wpX_tell wpY_tell
    exact br_f (by decide) (br_f (by decide) ⟨rfl, re_B hn⟩)
  · intro n sc sp jc rd br kd tg sy sz a wg st nm lf rt wt ja jb yn yb yf K AX AY AZ yl yi yv yp yo yt h L hn V SA F Ix Iy H
    have G : i_Rel (k + 5) (nI n, sp, nI 0, 0, 0, kd, tg, sy, sz, a, wg, st, nm, lf, rt, wt, ja, jb) (nI n, 0, yf, K, AX, AY, AZ, yl, yi, yv, yp, yo, yt) := re_G hn V SA F Ix Iy H
    -- a valid statement, up to the flag of the third variable
    have ok : n < 40 → tl_ok v1 v2 v3 v4 → ∀ z0, ((v1 = 3 ∨ v1 = 4 ∨ v1 = 7) → z0 ≠ 0) → ((v1 = 5 ∨ v1 = 6) → z0 = 0) → wX_tell_101 (fun r u' => wpY_tell (fun r' v' => r' = r ∧ i_Rel (k + 5) u' v') (nI n, 0, yf, K, AX, AY, AZ, yl, yi, yv, yp, yo, yt) v1 v2 v3 v4) v1 v2 v3 v4 z0 (nI n) sp (nI 0) 0 0 kd tg sy sz a wg st nm lf rt wt ja jb := by
      intro hn2 hok z0 hz hz5
      have agr : ∀ i, i < n → upd K n v1 i = K i ∧ upd AX n v2 i = AX i ∧ upd AY n v3 i = AY i ∧ upd AZ n v4 i = AZ i := fun i hi => ⟨pk_un (by omega), pk_un (by omega), pk_un (by omega), pk_un (by omega)⟩
      have V' : ms_V (n + 1) (upd K n v1) (upd AX n v2) (upd AY n v3) (upd AZ n v4) := by
        intro i hi
        by_cases z : i = n
        · subst z
          unfold ms_V1
          rw [pk_us, pk_us, pk_us, pk_us]
          exact hok
        · exact (ms_V1_cg (pk_un z) (pk_un z) (pk_un z) (pk_un z)).mpr (V i (by omega))
      have SA' : xa_S n (upd K n v1) (upd AX n v2) (upd AY n v3) (upd AZ n v4) kd tg sy sz := by
        intro i hi
        obtain ⟨g1, g2, g3, g4⟩ := agr i hi
        rw [g1, g2, g3, g4]
        exact SA i hi
      have nbad : tl_ok v1 v2 v3 v4 → ¬ ¬ tl_ok v1 v2 v3 v4 := fun a b => b a
      refine xw_101 V' hn2 SA' pk_us pk_us pk_us pk_us hz hz5 (fun kd' tg' sy' sz' a' wg' h' sp' st' nm' lf' rt' wt' ja' jb' S' F' I' => ?_) (fun hN kd' tg' sy' sz' a' wg' sp' rd' jc' st' nm' lf' rt' wt' ja' jb' => ?_) F (xi_ag agr Ix)
      · refine yw_tell V hn (fun z => by omega) (fun _ z => absurd hok z) (fun _ _ _ yb2 yf2 L2 yl2 yi2 yv2 yp2 yo2 yt2 I2 H2 => ⟨fun z => ?_, fun z => absurd (re_nb V' I' I2) z⟩)
        subst z
        exact ⟨rfl, re_G (by omega) V' S' F' I' I2 (H2 rfl)⟩
      · refine yw_tell V hn (fun z => by omega) (fun _ z => absurd hok z) (fun _ _ _ yb2 yf2 L2 yl2 yi2 yv2 yp2 yo2 yt2 I2 H2 => ⟨fun z => (hN _ _ _ _ _ (ym_M (H2 z))).elim, fun z => ?_⟩)
        have z1 := yi_01 I2.2.1 z
        subst z1
        exact ⟨rfl, re_B (by omega)⟩
    refine xw_tell_g hn (fun h40 => ?_) (fun hn2 hbad => ?_) (fun hn2 hok h3 => ok hn2 hok 0 (fun z => absurd (Or.inr z) h3) (fun _ => rfl)) (fun hn2 hok h3 => ok hn2 hok 1 (fun _ => by decide) (fun z => ?_))
    · exact yw_tell V hn (fun _ => ⟨rfl, G⟩) (fun z => by omega) (fun z => by omega)
    · exact yw_tell V hn (fun z => by omega) (fun _ _ => ⟨rfl, G⟩) (fun _ hok => absurd hok hbad)
    · rcases z with z | z <;> rw [z] at h3 <;> exact absurd h3 (by decide)
end
