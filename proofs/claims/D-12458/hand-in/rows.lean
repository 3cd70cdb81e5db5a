section
/-! numbers -/
theorem mq_bm {n : Int} (h1 : -2147483648 ≤ n) (h2 : n < 2147483648) : n.bmod (2 ^ 32) = n := by
  rw [Int.bmod_def]; omega
theorem mq_ad {x y : Int32} (h1 : -2147483648 ≤ x.toInt + y.toInt) (h2 : x.toInt + y.toInt < 2147483648) : (x + y).toInt = x.toInt + y.toInt := by
  rw [Int32.toInt_add, mq_bm h1 h2]
theorem mq_sb {x y : Int32} (h1 : -2147483648 ≤ x.toInt - y.toInt) (h2 : x.toInt - y.toInt < 2147483648) : (x - y).toInt = x.toInt - y.toInt := by
  rw [Int32.toInt_sub, mq_bm h1 h2]
theorem mq_ml {x y : Int32} (h1 : -2147483648 ≤ x.toInt * y.toInt) (h2 : x.toInt * y.toInt < 2147483648) : (x * y).toInt = x.toInt * y.toInt := by
  rw [Int32.toInt_mul, mq_bm h1 h2]
theorem mq_le {x y : Int32} : x ≤ y ↔ x.toInt ≤ y.toInt := Int32.le_iff_toInt_le
theorem mq_lt {x y : Int32} : x < y ↔ x.toInt < y.toInt := Int32.lt_iff_toInt_lt
theorem mq_eq {x y : Int32} : x = y ↔ x.toInt = y.toInt := Int32.toInt_inj.symm
theorem mq_0 : (0 : Int32).toInt = 0 := by decide
theorem mq_nI {n : Nat} (h : n < 2147483648) : (nI n).toInt = (n : Int) := nI_toInt h
theorem mq_nn {n : Nat} (h : n < 2147483648) : 0 ≤ nI n := nI_pos' h
theorem mq_ix (c u v : Nat) : (nI u * nI c) + nI v = nI (u * c + v) := by rw [pk_mul, nI_add]
theorem mq_cx {u v : Nat} (c : Nat) (h : u * c + v < 2147483648) : ((nI u * nI c) + nI v).toNatClampNeg = u * c + v := by rw [mq_ix, nI_clamp h]
theorem mq_inj {a b : Nat} (ha : a < 2147483648) (hb : b < 2147483648) (h : nI a = nI b) : a = b := (nI_eq ha hb).mp h
/-! a branch on numbers -/
theorem mq_bl {x y : Int32} {A B : Prop} (f : x.toInt ≤ y.toInt → A) (g : y.toInt < x.toInt → B) : (x ≤ y → A) ∧ (¬ x ≤ y → B) :=
  ⟨fun h => f (mq_le.mp h), fun h => g (by have := mt mq_le.mpr h; omega)⟩
theorem mq_bt' {x y : Int32} {A B : Prop} (f : x.toInt < y.toInt → A) (g : y.toInt ≤ x.toInt → B) : (x < y → A) ∧ (¬ x < y → B) :=
  ⟨fun h => f (mq_lt.mp h), fun h => g (by have := mt mq_lt.mpr h; omega)⟩
theorem mq_be {x y : Int32} {A B : Prop} (f : x.toInt = y.toInt → A) (g : x.toInt ≠ y.toInt → B) : (x = y → A) ∧ (¬ x = y → B) :=
  ⟨fun h => f (mq_eq.mp h), fun h => g (fun z => h (mq_eq.mpr z))⟩
/-! bits -/
def mq_bt (x : Int32) (i : Nat) : Bool := x.toBitVec.getLsbD i
theorem mq_ext {x y : Int32} (h : ∀ i, i < 32 → mq_bt x i = mq_bt y i) : x = y := Int32.toBitVec_inj.mp (BitVec.eq_of_getLsbD_eq (fun i hi => h i hi))
theorem mq_or (x y : Int32) (i : Nat) : mq_bt (x ||| y) i = (mq_bt x i || mq_bt y i) := by unfold mq_bt; rw [Int32.toBitVec_or, BitVec.getLsbD_or]
theorem mq_and (x y : Int32) (i : Nat) : mq_bt (x &&& y) i = (mq_bt x i && mq_bt y i) := by unfold mq_bt; rw [Int32.toBitVec_and, BitVec.getLsbD_and]
theorem mq_xor (x y : Int32) (i : Nat) : mq_bt (x ^^^ y) i = (mq_bt x i ^^ mq_bt y i) := by unfold mq_bt; rw [Int32.toBitVec_xor, BitVec.getLsbD_xor]
theorem mq_m1 : ∀ i, i < 32 → mq_bt (-1) i = true := by decide +kernel
theorem mq_b0 (i : Nat) : mq_bt 0 i = false := BitVec.getLsbD_zero
theorem mq_127 : ∀ i, i < 32 → mq_bt 127 i = decide (i < 7) := by decide +kernel
theorem mq_one : ∀ n, n < 32 → ∀ i, i < 32 → mq_bt ((1 : Int32) <<< (nI n &&& 31)) i = decide (i = n) := by decide +kernel
theorem mq_not (x : Int32) {i : Nat} (hi : i < 32) : mq_bt (x ^^^ (-1)) i = !mq_bt x i := by rw [mq_xor, mq_m1 i hi, Bool.xor_true]
theorem mq_sl : ∀ n, n < 32 → ((nI n &&& 31).toBitVec.smod 32).toNat = n := by decide +kernel
theorem mq_shr (n : Nat) (hn : n < 32) (x : Int32) {i : Nat} (hi : i < 32) : mq_bt (x >>> (nI n &&& 31)) i = if n + i < 32 then mq_bt x (n + i) else mq_bt x 31 := by
  unfold mq_bt
  rw [Int32.toBitVec_shiftRight]
  show (x.toBitVec.sshiftRight ((nI n &&& 31).toBitVec.smod 32).toNat).getLsbD i = _
  rw [mq_sl n hn, BitVec.getLsbD_sshiftRight, BitVec.msb_eq_getLsbD_last]
  simp [hi]
theorem mq_a1 (y : Int32) : y &&& 1 = if mq_bt y 0 then 1 else 0 := by
  apply Int32.toBitVec_inj.mp
  rw [Int32.toBitVec_and]
  show y.toBitVec &&& 1#32 = _
  rw [BitVec.and_one_eq_setWidth_ofBool_getLsbD]
  show BitVec.setWidth 32 (BitVec.ofBool (mq_bt y 0)) = _
  cases mq_bt y 0 <;> decide
theorem mq_bit (x : Int32) {v : Nat} (hv : v < 32) : (x >>> (nI v &&& 31)) &&& 1 = if mq_bt x v then 1 else 0 := by
  have h := mq_shr v hv x (i := 0) (by omega)
  rw [Nat.add_zero, if_pos hv] at h
  rw [mq_a1, h]
theorem mq_in {post : Int32 → Prop} {u : St2} (x : Int32) {y : Int32} (v : Nat) (hv : v < 32) (Ht : mq_bt x v = true → post 1) (Hf : mq_bt x v = false → post 0) (hy : y = nI v := by rfl) : wpX_in post u x y := by
  subst hy
  unfold wpX_in
  rw [mq_bit x hv]
  cases h : mq_bt x v
  · exact br_f (by decide) (Hf h)
  · exact br_t (by decide) (Ht h)
/-! sums and counts -/
def mq_sm (f : Nat → Int) : Nat → Int
  | 0 => 0
  | n + 1 => mq_sm f n + f n
theorem mq_sm_cg {f g : Nat → Int} {n : Nat} (h : ∀ i, i < n → f i = g i) : mq_sm f n = mq_sm g n := by
  induction n with
  | zero => rfl
  | succ n ih => rw [mq_sm, mq_sm, ih (fun i hi => h i (by omega)), h n (by omega)]
theorem mq_sm_up {f g : Nat → Int} {n k : Nat} {d : Int} (hk : k < n) (h : ∀ i, i < n → i ≠ k → g i = f i) (hd : g k = f k + d) : mq_sm g n = mq_sm f n + d := by
  induction n with
  | zero => omega
  | succ n ih =>
    rw [mq_sm, mq_sm]
    by_cases e : k = n
    · subst e
      rw [mq_sm_cg (f := g) (g := f) (fun i hi => h i (by omega) (by omega)), hd]
      omega
    · rw [ih (by omega) (fun i hi => h i (by omega)), h n (by omega) (by omega)]
      omega
theorem mq_sm_nn {f : Nat → Int} {n : Nat} (h : ∀ i, i < n → 0 ≤ f i) : 0 ≤ mq_sm f n := by
  induction n with
  | zero => exact Int.le_refl 0
  | succ n ih =>
    have h1 := ih (fun i hi => h i (by omega))
    have h2 := h n (by omega)
    rw [mq_sm]
    omega
theorem mq_sm_0 {f : Nat → Int} {n : Nat} (h : ∀ i, i < n → f i = 0) : mq_sm f n = 0 := by
  induction n with
  | zero => rfl
  | succ n ih => rw [mq_sm, ih (fun i hi => h i (by omega)), h n (by omega)]; rfl
theorem mq_sm_le {f g : Nat → Int} {n : Nat} (h : ∀ i, i < n → f i ≤ g i) : mq_sm f n ≤ mq_sm g n := by
  induction n with
  | zero => exact Int.le_refl 0
  | succ n ih =>
    have h1 := ih (fun i hi => h i (by omega))
    have h2 := h n (by omega)
    rw [mq_sm, mq_sm]
    omega
theorem mq_sm_ub {f : Nat → Int} {n : Nat} {B : Int} (h : ∀ i, i < n → f i ≤ B) : mq_sm f n ≤ n * B := by
  induction n with
  | zero => simp [mq_sm]
  | succ n ih =>
    have h1 := ih (fun i hi => h i (by omega))
    have h2 := h n (by omega)
    have h3 : ((n + 1 : Nat) : Int) * B = n * B + B := by rw [Int.natCast_add, Int.add_mul]; simp
    rw [mq_sm, h3]
    omega
theorem mq_sm_one {f : Nat → Int} {n k : Nat} (hk : k < n) (h : ∀ i, i < n → 0 ≤ f i) : f k ≤ mq_sm f n := by
  induction n with
  | zero => omega
  | succ n ih =>
    rw [mq_sm]
    by_cases e : k = n
    · subst e
      have := mq_sm_nn (f := f) (n := k) (fun i hi => h i (by omega))
      omega
    · have h1 := ih (by omega) (fun i hi => h i (by omega))
      have h2 := h n (by omega)
      omega
def mq_cn (f : Nat → Bool) : Nat → Nat
  | 0 => 0
  | n + 1 => mq_cn f n + if f n then 1 else 0
theorem mq_cn_cg {f g : Nat → Bool} {n : Nat} (h : ∀ i, i < n → f i = g i) : mq_cn f n = mq_cn g n := by
  induction n with
  | zero => rfl
  | succ n ih => rw [mq_cn, mq_cn, ih (fun i hi => h i (by omega)), h n (by omega)]
theorem mq_cn_le (f : Nat → Bool) (n : Nat) : mq_cn f n ≤ n := by
  induction n with
  | zero => exact Nat.le_refl 0
  | succ n ih => rw [mq_cn]; split <;> omega
theorem mq_cn_mono {f g : Nat → Bool} {n : Nat} (h : ∀ i, i < n → g i = true → f i = true) : mq_cn g n ≤ mq_cn f n := by
  induction n with
  | zero => exact Nat.le_refl 0
  | succ n ih =>
    have h1 := ih (fun i hi => h i (by omega))
    have h2 := h n (by omega)
    rw [mq_cn, mq_cn]
    cases hg : g n
    · simp; omega
    · rw [h2 hg]; simp; omega
theorem mq_cn_lt {f g : Nat → Bool} {n k : Nat} (hk : k < n) (h : ∀ i, i < n → g i = true → f i = true) (h1 : f k = true) (h2 : g k = false) : mq_cn g n < mq_cn f n := by
  induction n with
  | zero => omega
  | succ n ih =>
    rw [mq_cn, mq_cn]
    by_cases e : k = n
    · subst e
      have := mq_cn_mono (f := f) (g := g) (n := k) (fun i hi => h i (by omega))
      rw [h1, h2]; simp; omega
    · have h3 := ih (by omega) (fun i hi => h i (by omega))
      have h4 := h n (by omega)
      cases hg : g n
      · simp; omega
      · rw [h4 hg]; simp; omega
theorem mq_cn_up {f g : Nat → Bool} {n k : Nat} (hk : k < n) (h : ∀ i, i < n → i ≠ k → g i = f i) (h1 : f k = false) (h2 : g k = true) : mq_cn g n = mq_cn f n + 1 := by
  induction n with
  | zero => omega
  | succ n ih =>
    rw [mq_cn, mq_cn]
    by_cases e : k = n
    · subst e
      rw [mq_cn_cg (f := g) (g := f) (fun i hi => h i (by omega) (by omega)), h1, h2]
      simp
    · rw [ih (by omega) (fun i hi => h i (by omega)), h n (by omega) (by omega)]
      omega
theorem mq_cn_0 {f : Nat → Bool} {n : Nat} (h : mq_cn f n = 0) : ∀ i, i < n → f i = false := by
  induction n with
  | zero => intro i hi; omega
  | succ n ih =>
    rw [mq_cn] at h
    intro i hi
    by_cases e : i = n
    · subst e
      cases hf : f i
      · rfl
      · rw [hf] at h; simp at h
    · exact ih (by omega) i (by omega)
theorem mq_cn_z {f : Nat → Bool} {n : Nat} (h : ∀ i, i < n → f i = false) : mq_cn f n = 0 := by
  induction n with
  | zero => rfl
  | succ n ih => rw [mq_cn, ih (fun i hi => h i (by omega)), h n (by omega)]; rfl
/-! cuts -/
def mq_ct (S : Nat → Bool) (r : Nat → Int32) : Int := mq_sm (fun k => if S (k / 9) && !S (k % 9) then (r k).toInt else 0) 81
theorem mq_ct_up (S : Nat → Bool) {r r' : Nat → Int32} {u v : Nat} (hu : u < 9) (hv : v < 9) (h : ∀ k, k < 81 → k ≠ u * 9 + v → r' k = r k) : mq_ct S r' = mq_ct S r + (if S u && !S v then (r' (u * 9 + v)).toInt - (r (u * 9 + v)).toInt else 0) := by
  unfold mq_ct
  refine mq_sm_up (k := u * 9 + v) (by omega) (fun i hi hne => ?_) ?_
  · show (if S (i / 9) && !S (i % 9) then (r' i).toInt else 0) = _
    rw [h i hi hne]
  · show (if S ((u * 9 + v) / 9) && !S ((u * 9 + v) % 9) then (r' (u * 9 + v)).toInt else 0) = (if S ((u * 9 + v) / 9) && !S ((u * 9 + v) % 9) then (r (u * 9 + v)).toInt else 0) + _
    rw [show (u * 9 + v) / 9 = u by omega, show (u * 9 + v) % 9 = v by omega]
    split <;> omega
theorem mq_ct_nn (S : Nat → Bool) {r : Nat → Int32} (h : ∀ u v, u < 9 → v < 9 → 0 ≤ (r (u * 9 + v)).toInt) : 0 ≤ mq_ct S r := by
  unfold mq_ct
  refine mq_sm_nn (fun i hi => ?_)
  have := h (i / 9) (i % 9) (by omega) (by omega)
  rw [show i / 9 * 9 + i % 9 = i by omega] at this
  split <;> omega
theorem mq_ct_0 {S : Nat → Bool} {r : Nat → Int32} (h : ∀ u v, u < 9 → v < 9 → S u = true → S v = false → (r (u * 9 + v)).toInt = 0) : mq_ct S r = 0 := by
  unfold mq_ct
  refine mq_sm_0 (fun i hi => ?_)
  split
  · rename_i z
    have z1 : S (i / 9) = true ∧ S (i % 9) = false := by simpa using z
    have := h (i / 9) (i % 9) (by omega) (by omega) z1.1 z1.2
    rw [show i / 9 * 9 + i % 9 = i by omega] at this
    exact this
  · rfl
theorem mq_ct_le {S : Nat → Bool} {r r' : Nat → Int32} (h : ∀ u v, u < 9 → v < 9 → (r (u * 9 + v)).toInt ≤ (r' (u * 9 + v)).toInt) : mq_ct S r ≤ mq_ct S r' := by
  unfold mq_ct
  refine mq_sm_le (fun i hi => ?_)
  have := h (i / 9) (i % 9) (by omega) (by omega)
  rw [show i / 9 * 9 + i % 9 = i by omega] at this
  split <;> omega
end
section
theorem mq_i9 (u v : Nat) : (nI u * 9) + nI v = nI (u * 9 + v) := mq_ix 9 u v
theorem mq_i7 (u v : Nat) : (nI u * 7) + nI v = nI (u * 7 + v) := mq_ix 7 u v
theorem mq_fill {s : Nat → Int32} {i k : Nat} {P : Nat → Int32 → Prop} {x : Int32} (hk : k = i) (h : ∀ j, j < i → P j (s j)) (hx : P i x) : ∀ j, j < i + 1 → P j (upd s k x j) := by
  intro j hj
  rw [hk]
  by_cases e : j = i
  · rw [e, pk_us]; exact hx
  · rw [pk_un e]
    exact h j (by omega)
/-- a search under way: who came is counted and stands in the queue; the place in the queue falls along came -/
def mq_B (l cm qu : Nat → Int32) (e : Nat) (rk : Nat → Nat) : Prop :=
  cm 7 = nI 7 ∧
  (∀ v, v < 9 → 0 ≤ cm v → ∃ p, p < 9 ∧ cm v = nI p ∧ 0 ≤ cm p ∧ rk v < e ∧ qu (rk v) = nI v ∧ (v ≠ 7 → rk p < rk v ∧ 0 < (l (p * 9 + v)).toInt)) ∧
  (∀ j, j < e → ∃ u, u < 9 ∧ qu j = nI u ∧ 0 ≤ cm u) ∧
  e = mq_cn (fun v => decide (0 ≤ cm v)) 9
/-- the first i of the queue are dealt with -/
def mq_D (l cm qu : Nat → Int32) (i : Nat) : Prop := ∀ j, j < i → ∀ u, u < 9 → qu j = nI u → ∀ v, v < 9 → 0 < (l (u * 9 + v)).toInt → 0 ≤ cm v
/-- a way from 7 to 8, read from its end -/
def mq_Way (l cm : Nat → Int32) (m : Nat) (pt rk : Nat → Nat) : Prop :=
  m ≤ 8 ∧ pt 0 = 8 ∧ pt m = 7 ∧ (∀ k, k ≤ m → pt k < 9) ∧ ∀ k, k < m → pt k ≠ 7 ∧ cm (pt k) = nI (pt (k + 1)) ∧ rk (pt (k + 1)) < rk (pt k) ∧ 0 < (l (pt (k + 1) * 9 + pt k)).toInt
/-- nothing is left from a set with 7 in it and 8 not -/
def mq_Cl (l : Nat → Int32) : Prop := ∃ S : Nat → Bool, S 7 = true ∧ S 8 = false ∧ ∀ u v, u < 9 → v < 9 → S u = true → S v = false → (l (u * 9 + v)).toInt ≤ 0
theorem mq_B_le {l cm qu : Nat → Int32} {e : Nat} {rk : Nat → Nat} (h : mq_B l cm qu e rk) : e ≤ 9 := by
  rw [h.2.2.2]
  exact mq_cn_le _ _
theorem mq_B_add {l cm qu : Nat → Int32} {e u v : Nat} {rk : Nat → Nat} (h : mq_B l cm qu e rk) (hu : u < 9) (hv : v < 9) (ru : 0 ≤ cm u) (rv : ¬ 0 ≤ cm v) (hl : 0 < (l (u * 9 + v)).toInt) : e < 9 ∧ mq_B l (upd cm v (nI u)) (upd qu e (nI v)) (e + 1) (fun w => if w = v then e else rk w) := by
  obtain ⟨h7, hr, hq, hc⟩ := h
  have he : e < 9 := by
    have := mq_cn_lt (f := fun _ => true) (g := fun w => decide (0 ≤ cm w)) (n := 9) hv (fun _ _ _ => rfl) rfl (decide_eq_false rv)
    have e2 : mq_cn (fun _ => true) 9 = 9 := by decide
    omega
  have uv : u ≠ v := fun z => rv (z ▸ ru)
  have v7 : v ≠ 7 := by
    intro z
    apply rv
    rw [z, h7]
    exact mq_nn (by omega)
  have keep : ∀ w, 0 ≤ cm w → 0 ≤ upd cm v (nI u) w := by
    intro w hw
    by_cases z : w = v
    · rw [z, pk_us]; exact mq_nn (by omega)
    · rw [pk_un z]; exact hw
  refine ⟨he, by rw [pk_un (Ne.symm v7)]; exact h7, ?_, ?_, ?_⟩
  · intro w hw rw'
    by_cases z : w = v
    · obtain ⟨p, _, _, _, h4, _, _⟩ := hr u hu ru
      refine ⟨u, hu, by rw [z, pk_us], keep u ru, ?_, ?_, fun _ => ⟨?_, by rw [z]; exact hl⟩⟩
      · dsimp only; rw [if_pos z]; omega
      · dsimp only; rw [if_pos z, pk_us, z]
      · dsimp only; rw [if_pos z, if_neg uv]; exact h4
    · rw [pk_un z] at rw'
      obtain ⟨p, h1, h2, h3, h4, h5, h6⟩ := hr w hw rw'
      have pv : p ≠ v := fun y => rv (y ▸ h3)
      refine ⟨p, h1, by rw [pk_un z]; exact h2, keep p h3, ?_, ?_, fun w7 => ?_⟩
      · dsimp only; rw [if_neg z]; omega
      · dsimp only; rw [if_neg z, pk_un (by omega)]; exact h5
      · dsimp only; rw [if_neg z, if_neg pv]; exact h6 w7
  · intro j hj
    by_cases z : j = e
    · exact ⟨v, hv, by rw [z, pk_us], by rw [pk_us]; exact mq_nn (by omega)⟩
    · obtain ⟨w, h1, h2, h3⟩ := hq j (by omega)
      exact ⟨w, h1, by rw [pk_un z]; exact h2, keep w h3⟩
  · have := mq_cn_up (f := fun w => decide (0 ≤ cm w)) (g := fun w => decide (0 ≤ upd cm v (nI u) w)) (n := 9) hv (fun i hi hne => by show decide (0 ≤ upd cm v (nI u) i) = decide (0 ≤ cm i); rw [pk_un hne]) (decide_eq_false rv) (decide_eq_true (by rw [pk_us]; exact mq_nn (by omega)))
    omega
theorem mq_D_add {l cm qu : Nat → Int32} {e i u v : Nat} (h : mq_D l cm qu i) (hi : i ≤ e) (hu : u < 9) : mq_D l (upd cm v (nI u)) (upd qu e (nI v)) i := by
  intro j hj w hw hq x hx hl
  rw [pk_un (by omega)] at hq
  have := h j hj w hw hq x hx hl
  by_cases z : x = v
  · rw [z, pk_us]; exact mq_nn (by omega)
  · rw [pk_un z]; exact this
def mq_pt (cm : Nat → Int32) : Nat → Nat
  | 0 => 8
  | k + 1 => (cm (mq_pt cm k)).toNatClampNeg
theorem mq_way {l cm qu : Nat → Int32} {e : Nat} {rk : Nat → Nat} (hB : mq_B l cm qu e rk) (h8 : 0 ≤ cm 8) : ∃ m pt rk, mq_Way l cm m pt rk := by
  have he9 := mq_B_le hB
  have step : ∀ i, (∀ k, k < i → mq_pt cm k ≠ 7) → mq_pt cm i < 9 ∧ 0 ≤ cm (mq_pt cm i) ∧ rk (mq_pt cm i) + i < e := by
    intro i
    induction i with
    | zero =>
      intro _
      obtain ⟨p, _, _, _, h4, _, _⟩ := hB.2.1 8 (by omega) h8
      exact ⟨by show 8 < 9; omega, h8, by show rk 8 + 0 < e; omega⟩
    | succ i ih =>
      intro h
      obtain ⟨x1, x2, x3⟩ := ih (fun k hk => h k (by omega))
      obtain ⟨p, p1, p2, p3, p4, p5, p6⟩ := hB.2.1 _ x1 x2
      have ep : mq_pt cm (i + 1) = p := by
        show (cm (mq_pt cm i)).toNatClampNeg = p
        rw [p2, nI_clamp (by omega)]
      obtain ⟨q1, q2⟩ := p6 (h i (by omega))
      rw [ep]
      exact ⟨p1, p3, by omega⟩
  have ex : ∃ k, mq_pt cm k = 7 := by
    apply Classical.byContradiction
    intro hn
    have := (step 9 (fun k _ z => hn ⟨k, z⟩)).2.2
    omega
  obtain ⟨m, hm, hl⟩ := pk_least _ ex
  refine ⟨m, mq_pt cm, rk, ?_, rfl, hm, fun k hk => (step k (fun j hj => hl j (by omega))).1, fun k hk => ?_⟩
  · have := (step m (fun j hj => hl j hj)).2.2
    omega
  · obtain ⟨x1, x2, x3⟩ := step k (fun j hj => hl j (by omega))
    obtain ⟨p, p1, p2, p3, p4, p5, p6⟩ := hB.2.1 _ x1 x2
    have ep : mq_pt cm (k + 1) = p := by
      show (cm (mq_pt cm k)).toNatClampNeg = p
      rw [p2, nI_clamp (by omega)]
    obtain ⟨q1, q2⟩ := p6 (hl k hk)
    exact ⟨hl k hk, by rw [ep]; exact p2, by rw [ep]; exact q1, by rw [ep]; exact q2⟩
theorem mq_B_0 {l cm qu : Nat → Int32} (h : ∀ k, k < 9 → cm k = -1) : mq_B l (upd cm 7 7) (upd qu 0 7) 1 (fun _ => 0) := by
  have hn : ¬ (0 : Int32) ≤ -1 := by decide
  have h7 : (0 : Int32) ≤ 7 := by decide
  refine ⟨pk_us, ?_, ?_, ?_⟩
  · intro v hv r
    by_cases z : v = 7
    · exact ⟨7, by omega, by rw [z, pk_us]; rfl, by rw [pk_us]; exact h7, Nat.zero_lt_one, by rw [pk_us, z]; rfl, fun t => absurd z t⟩
    · rw [pk_un z, h v hv] at r
      exact absurd r hn
  · intro j hj
    have : j = 0 := by omega
    exact ⟨7, by omega, by rw [this, pk_us]; rfl, by rw [pk_us]; exact h7⟩
  · have := mq_cn_up (f := fun w => decide (0 ≤ cm w)) (g := fun w => decide (0 ≤ upd cm 7 7 w)) (n := 9) (k := 7) (by omega) (fun i hi hne => by show decide (0 ≤ upd cm 7 7 i) = decide (0 ≤ cm i); rw [pk_un hne]) (decide_eq_false (by rw [h 7 (by omega)]; exact hn)) (decide_eq_true (by rw [pk_us]; exact h7))
    have e2 := mq_cn_z (f := fun w => decide (0 ≤ cm w)) (n := 9) (fun i hi => decide_eq_false (by rw [h i hi]; exact hn))
    omega
section
variable {wf fl : Int32} {a1 a2 a3 a4 a5 a6 a7 a8 a9 a10 a11 a12 : Nat → Int32}
theorem mq_fw59 {post : Int32 → St1 → Prop} {J42 : Int32 → Int32 → (Nat → Int32) → (Nat → Int32) → (Nat → Int32) → (Nat → Int32) → (Nat → Int32) → (Nat → Int32) → (Nat → Int32) → (Nat → Int32) → (Nat → Int32) → (Nat → Int32) → (Nat → Int32) → (Nat → Int32) →  Prop} {i u e : Nat} {rk : Nat → Nat} (hu : u < 9) (hi : i < e) (hqi : a7 i = nI u) (hB : mq_B a6 a8 a7 e rk) (hD : mq_D a6 a8 a7 i)
    (H : ∀ e qu cm rk, mq_B a6 cm qu e rk → mq_D a6 cm qu (i + 1) → i + 1 ≤ e → J42 (nI e) (nI (i + 1)) a1 a2 a3 a4 a5 a6 qu cm a9 a10 a11 a12) :
    ∃ n, wX_findWay_59 post J42 (nI i) wf fl n (nI e) 0 a1 a2 a3 a4 a5 a6 a7 a8 a9 a10 a11 a12 := by
  refine pk_loop (σ := Nat × (Nat → Int32) × (Nat → Int32)) (fun n k s => wX_findWay_59 post J42 (nI i) wf fl n (nI s.1) (nI k) a1 a2 a3 a4 a5 a6 s.2.1 s.2.2 a9 a10 a11 a12)
    (fun k s => i < s.1 ∧ s.2.1 i = nI u ∧ mq_D a6 s.2.2 s.2.1 i ∧ (∃ rk, mq_B a6 s.2.2 s.2.1 s.1 rk) ∧ ∀ v, v < k → 0 < (a6 (u * 9 + v)).toInt → 0 ≤ s.2.2 v)
    9 0 (e, a7, a8) (by omega) ⟨hi, hqi, hD, ⟨rk, hB⟩, fun v hv => absurd hv (by omega)⟩ ?_ ?_
  · intro n s hs
    obtain ⟨e, qu, cm⟩ := s
    obtain ⟨h1, h2, h3, ⟨rk, h4⟩, h5⟩ := hs
    dsimp only at h1 h2 h3 h4 h5
    refine pk_le 9 9 (fun _ => nm_r (nI_1 i) (H e qu cm rk h4 ?_ (by omega))) (fun z => absurd z (by omega))
    intro j hj w hw hq x hx hl
    by_cases z : j = i
    · rw [z, h2] at hq
      have hwu := mq_inj (by omega) (by omega) hq
      rw [← hwu] at hl
      exact h5 x hx hl
    · exact h3 j (by omega) w hw hq x hx hl
  · intro n k s hk hs hw
    obtain ⟨e, qu, cm⟩ := s
    obtain ⟨h1, h2, h3, ⟨rk, h4⟩, h5⟩ := hs
    dsimp only at h1 h2 h3 h4 h5
    have he9 := mq_B_le h4
    refine pk_le 9 k (fun z => absurd z (by omega)) (fun _ => ⟨pk_in k 9 hk, ?_⟩)
    dsimp only
    rw [nI_clamp (show k < 2 ^ 31 by omega)]
    refine ⟨fun r => nm_r (nI_1 k) (hw (e, qu, cm) ⟨h1, h2, h3, ⟨rk, h4⟩, fun v hv hl => ?_⟩), fun nr => ⟨pk_in i 9 (by omega), ?_⟩⟩
    · by_cases z : v = k
      · dsimp only; rw [z]; exact r
      · exact h5 v (by omega) hl
    · rw [nI_clamp (show i < 2 ^ 31 by omega), h2, mq_i9, nI_clamp (show u * 9 + k < 2 ^ 31 by omega)]
      refine ⟨pk_in (u * 9 + k) 81 (by omega), ?_⟩
      refine mq_bl (fun z => nm_r (nI_1 k) (hw (e, qu, cm) ⟨h1, h2, h3, ⟨rk, h4⟩, fun v hv hl => ?_⟩)) (fun z => ⟨pk_in i 9 (by omega), pk_in k 9 hk, nm_e ?_⟩)
      · by_cases y : v = k
        · rw [y] at hl
          rw [mq_0] at z
          omega
        · exact h5 v (by omega) hl
      · rw [mq_0] at z
        obtain ⟨u', q1, q2, q3⟩ := h4.2.2.1 i h1
        have huu : u = u' := mq_inj (by omega) (by omega) (h2.symm.trans q2)
        rw [← huu] at q3
        obtain ⟨he, hB'⟩ := mq_B_add h4 hu hk q3 nr z
        rw [nI_clamp (show e < 2 ^ 31 by omega)]
        refine ⟨pk_in e 9 he, nm_e (nm_r (nI_1 e) (nm_r (nI_1 k) (hw (e + 1, upd qu e (nI k), upd cm k (nI u)) ⟨?_, ?_, ?_, ⟨_, hB'⟩, fun v hv hl => ?_⟩)))⟩
        · dsimp only; omega
        · dsimp only; rw [pk_un (by omega)]; exact h2
        · exact mq_D_add h3 (by omega) hu
        · dsimp only
          by_cases y : v = k
          · rw [y, pk_us]; exact mq_nn (by omega)
          · rw [pk_un y]; exact h5 v (by omega) hl
theorem mq_fw42 {post : Int32 → St1 → Prop} (H1 : ∀ qu cm, (∃ m pt rk, mq_Way a6 cm m pt rk) → post 1 (wf, fl, a1, a2, a3, a4, a5, a6, qu, cm, a9, a10, a11, a12)) (H0 : ∀ qu cm, mq_Cl a6 → post 0 (wf, fl, a1, a2, a3, a4, a5, a6, qu, cm, a9, a10, a11, a12)) :
    ∀ (n i e : Nat) (qu cm : Nat → Int32) (rk : Nat → Nat), 9 < n + i → i ≤ e → mq_B a6 cm qu e rk → mq_D a6 cm qu i → wX_findWay_42 post wf fl n (nI e) (nI i) a1 a2 a3 a4 a5 a6 qu cm a9 a10 a11 a12 := by
  intro n
  induction n with
  | zero =>
    intro i e qu cm rk h1 h2 h3 _
    have := mq_B_le h3
    omega
  | succ n ih =>
    intro i e qu cm rk hn hie hB hD
    have he9 := mq_B_le hB
    have hx : (0 ≤ cm 8 ∨ e ≤ i) → wX_findWay_127 post wf fl a1 a2 a3 a4 a5 a6 qu cm a9 a10 a11 a12 := by
      intro hc
      unfold wX_findWay_127
      by_cases r : 0 ≤ cm 8
      · refine ⟨fun z => ?_, fun _ => H1 qu cm (mq_way hB r)⟩
        rw [mq_lt] at z
        rw [mq_le] at r
        omega
      · have hei : e ≤ i := hc.resolve_left r
        have r' : cm 8 < 0 := by
          rw [mq_lt]
          rw [mq_le] at r
          omega
        refine ⟨fun _ => H0 qu cm ⟨fun v => decide (0 ≤ cm v), ?_, decide_eq_false r, ?_⟩, fun z => absurd r' z⟩
        · apply decide_eq_true
          rw [hB.1]
          exact mq_nn (by omega)
        · intro u v hu hv su sv
          obtain ⟨p, p1, p2, p3, p4, p5, p6⟩ := hB.2.1 u hu (of_decide_eq_true su)
          have := hD (rk u) (by omega) u hu p5 v hv
          have nv := of_decide_eq_false sv
          apply Classical.byContradiction
          intro hh
          exact nv (this (by omega))
    refine pk_le e i (fun z => hx (Or.inr z)) (fun z => ⟨fun r => hx (Or.inl r), fun nr => ?_⟩)
    obtain ⟨u, hu, hqu, _⟩ := hB.2.2.1 i z
    exact mq_fw59 hu z hqu hB hD (fun e qu cm rk b d le => ih (i + 1) e qu cm rk (by omega) le b d)
theorem mq_findWay {post : Int32 → St1 → Prop} (H1 : ∀ qu cm, (∃ m pt rk, mq_Way a6 cm m pt rk) → post 1 (wf, fl, a1, a2, a3, a4, a5, a6, qu, cm, a9, a10, a11, a12)) (H0 : ∀ qu cm, mq_Cl a6 → post 0 (wf, fl, a1, a2, a3, a4, a5, a6, qu, cm, a9, a10, a11, a12)) : wpX_findWay post (wf, fl, a1, a2, a3, a4, a5, a6, a7, a8, a9, a10, a11, a12) :=
  pk_loop (fun n i s => wX_findWay_2 post wf fl n (nI i) a1 a2 a3 a4 a5 a6 a7 s a9 a10 a11 a12) (fun i s => ∀ k, k < i → s k = -1) 9 0 a8 (by omega) (fun j hj => absurd hj (by omega))
    (fun n s h => pk_le 9 9 (fun _ => nm_e (nm_e ⟨10, mq_fw42 H1 H0 10 0 1 _ _ (fun _ => 0) (by omega) (by omega) (mq_B_0 h) (fun j hj => absurd hj (by omega))⟩)) (fun z => absurd z (by omega)))
    (fun n i s hi h hw => pk_le 9 i (fun z => absurd z (by omega)) (fun _ => ⟨pk_in i 9 hi, nm_e (nm_r (nI_1 i) (hw _ (mq_fill (P := fun _ y => y = -1) (nI_clamp (by omega)) h rfl)))⟩))
end
end
section
theorem mq_push1 {s : Nat → Int32} {v p : Nat} {a : Int32} (hv : v < 9) (hp : p < 9) (pv : p ≠ v) (ha : 0 < a.toInt) (hs : a.toInt ≤ (s (p * 9 + v)).toInt) (hn : 0 ≤ (s (v * 9 + p)).toInt) (hb : (s (p * 9 + v)).toInt + (s (v * 9 + p)).toInt ≤ 1000000) :
    let s1 := upd s (p * 9 + v) (s (p * 9 + v) - a)
    let s2 := upd s1 (v * 9 + p) (s1 (v * 9 + p) + a)
    (∀ k, (s2 k).toInt = if k = v * 9 + p then (s (v * 9 + p)).toInt + a.toInt else if k = p * 9 + v then (s (p * 9 + v)).toInt - a.toInt else (s k).toInt) ∧
    (∀ S : Nat → Bool, mq_ct S s2 = mq_ct S s + (if S v then a.toInt else 0) - (if S p then a.toInt else 0)) := by
  intro s1 s2
  have e1 : (s1 (p * 9 + v)).toInt = (s (p * 9 + v)).toInt - a.toInt := by
    show (upd s (p * 9 + v) (s (p * 9 + v) - a) (p * 9 + v)).toInt = _
    rw [pk_us]
    exact mq_sb (by omega) (by omega)
  have e2 : s1 (v * 9 + p) = s (v * 9 + p) := pk_un (by omega)
  have e3 : (s2 (v * 9 + p)).toInt = (s (v * 9 + p)).toInt + a.toInt := by
    show (upd s1 (v * 9 + p) (s1 (v * 9 + p) + a) (v * 9 + p)).toInt = _
    rw [pk_us, e2]
    exact mq_ad (by omega) (by omega)
  refine ⟨fun k => ?_, fun S => ?_⟩
  · split
    · rename_i z
      rw [z, e3]
    · rename_i z
      have e4 : s2 k = s1 k := pk_un z
      rw [e4]
      split
      · rename_i y
        rw [y, e1]
      · rename_i y
        have e5 : s1 k = s k := pk_un y
        rw [e5]
  · have c1 := mq_ct_up S (r := s) (r' := s1) hp hv (fun k _ hk => pk_un hk)
    have c2 := mq_ct_up S (r := s1) (r' := s2) hv hp (fun k _ hk => pk_un hk)
    rw [e1] at c1
    rw [e3, e2] at c2
    rw [c2, c1]
    cases S p <;> cases S v <;> simp <;> omega
section
variable {wf fl : Int32} {a1 a2 a3 a4 a5 a6 a7 a8 a9 a10 a11 a12 : Nat → Int32}
theorem mq_narrow {post : Int32 → Prop} {m : Nat} {pt rk : Nat → Nat} (hw : mq_Way a6 a8 m pt rk) (H : ∀ a : Int32, 0 < a.toInt → a.toInt ≤ 200000 → (∀ k, k < m → a.toInt ≤ (a6 (pt (k + 1) * 9 + pt k)).toInt) → post a) : wpX_narrowest post (wf, fl, a1, a2, a3, a4, a5, a6, a7, a8, a9, a10, a11, a12) := by
  obtain ⟨hm, h0, h7, h9, hk⟩ := hw
  refine Exists.elim (pk_loop (fun n i s => wX_narrowest_8 post wf fl a1 a2 a3 a4 a5 a6 a7 a8 a9 a10 a11 a12 n s (nI (pt i)) (nI i)) (fun i s => 0 < s.toInt ∧ s.toInt ≤ 200000 ∧ ∀ k, k < i → s.toInt ≤ (a6 (pt (k + 1) * 9 + pt k)).toInt) m 0 (200000 : Int32) (Nat.zero_le m) ⟨by decide, by decide, fun k hk => absurd hk (by omega)⟩ ?_ ?_) (fun n hn => ?_)
  rotate_left 2
  · have hn' : wX_narrowest_8 post wf fl a1 a2 a3 a4 a5 a6 a7 a8 a9 a10 a11 a12 n 200000 (nI (pt 0)) (nI 0) := hn
    rw [h0] at hn'
    exact ⟨n, hn'⟩
  · intro n s hs
    show wX_narrowest_8 post wf fl a1 a2 a3 a4 a5 a6 a7 a8 a9 a10 a11 a12 (n + 1) s (nI (pt m)) (nI m)
    rw [h7]
    exact pk_le 9 m (fun z => absurd z (by omega)) (fun _ => br_t rfl (H s hs.1 hs.2.1 hs.2.2))
  · intro n i s hi hs hw
    obtain ⟨k1, k2, k3, k4⟩ := hk i hi
    have p9 := h9 i (by omega)
    have q9 := h9 (i + 1) (by omega)
    show wX_narrowest_8 post wf fl a1 a2 a3 a4 a5 a6 a7 a8 a9 a10 a11 a12 (n + 1) s (nI (pt i)) (nI i)
    refine pk_le 9 i (fun z => absurd z (by omega)) (fun _ => br_f ?_ ⟨pk_in (pt i) 9 p9, ?_⟩)
    · intro z
      exact k1 (mq_inj (by omega) (by omega) (show nI (pt i) = nI 7 from z))
    · rw [nI_clamp (show pt i < 2 ^ 31 by omega), k2, mq_i9, nI_clamp (show pt (i + 1) * 9 + pt i < 2 ^ 31 by omega)]
      refine ⟨pk_in (pt (i + 1) * 9 + pt i) 81 (by omega), nm_e ?_⟩
      refine mq_bl (fun z => ⟨pk_in (pt i) 9 p9, nm_e (nm_r (nI_1 i) (hw s ⟨hs.1, hs.2.1, fun k hk => ?_⟩))⟩) (fun z => ⟨pk_in (pt i) 9 p9, nm_e (nm_r (nI_1 i) (hw _ ⟨k4, by omega, fun k hk => ?_⟩))⟩)
      · by_cases y : k = i
        · rw [y]; exact z
        · exact hs.2.2 k (by omega)
      · by_cases y : k = i
        · rw [y]; exact Int.le_refl _
        · have := hs.2.2 k (by omega)
          omega
theorem mq_push {post : St1 → Prop} {m : Nat} {pt rk : Nat → Nat} {a : Int32} (hw : mq_Way a6 a8 m pt rk) (ha : 0 < a.toInt) (hm : ∀ k, k < m → a.toInt ≤ (a6 (pt (k + 1) * 9 + pt k)).toInt)
    (hn : ∀ u v, u < 9 → v < 9 → 0 ≤ (a6 (u * 9 + v)).toInt) (hb : ∀ u v, u < 9 → v < 9 → (a6 (u * 9 + v)).toInt + (a6 (v * 9 + u)).toInt ≤ 1000000)
    (H : ∀ l : Nat → Int32, (∀ u v, u < 9 → v < 9 → 0 ≤ (l (u * 9 + v)).toInt) → (∀ u v, u < 9 → v < 9 → (l (u * 9 + v)).toInt + (l (v * 9 + u)).toInt = (a6 (u * 9 + v)).toInt + (a6 (v * 9 + u)).toInt) → (∀ S : Nat → Bool, S 7 = true → S 8 = false → mq_ct S l = mq_ct S a6 - a.toInt) → post (wf, fl, a1, a2, a3, a4, a5, l, a7, a8, a9, a10, a11, a12)) : wpX_push post (wf, fl, a1, a2, a3, a4, a5, a6, a7, a8, a9, a10, a11, a12) a := by
  obtain ⟨hm8, h0, h7, h9, hk⟩ := hw
  refine Exists.elim (pk_loop (fun n i s => wX_push_5 post a wf fl n (nI (pt i)) (nI i) a1 a2 a3 a4 a5 s a7 a8 a9 a10 a11 a12)
    (fun i s => (∀ u v, u < 9 → v < 9 → 0 ≤ (s (u * 9 + v)).toInt) ∧ (∀ u v, u < 9 → v < 9 → rk v ≤ rk (pt i) → (a6 (u * 9 + v)).toInt ≤ (s (u * 9 + v)).toInt) ∧ (∀ u v, u < 9 → v < 9 → (s (u * 9 + v)).toInt + (s (v * 9 + u)).toInt = (a6 (u * 9 + v)).toInt + (a6 (v * 9 + u)).toInt) ∧ ∀ S : Nat → Bool, mq_ct S s = mq_ct S a6 + (if S 8 then a.toInt else 0) - (if S (pt i) then a.toInt else 0))
    m 0 a6 (Nat.zero_le m) ⟨hn, fun _ _ _ _ _ => Int.le_refl _, fun _ _ _ _ => rfl, fun S => by rw [h0]; omega⟩ ?_ ?_) (fun n hn => ?_)
  rotate_left 2
  · have hn' : wX_push_5 post a wf fl n (nI (pt 0)) (nI 0) a1 a2 a3 a4 a5 a6 a7 a8 a9 a10 a11 a12 := hn
    rw [h0] at hn'
    exact ⟨n, hn'⟩
  · intro n s hs
    show wX_push_5 post a wf fl (n + 1) (nI (pt m)) (nI m) a1 a2 a3 a4 a5 s a7 a8 a9 a10 a11 a12
    rw [h7]
    refine pk_le 9 m (fun z => absurd z (by omega)) (fun _ => br_t rfl (H s hs.1 hs.2.2.1 (fun S s7 s8 => ?_)))
    have := hs.2.2.2 S
    rw [h7, s7, s8] at this
    simp at this
    omega
  · intro n i s hi hs hw
    obtain ⟨k1, k2, k3, k4⟩ := hk i hi
    obtain ⟨g1, g2, g3, g4⟩ := hs
    have p9 := h9 i (by omega)
    have q9 := h9 (i + 1) (by omega)
    have hne : pt (i + 1) ≠ pt i := by
      intro z
      rw [z] at k3
      omega
    have c1 := hm i hi
    have c2 := g2 (pt (i + 1)) (pt i) q9 p9 (Nat.le_refl _)
    have c3 := g1 (pt i) (pt (i + 1)) p9 q9
    have c4 := hb (pt (i + 1)) (pt i) q9 p9
    have c5 := g3 (pt (i + 1)) (pt i) q9 p9
    obtain ⟨d1, d2⟩ := mq_push1 (s := s) (a := a) p9 q9 hne ha (by omega) c3 (by omega)
    show wX_push_5 post a wf fl (n + 1) (nI (pt i)) (nI i) a1 a2 a3 a4 a5 s a7 a8 a9 a10 a11 a12
    refine pk_le 9 i (fun z => absurd z (by omega)) (fun _ => br_f ?_ ⟨pk_in (pt i) 9 p9, ?_⟩)
    · intro z
      exact k1 (mq_inj (by omega) (by omega) (show nI (pt i) = nI 7 from z))
    · rw [nI_clamp (show pt i < 2 ^ 31 by omega), k2, mq_i9, mq_i9, nI_clamp (show pt (i + 1) * 9 + pt i < 2 ^ 31 by omega), nI_clamp (show pt i * 9 + pt (i + 1) < 2 ^ 31 by omega)]
      refine ⟨pk_in (pt (i + 1) * 9 + pt i) 81 (by omega), pk_in (pt (i + 1) * 9 + pt i) 81 (by omega), nm_e ⟨pk_in (pt i) 9 p9, pk_in (pt i * 9 + pt (i + 1)) 81 (by omega), pk_in (pt i * 9 + pt (i + 1)) 81 (by omega), nm_e ⟨pk_in (pt i) 9 p9, nm_e (nm_r (nI_1 i) (hw _ ⟨?_, ?_, ?_, ?_⟩))⟩⟩⟩
      · intro u v hu hv
        rw [d1]
        have := g1 u v hu hv
        split
        · omega
        · split <;> omega
      · intro u v hu hv hr
        rw [d1]
        have hvne : v ≠ pt i := by
          intro z
          rw [z] at hr
          omega
        have := g2 u v hu hv (by omega)
        split
        · rename_i z
          have e1 : u = pt i := by omega
          have e2 : v = pt (i + 1) := by omega
          rw [e1, e2] at this ⊢
          omega
        · split
          · omega
          · exact this
      · intro u v hu hv
        rw [d1, d1]
        have := g3 u v hu hv
        by_cases e1 : u = pt (i + 1) ∧ v = pt i
        · obtain ⟨e1, e2⟩ := e1
          rw [e1, e2] at this ⊢
          rw [if_neg (by omega), if_pos rfl, if_pos rfl]
          omega
        · by_cases e2 : u = pt i ∧ v = pt (i + 1)
          · obtain ⟨e1, e2⟩ := e2
            rw [e1, e2] at this ⊢
            rw [if_pos rfl, if_neg (by omega), if_pos rfl]
            omega
          · rw [if_neg (by omega), if_neg (by omega), if_neg (by omega), if_neg (by omega)]
            exact this
      · intro S
        have f1 := d2 S
        have f2 := g4 S
        rw [f2] at f1
        refine f1.trans ?_
        omega
end
end
section
/-- a flow of F under way: what is left is nowhere below zero, every cut has lost just F -/
def mq_Fl (l0 l : Nat → Int32) (F : Int) : Prop :=
  (∀ u v, u < 9 → v < 9 → 0 ≤ (l (u * 9 + v)).toInt) ∧
  (∀ u v, u < 9 → v < 9 → (l (u * 9 + v)).toInt + (l (v * 9 + u)).toInt = (l0 (u * 9 + v)).toInt + (l0 (v * 9 + u)).toInt) ∧
  ∀ S : Nat → Bool, S 7 = true → S 8 = false → F + mq_ct S l = mq_ct S l0
section
variable {wf fl : Int32} {a1 a2 a3 a4 a5 a6 a7 a8 a9 a10 a11 a12 : Nat → Int32}
theorem mq_gr12 {post : St1 → Prop} {l0 : Nat → Int32} (hb : ∀ u v, u < 9 → v < 9 → (l0 (u * 9 + v)).toInt + (l0 (v * 9 + u)).toInt ≤ 1000000) {S0 : Nat → Bool} (s7 : S0 7 = true) (s8 : S0 8 = false) (hc : mq_ct S0 l0 ≤ 1000000)
    (H : ∀ fl l qu cm, mq_Fl l0 l fl.toInt → (1000 ≤ fl.toInt ∨ mq_Cl l) → 0 ≤ fl.toInt → post (wf, fl, a1, a2, a3, a4, a5, l, qu, cm, a9, a10, a11, a12)) :
    ∀ (n i : Nat) (x fl : Int32) (l qu cm : Nat → Int32), 1000 < n + i → i ≤ 1000 → (i : Int) ≤ fl.toInt → mq_Fl l0 l fl.toInt → ((x = 1 ∧ ∃ m pt rk, mq_Way l cm m pt rk) ∨ (x = 0 ∧ mq_Cl l)) → wX_grow_12 post n x (nI i) wf fl a1 a2 a3 a4 a5 l qu cm a9 a10 a11 a12 := by
  intro n
  induction n with
  | zero =>
    intro i x fl l qu cm h1 h2
    omega
  | succ n ih =>
    intro i x fl l qu cm hn hi hfl hF hx
    refine pk_le 1000 i (fun z => H fl l qu cm hF (Or.inl (by omega)) (by omega)) (fun z => ?_)
    rcases hx with ⟨rfl, m, pt, rk, hw⟩ | ⟨rfl, hcl⟩
    · refine br_f (by decide) ?_
      refine mq_narrow hw (fun a a1 a2 a3 => ?_)
      refine mq_push hw a1 a3 hF.1 (fun u v hu hv => by rw [hF.2.1 u v hu hv]; exact hb u v hu hv) (fun l' n' p' c' => ?_)
      have c0 := c' S0 s7 s8
      have c1 := hF.2.2 S0 s7 s8
      have c2 := mq_ct_nn S0 n'
      have ef : (fl + a).toInt = fl.toInt + a.toInt := mq_ad (by omega) (by omega)
      have hF' : mq_Fl l0 l' (fl + a).toInt := by
        refine ⟨n', fun u v hu hv => by rw [p' u v hu hv]; exact hF.2.1 u v hu hv, fun S h7 h8 => ?_⟩
        have d0 := c' S h7 h8
        have d1 := hF.2.2 S h7 h8
        rw [ef]
        omega
      refine nm_e ?_
      refine mq_findWay (fun qu' cm' hw' => ?_) (fun qu' cm' hcl' => ?_)
      · exact nm_r (nI_1 i) (ih (i + 1) 1 (fl + a) l' qu' cm' (by omega) (by omega) (by rw [ef]; omega) hF' (Or.inl ⟨rfl, hw'⟩))
      · exact nm_r (nI_1 i) (ih (i + 1) 0 (fl + a) l' qu' cm' (by omega) (by omega) (by rw [ef]; omega) hF' (Or.inr ⟨rfl, hcl'⟩))
    · exact br_t rfl (H fl l qu cm hF (Or.inr hcl) (by omega))
theorem mq_grow {post : St1 → Prop} (hn : ∀ u v, u < 9 → v < 9 → 0 ≤ (a6 (u * 9 + v)).toInt) (hb : ∀ u v, u < 9 → v < 9 → (a6 (u * 9 + v)).toInt + (a6 (v * 9 + u)).toInt ≤ 1000000) {S0 : Nat → Bool} (s7 : S0 7 = true) (s8 : S0 8 = false) (hc : mq_ct S0 a6 ≤ 1000000)
    (H : ∀ fl l qu cm, mq_Fl a6 l fl.toInt → (1000 ≤ fl.toInt ∨ mq_Cl l) → 0 ≤ fl.toInt → post (wf, fl, a1, a2, a3, a4, a5, l, qu, cm, a9, a10, a11, a12)) : wpX_grow post (wf, fl, a1, a2, a3, a4, a5, a6, a7, a8, a9, a10, a11, a12) := by
  unfold wpX_grow
  have hF : mq_Fl a6 a6 (0 : Int32).toInt := ⟨hn, fun _ _ _ _ => rfl, fun S _ _ => by rw [mq_0]; omega⟩
  refine mq_findWay (fun qu cm hw => ?_) (fun qu cm hcl => ?_)
  · exact ⟨1001, mq_gr12 hb s7 s8 hc H 1001 0 1 0 a6 qu cm (by omega) (by omega) (by decide) hF (Or.inl ⟨rfl, hw⟩)⟩
  · exact ⟨1001, mq_gr12 hb s7 s8 hc H 1001 0 0 0 a6 qu cm (by omega) (by omega) (by decide) hF (Or.inr ⟨rfl, hcl⟩)⟩
end
end
section
def mq_pl (b s : Nat → Int32) (x v : Nat) : Int := if (b v).toInt + (s v).toInt * (x : Int) ≤ 0 then 0 else (b v).toInt + (s v).toInt * (x : Int)
/-- links and pulls in their bounds, links the same both ways -/
def mq_P (a1 a2 a3 a4 a5 : Nat → Int32) : Prop :=
  (∀ u v, u < 7 → v < 7 → 0 ≤ (a1 (u * 7 + v)).toInt ∧ (a1 (u * 7 + v)).toInt ≤ 20 ∧ a1 (u * 7 + v) = a1 (v * 7 + u)) ∧
  (∀ v, v < 7 → 0 ≤ (a2 v).toInt ∧ (a2 v).toInt ≤ 40 ∧ -2 ≤ (a3 v).toInt ∧ (a3 v).toInt ≤ 2) ∧
  (∀ v, v < 7 → 0 ≤ (a4 v).toInt ∧ (a4 v).toInt ≤ 40 ∧ -2 ≤ (a5 v).toInt ∧ (a5 v).toInt ≤ 2)
theorem mq_mr {s x : Int} (h1 : -2 ≤ s) (h2 : s ≤ 2) (h3 : 0 ≤ x) (h4 : x ≤ 50) : -100 ≤ s * x ∧ s * x ≤ 100 := by
  have : s = -2 ∨ s = -1 ∨ s = 0 ∨ s = 1 ∨ s = 2 := by omega
  rcases this with rfl | rfl | rfl | rfl | rfl <;> omega
theorem mq_pl_r {b s : Nat → Int32} {x v : Nat} (h : 0 ≤ (b v).toInt ∧ (b v).toInt ≤ 40 ∧ -2 ≤ (s v).toInt ∧ (s v).toInt ≤ 2) (hx : x ≤ 50) : 0 ≤ mq_pl b s x v ∧ mq_pl b s x v ≤ 140 := by
  obtain ⟨h1, h2, h3, h4⟩ := h
  have := mq_mr h3 h4 (show (0 : Int) ≤ (x : Int) by omega) (show (x : Int) ≤ 50 by omega)
  unfold mq_pl
  split <;> omega
theorem mq_pull {post : Int32 → Prop} {b s : Nat → Int32} {x v : Nat} (h : 0 ≤ (b v).toInt ∧ (b v).toInt ≤ 40 ∧ -2 ≤ (s v).toInt ∧ (s v).toInt ≤ 2) (hx : x ≤ 50) (H : ∀ r : Int32, r.toInt = mq_pl b s x v → post r) : (((b v + s v * nI x) ≤ 0 → post 0) ∧ (¬ (b v + s v * nI x) ≤ 0 → post (b v + s v * nI x))) := by
  obtain ⟨h1, h2, h3, h4⟩ := h
  have hm := mq_mr h3 h4 (show (0 : Int) ≤ (x : Int) by omega) (show (x : Int) ≤ 50 by omega)
  have ex : (nI x).toInt = (x : Int) := mq_nI (by omega)
  have e1 : (s v * nI x).toInt = (s v).toInt * (x : Int) := by
    rw [mq_ml (by rw [ex]; omega) (by rw [ex]; omega), ex]
  have e2 : (b v + s v * nI x).toInt = (b v).toInt + (s v).toInt * (x : Int) := by
    rw [mq_ad (by rw [e1]; omega) (by rw [e1]; omega), e1]
  refine mq_bl (fun z => H 0 ?_) (fun z => H _ ?_)
  · rw [e2, mq_0] at z
    unfold mq_pl
    rw [if_pos z, mq_0]
  · rw [e2, mq_0] at z
    unfold mq_pl
    rw [if_neg (by omega), e2]
section
variable {wf fl : Int32} {a1 a2 a3 a4 a5 a6 a7 a8 a9 a10 a11 a12 : Nat → Int32}
theorem mq_spull {post : Int32 → Prop} {x v : Nat} (hP : mq_P a1 a2 a3 a4 a5) (hv : v < 7) (hx : x ≤ 50) (H : ∀ r : Int32, r.toInt = mq_pl a2 a3 x v → post r) : wpX_sourcePull post (wf, fl, a1, a2, a3, a4, a5, a6, a7, a8, a9, a10, a11, a12) (nI v) (nI x) := by
  refine ⟨pk_in v 7 hv, pk_in v 7 hv, nm_e ?_⟩
  rw [nI_clamp (show v < 2 ^ 31 by omega)]
  exact mq_pull (hP.2.1 v hv) hx H
theorem mq_kpull {post : Int32 → Prop} {x v : Nat} (hP : mq_P a1 a2 a3 a4 a5) (hv : v < 7) (hx : x ≤ 50) (H : ∀ r : Int32, r.toInt = mq_pl a4 a5 x v → post r) : wpX_sinkPull post (wf, fl, a1, a2, a3, a4, a5, a6, a7, a8, a9, a10, a11, a12) (nI v) (nI x) := by
  refine ⟨pk_in v 7 hv, pk_in v 7 hv, nm_e ?_⟩
  rw [nI_clamp (show v < 2 ^ 31 by omega)]
  exact mq_pull (hP.2.2 v hv) hx H
end
/-- what is loaded -/
def mq_c (a1 a2 a3 a4 a5 : Nat → Int32) (x w v : Nat) : Int :=
  if w < 7 then (if v < 7 then (a1 (w * 7 + v)).toInt else if v = 8 then mq_pl a4 a5 x w else 0) else if w = 7 then (if v < 7 then mq_pl a2 a3 x v else 0) else 0
def mq_Ld (a1 a2 a3 a4 a5 : Nat → Int32) (x : Nat) (s : Nat → Int32) (u j : Nat) : Prop :=
  ∀ w v, w < 9 → v < 9 → (s (w * 9 + v)).toInt = if w < u ∨ (w = u ∧ v < j) ∨ (w = 7 ∧ v < u) then mq_c a1 a2 a3 a4 a5 x w v else 0
theorem mq_63 (u : Nat) : 63 + nI u = nI (63 + u) := nI_add 63 u
theorem mq_98 (u : Nat) : (nI u * 9) + 8 = nI (u * 9 + 8) := mq_ix 9 u 8
section
variable {wf fl : Int32} {a1 a2 a3 a4 a5 a6 a7 a8 a9 a10 a11 a12 : Nat → Int32}
theorem mq_ld31 {post : St1 → Prop} {J23 : Int32 → (Nat → Int32) → (Nat → Int32) → (Nat → Int32) → (Nat → Int32) → (Nat → Int32) → (Nat → Int32) → (Nat → Int32) → (Nat → Int32) → (Nat → Int32) → (Nat → Int32) → (Nat → Int32) → (Nat → Int32) →  Prop} {u x : Nat} (hP : mq_P a1 a2 a3 a4 a5) (hu : u < 7) (hx : x ≤ 50) (h : mq_Ld a1 a2 a3 a4 a5 x a6 u 0) (H : ∀ l, mq_Ld a1 a2 a3 a4 a5 x l (u + 1) 0 → J23 (nI (u + 1)) a1 a2 a3 a4 a5 l a7 a8 a9 a10 a11 a12) : ∃ n, wX_load_31 post J23 (nI x) (nI u) wf fl n 0 a1 a2 a3 a4 a5 a6 a7 a8 a9 a10 a11 a12 := by
  refine pk_loop (fun n j s => wX_load_31 post J23 (nI x) (nI u) wf fl n (nI j) a1 a2 a3 a4 a5 s a7 a8 a9 a10 a11 a12) (fun j s => mq_Ld a1 a2 a3 a4 a5 x s u j) 7 0 a6 (by omega) h ?_ ?_
  · intro n s hs
    refine pk_le 7 7 (fun _ => mq_spull hP hu hx (fun r hr => ?_)) (fun z => absurd z (by omega))
    rw [mq_63, nI_clamp (show 63 + u < 2 ^ 31 by omega)]
    refine ⟨pk_in (63 + u) 81 (by omega), nm_e ?_⟩
    refine mq_kpull hP hu hx (fun r' hr' => ?_)
    rw [mq_98, nI_clamp (show u * 9 + 8 < 2 ^ 31 by omega)]
    refine ⟨pk_in (u * 9 + 8) 81 (by omega), nm_e (nm_r (nI_1 u) (H _ ?_))⟩
    intro w v hw hv
    by_cases e1 : w * 9 + v = u * 9 + 8
    · have f1 : w = u := by omega
      have f2 : v = 8 := by omega
      rw [e1, pk_us, hr', f1, f2, if_pos (by omega)]
      unfold mq_c
      rw [if_pos hu, if_neg (by omega), if_pos rfl]
    · rw [pk_un e1]
      by_cases e2 : w * 9 + v = 63 + u
      · have f1 : w = 7 := by omega
        have f2 : v = u := by omega
        rw [e2, pk_us, hr, f1, f2, if_pos (by omega)]
        unfold mq_c
        rw [if_neg (by omega), if_pos rfl, if_pos hu]
      · rw [pk_un e2, hs w v hw hv]
        by_cases e3 : w = u ∧ v = 7
        · rw [if_neg (by omega), if_pos (by omega), e3.1, e3.2]
          unfold mq_c
          rw [if_pos hu, if_neg (by omega), if_neg (by omega)]
        · by_cases e4 : w < u ∨ (w = u ∧ v < 7) ∨ (w = 7 ∧ v < u)
          · rw [if_pos e4, if_pos (by omega)]
          · rw [if_neg e4, if_neg (by omega)]
  · intro n j s hj hs hw
    refine pk_le 7 j (fun z => absurd z (by omega)) (fun _ => ?_)
    rw [mq_i7, mq_i9, nI_clamp (show u * 7 + j < 2 ^ 31 by omega), nI_clamp (show u * 9 + j < 2 ^ 31 by omega)]
    refine ⟨pk_in (u * 7 + j) 49 (by omega), pk_in (u * 9 + j) 81 (by omega), nm_e (nm_r (nI_1 j) (hw _ ?_))⟩
    intro w v hw hv
    by_cases e1 : w * 9 + v = u * 9 + j
    · have f1 : w = u := by omega
      have f2 : v = j := by omega
      rw [e1, pk_us, f1, f2, if_pos (by omega)]
      unfold mq_c
      rw [if_pos hu, if_pos hj]
    · rw [pk_un e1, hs w v hw hv]
      by_cases e4 : w < u ∨ (w = u ∧ v < j) ∨ (w = 7 ∧ v < u)
      · rw [if_pos e4, if_pos (by omega)]
      · rw [if_neg e4, if_neg (by omega)]
theorem mq_ld23 {post : St1 → Prop} {x : Nat} (hP : mq_P a1 a2 a3 a4 a5) (hx : x ≤ 50) (h : mq_Ld a1 a2 a3 a4 a5 x a6 0 0) (H : ∀ l, (∀ w v, w < 9 → v < 9 → (l (w * 9 + v)).toInt = mq_c a1 a2 a3 a4 a5 x w v) → post (wf, fl, a1, a2, a3, a4, a5, l, a7, a8, a9, a10, a11, a12)) : ∃ n, wX_load_23 post (nI x) wf fl n 0 a1 a2 a3 a4 a5 a6 a7 a8 a9 a10 a11 a12 :=
  pk_loop (fun n u s => wX_load_23 post (nI x) wf fl n (nI u) a1 a2 a3 a4 a5 s a7 a8 a9 a10 a11 a12) (fun u s => mq_Ld a1 a2 a3 a4 a5 x s u 0) 7 0 a6 (by omega) h
    (fun n s hs => pk_le 7 7 (fun _ => H s (fun w v hw hv => by
      rw [hs w v hw hv]
      split
      · rfl
      · unfold mq_c
        rw [if_neg (by omega)]
        split
        · rw [if_neg (by omega)]
        · rfl)) (fun z => absurd z (by omega)))
    (fun n u s hu hs hw => pk_le 7 u (fun z => absurd z (by omega)) (fun _ => mq_ld31 hP hu hx hs (fun l hl => hw l hl)))
theorem mq_load {post : St1 → Prop} {x : Nat} (hP : mq_P a1 a2 a3 a4 a5) (hx : x ≤ 50) (H : ∀ l, (∀ w v, w < 9 → v < 9 → (l (w * 9 + v)).toInt = mq_c a1 a2 a3 a4 a5 x w v) → post (wf, fl, a1, a2, a3, a4, a5, l, a7, a8, a9, a10, a11, a12)) : wpX_load post (wf, fl, a1, a2, a3, a4, a5, a6, a7, a8, a9, a10, a11, a12) (nI x) :=
  pk_loop (fun n i s => wX_load_2 post (nI x) wf fl n (nI i) a1 a2 a3 a4 a5 s a7 a8 a9 a10 a11 a12) (fun i s => ∀ k, k < i → s k = 0) 81 0 a6 (by omega) (fun j hj => absurd hj (by omega))
    (fun n s h => pk_le 81 81 (fun _ => mq_ld23 hP hx (fun w v hw hv => by
      rw [h (w * 9 + v) (by omega), if_neg (by omega)]
      exact mq_0) H) (fun z => absurd z (by omega)))
    (fun n i s hi h hw => pk_le 81 i (fun z => absurd z (by omega)) (fun _ => ⟨pk_in i 81 hi, nm_e (nm_r (nI_1 i) (hw _ (mq_fill (P := fun _ y => y = 0) (nI_clamp (by omega)) h rfl)))⟩))
end
theorem mq_c_r {a1 a2 a3 a4 a5 : Nat → Int32} {x w v : Nat} (hP : mq_P a1 a2 a3 a4 a5) (hx : x ≤ 50) : 0 ≤ mq_c a1 a2 a3 a4 a5 x w v ∧ mq_c a1 a2 a3 a4 a5 x w v ≤ 140 := by
  unfold mq_c
  split
  · rename_i h1
    split
    · rename_i h2
      have := hP.1 w v h1 h2
      omega
    · split
      · exact mq_pl_r (hP.2.2 w h1) hx
      · omega
  · split
    · split
      · rename_i h2
        exact mq_pl_r (hP.2.1 v h2) hx
      · omega
    · omega
/-! the cost of a side -/
def mq_co (a1 a2 a3 a4 a5 : Nat → Int32) (x : Nat) (S : Nat → Bool) : Int :=
  mq_sm (fun v => (if S v then mq_pl a4 a5 x v else mq_pl a2 a3 x v) + mq_sm (fun u => if S u = S v then 0 else (a1 (u * 7 + v)).toInt) v) 7
theorem mq_co_cg {a1 a2 a3 a4 a5 : Nat → Int32} {x : Nat} {S S' : Nat → Bool} (h : ∀ v, v < 7 → S v = S' v) : mq_co a1 a2 a3 a4 a5 x S = mq_co a1 a2 a3 a4 a5 x S' := by
  unfold mq_co
  refine mq_sm_cg (fun v hv => ?_)
  show (if S v then mq_pl a4 a5 x v else mq_pl a2 a3 x v) + mq_sm (fun u => if S u = S v then 0 else (a1 (u * 7 + v)).toInt) v = (if S' v then mq_pl a4 a5 x v else mq_pl a2 a3 x v) + mq_sm (fun u => if S' u = S' v then 0 else (a1 (u * 7 + v)).toInt) v
  rw [h v hv, mq_sm_cg (g := fun u => if S' u = S' v then 0 else (a1 (u * 7 + v)).toInt) (fun u hu => ?_)]
  show (if S u = S' v then 0 else (a1 (u * 7 + v)).toInt) = _
  rw [h u (by omega)]
theorem mq_sm_add (f g : Nat → Int) (n : Nat) : mq_sm (fun i => f i + g i) n = mq_sm f n + mq_sm g n := by
  induction n with
  | zero => rfl
  | succ n ih => rw [mq_sm, mq_sm, mq_sm, ih]; omega
theorem mq_sm_9 (f : Nat → Int) (n : Nat) : mq_sm f (n * 9) = mq_sm (fun w => mq_sm (fun v => f (w * 9 + v)) 9) n := by
  induction n with
  | zero => rfl
  | succ n ih =>
    rw [mq_sm, ← ih, show (n + 1) * 9 = n * 9 + 9 by omega]
    show mq_sm f (n * 9) + f (n * 9) + f (n * 9 + 1) + f (n * 9 + 2) + f (n * 9 + 3) + f (n * 9 + 4) + f (n * 9 + 5) + f (n * 9 + 6) + f (n * 9 + 7) + f (n * 9 + 8) = mq_sm f (n * 9) + (0 + f (n * 9 + 0) + f (n * 9 + 1) + f (n * 9 + 2) + f (n * 9 + 3) + f (n * 9 + 4) + f (n * 9 + 5) + f (n * 9 + 6) + f (n * 9 + 7) + f (n * 9 + 8))
    have e : f (n * 9 + 0) = f (n * 9) := rfl
    omega
theorem mq_sm_sq (X : Nat → Nat → Int) (hd : ∀ w, X w w = 0) (n : Nat) : mq_sm (fun w => mq_sm (fun v => X w v) n) n = mq_sm (fun v => mq_sm (fun u => X u v + X v u) v) n := by
  induction n with
  | zero => rfl
  | succ n ih =>
    have e1 : mq_sm (fun w => mq_sm (fun v => X w v) (n + 1)) n = mq_sm (fun w => mq_sm (fun v => X w v) n) n + mq_sm (fun w => X w n) n := mq_sm_add (fun w => mq_sm (fun v => X w v) n) (fun w => X w n) n
    have e2 : mq_sm (fun u => X u n + X n u) n = mq_sm (fun u => X u n) n + mq_sm (fun u => X n u) n := mq_sm_add _ _ n
    have e3 : mq_sm (fun v => X n v) (n + 1) = mq_sm (fun v => X n v) n + X n n := rfl
    show mq_sm (fun w => mq_sm (fun v => X w v) (n + 1)) n + mq_sm (fun v => X n v) (n + 1) = mq_sm (fun v => mq_sm (fun u => X u v + X v u) v) n + mq_sm (fun u => X u n + X n u) n
    rw [e1, e3, hd n, ih, e2]
    omega
theorem mq_ctc {a1 a2 a3 a4 a5 l : Nat → Int32} {x : Nat} (hP : mq_P a1 a2 a3 a4 a5) (hl : ∀ w v, w < 9 → v < 9 → (l (w * 9 + v)).toInt = mq_c a1 a2 a3 a4 a5 x w v) {S : Nat → Bool} (s7 : S 7 = true) (s8 : S 8 = false) : mq_ct S l = mq_co a1 a2 a3 a4 a5 x S := by
  have e0 : mq_ct S l = mq_sm (fun w => mq_sm (fun v => if S w && !S v then mq_c a1 a2 a3 a4 a5 x w v else 0) 9) 9 := by
    unfold mq_ct
    rw [show (81 : Nat) = 9 * 9 from rfl, mq_sm_9]
    refine mq_sm_cg (fun w hw => mq_sm_cg (fun v hv => ?_))
    show (if S ((w * 9 + v) / 9) && !S ((w * 9 + v) % 9) then (l (w * 9 + v)).toInt else 0) = _
    rw [show (w * 9 + v) / 9 = w by omega, show (w * 9 + v) % 9 = v by omega, hl w v hw hv]
  have e1 : mq_sm (fun w => mq_sm (fun v => if S w && !S v then mq_c a1 a2 a3 a4 a5 x w v else 0) 9) 7 = mq_sm (fun w => mq_sm (fun v => if S w && !S v then (a1 (w * 7 + v)).toInt else 0) 7 + (if S w then mq_pl a4 a5 x w else 0)) 7 := by
    refine mq_sm_cg (fun w hw => ?_)
    show mq_sm (fun v => if S w && !S v then mq_c a1 a2 a3 a4 a5 x w v else 0) 7 + (if S w && !S 7 then mq_c a1 a2 a3 a4 a5 x w 7 else 0) + (if S w && !S 8 then mq_c a1 a2 a3 a4 a5 x w 8 else 0) = _
    rw [s7, s8, mq_sm_cg (g := fun v => if S w && !S v then (a1 (w * 7 + v)).toInt else 0) (fun v hv => ?_)]
    · have : mq_c a1 a2 a3 a4 a5 x w 8 = mq_pl a4 a5 x w := by
        unfold mq_c
        rw [if_pos hw, if_neg (by omega), if_pos rfl]
      rw [this]
      simp
    · show (if S w && !S v then mq_c a1 a2 a3 a4 a5 x w v else 0) = _
      unfold mq_c
      rw [if_pos hw, if_pos hv]
  have e2 : mq_sm (fun v => if S 7 && !S v then mq_c a1 a2 a3 a4 a5 x 7 v else 0) 9 = mq_sm (fun v => if S v then 0 else mq_pl a2 a3 x v) 7 := by
    show mq_sm (fun v => if S 7 && !S v then mq_c a1 a2 a3 a4 a5 x 7 v else 0) 7 + (if S 7 && !S 7 then mq_c a1 a2 a3 a4 a5 x 7 7 else 0) + (if S 7 && !S 8 then mq_c a1 a2 a3 a4 a5 x 7 8 else 0) = _
    have c8 : mq_c a1 a2 a3 a4 a5 x 7 8 = 0 := rfl
    rw [c8, s7, s8, mq_sm_cg (g := fun v => if S v then 0 else mq_pl a2 a3 x v) (fun v hv => ?_)]
    · simp
    · have : mq_c a1 a2 a3 a4 a5 x 7 v = mq_pl a2 a3 x v := by
        unfold mq_c
        rw [if_neg (by omega), if_pos rfl, if_pos hv]
      show (if true && !S v then mq_c a1 a2 a3 a4 a5 x 7 v else 0) = _
      rw [this]
      cases S v <;> simp
  have e3 : mq_sm (fun v => if S 8 && !S v then mq_c a1 a2 a3 a4 a5 x 8 v else 0) 9 = 0 := by
    refine mq_sm_0 (fun v hv => ?_)
    show (if S 8 && !S v then mq_c a1 a2 a3 a4 a5 x 8 v else 0) = 0
    rw [s8]
    simp
  have e4 := mq_sm_sq (fun w v => if S w && !S v then (a1 (w * 7 + v)).toInt else 0) (fun w => by cases S w <;> simp) 7
  have e5 : mq_co a1 a2 a3 a4 a5 x S = mq_sm (fun w => if S w then mq_pl a4 a5 x w else 0) 7 + mq_sm (fun v => if S v then 0 else mq_pl a2 a3 x v) 7 + mq_sm (fun v => mq_sm (fun u => (if S u && !S v then (a1 (u * 7 + v)).toInt else 0) + (if S v && !S u then (a1 (v * 7 + u)).toInt else 0)) v) 7 := by
    rw [← mq_sm_add, ← mq_sm_add]
    unfold mq_co
    refine mq_sm_cg (fun v hv => ?_)
    show (if S v then mq_pl a4 a5 x v else mq_pl a2 a3 x v) + mq_sm (fun u => if S u = S v then 0 else (a1 (u * 7 + v)).toInt) v = ((if S v then mq_pl a4 a5 x v else 0) + (if S v then 0 else mq_pl a2 a3 x v)) + mq_sm (fun u => (if S u && !S v then (a1 (u * 7 + v)).toInt else 0) + (if S v && !S u then (a1 (v * 7 + u)).toInt else 0)) v
    rw [mq_sm_cg (f := fun u => if S u = S v then 0 else (a1 (u * 7 + v)).toInt) (g := fun u => (if S u && !S v then (a1 (u * 7 + v)).toInt else 0) + (if S v && !S u then (a1 (v * 7 + u)).toInt else 0)) (fun u hu => ?_)]
    · cases S v <;> simp
    · show (if S u = S v then 0 else (a1 (u * 7 + v)).toInt) = (if S u && !S v then (a1 (u * 7 + v)).toInt else 0) + (if S v && !S u then (a1 (v * 7 + u)).toInt else 0)
      rw [(hP.1 u v (by omega) hv).2.2]
      cases S u <;> cases S v <;> simp
  have e6 := mq_sm_add (fun w => mq_sm (fun v => if S w && !S v then (a1 (w * 7 + v)).toInt else 0) 7) (fun w => if S w then mq_pl a4 a5 x w else 0) 7
  have e7 : mq_sm (fun w => mq_sm (fun v => if S w && !S v then mq_c a1 a2 a3 a4 a5 x w v else 0) 9) 9 = mq_sm (fun w => mq_sm (fun v => if S w && !S v then mq_c a1 a2 a3 a4 a5 x w v else 0) 9) 7 + mq_sm (fun v => if S 7 && !S v then mq_c a1 a2 a3 a4 a5 x 7 v else 0) 9 + mq_sm (fun v => if S 8 && !S v then mq_c a1 a2 a3 a4 a5 x 8 v else 0) 9 := rfl
  rw [e0, e7, e1, e2, e3, e6, e4, e5]
  omega
end
section
theorem mq_b01 (b c : Bool) : ((if b then (1 : Int32) else 0) = if c then 1 else 0) ↔ b = c := by cases b <;> cases c <;> decide
theorem mq_in' {post : Int32 → Prop} {u : St2} (x : Int32) {y : Int32} (v : Nat) (hv : v < 32) (H : post (if mq_bt x v then 1 else 0)) (hy : y = nI v := by rfl) : wpX_in post u x y := by
  refine mq_in x v hv (fun h => ?_) (fun h => ?_) hy
  · rw [h] at H; exact H
  · rw [h] at H; exact H
theorem mq_badX {post : Int32 → Prop} {u : St2} {x : Nat} (hx : x ≤ 50) (H : post 0) : wpX_badX post u (nI x) :=
  br_f (nI_pos (by omega)) (br_t (nI_le (b := 50) hx (by decide)) H)
theorem mq_badX1 {post : Int32 → Prop} {u : St2} (H : post 1) : wpX_badX post u 51 := br_f (by decide) (br_f (by decide) H)
theorem mq_badX2 {post : Int32 → Prop} {u : St2} (H : post 1) : wpX_badX post u (-1) := br_t (by decide) H
section
variable {wf fl : Int32} {a1 a2 a3 a4 a5 a6 a7 a8 a9 a10 a11 a12 : Nat → Int32}
theorem mq_co48 {post : Int32 → Prop} {J5 : Int32 → Int32 → Prop} {side s0 : Int32} {x v : Nat} (hP : mq_P a1 a2 a3 a4 a5) (hv : v < 7) (h0 : 0 ≤ s0.toInt) (h1 : s0.toInt ≤ 10000)
    (H : ∀ s : Int32, s.toInt = s0.toInt + mq_sm (fun u => if mq_bt side u = mq_bt side v then 0 else (a1 (u * 7 + v)).toInt) v → J5 s (nI (v + 1))) :
    ∃ n, wX_costOf_48 post J5 side (nI x) (nI v) (if mq_bt side v then 1 else 0) wf fl a1 a2 a3 a4 a5 a6 a7 a8 a9 a10 a11 a12 n s0 0 := by
  have hr : ∀ j, j ≤ v → 0 ≤ mq_sm (fun u => if mq_bt side u = mq_bt side v then 0 else (a1 (u * 7 + v)).toInt) j ∧ mq_sm (fun u => if mq_bt side u = mq_bt side v then 0 else (a1 (u * 7 + v)).toInt) j ≤ j * 20 := by
    intro j hj
    refine ⟨mq_sm_nn (fun i hi => ?_), mq_sm_ub (fun i hi => ?_)⟩
    · have := hP.1 i v (by omega) hv
      split <;> omega
    · have := hP.1 i v (by omega) hv
      split <;> omega
  refine pk_loop (fun n j s => wX_costOf_48 post J5 side (nI x) (nI v) (if mq_bt side v then 1 else 0) wf fl a1 a2 a3 a4 a5 a6 a7 a8 a9 a10 a11 a12 n s (nI j)) (fun j s => s.toInt = s0.toInt + mq_sm (fun u => if mq_bt side u = mq_bt side v then 0 else (a1 (u * 7 + v)).toInt) j) v 0 s0 (Nat.zero_le v) (by show s0.toInt = s0.toInt + 0; omega) ?_ ?_
  · intro n s hs
    exact pk_le v v (fun _ => nm_r (nI_1 v) (H s hs)) (fun z => absurd z (by omega))
  · intro n j s hj hs hw
    refine pk_le v j (fun z => absurd z (by omega)) (fun _ => mq_in' side j (by omega) ?_)
    have hrj := hr j (by omega)
    have hj1 := hP.1 j v (by omega) hv
    refine ⟨fun z => nm_r (nI_1 j) (hw s ?_), fun z => ?_⟩
    · have hb := (mq_b01 _ _).mp z
      show s.toInt = s0.toInt + (mq_sm (fun u => if mq_bt side u = mq_bt side v then 0 else (a1 (u * 7 + v)).toInt) j + (if mq_bt side j = mq_bt side v then 0 else (a1 (j * 7 + v)).toInt))
      rw [if_pos hb, hs]
      omega
    · have hb : ¬ mq_bt side j = mq_bt side v := fun y => z ((mq_b01 _ _).mpr y)
      rw [mq_i7, nI_clamp (show j * 7 + v < 2 ^ 31 by omega)]
      refine ⟨pk_in (j * 7 + v) 49 (by omega), nm_e (nm_r (nI_1 j) (hw _ ?_))⟩
      show (s + a1 (j * 7 + v)).toInt = s0.toInt + (mq_sm (fun u => if mq_bt side u = mq_bt side v then 0 else (a1 (u * 7 + v)).toInt) j + (if mq_bt side j = mq_bt side v then 0 else (a1 (j * 7 + v)).toInt))
      rw [if_neg hb, mq_ad (by omega) (by omega), hs]
      omega
theorem mq_costOf {post : Int32 → Prop} {side : Int32} {x : Nat} (hP : mq_P a1 a2 a3 a4 a5) (hx : x ≤ 50) (H : ∀ r : Int32, r.toInt = mq_co a1 a2 a3 a4 a5 x (mq_bt side) → post r) : wpX_costOf post (wf, fl, a1, a2, a3, a4, a5, a6, a7, a8, a9, a10, a11, a12) side (nI x) := by
  have hr : ∀ v, v < 7 → 0 ≤ mq_sm (fun u => if mq_bt side u = mq_bt side v then 0 else (a1 (u * 7 + v)).toInt) v ∧ mq_sm (fun u => if mq_bt side u = mq_bt side v then 0 else (a1 (u * 7 + v)).toInt) v ≤ v * 20 := by
    intro v hv
    refine ⟨mq_sm_nn (fun i hi => ?_), mq_sm_ub (fun i hi => ?_)⟩
    · have := hP.1 i v (by omega) hv
      split <;> omega
    · have := hP.1 i v (by omega) hv
      split <;> omega
  refine pk_loop (fun n v s => wX_costOf_5 post side (nI x) wf fl a1 a2 a3 a4 a5 a6 a7 a8 a9 a10 a11 a12 n s (nI v)) (fun v s => 0 ≤ s.toInt ∧ s.toInt ≤ v * 300 ∧ s.toInt = mq_sm (fun v => (if mq_bt side v then mq_pl a4 a5 x v else mq_pl a2 a3 x v) + mq_sm (fun u => if mq_bt side u = mq_bt side v then 0 else (a1 (u * 7 + v)).toInt) v) v) 7 0 (0 : Int32) (by omega) ⟨by decide, by decide, mq_0⟩ ?_ ?_
  · intro n s hs
    exact pk_le 7 7 (fun _ => H s hs.2.2) (fun z => absurd z (by omega))
  · intro n v s hv hs hw
    obtain ⟨h1, h2, h3⟩ := hs
    have hrv := hr v hv
    have p1 := mq_pl_r (hP.2.1 v hv) hx
    have p2 := mq_pl_r (hP.2.2 v hv) hx
    have fin : ∀ r : Int32, r.toInt = (if mq_bt side v then mq_pl a4 a5 x v else mq_pl a2 a3 x v) → ∃ n', wX_costOf_48 post (wX_costOf_5 post side (nI x) wf fl a1 a2 a3 a4 a5 a6 a7 a8 a9 a10 a11 a12 n) side (nI x) (nI v) (if mq_bt side v then 1 else 0) wf fl a1 a2 a3 a4 a5 a6 a7 a8 a9 a10 a11 a12 n' (s + r) 0 := by
      intro r hr'
      have hr0 : 0 ≤ r.toInt ∧ r.toInt ≤ 140 := by
        rw [hr']
        split <;> omega
      have e : (s + r).toInt = s.toInt + r.toInt := mq_ad (by omega) (by omega)
      refine mq_co48 hP hv (by omega) (by omega) (fun s' hs' => hw s' ⟨by omega, ?_, ?_⟩)
      · have : ((v + 1 : Nat) : Int) = (v : Int) + 1 := by omega
        rw [this]
        omega
      · show s'.toInt = mq_sm (fun v => (if mq_bt side v then mq_pl a4 a5 x v else mq_pl a2 a3 x v) + mq_sm (fun u => if mq_bt side u = mq_bt side v then 0 else (a1 (u * 7 + v)).toInt) v) v + ((if mq_bt side v then mq_pl a4 a5 x v else mq_pl a2 a3 x v) + mq_sm (fun u => if mq_bt side u = mq_bt side v then 0 else (a1 (u * 7 + v)).toInt) v)
        rw [← h3, ← hr']
        omega
    refine pk_le 7 v (fun z => absurd z (by omega)) (fun _ => mq_in side v (by omega) (fun hb => ?_) (fun hb => ?_))
    · rw [hb] at fin
      exact br_f (by decide) (mq_kpull hP hv hx (fun r hr' => nm_e (fin r hr')))
    · rw [hb] at fin
      exact br_t rfl (mq_spull hP hv hx (fun r hr' => nm_e (fin r hr')))
theorem mq_cost {post : Int32 → Prop} {side : Int32} {x : Nat} (hP : mq_P a1 a2 a3 a4 a5) (hx : x ≤ 50) (H : ∀ r : Int32, r.toInt = mq_co a1 a2 a3 a4 a5 x (mq_bt side) → post r) : wpX_cost post (wf, fl, a1, a2, a3, a4, a5, a6, a7, a8, a9, a10, a11, a12) side (nI x) := by
  unfold wpX_cost
  exact mq_badX hx (br_t rfl (mq_costOf hP hx H))
end
end
section
/-- what closeReach has after its first k turns -/
def mq_Q (l : Nat → Int32) (R : Nat → Nat → Bool) (k : Nat) : Prop :=
  (∀ u, u < 9 → R u u = true) ∧
  (∀ u v, u < 9 → v < 9 → 0 < (l (u * 9 + v)).toInt → R u v = true) ∧
  (∀ u j w, u < 9 → j < k → j < 9 → w < 9 → R u j = true → R j w = true → R u w = true) ∧
  (∀ S : Nat → Bool, (∀ u v, u < 9 → v < 9 → S u = true → 0 < (l (u * 9 + v)).toInt → S v = true) → ∀ u v, u < 9 → v < 9 → S u = true → R u v = true → S v = true)
theorem mq_Q_cg {l : Nat → Int32} {R R' : Nat → Nat → Bool} {k : Nat} (h : mq_Q l R k) (e : ∀ u v, u < 9 → v < 9 → R' u v = R u v) : mq_Q l R' k := by
  obtain ⟨h1, h2, h3, h4⟩ := h
  refine ⟨fun u hu => by rw [e u u hu hu]; exact h1 u hu, fun u v hu hv hl => by rw [e u v hu hv]; exact h2 u v hu hv hl, fun u j w hu hj hj9 hw => ?_, fun S hS u v hu hv => ?_⟩
  · rw [e u j hu hj9, e j w hj9 hw, e u w hu hw]
    exact h3 u j w hu hj hj9 hw
  · rw [e u v hu hv]
    exact h4 S hS u v hu hv
theorem mq_Q_s {l : Nat → Int32} {R : Nat → Nat → Bool} {k : Nat} (h : mq_Q l R k) (hk : k < 9) : mq_Q l (fun u v => R u v || (R u k && R k v)) (k + 1) := by
  obtain ⟨h1, h2, h3, h4⟩ := h
  refine ⟨fun u hu => ?_, fun u v hu hv hl => ?_, fun u j w hu hj hj9 hw => ?_, fun S hS u v hu hv su => ?_⟩
  · simp [h1 u hu]
  · simp [h2 u v hu hv hl]
  · simp only [Bool.or_eq_true, Bool.and_eq_true]
    intro x y
    by_cases e : j = k
    · rw [e] at x y
      have x' : R u k = true := by
        rcases x with x | x
        · exact x
        · exact x.1
      rcases y with y | y
      · exact Or.inr ⟨x', y⟩
      · exact Or.inr ⟨x', y.2⟩
    · have hjk : j < k := by omega
      rcases x with x | ⟨x1, x2⟩
      · rcases y with y | ⟨y1, y2⟩
        · exact Or.inl (h3 u j w hu hjk hj9 hw x y)
        · exact Or.inr ⟨h3 u j k hu hjk hj9 hk x y1, y2⟩
      · rcases y with y | ⟨y1, y2⟩
        · exact Or.inr ⟨x1, h3 k j w hk hjk hj9 hw x2 y⟩
        · exact Or.inr ⟨x1, y2⟩
  · simp only [Bool.or_eq_true, Bool.and_eq_true]
    intro x
    rcases x with x | ⟨x1, x2⟩
    · exact h4 S hS u v hu hv su x
    · exact h4 S hS k v hk hv (h4 S hS u k hu hk su x1) x2
section
variable {wf fl : Int32} {a1 a2 a3 a4 a5 a6 a7 a8 a9 a10 a11 a12 : Nat → Int32}
theorem mq_cr73 {post : St1 → Prop} {J65 : Int32 → (Nat → Int32) → (Nat → Int32) → (Nat → Int32) → (Nat → Int32) → (Nat → Int32) → (Nat → Int32) → (Nat → Int32) → (Nat → Int32) → (Nat → Int32) → (Nat → Int32) → (Nat → Int32) → (Nat → Int32) →  Prop} {k : Nat} {R : Nat → Nat → Bool} (hk : k < 9) (hkk : R k k = true) (h : ∀ u v, u < 9 → v < 9 → mq_bt (a9 u) v = R u v) (H : ∀ re : Nat → Int32, (∀ u v, u < 9 → v < 9 → mq_bt (re u) v = (R u v || (R u k && R k v))) → J65 (nI (k + 1)) a1 a2 a3 a4 a5 a6 a7 a8 re a10 a11 a12) : ∃ n, wX_closeReach_73 post J65 (nI k) wf fl n 0 a1 a2 a3 a4 a5 a6 a7 a8 a9 a10 a11 a12 := by
  refine pk_loop (fun n u s => wX_closeReach_73 post J65 (nI k) wf fl n (nI u) a1 a2 a3 a4 a5 a6 a7 a8 s a10 a11 a12) (fun u s => ∀ w v, w < 9 → v < 9 → mq_bt (s w) v = if w < u then (R w v || (R w k && R k v)) else R w v) 9 0 a9 (by omega) (fun w v hw hv => by rw [if_neg (by omega)]; exact h w v hw hv) ?_ ?_
  · intro n s hs
    exact pk_le 9 9 (fun _ => nm_r (nI_1 k) (H s (fun u v hu hv => by rw [hs u v hu hv, if_pos hu]))) (fun z => absurd z (by omega))
  · intro n u s hu hs hw
    refine pk_le 9 u (fun z => absurd z (by omega)) (fun _ => ⟨pk_in u 9 hu, ?_⟩)
    rw [nI_clamp (show u < 2 ^ 31 by omega), nI_clamp (show k < 2 ^ 31 by omega)]
    have huk := hs u k hu hk
    rw [if_neg (by omega)] at huk
    refine mq_in (s u) k (by omega) (fun hb => ?_) (fun hb => ?_)
    · refine br_f (by decide) ⟨pk_in u 9 hu, pk_in k 9 hk, pk_in u 9 hu, nm_e (nm_r (nI_1 u) (hw _ ?_))⟩
      intro w v hw' hv
      by_cases e : w = u
      · rw [e, pk_us, if_pos (by omega), mq_or, hs u v hu hv, hs k v hk hv, if_neg (by omega), ← huk, hb]
        by_cases e2 : k < u
        · rw [if_pos e2, hkk]
          cases R u v <;> cases R k v <;> rfl
        · rw [if_neg e2]
          cases R u v <;> cases R k v <;> rfl
      · rw [pk_un e, hs w v hw' hv]
        by_cases e2 : w < u
        · rw [if_pos e2, if_pos (by omega)]
        · rw [if_neg e2, if_neg (by omega)]
    · refine br_t rfl (nm_r (nI_1 u) (hw s ?_))
      intro w v hw' hv
      rw [hs w v hw' hv]
      by_cases e : w = u
      · rw [e, if_neg (by omega), if_pos (by omega), ← huk, hb]
        simp
      · by_cases e2 : w < u
        · rw [if_pos e2, if_pos (by omega)]
        · rw [if_neg e2, if_neg (by omega)]
theorem mq_cr65 {post : St1 → Prop} (h : mq_Q a6 (fun u v => mq_bt (a9 u) v) 0) (H : ∀ re : Nat → Int32, mq_Q a6 (fun u v => mq_bt (re u) v) 9 → post (wf, fl, a1, a2, a3, a4, a5, a6, a7, a8, re, a10, a11, a12)) : ∃ n, wX_closeReach_65 post wf fl n 0 a1 a2 a3 a4 a5 a6 a7 a8 a9 a10 a11 a12 :=
  pk_loop (fun n k s => wX_closeReach_65 post wf fl n (nI k) a1 a2 a3 a4 a5 a6 a7 a8 s a10 a11 a12) (fun k s => mq_Q a6 (fun u v => mq_bt (s u) v) k) 9 0 a9 (by omega) h
    (fun n s hs => pk_le 9 9 (fun _ => H s hs) (fun z => absurd z (by omega)))
    (fun n k s hk hs hw => pk_le 9 k (fun z => absurd z (by omega)) (fun _ => mq_cr73 (R := fun u v => mq_bt (s u) v) hk (hs.1 k hk) (fun _ _ _ _ => rfl) (fun re hre => hw re (mq_Q_cg (mq_Q_s hs hk) hre))))
theorem mq_cr19 {post : St1 → Prop} {J2 : Int32 → (Nat → Int32) → (Nat → Int32) → (Nat → Int32) → (Nat → Int32) → (Nat → Int32) → (Nat → Int32) → (Nat → Int32) → (Nat → Int32) → (Nat → Int32) → (Nat → Int32) → (Nat → Int32) → (Nat → Int32) →  Prop} {u : Nat} (hu : u < 9) (h : ∀ w v, w < u → v < 9 → mq_bt (a9 w) v = (decide (v = w) || decide (0 < (a6 (w * 9 + v)).toInt))) (h0 : ∀ v, v < 9 → mq_bt (a9 u) v = decide (v = u))
    (H : ∀ re : Nat → Int32, (∀ w v, w < u + 1 → v < 9 → mq_bt (re w) v = (decide (v = w) || decide (0 < (a6 (w * 9 + v)).toInt))) → J2 (nI (u + 1)) a1 a2 a3 a4 a5 a6 a7 a8 re a10 a11 a12) : ∃ n, wX_closeReach_19 post J2 (nI u) wf fl n 0 a1 a2 a3 a4 a5 a6 a7 a8 a9 a10 a11 a12 := by
  refine pk_loop (fun n j s => wX_closeReach_19 post J2 (nI u) wf fl n (nI j) a1 a2 a3 a4 a5 a6 a7 a8 s a10 a11 a12) (fun j s => (∀ w v, w < u → v < 9 → mq_bt (s w) v = (decide (v = w) || decide (0 < (a6 (w * 9 + v)).toInt))) ∧ ∀ v, v < 9 → mq_bt (s u) v = (decide (v = u) || (decide (v < j) && decide (0 < (a6 (u * 9 + v)).toInt)))) 9 0 a9 (by omega) ⟨h, fun v hv => by rw [h0 v hv]; simp⟩ ?_ ?_
  · intro n s hs
    refine pk_le 9 9 (fun _ => nm_r (nI_1 u) (H s (fun w v hw hv => ?_))) (fun z => absurd z (by omega))
    by_cases e : w = u
    · rw [e, hs.2 v hv, decide_eq_true hv, Bool.true_and]
    · exact hs.1 w v (by omega) hv
  · intro n j s hj hs hw
    refine pk_le 9 j (fun z => absurd z (by omega)) (fun _ => ?_)
    rw [mq_i9, nI_clamp (show u * 9 + j < 2 ^ 31 by omega)]
    refine ⟨pk_in (u * 9 + j) 81 (by omega), mq_bl (fun z => nm_r (nI_1 j) (hw s ⟨hs.1, fun v hv => ?_⟩)) (fun z => ⟨pk_in u 9 hu, pk_in u 9 hu, ?_⟩)⟩
    · rw [mq_0] at z
      rw [hs.2 v hv]
      by_cases e : v = j
      · rw [e, decide_eq_false (show ¬ 0 < (a6 (u * 9 + j)).toInt by omega)]
        simp
      · rw [show decide (v < j + 1) = decide (v < j) from decide_eq_decide.mpr (by omega)]
    · rw [mq_0] at z
      rw [nI_clamp (show u < 2 ^ 31 by omega)]
      refine nm_e (nm_r (nI_1 j) (hw _ ⟨fun w v hw' hv => ?_, fun v hv => ?_⟩))
      · rw [pk_un (by omega)]
        exact hs.1 w v hw' hv
      · rw [pk_us, mq_or, hs.2 v hv, mq_one j (by omega) v (by omega)]
        by_cases e : v = j
        · rw [e, decide_eq_true z]
          simp
        · rw [show decide (v < j + 1) = decide (v < j) from decide_eq_decide.mpr (by omega), decide_eq_false e, Bool.or_false]
theorem mq_closeReach {post : St1 → Prop} (H : ∀ re : Nat → Int32, mq_Q a6 (fun u v => mq_bt (re u) v) 9 → post (wf, fl, a1, a2, a3, a4, a5, a6, a7, a8, re, a10, a11, a12)) : wpX_closeReach post (wf, fl, a1, a2, a3, a4, a5, a6, a7, a8, a9, a10, a11, a12) := by
  refine pk_loop (fun n u s => wX_closeReach_2 post wf fl n (nI u) a1 a2 a3 a4 a5 a6 a7 a8 s a10 a11 a12) (fun u s => ∀ w v, w < u → v < 9 → mq_bt (s w) v = (decide (v = w) || decide (0 < (a6 (w * 9 + v)).toInt))) 9 0 a9 (by omega) (fun w v hw => absurd hw (by omega)) ?_ ?_
  · intro n s hs
    refine pk_le 9 9 (fun _ => mq_cr65 ⟨fun u hu => ?_, fun u v hu hv hl => ?_, fun u j w _ hj => absurd hj (by omega), fun S hS u v hu hv su => ?_⟩ H) (fun z => absurd z (by omega))
    · show mq_bt (s u) u = true
      rw [hs u u hu hu]
      simp
    · show mq_bt (s u) v = true
      rw [hs u v hu hv, decide_eq_true hl]
      simp
    · show mq_bt (s u) v = true → _
      rw [hs u v hu hv]
      intro x
      rcases (Bool.or_eq_true _ _).mp x with x | x
      · rw [of_decide_eq_true x]; exact su
      · exact hS u v hu hv su (of_decide_eq_true x)
  · intro n u s hu hs hw
    refine pk_le 9 u (fun z => absurd z (by omega)) (fun _ => ⟨pk_in u 9 hu, ?_⟩)
    rw [nI_clamp (show u < 2 ^ 31 by omega)]
    refine nm_e (mq_cr19 hu (fun w v hw' hv => ?_) (fun v hv => ?_) (fun re hre => hw re hre))
    · rw [pk_un (by omega)]
      exact hs w v hw' hv
    · rw [pk_us, mq_one u (by omega) v (by omega)]
end
end
section
/-- S is closed under what each place reaches -/
def mq_cl (re : Nat → Int32) (S : Nat → Bool) : Prop := ∀ u v, u < 9 → v < 9 → S u = true → mq_bt (re u) v = true → S v = true
/-- F is what work has found for x, re what each place reaches -/
def mq_V (a1 a2 a3 a4 a5 : Nat → Int32) (x : Nat) (F : Int) (re : Nat → Int32) : Prop :=
  (0 ≤ F ∧ F ≤ 980) ∧
  (∀ S : Nat → Bool, S 7 = true → S 8 = false → F ≤ mq_co a1 a2 a3 a4 a5 x S) ∧
  (∀ S : Nat → Bool, S 7 = true → S 8 = false → (F = mq_co a1 a2 a3 a4 a5 x S ↔ mq_cl re S)) ∧
  (∀ u, u < 9 → mq_bt (re u) u = true) ∧
  (∀ u j w, u < 9 → j < 9 → w < 9 → mq_bt (re u) j = true → mq_bt (re j) w = true → mq_bt (re u) w = true) ∧
  mq_bt (re 7) 8 = false
def mq_W (a1 a2 a3 a4 a5 : Nat → Int32) (wf fl : Int32) (re : Nat → Int32) : Prop := wf = -1 ∨ ∃ y, y ≤ 50 ∧ wf = nI y ∧ mq_V a1 a2 a3 a4 a5 y fl.toInt re
theorem mq_ct_z {S : Nat → Bool} {r : Nat → Int32} (hn : ∀ u v, u < 9 → v < 9 → 0 ≤ (r (u * 9 + v)).toInt) (h : mq_ct S r = 0) {u v : Nat} (hu : u < 9) (hv : v < 9) (su : S u = true) (sv : S v = false) : (r (u * 9 + v)).toInt = 0 := by
  unfold mq_ct at h
  have := mq_sm_one (f := fun k => if S (k / 9) && !S (k % 9) then (r k).toInt else 0) (n := 81) (k := u * 9 + v) (by omega) (fun i hi => by
    have := hn (i / 9) (i % 9) (by omega) (by omega)
    rw [show i / 9 * 9 + i % 9 = i by omega] at this
    split <;> omega)
  rw [h] at this
  rw [show (u * 9 + v) / 9 = u by omega, show (u * 9 + v) % 9 = v by omega, su, sv] at this
  have h0 := hn u v hu hv
  simp at this
  omega
theorem mq_co0 {a1 a2 a3 a4 a5 : Nat → Int32} {x : Nat} {S : Nat → Bool} (h : ∀ v, v < 7 → S v = false) : mq_co a1 a2 a3 a4 a5 x S = mq_sm (fun v => mq_pl a2 a3 x v) 7 := by
  unfold mq_co
  refine mq_sm_cg (fun v hv => ?_)
  have h0 : mq_sm (fun u => if S u = false then 0 else (a1 (u * 7 + v)).toInt) v = 0 := mq_sm_0 (fun u hu => by rw [h u (by omega)]; simp)
  rw [h v hv, h0]
  simp
theorem mq_co1 {a1 a2 a3 a4 a5 : Nat → Int32} {x : Nat} {S : Nat → Bool} (h : ∀ v, v < 7 → S v = true) : mq_co a1 a2 a3 a4 a5 x S = mq_sm (fun v => mq_pl a4 a5 x v) 7 := by
  unfold mq_co
  refine mq_sm_cg (fun v hv => ?_)
  have h0 : mq_sm (fun u => if S u = true then 0 else (a1 (u * 7 + v)).toInt) v = 0 := mq_sm_0 (fun u hu => by rw [h u (by omega)]; simp)
  rw [h v hv, h0]
  simp
theorem mq_mk {a1 a2 a3 a4 a5 l l' re : Nat → Int32} {x : Nat} {F : Int} (hP : mq_P a1 a2 a3 a4 a5) (hx : x ≤ 50) (hl : ∀ w v, w < 9 → v < 9 → (l (w * 9 + v)).toInt = mq_c a1 a2 a3 a4 a5 x w v) (hF : mq_Fl l l' F) (h0 : 0 ≤ F) (ho : 1000 ≤ F ∨ mq_Cl l') (hQ : mq_Q l' (fun u v => mq_bt (re u) v) 9) : mq_V a1 a2 a3 a4 a5 x F re := by
  obtain ⟨f1, f2, f3⟩ := hF
  obtain ⟨q1, q2, q3, q4⟩ := hQ
  have fc : ∀ S : Nat → Bool, S 7 = true → S 8 = false → F + mq_ct S l' = mq_co a1 a2 a3 a4 a5 x S := by
    intro S s7 s8
    rw [f3 S s7 s8, mq_ctc hP hl s7 s8]
  have hle : ∀ S : Nat → Bool, S 7 = true → S 8 = false → F ≤ mq_co a1 a2 a3 a4 a5 x S := by
    intro S s7 s8
    have := fc S s7 s8
    have := mq_ct_nn S f1
    omega
  have h980 : F ≤ 980 := by
    have h1 := hle (fun v => decide (v = 7)) rfl rfl
    rw [mq_co0 (fun v hv => by apply decide_eq_false; omega)] at h1
    have h2 := mq_sm_ub (f := fun v => mq_pl a2 a3 x v) (n := 7) (B := 140) (fun i hi => (mq_pl_r (hP.2.1 i hi) hx).2)
    omega
  have hcl : mq_Cl l' := ho.resolve_left (by omega)
  refine ⟨⟨h0, h980⟩, hle, fun S s7 s8 => ⟨fun e => ?_, fun c => ?_⟩, q1, fun u j w hu hj hw => q3 u j w hu hj hj hw, ?_⟩
  · have hz : mq_ct S l' = 0 := by
      have := fc S s7 s8
      omega
    refine fun u v hu hv su hr => q4 S (fun u v hu hv su hl' => ?_) u v hu hv su hr
    cases hs : S v
    · have := mq_ct_z f1 hz hu hv su hs
      omega
    · rfl
  · have hz : mq_ct S l' = 0 := by
      refine mq_ct_0 (fun u v hu hv su sv => ?_)
      have h1 := f1 u v hu hv
      apply Classical.byContradiction
      intro hne
      have h2 := c u v hu hv su (q2 u v hu hv (by omega))
      rw [h2] at sv
      exact absurd sv (by decide)
    have := fc S s7 s8
    omega
  · obtain ⟨S, s7, s8, hS⟩ := hcl
    cases hb : mq_bt (re 7) 8
    · rfl
    · have := q4 S (fun u v hu hv su hl' => by
        cases hs : S v
        · have := hS u v hu hv su hs
          omega
        · rfl) 7 8 (by omega) (by omega) s7 hb
      rw [this] at s8
      exact absurd s8 (by decide)
theorem mq_nm1 {x : Nat} (hx : x < 2147483648) : ¬ nI x = -1 := by
  intro z
  have := mq_eq.mp z
  rw [mq_nI hx] at this
  have e : (-1 : Int32).toInt = -1 := by decide
  omega
section
variable {wf fl : Int32} {a1 a2 a3 a4 a5 a6 a7 a8 a9 a10 a11 a12 : Nat → Int32}
theorem mq_work {post : St1 → Prop} {x : Nat} (hP : mq_P a1 a2 a3 a4 a5) (hW : mq_W a1 a2 a3 a4 a5 wf fl a9) (hx : x ≤ 50) (H : ∀ fl l qu cm re, mq_V a1 a2 a3 a4 a5 x fl.toInt re → post (nI x, fl, a1, a2, a3, a4, a5, l, qu, cm, re, a10, a11, a12)) : wpX_work post (wf, fl, a1, a2, a3, a4, a5, a6, a7, a8, a9, a10, a11, a12) (nI x) := by
  unfold wpX_work
  refine ⟨fun e => ?_, fun ne => ?_⟩
  · subst e
    rcases hW with h | ⟨y, hy, e, hV⟩
    · exact absurd h (mq_nm1 (by omega))
    · have : x = y := mq_inj (by omega) (by omega) e
      subst this
      exact H fl a6 a7 a8 a9 hV
  · refine mq_load hP hx (fun l hl => ?_)
    have hn : ∀ u v, u < 9 → v < 9 → 0 ≤ (l (u * 9 + v)).toInt := fun u v hu hv => by rw [hl u v hu hv]; exact (mq_c_r hP hx).1
    have hb : ∀ u v, u < 9 → v < 9 → (l (u * 9 + v)).toInt + (l (v * 9 + u)).toInt ≤ 1000000 := fun u v hu hv => by
      rw [hl u v hu hv, hl v u hv hu]
      have h1 := (mq_c_r (w := u) (v := v) hP hx).2
      have h2 := (mq_c_r (w := v) (v := u) hP hx).2
      omega
    have hc : mq_ct (fun v => decide (v = 7)) l ≤ 1000000 := by
      rw [mq_ctc hP hl rfl rfl, mq_co0 (fun v hv => by apply decide_eq_false; omega)]
      have h2 := mq_sm_ub (f := fun v => mq_pl a2 a3 x v) (n := 7) (B := 140) (fun i hi => (mq_pl_r (hP.2.1 i hi) hx).2)
      omega
    refine mq_grow hn hb (S0 := fun v => decide (v = 7)) rfl rfl hc (fun fl l' qu cm hF ho h0 => ?_)
    exact mq_closeReach (fun re hQ => H fl l' qu cm re (mq_mk hP hx hl hF h0 ho hQ))
theorem mq_least {post : Int32 → St1 → Prop} {x : Nat} (hP : mq_P a1 a2 a3 a4 a5) (hW : mq_W a1 a2 a3 a4 a5 wf fl a9) (hx : x ≤ 50) (H : ∀ fl l qu cm re, mq_V a1 a2 a3 a4 a5 x fl.toInt re → post fl (nI x, fl, a1, a2, a3, a4, a5, l, qu, cm, re, a10, a11, a12)) : wpX_least post (wf, fl, a1, a2, a3, a4, a5, a6, a7, a8, a9, a10, a11, a12) (nI x) := by
  unfold wpX_least
  exact mq_badX hx (br_t rfl (mq_work hP hW hx H))
theorem mq_always {post : Int32 → St1 → Prop} {x : Nat} (hP : mq_P a1 a2 a3 a4 a5) (hW : mq_W a1 a2 a3 a4 a5 wf fl a9) (hx : x ≤ 50) (H : ∀ fl l qu cm re, mq_V a1 a2 a3 a4 a5 x fl.toInt re → post (re 7 &&& 127) (nI x, fl, a1, a2, a3, a4, a5, l, qu, cm, re, a10, a11, a12)) : wpX_always post (wf, fl, a1, a2, a3, a4, a5, a6, a7, a8, a9, a10, a11, a12) (nI x) := by
  unfold wpX_always
  exact mq_badX hx (br_t rfl (mq_work hP hW hx H))
theorem mq_greatest {post : Int32 → Prop} (H : ∀ e : Int32, (∀ i, i < 32 → mq_bt e i = (decide (i < 7) && !mq_bt (a9 i) 8)) → post e) : wpX_greatestSide post (wf, fl, a1, a2, a3, a4, a5, a6, a7, a8, a9, a10, a11, a12) := by
  refine pk_loop (fun n j s => wX_greatestSide_4 post wf fl a1 a2 a3 a4 a5 a6 a7 a8 a9 a10 a11 a12 n s (nI j)) (fun j s => ∀ i, i < 32 → mq_bt s i = (decide (i < j) && !mq_bt (a9 i) 8)) 7 0 (0 : Int32) (by omega) (fun i hi => by rw [mq_b0]; simp) ?_ ?_
  · intro n s hs
    exact pk_le 7 7 (fun _ => H s hs) (fun z => absurd z (by omega))
  · intro n j s hj hs hw
    refine pk_le 7 j (fun z => absurd z (by omega)) (fun _ => ⟨pk_in j 9 (by omega), ?_⟩)
    rw [nI_clamp (show j < 2 ^ 31 by omega)]
    refine mq_in (a9 j) 8 (by omega) (fun hb => br_f (by decide) (nm_r (nI_1 j) (hw s (fun i hi => ?_)))) (fun hb => br_t rfl (nm_e (nm_r (nI_1 j) (hw _ (fun i hi => ?_)))))
    · rw [hs i hi]
      by_cases e : i = j
      · rw [e, hb]; simp
      · rw [show decide (i < j + 1) = decide (i < j) from decide_eq_decide.mpr (by omega)]
    · rw [mq_or, hs i hi, mq_one j (by omega) i hi]
      by_cases e : i = j
      · rw [e, hb]; simp
      · rw [show decide (i < j + 1) = decide (i < j) from decide_eq_decide.mpr (by omega), decide_eq_false e, Bool.or_false]
theorem mq_ever {post : Int32 → St1 → Prop} {x : Nat} (hP : mq_P a1 a2 a3 a4 a5) (hW : mq_W a1 a2 a3 a4 a5 wf fl a9) (hx : x ≤ 50) (H : ∀ e fl l qu cm re, mq_V a1 a2 a3 a4 a5 x fl.toInt re → (∀ i, i < 32 → mq_bt e i = (decide (i < 7) && !mq_bt (re i) 8)) → post e (nI x, fl, a1, a2, a3, a4, a5, l, qu, cm, re, a10, a11, a12)) : wpX_ever post (wf, fl, a1, a2, a3, a4, a5, a6, a7, a8, a9, a10, a11, a12) (nI x) := by
  unfold wpX_ever
  exact mq_badX hx (br_t rfl (mq_work hP hW hx (fun fl l qu cm re hV => mq_greatest (fun e he => H e fl l qu cm re hV he))))
end
/-! what two findings for one x have in common -/
theorem mq_V_cut {a1 a2 a3 a4 a5 re : Nat → Int32} {x : Nat} {F : Int} (h : mq_V a1 a2 a3 a4 a5 x F re) {u : Nat} (hu : u < 9) (h8 : mq_bt (re u) 8 = false) : mq_cl re (fun v => mq_bt (re 7) v || mq_bt (re u) v) ∧ F = mq_co a1 a2 a3 a4 a5 x (fun v => mq_bt (re 7) v || mq_bt (re u) v) := by
  obtain ⟨h1, h2, h3, h4, h5, h6⟩ := h
  have hc : mq_cl re (fun v => mq_bt (re 7) v || mq_bt (re u) v) := by
    intro w v hw hv sw hr
    rcases (Bool.or_eq_true _ _).mp sw with y | y
    · show (mq_bt (re 7) v || mq_bt (re u) v) = true
      rw [h5 7 w v (by omega) hw hv y hr, Bool.true_or]
    · show (mq_bt (re 7) v || mq_bt (re u) v) = true
      rw [h5 u w v hu hw hv y hr, Bool.or_true]
  exact ⟨hc, (h3 _ (by rw [h4 7 (by omega)]; rfl) (by rw [h6, h8]; rfl)).mpr hc⟩
theorem mq_V_F {a1 a2 a3 a4 a5 re re' : Nat → Int32} {x : Nat} {F F' : Int} (h : mq_V a1 a2 a3 a4 a5 x F re) (h' : mq_V a1 a2 a3 a4 a5 x F' re') : F = F' := by
  have e1 := (mq_V_cut h (u := 7) (by omega) h.2.2.2.2.2).2
  have e2 := (mq_V_cut h' (u := 7) (by omega) h'.2.2.2.2.2).2
  have l1 := h'.2.1 (fun v => mq_bt (re 7) v || mq_bt (re 7) v) (by rw [h.2.2.2.1 7 (by omega)]; rfl) (by rw [h.2.2.2.2.2]; rfl)
  have l2 := h.2.1 (fun v => mq_bt (re' 7) v || mq_bt (re' 7) v) (by rw [h'.2.2.2.1 7 (by omega)]; rfl) (by rw [h'.2.2.2.2.2]; rfl)
  omega
/-- what re closes up from u, re' closes too -/
theorem mq_V_cl {a1 a2 a3 a4 a5 re re' : Nat → Int32} {x : Nat} {F F' : Int} (h : mq_V a1 a2 a3 a4 a5 x F re) (h' : mq_V a1 a2 a3 a4 a5 x F' re') {u : Nat} (hu : u < 9) (h8 : mq_bt (re u) 8 = false) : mq_cl re' (fun v => mq_bt (re 7) v || mq_bt (re u) v) := by
  have e := (mq_V_cut h hu h8).2
  rw [mq_V_F h h'] at e
  exact (h'.2.2.1 _ (by rw [h.2.2.2.1 7 (by omega)]; rfl) (by rw [h.2.2.2.2.2, h8]; rfl)).mp e
theorem mq_V_7 {a1 a2 a3 a4 a5 re re' : Nat → Int32} {x : Nat} {F F' : Int} (h : mq_V a1 a2 a3 a4 a5 x F re) (h' : mq_V a1 a2 a3 a4 a5 x F' re') {v : Nat} (hv : v < 9) (hb : mq_bt (re' 7) v = true) : mq_bt (re 7) v = true := by
  have : (mq_bt (re 7) v || mq_bt (re 7) v) = true := mq_V_cl h h' (u := 7) (by omega) h.2.2.2.2.2 7 v (by omega) hv (by show (mq_bt (re 7) 7 || mq_bt (re 7) 7) = true; rw [h.2.2.2.1 7 (by omega)]; rfl) hb
  rw [Bool.or_self] at this
  exact this
theorem mq_V_8 {a1 a2 a3 a4 a5 re re' : Nat → Int32} {x : Nat} {F F' : Int} (h : mq_V a1 a2 a3 a4 a5 x F re) (h' : mq_V a1 a2 a3 a4 a5 x F' re') {v : Nat} (hv : v < 9) (hb : mq_bt (re v) 8 = false) : mq_bt (re' v) 8 = false := by
  cases hc : mq_bt (re' v) 8
  · rfl
  · have : (mq_bt (re 7) 8 || mq_bt (re v) 8) = true := mq_V_cl h h' hv hb v 8 hv (by omega) (by show (mq_bt (re 7) v || mq_bt (re v) v) = true; rw [h.2.2.2.1 v hv, Bool.or_true]) hc
    rw [h.2.2.2.2.2, hb] at this
    exact absurd this (by decide)
theorem mq_V_7e {a1 a2 a3 a4 a5 re re' : Nat → Int32} {x : Nat} {F F' : Int} (h : mq_V a1 a2 a3 a4 a5 x F re) (h' : mq_V a1 a2 a3 a4 a5 x F' re') {v : Nat} (hv : v < 9) : mq_bt (re 7) v = mq_bt (re' 7) v := by
  cases e : mq_bt (re' 7) v
  · cases e2 : mq_bt (re 7) v
    · rfl
    · rw [mq_V_7 h' h hv e2] at e
      exact absurd e (by decide)
  · exact mq_V_7 h h' hv e
theorem mq_V_8e {a1 a2 a3 a4 a5 re re' : Nat → Int32} {x : Nat} {F F' : Int} (h : mq_V a1 a2 a3 a4 a5 x F re) (h' : mq_V a1 a2 a3 a4 a5 x F' re') {v : Nat} (hv : v < 9) : mq_bt (re v) 8 = mq_bt (re' v) 8 := by
  cases e : mq_bt (re v) 8
  · exact (mq_V_8 h h' hv e).symm
  · cases e2 : mq_bt (re' v) 8
    · rw [mq_V_8 h' h hv e2] at e
      exact absurd e (by decide)
    · rfl
end
section
section
variable {wf fl : Int32} {a1 a2 a3 a4 a5 a6 a7 a8 a9 a10 a11 a12 : Nat → Int32}
theorem mq_unset {post : Int32 → Prop} {e : Nat} (he : e < 9) (H7 : (∀ w, w < 7 → mq_bt (a10 e ||| a11 e) w = true) → post 7) (Hv : ∀ v, v < 7 → mq_bt (a10 e ||| a11 e) v = false → post (nI v)) : wpX_unsettled post (wf, fl, a1, a2, a3, a4, a5, a6, a7, a8, a9, a10, a11, a12) (nI e) := by
  refine pk_loop (σ := Unit) (fun n v _ => wX_unsettled_2 post (nI e) wf fl a1 a2 a3 a4 a5 a6 a7 a8 a9 a10 a11 a12 n (nI v)) (fun v _ => ∀ w, w < v → mq_bt (a10 e ||| a11 e) w = true) 7 0 () (by omega) (fun w hw => absurd hw (by omega)) ?_ ?_
  · intro n _ hs
    exact pk_le 7 7 (fun _ => H7 hs) (fun z => absurd z (by omega))
  · intro n v _ hv hs hw
    refine pk_le 7 v (fun z => absurd z (by omega)) (fun _ => ⟨pk_in e 9 he, pk_in e 9 he, ?_⟩)
    rw [nI_clamp (show e < 2 ^ 31 by omega)]
    refine mq_in _ v (by omega) (fun hb => br_f (by decide) (nm_r (nI_1 v) (hw () ?_))) (fun hb => br_t rfl (Hv v hv hb))
    intro w hw'
    by_cases y : w = v
    · rw [y]; exact hb
    · exact hs w (by omega)
theorem mq_reaching {post : Int32 → Prop} {v : Nat} (hv : v < 7) (hr : mq_bt (a9 v) v = true) (H : ∀ r : Int32, mq_bt r v = true → post r) : wpX_reaching post (wf, fl, a1, a2, a3, a4, a5, a6, a7, a8, a9, a10, a11, a12) ((1 : Int32) <<< (nI v &&& 31)) := by
  refine pk_loop (fun n j s => wX_reaching_4 post ((1 : Int32) <<< (nI v &&& 31)) wf fl a1 a2 a3 a4 a5 a6 a7 a8 a9 a10 a11 a12 n s (nI j)) (fun j s => v < j → mq_bt s v = true) 7 0 (0 : Int32) (by omega) (fun z => absurd z (by omega)) ?_ ?_
  · intro n s hs
    exact pk_le 7 7 (fun _ => H s (hs hv)) (fun z => absurd z (by omega))
  · intro n j s hj hs hw
    refine pk_le 7 j (fun z => absurd z (by omega)) (fun _ => ⟨pk_in j 9 (by omega), ?_⟩)
    rw [nI_clamp (show j < 2 ^ 31 by omega)]
    refine ⟨fun z => nm_r (nI_1 j) (hw s (fun hj1 => ?_)), fun z => nm_e (nm_r (nI_1 j) (hw _ (fun hj1 => ?_)))⟩
    · by_cases y : v = j
      · have h1 := mq_and (a9 j) ((1 : Int32) <<< (nI v &&& 31)) v
        rw [z, mq_b0, mq_one v (by omega) v (by omega), ← y, hr] at h1
        simp at h1
      · exact hs (by omega)
    · rw [mq_or, mq_one j (by omega) v (by omega)]
      by_cases y : v = j
      · rw [decide_eq_true y, Bool.or_true]
      · rw [hs (by omega), Bool.true_or]
theorem mq_br109 {post : St1 → Prop} {e : Nat} {r : Int32} (he : e ≤ 7) (H : post (wf, fl, a1, a2, a3, a4, a5, a6, a7, a8, a9, a10, upd a11 (e + 1) r, upd a12 (e + 1) 0)) : wX_branch_109 post (nI e) r (nI e + 1) wf fl a1 a2 a3 a4 a5 a6 a7 a8 a9 a10 a11 a12 := by
  unfold wX_branch_109
  rw [nI_1, nI_clamp (show e + 1 < 2 ^ 31 by omega)]
  exact ⟨pk_in (e + 1) 9 (by omega), nm_e ⟨pk_in (e + 1) 9 (by omega), nm_e H⟩⟩
theorem mq_branch {post : St1 → Prop} {e v : Nat} (he : e ≤ 7) (hv : v < 7) (hr : mq_bt (a9 v) v = true)
    (H : ∀ t r : Int32, (∀ w, w < 7 → mq_bt (a10 e ||| a11 e) w = true → mq_bt (t ||| r) w = true) → mq_bt (t ||| r) v = true → post (wf, fl, a1, a2, a3, a4, a5, a6, a7, a8, a9, upd a10 (e + 1) t, upd a11 (e + 1) r, upd (upd a12 e (a12 e + 1)) (e + 1) 0)) : wpX_branch post (wf, fl, a1, a2, a3, a4, a5, a6, a7, a8, a9, a10, a11, a12) (nI e) (nI v) := by
  have hc : (nI e).toNatClampNeg = e := nI_clamp (show e < 2 ^ 31 by omega)
  have hc1 : (nI e + 1).toNatClampNeg = e + 1 := by rw [nI_1]; exact nI_clamp (show e + 1 < 2 ^ 31 by omega)
  have hin : vp_in (nI e) 9 := pk_in e 9 (by omega)
  have hin1 : vp_in (nI e + 1) 9 := by rw [nI_1]; exact pk_in (e + 1) 9 (by omega)
  refine ⟨hin, ?_⟩
  rw [hc]
  refine ⟨fun z => ?_, fun z => ?_⟩
  · unfold wX_branch_14
    rw [hc, nI_clamp (show v < 2 ^ 31 by omega)]
    refine ⟨hin, hin, nm_e (br_f (by decide) ⟨pk_in v 9 (by omega), ?_⟩)⟩
    unfold wX_branch_48
    rw [hc]
    refine br_f (by decide) ⟨hin, ?_⟩
    unfold wX_branch_79
    rw [hc, hc1]
    refine ⟨hin1, nm_e (br_f (by decide) ⟨hin, mq_br109 he ?_⟩)⟩
    refine H (a10 e ||| (a9 v &&& 127)) (a11 e) (fun w hw hb => ?_) ?_
    · rw [mq_or] at hb
      rw [mq_or, mq_or]
      rcases (Bool.or_eq_true _ _).mp hb with y | y <;> rw [y] <;> simp
    · rw [mq_or, mq_or, mq_and, hr, mq_127 v (by omega), decide_eq_true hv]
      simp
  · unfold wX_branch_14
    rw [hc]
    refine ⟨hin, hin, nm_e (br_t rfl (mq_reaching hv hr (fun more hm => ?_)))⟩
    unfold wX_branch_48
    rw [hc]
    refine br_t rfl ⟨hin, ?_⟩
    unfold wX_branch_79
    rw [hc, hc1]
    refine ⟨hin1, nm_e (br_t rfl ⟨hin, mq_br109 he ?_⟩)⟩
    refine H (a10 e) (a11 e ||| more) (fun w hw hb => ?_) ?_
    · rw [mq_or] at hb
      rw [mq_or, mq_or]
      rcases (Bool.or_eq_true _ _).mp hb with y | y <;> rw [y] <;> simp
    · rw [mq_or, mq_or, hm]
      simp
/-- one visit of a level with something unsettled and a branch left -/
theorem mq_visit {post : Int32 → St1 → Prop} {n s e : Nat} {c : Int32} {k : Nat} (hs : s < 4000) (he : e ≤ 7) (hre : ∀ v, v < 7 → mq_bt (a9 v) v = true) (hk : mq_cn (fun w => !mq_bt (a10 e ||| a11 e) w) 7 = k + 1) (h2 : ¬ a12 e = 2)
    (H : ∀ t r : Int32, mq_cn (fun w => !mq_bt (t ||| r) w) 7 ≤ k → wX_countClosed_38 post n c (nI (e + 1)) (nI (s + 1)) wf fl a1 a2 a3 a4 a5 a6 a7 a8 a9 (upd a10 (e + 1) t) (upd a11 (e + 1) r) (upd (upd a12 e (a12 e + 1)) (e + 1) 0)) :
    wX_countClosed_38 post (n + 1) c (nI e) (nI s) wf fl a1 a2 a3 a4 a5 a6 a7 a8 a9 a10 a11 a12 := by
  refine pk_le 4000 s (fun z => absurd z (by omega)) (fun _ => br_f (nI_pos (by omega)) (mq_unset (by omega) (fun h7 => ?_) (fun v hv hb => ?_)))
  · have := mq_cn_z (f := fun w => !mq_bt (a10 e ||| a11 e) w) (n := 7) (fun i hi => by rw [h7 i hi]; rfl)
    omega
  · refine br_f (fun z => ?_) ⟨pk_in e 9 (by omega), ?_⟩
    · have : v = 7 := mq_inj (by omega) (by omega) (show nI v = nI 7 from z)
      omega
    · rw [nI_clamp (show e < 2 ^ 31 by omega)]
      refine br_f h2 (mq_branch he hv (hre v hv) (fun t r h1 h3 => nm_r (nI_1 e) (nm_r (nI_1 s) (H t r ?_))))
      have := mq_cn_lt (f := fun w => !mq_bt (a10 e ||| a11 e) w) (g := fun w => !mq_bt (t ||| r) w) (n := 7) hv (fun i hi hg => by
        cases hb' : mq_bt (a10 e ||| a11 e) i
        · rfl
        · rw [h1 i hi hb'] at hg
          exact absurd hg (by decide)) (by rw [hb]; rfl) (by rw [h3]; rfl)
      omega
theorem mq_dfs {post : Int32 → St1 → Prop} (hre : ∀ v, v < 7 → mq_bt (a9 v) v = true) : ∀ (k n e s c : Nat) (tk rf sg : Nat → Int32), n + s = 4001 → e + k ≤ 7 → mq_cn (fun w => !mq_bt (tk e ||| rf e) w) 7 = k → sg e = 0 → s + 4 * 2 ^ k ≤ 4000 →
    (∀ (c' d n' : Nat) (tk' rf' sg' : Nat → Int32), n' + (s + d) = 4001 → 1 ≤ c' → c' ≤ 2 ^ k → (1 ≤ k → 2 ≤ c') → d + 3 ≤ 4 * 2 ^ k → (∀ i, i < e → tk' i = tk i ∧ rf' i = rf i ∧ sg' i = sg i) → wX_countClosed_38 post n' (nI (c + c')) (nI e + (-1)) (nI (s + d)) wf fl a1 a2 a3 a4 a5 a6 a7 a8 a9 tk' rf' sg') →
    wX_countClosed_38 post n (nI c) (nI e) (nI s) wf fl a1 a2 a3 a4 a5 a6 a7 a8 a9 tk rf sg := by
  intro k
  induction k using Nat.strongRecOn with
  | ind k ih =>
    intro n e s c tk rf sg hn hek hk hsg hs H
    have hp : 0 < 2 ^ k := Nat.pow_pos (by omega)
    obtain ⟨n1, rfl⟩ : ∃ n1, n = n1 + 1 := ⟨n - 1, by omega⟩
    rcases Nat.eq_zero_or_pos k with hk0 | hk0
    · refine pk_le 4000 s (fun z => absurd z (by omega)) (fun _ => br_f (nI_pos (by omega)) (mq_unset (by omega) (fun h7 => ?_) (fun v hv hb => ?_)))
      · refine br_t rfl (nm_r (nI_1 c) (nm_e (nm_r (nI_1 s) ?_)))
        exact H 1 1 n1 tk rf sg (by omega) (by omega) (by omega) (by omega) (by omega) (fun i hi => ⟨rfl, rfl, rfl⟩)
      · have := mq_cn_0 (hk.trans hk0) v hv
        rw [hb] at this
        exact absurd this (by decide)
    · obtain ⟨k', rfl⟩ : ∃ k', k = k' + 1 := ⟨k - 1, by omega⟩
      have hpw : 2 ^ (k' + 1) = 2 * 2 ^ k' := by rw [Nat.pow_succ]; omega
      refine mq_visit (by omega) (by omega) hre hk (by rw [hsg]; decide) (fun t r hk1 => ?_)
      have hq1 : 2 ^ mq_cn (fun w => !mq_bt (t ||| r) w) 7 ≤ 2 ^ k' := Nat.pow_le_pow_right (by omega) hk1
      refine ih (mq_cn (fun w => !mq_bt (t ||| r) w) 7) (by omega) n1 (e + 1) (s + 1) c (upd tk (e + 1) t) (upd rf (e + 1) r) (upd (upd sg e (sg e + 1)) (e + 1) 0) (by omega) (by omega) (by rw [pk_us, pk_us]) pk_us (by omega) (fun c1 d1 n2 tk1 rf1 sg1 g1 g2 g3 g4 g5 g6 => ?_)
      rw [pk_m1]
      obtain ⟨n3, rfl⟩ : ∃ n3, n2 = n3 + 1 := ⟨n2 - 1, by omega⟩
      obtain ⟨y1, y2, y3⟩ := g6 e (by omega)
      rw [pk_un (by omega)] at y1 y2
      rw [pk_un (by omega), pk_us, hsg] at y3
      refine mq_visit (k := k') (by omega) (by omega) hre (by rw [y1, y2]; exact hk) (by rw [y3]; decide) (fun t' r' hk2 => ?_)
      have hq2 : 2 ^ mq_cn (fun w => !mq_bt (t' ||| r') w) 7 ≤ 2 ^ k' := Nat.pow_le_pow_right (by omega) hk2
      refine ih (mq_cn (fun w => !mq_bt (t' ||| r') w) 7) (by omega) n3 (e + 1) (s + 1 + d1 + 1) (c + c1) (upd tk1 (e + 1) t') (upd rf1 (e + 1) r') (upd (upd sg1 e (sg1 e + 1)) (e + 1) 0) (by omega) (by omega) (by rw [pk_us, pk_us]) pk_us (by omega) (fun c2 d2 n4 tk2 rf2 sg2 j1 j2 j3 j4 j5 j6 => ?_)
      rw [pk_m1]
      obtain ⟨n5, rfl⟩ : ∃ n5, n4 = n5 + 1 := ⟨n4 - 1, by omega⟩
      obtain ⟨x1, x2, x3⟩ := j6 e (by omega)
      rw [pk_un (by omega), y1] at x1
      rw [pk_un (by omega), y2] at x2
      rw [pk_un (by omega), pk_us, y3] at x3
      refine pk_le 4000 (s + 1 + d1 + 1 + d2) (fun z => absurd z (by omega)) (fun _ => br_f (nI_pos (by omega)) (mq_unset (by omega) (fun h7 => ?_) (fun v hv hb => ?_)))
      · have := mq_cn_z (f := fun w => !mq_bt (tk2 e ||| rf2 e) w) (n := 7) (fun i hi => by rw [h7 i hi]; rfl)
        rw [x1, x2] at this
        omega
      · refine br_f (fun z => ?_) ⟨pk_in e 9 (by omega), ?_⟩
        · have : v = 7 := mq_inj (by omega) (by omega) (show nI v = nI 7 from z)
          omega
        · rw [nI_clamp (show e < 2 ^ 31 by omega)]
          refine br_t (by rw [x3]; rfl) (nm_e (nm_r (nI_1 _) ?_))
          have fin := H (c1 + c2) (1 + d1 + 1 + d2 + 1) n5 tk2 rf2 sg2 (by omega) (by omega) (by omega) (by omega) (by omega) (fun i hi => by
            obtain ⟨p1, p2, p3⟩ := g6 i (by omega)
            obtain ⟨q1, q2, q3⟩ := j6 i (by omega)
            rw [pk_un (by omega)] at p1 p2 q1 q2
            rw [pk_un (by omega), pk_un (by omega)] at p3 q3
            exact ⟨q1.trans p1, q2.trans p2, q3.trans p3⟩)
          rw [show c + c1 + c2 = c + (c1 + c2) by omega, show s + 1 + d1 + 1 + d2 + 1 = s + (1 + d1 + 1 + d2 + 1) by omega]
          exact fin
theorem mq_countClosed {post : Int32 → St1 → Prop} (hre : ∀ v, v < 7 → mq_bt (a9 v) v = true)
    (H : ∀ (c : Nat) (tk rf sg : Nat → Int32), 1 ≤ c → c ≤ 2 ^ mq_cn (fun w => !mq_bt (a9 7) w && !mq_bt (a9 w) 8) 7 → (1 ≤ mq_cn (fun w => !mq_bt (a9 7) w && !mq_bt (a9 w) 8) 7 → 2 ≤ c) → post (nI c) (wf, fl, a1, a2, a3, a4, a5, a6, a7, a8, a9, tk, rf, sg)) : wpX_countClosed post (wf, fl, a1, a2, a3, a4, a5, a6, a7, a8, a9, a10, a11, a12) := by
  unfold wpX_countClosed
  refine nm_e (mq_greatest (fun g hg => nm_e (nm_e ⟨4001, ?_⟩)))
  have hk : mq_cn (fun w => !mq_bt (upd a10 0 (a9 7 &&& 127) 0 ||| upd a11 0 (127 &&& (g ^^^ (-1))) 0) w) 7 = mq_cn (fun w => !mq_bt (a9 7) w && !mq_bt (a9 w) 8) 7 := by
    refine mq_cn_cg (fun w hw => ?_)
    rw [pk_us, pk_us, mq_or, mq_and, mq_and, mq_not g (by omega), hg w (by omega), mq_127 w (by omega), decide_eq_true hw]
    cases mq_bt (a9 7) w <;> cases mq_bt (a9 w) 8 <;> rfl
  have h7 : mq_cn (fun w => !mq_bt (a9 7) w && !mq_bt (a9 w) 8) 7 ≤ 7 := mq_cn_le _ _
  have hpw : 2 ^ mq_cn (fun w => !mq_bt (a9 7) w && !mq_bt (a9 w) 8) 7 ≤ 2 ^ 7 := Nat.pow_le_pow_right (by omega) h7
  have h128 : (2 : Nat) ^ 7 = 128 := by decide
  refine mq_dfs hre (mq_cn (fun w => !mq_bt (a9 7) w && !mq_bt (a9 w) 8) 7) 4001 0 0 0 _ _ _ (by omega) (by omega) hk pk_us (by omega) (fun c' d n' tk rf sg g1 g2 g3 g4 g5 g6 => ?_)
  obtain ⟨n1, rfl⟩ : ∃ n1, n' = n1 + 1 := ⟨n' - 1, by omega⟩
  have fin : post (nI (0 + c')) (wf, fl, a1, a2, a3, a4, a5, a6, a7, a8, a9, tk, rf, sg) := by
    rw [Nat.zero_add]
    exact H c' tk rf sg g2 g3 g4
  exact ⟨fun _ => fin, fun _ => br_t (by decide) fin⟩
theorem mq_ties {post : Int32 → St1 → Prop} {x : Nat} (hP : mq_P a1 a2 a3 a4 a5) (hW : mq_W a1 a2 a3 a4 a5 wf fl a9) (hx : x ≤ 50)
    (H : ∀ (c : Nat) (fl : Int32) (l qu cm re tk rf sg : Nat → Int32), mq_V a1 a2 a3 a4 a5 x fl.toInt re → 1 ≤ c → c ≤ 2 ^ mq_cn (fun w => !mq_bt (re 7) w && !mq_bt (re w) 8) 7 → (1 ≤ mq_cn (fun w => !mq_bt (re 7) w && !mq_bt (re w) 8) 7 → 2 ≤ c) → post (nI c) (nI x, fl, a1, a2, a3, a4, a5, l, qu, cm, re, tk, rf, sg)) : wpX_ties post (wf, fl, a1, a2, a3, a4, a5, a6, a7, a8, a9, a10, a11, a12) (nI x) := by
  unfold wpX_ties
  exact mq_badX hx (br_t rfl (mq_work hP hW hx (fun fl l qu cm re hV => mq_countClosed (fun v hv => hV.2.2.2.1 v (by omega)) (fun c tk rf sg h1 h2 h3 => H c fl l qu cm re tk rf sg hV h1 h2 h3))))
end
theorem mq_ones {post : Int32 → Prop} {u : St2} {m : Int32} (H : post (nI (mq_cn (fun w => mq_bt m w) 7))) : wpL_ones post u m := by
  refine pk_loop (fun n j s => wL_ones_4 post m n s (nI j)) (fun j s => s = nI (mq_cn (fun w => mq_bt m w) j)) 7 0 (0 : Int32) (by omega) rfl ?_ ?_
  · intro n s hs
    exact pk_le 7 7 (fun _ => by rw [hs]; exact H) (fun z => absurd z (by omega))
  · intro n j s hj hs hw
    refine pk_le 7 j (fun z => absurd z (by omega)) (fun _ => ?_)
    rw [mq_bit m (by omega)]
    refine nm_e (nm_r (nI_1 j) (hw _ ?_))
    show s + _ = nI (mq_cn (fun w => mq_bt m w) j + if mq_bt m j then 1 else 0)
    rw [hs, ← nI_add]
    cases mq_bt m j <;> rfl
end
section
theorem mq_bad {post : Int32 → Prop} {u : St2} {v : Nat} (hv : v < 7) (H : post 0) : wpX_bad post u (nI v) := br_f (nI_pos (by omega)) (br_t (nI_lt (b := 7) hv (by decide)) H)
theorem mq_bad1 {post : Int32 → Prop} {u : St2} {x : Int32} (h : ¬ ∃ v, v < 7 ∧ x = nI v) (H : post 1) : wpX_bad post u x := by
  refine ⟨fun _ => H, fun h0 => ⟨fun h7 => ?_, fun _ => H⟩⟩
  obtain ⟨j, hj, e⟩ := nI_of h0
  rw [e] at h7
  exact absurd ⟨j, (nI_ltI hj (by decide)).mp (show nI j < nI 7 from h7), e⟩ h
theorem mq_badc {post : Int32 → Prop} {u : St2} (x : Int32) (H0 : ∀ v, v < 7 → x = nI v → post 0) (H1 : (¬ ∃ v, v < 7 ∧ x = nI v) → post 1) : wpX_bad post u x := by
  by_cases h : ∃ v, v < 7 ∧ x = nI v
  · obtain ⟨v, hv, e⟩ := h
    have := H0 v hv e
    rw [e]
    exact mq_bad hv this
  · exact mq_bad1 h (H1 h)
theorem mq_huge {l : Nat → Int32} {u v : Nat} (hu : u < 7) (hv : v < 7) (hr : ∀ w z, w < 9 → z < 9 → 0 ≤ (l (w * 9 + z)).toInt ∧ (l (w * 9 + z)).toInt ≤ 140) :
    let l1 := upd l (63 + u) (l (63 + u) + 100000)
    let l2 := upd l1 (v * 9 + 8) (l1 (v * 9 + 8) + 100000)
    (∀ w z, w < 9 → z < 9 → (l (w * 9 + z)).toInt ≤ (l2 (w * 9 + z)).toInt ∧ (l2 (w * 9 + z)).toInt ≤ 100140) ∧
    ∀ S : Nat → Bool, S 7 = true → S 8 = false → mq_ct S l2 = mq_ct S l + (if S u then 0 else 100000) + (if S v then 100000 else 0) := by
  intro l1 l2
  have h1 := hr 7 u (by omega) (by omega)
  rw [show 7 * 9 + u = 63 + u by omega] at h1
  have h2 := hr v 8 (by omega) (by omega)
  have eh : (100000 : Int32).toInt = 100000 := by decide
  have e1 : (l1 (63 + u)).toInt = (l (63 + u)).toInt + 100000 := by
    show (upd l (63 + u) (l (63 + u) + 100000) (63 + u)).toInt = _
    rw [pk_us, mq_ad (by omega) (by omega), eh]
  have e2 : l1 (v * 9 + 8) = l (v * 9 + 8) := pk_un (by omega)
  have e3 : (l2 (v * 9 + 8)).toInt = (l (v * 9 + 8)).toInt + 100000 := by
    show (upd l1 (v * 9 + 8) (l1 (v * 9 + 8) + 100000) (v * 9 + 8)).toInt = _
    rw [pk_us, e2, mq_ad (by omega) (by omega), eh]
  refine ⟨fun w z hw hz => ?_, fun S s7 s8 => ?_⟩
  · have h3 := hr w z hw hz
    by_cases y : w * 9 + z = v * 9 + 8
    · rw [y, e3]; omega
    · have e4 : l2 (w * 9 + z) = l1 (w * 9 + z) := pk_un y
      rw [e4]
      by_cases y2 : w * 9 + z = 63 + u
      · rw [y2, e1]; omega
      · have e5 : l1 (w * 9 + z) = l (w * 9 + z) := pk_un y2
        rw [e5]; omega
  · have c1 := mq_ct_up S (r := l) (r' := l1) (u := 7) (v := u) (by omega) (by omega) (fun k _ hk => pk_un (by omega))
    have c2 := mq_ct_up S (r := l1) (r' := l2) (u := v) (v := 8) (by omega) (by omega) (fun k _ hk => pk_un hk)
    rw [show 7 * 9 + u = 63 + u by omega, e1, s7] at c1
    rw [e3, e2, s8] at c2
    rw [c2, c1]
    cases S u <;> cases S v <;> simp <;> omega
section
variable {wf fl : Int32} {a1 a2 a3 a4 a5 a6 a7 a8 a9 a10 a11 a12 : Nat → Int32}
theorem mq_apart {post : Int32 → St1 → Prop} {u v x : Nat} (hP : mq_P a1 a2 a3 a4 a5) (hu : u < 7) (hv : v < 7) (hx : x ≤ 50)
    (H : ∀ fl l qu cm, 0 ≤ fl.toInt → fl.toInt ≤ 1000000 → (∀ S : Nat → Bool, S 7 = true → S 8 = false → S u = true → S v = false → fl.toInt ≤ mq_co a1 a2 a3 a4 a5 x S) → (1000 ≤ fl.toInt ∨ ∃ S : Nat → Bool, S 7 = true ∧ S 8 = false ∧ mq_co a1 a2 a3 a4 a5 x S ≤ fl.toInt) → post fl (-1, fl, a1, a2, a3, a4, a5, l, qu, cm, a9, a10, a11, a12)) :
    wpX_leastApart post (wf, fl, a1, a2, a3, a4, a5, a6, a7, a8, a9, a10, a11, a12) (nI u) (nI v) (nI x) := by
  unfold wpX_leastApart
  refine mq_load hP hx (fun l hl => ?_)
  have e63 : (63 + nI u).toNatClampNeg = 63 + u := by rw [mq_63, nI_clamp (by omega)]
  have e98 : ((nI v * 9) + 8).toNatClampNeg = v * 9 + 8 := by rw [mq_98, nI_clamp (by omega)]
  refine ⟨pk_in (63 + u) 81 (by omega) (mq_63 u), pk_in (63 + u) 81 (by omega) (mq_63 u), ?_⟩
  rw [e63, e98]
  refine nm_e ⟨pk_in (v * 9 + 8) 81 (by omega) (mq_98 v), pk_in (v * 9 + 8) 81 (by omega) (mq_98 v), nm_e ?_⟩
  have hr : ∀ w z, w < 9 → z < 9 → 0 ≤ (l (w * 9 + z)).toInt ∧ (l (w * 9 + z)).toInt ≤ 140 := fun w z hw hz => by rw [hl w z hw hz]; exact mq_c_r hP hx
  obtain ⟨g1, g2⟩ := mq_huge hu hv hr
  have hc0 : mq_ct (fun v => decide (v = 7)) l ≤ 980 := by
    rw [mq_ctc hP hl rfl rfl, mq_co0 (fun v hv => by apply decide_eq_false; omega)]
    have h2 := mq_sm_ub (f := fun v => mq_pl a2 a3 x v) (n := 7) (B := 140) (fun i hi => (mq_pl_r (hP.2.1 i hi) hx).2)
    omega
  have hc := g2 (fun v => decide (v = 7)) rfl rfl
  have hc' : mq_ct (fun v => decide (v = 7)) (upd (upd l (63 + u) (l (63 + u) + 100000)) (v * 9 + 8) (upd l (63 + u) (l (63 + u) + 100000) (v * 9 + 8) + 100000)) ≤ 1000000 := by
    rw [hc]
    split <;> split <;> omega
  refine mq_grow (fun w z hw hz => ?_) (fun w z hw hz => ?_) (S0 := fun v => decide (v = 7)) rfl rfl hc' (fun fl l' qu cm hF ho h0 => H fl l' qu cm h0 ?_ (fun S s7 s8 su sv => ?_) ?_)
  · have := g1 w z hw hz
    have := hr w z hw hz
    omega
  · have := g1 w z hw hz
    have := g1 z w hz hw
    omega
  · have h1 := hF.2.2 (fun v => decide (v = 7)) rfl rfl
    have h2 := mq_ct_nn (fun v => decide (v = 7)) hF.1
    omega
  · have h1 := hF.2.2 S s7 s8
    have h2 := mq_ct_nn S hF.1
    rw [g2 S s7 s8, mq_ctc hP hl s7 s8, su, sv] at h1
    simp at h1
    omega
  · rcases ho with ho | ⟨S, s7, s8, hS⟩
    · exact Or.inl ho
    · refine Or.inr ⟨S, s7, s8, ?_⟩
      have h1 := hF.2.2 S s7 s8
      have h2 : mq_ct S l' = 0 := mq_ct_0 (fun w z hw hz sw sz => by
        have := hS w z hw hz sw sz
        have := hF.1 w z hw hz
        omega)
      rw [g2 S s7 s8, mq_ctc hP hl s7 s8, h2] at h1
      have h3 : (0 : Int) ≤ if S u then 0 else 100000 := by split <;> omega
      have h4 : (0 : Int) ≤ if S v then 100000 else 0 := by split <;> omega
      omega
theorem mq_sp68 {post : Int32 → St1 → Prop} {u v : Nat} {z0 : Int32} (hP : mq_P a1 a2 a3 a4 a5) (hu : u < 7) (hv : v < 7) (h0 : 0 ≤ fl.toInt) (h1 : fl.toInt ≤ z0.toInt) (h2 : z0.toInt ≤ 1000000) (H : ∀ s : Int32, 0 ≤ s.toInt → s.toInt ≤ 20 → (z0.toInt = fl.toInt → s.toInt = 0) → post s (wf, fl, a1, a2, a3, a4, a5, a6, a7, a8, a9, a10, a11, a12)) : wX_spare_68 post (nI u) (nI v) z0 wf fl a1 a2 a3 a4 a5 a6 a7 a8 a9 a10 a11 a12 := by
  unfold wX_spare_68
  rw [mq_i7, nI_clamp (show u * 7 + v < 2 ^ 31 by omega)]
  refine nm_e ⟨pk_in (u * 7 + v) 49 (by omega), nm_e ?_⟩
  have e : (z0 - fl).toInt = z0.toInt - fl.toInt := mq_sb (by omega) (by omega)
  have hp := hP.1 u v hu hv
  exact mq_bl (fun z => H _ hp.1 hp.2.1 (fun y => by omega)) (fun z => H _ (by omega) (by omega) (fun y => by omega))
theorem mq_spare {post : Int32 → St1 → Prop} {u v x : Nat} (hP : mq_P a1 a2 a3 a4 a5) (hu : u < 7) (hv : v < 7) (huv : u ≠ v) (hx : x ≤ 50)
    (H : ∀ s fl l qu cm re, mq_V a1 a2 a3 a4 a5 x fl.toInt re → 0 ≤ s.toInt → s.toInt ≤ 20 → ((∃ S : Nat → Bool, S 7 = true ∧ S 8 = false ∧ S u = true ∧ S v = false ∧ fl.toInt = mq_co a1 a2 a3 a4 a5 x S) → s.toInt = 0) → post s (nI x, fl, a1, a2, a3, a4, a5, l, qu, cm, re, a10, a11, a12)) :
    wpX_spare post (wf, fl, a1, a2, a3, a4, a5, a6, a7, a8, a9, a10, a11, a12) (nI u) (nI v) (nI x) := by
  unfold wpX_spare
  refine mq_bad hu (br_t rfl (mq_bad hv (br_t rfl (br_f (fun z => huv (mq_inj (by omega) (by omega) z)) (mq_badX hx (br_t rfl ?_))))))
  refine mq_apart hP hu hv hx (fun r1 l1 q1 c1 g1 g2 g3 g4 => ?_)
  refine mq_apart hP hv hu hx (fun r2 l2 q2 c2 k1 k2 k3 k4 => ?_)
  refine mq_work hP (Or.inl rfl) hx (fun fl l qu cm re hV => ?_)
  have ge : ∀ r : Int32, (1000 ≤ r.toInt ∨ ∃ S : Nat → Bool, S 7 = true ∧ S 8 = false ∧ mq_co a1 a2 a3 a4 a5 x S ≤ r.toInt) → fl.toInt ≤ r.toInt := by
    intro r h
    rcases h with h | ⟨S, s7, s8, h⟩
    · have := hV.1.2
      omega
    · have := hV.2.1 S s7 s8
      omega
  have ge1 := ge r1 g4
  have ge2 := ge r2 k4
  refine mq_bl (fun z => ?_) (fun z => ?_)
  · refine mq_sp68 hP hu hv hV.1.1 ge2 k2 (fun s p1 p2 p3 => H s fl l qu cm re hV p1 p2 (fun ⟨S, s7, s8, su, sv, e⟩ => p3 ?_))
    have := g3 S s7 s8 su sv
    omega
  · refine mq_sp68 hP hu hv hV.1.1 ge1 g2 (fun s p1 p2 p3 => H s fl l qu cm re hV p1 p2 (fun ⟨S, s7, s8, su, sv, e⟩ => p3 ?_))
    have := g3 S s7 s8 su sv
    omega
theorem mq_spareB {post : Int32 → St1 → Prop} {a b y : Int32} (h : ¬ ∃ u v, u < 7 ∧ v < 7 ∧ u ≠ v ∧ a = nI u ∧ b = nI v) (H : post (-1) (wf, fl, a1, a2, a3, a4, a5, a6, a7, a8, a9, a10, a11, a12)) : wpX_spare post (wf, fl, a1, a2, a3, a4, a5, a6, a7, a8, a9, a10, a11, a12) a b y := by
  unfold wpX_spare
  refine mq_badc a (fun u hu ea => br_t rfl (mq_badc b (fun v hv eb => br_t rfl ⟨fun _ => H, fun ne => absurd ⟨u, v, hu, hv, fun z => ne (by rw [ea, eb, z]), ea, eb⟩ h⟩) (fun _ => br_f (by decide) H))) (fun _ => br_f (by decide) H)
theorem mq_spareX {post : Int32 → St1 → Prop} (H : post (-2) (wf, fl, a1, a2, a3, a4, a5, a6, a7, a8, a9, a10, a11, a12)) : wpX_spare post (wf, fl, a1, a2, a3, a4, a5, a6, a7, a8, a9, a10, a11, a12) 0 1 51 := by
  unfold wpX_spare
  exact mq_bad (v := 0) (by omega) (br_t rfl (mq_bad (v := 1) (by omega) (br_t rfl (br_f (by decide) (mq_badX1 (br_f (by decide) H))))))
theorem mq_spare7 {post : Int32 → St1 → Prop} (H : post (-1) (wf, fl, a1, a2, a3, a4, a5, a6, a7, a8, a9, a10, a11, a12)) : wpX_spare post (wf, fl, a1, a2, a3, a4, a5, a6, a7, a8, a9, a10, a11, a12) 7 1 51 := by
  unfold wpX_spare
  exact br_f (by decide) (br_f (by decide) (br_f (by decide) H))
theorem mq_sep {post : Int32 → St1 → Prop} {u v x : Nat} (hP : mq_P a1 a2 a3 a4 a5) (hW : mq_W a1 a2 a3 a4 a5 wf fl a9) (hu : u < 7) (hv : v < 7) (huv : u ≠ v) (hx : x ≤ 50)
    (H1 : ∀ fl l qu cm re, mq_V a1 a2 a3 a4 a5 x fl.toInt re → mq_bt (re 7) v = false → mq_bt (re u) v = false → mq_bt (re u) 8 = false → post 1 (nI x, fl, a1, a2, a3, a4, a5, l, qu, cm, re, a10, a11, a12))
    (H0 : ∀ fl l qu cm re, mq_V a1 a2 a3 a4 a5 x fl.toInt re → ¬ (mq_bt (re 7) v = false ∧ mq_bt (re u) v = false ∧ mq_bt (re u) 8 = false) → post 0 (nI x, fl, a1, a2, a3, a4, a5, l, qu, cm, re, a10, a11, a12)) :
    wpX_separates post (wf, fl, a1, a2, a3, a4, a5, a6, a7, a8, a9, a10, a11, a12) (nI u) (nI v) (nI x) := by
  unfold wpX_separates
  refine mq_bad hu (br_t rfl (mq_bad hv (br_t rfl (br_f (fun z => huv (mq_inj (by omega) (by omega) z)) (mq_badX hx (br_t rfl ?_))))))
  refine mq_work hP hW hx (fun fl l qu cm re hV => ⟨pk_in u 9 (by omega), ?_⟩)
  rw [nI_clamp (show u < 2 ^ 31 by omega)]
  refine nm_e (mq_in _ v (by omega) (fun hb => br_f (by decide) (H0 fl l qu cm re hV (fun z => ?_))) (fun hb => br_t rfl (mq_in _ 8 (by omega) (fun hc => br_f (by decide) (H0 fl l qu cm re hV (fun z => ?_))) (fun hc => br_t rfl ?_))))
  · rw [mq_or, z.1, z.2.1] at hb
    exact absurd hb (by decide)
  · rw [mq_or, z.2.2, hV.2.2.2.2.2] at hc
    exact absurd hc (by decide)
  · rw [mq_or] at hb hc
    exact H1 fl l qu cm re hV (Bool.or_eq_false_iff.mp hb).1 (Bool.or_eq_false_iff.mp hb).2 (Bool.or_eq_false_iff.mp hc).2
theorem mq_sepB {post : Int32 → St1 → Prop} {a b y : Int32} (h : ¬ ∃ u v, u < 7 ∧ v < 7 ∧ u ≠ v ∧ a = nI u ∧ b = nI v) (H : post 0 (wf, fl, a1, a2, a3, a4, a5, a6, a7, a8, a9, a10, a11, a12)) : wpX_separates post (wf, fl, a1, a2, a3, a4, a5, a6, a7, a8, a9, a10, a11, a12) a b y := by
  unfold wpX_separates
  refine mq_badc a (fun u hu ea => br_t rfl (mq_badc b (fun v hv eb => br_t rfl ⟨fun _ => H, fun ne => absurd ⟨u, v, hu, hv, fun z => ne (by rw [ea, eb, z]), ea, eb⟩ h⟩) (fun _ => br_f (by decide) H))) (fun _ => br_f (by decide) H)
theorem mq_sepX {post : Int32 → St1 → Prop} (H : post 0 (wf, fl, a1, a2, a3, a4, a5, a6, a7, a8, a9, a10, a11, a12)) : wpX_separates post (wf, fl, a1, a2, a3, a4, a5, a6, a7, a8, a9, a10, a11, a12) 0 1 51 := by
  unfold wpX_separates
  exact mq_bad (v := 0) (by omega) (br_t rfl (mq_bad (v := 1) (by omega) (br_t rfl (br_f (by decide) (mq_badX1 (br_f (by decide) H))))))
theorem mq_leastB {post : Int32 → St1 → Prop} (H : post (-2) (wf, fl, a1, a2, a3, a4, a5, a6, a7, a8, a9, a10, a11, a12)) : wpX_least post (wf, fl, a1, a2, a3, a4, a5, a6, a7, a8, a9, a10, a11, a12) (-1) := by
  unfold wpX_least
  exact mq_badX2 (br_f (by decide) H)
theorem mq_alwaysB {post : Int32 → St1 → Prop} (H : post (-2) (wf, fl, a1, a2, a3, a4, a5, a6, a7, a8, a9, a10, a11, a12)) : wpX_always post (wf, fl, a1, a2, a3, a4, a5, a6, a7, a8, a9, a10, a11, a12) 51 := by
  unfold wpX_always
  exact mq_badX1 (br_f (by decide) H)
theorem mq_tiesB {post : Int32 → St1 → Prop} (H : post (-2) (wf, fl, a1, a2, a3, a4, a5, a6, a7, a8, a9, a10, a11, a12)) : wpX_ties post (wf, fl, a1, a2, a3, a4, a5, a6, a7, a8, a9, a10, a11, a12) (-1) := by
  unfold wpX_ties
  exact mq_badX2 (br_f (by decide) H)
theorem mq_costB {post : Int32 → Prop} {side : Int32} (H : post (-2)) : wpX_cost post (wf, fl, a1, a2, a3, a4, a5, a6, a7, a8, a9, a10, a11, a12) side 51 := by
  unfold wpX_cost
  exact mq_badX1 (br_f (by decide) H)
end
end
section
/-- the least cost for x -/
noncomputable def mq_mn (a1 a2 a3 a4 a5 : Nat → Int32) (x : Nat) : Int := Classical.epsilon (fun F : Int => ∃ re, mq_V a1 a2 a3 a4 a5 x F re)
theorem mq_V_mn {a1 a2 a3 a4 a5 re : Nat → Int32} {x : Nat} {F : Int} (h : mq_V a1 a2 a3 a4 a5 x F re) : F = mq_mn a1 a2 a3 a4 a5 x := by
  obtain ⟨re', h'⟩ := Classical.epsilon_spec (p := fun F : Int => ∃ re, mq_V a1 a2 a3 a4 a5 x F re) ⟨F, re, h⟩
  exact mq_V_F h h'
section
variable {a1 a2 a3 a4 a5 a10 a11 a12 : Nat → Int32}
theorem mq_st10 {post : Int32 → St1 → Prop} (hP : mq_P a1 a2 a3 a4 a5) (H : ∀ (c : Nat) (wf fl : Int32) (a6 a7 a8 a9 : Nat → Int32), 1 ≤ c → c ≤ 51 → mq_W a1 a2 a3 a4 a5 wf fl a9 → post (nI c) (wf, fl, a1, a2, a3, a4, a5, a6, a7, a8, a9, a10, a11, a12)) :
    ∀ (n j c : Nat) (lo hi : Int64) (wf fl : Int32) (a6 a7 a8 a9 : Nat → Int32), 51 < n + j → j ≤ 51 → c ≤ j → (j = 0 → lo = 0 ∧ hi = 0) → (1 ≤ j → 1 ≤ c) → mq_W a1 a2 a3 a4 a5 wf fl a9 → wX_stages_10 post n lo hi (nI c) (nI j) wf fl a1 a2 a3 a4 a5 a6 a7 a8 a9 a10 a11 a12 := by
  intro n
  induction n with
  | zero =>
    intro j c lo hi wf fl a6 a7 a8 a9 h1 h2
    omega
  | succ n ih =>
    intro j c lo hi wf fl a6 a7 a8 a9 hn hj hc h0 h1 hW
    refine pk_lt 50 j (fun z => H c wf fl a6 a7 a8 a9 (h1 (by omega)) (by omega) hW) (fun z => ?_)
    refine mq_work hP hW (by omega) (fun fl l qu cm re hV => ?_)
    have hJ : ∀ (c' : Nat) (lo' hi' : Int64), 1 ≤ c' → c' ≤ j + 1 → wX_stages_10 post n lo' hi' (nI c') (nI (j + 1)) (nI j) fl a1 a2 a3 a4 a5 l qu cm re a10 a11 a12 :=
      fun c' lo' hi' g1 g2 => ih (j + 1) c' lo' hi' (nI j) fl l qu cm re (by omega) (by omega) g2 (fun y => absurd y (by omega)) (fun _ => g1) (Or.inr ⟨j, by omega, rfl, hV⟩)
    have h86 : ∀ (c' : Nat) (r : Int32) (b : Int64), 1 ≤ c' → c' ≤ j + 1 → wX_stages_86 post (wX_stages_10 post n) lo hi (nI c') (nI j) r b (nI j) fl a1 a2 a3 a4 a5 l qu cm re a10 a11 a12 :=
      fun c' r b g1 g2 => ⟨fun _ => nm_e (nm_r (nI_1 j) (hJ c' _ _ g1 g2)), fun _ => nm_e (nm_r (nI_1 j) (hJ c' _ _ g1 g2))⟩
    have h760 : ∀ (r : Int32) (b : Int64), wX_stages_76 post (wX_stages_10 post n) lo hi (nI c) (nI j) r b 0 (nI j) fl a1 a2 a3 a4 a5 l qu cm re a10 a11 a12 :=
      fun r b => br_t rfl (nm_r (nI_1 c) (h86 (c + 1) r b (by omega) (by omega)))
    have h761 : ∀ (r : Int32) (b : Int64), 1 ≤ c → wX_stages_76 post (wX_stages_10 post n) lo hi (nI c) (nI j) r b 1 (nI j) fl a1 a2 a3 a4 a5 l qu cm re a10 a11 a12 :=
      fun r b g => br_f (by decide) (h86 c r b g (by omega))
    have hz : ∀ b : Int64, 0 &&& b = 0 := fun b => Int64.toBitVec_inj.mp (by rw [Int64.toBitVec_and]; exact BitVec.zero_and)
    have hone : ∀ b : Int64, (¬ (lo &&& b) = 0 ∨ ¬ (hi &&& b) = 0) → 1 ≤ c := by
      intro b hb
      by_cases y : j = 0
      · rw [(h0 y).1, (h0 y).2, hz b] at hb
        rcases hb with hb | hb <;> exact absurd rfl hb
      · exact h1 (by omega)
    refine nm_e ⟨fun _ => ⟨fun _ => h760 _ _, fun y => h761 _ _ (hone _ (Or.inr y))⟩, fun _ => ⟨fun _ => h760 _ _, fun y => h761 _ _ (hone _ (Or.inl y))⟩⟩
theorem mq_wr6 {post : Int32 → St1 → Prop} (hP : mq_P a1 a2 a3 a4 a5) (H : ∀ (w : Nat) (wf fl : Int32) (a6 a7 a8 a9 : Nat → Int32), w ≤ 50 → (∀ y, y ≤ 50 → mq_mn a1 a2 a3 a4 a5 y ≤ mq_mn a1 a2 a3 a4 a5 w) → (∀ y, y < w → mq_mn a1 a2 a3 a4 a5 y < mq_mn a1 a2 a3 a4 a5 w) → mq_W a1 a2 a3 a4 a5 wf fl a9 → post (nI w) (wf, fl, a1, a2, a3, a4, a5, a6, a7, a8, a9, a10, a11, a12)) :
    ∀ (n j b : Nat) (most wf fl : Int32) (a6 a7 a8 a9 : Nat → Int32), 51 < n + j → j ≤ 51 → ((j = 0 ∧ b = 0 ∧ most.toInt = -1) ∨ (b < j ∧ most.toInt = mq_mn a1 a2 a3 a4 a5 b ∧ (∀ y, y < j → mq_mn a1 a2 a3 a4 a5 y ≤ mq_mn a1 a2 a3 a4 a5 b) ∧ ∀ y, y < b → mq_mn a1 a2 a3 a4 a5 y < mq_mn a1 a2 a3 a4 a5 b)) → mq_W a1 a2 a3 a4 a5 wf fl a9 → wX_worst_6 post n (nI b) most (nI j) wf fl a1 a2 a3 a4 a5 a6 a7 a8 a9 a10 a11 a12 := by
  intro n
  induction n with
  | zero =>
    intro j b most wf fl a6 a7 a8 a9 h1 h2
    omega
  | succ n ih =>
    intro j b most wf fl a6 a7 a8 a9 hn hj hI hW
    refine pk_lt 50 j (fun z => ?_) (fun z => ?_)
    · rcases hI with h | ⟨h1, h2, h3, h4⟩
      · omega
      · exact H b wf fl a6 a7 a8 a9 (by omega) (fun y hy => h3 y (by omega)) h4 hW
    · refine mq_work hP hW (by omega) (fun fl l qu cm re hV => ?_)
      have e := mq_V_mn hV
      have h0 := hV.1.1
      refine mq_bl (fun y => nm_r (nI_1 j) (ih (j + 1) b most (nI j) fl l qu cm re (by omega) (by omega) (Or.inr ?_) (Or.inr ⟨j, by omega, rfl, hV⟩))) (fun y => nm_r (nI_1 j) (ih (j + 1) j fl (nI j) fl l qu cm re (by omega) (by omega) (Or.inr ?_) (Or.inr ⟨j, by omega, rfl, hV⟩)))
      · rcases hI with h | ⟨h1, h2, h3, h4⟩
        · omega
        · refine ⟨by omega, h2, fun w hw => ?_, h4⟩
          by_cases q : w = j
          · rw [q]; omega
          · exact h3 w (by omega)
      · refine ⟨by omega, e, fun w hw => ?_, fun w hw => ?_⟩
        · by_cases q : w = j
          · rw [q]; exact Int.le_refl _
          · rcases hI with h | ⟨h1, h2, h3, h4⟩
            · omega
            · have := h3 w (by omega)
              omega
        · rcases hI with h | ⟨h1, h2, h3, h4⟩
          · omega
          · have := h3 w (by omega)
            omega
end
section
variable {wf fl : Int32} {a1 a2 a3 a4 a5 a6 a7 a8 a9 a10 a11 a12 : Nat → Int32}
theorem mq_stages {post : Int32 → St1 → Prop} (hP : mq_P a1 a2 a3 a4 a5) (hW : mq_W a1 a2 a3 a4 a5 wf fl a9) (H : ∀ (c : Nat) (wf fl : Int32) (a6 a7 a8 a9 : Nat → Int32), 1 ≤ c → c ≤ 51 → mq_W a1 a2 a3 a4 a5 wf fl a9 → post (nI c) (wf, fl, a1, a2, a3, a4, a5, a6, a7, a8, a9, a10, a11, a12)) : wpX_stages post (wf, fl, a1, a2, a3, a4, a5, a6, a7, a8, a9, a10, a11, a12) :=
  ⟨52, mq_st10 hP H 52 0 0 0 0 wf fl a6 a7 a8 a9 (by omega) (by omega) (by omega) (fun _ => ⟨rfl, rfl⟩) (fun y => absurd y (by omega)) hW⟩
theorem mq_worst {post : Int32 → St1 → Prop} (hP : mq_P a1 a2 a3 a4 a5) (hW : mq_W a1 a2 a3 a4 a5 wf fl a9) (H : ∀ (w : Nat) (wf fl : Int32) (a6 a7 a8 a9 : Nat → Int32), w ≤ 50 → (∀ y, y ≤ 50 → mq_mn a1 a2 a3 a4 a5 y ≤ mq_mn a1 a2 a3 a4 a5 w) → (∀ y, y < w → mq_mn a1 a2 a3 a4 a5 y < mq_mn a1 a2 a3 a4 a5 w) → mq_W a1 a2 a3 a4 a5 wf fl a9 → post (nI w) (wf, fl, a1, a2, a3, a4, a5, a6, a7, a8, a9, a10, a11, a12)) : wpX_worst post (wf, fl, a1, a2, a3, a4, a5, a6, a7, a8, a9, a10, a11, a12) :=
  ⟨52, mq_wr6 hP H 52 0 0 (-1) wf fl a6 a7 a8 a9 (by omega) (by omega) (Or.inl ⟨rfl, rfl, by decide⟩) hW⟩
end
end
section
/-! the cost of a side when links grow -/
theorem mq_co_le {a1 b1 a2 a3 a4 a5 : Nat → Int32} {x : Nat} {S : Nat → Bool} (h : ∀ u v, u < 7 → v < 7 → (a1 (u * 7 + v)).toInt ≤ (b1 (u * 7 + v)).toInt) : mq_co a1 a2 a3 a4 a5 x S ≤ mq_co b1 a2 a3 a4 a5 x S := by
  unfold mq_co
  refine mq_sm_le (fun v hv => ?_)
  have : mq_sm (fun u => if S u = S v then 0 else (a1 (u * 7 + v)).toInt) v ≤ mq_sm (fun u => if S u = S v then 0 else (b1 (u * 7 + v)).toInt) v := by
    refine mq_sm_le (fun u hu => ?_)
    have := h u v (by omega) hv
    split <;> omega
  omega
theorem mq_V_le {a1 b1 a2 a3 a4 a5 re re' : Nat → Int32} {x : Nat} {F F' : Int} (h : mq_V a1 a2 a3 a4 a5 x F re) (h' : mq_V b1 a2 a3 a4 a5 x F' re') (hle : ∀ u v, u < 7 → v < 7 → (a1 (u * 7 + v)).toInt ≤ (b1 (u * 7 + v)).toInt) : F ≤ F' := by
  have e := (mq_V_cut h' (u := 7) (by omega) h'.2.2.2.2.2).2
  have l := h.2.1 (fun v => mq_bt (re' 7) v || mq_bt (re' 7) v) (by rw [h'.2.2.2.1 7 (by omega)]; rfl) (by rw [h'.2.2.2.2.2]; rfl)
  have := mq_co_le (a2 := a2) (a3 := a3) (a4 := a4) (a5 := a5) (x := x) (S := fun v => mq_bt (re' 7) v || mq_bt (re' 7) v) hle
  omega
/-- links as they are after link(u, v, c) -/
def mq_lk (a1 : Nat → Int32) (u v : Nat) (c : Int32) : Nat → Int32 := upd (upd a1 (u * 7 + v) c) (v * 7 + u) c
theorem mq_lk_at {a1 : Nat → Int32} {u v : Nat} {c : Int32} {w z : Nat} (hu : u < 7) (hv : v < 7) (hw : w < 7) (hz : z < 7) : mq_lk a1 u v c (w * 7 + z) = if (w = u ∧ z = v) ∨ (w = v ∧ z = u) then c else a1 (w * 7 + z) := by
  unfold mq_lk
  by_cases e1 : w * 7 + z = v * 7 + u
  · rw [e1, pk_us, if_pos (by omega)]
  · rw [pk_un e1]
    by_cases e2 : w * 7 + z = u * 7 + v
    · rw [e2, pk_us, if_pos (by omega)]
    · rw [pk_un e2, if_neg (by omega)]
theorem mq_P_lk {a1 a2 a3 a4 a5 : Nat → Int32} {u v : Nat} {c : Int32} (hP : mq_P a1 a2 a3 a4 a5) (hu : u < 7) (hv : v < 7) (h0 : 0 ≤ c.toInt) (h20 : c.toInt ≤ 20) : mq_P (mq_lk a1 u v c) a2 a3 a4 a5 := by
  refine ⟨fun w z hw hz => ?_, hP.2.1, hP.2.2⟩
  rw [mq_lk_at hu hv hw hz, mq_lk_at hu hv hz hw]
  by_cases e : (w = u ∧ z = v) ∨ (w = v ∧ z = u)
  · rw [if_pos e, if_pos (by omega)]
    exact ⟨h0, h20, rfl⟩
  · rw [if_neg e, if_neg (by omega)]
    exact hP.1 w z hw hz
theorem mq_lk_up {a1 a2 a3 a4 a5 : Nat → Int32} {u v : Nat} {c : Int32} (hP : mq_P a1 a2 a3 a4 a5) (hu : u < 7) (hv : v < 7) (h : (a1 (u * 7 + v)).toInt ≤ c.toInt) : ∀ w z, w < 7 → z < 7 → (a1 (w * 7 + z)).toInt ≤ (mq_lk a1 u v c (w * 7 + z)).toInt := by
  intro w z hw hz
  rw [mq_lk_at hu hv hw hz]
  split
  · rename_i e
    rcases e with ⟨e1, e2⟩ | ⟨e1, e2⟩
    · rw [e1, e2]; exact h
    · rw [e1, e2, (hP.1 v u hv hu).2.2]; exact h
  · exact Int.le_refl _
theorem mq_lk_dn {a1 a2 a3 a4 a5 : Nat → Int32} {u v : Nat} {c : Int32} (hP : mq_P a1 a2 a3 a4 a5) (hu : u < 7) (hv : v < 7) (h : c.toInt ≤ (a1 (u * 7 + v)).toInt) : ∀ w z, w < 7 → z < 7 → (mq_lk a1 u v c (w * 7 + z)).toInt ≤ (a1 (w * 7 + z)).toInt := by
  intro w z hw hz
  rw [mq_lk_at hu hv hw hz]
  split
  · rename_i e
    rcases e with ⟨e1, e2⟩ | ⟨e1, e2⟩
    · rw [e1, e2]; exact h
    · rw [e1, e2, (hP.1 v u hv hu).2.2]; exact h
  · exact Int.le_refl _
theorem mq_badPull {post : Int32 → Prop} {u : St2} {b c : Int32} (H0 : (0 ≤ b.toInt ∧ b.toInt ≤ 40 ∧ -2 ≤ c.toInt ∧ c.toInt ≤ 2) → post 0) (H1 : ¬ (0 ≤ b.toInt ∧ b.toInt ≤ 40 ∧ -2 ≤ c.toInt ∧ c.toInt ≤ 2) → post 1) : wpX_badPull post u b c := by
  have e0 := mq_0
  have e1 : (40 : Int32).toInt = 40 := by decide
  have e2 : (-2 : Int32).toInt = -2 := by decide
  have e3 : (2 : Int32).toInt = 2 := by decide
  exact mq_bt' (fun z => H1 (by omega)) (fun z => mq_bt' (fun z => H1 (by omega)) (fun z => mq_bt' (fun z => H1 (by omega)) (fun z => mq_bl (fun z => H0 (by omega)) (fun z => H1 (by omega)))))
section
variable {wf fl : Int32} {a1 a2 a3 a4 a5 a6 a7 a8 a9 a10 a11 a12 : Nat → Int32}
theorem mq_link {post : Int32 → St1 → Prop} {u v : Nat} {c : Int32} (hu : u < 7) (hv : v < 7) (huv : u ≠ v) (h0 : 0 ≤ c.toInt) (h20 : c.toInt ≤ 20) (H : post (a1 (u * 7 + v)) (-1, fl, mq_lk a1 u v c, a2, a3, a4, a5, a6, a7, a8, a9, a10, a11, a12)) : wpX_link post (wf, fl, a1, a2, a3, a4, a5, a6, a7, a8, a9, a10, a11, a12) (nI u) (nI v) c := by
  unfold wpX_link
  have e20 : (20 : Int32).toInt = 20 := by decide
  refine mq_bad hu (br_t rfl (mq_bad hv (br_t rfl (br_f (fun z => huv (mq_inj (by omega) (by omega) z)) (mq_bt' (fun z => ?_) (fun _ => mq_bl (fun _ => ?_) (fun z => ?_)))))))
  · rw [mq_0] at z
    omega
  · rw [mq_i7, mq_i7, nI_clamp (show u * 7 + v < 2 ^ 31 by omega), nI_clamp (show v * 7 + u < 2 ^ 31 by omega)]
    exact ⟨pk_in (u * 7 + v) 49 (by omega), nm_e ⟨pk_in (u * 7 + v) 49 (by omega), nm_e ⟨pk_in (v * 7 + u) 49 (by omega), nm_e H⟩⟩⟩
  · omega
theorem mq_linkC {post : Int32 → St1 → Prop} {u v : Nat} {c : Int32} (hu : u < 7) (hv : v < 7) (huv : u ≠ v) (h : ¬ (0 ≤ c.toInt ∧ c.toInt ≤ 20)) (H : post (-2) (wf, fl, a1, a2, a3, a4, a5, a6, a7, a8, a9, a10, a11, a12)) : wpX_link post (wf, fl, a1, a2, a3, a4, a5, a6, a7, a8, a9, a10, a11, a12) (nI u) (nI v) c := by
  unfold wpX_link
  have e20 : (20 : Int32).toInt = 20 := by decide
  have e0 := mq_0
  exact mq_bad hu (br_t rfl (mq_bad hv (br_t rfl (br_f (fun z => huv (mq_inj (by omega) (by omega) z)) (mq_bt' (fun z => H) (fun _ => mq_bl (fun _ => absurd h (by omega)) (fun z => H)))))))
theorem mq_linkB {post : Int32 → St1 → Prop} {a b c : Int32} (h : ¬ ∃ u v, u < 7 ∧ v < 7 ∧ u ≠ v ∧ a = nI u ∧ b = nI v) (H : post (-1) (wf, fl, a1, a2, a3, a4, a5, a6, a7, a8, a9, a10, a11, a12)) : wpX_link post (wf, fl, a1, a2, a3, a4, a5, a6, a7, a8, a9, a10, a11, a12) a b c := by
  unfold wpX_link
  refine mq_badc a (fun u hu ea => br_t rfl (mq_badc b (fun v hv eb => br_t rfl ⟨fun _ => H, fun ne => absurd ⟨u, v, hu, hv, fun z => ne (by rw [ea, eb, z]), ea, eb⟩ h⟩) (fun _ => br_f (by decide) H))) (fun _ => br_f (by decide) H)
theorem mq_toSource {post : Int32 → St1 → Prop} {a b c : Int32} (H0 : ∀ v, v < 7 → a = nI v → (0 ≤ b.toInt ∧ b.toInt ≤ 40 ∧ -2 ≤ c.toInt ∧ c.toInt ≤ 2) → post 0 (-1, fl, a1, upd a2 v b, upd a3 v c, a4, a5, a6, a7, a8, a9, a10, a11, a12)) (H1 : (¬ ∃ v, v < 7 ∧ a = nI v) → post (-1) (wf, fl, a1, a2, a3, a4, a5, a6, a7, a8, a9, a10, a11, a12)) (H2 : (∃ v, v < 7 ∧ a = nI v) → ¬ (0 ≤ b.toInt ∧ b.toInt ≤ 40 ∧ -2 ≤ c.toInt ∧ c.toInt ≤ 2) → post (-2) (wf, fl, a1, a2, a3, a4, a5, a6, a7, a8, a9, a10, a11, a12)) : wpX_toSource post (wf, fl, a1, a2, a3, a4, a5, a6, a7, a8, a9, a10, a11, a12) a b c := by
  unfold wpX_toSource
  refine mq_badc a (fun v hv ea => br_t rfl (mq_badPull (fun h => br_t rfl ?_) (fun h => br_f (by decide) (H2 ⟨v, hv, ea⟩ h)))) (fun h => br_f (by decide) (H1 h))
  have hH := H0 v hv ea h
  rw [ea, nI_clamp (show v < 2 ^ 31 by omega)]
  exact ⟨pk_in v 7 hv, nm_e ⟨pk_in v 7 hv, nm_e hH⟩⟩
theorem mq_toSink {post : Int32 → St1 → Prop} {a b c : Int32} (H0 : ∀ v, v < 7 → a = nI v → (0 ≤ b.toInt ∧ b.toInt ≤ 40 ∧ -2 ≤ c.toInt ∧ c.toInt ≤ 2) → post 0 (-1, fl, a1, a2, a3, upd a4 v b, upd a5 v c, a6, a7, a8, a9, a10, a11, a12)) (H1 : (¬ ∃ v, v < 7 ∧ a = nI v) → post (-1) (wf, fl, a1, a2, a3, a4, a5, a6, a7, a8, a9, a10, a11, a12)) (H2 : (∃ v, v < 7 ∧ a = nI v) → ¬ (0 ≤ b.toInt ∧ b.toInt ≤ 40 ∧ -2 ≤ c.toInt ∧ c.toInt ≤ 2) → post (-2) (wf, fl, a1, a2, a3, a4, a5, a6, a7, a8, a9, a10, a11, a12)) : wpX_toSink post (wf, fl, a1, a2, a3, a4, a5, a6, a7, a8, a9, a10, a11, a12) a b c := by
  unfold wpX_toSink
  refine mq_badc a (fun v hv ea => br_t rfl (mq_badPull (fun h => br_t rfl ?_) (fun h => br_f (by decide) (H2 ⟨v, hv, ea⟩ h)))) (fun h => br_f (by decide) (H1 h))
  have hH := H0 v hv ea h
  rw [ea, nI_clamp (show v < 2 ^ 31 by omega)]
  exact ⟨pk_in v 7 hv, nm_e ⟨pk_in v 7 hv, nm_e hH⟩⟩
theorem mq_P_so {v : Nat} {b c : Int32} (hP : mq_P a1 a2 a3 a4 a5) (h : 0 ≤ b.toInt ∧ b.toInt ≤ 40 ∧ -2 ≤ c.toInt ∧ c.toInt ≤ 2) : mq_P a1 (upd a2 v b) (upd a3 v c) a4 a5 := by
  refine ⟨hP.1, fun w hw => ?_, hP.2.2⟩
  by_cases e : w = v
  · rw [e, pk_us, pk_us]; exact h
  · rw [pk_un e, pk_un e]; exact hP.2.1 w hw
theorem mq_P_si {v : Nat} {b c : Int32} (hP : mq_P a1 a2 a3 a4 a5) (h : 0 ≤ b.toInt ∧ b.toInt ≤ 40 ∧ -2 ≤ c.toInt ∧ c.toInt ≤ 2) : mq_P a1 a2 a3 (upd a4 v b) (upd a5 v c) := by
  refine ⟨hP.1, hP.2.1, fun w hw => ?_⟩
  by_cases e : w = v
  · rw [e, pk_us, pk_us]; exact h
  · rw [pk_un e, pk_un e]; exact hP.2.2 w hw
theorem mq_flip {post : St1 → Prop} (H : ∀ b2 b3 b4 b5 : Nat → Int32, (∀ v, v < 7 → b2 v = a4 v ∧ b3 v = a5 v ∧ b4 v = a2 v ∧ b5 v = a3 v) → post (-1, fl, a1, b2, b3, b4, b5, a6, a7, a8, a9, a10, a11, a12)) : wpX_flip post (wf, fl, a1, a2, a3, a4, a5, a6, a7, a8, a9, a10, a11, a12) := by
  refine pk_loop (σ := (Nat → Int32) × (Nat → Int32) × (Nat → Int32) × (Nat → Int32)) (fun n i s => wX_flip_2 post wf fl n (nI i) a1 s.1 s.2.1 s.2.2.1 s.2.2.2 a6 a7 a8 a9 a10 a11 a12)
    (fun i s => ∀ v, v < 7 → (v < i → s.1 v = a4 v ∧ s.2.1 v = a5 v ∧ s.2.2.1 v = a2 v ∧ s.2.2.2 v = a3 v) ∧ (¬ v < i → s.1 v = a2 v ∧ s.2.1 v = a3 v ∧ s.2.2.1 v = a4 v ∧ s.2.2.2 v = a5 v)) 7 0 (a2, a3, a4, a5) (by omega) (fun v hv => ⟨fun z => absurd z (by omega), fun _ => ⟨rfl, rfl, rfl, rfl⟩⟩) ?_ ?_
  · intro n s hs
    exact pk_le 7 7 (fun _ => H _ _ _ _ (fun v hv => (hs v hv).1 hv)) (fun z => absurd z (by omega))
  · intro n i s hi hs hw
    obtain ⟨b2, b3, b4, b5⟩ := s
    refine pk_le 7 i (fun z => absurd z (by omega)) (fun _ => ?_)
    have hin : vp_in (nI i) 7 := pk_in i 7 hi
    obtain ⟨q1, q2, q3, q4⟩ := (hs i hi).2 (by omega)
    dsimp only at q1 q2 q3 q4
    dsimp only
    rw [nI_clamp (show i < 2 ^ 31 by omega)]
    refine ⟨hin, nm_e ⟨hin, nm_e ⟨hin, hin, nm_e ⟨hin, hin, nm_e ⟨hin, nm_e ⟨hin, nm_e (nm_r (nI_1 i) (hw (upd b2 i (b4 i), upd b3 i (b5 i), upd b4 i (b2 i), upd b5 i (b3 i)) ?_))⟩⟩⟩⟩⟩⟩
    intro v hv
    dsimp only
    by_cases e : v = i
    · rw [e, pk_us, pk_us, pk_us, pk_us]
      exact ⟨fun _ => ⟨q3, q4, q1, q2⟩, fun z => absurd z (by omega)⟩
    · rw [pk_un e, pk_un e, pk_un e, pk_un e]
      exact ⟨fun z => (hs v hv).1 (by omega), fun z => (hs v hv).2 (by omega)⟩
end
theorem mq_pl_cg {b s b' s' : Nat → Int32} {x v : Nat} (h1 : b v = b' v) (h2 : s v = s' v) : mq_pl b s x v = mq_pl b' s' x v := by
  unfold mq_pl
  rw [h1, h2]
section
variable {a1 a2 a3 a4 a5 b2 b3 b4 b5 : Nat → Int32}
theorem mq_P_fl (hP : mq_P a1 a2 a3 a4 a5) (h : ∀ v, v < 7 → b2 v = a4 v ∧ b3 v = a5 v ∧ b4 v = a2 v ∧ b5 v = a3 v) : mq_P a1 b2 b3 b4 b5 := by
  refine ⟨hP.1, fun v hv => ?_, fun v hv => ?_⟩
  · obtain ⟨h1, h2, h3, h4⟩ := h v hv
    rw [h1, h2]; exact hP.2.2 v hv
  · obtain ⟨h1, h2, h3, h4⟩ := h v hv
    rw [h3, h4]; exact hP.2.1 v hv
theorem mq_co_fl (h : ∀ v, v < 7 → b2 v = a4 v ∧ b3 v = a5 v ∧ b4 v = a2 v ∧ b5 v = a3 v) {x : Nat} {S S' : Nat → Bool} (hS : ∀ v, v < 7 → S' v = !S v) : mq_co a1 b2 b3 b4 b5 x S = mq_co a1 a2 a3 a4 a5 x S' := by
  unfold mq_co
  refine mq_sm_cg (fun v hv => ?_)
  obtain ⟨h1, h2, h3, h4⟩ := h v hv
  show (if S v then mq_pl b4 b5 x v else mq_pl b2 b3 x v) + mq_sm (fun u => if S u = S v then 0 else (a1 (u * 7 + v)).toInt) v = (if S' v then mq_pl a4 a5 x v else mq_pl a2 a3 x v) + mq_sm (fun u => if S' u = S' v then 0 else (a1 (u * 7 + v)).toInt) v
  rw [mq_pl_cg (x := x) h1 h2, mq_pl_cg (x := x) h3 h4, hS v hv, mq_sm_cg (f := fun u => if S' u = !S v then 0 else (a1 (u * 7 + v)).toInt) (g := fun u => if S u = S v then 0 else (a1 (u * 7 + v)).toInt) (fun u hu => ?_)]
  · cases S v <;> simp
  · show (if S' u = !S v then 0 else (a1 (u * 7 + v)).toInt) = _
    rw [hS u (by omega)]
    cases S u <;> cases S v <;> simp
theorem mq_V_fl (h : ∀ v, v < 7 → b2 v = a4 v ∧ b3 v = a5 v ∧ b4 v = a2 v ∧ b5 v = a3 v) {x : Nat} {F F' : Int} {re re' : Nat → Int32} (hV : mq_V a1 a2 a3 a4 a5 x F re) (hV' : mq_V a1 b2 b3 b4 b5 x F' re') : F' ≤ F := by
  have e := (mq_V_cut hV (u := 7) (by omega) hV.2.2.2.2.2).2
  have l := hV'.2.1 (fun v => if v < 7 then !(mq_bt (re 7) v || mq_bt (re 7) v) else decide (v = 7)) rfl rfl
  rw [mq_co_fl h (S' := fun v => mq_bt (re 7) v || mq_bt (re 7) v) (fun v hv => by rw [if_pos hv, Bool.not_not])] at l
  omega
end
end
section
theorem mq_V_side {a1 a2 a3 a4 a5 re : Nat → Int32} {x : Nat} {F : Int} (h : mq_V a1 a2 a3 a4 a5 x F re) (side : Int32) : F ≤ mq_co a1 a2 a3 a4 a5 x (mq_bt side) := by
  have := h.2.1 (fun v => if v < 7 then mq_bt side v else decide (v = 7)) rfl rfl
  rw [mq_co_cg (S' := mq_bt side) (fun v hv => by rw [if_pos hv])] at this
  exact this
theorem mq_V_m {a1 a2 a3 a4 a5 re : Nat → Int32} {x : Nat} {F : Int} {m : Int32} (h : mq_V a1 a2 a3 a4 a5 x F re) (hm : ∀ v, v < 7 → mq_bt m v = mq_bt (re 7) v) : mq_co a1 a2 a3 a4 a5 x (mq_bt m) = F := by
  rw [(mq_V_cut h (u := 7) (by omega) h.2.2.2.2.2).2]
  exact mq_co_cg (fun v hv => by rw [hm v hv, Bool.or_self])
theorem mq_V_e {a1 a2 a3 a4 a5 re : Nat → Int32} {x : Nat} {F : Int} {e : Int32} (h : mq_V a1 a2 a3 a4 a5 x F re) (he : ∀ v, v < 7 → mq_bt e v = !mq_bt (re v) 8) : mq_co a1 a2 a3 a4 a5 x (mq_bt e) = F := by
  have hc : mq_cl re (fun v => !mq_bt (re v) 8) := by
    intro u v hu hv su hr
    dsimp only at su ⊢
    cases hb : mq_bt (re v) 8
    · rfl
    · rw [h.2.2.2.2.1 u v 8 hu hv (by omega) hr hb] at su
      exact absurd su (by decide)
  rw [(h.2.2.1 (fun v => !mq_bt (re v) 8) (by rw [h.2.2.2.2.2]; rfl) (by rw [h.2.2.2.1 8 (by omega)]; rfl)).mpr hc]
  exact mq_co_cg he
/-- the flag f says whether a is a node -/
def mq_fg (f a : Int32) : Prop := (f = 0 ∧ ¬ ∃ u, u < 7 ∧ a = nI u) ∨ (f = 1 ∧ ∃ u, u < 7 ∧ a = nI u)
theorem mq_fg_n {f a : Int32} (h : mq_fg f a) (hf : ¬ f = 0) : ∃ u, u < 7 ∧ a = nI u := by
  rcases h with h | h
  · exact absurd h.1 hf
  · exact h.2
theorem mq_fg_y {f a : Int32} (h : mq_fg f a) {u : Nat} (hu : u < 7) (e : a = nI u) : ¬ f = 0 := by
  rcases h with h | h
  · exact absurd ⟨u, hu, e⟩ h.2
  · rw [h.1]; decide
def mq_HJ (J : Int32 → Int32 → Int32 → (Nat → Int32) → (Nat → Int32) → (Nat → Int32) → (Nat → Int32) → (Nat → Int32) → (Nat → Int32) → (Nat → Int32) → (Nat → Int32) → (Nat → Int32) → (Nat → Int32) → (Nat → Int32) → (Nat → Int32) →  Prop) (y : Int32) : Prop := ∀ (wf fl : Int32) (a1 a2 a3 a4 a5 a6 a7 a8 a9 a10 a11 a12 : Nat → Int32), mq_P a1 a2 a3 a4 a5 → mq_W a1 a2 a3 a4 a5 wf fl a9 → J y wf fl a1 a2 a3 a4 a5 a6 a7 a8 a9 a10 a11 a12
section
variable {wf fl : Int32} {a1 a2 a3 a4 a5 a6 a7 a8 a9 a10 a11 a12 : Nat → Int32}
variable {post : Int32 → Prop} {L : Nat} {xs : Nat → Int32} {J10 : Int32 → Int32 → Int32 → (Nat → Int32) → (Nat → Int32) → (Nat → Int32) → (Nat → Int32) → (Nat → Int32) → (Nat → Int32) → (Nat → Int32) → (Nat → Int32) → (Nat → Int32) → (Nat → Int32) → (Nat → Int32) → (Nat → Int32) → Prop} {kc ks : Nat}
theorem mq_960 {x2 : Int32} (hP : mq_P a1 a2 a3 a4 a5) (hW : mq_W a1 a2 a3 a4 a5 wf fl a9) (HJ : mq_HJ J10 (x2 + 4)) : wL_law_960 post L xs J10 x2 kc ks wf fl a1 a2 a3 a4 a5 a6 a7 a8 a9 a10 a11 a12 := by
  unfold wL_law_960
  refine mq_leastB (br_t rfl ?_)
  refine mq_alwaysB (br_t rfl ?_)
  refine mq_tiesB (br_t rfl ?_)
  refine mq_costB (br_t rfl ?_)
  refine mq_spareX (br_t rfl ?_)
  refine mq_spare7 (br_t rfl ?_)
  refine mq_sepX (br_t rfl ?_)
  exact nm_e (HJ wf fl a1 a2 a3 a4 a5 a6 a7 a8 a9 a10 a11 a12 hP hW)
theorem mq_888 {x2 x13 : Int32} {x : Nat} (hP : mq_P a1 a2 a3 a4 a5) (hW : mq_W a1 a2 a3 a4 a5 wf fl a9) (HJ : mq_HJ J10 (x2 + 4)) (hx : x ≤ 50) (h13 : x13.toInt = mq_mn a1 a2 a3 a4 a5 x) : wL_law_888 post L xs J10 x2 x13 kc ks wf fl a1 a2 a3 a4 a5 a6 a7 a8 a9 a10 a11 a12 := by
  unfold wL_law_888
  refine mq_stages hP hW (fun c wf fl a6 a7 a8 a9 c1 c2 hW => ?_)
  refine mq_worst hP hW (fun w wf fl a6 a7 a8 a9 hw g1 g2 hW => ?_)
  refine pk_lt c 1 (fun z => absurd z (by omega)) (fun _ => pk_lt 51 c (fun z => absurd z (by omega)) (fun _ => br_f (nI_pos (by omega)) (pk_lt 50 w (fun z => absurd z (by omega)) (fun _ => ?_))))
  refine mq_least hP hW hw (fun F l qu cm re hV => ?_)
  have e := mq_V_mn hV
  refine mq_bt' (fun z => absurd z ?_) (fun _ => ?_)
  · have := g1 x hx
    omega
  · refine pk_le w 0 (fun z => mq_960 hP (Or.inr ⟨w, hw, rfl, hV⟩) HJ) (fun z => ?_)
    obtain ⟨w', rfl⟩ : ∃ w', w = w' + 1 := ⟨w - 1, by omega⟩
    rw [nI_pred]
    refine mq_least hP (Or.inr ⟨w' + 1, hw, rfl, hV⟩) (by omega) (fun F1 l1 qu1 cm1 re1 hV1 => ?_)
    refine mq_least hP (Or.inr ⟨w', by omega, rfl, hV1⟩) hw (fun F2 l2 qu2 cm2 re2 hV2 => ?_)
    refine mq_bt' (fun _ => mq_960 hP (Or.inr ⟨w' + 1, hw, rfl, hV2⟩) HJ) (fun z => absurd z ?_)
    have e1 := mq_V_mn hV1
    have e2 := mq_V_mn hV2
    have := g2 w' (by omega)
    omega
theorem mq_844 {x2 x4 x5 x7 x8 x13 x15 x16 x19 : Int32} (h888 : wL_law_888 post L xs J10 x2 x13 kc ks wf fl a1 a2 a3 a4 a5 a6 a7 a8 a9 a10 a11 a12) (h : ¬ x7 = 0 → ¬ x8 = 0 → ¬ x4 = x5 → ¬ ((x15 >>> (x4 &&& 31)) &&& 1) = 0 → ((x16 >>> (x5 &&& 31)) &&& 1) = 0 → ¬ x19 = 0) : wL_law_844 post L xs J10 x2 x4 x5 x7 x8 x13 x15 x16 x19 kc ks wf fl a1 a2 a3 a4 a5 a6 a7 a8 a9 a10 a11 a12 :=
  ⟨fun _ => h888, fun a => ⟨fun _ => h888, fun b => ⟨fun _ => h888, fun c => ⟨fun _ => h888, fun d => ⟨fun e => ⟨fun f => absurd f (h a b c d e), fun _ => h888⟩, fun _ => h888⟩⟩⟩⟩⟩
theorem mq_827 {x2 x4 x5 x7 x8 x13 x15 x16 x19 : Int32} (h844 : wL_law_844 post L xs J10 x2 x4 x5 x7 x8 x13 x15 x16 x19 kc ks wf fl a1 a2 a3 a4 a5 a6 a7 a8 a9 a10 a11 a12) (h : ¬ x19 = 0 → ¬ x7 = 0 ∧ ¬ x8 = 0) : wL_law_827 post L xs J10 x2 x4 x5 x7 x8 x13 x15 x16 x19 kc ks wf fl a1 a2 a3 a4 a5 a6 a7 a8 a9 a10 a11 a12 :=
  ⟨fun _ => h844, fun a => br_f (h a).1 (br_f (h a).2 h844)⟩
theorem mq_785 {x2 x4 x5 x7 x8 x13 x15 x16 x18 : Int32} {x : Nat} {re : Nat → Int32} (hP : mq_P a1 a2 a3 a4 a5) (hW : mq_W a1 a2 a3 a4 a5 wf fl a9) (HJ : mq_HJ J10 (x2 + 4)) (hx : x ≤ 50) (hV : mq_V a1 a2 a3 a4 a5 x x13.toInt re)
    (hm : ∀ i, i < 7 → mq_bt x15 i = mq_bt (re 7) i) (he : ∀ i, i < 7 → mq_bt x16 i = !mq_bt (re i) 8) (h7 : mq_fg x7 x4) (h8 : mq_fg x8 x5)
    (hs : ∀ u v, u < 7 → v < 7 → x4 = nI u → x5 = nI v → (∃ S : Nat → Bool, S 7 = true ∧ S 8 = false ∧ S u = true ∧ S v = false ∧ x13.toInt = mq_co a1 a2 a3 a4 a5 x S) → ¬ x4 = x5 → x18.toInt = 0) :
    wL_law_785 post L xs J10 x2 x4 x5 x7 x8 (nI x) x13 x15 x16 x18 kc ks wf fl a1 a2 a3 a4 a5 a6 a7 a8 a9 a10 a11 a12 := by
  unfold wL_law_785
  by_cases hval : ∃ u v, u < 7 ∧ v < 7 ∧ u ≠ v ∧ x4 = nI u ∧ x5 = nI v
  · obtain ⟨u, v, hu, hv, huv, e4, e5⟩ := hval
    have f7 := mq_fg_y h7 hu e4
    have f8 := mq_fg_y h8 hv e5
    subst e4 e5
    refine mq_sep hP hW hu hv huv hx (fun fl l qu cm re2 hV2 b1 b2 b3 => br_f (by decide) ?_) (fun fl l qu cm re2 hV2 hn => br_t rfl ?_)
    · have s0 : x18.toInt = 0 := by
        refine hs u v hu hv rfl rfl ⟨fun w => mq_bt (re2 7) w || mq_bt (re2 u) w, ?_, ?_, ?_, ?_, ?_⟩ (fun z => huv (mq_inj (by omega) (by omega) z))
        · dsimp only; rw [hV2.2.2.2.1 7 (by omega)]; rfl
        · dsimp only; rw [hV2.2.2.2.2.2, b3]; rfl
        · dsimp only; rw [hV2.2.2.2.1 u (by omega), Bool.or_true]
        · dsimp only; rw [b1, b2]; rfl
        · rw [mq_V_F hV hV2]
          exact (mq_V_cut hV2 (by omega) b3).2
      refine mq_bt' (fun z => absurd z (by rw [mq_0]; omega)) (fun _ => ?_)
      have eb : mq_bt x16 u = true := by rw [he u hu, mq_V_8 hV2 hV (by omega) b3]; rfl
      have mb : mq_bt x15 v = false := by rw [hm v hv, mq_V_7e hV hV2 (by omega)]; exact b1
      rw [mq_bit x16 (show u < 32 by omega), mq_bit x15 (show v < 32 by omega), eb, mb]
      exact br_f (by decide) (br_t rfl (mq_827 (mq_844 (mq_888 hP (Or.inr ⟨x, hx, rfl, hV2⟩) HJ hx (mq_V_mn hV)) (fun _ _ _ _ _ => by decide)) (fun _ => ⟨f7, f8⟩)))
    · refine mq_827 (mq_844 (mq_888 hP (Or.inr ⟨x, hx, rfl, hV2⟩) HJ hx (mq_V_mn hV)) (fun _ _ _ d e => ?_)) (fun z => absurd rfl z)
      rw [mq_bit x15 (show u < 32 by omega), hm u hu, mq_V_7e hV hV2 (by omega)] at d
      rw [mq_bit x16 (show v < 32 by omega), he v hv, mq_V_8e hV hV2 (by omega)] at e
      have d' : mq_bt (re2 7) u = true := by
        cases hb : mq_bt (re2 7) u
        · rw [hb] at d; exact absurd rfl d
        · rfl
      have e' : mq_bt (re2 v) 8 = true := by
        cases hb : mq_bt (re2 v) 8
        · rw [hb] at e; exact absurd e (by decide)
        · rfl
      exfalso
      have t := hV2.2.2.2.2.1
      have n8 := hV2.2.2.2.2.2
      have n1 : mq_bt (re2 7) v = false := by
        cases hb : mq_bt (re2 7) v
        · rfl
        · rw [t 7 v 8 (by omega) (by omega) (by omega) hb e'] at n8
          exact absurd n8 (by decide)
      refine hn ⟨n1, ?_, ?_⟩
      · cases hb : mq_bt (re2 u) v
        · rfl
        · rw [t 7 u v (by omega) (by omega) (by omega) d' hb] at n1
          exact absurd n1 (by decide)
      · cases hb : mq_bt (re2 u) 8
        · rfl
        · rw [t 7 u 8 (by omega) (by omega) (by omega) d' hb] at n8
          exact absurd n8 (by decide)
  · refine mq_sepB hval (br_t rfl (mq_827 (mq_844 (mq_888 hP hW HJ hx (mq_V_mn hV)) (fun a b c _ _ => ?_)) (fun z => absurd rfl z)))
    exfalso
    obtain ⟨u, hu, e4⟩ := mq_fg_n h7 a
    obtain ⟨v, hv, e5⟩ := mq_fg_n h8 b
    exact hval ⟨u, v, hu, hv, fun z => c (by rw [e4, e5, z]), e4, e5⟩
theorem mq_667 {x2 x4 x5 x7 x8 x13 x15 x16 : Int32} {x : Nat} {re : Nat → Int32} (hP : mq_P a1 a2 a3 a4 a5) (HJ : mq_HJ J10 (x2 + 4)) (hW : mq_W a1 a2 a3 a4 a5 wf fl a9) (hx : x ≤ 50) (hV : mq_V a1 a2 a3 a4 a5 x x13.toInt re)
    (hm : ∀ i, i < 7 → mq_bt x15 i = mq_bt (re 7) i) (he : ∀ i, i < 7 → mq_bt x16 i = !mq_bt (re i) 8) (h7 : mq_fg x7 x4) (h8 : mq_fg x8 x5) :
    wL_law_667 post L xs J10 x2 x4 x5 x7 x8 (nI x) x13 x15 x16 kc ks wf fl a1 a2 a3 a4 a5 a6 a7 a8 a9 a10 a11 a12 := by
  unfold wL_law_667
  refine mq_cost hP hx (fun r1 e1 => mq_be (fun _ => ?_) (fun z => absurd (e1.trans (mq_V_m hV hm)) z))
  refine mq_cost hP hx (fun r2 e2 => mq_be (fun _ => ?_) (fun z => absurd (e2.trans (mq_V_e hV he)) z))
  refine mq_cost hP hx (fun r3 e3 => mq_bt' (fun z => absurd z ?_) (fun _ => ?_))
  · have := mq_V_side hV (x4 &&& 127)
    omega
  refine mq_cost hP hx (fun r4 e4 => mq_cost hP hx (fun r5 e5 => mq_be (fun _ => ?_) (fun z => absurd ?_ z)))
  rotate_left 1
  · rw [e4, e5]
    exact mq_co_cg (fun v hv => by rw [mq_and, mq_127 v (by omega), decide_eq_true hv, Bool.and_true])
  by_cases hval : ∃ u v, u < 7 ∧ v < 7 ∧ u ≠ v ∧ x4 = nI u ∧ x5 = nI v
  · obtain ⟨u, v, hu, hv, huv, k4, k5⟩ := hval
    have f7 := mq_fg_y h7 hu k4
    have f8 := mq_fg_y h8 hv k5
    subst k4 k5
    refine mq_spare hP hu hv huv hx (fun s fl l qu cm re2 hV2 s1 s2 s3 => ?_)
    have e20 : (20 : Int32).toInt = 20 := by decide
    refine br_f f7 (br_f f8 (br_f (fun z => huv (mq_inj (by omega) (by omega) z)) (mq_bt' (fun z => absurd z (by rw [mq_0]; omega)) (fun _ => mq_bl (fun _ => ?_) (fun z => absurd z (by omega))))))
    refine mq_785 hP (Or.inr ⟨x, hx, rfl, hV2⟩) HJ hx hV hm he h7 h8 (fun u' v' hu' hv' eu ev hS _ => s3 ?_)
    have eu' : u = u' := mq_inj (by omega) (by omega) eu
    have ev' : v = v' := mq_inj (by omega) (by omega) ev
    rw [eu', ev', ← mq_V_F hV hV2]
    exact hS
  · refine mq_spareB hval ?_
    have h785 : wL_law_785 post L xs J10 x2 x4 x5 x7 x8 (nI x) x13 x15 x16 (-1) kc ks wf fl a1 a2 a3 a4 a5 a6 a7 a8 a9 a10 a11 a12 :=
      mq_785 hP hW HJ hx hV hm he h7 h8 (fun u v hu hv eu ev _ hne => absurd ⟨u, v, hu, hv, fun z => hne (by rw [eu, ev, z]), eu, ev⟩ hval)
    have h762 : wL_law_762 post L xs J10 x2 x4 x5 x7 x8 (nI x) x13 x15 x16 (-1) kc ks wf fl a1 a2 a3 a4 a5 a6 a7 a8 a9 a10 a11 a12 := br_t rfl h785
    refine ⟨fun _ => h762, fun a => ⟨fun _ => h762, fun b => ⟨fun _ => h762, fun c => ?_⟩⟩⟩
    exfalso
    obtain ⟨u, hu, e4⟩ := mq_fg_n h7 a
    obtain ⟨v, hv, e5⟩ := mq_fg_n h8 b
    exact hval ⟨u, v, hu, hv, fun z => c (by rw [e4, e5, z]), e4, e5⟩
theorem mq_627 {x2 x4 x5 x7 x8 x9 x13 x14 x15 x16 z0 z1 : Int32} (hz : z1 = z0) (hme : x15 &&& (x16 ^^^ (-1)) = 0) (h15 : ¬ x15 < 0) (h16 : x16 ≤ 127) (ht : ¬ x15 = x16 → ¬ x14 < 2) (h667 : wL_law_667 post L xs J10 x2 x4 x5 x7 x8 x9 x13 x15 x16 kc ks wf fl a1 a2 a3 a4 a5 a6 a7 a8 a9 a10 a11 a12) : wL_law_627 post L xs J10 x2 x4 x5 x7 x8 x9 x13 x14 x15 x16 z0 z1 kc ks wf fl a1 a2 a3 a4 a5 a6 a7 a8 a9 a10 a11 a12 :=
  br_t hz (br_t hme (br_f h15 (br_t h16 ⟨fun _ => h667, fun ne => br_f (ht ne) h667⟩)))
theorem mq_515 {x2 x4 x5 x7 x8 : Int32} {x : Nat} (hP : mq_P a1 a2 a3 a4 a5) (HJ : mq_HJ J10 (x2 + 4)) (hW : mq_W a1 a2 a3 a4 a5 wf fl a9) (hx : x ≤ 50) (h7 : mq_fg x7 x4) (h8 : mq_fg x8 x5) : wL_law_515 post L xs J10 x2 x4 x5 x7 x8 (nI x) kc ks wf fl a1 a2 a3 a4 a5 a6 a7 a8 a9 a10 a11 a12 := by
  unfold wL_law_515
  refine mq_least hP hW hx (fun F l0 qu0 cm0 re0 hV => ?_)
  refine mq_ties hP (Or.inr ⟨x, hx, rfl, hV⟩) hx (fun c F1 l1 qu1 cm1 re1 tk rf sg hV1 t1 t2 t3 => ?_)
  refine mq_always hP (Or.inr ⟨x, hx, rfl, hV1⟩) hx (fun F2 l2 qu2 cm2 re2 hV2 => ?_)
  refine mq_ever hP (Or.inr ⟨x, hx, rfl, hV2⟩) hx (fun e F3 l3 qu3 cm3 re3 hV3 he' => ?_)
  refine mq_ones ?_
  have hm : ∀ i, i < 32 → mq_bt (re2 7 &&& 127) i = (decide (i < 7) && mq_bt (re0 7) i) := by
    intro i hi
    rw [mq_and, mq_127 i hi]
    by_cases z : i < 7
    · rw [mq_V_7e hV2 hV (by omega), Bool.and_comm]
    · rw [decide_eq_false z, Bool.and_false, Bool.false_and]
  have he : ∀ i, i < 32 → mq_bt e i = (decide (i < 7) && !mq_bt (re0 i) 8) := by
    intro i hi
    rw [he' i hi]
    by_cases z : i < 7
    · rw [mq_V_8e hV3 hV (by omega)]
    · rw [decide_eq_false z, Bool.false_and, Bool.false_and]
  have hsub : ∀ i, i < 7 → mq_bt (re0 7) i = true → mq_bt (re0 i) 8 = false := by
    intro i hi hb
    cases hc : mq_bt (re0 i) 8
    · rfl
    · have := hV.2.2.2.2.1 7 i 8 (by omega) (by omega) (by omega) hb hc
      rw [hV.2.2.2.2.2] at this
      exact absurd this (by decide)
  generalize re2 7 &&& 127 = m at hm ⊢
  have hK : mq_cn (fun w => mq_bt (e &&& (m ^^^ (-1))) w) 7 = mq_cn (fun w => !mq_bt (re1 7) w && !mq_bt (re1 w) 8) 7 := by
    refine mq_cn_cg (fun w hw => ?_)
    rw [mq_and, mq_not m (by omega), hm w (by omega), he w (by omega), decide_eq_true hw, mq_V_7e hV1 hV (by omega), mq_V_8e hV1 hV (by omega)]
    cases mq_bt (re0 7) w <;> cases mq_bt (re0 w) 8 <;> rfl
  rw [hK]
  have hK0 : mq_cn (fun w => !mq_bt (re1 7) w && !mq_bt (re1 w) 8) 7 = mq_cn (fun w => !mq_bt (re0 7) w && !mq_bt (re0 w) 8) 7 := by
    refine mq_cn_cg (fun w hw => ?_)
    rw [mq_V_7e hV1 hV (by omega), mq_V_8e hV1 hV (by omega)]
  rw [hK0] at t2 t3 ⊢
  have hK7 : mq_cn (fun w => !mq_bt (re0 7) w && !mq_bt (re0 w) 8) 7 ≤ 7 := mq_cn_le _ _
  have hme0 : m = e → mq_cn (fun w => !mq_bt (re0 7) w && !mq_bt (re0 w) 8) 7 = 0 := by
    intro z
    refine mq_cn_z (fun w hw => ?_)
    have h1 := hm w (by omega)
    have h2 := he w (by omega)
    rw [z, h2, decide_eq_true hw, Bool.true_and, Bool.true_and] at h1
    cases hb : mq_bt (re0 7) w
    · rw [hb] at h1; rw [h1]; rfl
    · rfl
  have hme1 : mq_cn (fun w => !mq_bt (re0 7) w && !mq_bt (re0 w) 8) 7 = 0 → m = e := by
    intro z
    refine mq_ext (fun i hi => ?_)
    rw [hm i hi, he i hi]
    by_cases y : i < 7
    · have h1 := mq_cn_0 z i y
      rw [decide_eq_true y, Bool.true_and, Bool.true_and]
      cases hb : mq_bt (re0 7) i
      · rw [hb] at h1
        cases hc : mq_bt (re0 i) 8
        · rw [hc] at h1
          exact absurd h1 (by decide)
        · rfl
      · rw [hsub i y hb]; rfl
    · rw [decide_eq_false y, Bool.false_and, Bool.false_and]
  generalize mq_cn (fun w => !mq_bt (re0 7) w && !mq_bt (re0 w) 8) 7 = K at t2 t3 hK7 hme0 hme1 ⊢
  have hpw : 2 ^ K ≤ 2 ^ 7 := Nat.pow_le_pow_right (by omega) hK7
  have h128 : (2 : Nat) ^ 7 = 128 := by decide
  have hsh : (1 : Int32) <<< (nI K &&& 31) = nI (2 ^ K) := by
    have := pk_shlN (n := 1) (nI K &&& 31) K (mq_sl K (by omega)) (by omega)
    rw [Nat.one_mul] at this
    exact this
  have c127 : ∀ y : Int32, (∀ i, i < 32 → mq_bt y i = (decide (i < 7) && mq_bt y i)) → ¬ y < 0 ∧ y ≤ 127 := by
    intro y hy
    have : y = y &&& 127 := mq_ext (fun i hi => by rw [mq_and, mq_127 i hi, Bool.and_comm]; exact hy i hi)
    obtain ⟨j, hj, ej⟩ := pk_andE y (m := 127) 7 (by decide)
    rw [this, ej]
    exact ⟨nI_pos (by omega), nI_le (b := 127) (by omega) (by decide)⟩
  have m127 := c127 m (fun i hi => by rw [hm i hi]; cases decide (i < 7) <;> rfl)
  have e127 := c127 e (fun i hi => by rw [he i hi]; cases decide (i < 7) <;> rfl)
  have hsubI : m &&& (e ^^^ (-1)) = 0 := by
    refine mq_ext (fun i hi => ?_)
    rw [mq_and, mq_not e hi, hm i hi, he i hi, mq_b0]
    by_cases y : i < 7
    · rw [decide_eq_true y, Bool.true_and, Bool.true_and]
      cases hb : mq_bt (re0 7) i
      · rfl
      · rw [hsub i y hb]; rfl
    · rw [decide_eq_false y]; rfl
  have hW3 : mq_W a1 a2 a3 a4 a5 (nI x) F3 re3 := Or.inr ⟨x, hx, rfl, hV3⟩
  have hF := hV.1.1
  refine mq_bt' (fun z => absurd z (by rw [mq_0]; omega)) (fun _ => ?_)
  refine mq_cost hP hx (fun r1 e1 => mq_bt' (fun z => absurd z ?_) (fun _ => ?_))
  · have := mq_V_side hV 0
    omega
  refine mq_cost hP hx (fun r2 e2 => mq_bt' (fun z => absurd z ?_) (fun _ => ?_))
  · have := mq_V_side hV 127
    omega
  refine pk_lt c 1 (fun z => absurd z (by omega)) (fun _ => ?_)
  rw [hsh]
  refine pk_lt (2 ^ K) c (fun z => absurd z (by omega)) (fun _ => ?_)
  have h667 : wL_law_667 post L xs J10 x2 x4 x5 x7 x8 (nI x) F m e kc ks (nI x) F3 a1 a2 a3 a4 a5 l3 qu3 cm3 re3 tk rf sg :=
    mq_667 hP HJ hW3 hx hV (fun i hi => by rw [hm i (by omega), decide_eq_true hi, Bool.true_and]) (fun i hi => by rw [he i (by omega), decide_eq_true hi, Bool.true_and]) h7 h8
  have ht2 : ¬ m = e → 2 ≤ c := by
    intro z
    rcases Nat.eq_zero_or_pos K with k0 | k0
    · exact absurd (hme1 k0) z
    · exact t3 k0
  have htl : ¬ m = e → ¬ nI c < 2 := fun z => nI_nlt (b := 2) (ht2 z) (by omega)
  refine pk_eq c 1 (fun z => ?_) (fun z => ?_)
  · refine ⟨fun q => mq_627 rfl hsubI m127.1 e127.2 htl h667, fun q => ?_⟩
    have := ht2 q
    omega
  · refine ⟨fun q => ?_, fun q => mq_627 rfl hsubI m127.1 e127.2 htl h667⟩
    rw [hme0 q] at t2
    omega
theorem mq_485 {x2 x4 x5 x7 x8 x10 x11 x12 : Int32} {x : Nat} (hP : mq_P a1 a2 a3 a4 a5) (HJ : mq_HJ J10 (x2 + 4)) (hW : mq_W a1 a2 a3 a4 a5 wf fl a9) (hx : x ≤ 50) (h7 : mq_fg x7 x4) (h8 : mq_fg x8 x5) (hn : ¬ 0 ≤ x12 → x10.toInt = mq_mn a1 a2 a3 a4 a5 x ∧ x11.toInt = mq_co a1 a2 a3 a4 a5 x (mq_bt 0)) : wL_law_485 post L xs J10 x2 x4 x5 x7 x8 (nI x) x10 x11 x12 kc ks wf fl a1 a2 a3 a4 a5 a6 a7 a8 a9 a10 a11 a12 := by
  unfold wL_law_485
  refine ⟨fun _ => mq_515 hP HJ hW hx h7 h8, fun z => ?_⟩
  obtain ⟨n1, n2⟩ := hn z
  refine mq_least hP hW hx (fun F l qu cm re hV => mq_be (fun _ => ?_) (fun q => absurd ((mq_V_mn hV).trans n1.symm) q))
  exact mq_cost hP hx (fun r e => mq_be (fun _ => mq_515 hP HJ (Or.inr ⟨x, hx, rfl, hV⟩) hx h7 h8) (fun q => absurd (e.trans n2.symm) q))
end
end
section
theorem mq_pp {b c p : Int32} {x v : Nat} {B C : Nat → Int32} (hx : x ≤ 50) (hg : 0 ≤ b.toInt ∧ b.toInt ≤ 40 ∧ -2 ≤ c.toInt ∧ c.toInt ≤ 2) (hp : (p = b + c * nI x ∧ 0 ≤ b + c * nI x) ∨ (p = 0 ∧ ¬ 0 ≤ b + c * nI x)) (hB : B v = b) (hC : C v = c) : p.toInt = mq_pl B C x v := by
  obtain ⟨h1, h2, h3, h4⟩ := hg
  have hm := mq_mr h3 h4 (show (0 : Int) ≤ (x : Int) by omega) (show (x : Int) ≤ 50 by omega)
  have ex : (nI x).toInt = (x : Int) := mq_nI (by omega)
  have e1 : (c * nI x).toInt = c.toInt * (x : Int) := by
    rw [mq_ml (by rw [ex]; omega) (by rw [ex]; omega), ex]
  have e2 : (b + c * nI x).toInt = b.toInt + c.toInt * (x : Int) := by
    rw [mq_ad (by rw [e1]; omega) (by rw [e1]; omega), e1]
  unfold mq_pl
  rw [hB, hC]
  rcases hp with ⟨rfl, h⟩ | ⟨rfl, h⟩
  · rw [mq_le, mq_0, e2] at h
    rw [e2]
    split <;> omega
  · rw [mq_le, mq_0, e2] at h
    rw [mq_0, if_pos (by omega)]
section
variable {wf fl : Int32} {a1 a2 a3 a4 a5 a6 a7 a8 a9 a10 a11 a12 : Nat → Int32}
theorem mq_cost0 {x : Nat} : mq_co a1 a2 a3 a4 a5 x (mq_bt 0) = mq_sm (fun v => mq_pl a2 a3 x v) 7 := mq_co0 (fun v _ => mq_b0 v)
theorem mq_cost127 {x : Nat} : mq_co a1 a2 a3 a4 a5 x (mq_bt 127) = mq_sm (fun v => mq_pl a4 a5 x v) 7 := mq_co1 (fun v hv => by rw [mq_127 v (by omega), decide_eq_true hv])
variable {post : Int32 → Prop} {L : Nat} {xs : Nat → Int32} {J10 : Int32 → Int32 → Int32 → (Nat → Int32) → (Nat → Int32) → (Nat → Int32) → (Nat → Int32) → (Nat → Int32) → (Nat → Int32) → (Nat → Int32) → (Nat → Int32) → (Nat → Int32) → (Nat → Int32) → (Nat → Int32) → (Nat → Int32) → Prop} {kc ks : Nat}
theorem mq_393 {x2 x3 x4 x5 x7 x8 x10 x11 x12 z0 : Int32} {x : Nat} (hP : mq_P a1 a2 a3 a4 a5) (hx : x ≤ 50) (h485 : wL_law_485 post L xs J10 x2 x4 x5 x7 x8 (nI x) x10 x11 x12 kc ks wf fl a1 a2 a3 a4 a5 a6 a7 a8 a9 a10 a11 a12) (hz : x12 = 0 → (5 < x3 → z0.toInt ≤ mq_co a1 a2 a3 a4 a5 x (mq_bt 127)) ∧ (¬ 5 < x3 → z0.toInt ≤ mq_co a1 a2 a3 a4 a5 x (mq_bt 0))) : wL_law_393 post L xs J10 x2 x3 x4 x5 x7 x8 (nI x) x10 x11 x12 z0 kc ks wf fl a1 a2 a3 a4 a5 a6 a7 a8 a9 a10 a11 a12 := by
  unfold wL_law_393
  refine ⟨fun z => ⟨fun q => mq_cost hP hx (fun r e => ?_), fun q => mq_cost hP hx (fun r e => ?_)⟩, fun _ => h485⟩
  · have := (hz z).1 q
    exact mq_bl (fun _ => h485) (fun y => absurd y (by omega))
  · have := (hz z).2 q
    exact mq_bl (fun _ => h485) (fun y => absurd y (by omega))
theorem mq_321 {x2 x3 x4 x5 x6 x7 x8 x10 x11 r : Int32} {x : Nat} (hr : (x7 = 0 ∧ r = -1) ∨ (¬ x7 = 0 ∧ ¬ (0 ≤ x5.toInt ∧ x5.toInt ≤ 40 ∧ -2 ≤ x6.toInt ∧ x6.toInt ≤ 2) ∧ r = -2) ∨ (¬ x7 = 0 ∧ (0 ≤ x5.toInt ∧ x5.toInt ≤ 40 ∧ -2 ≤ x6.toInt ∧ x6.toInt ≤ 2) ∧ r = 0))
    (h393 : ∀ p : Int32, ((p = x5 + x6 * nI x ∧ 0 ≤ x5 + x6 * nI x) ∨ (p = 0 ∧ ¬ 0 ≤ x5 + x6 * nI x)) → wL_law_393 post L xs J10 x2 x3 x4 x5 x7 x8 (nI x) x10 x11 r p kc ks wf fl a1 a2 a3 a4 a5 a6 a7 a8 a9 a10 a11 a12) : wL_law_321 post L xs J10 x2 x3 x4 x5 x6 x7 x8 (nI x) x10 x11 r kc ks wf fl a1 a2 a3 a4 a5 a6 a7 a8 a9 a10 a11 a12 := by
  have h365 : ∀ z0 : Int32, r = z0 → wL_law_365 post L xs J10 x2 x3 x4 x5 x6 x7 x8 (nI x) x10 x11 r z0 r kc ks wf fl a1 a2 a3 a4 a5 a6 a7 a8 a9 a10 a11 a12 :=
    fun z0 e => br_t e ⟨fun q => h393 _ (Or.inl ⟨rfl, q⟩), fun q => h393 0 (Or.inr ⟨rfl, q⟩)⟩
  have h359 : r = -2 → wL_law_359 post L xs J10 x2 x3 x4 x5 x6 x7 x8 (nI x) x10 x11 r r kc ks wf fl a1 a2 a3 a4 a5 a6 a7 a8 a9 a10 a11 a12 := fun e => h365 (-2) e
  have e0 := mq_0
  have e1 : (40 : Int32).toInt = 40 := by decide
  have e2 : (-2 : Int32).toInt = -2 := by decide
  have e3 : (2 : Int32).toInt = 2 := by decide
  unfold wL_law_321
  rcases hr with ⟨h1, h2⟩ | ⟨h1, h2, h3⟩ | ⟨h1, h2, h3⟩
  · exact br_t h1 (h365 (-1) h2)
  · exact br_f h1 (mq_bt' (fun _ => h359 h3) (fun _ => mq_bt' (fun _ => h359 h3) (fun _ => mq_bt' (fun _ => h359 h3) (fun _ => mq_bl (fun _ => absurd h2 (by omega)) (fun _ => h359 h3)))))
  · exact br_f h1 (mq_bt' (fun z => absurd z (by omega)) (fun _ => mq_bt' (fun z => absurd z (by omega)) (fun _ => mq_bt' (fun z => absurd z (by omega)) (fun _ => mq_bl (fun _ => h365 0 h3) (fun z => absurd z (by omega))))))
theorem mq_208n {x2 x4 x5 x6 x7 x8 x9 x10 x11 x12 : Int32} (hn : x12 < 0) (h485 : wL_law_485 post L xs J10 x2 x4 x5 x7 x8 x9 x10 x11 x12 kc ks wf fl a1 a2 a3 a4 a5 a6 a7 a8 a9 a10 a11 a12) : wL_law_208 post L xs J10 x2 x4 x5 x6 x7 x8 x9 x10 x11 x12 kc ks wf fl a1 a2 a3 a4 a5 a6 a7 a8 a9 a10 a11 a12 :=
  br_t hn (br_t hn (br_t hn h485))
theorem mq_245 {x2 x6 x7 x8 x10 x11 x12 : Int32} {x u v : Nat} (hP : mq_P a1 a2 a3 a4 a5) (HJ : mq_HJ J10 (x2 + 4)) (hx : x ≤ 50) (hu : u < 7) (hv : v < 7) (huv : u ≠ v) (h7 : mq_fg x7 (nI u)) (h8 : mq_fg x8 (nI v)) (h0 : 0 ≤ x6.toInt) (h20 : x6.toInt ≤ 20) (hr : 0 ≤ x12.toInt) (h11 : x11.toInt = mq_co a1 a2 a3 a4 a5 x (mq_bt 0)) (hc : a1 (v * 7 + u) = x6) :
    wL_law_245 post L xs J10 x2 (nI u) (nI v) x6 x7 x8 (nI x) x10 x11 x12 kc ks wf fl a1 a2 a3 a4 a5 a6 a7 a8 a9 a10 a11 a12 := by
  have hn : ¬ x12 < 0 := by rw [mq_lt, mq_0]; omega
  unfold wL_law_245
  refine br_f hn (mq_cost hP hx (fun r e => mq_be (fun _ => ?_) (fun z => absurd (e.trans h11.symm) z)))
  unfold wL_law_262
  refine br_f hn (mq_link hv hu (Ne.symm huv) h0 h20 (br_t hc ?_))
  unfold wL_law_284
  exact mq_485 (mq_P_lk hP hv hu h0 h20) HJ (Or.inl rfl) hx h7 h8 (fun z => absurd (by rw [mq_le, mq_0]; exact hr) z)
theorem mq_88 {x2 x3 x4 x5 x6 x7 z0 : Int32} (hP : mq_P a1 a2 a3 a4 a5) (HJ : mq_HJ J10 (x2 + 4)) (hW : mq_W a1 a2 a3 a4 a5 wf fl a9) (h7 : mq_fg x7 x4) (h8 : mq_fg z0 x5) : wL_law_88 post L xs J10 x2 x3 x4 x5 x6 x7 z0 kc ks wf fl a1 a2 a3 a4 a5 a6 a7 a8 a9 a10 a11 a12 := by
  unfold wL_law_88
  obtain ⟨x, hx31, ex⟩ := pk_andE x6 (m := 31) 5 (by decide)
  have hx : x ≤ 50 := by omega
  refine nm_r ex ?_
  refine mq_least hP hW hx (fun F l qu cm re hV => ?_)
  have hW1 : mq_W a1 a2 a3 a4 a5 (nI x) F re := Or.inr ⟨x, hx, rfl, hV⟩
  refine mq_cost hP hx (fun emp eemp => ?_)
  refine ⟨fun q3 => ⟨fun q6 => ?_, fun q6 => ⟨fun q5 => ?_, fun q5 => ?_⟩⟩, fun q3 => ?_⟩
  · refine mq_cost hP hx (fun all eall => ?_)
    refine mq_flip (fun b2 b3 b4 b5 hb => ?_)
    have hPb := mq_P_fl hP hb
    refine mq_cost hPb hx (fun r1 er1 => mq_be (fun _ => ?_) (fun z => absurd ?_ z))
    rotate_left 1
    · rw [er1, eemp]
      exact mq_co_fl hb (fun v hv => by rw [mq_b0, mq_127 v (by omega), decide_eq_true hv]; rfl)
    refine mq_cost hPb hx (fun r2 er2 => mq_be (fun _ => ?_) (fun z => absurd ?_ z))
    rotate_left 1
    · rw [er2, eall]
      exact mq_co_fl hb (fun v hv => by rw [mq_b0, mq_127 v (by omega), decide_eq_true hv]; rfl)
    refine mq_least hPb (Or.inl rfl) hx (fun F' l' qu' cm' re' hV' => mq_be (fun _ => ?_) (fun z => absurd ?_ z))
    · exact mq_485 hPb HJ (Or.inr ⟨x, hx, rfl, hV'⟩) hx h7 h8 (fun z => absurd (by decide) z)
    · have i1 := mq_V_fl hb hV hV'
      have i2 := mq_V_fl (fun v hv => ⟨(hb v hv).2.2.1.symm, (hb v hv).2.2.2.symm, (hb v hv).1.symm, (hb v hv).2.1.symm⟩) hV' hV
      omega
  · refine mq_toSink (fun v hv ea hg => ?_) (fun hno => ?_) (fun hyes hng => ?_)
    · have hP' := mq_P_si (v := v) hP hg
      refine mq_321 (Or.inr (Or.inr ⟨mq_fg_y h7 hv ea, hg, rfl⟩)) (fun p hp => mq_393 hP' hx (mq_485 hP' HJ (Or.inl rfl) hx h7 h8 (fun z => absurd (by decide) z)) (fun _ => ⟨fun _ => ?_, fun z => absurd q5 z⟩))
      rw [mq_cost127, mq_pp (B := upd a4 v x5) (C := upd a5 v x6) (v := v) hx hg hp pk_us pk_us]
      exact mq_sm_one (f := fun w => mq_pl (upd a4 v x5) (upd a5 v x6) x w) hv (fun i hi => (mq_pl_r (hP'.2.2 i hi) hx).1)
    · have f7 : x7 = 0 := by
        rcases h7 with h | h
        · exact h.1
        · exact absurd h.2 hno
      exact mq_321 (Or.inl ⟨f7, rfl⟩) (fun p hp => mq_393 hP hx (mq_485 hP HJ hW1 hx h7 h8 (fun _ => ⟨mq_V_mn hV, eemp⟩)) (fun z => absurd z (by decide)))
    · obtain ⟨v, hv, ea⟩ := hyes
      exact mq_321 (Or.inr (Or.inl ⟨mq_fg_y h7 hv ea, hng, rfl⟩)) (fun p hp => mq_393 hP hx (mq_485 hP HJ hW1 hx h7 h8 (fun _ => ⟨mq_V_mn hV, eemp⟩)) (fun z => absurd z (by decide)))
  · refine mq_toSource (fun v hv ea hg => ?_) (fun hno => ?_) (fun hyes hng => ?_)
    · have hP' := mq_P_so (v := v) hP hg
      refine mq_321 (Or.inr (Or.inr ⟨mq_fg_y h7 hv ea, hg, rfl⟩)) (fun p hp => mq_393 hP' hx (mq_485 hP' HJ (Or.inl rfl) hx h7 h8 (fun z => absurd (by decide) z)) (fun _ => ⟨fun z => absurd z q5, fun _ => ?_⟩))
      rw [mq_cost0, mq_pp (B := upd a2 v x5) (C := upd a3 v x6) (v := v) hx hg hp pk_us pk_us]
      exact mq_sm_one (f := fun w => mq_pl (upd a2 v x5) (upd a3 v x6) x w) hv (fun i hi => (mq_pl_r (hP'.2.1 i hi) hx).1)
    · have f7 : x7 = 0 := by
        rcases h7 with h | h
        · exact h.1
        · exact absurd h.2 hno
      exact mq_321 (Or.inl ⟨f7, rfl⟩) (fun p hp => mq_393 hP hx (mq_485 hP HJ hW1 hx h7 h8 (fun _ => ⟨mq_V_mn hV, eemp⟩)) (fun z => absurd z (by decide)))
    · obtain ⟨v, hv, ea⟩ := hyes
      exact mq_321 (Or.inr (Or.inl ⟨mq_fg_y h7 hv ea, hng, rfl⟩)) (fun p hp => mq_393 hP hx (mq_485 hP HJ hW1 hx h7 h8 (fun _ => ⟨mq_V_mn hV, eemp⟩)) (fun z => absurd z (by decide)))
  · by_cases hval : ∃ u v, u < 7 ∧ v < 7 ∧ u ≠ v ∧ x4 = nI u ∧ x5 = nI v
    · obtain ⟨u, v, hu, hv, huv, e4, e5⟩ := hval
      have f7 := mq_fg_y h7 hu e4
      have f8 := mq_fg_y h8 hv e5
      subst e4 e5
      have hne : ¬ nI u = nI v := fun z => huv (mq_inj (by omega) (by omega) z)
      have e20 : (20 : Int32).toInt = 20 := by decide
      have e0 := mq_0
      by_cases hc : 0 ≤ x6.toInt ∧ x6.toInt ≤ 20
      · obtain ⟨h0, h20⟩ := hc
        refine mq_link hu hv huv h0 h20 ?_
        have hP' := mq_P_lk (c := x6) hP hu hv h0 h20
        have hp := hP.1 u v hu hv
        have hcc : mq_lk a1 u v x6 (v * 7 + u) = x6 := by rw [mq_lk_at hu hv hv hu, if_pos (by omega)]
        have h11 : emp.toInt = mq_co (mq_lk a1 u v x6) a2 a3 a4 a5 x (mq_bt 0) := by rw [eemp, mq_cost0, mq_cost0]
        refine br_f f7 (br_f f8 (br_f hne ?_))
        unfold wL_law_156
        refine br_f (by decide) (mq_bt' (fun z => absurd z (by omega)) (fun _ => mq_bl (fun _ => mq_bt' (fun z => absurd z (by omega)) (fun _ => mq_bl (fun _ => ?_) (fun z => absurd z (by omega)))) (fun z => absurd z (by omega))))
        unfold wL_law_208
        refine mq_bt' (fun z => absurd z (by omega)) (fun _ => mq_bl (fun z => ?_) (fun z => ?_))
        · refine mq_least hP' (Or.inl rfl) hx (fun F' l' qu' cm' re' hV' => mq_bt' (fun y => absurd y ?_) (fun _ => ?_))
          · have := mq_V_le hV' hV (mq_lk_dn hP hu hv z)
            omega
          · exact mq_245 hP' HJ hx hu hv huv h7 h8 h0 h20 hp.1 h11 hcc
        · refine mq_least hP' (Or.inl rfl) hx (fun F' l' qu' cm' re' hV' => mq_bl (fun _ => ?_) (fun y => absurd y ?_))
          · exact mq_245 hP' HJ hx hu hv huv h7 h8 h0 h20 hp.1 h11 hcc
          · have := mq_V_le hV hV' (mq_lk_up hP hu hv (by omega))
            omega
      · refine mq_linkC hu hv huv hc ?_
        have h208 : wL_law_208 post L xs J10 x2 (nI u) (nI v) x6 x7 z0 (nI x) F emp (-2) kc ks (nI x) F a1 a2 a3 a4 a5 l qu cm re a10 a11 a12 :=
          mq_208n (by decide) (mq_485 hP HJ hW1 hx h7 h8 (fun _ => ⟨mq_V_mn hV, eemp⟩))
        have h184 : wL_law_184 post L xs J10 x2 (nI u) (nI v) x6 x7 z0 (nI x) F emp (-2) kc ks (nI x) F a1 a2 a3 a4 a5 l qu cm re a10 a11 a12 := br_t rfl h208
        refine br_f f7 (br_f f8 (br_f hne ?_))
        unfold wL_law_156
        exact br_f (by decide) (mq_bt' (fun _ => h184) (fun _ => mq_bl (fun _ => absurd hc (by omega)) (fun _ => h184)))
    · refine mq_linkB hval ?_
      have h208 : wL_law_208 post L xs J10 x2 x4 x5 x6 x7 z0 (nI x) F emp (-1) kc ks (nI x) F a1 a2 a3 a4 a5 l qu cm re a10 a11 a12 :=
        mq_208n (by decide) (mq_485 hP HJ hW1 hx h7 h8 (fun _ => ⟨mq_V_mn hV, eemp⟩))
      have h155 : wL_law_155 post L xs J10 x2 x4 x5 x6 x7 z0 (nI x) F emp (-1) kc ks (nI x) F a1 a2 a3 a4 a5 l qu cm re a10 a11 a12 := by
        unfold wL_law_155 wL_law_156
        exact br_t rfl (br_t rfl h208)
      refine ⟨fun _ => h155, fun a => ⟨fun _ => h155, fun b => ⟨fun _ => h155, fun c => ?_⟩⟩⟩
      exfalso
      obtain ⟨u, hu, e4⟩ := mq_fg_n h7 a
      obtain ⟨v, hv, e5⟩ := mq_fg_n h8 b
      exact hval ⟨u, v, hu, hv, fun z => c (by rw [e4, e5, z]), e4, e5⟩
theorem mq_fg0 {a : Int32} (h : a < 0 ∨ 6 < a) : mq_fg 0 a := by
  refine Or.inl ⟨rfl, fun ⟨u, hu, e⟩ => ?_⟩
  have e6 : (6 : Int32).toInt = 6 := by decide
  rw [e, mq_lt, mq_lt, mq_0, e6, mq_nI (by omega)] at h
  omega
theorem mq_fg1 {a : Int32} (h0 : ¬ a < 0) (h6 : ¬ 6 < a) : mq_fg 1 a := by
  obtain ⟨j, hj, e⟩ := nI_of h0
  refine Or.inr ⟨rfl, j, ?_, e⟩
  have e6 : (6 : Int32).toInt = 6 := by decide
  rw [e, mq_lt, e6, mq_nI (by omega)] at h6
  omega
theorem mq_69 {x2 x3 x4 x5 x6 z0 : Int32} (hP : mq_P a1 a2 a3 a4 a5) (HJ : mq_HJ J10 (x2 + 4)) (hW : mq_W a1 a2 a3 a4 a5 wf fl a9) (h7 : mq_fg z0 x4) : wL_law_69 post L xs J10 x2 x3 x4 x5 x6 z0 kc ks wf fl a1 a2 a3 a4 a5 a6 a7 a8 a9 a10 a11 a12 := by
  unfold wL_law_69 wL_law_87
  exact ⟨fun z => mq_88 hP HJ hW h7 (mq_fg0 (Or.inl z)), fun z => ⟨fun y => mq_88 hP HJ hW h7 (mq_fg0 (Or.inr y)), fun y => mq_88 hP HJ hW h7 (mq_fg1 z y)⟩⟩
end
section
variable {post : Int32 → Prop} {L : Nat} {xs : Nat → Int32} {kc ks : Nat}
theorem mq_n4 (i : Nat) : nI i + 4 = nI (i + 4) := nI_add i 4
theorem mq_law10 (hp : post 1) (hL : L ≤ 260) : ∀ (n i : Nat) (wf fl : Int32) (a1 a2 a3 a4 a5 a6 a7 a8 a9 a10 a11 a12 : Nat → Int32), i < 104 → 104 ≤ 4 * n + i → mq_P a1 a2 a3 a4 a5 → mq_W a1 a2 a3 a4 a5 wf fl a9 → wL_law_10 post L xs kc ks n (nI i) wf fl a1 a2 a3 a4 a5 a6 a7 a8 a9 a10 a11 a12 := by
  intro n
  induction n with
  | zero =>
    intro i wf fl a1 a2 a3 a4 a5 a6 a7 a8 a9 a10 a11 a12 h1 h2
    omega
  | succ n ih =>
    intro i wf fl a1 a2 a3 a4 a5 a6 a7 a8 a9 a10 a11 a12 h1 h2 hP hW
    have e4 : (4 : Int32).toInt = 4 := by decide
    have eL : (Int32.ofNat L).toInt = (L : Int) := mq_nI (n := L) (by omega)
    have eS : (Int32.ofNat L - 4).toInt = (L : Int) - 4 := by rw [mq_sb (by omega) (by omega), eL, e4]
    have ei : (nI i).toInt = (i : Int) := mq_nI (by omega)
    refine mq_bt' (fun _ => hp) (fun z => pk_le 100 i (fun _ => hp) (fun z2 => ?_))
    rw [eS, ei] at z
    have HJ : mq_HJ (wL_law_10 post L xs kc ks n) (nI i + 4) := by
      rw [mq_n4]
      intro wf fl a1 a2 a3 a4 a5 a6 a7 a8 a9 a10 a11 a12 hP hW
      exact ih (i + 4) wf fl a1 a2 a3 a4 a5 a6 a7 a8 a9 a10 a11 a12 (by omega) (by omega) hP hW
    refine ⟨pk_in i L (by omega), nm_e ⟨pk_in (i + 1) L (by omega) (nI_add i 1), nm_e ⟨pk_in (i + 2) L (by omega) (nI_add i 2), nm_e ⟨pk_in (i + 3) L (by omega) (nI_add i 3), nm_e ?_⟩⟩⟩⟩
    exact ⟨fun z => mq_69 hP HJ hW (mq_fg0 (Or.inl z)), fun z => ⟨fun y => mq_69 hP HJ hW (mq_fg0 (Or.inr y)), fun y => mq_69 hP HJ hW (mq_fg1 z y)⟩⟩
end
theorem mq_P_0 : mq_P (fun _ => 0) (fun _ => 0) (fun _ => 0) (fun _ => 0) (fun _ => 0) := by
  refine ⟨fun u v _ _ => ?_, fun v _ => ?_, fun v _ => ?_⟩ <;> dsimp only <;> decide
theorem mq_top {post : Int32 → Prop} {L : Nat} {xs : Nat → Int32} {kc ks : Nat} (hp : post 1) (hL : L ≤ 260) : ∃ n, wL_law_10 post L xs kc ks n 0 (-1) 0 (fun _ => 0) (fun _ => 0) (fun _ => 0) (fun _ => 0) (fun _ => 0) (fun _ => 0) (fun _ => 0) (fun _ => 0) (fun _ => 0) (fun _ => 0) (fun _ => 0) (fun _ => 0) := by
  have h := mq_law10 (xs := xs) (kc := kc) (ks := ks) hp hL 26 0 (-1) 0 (fun _ => 0) (fun _ => 0) (fun _ => 0) (fun _ => 0) (fun _ => 0) (fun _ => 0) (fun _ => 0) (fun _ => 0) (fun _ => 0) (fun _ => 0) (fun _ => 0) (fun _ => 0) (by omega) (by omega) mq_P_0 (Or.inl rfl)
  rw [nI_0] at h
  exact ⟨26, h⟩
end
section
theorem i_vc (xs : Nat → Int32) (L : Nat) (hL : L ≤ 260) : wpL_law (fun r => r = 1) L xs := by
  refine ⟨12, 212, by decide, by decide, ?_⟩
  refine ⟨by decide, by decide, by decide, by decide, by decide, by decide, by decide, by decide, by decide, by decide, by decide, by decide, by decide, by decide, by decide, by decide, by decide, by decide, by decide, by decide, by decide, by decide, by decide, by decide, ?_⟩
  exact mq_top (post := fun r => r = 1) rfl hL
end
