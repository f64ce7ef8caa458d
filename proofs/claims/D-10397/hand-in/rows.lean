section
/-! bits, counts and small arithmetic; the rows gm_b* began as rows of laws/BITS.to-paste -/
def gm_bt (x : Int32) (i : Nat) : Bool := x.toBitVec.getLsbD i
theorem gm_b_ext {x y : Int32} (h : ∀ i, i < 32 → gm_bt x i = gm_bt y i) : x = y := Int32.toBitVec_inj.mp (BitVec.eq_of_getLsbD_eq (fun i hi => h i hi))
theorem gm_b_or (x y : Int32) (i : Nat) : gm_bt (x ||| y) i = (gm_bt x i || gm_bt y i) := by unfold gm_bt; rw [Int32.toBitVec_or, BitVec.getLsbD_or]
theorem gm_b_and (x y : Int32) (i : Nat) : gm_bt (x &&& y) i = (gm_bt x i && gm_bt y i) := by unfold gm_bt; rw [Int32.toBitVec_and, BitVec.getLsbD_and]
theorem gm_b_big {x : Int32} {i : Nat} (h : 32 ≤ i) : gm_bt x i = false := BitVec.getLsbD_of_ge _ _ h
theorem gm_b_0 (i : Nat) : gm_bt 0 i = false := BitVec.getLsbD_zero
theorem gm_b_1 : ∀ i, i < 32 → gm_bt 1 i = decide (i = 0) := by decide +kernel
theorem gm_s_l : ∀ n, n < 32 → ((nI n &&& 31).toBitVec.smod 32).toNat = n := by decide +kernel
theorem gm_s_u : ∀ n, n < 32 → (((nI n).toUInt32 &&& Int32.toUInt32 31).toBitVec % 32).toNat = n := by decide +kernel
theorem gm_b_shl (n : Nat) (hn : n < 32) (x : Int32) {i : Nat} (hi : i < 32) : gm_bt (x <<< (nI n &&& 31)) i = (decide (n ≤ i) && gm_bt x (i - n)) := by
  unfold gm_bt
  rw [Int32.toBitVec_shiftLeft]
  show (x.toBitVec <<< ((nI n &&& 31).toBitVec.smod 32).toNat).getLsbD i = _
  rw [gm_s_l n hn, BitVec.getLsbD_shiftLeft]
  rcases Nat.lt_or_ge i n with h | h
  · simp [h, Nat.not_le.mpr h]
  · simp [hi, h, Nat.not_lt.mpr h]
theorem gm_b_ushr (n : Nat) (hn : n < 32) (x : Int32) (i : Nat) : gm_bt ((x.toUInt32 >>> ((nI n).toUInt32 &&& Int32.toUInt32 31)).toInt32) i = gm_bt x (n + i) := by
  show (x.toUInt32 >>> ((nI n).toUInt32 &&& Int32.toUInt32 31)).toBitVec.getLsbD i = x.toUInt32.toBitVec.getLsbD (n + i)
  rw [UInt32.toBitVec_shiftRight]
  show (x.toUInt32.toBitVec >>> (((nI n).toUInt32 &&& Int32.toUInt32 31).toBitVec % 32).toNat).getLsbD i = _
  rw [gm_s_u n hn, BitVec.getLsbD_ushiftRight]
theorem gm_b_sshr (n : Nat) (hn : n < 32) (x : Int32) {i : Nat} (hi : i < 32) : gm_bt (x >>> (nI n &&& 31)) i = if n + i < 32 then gm_bt x (n + i) else gm_bt x 31 := by
  unfold gm_bt
  rw [Int32.toBitVec_shiftRight]
  show (x.toBitVec.sshiftRight ((nI n &&& 31).toBitVec.smod 32).toNat).getLsbD i = _
  rw [gm_s_l n hn, BitVec.getLsbD_sshiftRight, BitVec.msb_eq_getLsbD_last]
  simp [hi]
theorem gm_and1 (x : Int32) : x &&& 1 = nI (if gm_bt x 0 then 1 else 0) := by
  apply gm_b_ext
  intro i hi
  rw [gm_b_and, gm_b_1 i hi]
  by_cases h : i = 0
  · subst h
    cases hx : gm_bt x 0
    · rfl
    · rfl
  · rw [decide_eq_false h, Bool.and_false]
    cases hx : gm_bt x 0
    · exact (gm_b_0 i).symm
    · exact (((gm_b_1 i hi).trans (decide_eq_false h))).symm
theorem gm_and1z (x : Int32) : x &&& 1 = 0 ↔ gm_bt x 0 = false := by
  rw [gm_and1]
  cases hx : gm_bt x 0
  · exact ⟨fun _ => rfl, fun _ => rfl⟩
  · exact ⟨fun h => absurd h (by decide), fun h => absurd h (by decide)⟩
theorem gm_tst (m : Int32) {p : Nat} (hp : p < 32) : ((m.toUInt32 >>> ((nI p).toUInt32 &&& Int32.toUInt32 31)).toInt32 &&& 1) = 0 ↔ gm_bt m p = false := by
  rw [gm_and1z, gm_b_ushr p hp, Nat.add_zero]
theorem gm_tstv (m : Int32) {p : Nat} (hp : p < 32) : ((m.toUInt32 >>> ((nI p).toUInt32 &&& Int32.toUInt32 31)).toInt32 &&& 1) = nI (if gm_bt m p then 1 else 0) := by
  rw [gm_and1, gm_b_ushr p hp, Nat.add_zero]
theorem gm_tsts (m : Int32) {p : Nat} (hp : p < 32) : ((m >>> (nI p &&& 31)) &&& 1) = 0 ↔ gm_bt m p = false := by
  rw [gm_and1z, gm_b_sshr p hp m (by omega), if_pos (by omega), Nat.add_zero]
theorem gm_set (m : Int32) {p i : Nat} (hp : p < 32) (hi : i < 32) : gm_bt (m ||| ((1 : Int32) <<< (nI p &&& 31))) i = (gm_bt m i || decide (i = p)) := by
  rw [gm_b_or, gm_b_shl p hp 1 hi]
  congr 1
  by_cases h : p ≤ i
  · rw [gm_b_1 (i - p) (by omega), decide_eq_true h, Bool.true_and]
    exact decide_eq_decide.mpr (by omega)
  · rw [decide_eq_false h, Bool.false_and]
    exact (decide_eq_false (by omega)).symm
theorem gm_set_s (m : Int32) {p : Nat} (hp : p < 32) : gm_bt (m ||| ((1 : Int32) <<< (nI p &&& 31))) p = true := by
  rw [gm_set m hp hp, decide_eq_true rfl, Bool.or_true]
theorem gm_set_k (m : Int32) {p i : Nat} (hp : p < 32) (hi : i < 32) (h : gm_bt m i = true) : gm_bt (m ||| ((1 : Int32) <<< (nI p &&& 31))) i = true := by
  rw [gm_set m hp hi, h, Bool.true_or]
/-! counts -/
def gm_cn (f : Nat → Bool) : Nat → Nat
  | 0 => 0
  | n + 1 => gm_cn f n + (if f n then 1 else 0)
theorem gm_cn_le (f : Nat → Bool) (n : Nat) : gm_cn f n ≤ n := by
  induction n with
  | zero => exact Nat.le_refl 0
  | succ n ih =>
    show gm_cn f n + (if f n then 1 else 0) ≤ n + 1
    split <;> omega
theorem gm_cn_mono (f : Nat → Bool) (m d : Nat) : gm_cn f m ≤ gm_cn f (m + d) := by
  induction d with
  | zero => exact Nat.le_refl _
  | succ d ih =>
    show gm_cn f m ≤ gm_cn f (m + d) + (if f (m + d) then 1 else 0)
    omega
theorem gm_cn_lt {f : Nat → Bool} {p n : Nat} (hf : f p = true) (h : p < n) : gm_cn f p < gm_cn f n := by
  obtain ⟨d, rfl⟩ : ∃ d, n = p + 1 + d := ⟨n - (p + 1), by omega⟩
  have h1 := gm_cn_mono f (p + 1) d
  have h2 : gm_cn f (p + 1) = gm_cn f p + 1 := by
    show gm_cn f p + (if f p then 1 else 0) = _
    rw [hf]
    rfl
  omega
theorem gm_cn_inj {f : Nat → Bool} {p q : Nat} (hp : f p = true) (hq : f q = true) (h : gm_cn f p = gm_cn f q) : p = q := by
  rcases Nat.lt_trichotomy p q with z | z | z
  · have := gm_cn_lt hp z
    omega
  · exact z
  · have := gm_cn_lt hq z
    omega
theorem gm_cn_sub {f g : Nat → Bool} {n : Nat} (h : ∀ i, i < n → f i = true → g i = true) : gm_cn f n ≤ gm_cn g n := by
  induction n with
  | zero => exact Nat.le_refl 0
  | succ n ih =>
    have h1 := ih (fun i hi => h i (by omega))
    have h2 := h n (by omega)
    show gm_cn f n + (if f n then 1 else 0) ≤ gm_cn g n + (if g n then 1 else 0)
    cases e : f n
    · rw [if_neg (by decide)]
      omega
    · rw [h2 e, if_pos rfl]
      omega
theorem gm_cn_ext {f g : Nat → Bool} {n : Nat} (h : ∀ i, i < n → f i = g i) : gm_cn f n = gm_cn g n :=
  Nat.le_antisymm (gm_cn_sub (fun i hi e => by rw [← h i hi]; exact e)) (gm_cn_sub (fun i hi e => by rw [h i hi]; exact e))
theorem gm_cn_set {f g : Nat → Bool} {p n : Nat} (hp : p < n) (hf : f p = false) (h : ∀ i, i < n → g i = (f i || decide (i = p))) : gm_cn g n = gm_cn f n + 1 := by
  induction n with
  | zero => exact absurd hp (by omega)
  | succ n ih =>
    show gm_cn g n + (if g n then 1 else 0) = gm_cn f n + (if f n then 1 else 0) + 1
    by_cases e : p = n
    · subst e
      have h1 : gm_cn g p = gm_cn f p := gm_cn_ext (fun i hi => by rw [h i (by omega), decide_eq_false (by omega), Bool.or_false])
      rw [h p (by omega), hf, h1]
      simp
    · rw [ih (by omega) (fun i hi => h i (by omega)), h n (by omega), decide_eq_false (fun z => e z.symm), Bool.or_false]
      omega
theorem gm_cn_room {f : Nat → Bool} {p n : Nat} (hp : p < n) (hf : f p = false) : gm_cn f n < n := by
  have h1 := gm_cn_set (g := fun i => f i || decide (i = p)) hp hf (fun i _ => rfl)
  have h2 := gm_cn_le (fun i => f i || decide (i = p)) n
  omega
theorem gm_cn_0 {f : Nat → Bool} {n : Nat} (h : ∀ i, i < n → f i = false) : gm_cn f n = 0 := by
  induction n with
  | zero => rfl
  | succ n ih =>
    show gm_cn f n + (if f n then 1 else 0) = 0
    rw [ih (fun i hi => h i (by omega)), h n (by omega)]
    rfl
theorem gm_cn_filter (f : Nat → Bool) (n : Nat) : ((List.range n).filter f).length = gm_cn f n := by
  induction n with
  | zero => rfl
  | succ n ih =>
    rw [List.range_succ, List.filter_append, List.length_append, ih]
    show _ = gm_cn f n + (if f n then 1 else 0)
    cases e : f n
    · rw [List.filter_cons_of_neg (by rw [e]; decide)]
      rfl
    · rw [List.filter_cons_of_pos (by rw [e])]
      rfl
theorem gm_cn_lo {f : Nat → Bool} {o n : Nat} (h : ∀ i, i < n → f i = true → i < o) : gm_cn f n ≤ o := by
  induction n with
  | zero => exact Nat.zero_le _
  | succ n ih =>
    by_cases z : n < o
    · have := gm_cn_le f (n + 1)
      omega
    · have h1 := ih (fun i hi => h i (by omega))
      have h2 : f n = false := by
        cases e : f n
        · rfl
        · exact absurd (h n (by omega) e) z
      show gm_cn f n + (if f n then 1 else 0) ≤ o
      rw [h2]
      exact h1
theorem gm_cn_hi {f : Nat → Bool} {o y : Nat} : ∀ d, d ≤ 8 → (∀ i, i < 24 + d → f i = true → i < o ∨ (24 ≤ i ∧ i < 24 + y)) → o ≤ 24 → gm_cn f (24 + d) ≤ o + min d y := by
  intro d
  induction d with
  | zero =>
    intro _ h ho
    have := gm_cn_lo (f := f) (o := o) (n := 24) (fun i hi e => by have := h i (by omega) e; omega)
    show gm_cn f 24 ≤ o + min 0 y
    omega
  | succ d ih =>
    intro hd h ho
    have h1 := ih (by omega) (fun i hi => h i (by omega)) ho
    show gm_cn f (24 + d) + (if f (24 + d) then 1 else 0) ≤ o + min (d + 1) y
    cases e : f (24 + d)
    · rw [if_neg (by decide)]
      omega
    · have := h (24 + d) (by omega) e
      rw [if_pos rfl]
      omega
theorem gm_cn_us {f : Nat → Bool} {o y : Nat} (ho : o ≤ 24) (hy : y ≤ 8) (h : ∀ i, i < 32 → f i = true → i < o ∨ (24 ≤ i ∧ i < 24 + y)) : gm_cn f 32 ≤ o + y := by
  have := gm_cn_hi (f := f) (o := o) (y := y) 8 (by omega) (fun i hi => h i (by omega)) ho
  have e : gm_cn f (24 + 8) = gm_cn f 32 := rfl
  omega
theorem gm_cn_sur {f : Nat → Bool} {q : Nat} : ∀ n, q < gm_cn f n → ∃ p, p < n ∧ f p = true ∧ gm_cn f p = q := by
  intro n
  induction n with
  | zero => intro h; exact absurd h (Nat.not_lt_zero q)
  | succ n ih =>
    intro h
    have h' : q < gm_cn f n + (if f n then 1 else 0) := h
    cases e : f n
    · rw [e, if_neg (by decide)] at h'
      obtain ⟨p, p1, p2, p3⟩ := ih (by omega)
      exact ⟨p, by omega, p2, p3⟩
    · rw [e, if_pos rfl] at h'
      by_cases e2 : q = gm_cn f n
      · exact ⟨n, by omega, e, e2.symm⟩
      · obtain ⟨p, p1, p2, p3⟩ := ih (by omega)
        exact ⟨p, by omega, p2, p3⟩
/-! places of a function -/
def gm_up {α : Type} (f : Nat → α) (k : Nat) (v : α) : Nat → α := fun j => if j = k then v else f j
theorem gm_up_s {α : Type} {f : Nat → α} {k : Nat} {v : α} : gm_up f k v k = v := if_pos rfl
theorem gm_up_n {α : Type} {f : Nat → α} {k j : Nat} {v : α} (h : j ≠ k) : gm_up f k v j = f j := if_neg h
theorem gm_up_up {α : Type} (f : Nat → α) (k : Nat) (v w : α) : gm_up (gm_up f k v) k w = gm_up f k w := by
  funext j
  by_cases h : j = k
  · rw [h, gm_up_s, gm_up_s]
  · rw [gm_up_n h, gm_up_n h, gm_up_n h]
/-! arithmetic -/
theorem gm_b8 : ∀ n, n < 128 → (nI n).toInt8.toInt32 = nI n := by decide +kernel
theorem gm_b88 (x : Int32) : x.toInt8.toInt32.toInt8.toInt32 = x.toInt8.toInt32 := by
  have h := pk_vb x
  rw [vp_nar_byte] at h
  exact h
theorem gm_s1 {n : Nat} (h : 0 < n) : nI n - 1 = nI (n - 1) := pk_sub (a := n) (b := 1) h
theorem gm_i6 {f d : Nat} : 6 * nI f + nI d = nI (6 * f + d) := by
  show nI 6 * nI f + nI d = _
  rw [pk_mul, nI_add]
theorem gm_i4 {f d : Nat} : 4 * nI f + nI d = nI (4 * f + d) := by
  show nI 4 * nI f + nI d = _
  rw [pk_mul, nI_add]
theorem gm_i3 {f d : Nat} : 3 * nI f + nI d = nI (3 * f + d) := by
  show nI 3 * nI f + nI d = _
  rw [pk_mul, nI_add]
theorem gm_i33 {f : Nat} : 3 * nI f + 3 = nI (3 * f + 3) := gm_i3 (d := 3)
theorem gm_m4 {f : Nat} : 4 * nI f = nI (4 * f) := pk_mul 4 f
theorem gm_m6 {f : Nat} : 6 * nI f = nI (6 * f) := pk_mul 6 f
theorem gm_m3 {f : Nat} : 3 * nI f = nI (3 * f) := pk_mul 3 f
theorem gm_ft {f d k : Nat} (h : k < d) : 6 * nI f + nI d - 1 - nI k = nI (6 * f + d - 1 - k) := by
  rw [gm_i6, gm_s1 (by omega), pk_sub (by omega)]
end
section
/-! the pure machine: no memory is ever taken back; an object is its number of birth -/
abbrev gm_V : Type := Int32 × Int32 × Nat
/-- frames: how many, due, depth, what they hold (places 4 f + l), stacks (places 6 f + k) -/
abbrev gm_F : Type := Nat × (Nat → Int32) × (Nat → Nat) × (Nat → gm_V) × (Nat → gm_V)
/-- objects: how many, their kinds, their fields -/
abbrev gm_H : Type := Nat × (Nat → Int32) × (Nat → Nat → gm_V)
/-- counters: steps, made, result's sort, result's number, printed, list -/
abbrev gm_C : Type := Nat × Int32 × Int32 × Int32 × Nat × (Nat → Int32)
abbrev gm_S : Type := gm_F × (Nat → gm_V) × gm_H × gm_C
/-- a program: op, operand, above, start -/
abbrev gm_P : Type := (Nat → Int32) × (Nat → Int32) × (Nat → Int32) × (Nat → Int32)
def gm_d (F : gm_F) : Nat := F.2.2.1 (F.1 - 1)
def gm_cur (F : gm_F) : Int32 := F.2.1 (F.1 - 1)
def gm_at (F : gm_F) (k : Nat) : gm_V := F.2.2.2.2 (6 * (F.1 - 1) + gm_d F - 1 - k)
def gm_lo (F : gm_F) (l : Nat) : gm_V := F.2.2.2.1 (4 * (F.1 - 1) + l)
def gm_push (F : gm_F) (v : gm_V) : gm_F := (F.1, F.2.1, gm_up F.2.2.1 (F.1 - 1) (gm_d F + 1), F.2.2.2.1, gm_up F.2.2.2.2 (6 * (F.1 - 1) + gm_d F) v)
def gm_drop (F : gm_F) (k : Nat) : gm_F := (F.1, F.2.1, gm_up F.2.2.1 (F.1 - 1) (gm_d F - k), F.2.2.2.1, F.2.2.2.2)
def gm_sdue (F : gm_F) (i : Int32) : gm_F := (F.1, gm_up F.2.1 (F.1 - 1) i, F.2.2.1, F.2.2.2.1, F.2.2.2.2)
def gm_put (F : gm_F) (k : Nat) (v : gm_V) : gm_F := (F.1, F.2.1, F.2.2.1, F.2.2.2.1, gm_up F.2.2.2.2 (6 * (F.1 - 1) + gm_d F - 1 - k) v)
def gm_slo (F : gm_F) (l : Nat) (v : gm_V) : gm_F := (F.1, F.2.1, F.2.2.1, gm_up F.2.2.2.1 (4 * (F.1 - 1) + l) v, F.2.2.2.2)
def gm_enter (F : gm_F) (i : Int32) : gm_F := (F.1 + 1, gm_up F.2.1 F.1 i, gm_up F.2.2.1 F.1 0, (fun l => if 4 * F.1 ≤ l then (0, 0, 0) else F.2.2.2.1 l), F.2.2.2.2)
def gm_exit (F : gm_F) : gm_F := (F.1 - 1, F.2.1, F.2.2.1, F.2.2.2.1, F.2.2.2.2)
def gm_zero (F : gm_F) : gm_F := (0, F.2.1, F.2.2.1, F.2.2.2.1, F.2.2.2.2)
def gm_tick (C : gm_C) : gm_C := (C.1 + 1, C.2.1, C.2.2.1, C.2.2.2.1, C.2.2.2.2.1, C.2.2.2.2.2)
def gm_print (C : gm_C) (x : Int32) : gm_C := (C.1, C.2.1, C.2.2.1, C.2.2.2.1, C.2.2.2.2.1 + 1, if C.2.2.2.2.1 < 20 then upd C.2.2.2.2.2 C.2.2.2.2.1 x else C.2.2.2.2.2)
def gm_made1 (C : gm_C) : gm_C := (C.1, C.2.1 + 1, C.2.2.1, C.2.2.2.1, C.2.2.2.2.1, C.2.2.2.2.2)
def gm_give (C : gm_C) (s n : Int32) : gm_C := (C.1, C.2.1, s, n, C.2.2.2.2.1, C.2.2.2.2.2)
def gm_sfl (H : gm_H) (i k : Nat) (v : gm_V) : gm_H := (H.1, H.2.1, gm_up H.2.2 i (gm_up (H.2.2 i) k v))
def gm_newo (H : gm_H) (c : Int32) : gm_H := (H.1 + 1, gm_up H.2.1 H.1 c, gm_up H.2.2 H.1 (fun _ => (0, 0, 0)))
/-- what is seen as a number: of an object its kind -/
def gm_shown (H : gm_H) (v : gm_V) : Int32 := if v.1 = 2 then H.2.1 v.2.2 else v.2.1
/-! what is needed -/
def gm_root (F : gm_F) (G : Nat → gm_V) (v : gm_V) : Prop := (∃ g, g < 4 ∧ v = G g) ∨ (∃ l, l < 4 * F.1 ∧ v = F.2.2.2.1 l) ∨ (∃ f k, f < F.1 ∧ k < F.2.2.1 f ∧ v = F.2.2.2.2 (6 * f + k))
def gm_RA (F : gm_F) (G : Nat → gm_V) (H : gm_H) (i : Nat) : Prop := ∀ T : Nat → Prop, (∀ v, gm_root F G v → v.1 = 2 → T v.2.2) → (∀ j k, T j → k < 3 → (H.2.2 j k).1 = 2 → T (H.2.2 j k).2.2) → T i
theorem gm_RA_root {F : gm_F} {G : Nat → gm_V} {H : gm_H} {v : gm_V} (h : gm_root F G v) (h2 : v.1 = 2) : gm_RA F G H v.2.2 := fun _ hr _ => hr v h h2
theorem gm_RA_step {F : gm_F} {G : Nat → gm_V} {H : gm_H} {j k : Nat} (h : gm_RA F G H j) (hk : k < 3) (h2 : (H.2.2 j k).1 = 2) : gm_RA F G H (H.2.2 j k).2.2 := fun T hr hs => hs j k (h T hr hs) hk h2
def gm_card (F : gm_F) (G : Nat → gm_V) (H : gm_H) (n : Nat) : Prop := ∃ l : List Nat, l.Nodup ∧ (∀ i, i ∈ l ↔ gm_RA F G H i) ∧ l.length = n
theorem gm_card_u {F : gm_F} {G : Nat → gm_V} {H : gm_H} {n m : Nat} (h : gm_card F G H n) (h' : gm_card F G H m) : n = m := by
  obtain ⟨l, l1, l2, l3⟩ := h
  obtain ⟨k, k1, k2, k3⟩ := h'
  rw [← l3, ← k3]
  exact ((List.perm_ext_iff_of_nodup l1 k1).mpr (fun i => (l2 i).trans (k2 i).symm)).length_eq
noncomputable def gm_cnt (F : gm_F) (G : Nat → gm_V) (H : gm_H) : Nat := @dite Nat (∃ n, gm_card F G H n) (Classical.propDecidable _) (fun h => Classical.choose h) (fun _ => 0)
theorem gm_cnt_eq {F : gm_F} {G : Nat → gm_V} {H : gm_H} {n : Nat} (h : gm_card F G H n) : gm_cnt F G H = n := by
  have e : ∃ n, gm_card F G H n := ⟨n, h⟩
  unfold gm_cnt
  rw [dif_pos e]
  exact gm_card_u (Classical.choose_spec e) h
/-! one instruction -/
def gm_tk18 (o : Int32) : Nat := if o = 17 then 2 else if o = 19 then 2 else if o = 4 then 1 else if o = 5 then 1 else if o = 6 then 1 else if o = 14 then 1 else if o = 16 then 1 else if o = 18 then 1 else if o = 20 then 1 else if o = 22 then 1 else if o = 23 then 1 else 0
def gm_tk (o : Int32) : Nat := if o = 7 then 2 else if o < 8 then gm_tk18 o else if o ≤ 12 then 2 else gm_tk18 o
def gm_pt43 (o : Int32) : Nat := if o = 15 then 1 else if o = 16 then 1 else if o = 18 then 1 else if o = 21 then 1 else 0
def gm_pt (o : Int32) : Nat := if o = 6 then 2 else if o = 7 then 2 else if o = 1 then 1 else if o = 2 then 1 else if o = 3 then 1 else if o < 8 then gm_pt43 o else if 12 < o then gm_pt43 o else 1
/-- the start that kind c has at slot s -/
def gm_rs (ab st : Nat → Int32) : Nat → Nat → Nat → Int32
  | 0 => fun c s => st (4 * c + s)
  | n + 1 => fun c s => if st (4 * c + s) < 0 ∧ 0 ≤ ab c then gm_rs ab st n (ab c).toNatClampNeg s else st (4 * c + s)
/-- up from kind c until it isn't above n -/
def gm_asc (ab : Nat → Int32) (n : Int32) : Nat → Int32 → Int32
  | 0 => fun c => c
  | f + 1 => fun c => if c ≤ n then c else gm_asc ab n f (ab c.toNatClampNeg)
def gm_bit (b : Bool) : gm_V := (1, if b then 1 else 0, 0)
def gm_take (o n : Int32) (F : gm_F) (G : Nat → gm_V) : gm_F × (Nat → gm_V) :=
  (if o = 4 then gm_slo (gm_drop F 1) n.toNatClampNeg (gm_at F 0) else gm_drop F 1, if o = 22 then gm_up G n.toNatClampNeg (gm_at F 0) else G)
def gm_move (ab : Nat → Int32) (o n : Int32) (F : gm_F) (G : Nat → gm_V) (H : gm_H) : gm_F × (Nat → gm_V) :=
  if o = 1 then (gm_push F (1, n, 0), G)
  else if o = 2 then (gm_push F (0, 0, 0), G)
  else if o = 3 then (gm_push F (gm_lo F n.toNatClampNeg), G)
  else if o = 21 then (gm_push F (G n.toNatClampNeg), G)
  else if o = 6 then (gm_push F (gm_at F 0), G)
  else if o = 7 then (gm_put (gm_put F 0 (gm_at F 1)) 1 (gm_at F 0), G)
  else if o = 12 then (gm_push (gm_drop F 2) (gm_bit (decide (gm_at F 0 = gm_at F 1))), G)
  else if o = 18 then (gm_push (gm_drop F 1) (gm_bit (decide ((gm_at F 0).1 = 2 ∧ gm_asc ab n 5 (H.2.1 (gm_at F 0).2.2) = n))), G)
  else if o = 4 ∨ o = 22 ∨ o = 5 then gm_take o n F G
  else (F, G)
def gm_comb (o : Int32) (F : gm_F) : Int32 :=
  if o = 8 then (gm_at F 1).2.1 + (gm_at F 0).2.1 else if o = 9 then (gm_at F 1).2.1 - (gm_at F 0).2.1 else if o = 10 then (gm_at F 1).2.1 * (gm_at F 0).2.1 else if (gm_at F 0).2.1 ≤ (gm_at F 1).2.1 then 0 else 1
noncomputable def gm_one (P : gm_P) (i o n : Int32) (F : gm_F) (G : Nat → gm_V) (H : gm_H) (C : gm_C) : Int32 × gm_S :=
  if o = 15 then
    @ite _ (16 ≤ gm_cnt F G H) (Nat.decLe _ _) (5, F, G, H, C) (-1, gm_sdue (gm_push F (2, 0, H.1)) (gm_cur F + 1), G, gm_newo H n, gm_made1 C)
  else if o = 16 then
    if (gm_at F 0).1 = 2 then (-1, gm_sdue (gm_push (gm_drop F 1) (H.2.2 (gm_at F 0).2.2 n.toNatClampNeg)) (gm_cur F + 1), G, H, C) else (4, F, G, H, C)
  else if o = 17 then
    if (gm_at F 1).1 = 2 then (-1, gm_sdue (gm_drop F 2) (gm_cur F + 1), G, gm_sfl H (gm_at F 1).2.2 n.toNatClampNeg (gm_at F 0), C) else (4, F, G, H, C)
  else if o = 19 then
    if (gm_at F 1).1 = 2 then
      if 0 ≤ gm_rs P.2.2.1 P.2.2.2 4 (H.2.1 (gm_at F 1).2.2).toNatClampNeg n.toNatClampNeg then
        if F.1 = 10 then (7, F, G, H, C)
        else (-1, gm_slo (gm_slo (gm_enter (gm_sdue (gm_drop F 2) (gm_cur F + 1)) (gm_rs P.2.2.1 P.2.2.2 4 (H.2.1 (gm_at F 1).2.2).toNatClampNeg n.toNatClampNeg)) 0 (gm_at F 1)) 1 (gm_at F 0), G, H, C)
      else (6, F, G, H, C)
    else (4, F, G, H, C)
  else if o = 20 then
    if F.1 = 1 then (0, gm_exit F, G, H, gm_give C (gm_at F 0).1 (gm_shown H (gm_at F 0))) else (-1, gm_push (gm_exit F) (gm_at F 0), G, H, C)
  else if o = 0 then (0, F, G, H, C)
  else if 8 ≤ o ∧ o ≤ 11 then
    if (gm_at F 0).1 = 1 ∧ (gm_at F 1).1 = 1 then (-1, gm_sdue (gm_push (gm_drop F 2) (1, gm_comb o F, 0)) (gm_cur F + 1), G, H, C) else (4, F, G, H, C)
  else if o = 14 ∨ o = 23 then
    if (gm_at F 0).1 = 1 then
      (-1, gm_sdue (gm_drop F 1) (if o = 14 ∧ (gm_at F 0).2.1 = 0 then n else i + 1), G, H, if o = 23 then gm_print C (gm_at F 0).2.1 else C)
    else (4, F, G, H, C)
  else (-1, (gm_move P.2.2.1 o n (gm_sdue F (if o = 13 then n else i + 1)) G H).1, (gm_move P.2.2.1 o n (gm_sdue F (if o = 13 then n else i + 1)) G H).2, H, C)
noncomputable def gm_step (P : gm_P) (S : gm_S) : Int32 × gm_S :=
  if gm_cur S.1 < 0 then (1, S)
  else if ¬ gm_cur S.1 ≤ 59 then (1, S)
  else if S.2.2.2.1 = 300 then (2, S)
  else if gm_d S.1 < gm_tk (P.1 (gm_cur S.1).toNatClampNeg) then (3, S)
  else if ¬ gm_d S.1 - gm_tk (P.1 (gm_cur S.1).toNatClampNeg) + gm_pt (P.1 (gm_cur S.1).toNatClampNeg) ≤ 6 then (3, S)
  else
    (fun r : Int32 × gm_S => if r.1 = -1 ∨ r.1 = 0 then (r.1, r.2.1, r.2.2.1, r.2.2.2.1, gm_tick r.2.2.2.2) else r)
      (gm_one P (gm_cur S.1) (P.1 (gm_cur S.1).toNatClampNeg) (P.2.1 (gm_cur S.1).toNatClampNeg) S.1 S.2.1 S.2.2.1 S.2.2.2)
noncomputable def gm_go (P : gm_P) : Nat → gm_S → Int32 × gm_S
  | 0 => fun S => (0, S)
  | n + 1 => fun S => if (gm_step P S).1 = -1 then gm_go P n (gm_step P S).2 else gm_step P S
/-- a run: its end, and what is left -/
def gm_begin (start a : Int32) (S : gm_S) : gm_S := (gm_slo (gm_enter (gm_zero S.1) start) 1 (1, a, 0), S.2.1, S.2.2.1, (0, 0, 0, 0, 0, S.2.2.2.2.2.2.2.2))
noncomputable def gm_run (P : gm_P) (start a : Int32) (S : gm_S) : Int32 × gm_S :=
  (fun r : Int32 × gm_S => (r.1, gm_zero r.2.1, r.2.2)) (gm_go P 301 (gm_begin start a S))
end
section
/-! how a state shows the pure machine -/
/-- the pair (s, n) shows the value v: an object by its place -/
def gm_sh (pa : Nat → Nat) (D : Nat → Prop) (v : gm_V) (s n : Int32) : Prop := (∃ i, v = (2, 0, i) ∧ s = 2 ∧ n = nI (pa i) ∧ D i) ∨ ((s = 0 ∨ s = 1) ∧ v = (s, n, 0))
theorem gm_sh_s {pa : Nat → Nat} {D : Nat → Prop} {v : gm_V} {s n : Int32} (h : gm_sh pa D v s n) : s = v.1 := by
  rcases h with ⟨i, rfl, rfl, _, _⟩ | ⟨_, rfl⟩
  · rfl
  · rfl
theorem gm_sh_8 {pa : Nat → Nat} {D : Nat → Prop} {v : gm_V} {s n : Int32} (h : gm_sh pa D v s n) : s.toInt8.toInt32 = s := by
  rcases h with ⟨i, _, rfl, _, _⟩ | ⟨rfl | rfl, _⟩
  · rfl
  · rfl
  · rfl
theorem gm_sh_n {pa : Nat → Nat} {D : Nat → Prop} {v : gm_V} {s n : Int32} (h : gm_sh pa D v s n) (hs : ¬ v.1 = 2) : n = v.2.1 := by
  rcases h with ⟨i, rfl, _, _, _⟩ | ⟨_, rfl⟩
  · exact absurd rfl hs
  · rfl
theorem gm_sh_n1 {pa : Nat → Nat} {D : Nat → Prop} {v : gm_V} {s n : Int32} (h : gm_sh pa D v s n) (hs : v.1 = 1) : n = v.2.1 := gm_sh_n h (by rw [hs]; decide)
theorem gm_sh_o {pa : Nat → Nat} {D : Nat → Prop} {v : gm_V} {s n : Int32} (h : gm_sh pa D v s n) (hs : v.1 = 2) : n = nI (pa v.2.2) ∧ D v.2.2 ∧ v = (2, 0, v.2.2) := by
  rcases h with ⟨i, rfl, _, h1, h2⟩ | ⟨h1, rfl⟩
  · exact ⟨h1, h2, rfl⟩
  · rcases h1 with rfl | rfl
    · exact absurd (show (0 : Int32) = 2 from hs) (by decide)
    · exact absurd (show (1 : Int32) = 2 from hs) (by decide)
theorem gm_sh_v1 {pa : Nat → Nat} {D : Nat → Prop} {v : gm_V} {s n : Int32} (h : gm_sh pa D v s n) (hs : v.1 = 1) : v = (1, v.2.1, 0) := by
  rcases h with ⟨i, rfl, _, h1, h2⟩ | ⟨h1, rfl⟩
  · exact absurd (show (2 : Int32) = 1 from hs) (by decide)
  · have e : s = 1 := hs
    rw [e]
theorem gm_sh_1 {pa : Nat → Nat} {D : Nat → Prop} (n : Int32) : gm_sh pa D (1, n, 0) 1 n := Or.inr ⟨Or.inr rfl, rfl⟩
theorem gm_sh_0 {pa : Nat → Nat} {D : Nat → Prop} : gm_sh pa D (0, 0, 0) 0 0 := Or.inr ⟨Or.inl rfl, rfl⟩
theorem gm_sh_2 {pa : Nat → Nat} {D : Nat → Prop} {i : Nat} (h : D i) : gm_sh pa D (2, 0, i) 2 (nI (pa i)) := Or.inl ⟨i, rfl, rfl, rfl, h⟩
theorem gm_sh_a {pa : Nat → Nat} {D : Nat → Prop} {v : gm_V} {s n : Int32} (h : gm_sh pa D v s n) : gm_sh pa D v v.1 n := by
  rw [← gm_sh_s h]
  exact h
/-- the same value in another world -/
theorem gm_sh_to {pa pa' : Nat → Nat} {D D' : Nat → Prop} {v : gm_V} {s n n' : Int32} (h : gm_sh pa D v s n) (h1 : ¬ v.1 = 2 → n' = n) (h2 : v.1 = 2 → n = nI (pa v.2.2) → D v.2.2 → n' = nI (pa' v.2.2) ∧ D' v.2.2) : gm_sh pa' D' v s n' := by
  rcases h with ⟨i, rfl, rfl, h3, h4⟩ | ⟨h3, rfl⟩
  · obtain ⟨e1, e2⟩ := h2 rfl h3 h4
    exact Or.inl ⟨i, rfl, rfl, e1, e2⟩
  · have e : n' = n := h1 (by dsimp only; rcases h3 with rfl | rfl <;> decide)
    rw [e]
    exact Or.inr ⟨h3, rfl⟩
theorem gm_sh_mono {pa pa' : Nat → Nat} {D D' : Nat → Prop} {v : gm_V} {s n : Int32} (h : gm_sh pa D v s n) (h2 : ∀ i, D i → pa' i = pa i ∧ D' i) : gm_sh pa' D' v s n :=
  gm_sh_to h (fun _ => rfl) (fun _ e d => ⟨by rw [(h2 _ d).1]; exact e, (h2 _ d).2⟩)
/-- equal pairs show equal values -/
theorem gm_sh_eq {pa : Nat → Nat} {D : Nat → Prop} (inj : ∀ i j, D i → D j → pa i = pa j → i = j) (lt : ∀ i, D i → pa i < 32) {v w : gm_V} {s n t m : Int32} (h : gm_sh pa D v s n) (k : gm_sh pa D w t m) : v = w ↔ s = t ∧ n = m := by
  rcases h with ⟨i, rfl, rfl, rfl, hi⟩ | ⟨h1, rfl⟩
  · rcases k with ⟨j, rfl, rfl, rfl, hj⟩ | ⟨k1, rfl⟩
    · constructor
      · intro e
        have e2 : i = j := congrArg (fun z : gm_V => z.2.2) e
        rw [e2]
        exact ⟨rfl, rfl⟩
      · intro e
        have e2 : pa i = pa j := (nI_eq (by have := lt i hi; omega) (by have := lt j hj; omega)).mp e.2
        rw [inj i j hi hj e2]
    · constructor
      · intro e
        have e2 : (2 : Int32) = t := congrArg (fun z : gm_V => z.1) e
        rcases k1 with rfl | rfl
        · exact absurd e2 (by decide)
        · exact absurd e2 (by decide)
      · intro e
        have e2 := e.1
        rcases k1 with rfl | rfl
        · exact absurd e2 (by decide)
        · exact absurd e2 (by decide)
  · rcases k with ⟨j, rfl, rfl, rfl, hj⟩ | ⟨k1, rfl⟩
    · constructor
      · intro e
        have e2 : s = 2 := congrArg (fun z : gm_V => z.1) e
        rcases h1 with rfl | rfl
        · exact absurd e2 (by decide)
        · exact absurd e2 (by decide)
      · intro e
        have e2 := e.1
        rcases h1 with rfl | rfl
        · exact absurd e2 (by decide)
        · exact absurd e2 (by decide)
    · constructor
      · intro e
        exact ⟨congrArg (fun z : gm_V => z.1) e, congrArg (fun z : gm_V => z.2.1) e⟩
      · intro e
        rw [e.1, e.2]
/-! the parts of a state -/
def gm_fr (pa : Nat → Nat) (D : Nat → Prop) (F : gm_F) (x : Int32) (a11 a12 a13 a14 a15 a16 : Nat → Int32) : Prop :=
  x = nI F.1 ∧ F.1 ≤ 10 ∧ (∀ f, f < F.1 → a11 f = F.2.1 f ∧ a14 f = nI (F.2.2.1 f) ∧ F.2.2.1 f ≤ 6) ∧ (∀ l, l < 4 * F.1 → gm_sh pa D (F.2.2.2.1 l) (a12 l) (a13 l)) ∧ (∀ f k, f < F.1 → k < F.2.2.1 f → gm_sh pa D (F.2.2.2.2 (6 * f + k)) (a15 (6 * f + k)) (a16 (6 * f + k))) ∧ (∀ f, f + 1 < F.1 → F.2.2.1 f ≤ 5)
def gm_gl (pa : Nat → Nat) (D : Nat → Prop) (G : Nat → gm_V) (a9 a10 : Nat → Int32) : Prop := ∀ g, g < 4 → gm_sh pa D (G g) (a9 g) (a10 g)
def gm_us (o y p : Nat) : Prop := p < o ∨ (24 ≤ p ∧ p < 24 + y)
def gm_ob (pa : Nat → Nat) (D : Nat → Prop) (H : gm_H) (o y : Nat) (a17 a18 a19 : Nat → Int32) (i : Nat) : Prop :=
  i < H.1 ∧ gm_us o y (pa i) ∧ a17 (pa i) = H.2.1 i ∧ (∃ c, c < 4 ∧ H.2.1 i = nI c) ∧ (∀ k, k < 3 → gm_sh pa D (H.2.2 i k) (a18 (3 * pa i + k)) (a19 (3 * pa i + k)))
def gm_hq (pa : Nat → Nat) (D : Nat → Prop) (H : gm_H) (o y : Nat) (rm : Int32) (a17 a18 a19 : Nat → Int32) : Prop :=
  o + y ≤ 16 ∧ y ≤ 8 ∧ (∀ i, D i → gm_ob pa D H o y a17 a18 a19 i) ∧ (∀ i j, D i → D j → pa i = pa j → i = j) ∧ (∀ p, gm_us o y p → ∃ i, D i ∧ pa i = p) ∧ (∀ i k, D i → pa i < 24 → k < 3 → (H.2.2 i k).1 = 2 → 24 ≤ pa (H.2.2 i k).2.2 → gm_bt rm (pa i) = true)
def gm_hp (pa : Nat → Nat) (D : Nat → Prop) (H : gm_H) (xo xy rm : Int32) (a17 a18 a19 : Nat → Int32) : Prop :=
  ∃ o y, xo = nI o ∧ xy = nI y ∧ gm_hq pa D H o y rm a17 a18 a19
def gm_cs (b : Nat) (C : gm_C) (xsc xmd xrs xrn xpc : Int32) (a22 : Nat → Int32) : Prop :=
  xsc = nI C.1 ∧ C.1 ≤ 300 ∧ xmd = C.2.1 ∧ xrs = C.2.2.1 ∧ xrn = C.2.2.2.1 ∧ xpc = nI C.2.2.2.2.1 ∧ C.2.2.2.2.1 ≤ C.1 + b ∧ a22 = C.2.2.2.2.2
def gm_cpl (a b : Int32) : Int32 := if a = 3 ∧ b = 16 then 1 else if a = 1 ∧ b = 8 then 2 else if a = 11 ∧ b = 14 then 3 else if a = 3 ∧ b = 3 then 4 else 0
/-- an instruction that fits -/
def gm_fit (o n : Int32) : Prop := (∃ j, j < 24 ∧ o = nI j) ∧ ((o = 3 ∨ o = 4 ∨ o = 15 ∨ o = 18 ∨ o = 19 ∨ o = 21 ∨ o = 22) → ∃ k, k < 4 ∧ n = nI k) ∧ ((o = 16 ∨ o = 17) → ∃ k, k < 3 ∧ n = nI k)
/-- a program that fits -/
def gm_pg (P : gm_P) : Prop := (∀ i, i < 60 → gm_fit (P.1 i) (P.2.1 i)) ∧ (∀ c, c < 4 → P.2.2.1 c = -1 ∨ ∃ d, d < c ∧ P.2.2.1 c = nI d) ∧ (∀ m, m < 16 → (P.2.2.2 m).toInt8.toInt32 = P.2.2.2 m)
/-- what is prepared -/
def gm_rd (P : gm_P) (a5 a6 a7 a8 : Nat → Int32) : Prop :=
  (∀ c s, c < 4 → s < 4 → a5 (4 * c + s) = gm_rs P.2.2.1 P.2.2.2 4 c s) ∧ (∀ i, i < 59 → a6 i = gm_cpl (P.1 i) (P.1 (i + 1))) ∧ a6 59 = 0 ∧ (∀ i c, i < 60 → c < 4 → P.1 i = 19 → a7 i = nI c → a8 i = gm_rs P.2.2.1 P.2.2.2 4 c (P.2.1 i).toNatClampNeg)
def gm_cd (z : Prop) (P : gm_P) (xpr : Int32) (a1 a2 a3 a4 a5 a6 a7 a8 : Nat → Int32) : Prop :=
  gm_pg P ∧ (∀ i, i < 60 → a1 i = P.1 i ∧ a2 i = P.2.1 i) ∧ (∀ c, c < 4 → a3 c = P.2.2.1 c) ∧ (∀ m, m < 16 → a4 m = P.2.2.2 m) ∧ (z → ¬ xpr = 0) ∧ (¬ xpr = 0 → gm_rd P a5 a6 a7 a8)
def gm_M (z : Prop) (P : gm_P) (b : Nat) (pa : Nat → Nat) (D : Nat → Prop) (F : gm_F) (G : Nat → gm_V) (H : gm_H) (C : gm_C) (u : St1) : Prop := match u with
  | (xpr, xlv, xfc, xou, xyu, xrm, xmk, xsc, xmd, xrs, xrn, xpc, xwc, a1, a2, a3, a4, a5, a6, a7, a8, a9, a10, a11, a12, a13, a14, a15, a16, a17, a18, a19, a20, a21, a22) => gm_cd z P xpr a1 a2 a3 a4 a5 a6 a7 a8 ∧ gm_fr pa D F xfc a11 a12 a13 a14 a15 a16 ∧ gm_gl pa D G a9 a10 ∧ gm_hp pa D H xou xyu xrm a17 a18 a19 ∧ gm_cs b C xsc xmd xrs xrn xpc a22
def gm_FU (pa : Nat → Nat) (D : Nat → Prop) (F : gm_F) (u : St1) : Prop := match u with
  | (xpr, xlv, xfc, xou, xyu, xrm, xmk, xsc, xmd, xrs, xrn, xpc, xwc, a1, a2, a3, a4, a5, a6, a7, a8, a9, a10, a11, a12, a13, a14, a15, a16, a17, a18, a19, a20, a21, a22) => gm_fr pa D F xfc a11 a12 a13 a14 a15 a16
/-- the post holds at the end r, in whatever world shows it -/
def gm_K (P : gm_P) (post : Int32 → St1 → Prop) (r : Int32 × gm_S) : Prop := ∀ pa D u, gm_M True P 1 pa D r.2.1 r.2.2.1 r.2.2.2.1 r.2.2.2.2 u → post r.1 u
/-! facts of the frames -/
theorem gm_fr_x {pa : Nat → Nat} {D : Nat → Prop} {F : gm_F} {x : Int32} {a11 a12 a13 a14 a15 a16 : Nat → Int32} (h : gm_fr pa D F x a11 a12 a13 a14 a15 a16) (h0 : 0 < F.1) : x - 1 = nI (F.1 - 1) ∧ (x - 1).toNatClampNeg = F.1 - 1 ∧ F.1 - 1 < 10 ∧ a14 (F.1 - 1) = nI (gm_d F) ∧ gm_d F ≤ 6 ∧ a11 (F.1 - 1) = gm_cur F := by
  obtain ⟨h1, h2, h3, _, _, _⟩ := h
  obtain ⟨k1, k2, k3⟩ := h3 (F.1 - 1) (by omega)
  have e : x - 1 = nI (F.1 - 1) := by rw [h1, gm_s1 h0]
  exact ⟨e, by rw [e, nI_clamp (by omega)], by omega, k2, k3, k1⟩
theorem gm_fr_at {pa : Nat → Nat} {D : Nat → Prop} {F : gm_F} {x : Int32} {a11 a12 a13 a14 a15 a16 : Nat → Int32} (h : gm_fr pa D F x a11 a12 a13 a14 a15 a16) (h0 : 0 < F.1) {k : Nat} (hk : k < gm_d F) : gm_sh pa D (gm_at F k) (a15 (6 * (F.1 - 1) + gm_d F - 1 - k)) (a16 (6 * (F.1 - 1) + gm_d F - 1 - k)) := by
  have h1 := h.2.2.2.2.1 (F.1 - 1) (gm_d F - 1 - k) (by omega) (by show _ < gm_d F; omega)
  have e : 6 * (F.1 - 1) + (gm_d F - 1 - k) = 6 * (F.1 - 1) + gm_d F - 1 - k := by omega
  rw [e] at h1
  exact h1
theorem gm_fr_lo {pa : Nat → Nat} {D : Nat → Prop} {F : gm_F} {x : Int32} {a11 a12 a13 a14 a15 a16 : Nat → Int32} (h : gm_fr pa D F x a11 a12 a13 a14 a15 a16) (h0 : 0 < F.1) {l : Nat} (hl : l < 4) : gm_sh pa D (gm_lo F l) (a12 (4 * (F.1 - 1) + l)) (a13 (4 * (F.1 - 1) + l)) := h.2.2.2.1 (4 * (F.1 - 1) + l) (by omega)
theorem gm_fr_push {pa : Nat → Nat} {D : Nat → Prop} {F : gm_F} {x : Int32} {a11 a12 a13 a14 a15 a16 : Nat → Int32} (h : gm_fr pa D F x a11 a12 a13 a14 a15 a16) (h0 : 0 < F.1) (hd : gm_d F < 6) {v : gm_V} {s n : Int32} (hv : gm_sh pa D v s n) : gm_fr pa D (gm_push F v) x a11 a12 a13 (upd a14 (F.1 - 1) (nI (gm_d F + 1))) (upd a15 (6 * (F.1 - 1) + gm_d F) s) (upd a16 (6 * (F.1 - 1) + gm_d F) n) := by
  obtain ⟨h1, h2, h3, h4, h5, h6⟩ := h
  obtain ⟨fc, due, dep, loc, stk⟩ := F
  dsimp only [gm_push, gm_d] at *
  refine ⟨h1, h2, fun f hf => ?_, h4, fun f k hf hk => ?_, fun f hf => ?_⟩
  · obtain ⟨k1, k2, k3⟩ := h3 f hf
    refine ⟨k1, ?_⟩
    show upd a14 (fc - 1) _ f = nI (gm_up dep (fc - 1) _ f) ∧ gm_up dep (fc - 1) _ f ≤ 6
    by_cases e : f = fc - 1
    · rw [e, pk_us, gm_up_s]
      exact ⟨rfl, by omega⟩
    · rw [pk_un e, gm_up_n e]
      exact ⟨k2, k3⟩
  · have hk' : k < gm_up dep (fc - 1) (dep (fc - 1) + 1) f := hk
    have hf' : f < fc := hf
    show gm_sh pa D (gm_up stk (6 * (fc - 1) + dep (fc - 1)) v (6 * f + k)) _ _
    by_cases e : 6 * f + k = 6 * (fc - 1) + dep (fc - 1)
    · rw [e, gm_up_s, pk_us, pk_us]
      exact hv
    · rw [gm_up_n e, pk_un e, pk_un e]
      refine h5 f k hf ?_
      by_cases ef : f = fc - 1
      · rw [ef, gm_up_s] at hk'
        subst ef
        omega
      · rw [gm_up_n ef] at hk'
        exact hk'
  · have hf' : f + 1 < fc := hf
    show gm_up dep (fc - 1) _ f ≤ 5
    rw [gm_up_n (by omega)]
    exact h6 f hf
theorem gm_fr_drop {pa : Nat → Nat} {D : Nat → Prop} {F : gm_F} {x : Int32} {a11 a12 a13 a14 a15 a16 : Nat → Int32} (h : gm_fr pa D F x a11 a12 a13 a14 a15 a16) (h0 : 0 < F.1) {c : Nat} : gm_fr pa D (gm_drop F c) x a11 a12 a13 (upd a14 (F.1 - 1) (nI (gm_d F - c))) a15 a16 := by
  obtain ⟨h1, h2, h3, h4, h5, h6⟩ := h
  obtain ⟨fc, due, dep, loc, stk⟩ := F
  dsimp only [gm_drop, gm_d] at *
  refine ⟨h1, h2, fun f hf => ?_, h4, fun f k hf hk => ?_, fun f hf => ?_⟩
  · obtain ⟨k1, k2, k3⟩ := h3 f hf
    refine ⟨k1, ?_⟩
    show upd a14 (fc - 1) _ f = nI (gm_up dep (fc - 1) _ f) ∧ gm_up dep (fc - 1) _ f ≤ 6
    by_cases e : f = fc - 1
    · rw [e, pk_us, gm_up_s]
      rw [e] at k3
      exact ⟨rfl, by omega⟩
    · rw [pk_un e, gm_up_n e]
      exact ⟨k2, k3⟩
  · have hk' : k < gm_up dep (fc - 1) (dep (fc - 1) - c) f := hk
    refine h5 f k hf ?_
    by_cases ef : f = fc - 1
    · rw [ef, gm_up_s] at hk'
      rw [ef]
      omega
    · rw [gm_up_n ef] at hk'
      exact hk'
  · have hf' : f + 1 < fc := hf
    show gm_up dep (fc - 1) _ f ≤ 5
    rw [gm_up_n (by omega)]
    exact h6 f hf
theorem gm_fr_due {pa : Nat → Nat} {D : Nat → Prop} {F : gm_F} {x : Int32} {a11 a12 a13 a14 a15 a16 : Nat → Int32} (h : gm_fr pa D F x a11 a12 a13 a14 a15 a16) {i : Int32} : gm_fr pa D (gm_sdue F i) x (upd a11 (F.1 - 1) i) a12 a13 a14 a15 a16 := by
  obtain ⟨h1, h2, h3, h4, h5, h6⟩ := h
  refine ⟨h1, h2, fun f hf => ?_, h4, h5, h6⟩
  obtain ⟨k1, k2, k3⟩ := h3 f hf
  refine ⟨?_, k2, k3⟩
  show upd a11 (F.1 - 1) i f = gm_up F.2.1 (F.1 - 1) i f
  by_cases e : f = F.1 - 1
  · rw [e, pk_us, gm_up_s]
  · rw [pk_un e, gm_up_n e]
    exact k1
theorem gm_fr_put {pa : Nat → Nat} {D : Nat → Prop} {F : gm_F} {x : Int32} {a11 a12 a13 a14 a15 a16 : Nat → Int32} (h : gm_fr pa D F x a11 a12 a13 a14 a15 a16) {c : Nat} {v : gm_V} {s n : Int32} (hv : gm_sh pa D v s n) : gm_fr pa D (gm_put F c v) x a11 a12 a13 a14 (upd a15 (6 * (F.1 - 1) + gm_d F - 1 - c) s) (upd a16 (6 * (F.1 - 1) + gm_d F - 1 - c) n) := by
  obtain ⟨h1, h2, h3, h4, h5, h6⟩ := h
  refine ⟨h1, h2, h3, h4, fun f k hf hk => ?_, h6⟩
  show gm_sh pa D (gm_up F.2.2.2.2 (6 * (F.1 - 1) + gm_d F - 1 - c) v (6 * f + k)) _ _
  by_cases e : 6 * f + k = 6 * (F.1 - 1) + gm_d F - 1 - c
  · rw [e, gm_up_s, pk_us, pk_us]
    exact hv
  · rw [gm_up_n e, pk_un e, pk_un e]
    exact h5 f k hf hk
theorem gm_fr_slo {pa : Nat → Nat} {D : Nat → Prop} {F : gm_F} {x : Int32} {a11 a12 a13 a14 a15 a16 : Nat → Int32} (h : gm_fr pa D F x a11 a12 a13 a14 a15 a16) {l : Nat} {v : gm_V} {s n : Int32} (hv : gm_sh pa D v s n) : gm_fr pa D (gm_slo F l v) x a11 (upd a12 (4 * (F.1 - 1) + l) s) (upd a13 (4 * (F.1 - 1) + l) n) a14 a15 a16 := by
  obtain ⟨h1, h2, h3, h4, h5, h6⟩ := h
  refine ⟨h1, h2, h3, fun j hj => ?_, h5, h6⟩
  show gm_sh pa D (gm_up F.2.2.2.1 (4 * (F.1 - 1) + l) v j) _ _
  by_cases e : j = 4 * (F.1 - 1) + l
  · rw [e, gm_up_s, pk_us, pk_us]
    exact hv
  · rw [gm_up_n e, pk_un e, pk_un e]
    exact h4 j hj
theorem gm_fr_exit {pa : Nat → Nat} {D : Nat → Prop} {F : gm_F} {x : Int32} {a11 a12 a13 a14 a15 a16 : Nat → Int32} (h : gm_fr pa D F x a11 a12 a13 a14 a15 a16) (h0 : 0 < F.1) : gm_fr pa D (gm_exit F) (x - 1) a11 a12 a13 a14 a15 a16 := by
  have e := (gm_fr_x h h0).1
  obtain ⟨h1, h2, h3, h4, h5, h6⟩ := h
  obtain ⟨fc, due, dep, loc, stk⟩ := F
  dsimp only [gm_exit] at *
  exact ⟨e, by show fc - 1 ≤ 10; omega, fun f hf => h3 f (by have : f < fc - 1 := hf; omega), fun l hl => h4 l (by have : l < 4 * (fc - 1) := hl; omega), fun f k hf hk => h5 f k (by have : f < fc - 1 := hf; omega) hk, fun f hf => h6 f (by have : f + 1 < fc - 1 := hf; show f + 1 < fc; omega)⟩
theorem gm_fr_zero {pa : Nat → Nat} {D : Nat → Prop} {F : gm_F} {x : Int32} {a11 a12 a13 a14 a15 a16 : Nat → Int32} : gm_fr pa D (gm_zero F) 0 a11 a12 a13 a14 a15 a16 :=
  ⟨rfl, Nat.zero_le _, fun f hf => absurd hf (Nat.not_lt_zero f), fun l hl => absurd hl (Nat.not_lt_zero l), fun f k hf => absurd hf (Nat.not_lt_zero f), fun f hf => absurd hf (Nat.not_lt_zero _)⟩
theorem gm_fr_enter {pa : Nat → Nat} {D : Nat → Prop} {F : gm_F} {x : Int32} {a11 a12 a13 a14 a15 a16 b12 b13 : Nat → Int32} (h : gm_fr pa D F x a11 a12 a13 a14 a15 a16) (h9 : F.1 < 10) (hd5 : 0 < F.1 → gm_d F ≤ 5) {i : Int32} (hb : ∀ l, l < 4 * F.1 → b12 l = a12 l ∧ b13 l = a13 l) (hz : ∀ l, 4 * F.1 ≤ l → l < 4 * F.1 + 4 → b12 l = 0 ∧ b13 l = 0) : gm_fr pa D (gm_enter F i) (x + 1) (upd a11 F.1 i) b12 b13 (upd a14 F.1 0) a15 a16 := by
  obtain ⟨h1, h2, h3, h4, h5, h6⟩ := h
  obtain ⟨fc, due, dep, loc, stk⟩ := F
  dsimp only [gm_enter, gm_d] at *
  refine ⟨by rw [h1, nI_1], by show fc + 1 ≤ 10; omega, fun f hf => ?_, fun l hl => ?_, fun f k hf hk => ?_, fun f hf => ?_⟩
  · have hf' : f < fc + 1 := hf
    show upd a11 fc i f = gm_up due fc i f ∧ upd a14 fc 0 f = nI (gm_up dep fc 0 f) ∧ gm_up dep fc 0 f ≤ 6
    by_cases e : f = fc
    · rw [e, pk_us, gm_up_s, pk_us, gm_up_s]
      exact ⟨rfl, rfl, by omega⟩
    · rw [pk_un e, gm_up_n e, pk_un e, gm_up_n e]
      exact h3 f (by omega)
  · have hl' : l < 4 * (fc + 1) := hl
    show gm_sh pa D (if 4 * fc ≤ l then (0, 0, 0) else loc l) (b12 l) (b13 l)
    by_cases e : 4 * fc ≤ l
    · rw [if_pos e, (hz l e (by omega)).1, (hz l e (by omega)).2]
      exact gm_sh_0
    · rw [if_neg e, (hb l (by omega)).1, (hb l (by omega)).2]
      exact h4 l (by omega)
  · have hf' : f < fc + 1 := hf
    have hk' : k < gm_up dep fc 0 f := hk
    by_cases e : f = fc
    · rw [e, gm_up_s] at hk'
      exact absurd hk' (Nat.not_lt_zero k)
    · rw [gm_up_n e] at hk'
      exact h5 f k (by omega) hk'
  · have hf' : f + 1 < fc + 1 := hf
    show gm_up dep fc 0 f ≤ 5
    rw [gm_up_n (by omega)]
    by_cases e : f + 1 < fc
    · exact h6 f e
    · have e2 : f = fc - 1 := by omega
      rw [e2]
      exact hd5 (by omega)
/-- frames that agree where they live show the same -/
theorem gm_fr_e {pa : Nat → Nat} {D : Nat → Prop} {F F' : gm_F} {x : Int32} {a11 a12 a13 a14 a15 a16 : Nat → Int32} (h : gm_fr pa D F x a11 a12 a13 a14 a15 a16) (e1 : F'.1 = F.1) (e2 : ∀ f, f < F.1 → F'.2.1 f = F.2.1 f ∧ F'.2.2.1 f = F.2.2.1 f) (e3 : ∀ l, l < 4 * F.1 → F'.2.2.2.1 l = F.2.2.2.1 l) (e4 : ∀ f k, f < F.1 → k < F.2.2.1 f → F'.2.2.2.2 (6 * f + k) = F.2.2.2.2 (6 * f + k)) : gm_fr pa D F' x a11 a12 a13 a14 a15 a16 := by
  obtain ⟨h1, h2, h3, h4, h5, h6⟩ := h
  refine ⟨by rw [e1]; exact h1, by rw [e1]; exact h2, fun f hf => ?_, fun l hl => ?_, fun f k hf hk => ?_, fun f hf => ?_⟩
  · rw [e1] at hf
    rw [(e2 f hf).1, (e2 f hf).2]
    exact h3 f hf
  · rw [e1] at hl
    rw [e3 l hl]
    exact h4 l hl
  · rw [e1] at hf
    rw [(e2 f hf).2] at hk
    rw [e4 f k hf hk]
    exact h5 f k hf hk
  · rw [e1] at hf
    rw [(e2 f (by omega)).2]
    exact h6 f hf
/-! facts of the objects -/
theorem gm_hp_lt {pa : Nat → Nat} {D : Nat → Prop} {H : gm_H} {xo xy rm : Int32} {a17 a18 a19 : Nat → Int32} (h : gm_hp pa D H xo xy rm a17 a18 a19) : ∀ i, D i → pa i < 32 := by
  obtain ⟨o, y, _, _, h1, h2, h3, _, _⟩ := h
  intro i hi
  have := (h3 i hi).2.1
  unfold gm_us at this
  omega
theorem gm_hp_inj {pa : Nat → Nat} {D : Nat → Prop} {H : gm_H} {xo xy rm : Int32} {a17 a18 a19 : Nat → Int32} (h : gm_hp pa D H xo xy rm a17 a18 a19) : ∀ i j, D i → D j → pa i = pa j → i = j := by
  obtain ⟨o, y, _, _, _, _, _, h4, _⟩ := h
  exact h4
theorem gm_hp_c {pa : Nat → Nat} {D : Nat → Prop} {H : gm_H} {xo xy rm : Int32} {a17 a18 a19 : Nat → Int32} (h : gm_hp pa D H xo xy rm a17 a18 a19) {i : Nat} (hi : D i) : a17 (pa i) = H.2.1 i ∧ (∃ c, c < 4 ∧ H.2.1 i = nI c) := by
  obtain ⟨o, y, _, _, _, _, h3, _, _⟩ := h
  exact ⟨(h3 i hi).2.2.1, (h3 i hi).2.2.2.1⟩
theorem gm_hp_f {pa : Nat → Nat} {D : Nat → Prop} {H : gm_H} {xo xy rm : Int32} {a17 a18 a19 : Nat → Int32} (h : gm_hp pa D H xo xy rm a17 a18 a19) {i k : Nat} (hi : D i) (hk : k < 3) : gm_sh pa D (H.2.2 i k) (a18 (3 * pa i + k)) (a19 (3 * pa i + k)) := by
  obtain ⟨o, y, _, _, _, _, h3, _, _⟩ := h
  exact (h3 i hi).2.2.2.2 k hk
end
section
section
variable {z : Prop} {P : gm_P} {b : Nat} {pa : Nat → Nat} {D : Nat → Prop} {F : gm_F} {G : Nat → gm_V} {H : gm_H} {C : gm_C} {u : St1}
theorem gm_MF (h : gm_M z P b pa D F G H C u) : gm_FU pa D F u := by
  obtain ⟨xpr, xlv, xfc, xou, xyu, xrm, xmk, xsc, xmd, xrs, xrn, xpc, xwc, a1, a2, a3, a4, a5, a6, a7, a8, a9, a10, a11, a12, a13, a14, a15, a16, a17, a18, a19, a20, a21, a22⟩ := u
  exact h.2.1
theorem gm_wsortF {post : Int32 → Prop} (h : gm_FU pa D F u) (h0 : 0 < F.1) {k : Nat} (hk : k < gm_d F) (hp : post (gm_at F k).1) {x : Int32} (hx : x = nI k := by rfl) : wpX_sortAt post u x := by
  obtain ⟨xpr, xlv, xfc, xou, xyu, xrm, xmk, xsc, xmd, xrs, xrn, xpc, xwc, a1, a2, a3, a4, a5, a6, a7, a8, a9, a10, a11, a12, a13, a14, a15, a16, a17, a18, a19, a20, a21, a22⟩ := u
  have hf : gm_fr pa D F xfc a11 a12 a13 a14 a15 a16 := h
  obtain ⟨e1, e2, e3, e4, e5, _⟩ := gm_fr_x hf h0
  have hv := gm_fr_at hf h0 hk
  unfold wpX_sortAt wpX_fromTop wpX_top
  dsimp only
  rw [hx, e2, e4, e1, gm_ft hk, nI_clamp (by omega), gm_sh_s hv]
  exact ⟨pk_in _ 10 e3, pk_in (6 * (F.1 - 1) + gm_d F - 1 - k) 60 (by omega), hp⟩
theorem gm_wnumF {post : Int32 → Prop} (h : gm_FU pa D F u) (h0 : 0 < F.1) {k : Nat} (hk : k < gm_d F) (hp : ∀ n, gm_sh pa D (gm_at F k) (gm_at F k).1 n → post n) {x : Int32} (hx : x = nI k := by rfl) : wpX_numberAt post u x := by
  obtain ⟨xpr, xlv, xfc, xou, xyu, xrm, xmk, xsc, xmd, xrs, xrn, xpc, xwc, a1, a2, a3, a4, a5, a6, a7, a8, a9, a10, a11, a12, a13, a14, a15, a16, a17, a18, a19, a20, a21, a22⟩ := u
  have hf : gm_fr pa D F xfc a11 a12 a13 a14 a15 a16 := h
  obtain ⟨e1, e2, e3, e4, e5, _⟩ := gm_fr_x hf h0
  have hv := gm_fr_at hf h0 hk
  unfold wpX_numberAt wpX_fromTop wpX_top
  dsimp only
  rw [hx, e2, e4, e1, gm_ft hk, nI_clamp (by omega)]
  exact ⟨pk_in _ 10 e3, pk_in (6 * (F.1 - 1) + gm_d F - 1 - k) 60 (by omega), hp _ (gm_sh_a hv)⟩
theorem gm_wsort {post : Int32 → Prop} (h : gm_M z P b pa D F G H C u) (h0 : 0 < F.1) {k : Nat} (hk : k < gm_d F) (hp : post (gm_at F k).1) {x : Int32} (hx : x = nI k := by rfl) : wpX_sortAt post u x := gm_wsortF (gm_MF h) h0 hk hp hx
theorem gm_wnum {post : Int32 → Prop} (h : gm_M z P b pa D F G H C u) (h0 : 0 < F.1) {k : Nat} (hk : k < gm_d F) (hp : ∀ n, gm_sh pa D (gm_at F k) (gm_at F k).1 n → post n) {x : Int32} (hx : x = nI k := by rfl) : wpX_numberAt post u x := gm_wnumF (gm_MF h) h0 hk hp hx
theorem gm_wpush {post : St1 → Prop} (h : gm_M z P b pa D F G H C u) (h0 : 0 < F.1) (hd : gm_d F < 6) {v : gm_V} {s n : Int32} (hv : gm_sh pa D v s n) (hp : ∀ u', gm_M z P b pa D (gm_push F v) G H C u' → post u') : wpX_push post u s n := by
  obtain ⟨xpr, xlv, xfc, xou, xyu, xrm, xmk, xsc, xmd, xrs, xrn, xpc, xwc, a1, a2, a3, a4, a5, a6, a7, a8, a9, a10, a11, a12, a13, a14, a15, a16, a17, a18, a19, a20, a21, a22⟩ := u
  obtain ⟨hc, hf, hg, hh, hs⟩ := h
  obtain ⟨e1, e2, e3, e4, e5, _⟩ := gm_fr_x hf h0
  have e6 : (nI (gm_d F) + 1).toInt8.toInt32 = nI (gm_d F + 1) := by rw [nI_1, gm_b8 _ (by omega)]
  unfold wpX_push wpX_top
  dsimp only
  rw [e2, e4, e1, gm_i6, nI_clamp (by omega), e6, gm_sh_8 hv]
  exact ⟨pk_in _ 10 e3, pk_in (6 * (F.1 - 1) + gm_d F) 60 (by omega), nm_e ⟨pk_in _ 10 e3, pk_in (6 * (F.1 - 1) + gm_d F) 60 (by omega), nm_e ⟨pk_in _ 10 e3, pk_in _ 10 e3, nm_e (hp _ ⟨hc, gm_fr_push hf h0 hd hv, hg, hh, hs⟩)⟩⟩⟩
theorem gm_wdrop {post : St1 → Prop} (h : gm_M z P b pa D F G H C u) (h0 : 0 < F.1) {c : Nat} (hd : c ≤ gm_d F) (hp : ∀ u', gm_M z P b pa D (gm_drop F c) G H C u' → post u') {x : Int32} (hx : x = nI c := by rfl) : wpX_dropValues post u x := by
  obtain ⟨xpr, xlv, xfc, xou, xyu, xrm, xmk, xsc, xmd, xrs, xrn, xpc, xwc, a1, a2, a3, a4, a5, a6, a7, a8, a9, a10, a11, a12, a13, a14, a15, a16, a17, a18, a19, a20, a21, a22⟩ := u
  obtain ⟨hc, hf, hg, hh, hs⟩ := h
  obtain ⟨e1, e2, e3, e4, e5, _⟩ := gm_fr_x hf h0
  have e6 : (nI (gm_d F) - nI c).toInt8.toInt32 = nI (gm_d F - c) := by rw [pk_sub hd, gm_b8 _ (by omega)]
  unfold wpX_dropValues wpX_top
  dsimp only
  rw [hx, e2, e4, e1, e6]
  exact ⟨pk_in _ 10 e3, pk_in _ 10 e3, nm_e (hp _ ⟨hc, gm_fr_drop hf h0, hg, hh, hs⟩)⟩
theorem gm_winc {Q : (Nat → Int32) → Prop} {x : Int32} {a11 a12 a13 a14 a15 a16 : Nat → Int32} (hf : gm_fr pa D F x a11 a12 a13 a14 a15 a16) (h0 : 0 < F.1) (hp : Q (upd a11 (F.1 - 1) (gm_cur F + 1))) : vp_in (x - 1) 10 ∧ (vp_in (x - 1) 10 ∧ ∀ a, a = upd a11 (x - 1).toNatClampNeg (a11 (x - 1).toNatClampNeg + 1) → Q a) := by
  obtain ⟨e1, e2, e3, _, _, e6⟩ := gm_fr_x hf h0
  rw [e2, e6, e1]
  exact ⟨pk_in _ 10 e3, pk_in _ 10 e3, nm_e hp⟩
theorem gm_Mdue {xpr xlv xfc xou xyu xrm xmk xsc xmd xrs xrn xpc xwc : Int32} {a1 a2 a3 a4 a5 a6 a7 a8 a9 a10 a11 a12 a13 a14 a15 a16 a17 a18 a19 a20 a21 a22 : Nat → Int32} (h : gm_M z P b pa D F G H C (xpr, xlv, xfc, xou, xyu, xrm, xmk, xsc, xmd, xrs, xrn, xpc, xwc, a1, a2, a3, a4, a5, a6, a7, a8, a9, a10, a11, a12, a13, a14, a15, a16, a17, a18, a19, a20, a21, a22)) {i : Int32} : gm_M z P b pa D (gm_sdue F i) G H C (xpr, xlv, xfc, xou, xyu, xrm, xmk, xsc, xmd, xrs, xrn, xpc, xwc, a1, a2, a3, a4, a5, a6, a7, a8, a9, a10, upd a11 (F.1 - 1) i, a12, a13, a14, a15, a16, a17, a18, a19, a20, a21, a22) := by
  obtain ⟨hc, hf, hg, hh, hs⟩ := h
  exact ⟨hc, gm_fr_due hf, hg, hh, hs⟩
theorem gm_wopen {post : St1 → Prop} (h : gm_M z P b pa D F G H C u) (h9 : F.1 < 10) (hd5 : 0 < F.1 → gm_d F ≤ 5) {x : Int32} (hp : ∀ u', gm_M z P b pa D (gm_enter F x) G H C u' → post u') : wpX_openFrame post u x := by
  obtain ⟨xpr, xlv, xfc, xou, xyu, xrm, xmk, xsc, xmd, xrs, xrn, xpc, xwc, a1, a2, a3, a4, a5, a6, a7, a8, a9, a10, a11, a12, a13, a14, a15, a16, a17, a18, a19, a20, a21, a22⟩ := u
  obtain ⟨hc, hf, hg, hh, hs⟩ := h
  have e1 : xfc = nI F.1 := hf.1
  subst e1
  unfold wpX_openFrame
  dsimp only
  rw [nI_clamp (show F.1 < 2 ^ 31 by omega), gm_m4]
  refine ⟨pk_in F.1 10 h9, nm_e ⟨pk_in F.1 10 h9, nm_e (nm_e ?_)⟩⟩
  refine pk_loop (fun n i (s : (Nat → Int32) × (Nat → Int32)) => wX_openFrame_27 post xpr xlv (nI F.1) xou xyu xrm xmk xsc xmd xrs xrn xpc xwc n (nI i) a1 a2 a3 a4 a5 a6 a7 a8 a9 a10 (upd a11 F.1 x) s.1 s.2 (upd a14 F.1 0) a15 a16 a17 a18 a19 a20 a21 a22)
    (fun i s => 4 * F.1 ≤ i ∧ (∀ l, l < 4 * F.1 → s.1 l = a12 l ∧ s.2 l = a13 l) ∧ ∀ l, 4 * F.1 ≤ l → l < i → s.1 l = 0 ∧ s.2 l = 0) (4 * F.1 + 4) (4 * F.1) (a12, a13) (by omega) ⟨Nat.le_refl _, fun l _ => ⟨rfl, rfl⟩, fun l h1 h2 => absurd h2 (by omega)⟩ ?_ ?_
  · intro n s hI
    exact pk_le (4 * F.1 + 4) (4 * F.1 + 4) (fun _ => nm_e (hp _ ⟨hc, gm_fr_enter hf h9 hd5 hI.2.1 hI.2.2, hg, hh, hs⟩)) (fun z => absurd z (by omega)) (gm_i4 (d := 4))
  · intro n i s hi hI hw
    refine pk_le (4 * F.1 + 4) i (fun z => absurd z (by omega)) (fun _ => ⟨pk_in i 40 (by omega), nm_e ⟨pk_in i 40 (by omega), nm_e (nm_r (nI_1 i) (hw (_, _) ?_))⟩⟩) (gm_i4 (d := 4))
    rw [nI_clamp (show i < 2 ^ 31 by omega)]
    obtain ⟨hi4, hI1, hI2⟩ := hI
    refine ⟨by omega, fun l hl => ?_, fun l h1 h2 => ?_⟩
    · show upd s.1 i 0 l = _ ∧ upd s.2 i 0 l = _
      rw [pk_un (by omega), pk_un (by omega)]
      exact hI1 l hl
    · show upd s.1 i 0 l = _ ∧ upd s.2 i 0 l = _
      by_cases e : l = i
      · rw [e, pk_us, pk_us]
        exact ⟨rfl, rfl⟩
      · rw [pk_un e, pk_un e]
        exact hI2 l h1 (by omega)
theorem gm_wslo {post : St1 → Prop} (h : gm_M z P b pa D F G H C u) (h0 : 0 < F.1) {l : Nat} (hl : l < 4) {v : gm_V} {s n : Int32} (hv : gm_sh pa D v s n) (hp : ∀ u', gm_M z P b pa D (gm_slo F l v) G H C u' → post u') {x : Int32} (hx : x = nI l := by rfl) : wpX_setLocal post u x s n := by
  obtain ⟨xpr, xlv, xfc, xou, xyu, xrm, xmk, xsc, xmd, xrs, xrn, xpc, xwc, a1, a2, a3, a4, a5, a6, a7, a8, a9, a10, a11, a12, a13, a14, a15, a16, a17, a18, a19, a20, a21, a22⟩ := u
  obtain ⟨hc, hf, hg, hh, hs⟩ := h
  obtain ⟨e1, e2, e3, e4, e5, _⟩ := gm_fr_x hf h0
  unfold wpX_setLocal wpX_top
  dsimp only
  rw [hx, e1, gm_i4, gm_sh_8 hv]
  refine nm_e ⟨pk_in (4 * (F.1 - 1) + l) 40 (by omega), ?_⟩
  rw [nI_clamp (by omega)]
  exact nm_e ⟨pk_in (4 * (F.1 - 1) + l) 40 (by omega), nm_e (hp _ ⟨hc, gm_fr_slo hf hv, hg, hh, hs⟩)⟩
theorem gm_wprint {post : St1 → Prop} (h : gm_M z P 0 pa D F G H C u) {x : Int32} (hp : ∀ u', gm_M z P 1 pa D F G H (gm_print C x) u' → post u') : wpX_print post u x := by
  obtain ⟨xpr, xlv, xfc, xou, xyu, xrm, xmk, xsc, xmd, xrs, xrn, xpc, xwc, a1, a2, a3, a4, a5, a6, a7, a8, a9, a10, a11, a12, a13, a14, a15, a16, a17, a18, a19, a20, a21, a22⟩ := u
  obtain ⟨hc, hf, hg, hh, s1, s2, s3, s4, s5, s6, s7, s8⟩ := h
  have hb : C.2.2.2.2.1 ≤ 300 := by omega
  unfold wpX_print
  dsimp only
  rw [s6]
  refine pk_le 20 C.2.2.2.2.1 (fun q => nm_r (nI_1 _) (hp _ ⟨hc, hf, hg, hh, s1, s2, s3, s4, s5, rfl, by show C.2.2.2.2.1 + 1 ≤ C.1 + 1; omega, ?_⟩)) (fun q => ⟨pk_in _ 20 q, nm_e (nm_r (nI_1 _) (hp _ ⟨hc, hf, hg, hh, s1, s2, s3, s4, s5, rfl, by show C.2.2.2.2.1 + 1 ≤ C.1 + 1; omega, ?_⟩))⟩)
  · show a22 = if C.2.2.2.2.1 < 20 then _ else C.2.2.2.2.2
    rw [if_neg (by omega)]
    exact s8
  · show upd a22 _ x = if C.2.2.2.2.1 < 20 then upd C.2.2.2.2.2 C.2.2.2.2.1 x else _
    rw [if_pos q, nI_clamp (by omega), s8]
theorem gm_wtk {post : Int32 → Prop} {o : Int32} (hp : post (nI (gm_tk o))) : wpX_takenBy post u o := by
  obtain ⟨xpr, xlv, xfc, xou, xyu, xrm, xmk, xsc, xmd, xrs, xrn, xpc, xwc, a1, a2, a3, a4, a5, a6, a7, a8, a9, a10, a11, a12, a13, a14, a15, a16, a17, a18, a19, a20, a21, a22⟩ := u
  unfold gm_tk gm_tk18 at hp
  unfold wpX_takenBy wX_takenBy_18
  dsimp only
  repeat' (first | exact hp | (refine ⟨fun c => ?_, fun c => ?_⟩ <;> first | rw [if_pos c] at hp | rw [if_neg c] at hp))
theorem gm_wpt {post : Int32 → Prop} {o : Int32} (hp : post (nI (gm_pt o))) : wpX_putBy post u o := by
  obtain ⟨xpr, xlv, xfc, xou, xyu, xrm, xmk, xsc, xmd, xrs, xrn, xpc, xwc, a1, a2, a3, a4, a5, a6, a7, a8, a9, a10, a11, a12, a13, a14, a15, a16, a17, a18, a19, a20, a21, a22⟩ := u
  unfold gm_pt gm_pt43 at hp
  unfold wpX_putBy wX_putBy_43
  dsimp only
  repeat' (first | exact hp | (refine ⟨fun c => ?_, fun c => ?_⟩ <;> first | rw [if_pos c] at hp | rw [if_neg c] at hp))
end
end
section
section
variable {z : Prop} {P : gm_P} {b : Nat} {pa : Nat → Nat} {D : Nat → Prop} {F : gm_F} {G : Nat → gm_V} {H : gm_H} {C : gm_C} {u : St1}
theorem gm_gl_up {a9 a10 : Nat → Int32} (h : gm_gl pa D G a9 a10) {g : Nat} {v : gm_V} {s n : Int32} (hv : gm_sh pa D v s n) : gm_gl pa D (gm_up G g v) (upd a9 g s) (upd a10 g n) := by
  intro j hj
  by_cases e : j = g
  · rw [e, gm_up_s, pk_us, pk_us]
    exact hv
  · rw [gm_up_n e, pk_un e, pk_un e]
    exact h j hj
theorem gm_take31 {post : St1 → Prop} {xpr xlv xfc xou xyu xrm xmk xsc xmd xrs xrn xpc xwc : Int32} {a1 a2 a3 a4 a5 a6 a7 a8 a9 a10 a11 a12 a13 a14 a15 a16 a17 a18 a19 a20 a21 a22 : Nat → Int32} (h : gm_M z P b pa D F G H C (xpr, xlv, xfc, xou, xyu, xrm, xmk, xsc, xmd, xrs, xrn, xpc, xwc, a1, a2, a3, a4, a5, a6, a7, a8, a9, a10, a11, a12, a13, a14, a15, a16, a17, a18, a19, a20, a21, a22)) {o n : Int32} {v : gm_V} {s m : Int32} (hv : gm_sh pa D v s m) (hn : o = 22 → ∃ k, k < 4 ∧ n = nI k) (hp : ∀ u', gm_M z P b pa D F (if o = 22 then gm_up G n.toNatClampNeg v else G) H C u' → post u') : wX_take_31 post o n s m xpr xlv xfc xou xyu xrm xmk xsc xmd xrs xrn xpc xwc a1 a2 a3 a4 a5 a6 a7 a8 a9 a10 a11 a12 a13 a14 a15 a16 a17 a18 a19 a20 a21 a22 := by
  obtain ⟨hc, hf, hg, hh, hs⟩ := h
  unfold wX_take_31
  refine br_c (fun e => ?_) (fun e => ?_)
  · obtain ⟨k, hk, rfl⟩ := hn e
    rw [if_pos e] at hp
    rw [nI_clamp (by omega)] at hp ⊢
    rw [gm_sh_8 hv]
    exact ⟨pk_in k 4 hk, nm_e ⟨pk_in k 4 hk, nm_e (hp _ ⟨hc, hf, gm_gl_up hg hv, hh, hs⟩)⟩⟩
  · rw [if_neg e] at hp
    exact hp _ ⟨hc, hf, hg, hh, hs⟩
theorem gm_d_pos (hd : 0 < gm_d F) : gm_d (gm_drop F 1) = gm_d F - 1 := gm_up_s
theorem gm_d_drop {c : Nat} : gm_d (gm_drop F c) = gm_d F - c := gm_up_s
theorem gm_d_push {v : gm_V} : gm_d (gm_push F v) = gm_d F + 1 := gm_up_s
theorem gm_wtake {post : St1 → Prop} (h : gm_M z P b pa D F G H C u) (h0 : 0 < F.1) (hd : 1 ≤ gm_d F) {o n : Int32} (hn : o = 4 ∨ o = 22 → ∃ k, k < 4 ∧ n = nI k) (hp : ∀ u', gm_M z P b pa D (gm_take o n F G).1 (gm_take o n F G).2 H C u' → post u') : wpX_take post u o n := by
  obtain ⟨xpr, xlv, xfc, xou, xyu, xrm, xmk, xsc, xmd, xrs, xrn, xpc, xwc, a1, a2, a3, a4, a5, a6, a7, a8, a9, a10, a11, a12, a13, a14, a15, a16, a17, a18, a19, a20, a21, a22⟩ := u
  unfold gm_take at hp
  unfold wpX_take
  dsimp only
  refine gm_wsort h h0 hd ?_
  refine gm_wnum h h0 hd (fun m hm => ?_)
  refine gm_wdrop h h0 hd (fun u' h' => ?_)
  obtain ⟨xpr', xlv', xfc', xou', xyu', xrm', xmk', xsc', xmd', xrs', xrn', xpc', xwc', a1', a2', a3', a4', a5', a6', a7', a8', a9', a10', a11', a12', a13', a14', a15', a16', a17', a18', a19', a20', a21', a22'⟩ := u'
  refine br_c (fun e => ?_) (fun e => ?_)
  · obtain ⟨k, hk, rfl⟩ := hn (Or.inl e)
    refine gm_wslo h' h0 hk hm (fun u2 h2 => ?_)
    obtain ⟨xpr'', xlv'', xfc'', xou'', xyu'', xrm'', xmk'', xsc'', xmd'', xrs'', xrn'', xpc'', xwc'', a1'', a2'', a3'', a4'', a5'', a6'', a7'', a8'', a9'', a10'', a11'', a12'', a13'', a14'', a15'', a16'', a17'', a18'', a19'', a20'', a21'', a22''⟩ := u2
    refine gm_take31 h2 hm (fun e2 => hn (Or.inr e2)) (fun u3 h3 => hp u3 ?_)
    dsimp only
    rw [if_pos e, nI_clamp (by omega)]
    rw [nI_clamp (by omega)] at h3
    exact h3
  · refine gm_take31 h' hm (fun e2 => hn (Or.inr e2)) (fun u3 h3 => hp u3 ?_)
    dsimp only
    rw [if_neg e]
    exact h3
theorem gm_wagain {post : St1 → Prop} (h : gm_M z P b pa D F G H C u) (h0 : 0 < F.1) (hd : 1 ≤ gm_d F) (hd6 : gm_d F < 6) (hp : ∀ u', gm_M z P b pa D (gm_push F (gm_at F 0)) G H C u' → post u') : wpX_pushAgain post u := by
  obtain ⟨xpr, xlv, xfc, xou, xyu, xrm, xmk, xsc, xmd, xrs, xrn, xpc, xwc, a1, a2, a3, a4, a5, a6, a7, a8, a9, a10, a11, a12, a13, a14, a15, a16, a17, a18, a19, a20, a21, a22⟩ := u
  obtain ⟨e1, e2, e3, e4, e5, _⟩ := gm_fr_x h.2.1 h0
  have hv := gm_fr_at h.2.1 h0 hd
  unfold wpX_pushAgain wpX_fromTop wpX_top
  dsimp only
  rw [e2, e4, e1, ← nI_0, gm_ft hd, nI_clamp (by omega)]
  exact ⟨pk_in _ 10 e3, pk_in (6 * (F.1 - 1) + gm_d F - 1 - 0) 60 (by omega), pk_in (6 * (F.1 - 1) + gm_d F - 1 - 0) 60 (by omega), gm_wpush h h0 hd6 hv hp⟩
theorem gm_wlocal {post : St1 → Prop} (h : gm_M z P b pa D F G H C u) (h0 : 0 < F.1) (hd6 : gm_d F < 6) {l : Nat} (hl : l < 4) (hp : ∀ u', gm_M z P b pa D (gm_push F (gm_lo F l)) G H C u' → post u') {x : Int32} (hx : x = nI l := by rfl) : wpX_pushLocal post u x := by
  obtain ⟨xpr, xlv, xfc, xou, xyu, xrm, xmk, xsc, xmd, xrs, xrn, xpc, xwc, a1, a2, a3, a4, a5, a6, a7, a8, a9, a10, a11, a12, a13, a14, a15, a16, a17, a18, a19, a20, a21, a22⟩ := u
  obtain ⟨e1, e2, e3, e4, e5, _⟩ := gm_fr_x h.2.1 h0
  have hv := gm_fr_lo h.2.1 h0 hl
  unfold wpX_pushLocal wpX_top
  dsimp only
  rw [hx, e1, gm_i4]
  refine nm_e ⟨pk_in (4 * (F.1 - 1) + l) 40 (by omega), pk_in (4 * (F.1 - 1) + l) 40 (by omega), ?_⟩
  rw [nI_clamp (by omega)]
  exact gm_wpush h h0 hd6 hv hp
theorem gm_wswap {post : St1 → Prop} (h : gm_M z P b pa D F G H C u) (h0 : 0 < F.1) (hd : 2 ≤ gm_d F) (hp : ∀ u', gm_M z P b pa D (gm_put (gm_put F 0 (gm_at F 1)) 1 (gm_at F 0)) G H C u' → post u') : wpX_swap post u := by
  obtain ⟨xpr, xlv, xfc, xou, xyu, xrm, xmk, xsc, xmd, xrs, xrn, xpc, xwc, a1, a2, a3, a4, a5, a6, a7, a8, a9, a10, a11, a12, a13, a14, a15, a16, a17, a18, a19, a20, a21, a22⟩ := u
  obtain ⟨hc, hf, hg, hh, hs⟩ := h
  obtain ⟨e1, e2, e3, e4, e5, _⟩ := gm_fr_x hf h0
  have hv := gm_fr_at hf h0 (show 0 < gm_d F by omega)
  have hw := gm_fr_at hf h0 (show 1 < gm_d F by omega)
  have f1 : 6 * nI (F.1 - 1) + nI (gm_d F) - 1 - 0 = nI (6 * (F.1 - 1) + gm_d F - 1 - 0) := gm_ft (k := 0) (by omega)
  have f2 : 6 * nI (F.1 - 1) + nI (gm_d F) - 1 - 1 = nI (6 * (F.1 - 1) + gm_d F - 1 - 1) := gm_ft (k := 1) (by omega)
  unfold wpX_swap wpX_fromTop wpX_top
  dsimp only
  rw [e2, e4, e1, f1, f2, nI_clamp (show 6 * (F.1 - 1) + gm_d F - 1 - 0 < 2 ^ 31 by omega), nI_clamp (show 6 * (F.1 - 1) + gm_d F - 1 - 1 < 2 ^ 31 by omega), vp_nar_byte, gm_sh_8 hw]
  refine ⟨pk_in _ 10 e3, pk_in _ 10 e3, pk_in (6 * (F.1 - 1) + gm_d F - 1 - 0) 60 (by omega), nm_e ⟨pk_in (6 * (F.1 - 1) + gm_d F - 1 - 0) 60 (by omega), nm_e ⟨pk_in (6 * (F.1 - 1) + gm_d F - 1 - 1) 60 (by omega), pk_in (6 * (F.1 - 1) + gm_d F - 1 - 0) 60 (by omega), nm_e ⟨pk_in (6 * (F.1 - 1) + gm_d F - 1 - 1) 60 (by omega), pk_in (6 * (F.1 - 1) + gm_d F - 1 - 0) 60 (by omega), nm_e ⟨pk_in (6 * (F.1 - 1) + gm_d F - 1 - 1) 60 (by omega), nm_e ⟨pk_in (6 * (F.1 - 1) + gm_d F - 1 - 1) 60 (by omega), nm_e ?_⟩⟩⟩⟩⟩⟩
  rw [vp_nar_byte, gm_sh_8 hv]
  exact hp _ ⟨hc, gm_fr_put (c := 1) (gm_fr_put (c := 0) hf hw) hv, hg, hh, hs⟩
theorem gm_wcompare {post : St1 → Prop} (h : gm_M z P b pa D F G H C u) (h0 : 0 < F.1) (hd : 2 ≤ gm_d F) (hp : ∀ u', gm_M z P b pa D (gm_push (gm_drop F 2) (gm_bit (decide (gm_at F 0 = gm_at F 1)))) G H C u' → post u') : wpX_compare post u := by
  obtain ⟨xpr, xlv, xfc, xou, xyu, xrm, xmk, xsc, xmd, xrs, xrn, xpc, xwc, a1, a2, a3, a4, a5, a6, a7, a8, a9, a10, a11, a12, a13, a14, a15, a16, a17, a18, a19, a20, a21, a22⟩ := u
  have lt := gm_hp_lt h.2.2.2.1
  have inj := gm_hp_inj h.2.2.2.1
  have k31 : ∀ q : Int32, q = (if decide (gm_at F 0 = gm_at F 1) = true then 1 else 0) → wX_compare_31 post q xpr xlv xfc xou xyu xrm xmk xsc xmd xrs xrn xpc xwc a1 a2 a3 a4 a5 a6 a7 a8 a9 a10 a11 a12 a13 a14 a15 a16 a17 a18 a19 a20 a21 a22 := by
    intro q hq
    unfold wX_compare_31
    refine gm_wdrop h h0 hd (fun u' h' => ?_)
    obtain ⟨xpr', xlv', xfc', xou', xyu', xrm', xmk', xsc', xmd', xrs', xrn', xpc', xwc', a1', a2', a3', a4', a5', a6', a7', a8', a9', a10', a11', a12', a13', a14', a15', a16', a17', a18', a19', a20', a21', a22'⟩ := u'
    have hd' : gm_d (gm_drop F 2) < 6 := by rw [gm_d_drop]; have := (gm_fr_x h.2.1 h0).2.2.2.2.1; omega
    refine br_c (fun e => ?_) (fun e => ?_)
    · have : decide (gm_at F 0 = gm_at F 1) = false := by
        cases hq' : decide (gm_at F 0 = gm_at F 1)
        · rfl
        · rw [hq', if_pos rfl] at hq
          exact absurd (hq.symm.trans e) (by decide)
      rw [this] at hp
      exact gm_wpush h' h0 hd' (gm_sh_1 0) hp
    · have : decide (gm_at F 0 = gm_at F 1) = true := by
        cases hq' : decide (gm_at F 0 = gm_at F 1)
        · rw [hq'] at hq
          exact absurd hq e
        · rfl
      rw [this] at hp
      exact gm_wpush h' h0 hd' (gm_sh_1 1) hp
  unfold wpX_compare
  dsimp only
  refine gm_wsort h h0 (k := 0) (by omega) ?_
  refine gm_wsort h h0 (k := 1) (by omega) ?_
  refine br_c (fun e => ?_) (fun e => ?_)
  · refine gm_wnum h h0 (k := 0) (by omega) (fun m hm => ?_)
    refine gm_wnum h h0 (k := 1) (by omega) (fun m' hm' => ?_)
    refine br_c (fun e2 => ?_) (fun e2 => ?_)
    · refine k31 1 ?_
      rw [decide_eq_true ((gm_sh_eq inj lt hm hm').mpr ⟨e, e2⟩), if_pos rfl]
    · refine k31 0 ?_
      rw [decide_eq_false (fun q => e2 ((gm_sh_eq inj lt hm hm').mp q).2), if_neg (by decide)]
  · refine k31 0 ?_
    rw [decide_eq_false (fun q => e (congrArg (fun v : gm_V => v.1) q)), if_neg (by decide)]
theorem gm_asc_ok {ab : Nat → Int32} (hab : ∀ c, c < 4 → ab c = -1 ∨ ∃ d, d < c ∧ ab c = nI d) {n k : Nat} (hk : k < 4) {Q : Nat → Int32 → Prop} (hx : ∀ f c, c ≤ nI k → c = gm_asc ab (nI k) 5 (nI n) → Q (f + 1) c) (hs : ∀ f c, c < 4 → k < c → Q f (ab c) → Q (f + 1) (nI c)) (hn : n < 4) : ∃ f, Q f (nI n) := by
  have key : ∀ m c g, c < 4 → c < m → c < g → gm_asc ab (nI k) g (nI c) = gm_asc ab (nI k) 5 (nI n) → Q (m + 1) (nI c) := by
    intro m
    induction m with
    | zero => intro c g _ h; omega
    | succ m ih =>
      intro c g hc hm hg e
      obtain ⟨g', rfl⟩ : ∃ g', g = g' + 1 := ⟨g - 1, by omega⟩
      have e' : (if nI c ≤ nI k then nI c else gm_asc ab (nI k) g' (ab (nI c).toNatClampNeg)) = gm_asc ab (nI k) 5 (nI n) := e
      by_cases hck : c ≤ k
      · rw [if_pos (nI_le hck (by omega))] at e'
        exact hx _ _ (nI_le hck (by omega)) e'
      · rw [if_neg (nI_ge (by omega) (by omega)), nI_clamp (by omega)] at e'
        refine hs _ c hc (by omega) ?_
        rcases hab c hc with h | ⟨d, hd, h⟩
        · rw [h] at e' ⊢
          have e2 : gm_asc ab (nI k) g' (-1) = -1 := by
            cases g' with
            | zero => rfl
            | succ g' =>
              show (if (-1 : Int32) ≤ nI k then (-1 : Int32) else _) = -1
              rw [if_pos (Int32.le_trans (by decide) (nI_pos' (n := k) (by omega)))]
          rw [e2] at e'
          exact hx _ _ (Int32.le_trans (by decide) (nI_pos' (n := k) (by omega))) e'
        · rw [h] at e' ⊢
          exact ih d g' (by omega) (by omega) (by omega) e'
  exact ⟨5, key 4 n 5 hn (by omega) (by omega) rfl⟩
theorem gm_wask {post : St1 → Prop} (h : gm_M z P b pa D F G H C u) (h0 : 0 < F.1) (hd : 1 ≤ gm_d F) {k : Nat} (hk : k < 4) (hp : ∀ u', gm_M z P b pa D (gm_push (gm_drop F 1) (gm_bit (decide ((gm_at F 0).1 = 2 ∧ gm_asc P.2.2.1 (nI k) 5 (H.2.1 (gm_at F 0).2.2) = nI k)))) G H C u' → post u') : wpX_ask post u (nI k) := by
  obtain ⟨xpr, xlv, xfc, xou, xyu, xrm, xmk, xsc, xmd, xrs, xrn, xpc, xwc, a1, a2, a3, a4, a5, a6, a7, a8, a9, a10, a11, a12, a13, a14, a15, a16, a17, a18, a19, a20, a21, a22⟩ := u
  have hab := h.1.1.2.1
  have ha3 := h.1.2.2.1
  have k48 : ∀ (q : Int32) (t : Bool), t = decide ((gm_at F 0).1 = 2 ∧ gm_asc P.2.2.1 (nI k) 5 (H.2.1 (gm_at F 0).2.2) = nI k) → q = (if t = true then 1 else 0) → wX_ask_48 post q xpr xlv xfc xou xyu xrm xmk xsc xmd xrs xrn xpc xwc a1 a2 a3 a4 a5 a6 a7 a8 a9 a10 a11 a12 a13 a14 a15 a16 a17 a18 a19 a20 a21 a22 := by
    intro q t ht hq
    rw [← ht] at hp
    unfold wX_ask_48
    refine gm_wdrop h h0 hd (fun u' h' => ?_)
    obtain ⟨xpr', xlv', xfc', xou', xyu', xrm', xmk', xsc', xmd', xrs', xrn', xpc', xwc', a1', a2', a3', a4', a5', a6', a7', a8', a9', a10', a11', a12', a13', a14', a15', a16', a17', a18', a19', a20', a21', a22'⟩ := u'
    have hd' : gm_d (gm_drop F 1) < 6 := by rw [gm_d_drop]; have := (gm_fr_x h.2.1 h0).2.2.2.2.1; omega
    refine br_c (fun e => ?_) (fun e => ?_)
    · have : t = false := by
        cases t
        · rfl
        · rw [if_pos rfl] at hq
          exact absurd (hq.symm.trans e) (by decide)
      rw [this] at hp
      exact gm_wpush h' h0 hd' (gm_sh_1 0) hp
    · have : t = true := by
        cases t
        · exact absurd hq e
        · rfl
      rw [this] at hp
      exact gm_wpush h' h0 hd' (gm_sh_1 1) hp
  unfold wpX_ask
  dsimp only
  refine gm_wsort h h0 hd ?_
  refine br_c (fun e => ?_) (fun e => ?_)
  · refine gm_wnum h h0 hd (fun m hm => ?_)
    obtain ⟨e1, e2, e3⟩ := gm_sh_o hm e
    obtain ⟨c1, c, c2, c3⟩ := gm_hp_c h.2.2.2.1 e2
    have lt := gm_hp_lt h.2.2.2.1 _ e2
    rw [e1, nI_clamp (by omega), c1, c3]
    refine ⟨pk_in _ 32 lt, nm_e ?_⟩
    rw [c3] at k48
    refine gm_asc_ok hab hk (Q := fun f c => wX_ask_22 post (nI k) xpr xlv xfc xou xyu xrm xmk xsc xmd xrs xrn xpc xwc a1 a2 a3 a4 a5 a6 a7 a8 a9 a10 a11 a12 a13 a14 a15 a16 a17 a18 a19 a20 a21 a22 f c) (fun f c' h1 h2 => ?_) (fun f c' h1 h2 h3 => ?_) c2
    · refine br_t h1 (br_c (fun e4 => ?_) (fun e4 => ?_))
      · refine k48 1 true ?_ rfl
        rw [decide_eq_true ⟨e, h2.symm.trans e4⟩]
      · refine k48 0 false ?_ rfl
        rw [decide_eq_false (fun q => e4 (h2.trans q.2))]
    · refine br_f (nI_ge h2 (by omega)) ⟨pk_in c' 4 h1, nm_e ?_⟩
      rw [nI_clamp (by omega), ha3 c' h1]
      exact h3
  · refine k48 0 false ?_ rfl
    rw [decide_eq_false (fun q => e q.1)]
end
end
section
section
variable {z : Prop} {P : gm_P} {b : Nat} {pa : Nat → Nat} {D : Nat → Prop} {F : gm_F} {G : Nat → gm_V} {H : gm_H} {C : gm_C} {u : St1}
theorem gm_wmove {post : St1 → Prop} (h : gm_M z P b pa D F G H C u) (h0 : 0 < F.1) {o n : Int32} (hfit : gm_fit o n) (ht : gm_tk o ≤ gm_d F) (hq : gm_d F - gm_tk o + gm_pt o ≤ 6) (hp : ∀ u', gm_M z P b pa D (gm_move P.2.2.1 o n F G H).1 (gm_move P.2.2.1 o n F G H).2 H C u' → post u') : wpX_moveValues post u o n := by
  obtain ⟨xpr, xlv, xfc, xou, xyu, xrm, xmk, xsc, xmd, xrs, xrn, xpc, xwc, a1, a2, a3, a4, a5, a6, a7, a8, a9, a10, a11, a12, a13, a14, a15, a16, a17, a18, a19, a20, a21, a22⟩ := u
  unfold gm_move at hp
  unfold wpX_moveValues
  dsimp only
  refine br_c (fun e => ?_) (fun e => ?_)
  · subst e
    exact gm_wpush h h0 (Nat.lt_of_succ_le hq) (gm_sh_1 n) (fun u' h' => hp u' h')
  rw [if_neg e] at hp
  refine br_c (fun e => ?_) (fun e => ?_)
  · subst e
    exact gm_wpush h h0 (Nat.lt_of_succ_le hq) gm_sh_0 (fun u' h' => hp u' h')
  rw [if_neg e] at hp
  refine br_c (fun e => ?_) (fun e => ?_)
  · subst e
    obtain ⟨k, hk, rfl⟩ := hfit.2.1 (Or.inl rfl)
    rw [nI_clamp (by omega)] at hp
    exact gm_wlocal h h0 (Nat.lt_of_succ_le hq) hk (fun u' h' => hp u' h')
  rw [if_neg e] at hp
  refine br_c (fun e => ?_) (fun e => ?_)
  · subst e
    obtain ⟨k, hk, rfl⟩ := hfit.2.1 (by decide)
    rw [nI_clamp (by omega)] at hp ⊢
    exact ⟨pk_in k 4 hk, pk_in k 4 hk, gm_wpush h h0 (Nat.lt_of_succ_le hq) (h.2.2.1 k hk) (fun u' h' => hp u' h')⟩
  rw [if_neg e] at hp
  refine br_c (fun e => ?_) (fun e => ?_)
  · subst e
    have t1 : gm_tk 6 = 1 := by decide
    have t2 : gm_pt 6 = 2 := by decide
    rw [t1, t2] at hq
    rw [t1] at ht
    exact gm_wagain h h0 ht (by omega) (fun u' h' => hp u' h')
  rw [if_neg e] at hp
  refine br_c (fun e => ?_) (fun e => ?_)
  · subst e
    have t1 : gm_tk 7 = 2 := by decide
    rw [t1] at ht
    exact gm_wswap h h0 ht (fun u' h' => hp u' h')
  rw [if_neg e] at hp
  refine br_c (fun e => ?_) (fun e => ?_)
  · subst e
    have t1 : gm_tk 12 = 2 := by decide
    rw [t1] at ht
    exact gm_wcompare h h0 ht (fun u' h' => hp u' h')
  rw [if_neg e] at hp
  refine br_c (fun e => ?_) (fun e => ?_)
  · subst e
    have t1 : gm_tk 18 = 1 := by decide
    rw [t1] at ht
    obtain ⟨k, hk, rfl⟩ := hfit.2.1 (by decide)
    exact gm_wask h h0 ht hk (fun u' h' => hp u' h')
  rw [if_neg e] at hp
  have go : (o = 4 ∨ o = 22 ∨ o = 5) → wX_moveValues_135 post o n xpr xlv xfc xou xyu xrm xmk xsc xmd xrs xrn xpc xwc a1 a2 a3 a4 a5 a6 a7 a8 a9 a10 a11 a12 a13 a14 a15 a16 a17 a18 a19 a20 a21 a22 := by
    intro e
    rw [if_pos e] at hp
    have t1 : gm_tk o = 1 := by
      rcases e with rfl | rfl | rfl
      · decide
      · decide
      · decide
    rw [t1] at ht
    refine gm_wtake h h0 ht (fun e2 => hfit.2.1 ?_) (fun u' h' => hp u' h')
    rcases e2 with rfl | rfl
    · decide
    · decide
  refine br_c (fun e => go (Or.inl e)) (fun e => ?_)
  refine br_c (fun e => go (Or.inr (Or.inl e))) (fun e' => ?_)
  refine br_c (fun e => go (Or.inr (Or.inr e))) (fun e'' => ?_)
  rw [if_neg (by rintro (q | q | q) <;> contradiction)] at hp
  exact hp _ h
theorem gm_wget {post : Int32 → St1 → Prop} (h : gm_M z P b pa D F G H C u) (h0 : 0 < F.1) (hd : 1 ≤ gm_d F) {k : Nat} (hk : k < 3) (hy : (gm_at F 0).1 = 2 → ∀ u', gm_M z P b pa D (gm_sdue (gm_push (gm_drop F 1) (H.2.2 (gm_at F 0).2.2 k)) (gm_cur F + 1)) G H C u' → post (-1) u') (hn : ¬ (gm_at F 0).1 = 2 → post 4 u) : wpX_touchField post u 16 (nI k) := by
  obtain ⟨xpr, xlv, xfc, xou, xyu, xrm, xmk, xsc, xmd, xrs, xrn, xpc, xwc, a1, a2, a3, a4, a5, a6, a7, a8, a9, a10, a11, a12, a13, a14, a15, a16, a17, a18, a19, a20, a21, a22⟩ := u
  unfold wpX_touchField wX_touchField_11
  dsimp only
  refine br_f (by decide) ?_
  refine gm_wsort h h0 (k := 0) hd ?_
  refine br_c (fun e => ?_) (fun e => hn e)
  refine gm_wnum h h0 (k := 0) hd (fun m hm => ?_)
  obtain ⟨e1, e2, e3⟩ := gm_sh_o hm e
  have lt := gm_hp_lt h.2.2.2.1 _ e2
  have h6 := (gm_fr_x h.2.1 h0).2.2.2.2.1
  rw [e1, gm_i3]
  refine nm_e (br_t rfl ?_)
  refine gm_wdrop h h0 hd (fun u' h' => ?_)
  obtain ⟨xpr', xlv', xfc', xou', xyu', xrm', xmk', xsc', xmd', xrs', xrn', xpc', xwc', a1', a2', a3', a4', a5', a6', a7', a8', a9', a10', a11', a12', a13', a14', a15', a16', a17', a18', a19', a20', a21', a22'⟩ := u'
  have hfl := gm_hp_f h'.2.2.2.1 e2 hk
  refine ⟨pk_in (3 * pa (gm_at F 0).2.2 + k) 96 (by omega), pk_in (3 * pa (gm_at F 0).2.2 + k) 96 (by omega), ?_⟩
  rw [nI_clamp (by omega)]
  refine gm_wpush h' h0 (by rw [gm_d_drop]; omega) hfl (fun u2 h2 => ?_)
  obtain ⟨xpr'', xlv'', xfc'', xou'', xyu'', xrm'', xmk'', xsc'', xmd'', xrs'', xrn'', xpc'', xwc'', a1'', a2'', a3'', a4'', a5'', a6'', a7'', a8'', a9'', a10'', a11'', a12'', a13'', a14'', a15'', a16'', a17'', a18'', a19'', a20'', a21'', a22''⟩ := u2
  exact gm_winc h2.2.1 h0 (hy e _ (gm_Mdue h2))
theorem gm_hp_put {xo xy rm rm' : Int32} {a17 a18 a19 : Nat → Int32} (h : gm_hp pa D H xo xy rm a17 a18 a19) {i k : Nat} (hi : D i) (hk : k < 3) {v : gm_V} {s n : Int32} (hv : gm_sh pa D v s n) (h1 : pa i < 24 → v.1 = 2 → 24 ≤ pa v.2.2 → gm_bt rm' (pa i) = true) (h2 : ∀ p, p < 32 → gm_bt rm p = true → gm_bt rm' p = true) : gm_hp pa D (gm_sfl H i k v) xo xy rm' a17 (upd a18 (3 * pa i + k) s) (upd a19 (3 * pa i + k) n) := by
  have lt := gm_hp_lt h
  obtain ⟨o, y, q1, q2, q3, q4, q5, q6, qs, q7⟩ := h
  refine ⟨o, y, q1, q2, q3, q4, fun j hj => ?_, q6, qs, fun j l hj hj2 hl => ?_⟩
  · obtain ⟨p1, p2, p3, p4, p5⟩ := q5 j hj
    refine ⟨p1, p2, p3, p4, fun l hl => ?_⟩
    show gm_sh pa D (gm_up H.2.2 i (gm_up (H.2.2 i) k v) j l) _ _
    by_cases e : j = i
    · rw [e, gm_up_s]
      by_cases e2 : l = k
      · rw [e2, gm_up_s, pk_us, pk_us]
        exact hv
      · rw [gm_up_n e2, pk_un (by omega), pk_un (by omega), ← e]
        exact p5 l hl
    · have ne : pa j ≠ pa i := fun q => e (q6 j i hj hi q)
      rw [gm_up_n e, pk_un (by omega), pk_un (by omega)]
      exact p5 l hl
  · show (gm_up H.2.2 i (gm_up (H.2.2 i) k v) j l).1 = 2 → 24 ≤ pa (gm_up H.2.2 i (gm_up (H.2.2 i) k v) j l).2.2 → _
    by_cases e : j = i
    · rw [e, gm_up_s]
      rw [e] at hj2
      by_cases e2 : l = k
      · rw [e2, gm_up_s]
        exact h1 hj2
      · rw [gm_up_n e2]
        exact fun w1 w2 => h2 _ (by omega) (q7 i l hi hj2 hl w1 w2)
    · rw [gm_up_n e]
      exact fun w1 w2 => h2 _ (by omega) (q7 j l hj hj2 hl w1 w2)
theorem gm_wput {post : Int32 → St1 → Prop} (h : gm_M z P b pa D F G H C u) (h0 : 0 < F.1) (hd : 2 ≤ gm_d F) {k : Nat} (hk : k < 3) (hy : (gm_at F 1).1 = 2 → ∀ u', gm_M z P b pa D (gm_sdue (gm_drop F 2) (gm_cur F + 1)) G (gm_sfl H (gm_at F 1).2.2 k (gm_at F 0)) C u' → post (-1) u') (hn : ¬ (gm_at F 1).1 = 2 → post 4 u) : wpX_touchField post u 17 (nI k) := by
  obtain ⟨xpr, xlv, xfc, xou, xyu, xrm, xmk, xsc, xmd, xrs, xrn, xpc, xwc, a1, a2, a3, a4, a5, a6, a7, a8, a9, a10, a11, a12, a13, a14, a15, a16, a17, a18, a19, a20, a21, a22⟩ := u
  unfold wpX_touchField wX_touchField_11
  dsimp only
  refine br_t rfl ?_
  refine gm_wsort h h0 (k := 1) hd ?_
  refine br_c (fun e => ?_) (fun e => hn e)
  refine gm_wnum h h0 (k := 1) hd (fun m hm => ?_)
  obtain ⟨e1, e2, e3⟩ := gm_sh_o hm e
  have lt := gm_hp_lt h.2.2.2.1 _ e2
  have hd1 : 0 < gm_d F := by omega
  rw [e1, gm_i3]
  refine nm_e (br_f (by decide) ?_)
  refine gm_wsort h h0 (k := 0) hd1 ?_
  refine ⟨pk_in (3 * pa (gm_at F 1).2.2 + k) 96 (by omega), nm_e ?_⟩
  obtain ⟨hc, hf, hg, hh, hs⟩ := h
  have cl : (nI (3 * pa (gm_at F 1).2.2 + k)).toNatClampNeg = 3 * pa (gm_at F 1).2.2 + k := nI_clamp (by omega)
  rw [cl]
  refine gm_wnumF (F := F) (pa := pa) (D := D) (u := (xpr, xlv, xfc, xou, xyu, xrm, xmk, xsc, xmd, xrs, xrn, xpc, xwc, a1, a2, a3, a4, a5, a6, a7, a8, a9, a10, a11, a12, a13, a14, a15, a16, a17, upd a18 (3 * pa (gm_at F 1).2.2 + k) (gm_at F 0).1.toInt8.toInt32, a19, a20, a21, a22)) hf h0 (k := 0) hd1 (fun n hv => ?_)
  rw [gm_sh_8 hv]
  refine ⟨pk_in (3 * pa (gm_at F 1).2.2 + k) 96 (by omega), nm_e ?_⟩
  have k138 : ∀ rm', (pa (gm_at F 1).2.2 < 24 → (gm_at F 0).1 = 2 → 24 ≤ pa (gm_at F 0).2.2 → gm_bt rm' (pa (gm_at F 1).2.2) = true) → (∀ p, p < 32 → gm_bt xrm p = true → gm_bt rm' p = true) → wX_touchField_138 post xpr xlv xfc xou xyu rm' xmk xsc xmd xrs xrn xpc xwc a1 a2 a3 a4 a5 a6 a7 a8 a9 a10 a11 a12 a13 a14 a15 a16 a17 (upd a18 (3 * pa (gm_at F 1).2.2 + k) (gm_at F 0).1) (upd a19 (3 * pa (gm_at F 1).2.2 + k) n) a20 a21 a22 := by
    intro rm' r1 r2
    unfold wX_touchField_138
    have h2 : gm_M z P b pa D F G (gm_sfl H (gm_at F 1).2.2 k (gm_at F 0)) C (xpr, xlv, xfc, xou, xyu, rm', xmk, xsc, xmd, xrs, xrn, xpc, xwc, a1, a2, a3, a4, a5, a6, a7, a8, a9, a10, a11, a12, a13, a14, a15, a16, a17, upd a18 (3 * pa (gm_at F 1).2.2 + k) (gm_at F 0).1, upd a19 (3 * pa (gm_at F 1).2.2 + k) n, a20, a21, a22) := ⟨hc, hf, hg, gm_hp_put hh e2 hk hv r1 r2, hs⟩
    refine gm_wdrop h2 h0 hd (fun u' h' => ?_)
    obtain ⟨xpr', xlv', xfc', xou', xyu', xrm', xmk', xsc', xmd', xrs', xrn', xpc', xwc', a1', a2', a3', a4', a5', a6', a7', a8', a9', a10', a11', a12', a13', a14', a15', a16', a17', a18', a19', a20', a21', a22'⟩ := u'
    exact gm_winc h'.2.1 h0 (hy e _ (gm_Mdue h'))
  refine pk_le 24 (pa (gm_at F 1).2.2) (fun q => ?_) (fun q => ?_)
  · exact k138 xrm (fun w => absurd w (by omega)) (fun _ _ w => w)
  refine ⟨pk_in (3 * pa (gm_at F 1).2.2 + k) 96 (by omega), ?_⟩
  rw [pk_us, pk_us]
  refine br_c (fun w => ⟨pk_in (3 * pa (gm_at F 1).2.2 + k) 96 (by omega), ?_⟩) (fun w => k138 xrm (fun _ w2 => absurd w2 w) (fun _ _ w => w))
  obtain ⟨g1, g2, g3⟩ := gm_sh_o hv w
  have lt2 := gm_hp_lt hh _ g2
  refine pk_lt (pa (gm_at F 0).2.2) 24 (fun q2 => k138 xrm (fun _ _ w3 => absurd w3 (by omega)) (fun _ _ w => w)) (fun q2 => ?_) g1
  refine nm_e (k138 _ (fun _ _ _ => gm_set_s xrm (by omega)) (fun p hp hb => gm_set_k xrm (by omega) hp hb))
theorem gm_rs_8 {ab st : Nat → Int32} (hab : ∀ c, c < 4 → ab c = -1 ∨ ∃ d, d < c ∧ ab c = nI d) (hst : ∀ m, m < 16 → (st m).toInt8.toInt32 = st m) (n : Nat) : ∀ c s, c < 4 → s < 4 → (gm_rs ab st n c s).toInt8.toInt32 = gm_rs ab st n c s := by
  induction n with
  | zero => intro c s hc hs; exact hst _ (by omega)
  | succ n ih =>
    intro c s hc hs
    show (if st (4 * c + s) < 0 ∧ 0 ≤ ab c then gm_rs ab st n (ab c).toNatClampNeg s else st (4 * c + s)).toInt8.toInt32 = (if st (4 * c + s) < 0 ∧ 0 ≤ ab c then gm_rs ab st n (ab c).toNatClampNeg s else st (4 * c + s))
    by_cases e : st (4 * c + s) < 0 ∧ 0 ≤ ab c
    · rw [if_pos e]
      rcases hab c hc with q | ⟨d, hd, q⟩
      · rw [q] at e
        exact absurd e.2 (by decide)
      · rw [q, nI_clamp (by omega)]
        exact ih d s (by omega) hs
    · rw [if_neg e]
      exact hst _ (by omega)
theorem gm_rd_up {a5 a6 a7 a8 : Nat → Int32} (h : gm_rd P a5 a6 a7 a8) {i c k : Nat} (hc : c < 4) (hi : P.2.1 i = nI k) (hk : k < 4) : gm_rd P a5 a6 (upd a7 i (nI c)) (upd a8 i (gm_rs P.2.2.1 P.2.2.2 4 c k)) := by
  obtain ⟨h1, h2, h3, h4⟩ := h
  refine ⟨h1, h2, h3, fun j c' hj hc' ho ha => ?_⟩
  by_cases e : j = i
  · rw [e, pk_us] at ha
    have e2 : c = c' := (nI_eq (by omega) (by omega)).mp ha
    rw [e, pk_us, hi, nI_clamp (by omega), e2]
  · rw [pk_un e] at ha ⊢
    exact h4 j c' hj hc' ho ha
theorem gm_M1 (h : gm_M z P b pa D F G H C u) (hb : b ≤ 1) : gm_M z P 1 pa D F G H C u := by
  obtain ⟨xpr, xlv, xfc, xou, xyu, xrm, xmk, xsc, xmd, xrs, xrn, xpc, xwc, a1, a2, a3, a4, a5, a6, a7, a8, a9, a10, a11, a12, a13, a14, a15, a16, a17, a18, a19, a20, a21, a22⟩ := u
  obtain ⟨hc, hf, hg, hh, s1, s2, s3, s4, s5, s6, s7, s8⟩ := h
  exact ⟨hc, hf, hg, hh, s1, s2, s3, s4, s5, s6, by omega, s8⟩
theorem gm_wcall {post : Int32 → St1 → Prop} (h : gm_M True P 1 pa D F G H C u) (h0 : 0 < F.1) (hd : 2 ≤ gm_d F) {i k : Nat} (hi : i < 60) (ho : P.1 i = 19) (hn : P.2.1 i = nI k) (hk : k < 4)
    (hp : gm_K P post (gm_one P (nI i) 19 (nI k) F G H C)) : wpX_call post u (nI i) (nI k) := by
  obtain ⟨xpr, xlv, xfc, xou, xyu, xrm, xmk, xsc, xmd, xrs, xrn, xpc, xwc, a1, a2, a3, a4, a5, a6, a7, a8, a9, a10, a11, a12, a13, a14, a15, a16, a17, a18, a19, a20, a21, a22⟩ := u
  unfold gm_one at hp
  rw [if_neg (by decide), if_neg (by decide), if_neg (by decide), if_pos rfl] at hp
  unfold wpX_call
  dsimp only
  refine gm_wsort h h0 (k := 1) hd ?_
  refine br_c (fun e => ?_) (fun e => ?_)
  rotate_left
  · rw [if_neg e] at hp
    exact hp pa D _ h
  rw [if_pos e, nI_clamp (show k < 2 ^ 31 by omega)] at hp
  have hd1 : 0 < gm_d F := by omega
  refine gm_wnum h h0 (k := 1) hd (fun m hm => ?_)
  refine gm_wsort h h0 (k := 0) hd1 ?_
  refine gm_wnum h h0 (k := 0) hd1 (fun m0 hm0 => ?_)
  obtain ⟨e1, e2, e3⟩ := gm_sh_o hm e
  have lt := gm_hp_lt h.2.2.2.1 _ e2
  obtain ⟨c1, c, c2, c3⟩ := gm_hp_c h.2.2.2.1 e2
  rw [c3, nI_clamp (show c < 2 ^ 31 by omega)] at hp
  have hm1 : gm_sh pa D (gm_at F 1) 2 (nI (pa (gm_at F 1).2.2)) := by
    rw [← e1, ← e]
    exact hm
  rw [e1, nI_clamp (show pa (gm_at F 1).2.2 < 2 ^ 31 by omega), nI_clamp (show i < 2 ^ 31 by omega), c1, c3]
  have k97 : ∀ {a7' a8' : Nat → Int32}, gm_M True P 1 pa D F G H C (xpr, xlv, xfc, xou, xyu, xrm, xmk, xsc, xmd, xrs, xrn, xpc, xwc, a1, a2, a3, a4, a5, a6, a7', a8', a9, a10, a11, a12, a13, a14, a15, a16, a17, a18, a19, a20, a21, a22) → wX_call_97 post (nI (pa (gm_at F 1).2.2)) (gm_at F 0).1 m0 (gm_rs P.2.2.1 P.2.2.2 4 c k) xpr xlv xfc xou xyu xrm xmk xsc xmd xrs xrn xpc xwc a1 a2 a3 a4 a5 a6 a7' a8' a9 a10 a11 a12 a13 a14 a15 a16 a17 a18 a19 a20 a21 a22 := by
    intro a7' a8' hM
    unfold wX_call_97
    refine br_c (fun q => ?_) (fun q => ?_)
    rotate_left
    · rw [if_neg q] at hp
      exact hp pa D _ hM
    rw [if_pos q] at hp
    have hfc : xfc = nI F.1 := hM.2.1.1
    have h6 := (gm_fr_x hM.2.1 h0).2.2.2.2.1
    have hf10 : F.1 ≤ 10 := hM.2.1.2.1
    refine pk_eq F.1 10 (fun q2 => ?_) (fun q2 => ?_) hfc
    · rw [if_pos q2] at hp
      exact hp pa D _ hM
    rw [if_neg q2] at hp
    refine gm_wdrop hM h0 hd (fun u' h' => ?_)
    obtain ⟨xpr', xlv', xfc', xou', xyu', xrm', xmk', xsc', xmd', xrs', xrn', xpc', xwc', a1', a2', a3', a4', a5', a6', a7', a8', a9', a10', a11', a12', a13', a14', a15', a16', a17', a18', a19', a20', a21', a22'⟩ := u'
    refine gm_winc h'.2.1 h0 ?_
    refine gm_wopen (gm_Mdue h') (show F.1 < 10 by omega) (fun _ => by show gm_d (gm_drop F 2) ≤ 5; rw [gm_d_drop]; omega) (fun u2 h2 => ?_)
    obtain ⟨xpr'', xlv'', xfc'', xou'', xyu'', xrm'', xmk'', xsc'', xmd'', xrs'', xrn'', xpc'', xwc'', a1'', a2'', a3'', a4'', a5'', a6'', a7'', a8'', a9'', a10'', a11'', a12'', a13'', a14'', a15'', a16'', a17'', a18'', a19'', a20'', a21'', a22''⟩ := u2
    refine gm_wslo h2 (Nat.succ_pos _) (l := 0) (by omega) hm1 (fun u3 h3 => ?_)
    obtain ⟨xpr''', xlv''', xfc''', xou''', xyu''', xrm''', xmk''', xsc''', xmd''', xrs''', xrn''', xpc''', xwc''', a1''', a2''', a3''', a4''', a5''', a6''', a7''', a8''', a9''', a10''', a11''', a12''', a13''', a14''', a15''', a16''', a17''', a18''', a19''', a20''', a21''', a22'''⟩ := u3
    refine gm_wslo h3 (Nat.succ_pos _) (l := 1) (by omega) hm0 (fun u4 h4 => ?_)
    exact hp pa D u4 h4
  have k66 : wX_call_66 post (nI i) (nI k) (nI (pa (gm_at F 1).2.2)) (gm_at F 0).1 m0 (nI c) xpr xlv xfc xou xyu xrm xmk xsc xmd xrs xrn xpc xwc a1 a2 a3 a4 a5 a6 a7 a8 a9 a10 a11 a12 a13 a14 a15 a16 a17 a18 a19 a20 a21 a22 := by
    unfold wX_call_66
    rw [gm_i4, nI_clamp (show 4 * c + k < 2 ^ 31 by omega), nI_clamp (show i < 2 ^ 31 by omega), gm_b8 c (by omega)]
    obtain ⟨⟨d1, d2, d3, d4, d5, d6⟩, hf, hg, hh, hs⟩ := h
    have d7 := d6 (d5 trivial)
    have e5 := d7.1 c k c2 hk
    rw [e5]
    exact ⟨pk_in (4 * c + k) 16 (by omega), nm_e ⟨pk_in i 60 hi, nm_e ⟨pk_in i 60 hi, nm_r (by rw [gm_rs_8 d1.2.1 d1.2.2 4 c k c2 hk]) (k97 ⟨⟨d1, d2, d3, d4, d5, fun _ => gm_rd_up d7 c2 hn hk⟩, hf, hg, hh, hs⟩)⟩⟩⟩
  refine ⟨pk_in _ 32 lt, nm_e ⟨pk_in i 60 hi, nm_e (br_c (fun _ => k66) (fun _ => ⟨pk_in i 60 hi, br_c (fun q => ?_) (fun _ => k66)⟩))⟩⟩
  have d7 := h.1.2.2.2.2.2 (h.1.2.2.2.2.1 trivial)
  have e8 := d7.2.2.2 i c hi c2 ho q
  rw [e8, hn, nI_clamp (by omega)]
  exact k97 h
theorem gm_wleave {post : Int32 → St1 → Prop} (h : gm_M z P b pa D F G H C u) (h0 : 0 < F.1) (hd : 1 ≤ gm_d F)
    (h1 : F.1 = 1 → ∀ u', gm_M z P b pa D (gm_exit F) G H (gm_give C (gm_at F 0).1 (gm_shown H (gm_at F 0))) u' → post 0 u') (h2 : ¬ F.1 = 1 → ∀ u', gm_M z P b pa D (gm_push (gm_exit F) (gm_at F 0)) G H C u' → post (-1) u') : wpX_leave post u := by
  obtain ⟨xpr, xlv, xfc, xou, xyu, xrm, xmk, xsc, xmd, xrs, xrn, xpc, xwc, a1, a2, a3, a4, a5, a6, a7, a8, a9, a10, a11, a12, a13, a14, a15, a16, a17, a18, a19, a20, a21, a22⟩ := u
  unfold wpX_leave
  dsimp only
  refine gm_wsort h h0 (k := 0) hd ?_
  refine gm_wnum h h0 (k := 0) hd (fun m hm => ?_)
  obtain ⟨hc, hf, hg, hh, hs⟩ := h
  obtain ⟨e1, e2, e3, e4, e5, _⟩ := gm_fr_x hf h0
  have hf' := gm_fr_exit hf h0
  rw [e1] at hf' ⊢
  refine nm_e (pk_le (F.1 - 1) 0 (fun q => ?_) (fun q => ?_))
  · have e1 : F.1 = 1 := by omega
    obtain ⟨s1, s2, s3, s4, s5, s6, s7, s8⟩ := hs
    refine br_c (fun e => ?_) (fun e => ?_)
    · obtain ⟨g1, g2, g3⟩ := gm_sh_o hm e
      have lt := gm_hp_lt hh _ g2
      rw [g1, nI_clamp (by omega)]
      refine ⟨pk_in _ 32 lt, nm_e (h1 e1 _ ⟨hc, hf', hg, hh, s1, s2, s3, rfl, ?_, s6, s7, s8⟩)⟩
      show a17 _ = gm_shown H (gm_at F 0)
      unfold gm_shown
      rw [if_pos e]
      exact (gm_hp_c hh g2).1
    · refine h1 e1 _ ⟨hc, hf', hg, hh, s1, s2, s3, rfl, ?_, s6, s7, s8⟩
      show m = gm_shown H (gm_at F 0)
      unfold gm_shown
      rw [if_neg e]
      exact gm_sh_n hm e
  · refine gm_wpush (z := z) (P := P) (b := b) (F := gm_exit F) (G := G) (H := H) (C := C) ⟨hc, hf', hg, hh, hs⟩ (show 0 < F.1 - 1 by omega) (by have := hf.2.2.2.2.2 (F.1 - 1 - 1) (by omega); show F.2.2.1 (F.1 - 1 - 1) < 6; omega) hm (fun u' h' => h2 (by omega) u' h')
theorem gm_wcomb {post : Int32 → St1 → Prop} (h : gm_M z P b pa D F G H C u) (h0 : 0 < F.1) (hd : 2 ≤ gm_d F) {o : Int32}
    (hy : (gm_at F 0).1 = 1 ∧ (gm_at F 1).1 = 1 → ∀ u', gm_M z P b pa D (gm_sdue (gm_push (gm_drop F 2) (1, gm_comb o F, 0)) (gm_cur F + 1)) G H C u' → post (-1) u') (hn : ¬ ((gm_at F 0).1 = 1 ∧ (gm_at F 1).1 = 1) → post 4 u) : wpX_combine post u o := by
  obtain ⟨xpr, xlv, xfc, xou, xyu, xrm, xmk, xsc, xmd, xrs, xrn, xpc, xwc, a1, a2, a3, a4, a5, a6, a7, a8, a9, a10, a11, a12, a13, a14, a15, a16, a17, a18, a19, a20, a21, a22⟩ := u
  have hd1 : 0 < gm_d F := by omega
  have h6 := (gm_fr_x h.2.1 h0).2.2.2.2.1
  unfold wpX_combine
  dsimp only
  refine gm_wsort h h0 (k := 0) hd1 ?_
  refine br_c (fun e0 => ?_) (fun e => hn (fun q => e q.1))
  refine gm_wsort h h0 (k := 1) hd ?_
  refine br_c (fun e1 => ?_) (fun e => hn (fun q => e q.2))
  refine gm_wnum h h0 (k := 1) hd (fun m1 hm1 => ?_)
  refine gm_wnum h h0 (k := 0) hd1 (fun m0 hm0 => ?_)
  rw [gm_sh_n1 hm0 e0, gm_sh_n1 hm1 e1]
  have k78 : ∀ q, q = gm_comb o F → wX_combine_78 post q xpr xlv xfc xou xyu xrm xmk xsc xmd xrs xrn xpc xwc a1 a2 a3 a4 a5 a6 a7 a8 a9 a10 a11 a12 a13 a14 a15 a16 a17 a18 a19 a20 a21 a22 := by
    intro q hq
    subst hq
    unfold wX_combine_78
    refine gm_wdrop h h0 hd (fun u' h' => ?_)
    obtain ⟨xpr', xlv', xfc', xou', xyu', xrm', xmk', xsc', xmd', xrs', xrn', xpc', xwc', a1', a2', a3', a4', a5', a6', a7', a8', a9', a10', a11', a12', a13', a14', a15', a16', a17', a18', a19', a20', a21', a22'⟩ := u'
    refine gm_wpush h' h0 (by rw [gm_d_drop]; omega) (gm_sh_1 _) (fun u2 h2 => ?_)
    obtain ⟨xpr'', xlv'', xfc'', xou'', xyu'', xrm'', xmk'', xsc'', xmd'', xrs'', xrn'', xpc'', xwc'', a1'', a2'', a3'', a4'', a5'', a6'', a7'', a8'', a9'', a10'', a11'', a12'', a13'', a14'', a15'', a16'', a17'', a18'', a19'', a20'', a21'', a22''⟩ := u2
    exact gm_winc h2.2.1 h0 (hy ⟨e0, e1⟩ _ (gm_Mdue h2))
  unfold gm_comb at k78
  refine br_c (fun q => k78 _ (by rw [if_pos q])) (fun q => br_c (fun q2 => k78 _ (by rw [if_neg q, if_pos q2])) (fun q2 => br_c (fun q3 => k78 _ (by rw [if_neg q, if_neg q2, if_pos q3])) (fun q3 => br_c (fun q4 => k78 _ (by rw [if_neg q, if_neg q2, if_neg q3, if_pos q4])) (fun q4 => k78 _ (by rw [if_neg q, if_neg q2, if_neg q3, if_neg q4])))))
end
end
section
/-! marking what is needed -/
def gm_mi (pa : Nat → Nat) (D : Nat → Prop) (F : gm_F) (G : Nat → gm_V) (H : gm_H) (ex : Nat → Prop) (m : Int32) (wc : Nat) (w : Nat → Int32) : Prop :=
  (∀ p, p < 32 → gm_bt m p = true → ∃ i, D i ∧ pa i = p ∧ gm_RA F G H i) ∧
  (∀ i, D i → ¬ ex i → gm_bt m (pa i) = true → (∃ j, j < wc ∧ w j = nI (pa i)) ∨ ∀ k, k < 3 → (H.2.2 i k).1 = 2 → gm_bt m (pa (H.2.2 i k).2.2) = true) ∧
  (∀ j, j < wc → ∃ i, D i ∧ w j = nI (pa i) ∧ gm_bt m (pa i) = true) ∧ wc ≤ gm_cn (gm_bt m) 32
def gm_mk (pa : Nat → Nat) (m : Int32) (v : gm_V) : Prop := v.1 = 2 → gm_bt m (pa v.2.2) = true
def gm_sub (m m' : Int32) : Prop := ∀ p, p < 32 → gm_bt m p = true → gm_bt m' p = true
def gm_mu (m : Int32) (wc : Nat) : Nat := 2 * (32 - gm_cn (gm_bt m) 32) + wc
def gm_fin (pa : Nat → Nat) (D : Nat → Prop) (F : gm_F) (G : Nat → gm_V) (H : gm_H) (m : Int32) : Prop :=
  (∀ p, p < 32 → gm_bt m p = true → ∃ i, D i ∧ pa i = p ∧ gm_RA F G H i) ∧ (∀ i, gm_RA F G H i → D i ∧ gm_bt m (pa i) = true)
section
variable {z : Prop} {P : gm_P} {b : Nat} {pa : Nat → Nat} {D : Nat → Prop} {F : gm_F} {G : Nat → gm_V} {H : gm_H} {C : gm_C} {u : St1}
theorem gm_mi_add {ex : Nat → Prop} {m : Int32} {wc : Nat} {w : Nat → Int32} (lt : ∀ i, D i → pa i < 32) (hI : gm_mi pa D F G H ex m wc w) {i : Nat} (hi : D i) (hR : gm_RA F G H i) (hm : gm_bt m (pa i) = false) : gm_mi pa D F G H ex (m ||| ((1 : Int32) <<< (nI (pa i) &&& 31))) (wc + 1) (upd w wc (nI (pa i))) ∧ gm_mu (m ||| ((1 : Int32) <<< (nI (pa i) &&& 31))) (wc + 1) < gm_mu m wc := by
  obtain ⟨h1, h2, h3, h4⟩ := hI
  have li := lt i hi
  have cn : gm_cn (gm_bt (m ||| ((1 : Int32) <<< (nI (pa i) &&& 31)))) 32 = gm_cn (gm_bt m) 32 + 1 := gm_cn_set li hm (fun q hq => gm_set m li hq)
  have room := gm_cn_room li hm
  refine ⟨⟨fun p hp hb => ?_, fun j hj he hb => ?_, fun j hj => ?_, by omega⟩, ?_⟩
  · rw [gm_set m li hp] at hb
    by_cases e : p = pa i
    · exact ⟨i, hi, e.symm, hR⟩
    · rw [decide_eq_false e, Bool.or_false] at hb
      exact h1 p hp hb
  · rw [gm_set m li (lt j hj)] at hb
    by_cases e : pa j = pa i
    · exact Or.inl ⟨wc, by omega, by rw [pk_us, e]⟩
    · rw [decide_eq_false e, Bool.or_false] at hb
      rcases h2 j hj he hb with ⟨q, hq, e2⟩ | hq
      · exact Or.inl ⟨q, by omega, by rw [pk_un (by omega)]; exact e2⟩
      · refine Or.inr (fun k hk hs => ?_)
        have hb2 := hq k hk hs
        by_cases l : pa (H.2.2 j k).2.2 < 32
        · exact gm_set_k m li l hb2
        · rw [gm_b_big (by omega)] at hb2
          exact absurd hb2 (by decide)
  · by_cases e : j = wc
    · rw [e, pk_us]
      exact ⟨i, hi, rfl, gm_set_s m li⟩
    · rw [pk_un e]
      obtain ⟨q, q1, q2, q3⟩ := h3 j (by omega)
      exact ⟨q, q1, q2, gm_set_k m li (lt q q1) q3⟩
  · unfold gm_mu
    omega
theorem gm_mk_mono {m m' : Int32} {v : gm_V} (h : gm_mk pa m v) (hs : gm_sub m m') : gm_mk pa m' v := by
  intro e
  have hb := h e
  by_cases l : pa v.2.2 < 32
  · exact hs _ l hb
  · rw [gm_b_big (by omega)] at hb
    exact absurd hb (by decide)
theorem gm_wmark {post : St1 → Prop} {xpr xlv xfc xou xyu xrm xsc xmd xrs xrn xpc : Int32} {a1 a2 a3 a4 a5 a6 a7 a8 a9 a10 a11 a12 a13 a14 a15 a16 a17 a18 a19 a21 a22 : Nat → Int32} {m : Int32} {wc : Nat} {w : Nat → Int32} {ex : Nat → Prop} {v : gm_V} {s n : Int32} (lt : ∀ i, D i → pa i < 32) (hI : gm_mi pa D F G H ex m wc w) (hv : gm_sh pa D v s n) (hR : v.1 = 2 → gm_RA F G H v.2.2)
    (hp : ∀ m' wc' w', gm_mi pa D F G H ex m' wc' w' → gm_mk pa m' v → gm_sub m m' → gm_mu m' wc' ≤ gm_mu m wc → post (xpr, xlv, xfc, xou, xyu, xrm, m', xsc, xmd, xrs, xrn, xpc, nI wc', a1, a2, a3, a4, a5, a6, a7, a8, a9, a10, a11, a12, a13, a14, a15, a16, a17, a18, a19, w', a21, a22)) : wpX_mark post (xpr, xlv, xfc, xou, xyu, xrm, m, xsc, xmd, xrs, xrn, xpc, nI wc, a1, a2, a3, a4, a5, a6, a7, a8, a9, a10, a11, a12, a13, a14, a15, a16, a17, a18, a19, w, a21, a22) s n := by
  have hs := gm_sh_s hv
  unfold wpX_mark
  dsimp only
  refine br_c (fun e => ?_) (fun e => ?_)
  · have e2 : v.1 = 2 := hs ▸ e
    obtain ⟨g1, g2, g3⟩ := gm_sh_o hv e2
    have l := lt _ g2
    rw [g1]
    refine ek_if (gm_tst m l) (fun hb => ?_) (fun hb => ?_)
    · obtain ⟨k1, k2⟩ := gm_mi_add lt hI g2 (hR e2) hb
      have room := gm_cn_room l hb
      have h4 := hI.2.2.2
      refine nm_e ⟨pk_in wc 32 (by omega), nm_e (nm_r (nI_1 wc) ?_)⟩
      rw [nI_clamp (show wc < 2 ^ 31 by omega), gm_b8 _ (by omega)]
      exact hp _ _ _ k1 (fun _ => gm_set_s m l) (fun p hp hb => gm_set_k m l hp hb) (by omega)
    · have hb' : gm_bt m (pa v.2.2) = true := by
        cases e : gm_bt m (pa v.2.2)
        · exact absurd e hb
        · rfl
      exact hp m wc w hI (fun _ => hb') (fun _ _ hb => hb) (Nat.le_refl _)
  · exact hp m wc w hI (fun e2 => absurd (hs.trans e2) e) (fun _ _ hb => hb) (Nat.le_refl _)
def gm_rts (pa : Nat → Nat) (F : gm_F) (G : Nat → gm_V) (m : Int32) : Prop := ∀ v, gm_root F G v → gm_mk pa m v
theorem gm_w131 {post : St1 → Prop} {xpr xlv xfc xou xyu xrm xsc xmd xrs xrn xpc : Int32} {a1 a2 a3 a4 a5 a6 a7 a8 a9 a10 a11 a12 a13 a14 a15 a16 a17 a18 a19 a21 a22 : Nat → Int32} (hh : gm_hp pa D H xou xyu xrm a17 a18 a19) (hrt : ∀ v, gm_root F G v → v.1 = 2 → D v.2.2)
    (hp : ∀ m w, gm_fin pa D F G H m → post (xpr, xlv, xfc, xou, xyu, xrm, m, xsc, xmd, xrs, xrn, xpc, 0, a1, a2, a3, a4, a5, a6, a7, a8, a9, a10, a11, a12, a13, a14, a15, a16, a17, a18, a19, w, a21, a22)) {m : Int32} {wc : Nat} {w : Nat → Int32} (hI : gm_mi pa D F G H (fun _ => False) m wc w) (hr : gm_rts pa F G m) : ∃ n, wX_markNeeded_131 post n xpr xlv xfc xou xyu xrm m xsc xmd xrs xrn xpc (nI wc) a1 a2 a3 a4 a5 a6 a7 a8 a9 a10 a11 a12 a13 a14 a15 a16 a17 a18 a19 w a21 a22 := by
  have lt := gm_hp_lt hh
  have inj := gm_hp_inj hh
  refine loop_m (fun n (s : Int32 × Nat × (Nat → Int32)) => wX_markNeeded_131 post n xpr xlv xfc xou xyu xrm s.1 xsc xmd xrs xrn xpc (nI s.2.1) a1 a2 a3 a4 a5 a6 a7 a8 a9 a10 a11 a12 a13 a14 a15 a16 a17 a18 a19 s.2.2 a21 a22) (fun s => gm_mi pa D F G H (fun _ => False) s.1 s.2.1 s.2.2 ∧ gm_rts pa F G s.1) (fun s => gm_mu s.1 s.2.1) ?_ (m, wc, w) ⟨hI, hr⟩
  intro n s hs hw
  obtain ⟨m, wc, w⟩ := s
  obtain ⟨hI, hr⟩ := hs
  dsimp only at hI hr
  have hc32 := gm_cn_le (gm_bt m) 32
  have hwc : wc ≤ 32 := Nat.le_trans hI.2.2.2 hc32
  refine pk_le wc 0 (fun q => ?_) (fun q => ?_)
  · have q0 : wc = 0 := by omega
    subst q0
    refine hp m w ⟨hI.1, fun i hi => ?_⟩
    exact hi (fun i => D i ∧ gm_bt m (pa i) = true) (fun v h1 h2 => ⟨hrt v h1 h2, hr v h1 h2⟩) (fun j k hj hk h2 => by
      have hfl := gm_sh_o (gm_hp_f hh hj.1 hk) h2
      refine ⟨hfl.2.1, ?_⟩
      rcases hI.2.1 j hj.1 (fun q => q) hj.2 with ⟨q, hq, _⟩ | hq
      · exact absurd hq (Nat.not_lt_zero q)
      · exact hq k hk h2)
  · obtain ⟨i, hi, e1, e2⟩ := hI.2.2.1 (wc - 1) (by omega)
    have li := lt i hi
    refine nm_r (gm_s1 q) ⟨pk_in (wc - 1) 32 (by omega), ?_⟩
    rw [nI_clamp (show wc - 1 < 2 ^ 31 by omega)]
    refine nm_r e1 (nm_r gm_m3 ?_)
    refine pk_loop (fun n' k (s : Int32 × Nat × (Nat → Int32)) => wX_markNeeded_162 post (wX_markNeeded_131 post n) (nI (pa i)) n' (nI k) xpr xlv xfc xou xyu xrm s.1 xsc xmd xrs xrn xpc (nI s.2.1) a1 a2 a3 a4 a5 a6 a7 a8 a9 a10 a11 a12 a13 a14 a15 a16 a17 a18 a19 s.2.2 a21 a22)
      (fun k s => 3 * pa i ≤ k ∧ gm_mi pa D F G H (fun j => j = i) s.1 s.2.1 s.2.2 ∧ gm_rts pa F G s.1 ∧ gm_sub m s.1 ∧ (∀ l, l < 3 → 3 * pa i + l < k → gm_mk pa s.1 (H.2.2 i l)) ∧ gm_mu s.1 s.2.1 < gm_mu m wc) (3 * pa i + 3) (3 * pa i) (m, wc - 1, w) (by omega) ?_ ?_ ?_
    · refine ⟨Nat.le_refl _, ⟨hI.1, fun j hj hne hb => ?_, fun j hj => hI.2.2.1 j (by have hj' : j < wc - 1 := hj; omega), by have := hI.2.2.2; show wc - 1 ≤ gm_cn (gm_bt m) 32; omega⟩, hr, fun _ _ hb => hb, fun l _ hl => absurd hl (by omega), by show gm_mu m (wc - 1) < gm_mu m wc; unfold gm_mu; omega⟩
      rcases hI.2.1 j hj (fun q => q) hb with ⟨t, ht, e3⟩ | ht
      · refine Or.inl ⟨t, ?_, e3⟩
        by_cases et : t = wc - 1
        · rw [et, e1] at e3
          exact absurd (inj j i hj hi ((nI_eq (by omega) (by have := lt j hj; omega)).mp e3).symm) hne
        · show t < wc - 1
          omega
      · exact Or.inr ht
    · intro n' s hs
      obtain ⟨m', wc', w'⟩ := s
      obtain ⟨_, hI', hr', hsub, hfl, hmu⟩ := hs
      dsimp only at hI' hr' hsub hfl hmu
      refine pk_le (3 * pa i + 3) (3 * pa i + 3) (fun _ => hw (m', wc', w') ⟨⟨hI'.1, fun j hj _ hb => ?_, hI'.2.2.1, hI'.2.2.2⟩, hr'⟩ hmu) (fun q => absurd q (by omega)) gm_i33
      by_cases ej : j = i
      · refine Or.inr (fun k hk h2 => ?_)
        rw [ej] at h2 ⊢
        exact hfl k hk (by omega) h2
      · exact hI'.2.1 j hj ej hb
    · intro n' k s hk hs hw'
      obtain ⟨m', wc', w'⟩ := s
      obtain ⟨hk0, hI', hr', hsub, hfl, hmu⟩ := hs
      dsimp only at hI' hr' hsub hfl hmu
      refine pk_le (3 * pa i + 3) k (fun q => absurd q (by omega)) (fun _ => ⟨pk_in k 96 (by omega), pk_in k 96 (by omega), ?_⟩) gm_i33
      rw [nI_clamp (show k < 2 ^ 31 by omega)]
      obtain ⟨l, rfl⟩ : ∃ l, k = 3 * pa i + l := ⟨k - 3 * pa i, by omega⟩
      have hv := gm_hp_f hh hi (show l < 3 by omega)
      have hRi : gm_RA F G H i := by
        obtain ⟨j, j1, j2, j3⟩ := hI.1 (pa i) li e2
        rw [← inj j i j1 hi j2]
        exact j3
      refine gm_wmark lt hI' hv (fun h2 => gm_RA_step hRi (by omega) h2) (fun m2 wc2 w2 k1 k2 k3 k4 => ?_)
      refine nm_r (nI_1 _) (hw' (m2, wc2, w2) ⟨by omega, k1, fun v hv => gm_mk_mono (hr' v hv) k3, fun p hp hb => k3 p hp (hsub p hp hb), fun l' hl' hl2 => ?_, by have k4' : gm_mu m2 wc2 ≤ gm_mu m' wc' := k4; show gm_mu m2 wc2 < gm_mu m wc; omega⟩)
      by_cases el : l' = l
      · rw [el]
        exact k2
      · exact gm_mk_mono (hfl l' hl' (by omega)) k3
end
end
section
section
variable {z : Prop} {P : gm_P} {b : Nat} {pa : Nat → Nat} {D : Nat → Prop} {F : gm_F} {G : Nat → gm_V} {H : gm_H} {C : gm_C} {u : St1}
theorem gm_rt_D {xfc : Int32} {a9 a10 a11 a12 a13 a14 a15 a16 : Nat → Int32} (hf : gm_fr pa D F xfc a11 a12 a13 a14 a15 a16) (hg : gm_gl pa D G a9 a10) : ∀ v, gm_root F G v → v.1 = 2 → D v.2.2 := by
  intro v hv h2
  rcases hv with ⟨g, hg4, rfl⟩ | ⟨l, hl, rfl⟩ | ⟨f, k, h1, hk, rfl⟩
  · exact (gm_sh_o (hg g hg4) h2).2.1
  · exact (gm_sh_o (hf.2.2.2.1 l hl) h2).2.1
  · exact (gm_sh_o (hf.2.2.2.2.1 f k h1 hk) h2).2.1
theorem gm_wmarkN {post : St1 → Prop} {xpr xlv xfc xou xyu xrm xmk xsc xmd xrs xrn xpc xwc : Int32} {a1 a2 a3 a4 a5 a6 a7 a8 a9 a10 a11 a12 a13 a14 a15 a16 a17 a18 a19 a20 a21 a22 : Nat → Int32} (hf : gm_fr pa D F xfc a11 a12 a13 a14 a15 a16) (hg : gm_gl pa D G a9 a10) (hh : gm_hp pa D H xou xyu xrm a17 a18 a19)
    (hp : ∀ m w, gm_fin pa D F G H m → post (xpr, xlv, xfc, xou, xyu, xrm, m, xsc, xmd, xrs, xrn, xpc, 0, a1, a2, a3, a4, a5, a6, a7, a8, a9, a10, a11, a12, a13, a14, a15, a16, a17, a18, a19, w, a21, a22)) : wpX_markNeeded post (xpr, xlv, xfc, xou, xyu, xrm, xmk, xsc, xmd, xrs, xrn, xpc, xwc, a1, a2, a3, a4, a5, a6, a7, a8, a9, a10, a11, a12, a13, a14, a15, a16, a17, a18, a19, a20, a21, a22) := by
  have lt := gm_hp_lt hh
  have hrt := gm_rt_D hf hg
  have e1 : xfc = nI F.1 := hf.1
  have hf10 := hf.2.1
  subst e1
  have k75 : ∀ (m : Int32) (wc : Nat) (w : Nat → Int32), gm_mi pa D F G H (fun _ => False) m wc w → (∀ g, g < 4 → gm_mk pa m (G g)) → (∀ l, l < 4 * F.1 → gm_mk pa m (F.2.2.2.1 l)) → ∃ n, wX_markNeeded_75 post n 0 xpr xlv (nI F.1) xou xyu xrm m xsc xmd xrs xrn xpc (nI wc) a1 a2 a3 a4 a5 a6 a7 a8 a9 a10 a11 a12 a13 a14 a15 a16 a17 a18 a19 w a21 a22 := by
    intro m wc w hI h1 h2
    refine pk_loop (fun n f (s : Int32 × Nat × (Nat → Int32)) => wX_markNeeded_75 post n (nI f) xpr xlv (nI F.1) xou xyu xrm s.1 xsc xmd xrs xrn xpc (nI s.2.1) a1 a2 a3 a4 a5 a6 a7 a8 a9 a10 a11 a12 a13 a14 a15 a16 a17 a18 a19 s.2.2 a21 a22)
      (fun f s => gm_mi pa D F G H (fun _ => False) s.1 s.2.1 s.2.2 ∧ (∀ g, g < 4 → gm_mk pa s.1 (G g)) ∧ (∀ l, l < 4 * F.1 → gm_mk pa s.1 (F.2.2.2.1 l)) ∧ (∀ f' k, f' < f → k < F.2.2.1 f' → gm_mk pa s.1 (F.2.2.2.2 (6 * f' + k)))) F.1 0 (m, wc, w) (by omega) ⟨hI, h1, h2, fun f' k hf' => absurd hf' (Nat.not_lt_zero f')⟩ ?_ ?_
    · intro n s hs
      obtain ⟨m, wc, w⟩ := s
      obtain ⟨q1, q2, q3, q4⟩ := hs
      refine pk_le F.1 F.1 (fun _ => ?_) (fun q => absurd q (by omega))
      refine gm_w131 hh hrt hp q1 (fun v hv => ?_)
      rcases hv with ⟨g, hg4, rfl⟩ | ⟨l, hl, rfl⟩ | ⟨f, k, h1, hk, rfl⟩
      · exact q2 g hg4
      · exact q3 l hl
      · exact q4 f k h1 hk
    · intro n f s hfl hs hw
      obtain ⟨m, wc, w⟩ := s
      obtain ⟨q1, q2, q3, q4⟩ := hs
      dsimp only at q1 q2 q3 q4
      obtain ⟨d1, d2, d3⟩ := hf.2.2.1 f hfl
      refine pk_le F.1 f (fun q => absurd q (by omega)) (fun _ => nm_r gm_m6 ?_)
      refine pk_loop (fun n' k (s : Int32 × Nat × (Nat → Int32)) => wX_markNeeded_88 post (wX_markNeeded_75 post n) (nI f) n' (nI k) xpr xlv (nI F.1) xou xyu xrm s.1 xsc xmd xrs xrn xpc (nI s.2.1) a1 a2 a3 a4 a5 a6 a7 a8 a9 a10 a11 a12 a13 a14 a15 a16 a17 a18 a19 s.2.2 a21 a22)
        (fun k s => 6 * f ≤ k ∧ gm_mi pa D F G H (fun _ => False) s.1 s.2.1 s.2.2 ∧ (∀ g, g < 4 → gm_mk pa s.1 (G g)) ∧ (∀ l, l < 4 * F.1 → gm_mk pa s.1 (F.2.2.2.1 l)) ∧ (∀ f' k, f' < f → k < F.2.2.1 f' → gm_mk pa s.1 (F.2.2.2.2 (6 * f' + k))) ∧ (∀ l, 6 * f + l < k → gm_mk pa s.1 (F.2.2.2.2 (6 * f + l)))) (6 * f + F.2.2.1 f) (6 * f) (m, wc, w) (by omega) ⟨Nat.le_refl _, q1, q2, q3, q4, fun l hl => absurd hl (by omega)⟩ ?_ ?_
      · intro n' s hs
        obtain ⟨m', wc', w'⟩ := s
        obtain ⟨_, p1, p2, p3, p4, p5⟩ := hs
        dsimp only at p1 p2 p3 p4 p5
        refine ⟨pk_in f 10 (by omega), ?_⟩
        refine pk_le (6 * f + F.2.2.1 f) (6 * f + F.2.2.1 f) (fun _ => nm_r (nI_1 f) (hw (m', wc', w') ⟨p1, p2, p3, fun f' k hf' hk => ?_⟩)) (fun q => absurd q (by omega)) (by rw [nI_clamp (by omega), d2, gm_i6])
        by_cases ef : f' = f
        · rw [ef] at hk ⊢
          exact p5 k (by omega)
        · exact p4 f' k (by omega) hk
      · intro n' k s hk hs hw'
        obtain ⟨m', wc', w'⟩ := s
        obtain ⟨p0, p1, p2, p3, p4, p5⟩ := hs
        dsimp only at p1 p2 p3 p4 p5
        refine ⟨pk_in f 10 (by omega), ?_⟩
        refine pk_le (6 * f + F.2.2.1 f) k (fun q => absurd q (by omega)) (fun _ => ⟨pk_in k 60 (by omega), pk_in k 60 (by omega), ?_⟩) (by rw [nI_clamp (by omega), d2, gm_i6])
        rw [nI_clamp (show k < 2 ^ 31 by omega)]
        obtain ⟨l, rfl⟩ : ∃ l, k = 6 * f + l := ⟨k - 6 * f, by omega⟩
        have hl : l < F.2.2.1 f := by omega
        refine gm_wmark lt p1 (hf.2.2.2.2.1 f l hfl hl) (fun h2 => gm_RA_root (Or.inr (Or.inr ⟨f, l, hfl, hl, rfl⟩)) h2) (fun m2 wc2 w2 k1 k2 k3 k4 => ?_)
        refine nm_r (nI_1 _) (hw' (m2, wc2, w2) ⟨by omega, k1, fun g hg => gm_mk_mono (p2 g hg) k3, fun l hl => gm_mk_mono (p3 l hl) k3, fun f' k hf' hk => gm_mk_mono (p4 f' k hf' hk) k3, fun l' hl' => ?_⟩)
        by_cases el : l' = l
        · rw [el]
          exact k2
        · exact gm_mk_mono (p5 l' (by omega)) k3
  have k41 : ∀ (m : Int32) (wc : Nat) (w : Nat → Int32), gm_mi pa D F G H (fun _ => False) m wc w → (∀ g, g < 4 → gm_mk pa m (G g)) → ∃ n, wX_markNeeded_41 post n 0 xpr xlv (nI F.1) xou xyu xrm m xsc xmd xrs xrn xpc (nI wc) a1 a2 a3 a4 a5 a6 a7 a8 a9 a10 a11 a12 a13 a14 a15 a16 a17 a18 a19 w a21 a22 := by
    intro m wc w hI h1
    refine pk_loop (fun n l (s : Int32 × Nat × (Nat → Int32)) => wX_markNeeded_41 post n (nI l) xpr xlv (nI F.1) xou xyu xrm s.1 xsc xmd xrs xrn xpc (nI s.2.1) a1 a2 a3 a4 a5 a6 a7 a8 a9 a10 a11 a12 a13 a14 a15 a16 a17 a18 a19 s.2.2 a21 a22)
      (fun i s => gm_mi pa D F G H (fun _ => False) s.1 s.2.1 s.2.2 ∧ (∀ g, g < 4 → gm_mk pa s.1 (G g)) ∧ (∀ l, l < i → gm_mk pa s.1 (F.2.2.2.1 l))) (4 * F.1) 0 (m, wc, w) (by omega) ⟨hI, h1, fun l hl => absurd hl (Nat.not_lt_zero l)⟩ ?_ ?_
    · intro n s hs
      obtain ⟨m, wc, w⟩ := s
      obtain ⟨q1, q2, q3⟩ := hs
      exact pk_le (4 * F.1) (4 * F.1) (fun _ => k75 m wc w q1 q2 q3) (fun q => absurd q (by omega)) gm_m4
    · intro n l s hl hs hw
      obtain ⟨m, wc, w⟩ := s
      obtain ⟨q1, q2, q3⟩ := hs
      dsimp only at q1 q2 q3
      refine pk_le (4 * F.1) l (fun q => absurd q (by omega)) (fun _ => ⟨pk_in l 40 (by omega), pk_in l 40 (by omega), ?_⟩) gm_m4
      rw [nI_clamp (show l < 2 ^ 31 by omega)]
      refine gm_wmark lt q1 (hf.2.2.2.1 l hl) (fun h2 => gm_RA_root (Or.inr (Or.inl ⟨l, hl, rfl⟩)) h2) (fun m2 wc2 w2 k1 k2 k3 k4 => ?_)
      refine nm_r (nI_1 _) (hw (m2, wc2, w2) ⟨k1, fun g hg => gm_mk_mono (q2 g hg) k3, fun l' hl' => ?_⟩)
      by_cases el : l' = l
      · rw [el]
        exact k2
      · exact gm_mk_mono (q3 l' (by omega)) k3
  unfold wpX_markNeeded
  dsimp only
  refine pk_loop (fun n g (s : Int32 × Nat × (Nat → Int32)) => wX_markNeeded_12 post n (nI g) xpr xlv (nI F.1) xou xyu xrm s.1 xsc xmd xrs xrn xpc (nI s.2.1) a1 a2 a3 a4 a5 a6 a7 a8 a9 a10 a11 a12 a13 a14 a15 a16 a17 a18 a19 s.2.2 a21 a22)
    (fun i s => gm_mi pa D F G H (fun _ => False) s.1 s.2.1 s.2.2 ∧ (∀ g, g < i → gm_mk pa s.1 (G g))) 4 0 (0, 0, a20) (by omega) ⟨⟨fun p _ hb => ?_, fun i _ _ hb => ?_, fun j hj => absurd hj (Nat.not_lt_zero j), Nat.zero_le _⟩, fun g hg => absurd hg (Nat.not_lt_zero g)⟩ ?_ ?_
  · rw [gm_b_0] at hb
    exact absurd hb (by decide)
  · rw [gm_b_0] at hb
    exact absurd hb (by decide)
  · intro n s hs
    obtain ⟨m, wc, w⟩ := s
    obtain ⟨q1, q2⟩ := hs
    exact pk_le 4 4 (fun _ => k41 m wc w q1 q2) (fun q => absurd q (by omega))
  · intro n g s hg4 hs hw
    obtain ⟨m, wc, w⟩ := s
    obtain ⟨q1, q2⟩ := hs
    dsimp only at q1 q2
    refine pk_le 4 g (fun q => absurd q (by omega)) (fun _ => ⟨pk_in g 4 hg4, pk_in g 4 hg4, ?_⟩)
    rw [nI_clamp (show g < 2 ^ 31 by omega)]
    refine gm_wmark lt q1 (hg g hg4) (fun h2 => gm_RA_root (Or.inl ⟨g, hg4, rfl⟩) h2) (fun m2 wc2 w2 k1 k2 k3 k4 => ?_)
    refine nm_r (nI_1 _) (hw (m2, wc2, w2) ⟨k1, fun g' hg' => ?_⟩)
    by_cases el : g' = g
    · rw [el]
      exact k2
    · exact gm_mk_mono (q2 g' (by omega)) k3
theorem gm_wcount {post : Int32 → Prop} {xpr xlv xfc xou xyu xrm xmk xsc xmd xrs xrn xpc xwc : Int32} {a1 a2 a3 a4 a5 a6 a7 a8 a9 a10 a11 a12 a13 a14 a15 a16 a17 a18 a19 a20 a21 a22 : Nat → Int32} (hp' : post (nI (gm_cn (gm_bt xmk) 32))) : wpX_countMarks post (xpr, xlv, xfc, xou, xyu, xrm, xmk, xsc, xmd, xrs, xrn, xpc, xwc, a1, a2, a3, a4, a5, a6, a7, a8, a9, a10, a11, a12, a13, a14, a15, a16, a17, a18, a19, a20, a21, a22) := by
  unfold wpX_countMarks
  dsimp only
  refine pk_loop (fun n i (_ : Unit) => wX_countMarks_4 post xpr xlv xfc xou xyu xrm xmk xsc xmd xrs xrn xpc xwc a1 a2 a3 a4 a5 a6 a7 a8 a9 a10 a11 a12 a13 a14 a15 a16 a17 a18 a19 a20 a21 a22 n (nI (gm_cn (gm_bt xmk) i)) (nI i)) (fun _ _ => True) 32 0 () (by omega) trivial ?_ ?_
  · intro n _ _
    exact pk_le 32 32 (fun _ => hp') (fun q => absurd q (by omega))
  · intro n i _ hi _ hw
    refine pk_le 32 i (fun q => absurd q (by omega)) (fun _ => ?_)
    rw [gm_tstv xmk hi]
    exact nm_r (nI_add _ _) (nm_r (nI_1 i) (hw () trivial))
theorem gm_fin_card {m : Int32} {xo xy rm : Int32} {a17 a18 a19 : Nat → Int32} (hh : gm_hp pa D H xo xy rm a17 a18 a19) (h : gm_fin pa D F G H m) : gm_card F G H (gm_cn (gm_bt m) 32) := by
  have lt := gm_hp_lt hh
  have inj := gm_hp_inj hh
  have key : ∀ n, n ≤ 32 → ∃ l : List Nat, l.Nodup ∧ (∀ i, i ∈ l ↔ gm_RA F G H i ∧ pa i < n) ∧ l.length = gm_cn (gm_bt m) n := by
    intro n
    induction n with
    | zero =>
      intro _
      exact ⟨[], List.nodup_nil, fun i => ⟨fun q => absurd q List.not_mem_nil, fun q => absurd q.2 (Nat.not_lt_zero _)⟩, rfl⟩
    | succ n ih =>
      intro hn
      obtain ⟨l, l1, l2, l3⟩ := ih (by omega)
      cases e : gm_bt m n
      · refine ⟨l, l1, fun i => ?_, ?_⟩
        · rw [l2]
          constructor
          · exact fun q => ⟨q.1, by omega⟩
          · intro q
            refine ⟨q.1, ?_⟩
            have hb := (h.2 i q.1).2
            by_cases en : pa i = n
            · rw [en, e] at hb
              exact absurd hb (by decide)
            · omega
        · show l.length = gm_cn (gm_bt m) n + (if gm_bt m n then 1 else 0)
          rw [e]
          exact l3
      · obtain ⟨i, i1, i2, i3⟩ := h.1 n (by omega) e
        refine ⟨i :: l, List.nodup_cons.mpr ⟨fun q => ?_, l1⟩, fun j => ?_, ?_⟩
        · have := ((l2 i).mp q).2
          omega
        · rw [List.mem_cons, l2]
          constructor
          · rintro (q | q)
            · rw [q]
              exact ⟨i3, by omega⟩
            · exact ⟨q.1, by omega⟩
          · intro q
            by_cases en : pa j = n
            · exact Or.inl (inj j i (h.2 j q.1).1 i1 (by omega))
            · exact Or.inr ⟨q.1, by omega⟩
        · show l.length + 1 = gm_cn (gm_bt m) n + (if gm_bt m n then 1 else 0)
          rw [e, l3]
          rfl
  obtain ⟨l, l1, l2, l3⟩ := key 32 (Nat.le_refl _)
  exact ⟨l, l1, fun i => ⟨fun q => ((l2 i).mp q).1, fun q => (l2 i).mpr ⟨q, lt i (h.2 i q).1⟩⟩, l3⟩
theorem gm_fin_le {m : Int32} {o y : Nat} {rm : Int32} {a17 a18 a19 : Nat → Int32} (hh : gm_hq pa D H o y rm a17 a18 a19) (h : gm_fin pa D F G H m) : gm_cn (gm_bt m) 32 ≤ o + y := by
  obtain ⟨h1, h2, h3, h4, h5⟩ := hh
  refine gm_cn_us (by omega) h2 (fun i hi e => ?_)
  obtain ⟨j, j1, j2, j3⟩ := h.1 i hi e
  have := (h3 j j1).2.1
  rw [j2] at this
  exact this
theorem gm_wneeded {post : Int32 → St1 → Prop} (h : gm_M z P b pa D F G H C u) (hp : gm_cnt F G H ≤ 16 → ∀ u', gm_M z P b pa D F G H C u' → post (nI (gm_cnt F G H)) u') : wpX_needed post u := by
  obtain ⟨xpr, xlv, xfc, xou, xyu, xrm, xmk, xsc, xmd, xrs, xrn, xpc, xwc, a1, a2, a3, a4, a5, a6, a7, a8, a9, a10, a11, a12, a13, a14, a15, a16, a17, a18, a19, a20, a21, a22⟩ := u
  obtain ⟨hc, hf, hg, hh, hs⟩ := h
  unfold wpX_needed
  dsimp only
  refine gm_wmarkN hf hg hh (fun m w hm => ?_)
  have hcard := gm_cnt_eq (gm_fin_card hh hm)
  have hle : gm_cnt F G H ≤ 16 := by
    obtain ⟨o, y, _, _, hq⟩ := hh
    have := gm_fin_le hq hm
    have := hq.1
    omega
  refine gm_wcount ?_
  rw [← hcard]
  exact hp hle _ ⟨hc, hf, hg, hh, hs⟩
end
end
section
/-! collecting everything -/
section
variable {z : Prop} {P : gm_P} {b : Nat} {pa : Nat → Nat} {D : Nat → Prop} {F : gm_F} {G : Nat → gm_V} {H : gm_H} {C : gm_C} {u : St1}
theorem gm_wcopy {post : St1 → Prop} {xpr xlv xfc xou xyu xrm xmk xsc xmd xrs xrn xpc xwc : Int32} {a1 a2 a3 a4 a5 a6 a7 a8 a9 a10 a11 a12 a13 a14 a15 a16 a17 a18 a19 a20 a21 a22 : Nat → Int32} {f t : Nat} (hf : f < 32) (ht : t < 32) (hne : f ≠ t) (h17 : (a17 f).toInt8.toInt32 = a17 f) (h18 : ∀ k, k < 3 → (a18 (3 * f + k)).toInt8.toInt32 = a18 (3 * f + k))
    (hp : ∀ b18 b19 : Nat → Int32, (∀ k, k < 3 → b18 (3 * t + k) = a18 (3 * f + k) ∧ b19 (3 * t + k) = a19 (3 * f + k)) → (∀ q, q < 3 * t ∨ 3 * t + 3 ≤ q → b18 q = a18 q ∧ b19 q = a19 q) → post (xpr, xlv, xfc, xou, xyu, xrm, xmk, xsc, xmd, xrs, xrn, xpc, xwc, a1, a2, a3, a4, a5, a6, a7, a8, a9, a10, a11, a12, a13, a14, a15, a16, upd a17 t (a17 f), b18, b19, a20, a21, a22)) : wpX_copyObject post (xpr, xlv, xfc, xou, xyu, xrm, xmk, xsc, xmd, xrs, xrn, xpc, xwc, a1, a2, a3, a4, a5, a6, a7, a8, a9, a10, a11, a12, a13, a14, a15, a16, a17, a18, a19, a20, a21, a22) (nI f) (nI t) := by
  unfold wpX_copyObject
  dsimp only
  rw [nI_clamp (show f < 2 ^ 31 by omega), nI_clamp (show t < 2 ^ 31 by omega), vp_nar_byte, h17]
  refine ⟨pk_in f 32 hf, pk_in t 32 ht, nm_e ?_⟩
  refine pk_loop (fun n k (s : (Nat → Int32) × (Nat → Int32)) => wX_copyObject_14 post (nI f) (nI t) xpr xlv xfc xou xyu xrm xmk xsc xmd xrs xrn xpc xwc n (nI k) a1 a2 a3 a4 a5 a6 a7 a8 a9 a10 a11 a12 a13 a14 a15 a16 (upd a17 t (a17 f)) s.1 s.2 a20 a21 a22)
    (fun k s => (∀ l, l < k → s.1 (3 * t + l) = a18 (3 * f + l) ∧ s.2 (3 * t + l) = a19 (3 * f + l)) ∧ (∀ q, q < 3 * t ∨ 3 * t + k ≤ q → s.1 q = a18 q ∧ s.2 q = a19 q)) 3 0 (a18, a19) (by omega) ⟨fun l hl => absurd hl (Nat.not_lt_zero l), fun q _ => ⟨rfl, rfl⟩⟩ ?_ ?_
  · intro n s hs
    exact pk_le 3 3 (fun _ => hp s.1 s.2 hs.1 hs.2) (fun q => absurd q (by omega))
  · intro n k s hk hs hw
    obtain ⟨s1, s2⟩ := s
    obtain ⟨i1, i2⟩ := hs
    dsimp only at i1 i2
    refine pk_le 3 k (fun q => absurd q (by omega)) (fun _ => ?_)
    dsimp only
    rw [gm_i3, gm_i3, nI_clamp (show 3 * f + k < 2 ^ 31 by omega), nI_clamp (show 3 * t + k < 2 ^ 31 by omega), vp_nar_byte]
    have ef := i2 (3 * f + k) (by omega)
    rw [ef.1, ef.2, h18 k hk]
    refine ⟨pk_in (3 * f + k) 96 (by omega), pk_in (3 * t + k) 96 (by omega), nm_e ⟨pk_in (3 * f + k) 96 (by omega), pk_in (3 * t + k) 96 (by omega), nm_e (nm_r (nI_1 k) (hw (_, _) ⟨fun l hl => ?_, fun q hq => ?_⟩))⟩⟩
    · show upd s1 _ _ _ = _ ∧ upd s2 _ _ _ = _
      by_cases e : l = k
      · rw [e, pk_us, pk_us]
        exact ⟨rfl, rfl⟩
      · rw [pk_un (by omega), pk_un (by omega)]
        exact i1 l (by omega)
    · show upd s1 _ _ _ = _ ∧ upd s2 _ _ _ = _
      rw [pk_un (by omega), pk_un (by omega)]
      exact i2 q (by omega)
theorem gm_wcopy_2 {post : St1 → Prop} {xpr xlv xfc xou xyu xrm xmk xsc xmd xrs xrn xpc xwc : Int32} {a1 a2 a3 a4 a5 a6 a7 a8 a9 a10 a11 a12 a13 a14 a15 a16 a17 a18 a19 a20 a21 a22 : Nat → Int32} {f t : Nat} (hf : f < 32) (ht : t < 32) (hne : f ≠ t) (h17 : (a17 f).toInt8.toInt32 = a17 f) (h18 : ∀ k, k < 3 → (a18 (3 * f + k)).toInt8.toInt32 = a18 (3 * f + k))
    (hp : ∀ b18 b19 : Nat → Int32, (∀ k, k < 3 → b18 (3 * t + k) = a18 (3 * f + k) ∧ b19 (3 * t + k) = a19 (3 * f + k)) → (∀ q, q < 3 * t ∨ 3 * t + 3 ≤ q → b18 q = a18 q ∧ b19 q = a19 q) → post (xpr, xlv, xfc, xou, xyu, xrm, xmk, xsc, xmd, xrs, xrn, xpc, xwc, a1, a2, a3, a4, a5, a6, a7, a8, a9, a10, a11, a12, a13, a14, a15, a16, upd a17 t (a17 f), b18, b19, a20, a21, a22)) : wpX_copyObject_2 post (xpr, xlv, xfc, xou, xyu, xrm, xmk, xsc, xmd, xrs, xrn, xpc, xwc, a1, a2, a3, a4, a5, a6, a7, a8, a9, a10, a11, a12, a13, a14, a15, a16, a17, a18, a19, a20, a21, a22) (nI f) (nI t) := by
  unfold wpX_copyObject_2
  dsimp only
  rw [nI_clamp (show f < 2 ^ 31 by omega), nI_clamp (show t < 2 ^ 31 by omega), vp_nar_byte, h17]
  refine ⟨pk_in f 32 hf, pk_in t 32 ht, nm_e ?_⟩
  refine pk_loop (fun n k (s : (Nat → Int32) × (Nat → Int32)) => wX_copyObject_2_14 post (nI f) (nI t) xpr xlv xfc xou xyu xrm xmk xsc xmd xrs xrn xpc xwc n (nI k) a1 a2 a3 a4 a5 a6 a7 a8 a9 a10 a11 a12 a13 a14 a15 a16 (upd a17 t (a17 f)) s.1 s.2 a20 a21 a22)
    (fun k s => (∀ l, l < k → s.1 (3 * t + l) = a18 (3 * f + l) ∧ s.2 (3 * t + l) = a19 (3 * f + l)) ∧ (∀ q, q < 3 * t ∨ 3 * t + k ≤ q → s.1 q = a18 q ∧ s.2 q = a19 q)) 3 0 (a18, a19) (by omega) ⟨fun l hl => absurd hl (Nat.not_lt_zero l), fun q _ => ⟨rfl, rfl⟩⟩ ?_ ?_
  · intro n s hs
    exact pk_le 3 3 (fun _ => hp s.1 s.2 hs.1 hs.2) (fun q => absurd q (by omega))
  · intro n k s hk hs hw
    obtain ⟨s1, s2⟩ := s
    obtain ⟨i1, i2⟩ := hs
    dsimp only at i1 i2
    refine pk_le 3 k (fun q => absurd q (by omega)) (fun _ => ?_)
    dsimp only
    rw [gm_i3, gm_i3, nI_clamp (show 3 * f + k < 2 ^ 31 by omega), nI_clamp (show 3 * t + k < 2 ^ 31 by omega), vp_nar_byte]
    have ef := i2 (3 * f + k) (by omega)
    rw [ef.1, ef.2, h18 k hk]
    refine ⟨pk_in (3 * f + k) 96 (by omega), pk_in (3 * t + k) 96 (by omega), nm_e ⟨pk_in (3 * f + k) 96 (by omega), pk_in (3 * t + k) 96 (by omega), nm_e (nm_r (nI_1 k) (hw (_, _) ⟨fun l hl => ?_, fun q hq => ?_⟩))⟩⟩
    · show upd s1 _ _ _ = _ ∧ upd s2 _ _ _ = _
      by_cases e : l = k
      · rw [e, pk_us, pk_us]
        exact ⟨rfl, rfl⟩
      · rw [pk_un (by omega), pk_un (by omega)]
        exact i1 l (by omega)
    · show upd s1 _ _ _ = _ ∧ upd s2 _ _ _ = _
      rw [pk_un (by omega), pk_un (by omega)]
      exact i2 q (by omega)
theorem gm_wcopy_3 {post : St1 → Prop} {xpr xlv xfc xou xyu xrm xmk xsc xmd xrs xrn xpc xwc : Int32} {a1 a2 a3 a4 a5 a6 a7 a8 a9 a10 a11 a12 a13 a14 a15 a16 a17 a18 a19 a20 a21 a22 : Nat → Int32} {f t : Nat} (hf : f < 32) (ht : t < 32) (hne : f ≠ t) (h17 : (a17 f).toInt8.toInt32 = a17 f) (h18 : ∀ k, k < 3 → (a18 (3 * f + k)).toInt8.toInt32 = a18 (3 * f + k))
    (hp : ∀ b18 b19 : Nat → Int32, (∀ k, k < 3 → b18 (3 * t + k) = a18 (3 * f + k) ∧ b19 (3 * t + k) = a19 (3 * f + k)) → (∀ q, q < 3 * t ∨ 3 * t + 3 ≤ q → b18 q = a18 q ∧ b19 q = a19 q) → post (xpr, xlv, xfc, xou, xyu, xrm, xmk, xsc, xmd, xrs, xrn, xpc, xwc, a1, a2, a3, a4, a5, a6, a7, a8, a9, a10, a11, a12, a13, a14, a15, a16, upd a17 t (a17 f), b18, b19, a20, a21, a22)) : wpX_copyObject_3 post (xpr, xlv, xfc, xou, xyu, xrm, xmk, xsc, xmd, xrs, xrn, xpc, xwc, a1, a2, a3, a4, a5, a6, a7, a8, a9, a10, a11, a12, a13, a14, a15, a16, a17, a18, a19, a20, a21, a22) (nI f) (nI t) := by
  unfold wpX_copyObject_3
  dsimp only
  rw [nI_clamp (show f < 2 ^ 31 by omega), nI_clamp (show t < 2 ^ 31 by omega), vp_nar_byte, h17]
  refine ⟨pk_in f 32 hf, pk_in t 32 ht, nm_e ?_⟩
  refine pk_loop (fun n k (s : (Nat → Int32) × (Nat → Int32)) => wX_copyObject_3_14 post (nI f) (nI t) xpr xlv xfc xou xyu xrm xmk xsc xmd xrs xrn xpc xwc n (nI k) a1 a2 a3 a4 a5 a6 a7 a8 a9 a10 a11 a12 a13 a14 a15 a16 (upd a17 t (a17 f)) s.1 s.2 a20 a21 a22)
    (fun k s => (∀ l, l < k → s.1 (3 * t + l) = a18 (3 * f + l) ∧ s.2 (3 * t + l) = a19 (3 * f + l)) ∧ (∀ q, q < 3 * t ∨ 3 * t + k ≤ q → s.1 q = a18 q ∧ s.2 q = a19 q)) 3 0 (a18, a19) (by omega) ⟨fun l hl => absurd hl (Nat.not_lt_zero l), fun q _ => ⟨rfl, rfl⟩⟩ ?_ ?_
  · intro n s hs
    exact pk_le 3 3 (fun _ => hp s.1 s.2 hs.1 hs.2) (fun q => absurd q (by omega))
  · intro n k s hk hs hw
    obtain ⟨s1, s2⟩ := s
    obtain ⟨i1, i2⟩ := hs
    dsimp only at i1 i2
    refine pk_le 3 k (fun q => absurd q (by omega)) (fun _ => ?_)
    dsimp only
    rw [gm_i3, gm_i3, nI_clamp (show 3 * f + k < 2 ^ 31 by omega), nI_clamp (show 3 * t + k < 2 ^ 31 by omega), vp_nar_byte]
    have ef := i2 (3 * f + k) (by omega)
    rw [ef.1, ef.2, h18 k hk]
    refine ⟨pk_in (3 * f + k) 96 (by omega), pk_in (3 * t + k) 96 (by omega), nm_e ⟨pk_in (3 * f + k) 96 (by omega), pk_in (3 * t + k) 96 (by omega), nm_e (nm_r (nI_1 k) (hw (_, _) ⟨fun l hl => ?_, fun q hq => ?_⟩))⟩⟩
    · show upd s1 _ _ _ = _ ∧ upd s2 _ _ _ = _
      by_cases e : l = k
      · rw [e, pk_us, pk_us]
        exact ⟨rfl, rfl⟩
      · rw [pk_un (by omega), pk_un (by omega)]
        exact i1 l (by omega)
    · show upd s1 _ _ _ = _ ∧ upd s2 _ _ _ = _
      rw [pk_un (by omega), pk_un (by omega)]
      exact i2 q (by omega)
theorem gm_wcopy_4 {post : St1 → Prop} {xpr xlv xfc xou xyu xrm xmk xsc xmd xrs xrn xpc xwc : Int32} {a1 a2 a3 a4 a5 a6 a7 a8 a9 a10 a11 a12 a13 a14 a15 a16 a17 a18 a19 a20 a21 a22 : Nat → Int32} {f t : Nat} (hf : f < 32) (ht : t < 32) (hne : f ≠ t) (h17 : (a17 f).toInt8.toInt32 = a17 f) (h18 : ∀ k, k < 3 → (a18 (3 * f + k)).toInt8.toInt32 = a18 (3 * f + k))
    (hp : ∀ b18 b19 : Nat → Int32, (∀ k, k < 3 → b18 (3 * t + k) = a18 (3 * f + k) ∧ b19 (3 * t + k) = a19 (3 * f + k)) → (∀ q, q < 3 * t ∨ 3 * t + 3 ≤ q → b18 q = a18 q ∧ b19 q = a19 q) → post (xpr, xlv, xfc, xou, xyu, xrm, xmk, xsc, xmd, xrs, xrn, xpc, xwc, a1, a2, a3, a4, a5, a6, a7, a8, a9, a10, a11, a12, a13, a14, a15, a16, upd a17 t (a17 f), b18, b19, a20, a21, a22)) : wpX_copyObject_4 post (xpr, xlv, xfc, xou, xyu, xrm, xmk, xsc, xmd, xrs, xrn, xpc, xwc, a1, a2, a3, a4, a5, a6, a7, a8, a9, a10, a11, a12, a13, a14, a15, a16, a17, a18, a19, a20, a21, a22) (nI f) (nI t) := by
  unfold wpX_copyObject_4
  dsimp only
  rw [nI_clamp (show f < 2 ^ 31 by omega), nI_clamp (show t < 2 ^ 31 by omega), vp_nar_byte, h17]
  refine ⟨pk_in f 32 hf, pk_in t 32 ht, nm_e ?_⟩
  refine pk_loop (fun n k (s : (Nat → Int32) × (Nat → Int32)) => wX_copyObject_4_14 post (nI f) (nI t) xpr xlv xfc xou xyu xrm xmk xsc xmd xrs xrn xpc xwc n (nI k) a1 a2 a3 a4 a5 a6 a7 a8 a9 a10 a11 a12 a13 a14 a15 a16 (upd a17 t (a17 f)) s.1 s.2 a20 a21 a22)
    (fun k s => (∀ l, l < k → s.1 (3 * t + l) = a18 (3 * f + l) ∧ s.2 (3 * t + l) = a19 (3 * f + l)) ∧ (∀ q, q < 3 * t ∨ 3 * t + k ≤ q → s.1 q = a18 q ∧ s.2 q = a19 q)) 3 0 (a18, a19) (by omega) ⟨fun l hl => absurd hl (Nat.not_lt_zero l), fun q _ => ⟨rfl, rfl⟩⟩ ?_ ?_
  · intro n s hs
    exact pk_le 3 3 (fun _ => hp s.1 s.2 hs.1 hs.2) (fun q => absurd q (by omega))
  · intro n k s hk hs hw
    obtain ⟨s1, s2⟩ := s
    obtain ⟨i1, i2⟩ := hs
    dsimp only at i1 i2
    refine pk_le 3 k (fun q => absurd q (by omega)) (fun _ => ?_)
    dsimp only
    rw [gm_i3, gm_i3, nI_clamp (show 3 * f + k < 2 ^ 31 by omega), nI_clamp (show 3 * t + k < 2 ^ 31 by omega), vp_nar_byte]
    have ef := i2 (3 * f + k) (by omega)
    rw [ef.1, ef.2, h18 k hk]
    refine ⟨pk_in (3 * f + k) 96 (by omega), pk_in (3 * t + k) 96 (by omega), nm_e ⟨pk_in (3 * f + k) 96 (by omega), pk_in (3 * t + k) 96 (by omega), nm_e (nm_r (nI_1 k) (hw (_, _) ⟨fun l hl => ?_, fun q hq => ?_⟩))⟩⟩
    · show upd s1 _ _ _ = _ ∧ upd s2 _ _ _ = _
      by_cases e : l = k
      · rw [e, pk_us, pk_us]
        exact ⟨rfl, rfl⟩
      · rw [pk_un (by omega), pk_un (by omega)]
        exact i1 l (by omega)
    · show upd s1 _ _ _ = _ ∧ upd s2 _ _ _ = _
      rw [pk_un (by omega), pk_un (by omega)]
      exact i2 q (by omega)
theorem gm_wcopy_5 {post : St1 → Prop} {xpr xlv xfc xou xyu xrm xmk xsc xmd xrs xrn xpc xwc : Int32} {a1 a2 a3 a4 a5 a6 a7 a8 a9 a10 a11 a12 a13 a14 a15 a16 a17 a18 a19 a20 a21 a22 : Nat → Int32} {f t : Nat} (hf : f < 32) (ht : t < 32) (hne : f ≠ t) (h17 : (a17 f).toInt8.toInt32 = a17 f) (h18 : ∀ k, k < 3 → (a18 (3 * f + k)).toInt8.toInt32 = a18 (3 * f + k))
    (hp : ∀ b18 b19 : Nat → Int32, (∀ k, k < 3 → b18 (3 * t + k) = a18 (3 * f + k) ∧ b19 (3 * t + k) = a19 (3 * f + k)) → (∀ q, q < 3 * t ∨ 3 * t + 3 ≤ q → b18 q = a18 q ∧ b19 q = a19 q) → post (xpr, xlv, xfc, xou, xyu, xrm, xmk, xsc, xmd, xrs, xrn, xpc, xwc, a1, a2, a3, a4, a5, a6, a7, a8, a9, a10, a11, a12, a13, a14, a15, a16, upd a17 t (a17 f), b18, b19, a20, a21, a22)) : wpX_copyObject_5 post (xpr, xlv, xfc, xou, xyu, xrm, xmk, xsc, xmd, xrs, xrn, xpc, xwc, a1, a2, a3, a4, a5, a6, a7, a8, a9, a10, a11, a12, a13, a14, a15, a16, a17, a18, a19, a20, a21, a22) (nI f) (nI t) := by
  unfold wpX_copyObject_5
  dsimp only
  rw [nI_clamp (show f < 2 ^ 31 by omega), nI_clamp (show t < 2 ^ 31 by omega), vp_nar_byte, h17]
  refine ⟨pk_in f 32 hf, pk_in t 32 ht, nm_e ?_⟩
  refine pk_loop (fun n k (s : (Nat → Int32) × (Nat → Int32)) => wX_copyObject_5_14 post (nI f) (nI t) xpr xlv xfc xou xyu xrm xmk xsc xmd xrs xrn xpc xwc n (nI k) a1 a2 a3 a4 a5 a6 a7 a8 a9 a10 a11 a12 a13 a14 a15 a16 (upd a17 t (a17 f)) s.1 s.2 a20 a21 a22)
    (fun k s => (∀ l, l < k → s.1 (3 * t + l) = a18 (3 * f + l) ∧ s.2 (3 * t + l) = a19 (3 * f + l)) ∧ (∀ q, q < 3 * t ∨ 3 * t + k ≤ q → s.1 q = a18 q ∧ s.2 q = a19 q)) 3 0 (a18, a19) (by omega) ⟨fun l hl => absurd hl (Nat.not_lt_zero l), fun q _ => ⟨rfl, rfl⟩⟩ ?_ ?_
  · intro n s hs
    exact pk_le 3 3 (fun _ => hp s.1 s.2 hs.1 hs.2) (fun q => absurd q (by omega))
  · intro n k s hk hs hw
    obtain ⟨s1, s2⟩ := s
    obtain ⟨i1, i2⟩ := hs
    dsimp only at i1 i2
    refine pk_le 3 k (fun q => absurd q (by omega)) (fun _ => ?_)
    dsimp only
    rw [gm_i3, gm_i3, nI_clamp (show 3 * f + k < 2 ^ 31 by omega), nI_clamp (show 3 * t + k < 2 ^ 31 by omega), vp_nar_byte]
    have ef := i2 (3 * f + k) (by omega)
    rw [ef.1, ef.2, h18 k hk]
    refine ⟨pk_in (3 * f + k) 96 (by omega), pk_in (3 * t + k) 96 (by omega), nm_e ⟨pk_in (3 * f + k) 96 (by omega), pk_in (3 * t + k) 96 (by omega), nm_e (nm_r (nI_1 k) (hw (_, _) ⟨fun l hl => ?_, fun q hq => ?_⟩))⟩⟩
    · show upd s1 _ _ _ = _ ∧ upd s2 _ _ _ = _
      by_cases e : l = k
      · rw [e, pk_us, pk_us]
        exact ⟨rfl, rfl⟩
      · rw [pk_un (by omega), pk_un (by omega)]
        exact i1 l (by omega)
    · show upd s1 _ _ _ = _ ∧ upd s2 _ _ _ = _
      rw [pk_un (by omega), pk_un (by omega)]
      exact i2 q (by omega)
/-- the world behind the collector of everything -/
def gm_pk (m : Int32) (pa : Nat → Nat) : Nat → Nat := fun i => gm_cn (gm_bt m) (pa i)
theorem gm_sh_mv {m : Int32} {a21 : Nat → Int32} (lt : ∀ i, D i → pa i < 32) (hm : gm_fin pa D F G H m) (h21 : ∀ p, p < 32 → gm_bt m p = true → a21 p = nI (gm_cn (gm_bt m) p)) {v : gm_V} {s n : Int32} (hv : gm_sh pa D v s n) (hr : v.1 = 2 → gm_RA F G H v.2.2) : (s = 2 → ∃ p, p < 32 ∧ n = nI p ∧ gm_sh (gm_pk m pa) (gm_RA F G H) v s (a21 p)) ∧ (¬ s = 2 → gm_sh (gm_pk m pa) (gm_RA F G H) v s n) := by
  have hs := gm_sh_s hv
  constructor
  · intro e
    have e2 : v.1 = 2 := hs ▸ e
    obtain ⟨g1, g2, g3⟩ := gm_sh_o hv e2
    have hR := hr e2
    refine ⟨pa v.2.2, lt _ g2, g1, ?_⟩
    rw [h21 _ (lt _ g2) (hm.2 _ hR).2, e, g3]
    exact gm_sh_2 hR
  · intro e
    exact gm_sh_to hv (fun _ => rfl) (fun q => absurd (hs.trans q) e)
def gm_sl (pa : Nat → Nat) (D : Nat → Prop) (F : gm_F) (G : Nat → gm_V) (H : gm_H) (m : Int32) (x : Nat) (b17 b18 b19 : Nat → Int32) : Prop :=
  ∀ i, gm_RA F G H i → (pa i < x → b17 (gm_cn (gm_bt m) (pa i)) = H.2.1 i ∧ ∀ k, k < 3 → gm_sh (gm_pk m pa) (gm_RA F G H) (H.2.2 i k) (b18 (3 * gm_cn (gm_bt m) (pa i) + k)) (b19 (3 * gm_cn (gm_bt m) (pa i) + k))) ∧ (x ≤ pa i → b17 (pa i) = H.2.1 i ∧ ∀ k, k < 3 → gm_sh pa D (H.2.2 i k) (b18 (3 * pa i + k)) (b19 (3 * pa i + k)))
theorem gm_wslide {post : St1 → Prop} {xpr xlv xfc xou xyu xrm xmk xsc xmd xrs xrn xpc xwc : Int32} {a1 a2 a3 a4 a5 a6 a7 a8 a9 a10 a11 a12 a13 a14 a15 a16 a17 a18 a19 a20 a21 a22 : Nat → Int32} {m : Int32} {x : Nat} (lt : ∀ i, D i → pa i < 32) (inj : ∀ i j, D i → D j → pa i = pa j → i = j) (hkd : ∀ i, D i → ∃ c, c < 4 ∧ H.2.1 i = nI c) (hm : gm_fin pa D F G H m) (h21 : ∀ p, p < 32 → gm_bt m p = true → a21 p = nI (gm_cn (gm_bt m) p)) (hx : x < 32) (hb : gm_bt m x = true) (hJ : gm_sl pa D F G H m x a17 a18 a19)
    (hp : ∀ b17 b18 b19, gm_sl pa D F G H m (x + 1) b17 b18 b19 → post (xpr, xlv, xfc, xou, xyu, xrm, xmk, xsc, xmd, xrs, xrn, xpc, xwc, a1, a2, a3, a4, a5, a6, a7, a8, a9, a10, a11, a12, a13, a14, a15, a16, b17, b18, b19, a20, a21, a22)) : wpX_slide post (xpr, xlv, xfc, xou, xyu, xrm, xmk, xsc, xmd, xrs, xrn, xpc, xwc, a1, a2, a3, a4, a5, a6, a7, a8, a9, a10, a11, a12, a13, a14, a15, a16, a17, a18, a19, a20, a21, a22) (nI x) := by
  obtain ⟨i, hi, hxi, hR⟩ := hm.1 x hx hb
  have rkx : gm_cn (gm_bt m) x ≤ x := gm_cn_le _ x
  obtain ⟨c17, cf⟩ := (hJ i hR).2 (by omega)
  rw [hxi] at c17 cf
  unfold wpX_slide
  dsimp only
  refine nm_r gm_m3 ?_
  refine pk_loop (fun n k (s : Nat → Int32) => wX_slide_4 post (nI x) xpr xlv xfc xou xyu xrm xmk xsc xmd xrs xrn xpc xwc n (nI k) a1 a2 a3 a4 a5 a6 a7 a8 a9 a10 a11 a12 a13 a14 a15 a16 a17 a18 s a20 a21 a22)
    (fun k s => 3 * x ≤ k ∧ (∀ l, l < 3 → 3 * x + l < k → gm_sh (gm_pk m pa) (gm_RA F G H) (H.2.2 i l) (a18 (3 * x + l)) (s (3 * x + l))) ∧ (∀ l, l < 3 → k ≤ 3 * x + l → gm_sh pa D (H.2.2 i l) (a18 (3 * x + l)) (s (3 * x + l))) ∧ (∀ q, q < 3 * x ∨ 3 * x + 3 ≤ q → s q = a19 q)) (3 * x + 3) (3 * x) a19 (by omega) ⟨Nat.le_refl _, fun l _ hl => absurd hl (by omega), fun l hl _ => cf l hl, fun q _ => rfl⟩ ?_ ?_
  · intro n s hs
    obtain ⟨_, i1, _, i3⟩ := hs
    refine pk_le (3 * x + 3) (3 * x + 3) (fun _ => ⟨pk_in x 32 hx, ?_⟩) (fun q => absurd q (by omega)) gm_i33
    rw [nI_clamp (show x < 2 ^ 31 by omega), h21 x hx hb]
    refine pk_eq (gm_cn (gm_bt m) x) x (fun e => ?_) (fun e => ⟨pk_in x 32 hx, ?_⟩)
    · refine hp a17 a18 s (fun j hj => ⟨fun hl => ?_, fun hl => ?_⟩)
      · by_cases ej : pa j = x
        · have eij : j = i := inj j i (hm.2 j hj).1 hi (by omega)
          rw [ej, e, eij]
          exact ⟨c17, fun k hk => i1 k hk (by omega)⟩
        · obtain ⟨w1, w2⟩ := (hJ j hj).1 (by omega)
          have rl := gm_cn_lt (hm.2 j hj).2 (show pa j < x by omega)
          refine ⟨w1, fun k hk => ?_⟩
          rw [i3 _ (by omega)]
          exact w2 k hk
      · obtain ⟨w1, w2⟩ := (hJ j hj).2 (by omega)
        refine ⟨w1, fun k hk => ?_⟩
        rw [i3 _ (by omega)]
        exact w2 k hk
    · obtain ⟨c, c1, c2⟩ := hkd i hi
      refine gm_wcopy_5 (f := x) (t := gm_cn (gm_bt m) x) hx (by omega) (fun q => e q.symm) (by rw [c17, c2, gm_b8 c (by omega)]) (fun k hk => gm_sh_8 (i1 k hk (by omega))) (fun b18 b19 w1 w2 => ?_)
      refine hp _ b18 b19 (fun j hj => ⟨fun hl => ?_, fun hl => ?_⟩)
      · by_cases ej : pa j = x
        · have eij : j = i := inj j i (hm.2 j hj).1 hi (by omega)
          rw [ej, pk_us, eij]
          refine ⟨c17, fun k hk => ?_⟩
          rw [(w1 k hk).1, (w1 k hk).2]
          exact i1 k hk (by omega)
        · obtain ⟨v1, v2⟩ := (hJ j hj).1 (by omega)
          have rl := gm_cn_lt (hm.2 j hj).2 (show pa j < x by omega)
          rw [pk_un (by omega)]
          refine ⟨v1, fun k hk => ?_⟩
          rw [(w2 _ (by omega)).1, (w2 _ (by omega)).2, i3 _ (by omega)]
          exact v2 k hk
      · obtain ⟨v1, v2⟩ := (hJ j hj).2 (by omega)
        rw [pk_un (by omega)]
        refine ⟨v1, fun k hk => ?_⟩
        rw [(w2 _ (by omega)).1, (w2 _ (by omega)).2, i3 _ (by omega)]
        exact v2 k hk
  · intro n k s hk hs hw
    obtain ⟨i0, i1, i2, i3⟩ := hs
    obtain ⟨l, rfl⟩ : ∃ l, k = 3 * x + l := ⟨k - 3 * x, by omega⟩
    have hv := i2 l (by omega) (Nat.le_refl _)
    obtain ⟨t1, t2⟩ := gm_sh_mv lt hm h21 hv (fun e => gm_RA_step hR (by omega) e)
    refine pk_le (3 * x + 3) (3 * x + l) (fun q => absurd q (by omega)) (fun _ => ⟨pk_in (3 * x + l) 96 (by omega), ?_⟩) gm_i33
    rw [nI_clamp (show 3 * x + l < 2 ^ 31 by omega)]
    refine br_c (fun e => ?_) (fun e => ?_)
    · obtain ⟨p, p1, p2, p3⟩ := t1 e
      rw [p2, nI_clamp (show p < 2 ^ 31 by omega)]
      refine ⟨pk_in (3 * x + l) 96 (by omega), pk_in p 32 p1, pk_in (3 * x + l) 96 (by omega), nm_e (nm_r (nI_1 _) (hw _ ⟨by omega, fun l' hl' hl2 => ?_, fun l' hl' hl2 => ?_, fun q hq => ?_⟩))⟩
      · by_cases el : l' = l
        · rw [el, pk_us]
          exact p3
        · rw [pk_un (by omega)]
          exact i1 l' hl' (by omega)
      · rw [pk_un (by omega)]
        exact i2 l' hl' (by omega)
      · rw [pk_un (by omega)]
        exact i3 q hq
    · refine nm_r (nI_1 _) (hw _ ⟨by omega, fun l' hl' hl2 => ?_, fun l' hl' hl2 => i2 l' hl' (by omega), i3⟩)
      by_cases el : l' = l
      · rw [el]
        exact t2 e
      · exact i1 l' hl' (by omega)
end
end
section
section
variable {z : Prop} {P : gm_P} {b : Nat} {pa : Nat → Nat} {D : Nat → Prop} {F : gm_F} {G : Nat → gm_V} {H : gm_H} {C : gm_C} {u : St1}
theorem gm_wall201 {post : St1 → Prop} {xpr xlv xfc xou xyu xrm xsc xmd xrs xrn xpc xwc : Int32} {a1 a2 a3 a4 a5 a6 a7 a8 a9 a10 a11 a12 a13 a14 a15 a16 a17 a18 a19 a20 a21 a22 : Nat → Int32} {m : Int32} (hq : ∃ o y, xou = nI o ∧ xyu = nI y ∧ gm_hq pa D H o y xrm a17 a18 a19) (hm : gm_fin pa D F G H m) (h21 : ∀ p, p < 32 → gm_bt m p = true → a21 p = nI (gm_cn (gm_bt m) p))
    (hp : ∀ b17 b18 b19, gm_hq (gm_pk m pa) (gm_RA F G H) H (gm_cn (gm_bt m) 32) 0 0 b17 b18 b19 → post (xpr, xlv, xfc, nI (gm_cn (gm_bt m) 32), 0, 0, m, xsc, xmd, xrs, xrn, xpc, xwc, a1, a2, a3, a4, a5, a6, a7, a8, a9, a10, a11, a12, a13, a14, a15, a16, b17, b18, b19, a20, a21, a22)) : ∃ n, wX_collectAll_201 post (nI (gm_cn (gm_bt m) 32)) n 0 xpr xlv xfc xou xyu xrm m xsc xmd xrs xrn xpc xwc a1 a2 a3 a4 a5 a6 a7 a8 a9 a10 a11 a12 a13 a14 a15 a16 a17 a18 a19 a20 a21 a22 := by
  have hh : gm_hp pa D H xou xyu xrm a17 a18 a19 := hq
  have lt := gm_hp_lt hh
  have inj := gm_hp_inj hh
  obtain ⟨o, y, _, _, hq⟩ := hq
  have hle := gm_fin_le hq hm
  obtain ⟨q1, q2, q3, q4, q5⟩ := hq
  refine pk_loop (fun n x (s : (Nat → Int32) × (Nat → Int32) × (Nat → Int32)) => wX_collectAll_201 post (nI (gm_cn (gm_bt m) 32)) n (nI x) xpr xlv xfc xou xyu xrm m xsc xmd xrs xrn xpc xwc a1 a2 a3 a4 a5 a6 a7 a8 a9 a10 a11 a12 a13 a14 a15 a16 s.1 s.2.1 s.2.2 a20 a21 a22)
    (fun x s => gm_sl pa D F G H m x s.1 s.2.1 s.2.2) 32 0 (a17, a18, a19) (by omega) (fun i hi => ⟨fun q => absurd q (Nat.not_lt_zero _), fun _ => ⟨(q3 i (hm.2 i hi).1).2.2.1, (q3 i (hm.2 i hi).1).2.2.2.2⟩⟩) ?_ ?_
  · intro n s hs
    refine pk_le 32 32 (fun _ => hp s.1 s.2.1 s.2.2 ⟨by omega, by omega, fun i hi => ?_, fun i j hi hj e => ?_, fun p hp => ?_, fun i k hi _ hk h2 h24 => ?_⟩) (fun q => absurd q (by omega))
    · obtain ⟨w1, w2⟩ := (hs i hi).1 (lt i (hm.2 i hi).1)
      obtain ⟨v1, v2, v3, v4, v5⟩ := q3 i (hm.2 i hi).1
      exact ⟨v1, Or.inl (gm_cn_lt (hm.2 i hi).2 (lt i (hm.2 i hi).1)), w1, v4, w2⟩
    · exact inj i j (hm.2 i hi).1 (hm.2 j hj).1 (gm_cn_inj (hm.2 i hi).2 (hm.2 j hj).2 e)
    · have hp' : p < gm_cn (gm_bt m) 32 := by
        rcases hp with q | q
        · exact q
        · omega
      obtain ⟨x, x1, x2, x3⟩ := gm_cn_sur 32 hp'
      obtain ⟨i, i1, i2, i3⟩ := hm.1 x x1 x2
      exact ⟨i, i3, by show gm_cn (gm_bt m) (pa i) = p; rw [i2, x3]⟩
    · have hR := gm_RA_step hi hk h2
      have l2 := gm_cn_lt (hm.2 _ hR).2 (lt _ (hm.2 _ hR).1)
      have l3 : 24 ≤ gm_cn (gm_bt m) (pa (H.2.2 i k).2.2) := h24
      omega
  · intro n x s hx hs hw
    refine pk_le 32 x (fun q => absurd q (by omega)) (fun _ => ?_)
    refine ek_if (gm_tst m hx) (fun hb => nm_r (nI_1 x) (hw s ?_)) (fun hb => ?_)
    · intro i hi
      have hne : pa i ≠ x := fun e => by
        have := (hm.2 i hi).2
        rw [e, hb] at this
        exact absurd this (by decide)
      exact ⟨fun q => (hs i hi).1 (by omega), fun q => (hs i hi).2 (by omega)⟩
    · have hb' : gm_bt m x = true := by
        cases e : gm_bt m x
        · exact absurd e hb
        · rfl
      exact gm_wslide lt inj (fun i hi => (q3 i hi).2.2.2.1) hm h21 hx hb' hs (fun b17 b18 b19 hJ => nm_r (nI_1 x) (hw (b17, b18, b19) hJ))
theorem gm_wall132 {post : St1 → Prop} {xpr xlv xfc xou xyu xrm xsc xmd xrs xrn xpc xwc : Int32} {a1 a2 a3 a4 a5 a6 a7 a8 a9 a10 a11 a12 a13 a14 a15 a16 a17 a18 a19 a20 a21 a22 : Nat → Int32} {b13 : Nat → Int32} {m : Int32} (hf : gm_fr pa D F xfc a11 a12 a13 a14 a15 a16) (hh : gm_hp pa D H xou xyu xrm a17 a18 a19) (hm : gm_fin pa D F G H m) (h21 : ∀ p, p < 32 → gm_bt m p = true → a21 p = nI (gm_cn (gm_bt m) p)) {x1 : Int32}
    (hp : ∀ b16, (∀ f k, f < F.1 → k < F.2.2.1 f → gm_sh (gm_pk m pa) (gm_RA F G H) (F.2.2.2.2 (6 * f + k)) (a15 (6 * f + k)) (b16 (6 * f + k))) → ∃ n, wX_collectAll_201 post x1 n 0 xpr xlv xfc xou xyu xrm m xsc xmd xrs xrn xpc xwc a1 a2 a3 a4 a5 a6 a7 a8 a9 a10 a11 a12 b13 a14 a15 b16 a17 a18 a19 a20 a21 a22) : ∃ n, wX_collectAll_132 post x1 xpr xlv xfc xou xyu xrm m xsc xmd xrs xrn xpc xwc n 0 a1 a2 a3 a4 a5 a6 a7 a8 a9 a10 a11 a12 b13 a14 a15 a16 a17 a18 a19 a20 a21 a22 := by
  have lt := gm_hp_lt hh
  have e1 : xfc = nI F.1 := hf.1
  have hf10 := hf.2.1
  subst e1
  refine pk_loop (fun n f (s : Nat → Int32) => wX_collectAll_132 post x1 xpr xlv (nI F.1) xou xyu xrm m xsc xmd xrs xrn xpc xwc n (nI f) a1 a2 a3 a4 a5 a6 a7 a8 a9 a10 a11 a12 b13 a14 a15 s a17 a18 a19 a20 a21 a22)
    (fun f s => (∀ f' k, f' < f → k < F.2.2.1 f' → gm_sh (gm_pk m pa) (gm_RA F G H) (F.2.2.2.2 (6 * f' + k)) (a15 (6 * f' + k)) (s (6 * f' + k))) ∧ (∀ f' k, f ≤ f' → f' < F.1 → k < F.2.2.1 f' → gm_sh pa D (F.2.2.2.2 (6 * f' + k)) (a15 (6 * f' + k)) (s (6 * f' + k)))) F.1 0 a16 (by omega) ⟨fun f' k q => absurd q (Nat.not_lt_zero _), fun f' k _ hf' hk => hf.2.2.2.2.1 f' k hf' hk⟩ ?_ ?_
  · intro n s hs
    exact pk_le F.1 F.1 (fun _ => hp s hs.1) (fun q => absurd q (by omega))
  · intro n f s hfl hs hw
    obtain ⟨i1, i2⟩ := hs
    obtain ⟨d1, d2, d3⟩ := hf.2.2.1 f hfl
    refine pk_le F.1 f (fun q => absurd q (by omega)) (fun _ => nm_r gm_m6 ?_)
    refine pk_loop (fun n' k (s' : Nat → Int32) => wX_collectAll_145 post (wX_collectAll_132 post x1 xpr xlv (nI F.1) xou xyu xrm m xsc xmd xrs xrn xpc xwc n) x1 (nI f) xpr xlv (nI F.1) xou xyu xrm m xsc xmd xrs xrn xpc xwc n' (nI k) a1 a2 a3 a4 a5 a6 a7 a8 a9 a10 a11 a12 b13 a14 a15 s' a17 a18 a19 a20 a21 a22)
      (fun k s' => 6 * f ≤ k ∧ (∀ l, 6 * f + l < k → gm_sh (gm_pk m pa) (gm_RA F G H) (F.2.2.2.2 (6 * f + l)) (a15 (6 * f + l)) (s' (6 * f + l))) ∧ (∀ l, k ≤ 6 * f + l → l < F.2.2.1 f → gm_sh pa D (F.2.2.2.2 (6 * f + l)) (a15 (6 * f + l)) (s' (6 * f + l))) ∧ (∀ q, q < 6 * f ∨ 6 * f + 6 ≤ q → s' q = s q)) (6 * f + F.2.2.1 f) (6 * f) s (by omega) ⟨Nat.le_refl _, fun l hl => absurd hl (by omega), fun l _ hl => i2 f l (Nat.le_refl _) hfl hl, fun q _ => rfl⟩ ?_ ?_
    · intro n' s' hs'
      obtain ⟨_, j1, _, j3⟩ := hs'
      refine ⟨pk_in f 10 (by omega), pk_le (6 * f + F.2.2.1 f) (6 * f + F.2.2.1 f) (fun _ => nm_r (nI_1 f) (hw s' ⟨fun f' k hf' hk => ?_, fun f' k hf' hl hk => ?_⟩)) (fun q => absurd q (by omega)) (by rw [nI_clamp (by omega), d2, gm_i6])⟩
      · by_cases ef : f' = f
        · rw [ef] at hk ⊢
          exact j1 k (by omega)
        · have dk := (hf.2.2.1 f' (by omega)).2.2
          rw [j3 _ (by omega)]
          exact i1 f' k (by omega) hk
      · rw [j3 _ (by omega)]
        exact i2 f' k (by omega) hl hk
    · intro n' k s' hk hs' hw'
      obtain ⟨j0, j1, j2, j3⟩ := hs'
      obtain ⟨l, rfl⟩ : ∃ l, k = 6 * f + l := ⟨k - 6 * f, by omega⟩
      have hl : l < F.2.2.1 f := by omega
      obtain ⟨t1, t2⟩ := gm_sh_mv lt hm h21 (j2 l (Nat.le_refl _) hl) (fun e => gm_RA_root (Or.inr (Or.inr ⟨f, l, hfl, hl, rfl⟩)) e)
      refine ⟨pk_in f 10 (by omega), pk_le (6 * f + F.2.2.1 f) (6 * f + l) (fun q => absurd q (by omega)) (fun _ => ⟨pk_in (6 * f + l) 60 (by omega), ?_⟩) (by rw [nI_clamp (by omega), d2, gm_i6])⟩
      rw [nI_clamp (show 6 * f + l < 2 ^ 31 by omega)]
      refine br_c (fun e => ?_) (fun e => ?_)
      · obtain ⟨p, p1, p2, p3⟩ := t1 e
        rw [p2, nI_clamp (show p < 2 ^ 31 by omega)]
        refine ⟨pk_in (6 * f + l) 60 (by omega), pk_in p 32 p1, pk_in (6 * f + l) 60 (by omega), nm_e (nm_r (nI_1 _) (hw' _ ⟨by omega, fun l' hl' => ?_, fun l' hl' hl2 => ?_, fun q hq => ?_⟩))⟩
        · by_cases el : l' = l
          · rw [el, pk_us]
            exact p3
          · rw [pk_un (by omega)]
            exact j1 l' (by omega)
        · rw [pk_un (by omega)]
          exact j2 l' (by omega) hl2
        · rw [pk_un (by omega)]
          exact j3 q hq
      · refine nm_r (nI_1 _) (hw' _ ⟨by omega, fun l' hl' => ?_, fun l' hl' hl2 => j2 l' (by omega) hl2, j3⟩)
        by_cases el : l' = l
        · rw [el]
          exact t2 e
        · exact j1 l' (by omega)
theorem gm_wall {post : St1 → Prop} (h : gm_M z P b pa D F G H C u) (hp : ∀ pa' D' u', gm_M z P b pa' D' F G H C u' → u'.2.2.2.1 = nI (gm_cnt F G H) → u'.2.2.2.2.1 = 0 → post u') : wpX_collectAll post u := by
  obtain ⟨xpr, xlv, xfc, xou, xyu, xrm, xmk, xsc, xmd, xrs, xrn, xpc, xwc, a1, a2, a3, a4, a5, a6, a7, a8, a9, a10, a11, a12, a13, a14, a15, a16, a17, a18, a19, a20, a21, a22⟩ := u
  obtain ⟨hc, hf, hg, hh, hs⟩ := h
  have lt := gm_hp_lt hh
  have e1 : xfc = nI F.1 := hf.1
  have hf10 := hf.2.1
  unfold wpX_collectAll
  dsimp only
  refine gm_wmarkN hf hg hh (fun m w hm => ?_)
  have hcard := gm_cnt_eq (gm_fin_card hh hm)
  rw [hcard] at hp
  have hpost : ∀ (b10 b13 b16 b17 b18 b19 b21 : Nat → Int32), gm_gl (gm_pk m pa) (gm_RA F G H) G a9 b10 → (∀ l, l < 4 * F.1 → gm_sh (gm_pk m pa) (gm_RA F G H) (F.2.2.2.1 l) (a12 l) (b13 l)) → (∀ f k, f < F.1 → k < F.2.2.1 f → gm_sh (gm_pk m pa) (gm_RA F G H) (F.2.2.2.2 (6 * f + k)) (a15 (6 * f + k)) (b16 (6 * f + k))) → gm_hq (gm_pk m pa) (gm_RA F G H) H (gm_cn (gm_bt m) 32) 0 0 b17 b18 b19 → post (xpr, xlv, xfc, nI (gm_cn (gm_bt m) 32), 0, 0, m, xsc, xmd, xrs, xrn, xpc, 0, a1, a2, a3, a4, a5, a6, a7, a8, a9, b10, a11, a12, b13, a14, a15, b16, b17, b18, b19, w, b21, a22) := by
    intro b10 b13 b16 b17 b18 b19 b21 q1 q2 q3 q4
    exact hp _ _ _ ⟨hc, ⟨hf.1, hf.2.1, hf.2.2.1, q2, q3, hf.2.2.2.2.2⟩, q1, ⟨_, 0, rfl, rfl, q4⟩, hs⟩ rfl rfl
  have k87 : ∀ (b10 b21 : Nat → Int32), (∀ p, p < 32 → gm_bt m p = true → b21 p = nI (gm_cn (gm_bt m) p)) → gm_gl (gm_pk m pa) (gm_RA F G H) G a9 b10 → ∃ n, wX_collectAll_87 post (nI (gm_cn (gm_bt m) 32)) xpr xlv xfc xou xyu xrm m xsc xmd xrs xrn xpc 0 n 0 a1 a2 a3 a4 a5 a6 a7 a8 a9 b10 a11 a12 a13 a14 a15 a16 a17 a18 a19 w b21 a22 := by
    intro b10 b21 h21 hg'
    refine pk_loop (fun n l (s : Nat → Int32) => wX_collectAll_87 post (nI (gm_cn (gm_bt m) 32)) xpr xlv xfc xou xyu xrm m xsc xmd xrs xrn xpc 0 n (nI l) a1 a2 a3 a4 a5 a6 a7 a8 a9 b10 a11 a12 s a14 a15 a16 a17 a18 a19 w b21 a22)
      (fun i s => (∀ l, l < i → gm_sh (gm_pk m pa) (gm_RA F G H) (F.2.2.2.1 l) (a12 l) (s l)) ∧ (∀ l, i ≤ l → l < 4 * F.1 → gm_sh pa D (F.2.2.2.1 l) (a12 l) (s l))) (4 * F.1) 0 a13 (by omega) ⟨fun l q => absurd q (Nat.not_lt_zero _), fun l _ hl => hf.2.2.2.1 l hl⟩ ?_ ?_
    · intro n s hs'
      refine pk_le (4 * F.1) (4 * F.1) (fun _ => ?_) (fun q => absurd q (by omega)) (by rw [e1, gm_m4])
      refine gm_wall132 hf hh hm h21 (fun b16 h16 => ?_)
      exact gm_wall201 hh hm h21 (fun b17 b18 b19 hq => hpost b10 s b16 b17 b18 b19 b21 hg' hs'.1 h16 hq)
    · intro n l s hl hs' hw
      obtain ⟨i1, i2⟩ := hs'
      obtain ⟨t1, t2⟩ := gm_sh_mv lt hm h21 (i2 l (Nat.le_refl _) hl) (fun e => gm_RA_root (Or.inr (Or.inl ⟨l, hl, rfl⟩)) e)
      refine pk_le (4 * F.1) l (fun q => absurd q (by omega)) (fun _ => ⟨pk_in l 40 (by omega), ?_⟩) (by rw [e1, gm_m4])
      rw [nI_clamp (show l < 2 ^ 31 by omega)]
      refine br_c (fun e => ?_) (fun e => ?_)
      · obtain ⟨p, p1, p2, p3⟩ := t1 e
        rw [p2, nI_clamp (show p < 2 ^ 31 by omega)]
        refine ⟨pk_in l 40 (by omega), pk_in p 32 p1, pk_in l 40 (by omega), nm_e (nm_r (nI_1 _) (hw _ ⟨fun l' hl' => ?_, fun l' hl' hl2 => ?_⟩))⟩
        · by_cases el : l' = l
          · rw [el, pk_us]
            exact p3
          · rw [pk_un el]
            exact i1 l' (by omega)
        · rw [pk_un (by omega)]
          exact i2 l' (by omega) hl2
      · refine nm_r (nI_1 _) (hw _ ⟨fun l' hl' => ?_, fun l' hl' hl2 => i2 l' (by omega) hl2⟩)
        by_cases el : l' = l
        · rw [el]
          exact t2 e
        · exact i1 l' (by omega)
  have k47 : ∀ (b21 : Nat → Int32), (∀ p, p < 32 → gm_bt m p = true → b21 p = nI (gm_cn (gm_bt m) p)) → ∃ n, wX_collectAll_47 post (nI (gm_cn (gm_bt m) 32)) xpr xlv xfc xou xyu xrm m xsc xmd xrs xrn xpc 0 n 0 a1 a2 a3 a4 a5 a6 a7 a8 a9 a10 a11 a12 a13 a14 a15 a16 a17 a18 a19 w b21 a22 := by
    intro b21 h21
    refine pk_loop (fun n l (s : Nat → Int32) => wX_collectAll_47 post (nI (gm_cn (gm_bt m) 32)) xpr xlv xfc xou xyu xrm m xsc xmd xrs xrn xpc 0 n (nI l) a1 a2 a3 a4 a5 a6 a7 a8 a9 s a11 a12 a13 a14 a15 a16 a17 a18 a19 w b21 a22)
      (fun i s => (∀ l, l < i → gm_sh (gm_pk m pa) (gm_RA F G H) (G l) (a9 l) (s l)) ∧ (∀ l, i ≤ l → l < 4 → gm_sh pa D (G l) (a9 l) (s l))) 4 0 a10 (by omega) ⟨fun l q => absurd q (Nat.not_lt_zero _), fun l _ hl => hg l hl⟩ ?_ ?_
    · intro n s hs'
      exact pk_le 4 4 (fun _ => k87 s b21 h21 hs'.1) (fun q => absurd q (by omega))
    · intro n l s hl hs' hw
      obtain ⟨i1, i2⟩ := hs'
      obtain ⟨t1, t2⟩ := gm_sh_mv lt hm h21 (i2 l (Nat.le_refl _) hl) (fun e => gm_RA_root (Or.inl ⟨l, hl, rfl⟩) e)
      refine pk_le 4 l (fun q => absurd q (by omega)) (fun _ => ⟨pk_in l 4 (by omega), ?_⟩)
      rw [nI_clamp (show l < 2 ^ 31 by omega)]
      refine br_c (fun e => ?_) (fun e => ?_)
      · obtain ⟨p, p1, p2, p3⟩ := t1 e
        rw [p2, nI_clamp (show p < 2 ^ 31 by omega)]
        refine ⟨pk_in l 4 (by omega), pk_in p 32 p1, pk_in l 4 (by omega), nm_e (nm_r (nI_1 _) (hw _ ⟨fun l' hl' => ?_, fun l' hl' hl2 => ?_⟩))⟩
        · by_cases el : l' = l
          · rw [el, pk_us]
            exact p3
          · rw [pk_un el]
            exact i1 l' (by omega)
        · rw [pk_un (by omega)]
          exact i2 l' (by omega) hl2
      · refine nm_r (nI_1 _) (hw _ ⟨fun l' hl' => ?_, fun l' hl' hl2 => i2 l' (by omega) hl2⟩)
        by_cases el : l' = l
        · rw [el]
          exact t2 e
        · exact i1 l' (by omega)
  refine pk_loop (fun n x (s : Nat → Int32) => wX_collectAll_8 post xpr xlv xfc xou xyu xrm m xsc xmd xrs xrn xpc 0 n (nI (gm_cn (gm_bt m) x)) (nI x) a1 a2 a3 a4 a5 a6 a7 a8 a9 a10 a11 a12 a13 a14 a15 a16 a17 a18 a19 w s a22)
    (fun x s => ∀ p, p < x → gm_bt m p = true → s p = nI (gm_cn (gm_bt m) p)) 32 0 a21 (by omega) (fun p q => absurd q (Nat.not_lt_zero _)) ?_ ?_
  · intro n s hs'
    exact pk_le 32 32 (fun _ => k47 s hs') (fun q => absurd q (by omega))
  · intro n x s hx hs' hw
    have rk := gm_cn_le (gm_bt m) x
    refine pk_le 32 x (fun q => absurd q (by omega)) (fun _ => ?_)
    refine ek_if (gm_tst m hx) (fun hb => ?_) (fun hb => ?_)
    · have e2 : gm_cn (gm_bt m) (x + 1) = gm_cn (gm_bt m) x := by
        show gm_cn (gm_bt m) x + (if gm_bt m x then 1 else 0) = _
        rw [hb]
        rfl
      have hw' := hw s (fun p hp hbp => hs' p (by
        have : p ≠ x := fun e => by rw [e, hb] at hbp; exact absurd hbp (by decide)
        omega) hbp)
      rw [e2] at hw'
      exact nm_r (nI_1 x) hw'
    · have hb' : gm_bt m x = true := by
        cases e : gm_bt m x
        · exact absurd e hb
        · rfl
      have e2 : gm_cn (gm_bt m) (x + 1) = gm_cn (gm_bt m) x + 1 := by
        show gm_cn (gm_bt m) x + (if gm_bt m x then 1 else 0) = _
        rw [hb']
        rfl
      have hw' := hw (upd s x (nI (gm_cn (gm_bt m) x))) (fun p hp hbp => by
        by_cases e : p = x
        · rw [e, pk_us]
        · rw [pk_un e]
          exact hs' p (by omega) hbp)
      rw [e2] at hw'
      rw [nI_clamp (show x < 2 ^ 31 by omega), gm_b8 _ (by omega)]
      exact ⟨pk_in x 32 hx, nm_e (nm_r (nI_1 _) (nm_r (nI_1 x) hw'))⟩
end
end
section
/-! collecting young objects -/
def gm_yt (pa : Nat → Nat) (mv : Nat → Int32) : Nat → Nat := fun i => if pa i < 24 then pa i else (mv (pa i - 24)).toNatClampNeg
def gm_ym (pa : Nat → Nat) (D : Nat → Prop) (mv : Nat → Int32) : Nat → Prop := fun i => D i ∧ (pa i < 24 ∨ ∃ q, q < 32 ∧ mv (pa i - 24) = nI q)
def gm_ext (mv mv' : Nat → Int32) : Prop := ∀ y q, q < 32 → mv y = nI q → mv' y = nI q
/-- pr: the places of fields that are done -/
def gm_yi (pa : Nat → Nat) (D : Nat → Prop) (H : gm_H) (o0 y0 : Nat) (pr : Nat → Prop) (o : Nat) (mv b17 b18 b19 : Nat → Int32) : Prop :=
  (o0 ≤ o ∧ o = o0 + gm_cn (fun y => decide (¬ mv y < 0)) 8) ∧
  (∀ y, y < 8 → mv y = -1 ∨ ∃ q, mv y = nI q ∧ o0 ≤ q ∧ q < o ∧ ∃ i, D i ∧ pa i = 24 + y) ∧
  (∀ y y' q, q < 32 → y < 8 → y' < 8 → mv y = nI q → mv y' = nI q → y = y') ∧
  (∀ q, o0 ≤ q → q < o → ∃ y, y < 8 ∧ mv y = nI q) ∧
  (∀ i, D i → 24 ≤ pa i → b17 (pa i) = H.2.1 i ∧ ∀ k, k < 3 → gm_sh pa D (H.2.2 i k) (b18 (3 * pa i + k)) (b19 (3 * pa i + k))) ∧
  (∀ i, gm_ym pa D mv i → b17 (gm_yt pa mv i) = H.2.1 i ∧ ∀ k, k < 3 → (pr (3 * gm_yt pa mv i + k) → gm_sh (gm_yt pa mv) (gm_ym pa D mv) (H.2.2 i k) (b18 (3 * gm_yt pa mv i + k)) (b19 (3 * gm_yt pa mv i + k))) ∧ (¬ pr (3 * gm_yt pa mv i + k) → gm_sh pa D (H.2.2 i k) (b18 (3 * gm_yt pa mv i + k)) (b19 (3 * gm_yt pa mv i + k)))) ∧
  (∀ s, pr s → s < 3 * o)
/-- what holds of the world as it was -/
def gm_y0 (pa : Nat → Nat) (D : Nat → Prop) (H : gm_H) (o0 y0 : Nat) : Prop :=
  o0 + y0 ≤ 16 ∧ y0 ≤ 8 ∧ (∀ i, D i → gm_us o0 y0 (pa i) ∧ ∃ c, c < 4 ∧ H.2.1 i = nI c) ∧ (∀ i j, D i → D j → pa i = pa j → i = j)
section
variable {z : Prop} {P : gm_P} {b : Nat} {pa : Nat → Nat} {D : Nat → Prop} {F : gm_F} {G : Nat → gm_V} {H : gm_H} {C : gm_C} {u : St1} {o0 y0 o : Nat} {pr : Nat → Prop} {mv b17 b18 b19 : Nat → Int32}
theorem gm_yi_o (h0 : gm_y0 pa D H o0 y0) (h : gm_yi pa D H o0 y0 pr o mv b17 b18 b19) : o ≤ o0 + y0 := by
  obtain ⟨⟨h1, h2⟩, h3, _⟩ := h
  obtain ⟨k1, k2, k3, k4⟩ := h0
  have : gm_cn (fun y => decide (¬ mv y < 0)) 8 ≤ y0 := by
    refine gm_cn_lo (fun y hy e => ?_)
    have e' := of_decide_eq_true e
    rcases h3 y hy with q | ⟨q, _, _, _, i, i1, i2⟩
    · rw [q] at e'
      exact absurd (by decide) e'
    · have := (k3 i i1).1
      unfold gm_us at this
      omega
  omega
theorem gm_yi_lt (h0 : gm_y0 pa D H o0 y0) (h : gm_yi pa D H o0 y0 pr o mv b17 b18 b19) {i : Nat} (hi : gm_ym pa D mv i) : gm_yt pa mv i < o ∧ (24 ≤ pa i → o0 ≤ gm_yt pa mv i ∧ mv (pa i - 24) = nI (gm_yt pa mv i)) := by
  have ho := gm_yi_o h0 h
  obtain ⟨⟨h1, h2⟩, h3, _⟩ := h
  obtain ⟨k1, k2, k3, k4⟩ := h0
  obtain ⟨hD, hm⟩ := hi
  have us := (k3 i hD).1
  unfold gm_us at us
  unfold gm_yt
  by_cases e : pa i < 24
  · rw [if_pos e]
    exact ⟨by omega, fun q => absurd q (by omega)⟩
  · rw [if_neg e]
    rcases hm with q | ⟨q, q1, q2⟩
    · exact absurd q e
    · rcases h3 (pa i - 24) (by omega) with w | ⟨q', w1, w2, w3, _⟩
      · rw [q2] at w
        have : nI q < 0 := by rw [w]; decide
        exact absurd this (nI_pos (by omega))
      · rw [w1, nI_clamp (by omega)]
        exact ⟨w3, fun _ => ⟨w2, rfl⟩⟩
theorem gm_yi_inj (h0 : gm_y0 pa D H o0 y0) (h : gm_yi pa D H o0 y0 pr o mv b17 b18 b19) {i j : Nat} (hi : gm_ym pa D mv i) (hj : gm_ym pa D mv j) (e : gm_yt pa mv i = gm_yt pa mv j) : i = j := by
  have li := gm_yi_lt h0 h hi
  have lj := gm_yi_lt h0 h hj
  have usi := (h0.2.2.1 i hi.1).1
  have usj := (h0.2.2.1 j hj.1).1
  have y8 := h0.2.1
  unfold gm_us at usi usj
  refine h0.2.2.2 i j hi.1 hj.1 ?_
  by_cases ei : pa i < 24
  · have ti : gm_yt pa mv i = pa i := if_pos ei
    by_cases ej : pa j < 24
    · have tj : gm_yt pa mv j = pa j := if_pos ej
      omega
    · have := (lj.2 (by omega)).1
      omega
  · by_cases ej : pa j < 24
    · have tj : gm_yt pa mv j = pa j := if_pos ej
      have := (li.2 (by omega)).1
      omega
    · have e1 := (li.2 (by omega)).2
      have e2 := (lj.2 (by omega)).2
      rw [e] at e1
      have ho := gm_yi_o h0 h
      have s16 := h0.1
      have := h.2.2.1 (pa i - 24) (pa j - 24) (gm_yt pa mv j) (by omega) (by omega) (by omega) e1 e2
      omega
theorem gm_yt_ext {mv' : Nat → Int32} (he : gm_ext mv mv') {i : Nat} (hi : gm_ym pa D mv i) : gm_yt pa mv' i = gm_yt pa mv i ∧ gm_ym pa D mv' i := by
  unfold gm_yt
  obtain ⟨hD, hm⟩ := hi
  by_cases e : pa i < 24
  · rw [if_pos e, if_pos e]
    exact ⟨rfl, hD, Or.inl e⟩
  · rw [if_neg e, if_neg e]
    rcases hm with q | ⟨q, q1, q2⟩
    · exact absurd q e
    · rw [he _ q q1 q2, q2]
      exact ⟨rfl, hD, Or.inr ⟨q, q1, he _ q q1 q2⟩⟩
theorem gm_sh_ext {mv' : Nat → Int32} (he : gm_ext mv mv') {v : gm_V} {s n : Int32} (h : gm_sh (gm_yt pa mv) (gm_ym pa D mv) v s n) : gm_sh (gm_yt pa mv') (gm_ym pa D mv') v s n :=
  gm_sh_mono h (fun _ hi => gm_yt_ext he hi)
theorem gm_sh_no {v : gm_V} {s n : Int32} (h : gm_sh pa D v s n) (hs : ¬ s = 2) : gm_sh (gm_yt pa mv) (gm_ym pa D mv) v s n :=
  gm_sh_to h (fun _ => rfl) (fun q => absurd ((gm_sh_s h).trans q) hs)
theorem gm_sh_old {v : gm_V} {s n : Int32} (h : gm_sh pa D v s n) (hs : v.1 = 2 → pa v.2.2 < 24) : gm_sh (gm_yt pa mv) (gm_ym pa D mv) v s n :=
  gm_sh_to h (fun _ => rfl) (fun q e d => ⟨by rw [e]; unfold gm_yt; rw [if_pos (hs q)], d, Or.inl (hs q)⟩)
/-- one more object has moved -/
theorem gm_yi_add (h0 : gm_y0 pa D H o0 y0) (h : gm_yi pa D H o0 y0 pr o mv b17 b18 b19) {i : Nat} (hi : D i) (h24 : 24 ≤ pa i) (hm : mv (pa i - 24) < 0) {c18 c19 : Nat → Int32} (w1 : ∀ k, k < 3 → c18 (3 * o + k) = b18 (3 * pa i + k) ∧ c19 (3 * o + k) = b19 (3 * pa i + k)) (w2 : ∀ q, q < 3 * o ∨ 3 * o + 3 ≤ q → c18 q = b18 q ∧ c19 q = b19 q) :
    gm_yi pa D H o0 y0 pr (o + 1) (upd mv (pa i - 24) (nI o)) (upd b17 o (b17 (pa i))) c18 c19 ∧ gm_ext mv (upd mv (pa i - 24) (nI o)) ∧ gm_ym pa D (upd mv (pa i - 24) (nI o)) i ∧ gm_yt pa (upd mv (pa i - 24) (nI o)) i = o := by
  have ho := gm_yi_o h0 h
  have lts : ∀ {j}, gm_ym pa D mv j → gm_yt pa mv j < o := fun hj => (gm_yi_lt h0 h hj).1
  obtain ⟨⟨h1, h2⟩, h3, h4, h5, h6, h7, h8⟩ := h
  obtain ⟨k1, k2, k3, k4⟩ := h0
  have us := (k3 i hi).1
  unfold gm_us at us
  have hy : pa i - 24 < 8 := by omega
  have hext : gm_ext mv (upd mv (pa i - 24) (nI o)) := by
    intro y q hq e
    by_cases ey : y = pa i - 24
    · rw [← ey, e] at hm
      exact absurd hm (nI_pos (by omega))
    · rw [pk_un ey]
      exact e
  have hnew : gm_yt pa (upd mv (pa i - 24) (nI o)) i = o := by
    unfold gm_yt
    rw [if_neg (by omega), pk_us, nI_clamp (by omega)]
  have hymi : gm_ym pa D (upd mv (pa i - 24) (nI o)) i := ⟨hi, Or.inr ⟨o, by omega, pk_us⟩⟩
  have hback : ∀ j, gm_ym pa D (upd mv (pa i - 24) (nI o)) j → j ≠ i → gm_ym pa D mv j := by
    intro j hj hne
    refine ⟨hj.1, ?_⟩
    rcases hj.2 with q | ⟨q, q1, q2⟩
    · exact Or.inl q
    · by_cases e : pa j < 24
      · exact Or.inl e
      · refine Or.inr ⟨q, q1, ?_⟩
        rw [pk_un (fun w => hne (k4 j i hj.1 hi (by omega)))] at q2
        exact q2
  refine ⟨⟨⟨by omega, ?_⟩, fun y hy8 => ?_, fun y y' q hq32 hy8 hy8' e e' => ?_, fun q q1 q2 => ?_, fun j hj hj24 => ?_, fun j hj => ?_, fun s hs => by have := h8 s hs; omega⟩, hext, hymi, hnew⟩
  · have := gm_cn_set (f := fun y => decide (¬ mv y < 0)) (g := fun y => decide (¬ upd mv (pa i - 24) (nI o) y < 0)) hy (decide_eq_false (fun q => q hm)) (fun y _ => by
      by_cases ey : y = pa i - 24
      · rw [ey, pk_us, decide_eq_true (nI_pos (by omega)), decide_eq_true rfl, Bool.or_true]
      · rw [pk_un ey, decide_eq_false ey, Bool.or_false])
    omega
  · by_cases ey : y = pa i - 24
    · exact Or.inr ⟨o, by rw [ey, pk_us], h1, by omega, i, hi, by omega⟩
    · rw [pk_un ey]
      rcases h3 y hy8 with q | ⟨q, w1, w2, w3, w4⟩
      · exact Or.inl q
      · exact Or.inr ⟨q, w1, w2, by omega, w4⟩
  · by_cases ey : y = pa i - 24
    · by_cases ey' : y' = pa i - 24
      · omega
      · rw [ey, pk_us] at e
        rw [pk_un ey', ← e] at e'
        rcases h3 y' hy8' with w | ⟨q', w1, w2, w3, w4⟩
        · rw [e'] at w
          exact absurd (by rw [w]; decide : nI o < 0) (nI_pos (by omega))
        · rw [e'] at w1
          have := (nI_eq (by omega) (by omega)).mp w1
          omega
    · by_cases ey' : y' = pa i - 24
      · rw [ey', pk_us] at e'
        rw [pk_un ey, ← e'] at e
        rcases h3 y hy8 with w | ⟨q', w1, w2, w3, w4⟩
        · rw [e] at w
          exact absurd (by rw [w]; decide : nI o < 0) (nI_pos (by omega))
        · rw [e] at w1
          have := (nI_eq (by omega) (by omega)).mp w1
          omega
      · rw [pk_un ey] at e
        rw [pk_un ey'] at e'
        exact h4 y y' q hq32 hy8 hy8' e e'
  · by_cases e : q = o
    · exact ⟨pa i - 24, hy, by rw [pk_us, e]⟩
    · obtain ⟨y, y1, y2⟩ := h5 q q1 (by omega)
      refine ⟨y, y1, ?_⟩
      exact hext y q (by omega) y2
  · have := w2 (3 * pa j) (by omega)
    rw [pk_un (by omega)]
    refine ⟨(h6 j hj hj24).1, fun k hk => ?_⟩
    rw [(w2 (3 * pa j + k) (by omega)).1, (w2 (3 * pa j + k) (by omega)).2]
    exact (h6 j hj hj24).2 k hk
  · by_cases ej : j = i
    · rw [ej, hnew, pk_us]
      refine ⟨(h6 i hi h24).1, fun k hk => ⟨fun q => absurd (h8 _ q) (by omega), fun _ => ?_⟩⟩
      rw [(w1 k hk).1, (w1 k hk).2]
      exact (h6 i hi h24).2 k hk
    · have hj' := hback j hj ej
      have lj := lts hj'
      obtain ⟨v1, v2⟩ := h7 j hj'
      rw [(gm_yt_ext hext hj').1, pk_un (by omega)]
      refine ⟨v1, fun k hk => ?_⟩
      rw [(w2 (3 * gm_yt pa mv j + k) (by omega)).1, (w2 (3 * gm_yt pa mv j + k) (by omega)).2]
      exact ⟨fun q => gm_sh_ext hext ((v2 k hk).1 q), (v2 k hk).2⟩
theorem gm_wmoved {post : Int32 → St1 → Prop} {xpr xlv xfc xyu xrm xmk xsc xmd xrs xrn xpc xwc : Int32} {a1 a2 a3 a4 a5 a6 a7 a8 a9 a10 a11 a12 a13 a14 a15 a16 a20 a22 : Nat → Int32} (h0 : gm_y0 pa D H o0 y0) (h : gm_yi pa D H o0 y0 pr o mv b17 b18 b19) {v : gm_V} {n : Int32} (hv : gm_sh pa D v 2 n)
    (hp : ∀ r o' mv' c17 c18 c19, gm_yi pa D H o0 y0 pr o' mv' c17 c18 c19 → gm_ext mv mv' → gm_sh (gm_yt pa mv') (gm_ym pa D mv') v 2 r → post r (xpr, xlv, xfc, nI o', xyu, xrm, xmk, xsc, xmd, xrs, xrn, xpc, xwc, a1, a2, a3, a4, a5, a6, a7, a8, a9, a10, a11, a12, a13, a14, a15, a16, c17, c18, c19, a20, mv', a22)) : wpX_moved post (xpr, xlv, xfc, nI o, xyu, xrm, xmk, xsc, xmd, xrs, xrn, xpc, xwc, a1, a2, a3, a4, a5, a6, a7, a8, a9, a10, a11, a12, a13, a14, a15, a16, b17, b18, b19, a20, mv, a22) n := by
  have hs := gm_sh_s hv
  obtain ⟨g1, g2, g3⟩ := gm_sh_o hv hs.symm
  have ho := gm_yi_o h0 h
  have us := (h0.2.2.1 _ g2).1
  have y8 := h0.2.1
  have s16 := h0.1
  unfold gm_us at us
  subst g1
  unfold wpX_moved
  dsimp only
  refine pk_le 24 (pa v.2.2) (fun q => ?_) (fun q => hp _ o mv b17 b18 b19 h (fun _ _ _ e => e) (gm_sh_old hv (fun _ => q)))
  have e24 : nI (pa v.2.2) - 24 = nI (pa v.2.2 - 24) := pk_sub (b := 24) q
  refine nm_r e24 ?_
  rw [nI_clamp (show pa v.2.2 - 24 < 2 ^ 31 by omega)]
  refine ⟨pk_in (pa v.2.2 - 24) 32 (by omega), br_c (fun hm => nm_r (nI_1 o) ?_) (fun hm => ⟨pk_in (pa v.2.2 - 24) 32 (by omega), ?_⟩)⟩
  · obtain ⟨c, c1, c2⟩ := (h0.2.2.1 _ g2).2
    obtain ⟨x1, x2⟩ := h.2.2.2.2.1 _ g2 q
    refine gm_wcopy (f := pa v.2.2) (t := o) (by omega) (by omega) (by omega) (by rw [x1, c2, gm_b8 c (by omega)]) (fun k hk => gm_sh_8 (x2 k hk)) (fun c18 c19 w1 w2 => ?_)
    refine ⟨pk_in (pa v.2.2 - 24) 32 (by omega), nm_e ?_⟩
    rw [gm_b8 o (by omega)]
    obtain ⟨k1, k2, k3, k4⟩ := gm_yi_add h0 h g2 q hm w1 w2
    refine hp _ _ _ _ _ _ k1 k2 ?_
    rw [g3]
    exact Or.inl ⟨v.2.2, rfl, rfl, by rw [k4], k3⟩
  · rcases h.2.1 (pa v.2.2 - 24) (by omega) with w | ⟨q', w1, w2, w3, w4⟩
    · rw [w] at hm
      exact absurd (by decide) hm
    · refine hp _ o mv b17 b18 b19 h (fun _ _ _ e => e) ?_
      rw [g3, w1]
      exact Or.inl ⟨v.2.2, rfl, rfl, by unfold gm_yt; rw [if_neg (by show ¬ pa v.2.2 < 24; omega), w1, nI_clamp (by omega)], g2, Or.inr ⟨q', by omega, w1⟩⟩
theorem gm_wmoved_2 {post : Int32 → St1 → Prop} {xpr xlv xfc xyu xrm xmk xsc xmd xrs xrn xpc xwc : Int32} {a1 a2 a3 a4 a5 a6 a7 a8 a9 a10 a11 a12 a13 a14 a15 a16 a20 a22 : Nat → Int32} (h0 : gm_y0 pa D H o0 y0) (h : gm_yi pa D H o0 y0 pr o mv b17 b18 b19) {v : gm_V} {n : Int32} (hv : gm_sh pa D v 2 n)
    (hp : ∀ r o' mv' c17 c18 c19, gm_yi pa D H o0 y0 pr o' mv' c17 c18 c19 → gm_ext mv mv' → gm_sh (gm_yt pa mv') (gm_ym pa D mv') v 2 r → post r (xpr, xlv, xfc, nI o', xyu, xrm, xmk, xsc, xmd, xrs, xrn, xpc, xwc, a1, a2, a3, a4, a5, a6, a7, a8, a9, a10, a11, a12, a13, a14, a15, a16, c17, c18, c19, a20, mv', a22)) : wpX_moved_2 post (xpr, xlv, xfc, nI o, xyu, xrm, xmk, xsc, xmd, xrs, xrn, xpc, xwc, a1, a2, a3, a4, a5, a6, a7, a8, a9, a10, a11, a12, a13, a14, a15, a16, b17, b18, b19, a20, mv, a22) n := by
  have hs := gm_sh_s hv
  obtain ⟨g1, g2, g3⟩ := gm_sh_o hv hs.symm
  have ho := gm_yi_o h0 h
  have us := (h0.2.2.1 _ g2).1
  have y8 := h0.2.1
  have s16 := h0.1
  unfold gm_us at us
  subst g1
  unfold wpX_moved_2
  dsimp only
  refine pk_le 24 (pa v.2.2) (fun q => ?_) (fun q => hp _ o mv b17 b18 b19 h (fun _ _ _ e => e) (gm_sh_old hv (fun _ => q)))
  have e24 : nI (pa v.2.2) - 24 = nI (pa v.2.2 - 24) := pk_sub (b := 24) q
  refine nm_r e24 ?_
  rw [nI_clamp (show pa v.2.2 - 24 < 2 ^ 31 by omega)]
  refine ⟨pk_in (pa v.2.2 - 24) 32 (by omega), br_c (fun hm => nm_r (nI_1 o) ?_) (fun hm => ⟨pk_in (pa v.2.2 - 24) 32 (by omega), ?_⟩)⟩
  · obtain ⟨c, c1, c2⟩ := (h0.2.2.1 _ g2).2
    obtain ⟨x1, x2⟩ := h.2.2.2.2.1 _ g2 q
    refine gm_wcopy_2 (f := pa v.2.2) (t := o) (by omega) (by omega) (by omega) (by rw [x1, c2, gm_b8 c (by omega)]) (fun k hk => gm_sh_8 (x2 k hk)) (fun c18 c19 w1 w2 => ?_)
    refine ⟨pk_in (pa v.2.2 - 24) 32 (by omega), nm_e ?_⟩
    rw [gm_b8 o (by omega)]
    obtain ⟨k1, k2, k3, k4⟩ := gm_yi_add h0 h g2 q hm w1 w2
    refine hp _ _ _ _ _ _ k1 k2 ?_
    rw [g3]
    exact Or.inl ⟨v.2.2, rfl, rfl, by rw [k4], k3⟩
  · rcases h.2.1 (pa v.2.2 - 24) (by omega) with w | ⟨q', w1, w2, w3, w4⟩
    · rw [w] at hm
      exact absurd (by decide) hm
    · refine hp _ o mv b17 b18 b19 h (fun _ _ _ e => e) ?_
      rw [g3, w1]
      exact Or.inl ⟨v.2.2, rfl, rfl, by unfold gm_yt; rw [if_neg (by show ¬ pa v.2.2 < 24; omega), w1, nI_clamp (by omega)], g2, Or.inr ⟨q', by omega, w1⟩⟩
theorem gm_wmoved_3 {post : Int32 → St1 → Prop} {xpr xlv xfc xyu xrm xmk xsc xmd xrs xrn xpc xwc : Int32} {a1 a2 a3 a4 a5 a6 a7 a8 a9 a10 a11 a12 a13 a14 a15 a16 a20 a22 : Nat → Int32} (h0 : gm_y0 pa D H o0 y0) (h : gm_yi pa D H o0 y0 pr o mv b17 b18 b19) {v : gm_V} {n : Int32} (hv : gm_sh pa D v 2 n)
    (hp : ∀ r o' mv' c17 c18 c19, gm_yi pa D H o0 y0 pr o' mv' c17 c18 c19 → gm_ext mv mv' → gm_sh (gm_yt pa mv') (gm_ym pa D mv') v 2 r → post r (xpr, xlv, xfc, nI o', xyu, xrm, xmk, xsc, xmd, xrs, xrn, xpc, xwc, a1, a2, a3, a4, a5, a6, a7, a8, a9, a10, a11, a12, a13, a14, a15, a16, c17, c18, c19, a20, mv', a22)) : wpX_moved_3 post (xpr, xlv, xfc, nI o, xyu, xrm, xmk, xsc, xmd, xrs, xrn, xpc, xwc, a1, a2, a3, a4, a5, a6, a7, a8, a9, a10, a11, a12, a13, a14, a15, a16, b17, b18, b19, a20, mv, a22) n := by
  have hs := gm_sh_s hv
  obtain ⟨g1, g2, g3⟩ := gm_sh_o hv hs.symm
  have ho := gm_yi_o h0 h
  have us := (h0.2.2.1 _ g2).1
  have y8 := h0.2.1
  have s16 := h0.1
  unfold gm_us at us
  subst g1
  unfold wpX_moved_3
  dsimp only
  refine pk_le 24 (pa v.2.2) (fun q => ?_) (fun q => hp _ o mv b17 b18 b19 h (fun _ _ _ e => e) (gm_sh_old hv (fun _ => q)))
  have e24 : nI (pa v.2.2) - 24 = nI (pa v.2.2 - 24) := pk_sub (b := 24) q
  refine nm_r e24 ?_
  rw [nI_clamp (show pa v.2.2 - 24 < 2 ^ 31 by omega)]
  refine ⟨pk_in (pa v.2.2 - 24) 32 (by omega), br_c (fun hm => nm_r (nI_1 o) ?_) (fun hm => ⟨pk_in (pa v.2.2 - 24) 32 (by omega), ?_⟩)⟩
  · obtain ⟨c, c1, c2⟩ := (h0.2.2.1 _ g2).2
    obtain ⟨x1, x2⟩ := h.2.2.2.2.1 _ g2 q
    refine gm_wcopy_3 (f := pa v.2.2) (t := o) (by omega) (by omega) (by omega) (by rw [x1, c2, gm_b8 c (by omega)]) (fun k hk => gm_sh_8 (x2 k hk)) (fun c18 c19 w1 w2 => ?_)
    refine ⟨pk_in (pa v.2.2 - 24) 32 (by omega), nm_e ?_⟩
    rw [gm_b8 o (by omega)]
    obtain ⟨k1, k2, k3, k4⟩ := gm_yi_add h0 h g2 q hm w1 w2
    refine hp _ _ _ _ _ _ k1 k2 ?_
    rw [g3]
    exact Or.inl ⟨v.2.2, rfl, rfl, by rw [k4], k3⟩
  · rcases h.2.1 (pa v.2.2 - 24) (by omega) with w | ⟨q', w1, w2, w3, w4⟩
    · rw [w] at hm
      exact absurd (by decide) hm
    · refine hp _ o mv b17 b18 b19 h (fun _ _ _ e => e) ?_
      rw [g3, w1]
      exact Or.inl ⟨v.2.2, rfl, rfl, by unfold gm_yt; rw [if_neg (by show ¬ pa v.2.2 < 24; omega), w1, nI_clamp (by omega)], g2, Or.inr ⟨q', by omega, w1⟩⟩
theorem gm_wmoved_4 {post : Int32 → St1 → Prop} {xpr xlv xfc xyu xrm xmk xsc xmd xrs xrn xpc xwc : Int32} {a1 a2 a3 a4 a5 a6 a7 a8 a9 a10 a11 a12 a13 a14 a15 a16 a20 a22 : Nat → Int32} (h0 : gm_y0 pa D H o0 y0) (h : gm_yi pa D H o0 y0 pr o mv b17 b18 b19) {v : gm_V} {n : Int32} (hv : gm_sh pa D v 2 n)
    (hp : ∀ r o' mv' c17 c18 c19, gm_yi pa D H o0 y0 pr o' mv' c17 c18 c19 → gm_ext mv mv' → gm_sh (gm_yt pa mv') (gm_ym pa D mv') v 2 r → post r (xpr, xlv, xfc, nI o', xyu, xrm, xmk, xsc, xmd, xrs, xrn, xpc, xwc, a1, a2, a3, a4, a5, a6, a7, a8, a9, a10, a11, a12, a13, a14, a15, a16, c17, c18, c19, a20, mv', a22)) : wpX_moved_4 post (xpr, xlv, xfc, nI o, xyu, xrm, xmk, xsc, xmd, xrs, xrn, xpc, xwc, a1, a2, a3, a4, a5, a6, a7, a8, a9, a10, a11, a12, a13, a14, a15, a16, b17, b18, b19, a20, mv, a22) n := by
  have hs := gm_sh_s hv
  obtain ⟨g1, g2, g3⟩ := gm_sh_o hv hs.symm
  have ho := gm_yi_o h0 h
  have us := (h0.2.2.1 _ g2).1
  have y8 := h0.2.1
  have s16 := h0.1
  unfold gm_us at us
  subst g1
  unfold wpX_moved_4
  dsimp only
  refine pk_le 24 (pa v.2.2) (fun q => ?_) (fun q => hp _ o mv b17 b18 b19 h (fun _ _ _ e => e) (gm_sh_old hv (fun _ => q)))
  have e24 : nI (pa v.2.2) - 24 = nI (pa v.2.2 - 24) := pk_sub (b := 24) q
  refine nm_r e24 ?_
  rw [nI_clamp (show pa v.2.2 - 24 < 2 ^ 31 by omega)]
  refine ⟨pk_in (pa v.2.2 - 24) 32 (by omega), br_c (fun hm => nm_r (nI_1 o) ?_) (fun hm => ⟨pk_in (pa v.2.2 - 24) 32 (by omega), ?_⟩)⟩
  · obtain ⟨c, c1, c2⟩ := (h0.2.2.1 _ g2).2
    obtain ⟨x1, x2⟩ := h.2.2.2.2.1 _ g2 q
    refine gm_wcopy_4 (f := pa v.2.2) (t := o) (by omega) (by omega) (by omega) (by rw [x1, c2, gm_b8 c (by omega)]) (fun k hk => gm_sh_8 (x2 k hk)) (fun c18 c19 w1 w2 => ?_)
    refine ⟨pk_in (pa v.2.2 - 24) 32 (by omega), nm_e ?_⟩
    rw [gm_b8 o (by omega)]
    obtain ⟨k1, k2, k3, k4⟩ := gm_yi_add h0 h g2 q hm w1 w2
    refine hp _ _ _ _ _ _ k1 k2 ?_
    rw [g3]
    exact Or.inl ⟨v.2.2, rfl, rfl, by rw [k4], k3⟩
  · rcases h.2.1 (pa v.2.2 - 24) (by omega) with w | ⟨q', w1, w2, w3, w4⟩
    · rw [w] at hm
      exact absurd (by decide) hm
    · refine hp _ o mv b17 b18 b19 h (fun _ _ _ e => e) ?_
      rw [g3, w1]
      exact Or.inl ⟨v.2.2, rfl, rfl, by unfold gm_yt; rw [if_neg (by show ¬ pa v.2.2 < 24; omega), w1, nI_clamp (by omega)], g2, Or.inr ⟨q', by omega, w1⟩⟩
end
end
section
section
variable {z : Prop} {P : gm_P} {b : Nat} {pa : Nat → Nat} {D : Nat → Prop} {F : gm_F} {G : Nat → gm_V} {H : gm_H} {C : gm_C} {u : St1} {o0 y0 o : Nat} {pr : Nat → Prop} {mv b17 b18 b19 : Nat → Int32}
theorem gm_pr_iff {p : Prop} {a l t : Nat} : (p ∨ (a ≤ t ∧ t < a + l + 1)) ↔ ((p ∨ (a ≤ t ∧ t < a + l)) ∨ t = a + l) := by
  constructor
  · rintro (w | w)
    · exact Or.inl (Or.inl w)
    · by_cases e : t = a + l
      · exact Or.inr e
      · exact Or.inl (Or.inr (by omega))
  · rintro ((w | w) | w)
    · exact Or.inl w
    · exact Or.inr (by omega)
    · exact Or.inr (by omega)
theorem gm_yi_pr {pr' : Nat → Prop} (h : gm_yi pa D H o0 y0 pr o mv b17 b18 b19) (e : ∀ t, pr t ↔ pr' t) : gm_yi pa D H o0 y0 pr' o mv b17 b18 b19 := by
  have e2 : pr = pr' := funext (fun t => propext (e t))
  rw [← e2]
  exact h
theorem gm_ext_t {m1 m2 m3 : Nat → Int32} (h1 : gm_ext m1 m2) (h2 : gm_ext m2 m3) : gm_ext m1 m3 := fun y q hq e => h2 y q hq (h1 y q hq e)
theorem gm_yi_set (h0 : gm_y0 pa D H o0 y0) (h : gm_yi pa D H o0 y0 pr o mv b17 b18 b19) {i l : Nat} (hi : gm_ym pa D mv i) (hl : l < 3) {r : Int32} (hr : gm_sh (gm_yt pa mv) (gm_ym pa D mv) (H.2.2 i l) (b18 (3 * gm_yt pa mv i + l)) r) {pr' : Nat → Prop} (hpr : ∀ t, pr' t ↔ pr t ∨ t = 3 * gm_yt pa mv i + l) : gm_yi pa D H o0 y0 pr' o mv b17 b18 (upd b19 (3 * gm_yt pa mv i + l) r) := by
  have ho := gm_yi_o h0 h
  have li := (gm_yi_lt h0 h hi).1
  have inj := fun {j : Nat} (hj : gm_ym pa D mv j) => gm_yi_inj h0 h hj hi
  have s16 := h0.1
  obtain ⟨h1, h3, h4, h5, h6, h7, h8⟩ := h
  refine ⟨h1, h3, h4, h5, fun j hj hj24 => ?_, fun j hj => ?_, fun s hs => ?_⟩
  · refine ⟨(h6 j hj hj24).1, fun k hk => ?_⟩
    rw [pk_un (by omega)]
    exact (h6 j hj hj24).2 k hk
  · obtain ⟨v1, v2⟩ := h7 j hj
    refine ⟨v1, fun k hk => ?_⟩
    by_cases ej : j = i
    · rw [ej] at v2 ⊢
      by_cases ek : k = l
      · rw [ek, pk_us]
        exact ⟨fun _ => hr, fun q => absurd ((hpr _).mpr (Or.inr rfl)) q⟩
      · rw [pk_un (by omega)]
        have e2 : pr' (3 * gm_yt pa mv i + k) ↔ pr (3 * gm_yt pa mv i + k) := (hpr _).trans ⟨fun q => q.elim id (fun w => absurd w (by omega)), Or.inl⟩
        rw [e2]
        exact v2 k hk
    · have ne : gm_yt pa mv j ≠ gm_yt pa mv i := fun q => ej (inj hj q)
      rw [pk_un (by omega)]
      have e2 : pr' (3 * gm_yt pa mv j + k) ↔ pr (3 * gm_yt pa mv j + k) := (hpr _).trans ⟨fun q => q.elim id (fun w => absurd w (by omega)), Or.inl⟩
      rw [e2]
      exact v2 k hk
  · rcases (hpr s).mp hs with q | q
    · exact h8 s q
    · omega
theorem gm_wmf {post : St1 → Prop} {xpr xlv xfc xyu xrm xmk xsc xmd xrs xrn xpc xwc : Int32} {a1 a2 a3 a4 a5 a6 a7 a8 a9 a10 a11 a12 a13 a14 a15 a16 a20 a22 : Nat → Int32} (h0 : gm_y0 pa D H o0 y0) (h : gm_yi pa D H o0 y0 pr o mv b17 b18 b19) {i q : Nat} (hi : gm_ym pa D mv i) (hq : gm_yt pa mv i = q) (hpr : ∀ k, k < 3 → ¬ pr (3 * q + k))
    (hp : ∀ o' mv' c17 c18 c19, gm_yi pa D H o0 y0 (fun s => pr s ∨ (3 * q ≤ s ∧ s < 3 * q + 3)) o' mv' c17 c18 c19 → gm_ext mv mv' → post (xpr, xlv, xfc, nI o', xyu, xrm, xmk, xsc, xmd, xrs, xrn, xpc, xwc, a1, a2, a3, a4, a5, a6, a7, a8, a9, a10, a11, a12, a13, a14, a15, a16, c17, c18, c19, a20, mv', a22)) : wpX_moveFields post (xpr, xlv, xfc, nI o, xyu, xrm, xmk, xsc, xmd, xrs, xrn, xpc, xwc, a1, a2, a3, a4, a5, a6, a7, a8, a9, a10, a11, a12, a13, a14, a15, a16, b17, b18, b19, a20, mv, a22) (nI q) := by
  have s16 := h0.1
  have q16 : q < 16 := by
    have l1 := (gm_yi_lt h0 h hi).1
    have l2 := gm_yi_o h0 h
    omega
  unfold wpX_moveFields
  dsimp only
  refine nm_r gm_m3 ?_
  refine pk_loop (fun n k (s : Nat × (Nat → Int32) × (Nat → Int32) × (Nat → Int32) × (Nat → Int32)) => wX_moveFields_4 post (nI q) n (nI k) xpr xlv xfc (nI s.1) xyu xrm xmk xsc xmd xrs xrn xpc xwc a1 a2 a3 a4 a5 a6 a7 a8 a9 a10 a11 a12 a13 a14 a15 a16 s.2.2.1 s.2.2.2.1 s.2.2.2.2 a20 s.2.1 a22)
    (fun k s => 3 * q ≤ k ∧ gm_yi pa D H o0 y0 (fun t => pr t ∨ (3 * q ≤ t ∧ t < k)) s.1 s.2.1 s.2.2.1 s.2.2.2.1 s.2.2.2.2 ∧ gm_ext mv s.2.1) (3 * q + 3) (3 * q) (o, mv, b17, b18, b19) (by omega) ⟨Nat.le_refl _, gm_yi_pr h (fun t => ⟨Or.inl, fun w => w.elim id (fun w => absurd w.2 (by omega))⟩), fun _ _ _ e => e⟩ ?_ ?_
  · intro n s hs
    exact pk_le (3 * q + 3) (3 * q + 3) (fun _ => hp s.1 s.2.1 s.2.2.1 s.2.2.2.1 s.2.2.2.2 hs.2.1 hs.2.2) (fun w => absurd w (by omega)) gm_i33
  · intro n k s hk hs hw
    obtain ⟨o1, m1, c17, c18, c19⟩ := s
    obtain ⟨hk0, hY, hE⟩ := hs
    dsimp only at hY hE
    have hi1 := gm_yt_ext hE hi
    have hq1 : gm_yt pa m1 i = q := hi1.1.trans hq
    have ho := gm_yi_o h0 hY
    have lq := (gm_yi_lt h0 hY hi1.2).1
    obtain ⟨l, rfl⟩ : ∃ l, k = 3 * q + l := ⟨k - 3 * q, by omega⟩
    have hl : l < 3 := by omega
    have raw := ((hY.2.2.2.2.2.1 i hi1.2).2 l hl).2 (by
      rw [hq1]
      exact fun w => w.elim (hpr l hl) (fun w => absurd w.2 (by omega)))
    rw [hq1] at raw
    refine pk_le (3 * q + 3) (3 * q + l) (fun w => absurd w (by omega)) (fun _ => ⟨pk_in (3 * q + l) 96 (by omega), ?_⟩) gm_i33
    dsimp only
    rw [nI_clamp (show 3 * q + l < 2 ^ 31 by omega)]
    refine br_c (fun e => ⟨pk_in (3 * q + l) 96 (by omega), ?_⟩) (fun e => nm_r (nI_1 _) (hw (o1, m1, c17, c18, c19) ⟨by omega, ?_, hE⟩))
    · rw [e] at raw
      refine gm_wmoved h0 hY raw (fun r o2 m2 d17 d18 d19 hY2 hE2 hr => ?_)
      have hi2 := gm_yt_ext hE2 hi1.2
      have hq2 : gm_yt pa m2 i = q := hi2.1.trans hq1
      have raw2 := ((hY2.2.2.2.2.2.1 i hi2.2).2 l hl).2 (by
        rw [hq2]
        exact fun w => w.elim (hpr l hl) (fun w => absurd w.2 (by omega)))
      rw [hq2] at raw2
      have e2 : d18 (3 * q + l) = 2 := (gm_sh_s raw2).trans ((gm_sh_s raw).symm)
      have hr2 : gm_sh (gm_yt pa m2) (gm_ym pa D m2) (H.2.2 i l) (d18 (3 * gm_yt pa m2 i + l)) r := by
        rw [hq2, e2]
        exact hr
      have hY3 := gm_yi_set h0 hY2 hi2.2 hl hr2 (pr' := fun t => pr t ∨ (3 * q ≤ t ∧ t < 3 * q + l + 1)) (fun t => by rw [hq2]; exact gm_pr_iff)
      rw [hq2] at hY3
      exact ⟨pk_in (3 * q + l) 96 (by omega), nm_e (nm_r (nI_1 _) (hw (o2, m2, d17, d18, _) ⟨by omega, hY3, gm_ext_t hE hE2⟩))⟩
    · have hr2 : gm_sh (gm_yt pa m1) (gm_ym pa D m1) (H.2.2 i l) (c18 (3 * gm_yt pa m1 i + l)) (c19 (3 * q + l)) := by
        rw [hq1]
        exact gm_sh_no raw e
      have hY3 := gm_yi_set h0 hY hi1.2 hl hr2 (pr' := fun t => pr t ∨ (3 * q ≤ t ∧ t < 3 * q + l + 1)) (fun t => by rw [hq1]; exact gm_pr_iff)
      rw [hq1] at hY3
      have e3 : upd c19 (3 * q + l) (c19 (3 * q + l)) = c19 := by
        funext t
        by_cases et : t = 3 * q + l
        · rw [et, pk_us]
        · rw [pk_un et]
      rw [e3] at hY3
      exact hY3
end
end
section
section
variable {z : Prop} {P : gm_P} {b : Nat} {pa : Nat → Nat} {D : Nat → Prop} {F : gm_F} {G : Nat → gm_V} {H : gm_H} {C : gm_C} {u : St1} {o0 y0 o : Nat} {pr : Nat → Prop} {mv b17 b18 b19 : Nat → Int32}
/-- the roots that are done -/
def gm_yr (pa : Nat → Nat) (D : Nat → Prop) (F : gm_F) (G : Nat → gm_V) (mv : Nat → Int32) (a9 b10 a12 b13 a15 b16 : Nat → Int32) : Prop :=
  gm_gl (gm_yt pa mv) (gm_ym pa D mv) G a9 b10 ∧ (∀ l, l < 4 * F.1 → gm_sh (gm_yt pa mv) (gm_ym pa D mv) (F.2.2.2.1 l) (a12 l) (b13 l)) ∧ (∀ f k, f < F.1 → k < F.2.2.1 f → gm_sh (gm_yt pa mv) (gm_ym pa D mv) (F.2.2.2.2 (6 * f + k)) (a15 (6 * f + k)) (b16 (6 * f + k)))
theorem gm_yr_e {mv' a9 b10 a12 b13 a15 b16 : Nat → Int32} (h : gm_yr pa D F G mv a9 b10 a12 b13 a15 b16) (he : gm_ext mv mv') : gm_yr pa D F G mv' a9 b10 a12 b13 a15 b16 :=
  ⟨fun g hg => gm_sh_ext he (h.1 g hg), fun l hl => gm_sh_ext he (h.2.1 l hl), fun f k hf hk => gm_sh_ext he (h.2.2 f k hf hk)⟩
theorem gm_wy206 {post : St1 → Prop} {xpr xlv xfc xyu xrm xmk xsc xmd xrs xrn xpc xwc : Int32} {a1 a2 a3 a4 a5 a6 a7 a8 a9 a10 a11 a12 a13 a14 a15 a16 a20 a22 : Nat → Int32} (h0 : gm_y0 pa D H o0 y0) (hix : ∀ i, D i → i < H.1) (hrem : ∀ i k, D i → pa i < 24 → k < 3 → (H.2.2 i k).1 = 2 → 24 ≤ pa (H.2.2 i k).2.2 → gm_bt xrm (pa i) = true) (hsur : ∀ p, gm_us o0 y0 p → ∃ i, D i ∧ pa i = p)
    (hp : ∀ o' mv' c17 c18 c19, o' ≤ o0 + y0 → gm_yr pa D F G mv' a9 a10 a12 a13 a15 a16 → gm_hq (gm_yt pa mv') (gm_ym pa D mv') H o' 0 0 c17 c18 c19 → post (xpr, xlv, xfc, nI o', 0, 0, xmk, xsc, xmd, xrs, xrn, xpc, xwc, a1, a2, a3, a4, a5, a6, a7, a8, a9, a10, a11, a12, a13, a14, a15, a16, c17, c18, c19, a20, mv', a22))
    (h : gm_yi pa D H o0 y0 (fun t => t < 3 * o0 ∧ gm_bt xrm (t / 3) = true) o mv b17 b18 b19) (hr : gm_yr pa D F G mv a9 a10 a12 a13 a15 a16) : ∃ n, wX_collectYoung_206 post n (nI o0) xpr xlv xfc (nI o) xyu xrm xmk xsc xmd xrs xrn xpc xwc a1 a2 a3 a4 a5 a6 a7 a8 a9 a10 a11 a12 a13 a14 a15 a16 b17 b18 b19 a20 mv a22 := by
  have s16 := h0.1
  refine loop_m (fun n (s : Nat × Nat × (Nat → Int32) × (Nat → Int32) × (Nat → Int32) × (Nat → Int32)) => wX_collectYoung_206 post n (nI s.1) xpr xlv xfc (nI s.2.1) xyu xrm xmk xsc xmd xrs xrn xpc xwc a1 a2 a3 a4 a5 a6 a7 a8 a9 a10 a11 a12 a13 a14 a15 a16 s.2.2.2.1 s.2.2.2.2.1 s.2.2.2.2.2 a20 s.2.2.1 a22)
    (fun s => o0 ≤ s.1 ∧ s.1 ≤ s.2.1 ∧ gm_yi pa D H o0 y0 (fun t => (t < 3 * o0 ∧ gm_bt xrm (t / 3) = true) ∨ (3 * o0 ≤ t ∧ t < 3 * s.1)) s.2.1 s.2.2.1 s.2.2.2.1 s.2.2.2.2.1 s.2.2.2.2.2 ∧ gm_yr pa D F G s.2.2.1 a9 a10 a12 a13 a15 a16) (fun s => 24 - s.1) ?_ (o0, o, mv, b17, b18, b19) ⟨Nat.le_refl _, h.1.1, gm_yi_pr h (fun t => ⟨Or.inl, fun w => w.elim id (fun w => absurd w.2 (by have := w.1; show ¬ t < 3 * o0; omega))⟩), hr⟩
  intro n s hs hw
  obtain ⟨x, o1, m1, c17, c18, c19⟩ := s
  obtain ⟨hx0, hx1, hY, hR⟩ := hs
  dsimp only at hx0 hx1 hY hR
  have ho := gm_yi_o h0 hY
  refine pk_le o1 x (fun q => ?_) (fun q => ?_)
  · have ex : x = o1 := by omega
    subst ex
    refine hp x m1 c17 c18 c19 ho hR ⟨by omega, by omega, fun i hi => ?_, fun i j hi hj e => gm_yi_inj h0 hY hi hj e, fun p hp => ?_, fun i k hi _ hk h2 h24 => ?_⟩
    · obtain ⟨v1, v2⟩ := hY.2.2.2.2.2.1 i hi
      have li := gm_yi_lt h0 hY hi
      have us := (h0.2.2.1 i hi.1).1
      unfold gm_us at us
      refine ⟨hix i hi.1, Or.inl li.1, v1, (h0.2.2.1 i hi.1).2, fun k hk => ?_⟩
      by_cases e : pa i < 24
      · have et : gm_yt pa m1 i = pa i := if_pos e
        by_cases eb : gm_bt xrm (pa i) = true
        · refine (v2 k hk).1 (Or.inl ⟨by omega, ?_⟩)
          rw [et, show (3 * pa i + k) / 3 = pa i by omega]
          exact eb
        · refine gm_sh_old ((v2 k hk).2 ?_) (fun h2 => ?_)
          · rw [et]
            rintro (w | w)
            · rw [show (3 * pa i + k) / 3 = pa i by omega] at w
              exact eb w.2
            · omega
          · by_cases e24 : pa (H.2.2 i k).2.2 < 24
            · exact e24
            · exact absurd (hrem i k hi.1 e hk h2 (by omega)) eb
      · have l2 := (li.2 (by omega)).1
        exact (v2 k hk).1 (Or.inr ⟨by omega, by omega⟩)
    · have hp' : p < x := by
        rcases hp with q | q
        · exact q
        · omega
      by_cases e : p < o0
      · obtain ⟨i, i1, i2⟩ := hsur p (Or.inl e)
        exact ⟨i, ⟨i1, Or.inl (by omega)⟩, by unfold gm_yt; rw [if_pos (by omega)]; exact i2⟩
      · obtain ⟨y, y1, y2⟩ := hY.2.2.2.1 p (by omega) hp'
        rcases hY.2.1 y y1 with w | ⟨q', w1, w2, w3, i, i1, i2⟩
        · rw [y2] at w
          exact absurd (by rw [w]; decide : nI p < 0) (nI_pos (by omega))
        · refine ⟨i, ⟨i1, Or.inr ⟨p, by omega, ?_⟩⟩, ?_⟩
          · rw [i2, Nat.add_sub_cancel_left]
            exact y2
          · unfold gm_yt
            rw [if_neg (by omega), i2, Nat.add_sub_cancel_left, y2, nI_clamp (by omega)]
    · obtain ⟨v1, v2⟩ := hY.2.2.2.2.2.1 i hi
      have hid : gm_ym pa D m1 (H.2.2 i k).2.2 ∨ pa (H.2.2 i k).2.2 < 24 := by
        by_cases e24 : pa (H.2.2 i k).2.2 < 24
        · exact Or.inr e24
        · by_cases e : pa i < 24
          · have et : gm_yt pa m1 i = pa i := if_pos e
            have us := (h0.2.2.1 i hi.1).1
            unfold gm_us at us
            have eb := hrem i k hi.1 e hk h2 (by omega)
            have hsh := (v2 k hk).1 (Or.inl ⟨by omega, by rw [et, show (3 * pa i + k) / 3 = pa i by omega]; exact eb⟩)
            exact Or.inl (gm_sh_o hsh h2).2.1
          · have li := gm_yi_lt h0 hY hi
            have l2 := (li.2 (by omega)).1
            have hsh := (v2 k hk).1 (Or.inr ⟨by omega, by omega⟩)
            exact Or.inl (gm_sh_o hsh h2).2.1
      rcases hid with hid | hid
      · have := (gm_yi_lt h0 hY hid).1
        omega
      · have : gm_yt pa m1 (H.2.2 i k).2.2 = pa (H.2.2 i k).2.2 := if_pos hid
        omega
  · obtain ⟨y, y1, y2⟩ := hY.2.2.2.1 x hx0 q
    rcases hY.2.1 y y1 with w | ⟨q', w1, w2, w3, i, i1, i2⟩
    · rw [y2] at w
      exact absurd (by rw [w]; decide : nI x < 0) (nI_pos (by omega))
    · have hi : gm_ym pa D m1 i := ⟨i1, Or.inr ⟨x, by omega, by rw [i2, Nat.add_sub_cancel_left]; exact y2⟩⟩
      have hq : gm_yt pa m1 i = x := by
        unfold gm_yt
        rw [if_neg (by omega), i2, Nat.add_sub_cancel_left, y2, nI_clamp (by omega)]
      refine gm_wmf h0 hY hi hq (fun k hk => ?_) (fun o2 m2 d17 d18 d19 hY2 hE2 => nm_r (nI_1 x) (hw (x + 1, o2, m2, d17, d18, d19) ⟨by omega, ?_, gm_yi_pr hY2 (fun t => ?_), gm_yr_e hR hE2⟩ (by show 24 - (x + 1) < 24 - x; omega)))
      · rintro (w | w)
        · omega
        · omega
      · have := hY2.2.2.2.2.2.2 (3 * x + 2) (Or.inr ⟨by omega, by omega⟩)
        show x + 1 ≤ o2
        omega
      · constructor
        · rintro ((w | w) | w)
          · exact Or.inl w
          · exact Or.inr ⟨w.1, by show t < 3 * (x + 1); omega⟩
          · exact Or.inr ⟨by omega, by show t < 3 * (x + 1); omega⟩
        · rintro (w | w)
          · exact Or.inl (Or.inl w)
          · have w2 : t < 3 * (x + 1) := w.2
            by_cases e : t < 3 * x
            · exact Or.inl (Or.inr ⟨w.1, e⟩)
            · exact Or.inr ⟨by omega, by omega⟩
theorem gm_wy179 {post : St1 → Prop} {xpr xlv xfc xyu xrm xmk xsc xmd xrs xrn xpc xwc : Int32} {a1 a2 a3 a4 a5 a6 a7 a8 a9 a10 a11 a12 a13 a14 a15 a16 a20 a22 : Nat → Int32} (h0 : gm_y0 pa D H o0 y0) (hix : ∀ i, D i → i < H.1) (hrem : ∀ i k, D i → pa i < 24 → k < 3 → (H.2.2 i k).1 = 2 → 24 ≤ pa (H.2.2 i k).2.2 → gm_bt xrm (pa i) = true) (hsur : ∀ p, gm_us o0 y0 p → ∃ i, D i ∧ pa i = p)
    (hp : ∀ o' mv' c17 c18 c19, o' ≤ o0 + y0 → gm_yr pa D F G mv' a9 a10 a12 a13 a15 a16 → gm_hq (gm_yt pa mv') (gm_ym pa D mv') H o' 0 0 c17 c18 c19 → post (xpr, xlv, xfc, nI o', 0, 0, xmk, xsc, xmd, xrs, xrn, xpc, xwc, a1, a2, a3, a4, a5, a6, a7, a8, a9, a10, a11, a12, a13, a14, a15, a16, c17, c18, c19, a20, mv', a22))
    (h : gm_yi pa D H o0 y0 (fun _ => False) o mv b17 b18 b19) (hr : gm_yr pa D F G mv a9 a10 a12 a13 a15 a16) : ∃ n, wX_collectYoung_179 post (nI o0) n 0 xpr xlv xfc (nI o) xyu xrm xmk xsc xmd xrs xrn xpc xwc a1 a2 a3 a4 a5 a6 a7 a8 a9 a10 a11 a12 a13 a14 a15 a16 b17 b18 b19 a20 mv a22 := by
  have s16 := h0.1
  refine pk_loop (fun n x (s : Nat × (Nat → Int32) × (Nat → Int32) × (Nat → Int32) × (Nat → Int32)) => wX_collectYoung_179 post (nI o0) n (nI x) xpr xlv xfc (nI s.1) xyu xrm xmk xsc xmd xrs xrn xpc xwc a1 a2 a3 a4 a5 a6 a7 a8 a9 a10 a11 a12 a13 a14 a15 a16 s.2.2.1 s.2.2.2.1 s.2.2.2.2 a20 s.2.1 a22)
    (fun x s => gm_yi pa D H o0 y0 (fun t => t < 3 * x ∧ gm_bt xrm (t / 3) = true) s.1 s.2.1 s.2.2.1 s.2.2.2.1 s.2.2.2.2 ∧ gm_yr pa D F G s.2.1 a9 a10 a12 a13 a15 a16) o0 0 (o, mv, b17, b18, b19) (by omega) ⟨gm_yi_pr h (fun t => ⟨fun w => absurd w id, fun w => absurd w.1 (by omega)⟩), hr⟩ ?_ ?_
  · intro n s hs
    exact pk_le o0 o0 (fun _ => gm_wy206 h0 hix hrem hsur hp hs.1 hs.2) (fun q => absurd q (by omega))
  · intro n x s hx hs hw
    obtain ⟨o1, m1, c17, c18, c19⟩ := s
    obtain ⟨hY, hR⟩ := hs
    dsimp only at hY hR
    refine pk_le o0 x (fun q => absurd q (by omega)) (fun _ => ?_)
    refine ek_if (gm_tsts xrm (show x < 32 by omega)) (fun hb => nm_r (nI_1 x) (hw (o1, m1, c17, c18, c19) ⟨gm_yi_pr hY (fun t => ?_), hR⟩)) (fun hb => ?_)
    · constructor
      · exact fun w => ⟨by omega, w.2⟩
      · intro w
        refine ⟨?_, w.2⟩
        have w1 := w.1
        by_cases e : t / 3 = x
        · have w2 := w.2
          rw [e, hb] at w2
          exact absurd w2 (by decide)
        · omega
    · have hb' : gm_bt xrm x = true := by
        cases e : gm_bt xrm x
        · exact absurd e hb
        · rfl
      obtain ⟨i, i1, i2⟩ := hsur x (Or.inl hx)
      have hi : gm_ym pa D m1 i := ⟨i1, Or.inl (by omega)⟩
      have hq : gm_yt pa m1 i = x := by
        unfold gm_yt
        rw [if_pos (by omega)]
        exact i2
      refine gm_wmf h0 hY hi hq (fun k hk w => absurd w.1 (by omega)) (fun o2 m2 d17 d18 d19 hY2 hE2 => nm_r (nI_1 x) (hw (o2, m2, d17, d18, d19) ⟨gm_yi_pr hY2 (fun t => ?_), gm_yr_e hR hE2⟩))
      constructor
      · rintro (w | w)
        · exact ⟨by omega, w.2⟩
        · refine ⟨by omega, ?_⟩
          rw [show t / 3 = x by omega]
          exact hb'
      · intro w
        by_cases e : t < 3 * x
        · exact Or.inl ⟨e, w.2⟩
        · exact Or.inr ⟨by omega, by omega⟩
end
end
section
section
variable {z : Prop} {P : gm_P} {b : Nat} {pa : Nat → Nat} {D : Nat → Prop} {F : gm_F} {G : Nat → gm_V} {H : gm_H} {C : gm_C} {u : St1} {o0 y0 o : Nat} {pr : Nat → Prop} {mv b17 b18 b19 : Nat → Int32}
theorem gm_wy111 {post : St1 → Prop} {xpr xlv xfc xyu xrm xmk xsc xmd xrs xrn xpc xwc : Int32} {a1 a2 a3 a4 a5 a6 a7 a8 a9 a11 a12 a13 a14 a15 a16 a20 a22 : Nat → Int32} (h0 : gm_y0 pa D H o0 y0) (hf : gm_fr pa D F xfc a11 a12 a13 a14 a15 a16) {b13 b10 : Nat → Int32}
    (hp : ∀ o' mv' c16 c17 c18 c19, gm_yi pa D H o0 y0 (fun _ => False) o' mv' c17 c18 c19 → gm_yr pa D F G mv' a9 b10 a12 b13 a15 c16 → ∃ n, wX_collectYoung_179 post (nI o0) n 0 xpr xlv xfc (nI o') xyu xrm xmk xsc xmd xrs xrn xpc xwc a1 a2 a3 a4 a5 a6 a7 a8 a9 b10 a11 a12 b13 a14 a15 c16 c17 c18 c19 a20 mv' a22)
    (h : gm_yi pa D H o0 y0 (fun _ => False) o mv b17 b18 b19) (hg : gm_gl (gm_yt pa mv) (gm_ym pa D mv) G a9 b10) (hl : ∀ l, l < 4 * F.1 → gm_sh (gm_yt pa mv) (gm_ym pa D mv) (F.2.2.2.1 l) (a12 l) (b13 l)) : ∃ n, wX_collectYoung_111 post (nI o0) n 0 xpr xlv xfc (nI o) xyu xrm xmk xsc xmd xrs xrn xpc xwc a1 a2 a3 a4 a5 a6 a7 a8 a9 b10 a11 a12 b13 a14 a15 a16 b17 b18 b19 a20 mv a22 := by
  have e1 : xfc = nI F.1 := hf.1
  have hf10 := hf.2.1
  subst e1
  refine pk_loop (fun n f (s : Nat × (Nat → Int32) × (Nat → Int32) × (Nat → Int32) × (Nat → Int32) × (Nat → Int32)) => wX_collectYoung_111 post (nI o0) n (nI f) xpr xlv (nI F.1) (nI s.1) xyu xrm xmk xsc xmd xrs xrn xpc xwc a1 a2 a3 a4 a5 a6 a7 a8 a9 b10 a11 a12 b13 a14 a15 s.2.2.2.2.2 s.2.2.1 s.2.2.2.1 s.2.2.2.2.1 a20 s.2.1 a22)
    (fun f s => gm_yi pa D H o0 y0 (fun _ => False) s.1 s.2.1 s.2.2.1 s.2.2.2.1 s.2.2.2.2.1 ∧ gm_ext mv s.2.1 ∧ (∀ f' k, f' < f → k < F.2.2.1 f' → gm_sh (gm_yt pa s.2.1) (gm_ym pa D s.2.1) (F.2.2.2.2 (6 * f' + k)) (a15 (6 * f' + k)) (s.2.2.2.2.2 (6 * f' + k))) ∧ (∀ f' k, f ≤ f' → f' < F.1 → k < F.2.2.1 f' → gm_sh pa D (F.2.2.2.2 (6 * f' + k)) (a15 (6 * f' + k)) (s.2.2.2.2.2 (6 * f' + k)))) F.1 0 (o, mv, b17, b18, b19, a16) (by omega) ⟨h, fun _ _ _ e => e, fun f' k q => absurd q (Nat.not_lt_zero _), fun f' k _ hf' hk => hf.2.2.2.2.1 f' k hf' hk⟩ ?_ ?_
  · intro n s hs
    exact pk_le F.1 F.1 (fun _ => hp _ _ _ _ _ _ hs.1 ⟨fun g hg' => gm_sh_ext hs.2.1 (hg g hg'), fun l hl' => gm_sh_ext hs.2.1 (hl l hl'), hs.2.2.1⟩) (fun q => absurd q (by omega))
  · intro n f s hfl hs hw
    obtain ⟨o1, m1, c17, c18, c19, c16⟩ := s
    obtain ⟨hY, hE, i1, i2⟩ := hs
    dsimp only at hY hE i1 i2
    obtain ⟨d1, d2, d3⟩ := hf.2.2.1 f hfl
    refine pk_le F.1 f (fun q => absurd q (by omega)) (fun _ => nm_r gm_m6 ?_)
    refine pk_loop (fun n' k (s : Nat × (Nat → Int32) × (Nat → Int32) × (Nat → Int32) × (Nat → Int32) × (Nat → Int32)) => wX_collectYoung_124 post (wX_collectYoung_111 post (nI o0) n) (nI o0) (nI f) n' (nI k) xpr xlv (nI F.1) (nI s.1) xyu xrm xmk xsc xmd xrs xrn xpc xwc a1 a2 a3 a4 a5 a6 a7 a8 a9 b10 a11 a12 b13 a14 a15 s.2.2.2.2.2 s.2.2.1 s.2.2.2.1 s.2.2.2.2.1 a20 s.2.1 a22)
      (fun k s => 6 * f ≤ k ∧ gm_yi pa D H o0 y0 (fun _ => False) s.1 s.2.1 s.2.2.1 s.2.2.2.1 s.2.2.2.2.1 ∧ gm_ext m1 s.2.1 ∧ (∀ l, 6 * f + l < k → gm_sh (gm_yt pa s.2.1) (gm_ym pa D s.2.1) (F.2.2.2.2 (6 * f + l)) (a15 (6 * f + l)) (s.2.2.2.2.2 (6 * f + l))) ∧ (∀ l, k ≤ 6 * f + l → l < F.2.2.1 f → gm_sh pa D (F.2.2.2.2 (6 * f + l)) (a15 (6 * f + l)) (s.2.2.2.2.2 (6 * f + l))) ∧ (∀ q, q < 6 * f ∨ 6 * f + 6 ≤ q → s.2.2.2.2.2 q = c16 q)) (6 * f + F.2.2.1 f) (6 * f) (o1, m1, c17, c18, c19, c16) (by omega) ⟨Nat.le_refl _, hY, fun _ _ _ e => e, fun l hl => absurd hl (by omega), fun l _ hl => i2 f l (Nat.le_refl _) hfl hl, fun q _ => rfl⟩ ?_ ?_
    · intro n' s' hs'
      obtain ⟨o2, m2, d17, d18, d19, d16⟩ := s'
      obtain ⟨_, hY2, hE2, j1, _, j3⟩ := hs'
      dsimp only at hY2 hE2 j1 j3
      refine ⟨pk_in f 10 (by omega), pk_le (6 * f + F.2.2.1 f) (6 * f + F.2.2.1 f) (fun _ => nm_r (nI_1 f) (hw (o2, m2, d17, d18, d19, d16) ⟨hY2, gm_ext_t hE hE2, fun f' k hf' hk => ?_, fun f' k hf' hl hk => ?_⟩)) (fun q => absurd q (by omega)) (by rw [nI_clamp (by omega), d2, gm_i6])⟩
      · dsimp only
        by_cases ef : f' = f
        · rw [ef] at hk ⊢
          exact j1 k (by omega)
        · have dk := (hf.2.2.1 f' (by omega)).2.2
          rw [j3 _ (by omega)]
          exact gm_sh_ext hE2 (i1 f' k (by omega) hk)
      · dsimp only
        rw [j3 _ (by omega)]
        exact i2 f' k (by omega) hl hk
    · intro n' k s' hk hs' hw'
      obtain ⟨o2, m2, d17, d18, d19, d16⟩ := s'
      obtain ⟨j0, hY2, hE2, j1, j2, j3⟩ := hs'
      dsimp only at hY2 hE2 j1 j2 j3
      obtain ⟨l, rfl⟩ : ∃ l, k = 6 * f + l := ⟨k - 6 * f, by omega⟩
      have hl : l < F.2.2.1 f := by omega
      have raw := j2 l (Nat.le_refl _) hl
      refine ⟨pk_in f 10 (by omega), pk_le (6 * f + F.2.2.1 f) (6 * f + l) (fun q => absurd q (by omega)) (fun _ => ⟨pk_in (6 * f + l) 60 (by omega), ?_⟩) (by rw [nI_clamp (by omega), d2, gm_i6])⟩
      dsimp only
      rw [nI_clamp (show 6 * f + l < 2 ^ 31 by omega)]
      refine br_c (fun e => ⟨pk_in (6 * f + l) 60 (by omega), ?_⟩) (fun e => ?_)
      · rw [e] at raw
        refine gm_wmoved_2 h0 hY2 raw (fun r o3 m3 e17 e18 e19 hY3 hE3 hr => ?_)
        refine ⟨pk_in (6 * f + l) 60 (by omega), nm_e (nm_r (nI_1 _) (hw' (o3, m3, e17, e18, e19, upd d16 (6 * f + l) r) ⟨by omega, hY3, gm_ext_t hE2 hE3, fun l' hl' => ?_, fun l' hl' hl2 => ?_, fun q hq => ?_⟩))⟩
        · dsimp only
          by_cases el : l' = l
          · rw [el, pk_us, e]
            exact hr
          · rw [pk_un (by omega)]
            exact gm_sh_ext hE3 (j1 l' (by omega))
        · dsimp only
          rw [pk_un (by omega)]
          exact j2 l' (by omega) hl2
        · dsimp only
          rw [pk_un (by omega)]
          exact j3 q hq
      · refine nm_r (nI_1 _) (hw' (o2, m2, d17, d18, d19, d16) ⟨by omega, hY2, hE2, fun l' hl' => ?_, fun l' hl' hl2 => j2 l' (by omega) hl2, j3⟩)
        dsimp only
        by_cases el : l' = l
        · rw [el]
          exact gm_sh_no raw e
        · exact j1 l' (by omega)
theorem gm_wyoung {post : St1 → Prop} (h : gm_M z P b pa D F G H C u) (hp : ∀ pa' D' u' o', gm_M z P b pa' D' F G H C u' → u'.2.2.2.1 = nI o' → u'.2.2.2.2.1 = 0 → (∀ o y, u.2.2.2.1 = nI o → u.2.2.2.2.1 = nI y → o + y ≤ 16 → o' ≤ o + y) → post u') : wpX_collectYoung post u := by
  obtain ⟨xpr, xlv, xfc, xou, xyu, xrm, xmk, xsc, xmd, xrs, xrn, xpc, xwc, a1, a2, a3, a4, a5, a6, a7, a8, a9, a10, a11, a12, a13, a14, a15, a16, a17, a18, a19, a20, a21, a22⟩ := u
  obtain ⟨hc, hf, hg, hh, hs⟩ := h
  have e1 : xfc = nI F.1 := hf.1
  have hf10 := hf.2.1
  obtain ⟨o0, y0, eo, ey, q1, q2, q3, q4, q5, q6⟩ := hh
  have h0 : gm_y0 pa D H o0 y0 := ⟨q1, q2, fun i hi => ⟨(q3 i hi).2.1, (q3 i hi).2.2.2.1⟩, q4⟩
  have hix : ∀ i, D i → i < H.1 := fun i hi => (q3 i hi).1
  have hpost : ∀ (b10 b13 b16 : Nat → Int32) o' mv' c17 c18 c19, o' ≤ o0 + y0 → gm_yr pa D F G mv' a9 b10 a12 b13 a15 b16 → gm_hq (gm_yt pa mv') (gm_ym pa D mv') H o' 0 0 c17 c18 c19 → post (xpr, xlv, xfc, nI o', 0, 0, xmk, xsc, xmd, xrs, xrn, xpc, xwc, a1, a2, a3, a4, a5, a6, a7, a8, a9, b10, a11, a12, b13, a14, a15, b16, c17, c18, c19, a20, mv', a22) := by
    intro b10 b13 b16 o' mv' c17 c18 c19 ho hr hq
    refine hp _ _ _ o' ⟨hc, ⟨hf.1, hf.2.1, hf.2.2.1, hr.2.1, hr.2.2, hf.2.2.2.2.2⟩, hr.1, ⟨o', 0, rfl, rfl, hq⟩, hs⟩ rfl rfl (fun o y w1 w2 w3 => ?_)
    have w1' : xou = nI o := w1
    have w2' : xyu = nI y := w2
    rw [eo] at w1'
    rw [ey] at w2'
    have g1 := (nI_eq (by omega) (by omega)).mp w1'
    have g2 := (nI_eq (by omega) (by omega)).mp w2'
    omega
  subst eo
  have k67 : ∀ (b10 : Nat → Int32) o mv b17 b18 b19, gm_yi pa D H o0 y0 (fun _ => False) o mv b17 b18 b19 → gm_gl (gm_yt pa mv) (gm_ym pa D mv) G a9 b10 → ∃ n, wX_collectYoung_67 post (nI o0) n 0 xpr xlv xfc (nI o) xyu xrm xmk xsc xmd xrs xrn xpc xwc a1 a2 a3 a4 a5 a6 a7 a8 a9 b10 a11 a12 a13 a14 a15 a16 b17 b18 b19 a20 mv a22 := by
    intro b10 o mv b17 b18 b19 hY0 hg0
    refine pk_loop (fun n i (s : Nat × (Nat → Int32) × (Nat → Int32) × (Nat → Int32) × (Nat → Int32) × (Nat → Int32)) => wX_collectYoung_67 post (nI o0) n (nI i) xpr xlv xfc (nI s.1) xyu xrm xmk xsc xmd xrs xrn xpc xwc a1 a2 a3 a4 a5 a6 a7 a8 a9 b10 a11 a12 s.2.2.2.2.2 a14 a15 a16 s.2.2.1 s.2.2.2.1 s.2.2.2.2.1 a20 s.2.1 a22)
      (fun i s => gm_yi pa D H o0 y0 (fun _ => False) s.1 s.2.1 s.2.2.1 s.2.2.2.1 s.2.2.2.2.1 ∧ gm_ext mv s.2.1 ∧ (∀ l, l < i → gm_sh (gm_yt pa s.2.1) (gm_ym pa D s.2.1) (F.2.2.2.1 l) (a12 l) (s.2.2.2.2.2 l)) ∧ (∀ l, i ≤ l → l < 4 * F.1 → gm_sh pa D (F.2.2.2.1 l) (a12 l) (s.2.2.2.2.2 l))) (4 * F.1) 0 (o, mv, b17, b18, b19, a13) (by omega) ⟨hY0, fun _ _ _ e => e, fun l q => absurd q (Nat.not_lt_zero _), fun l _ hl => hf.2.2.2.1 l hl⟩ ?_ ?_
    · intro n s hs'
      obtain ⟨o1, m1, c17, c18, c19, c13⟩ := s
      obtain ⟨hY, hE, i1, _⟩ := hs'
      dsimp only at hY hE i1
      refine pk_le (4 * F.1) (4 * F.1) (fun _ => ?_) (fun q => absurd q (by omega)) (by rw [e1, gm_m4])
      exact gm_wy111 h0 hf (fun o' mv' c16 d17 d18 d19 w1 w2 => gm_wy179 h0 hix q6 q5 (hpost b10 c13 c16) w1 w2) hY (fun g hg' => gm_sh_ext hE (hg0 g hg')) i1
    · intro n l s hl hs' hw
      obtain ⟨o1, m1, c17, c18, c19, c13⟩ := s
      obtain ⟨hY, hE, i1, i2⟩ := hs'
      dsimp only at hY hE i1 i2
      have raw := i2 l (Nat.le_refl _) hl
      refine pk_le (4 * F.1) l (fun q => absurd q (by omega)) (fun _ => ⟨pk_in l 40 (by omega), ?_⟩) (by rw [e1, gm_m4])
      dsimp only
      rw [nI_clamp (show l < 2 ^ 31 by omega)]
      refine br_c (fun e => ⟨pk_in l 40 (by omega), ?_⟩) (fun e => ?_)
      · rw [e] at raw
        refine gm_wmoved_3 h0 hY raw (fun r o3 m3 e17 e18 e19 hY3 hE3 hr => ?_)
        refine ⟨pk_in l 40 (by omega), nm_e (nm_r (nI_1 _) (hw (o3, m3, e17, e18, e19, upd c13 l r) ⟨hY3, gm_ext_t hE hE3, fun l' hl' => ?_, fun l' hl' hl2 => ?_⟩))⟩
        · dsimp only
          by_cases el : l' = l
          · rw [el, pk_us, e]
            exact hr
          · rw [pk_un el]
            exact gm_sh_ext hE3 (i1 l' (by omega))
        · dsimp only
          rw [pk_un (by omega)]
          exact i2 l' (by omega) hl2
      · refine nm_r (nI_1 _) (hw (o1, m1, c17, c18, c19, c13) ⟨hY, hE, fun l' hl' => ?_, fun l' hl' hl2 => i2 l' (by omega) hl2⟩)
        dsimp only
        by_cases el : l' = l
        · rw [el]
          exact gm_sh_no raw e
        · exact i1 l' (by omega)
  have k28 : ∀ mv, (∀ y, y < 8 → mv y = -1) → ∃ n, wX_collectYoung_28 post (nI o0) n 0 xpr xlv xfc (nI o0) xyu xrm xmk xsc xmd xrs xrn xpc xwc a1 a2 a3 a4 a5 a6 a7 a8 a9 a10 a11 a12 a13 a14 a15 a16 a17 a18 a19 a20 mv a22 := by
    intro mv hmv
    have hY0 : gm_yi pa D H o0 y0 (fun _ => False) o0 mv a17 a18 a19 := by
      refine ⟨⟨Nat.le_refl _, ?_⟩, fun y hy => Or.inl (hmv y hy), fun y y' q hq hy hy' e e' => ?_, fun q w1 w2 => absurd w2 (by omega), fun i hi _ => ⟨(q3 i hi).2.2.1, (q3 i hi).2.2.2.2⟩, fun i hi => ?_, fun s hs => absurd hs id⟩
      · rw [gm_cn_0 (fun y hy => by rw [hmv y hy]; decide)]
        rfl
      · rw [hmv y hy] at e
        exact absurd (by rw [← e]; decide : nI q < 0) (nI_pos (by omega))
      · have e : pa i < 24 := by
          rcases hi.2 with w | ⟨q, w1, w2⟩
          · exact w
          · have us := (q3 i hi.1).2.1
            unfold gm_us at us
            by_cases e : pa i < 24
            · exact e
            · rw [hmv _ (by omega)] at w2
              exact absurd (by rw [← w2]; decide : nI q < 0) (nI_pos (by omega))
        have et : gm_yt pa mv i = pa i := if_pos e
        rw [et]
        exact ⟨(q3 i hi.1).2.2.1, fun k hk => ⟨fun w => absurd w id, fun _ => (q3 i hi.1).2.2.2.2 k hk⟩⟩
    refine pk_loop (fun n i (s : Nat × (Nat → Int32) × (Nat → Int32) × (Nat → Int32) × (Nat → Int32) × (Nat → Int32)) => wX_collectYoung_28 post (nI o0) n (nI i) xpr xlv xfc (nI s.1) xyu xrm xmk xsc xmd xrs xrn xpc xwc a1 a2 a3 a4 a5 a6 a7 a8 a9 s.2.2.2.2.2 a11 a12 a13 a14 a15 a16 s.2.2.1 s.2.2.2.1 s.2.2.2.2.1 a20 s.2.1 a22)
      (fun i s => gm_yi pa D H o0 y0 (fun _ => False) s.1 s.2.1 s.2.2.1 s.2.2.2.1 s.2.2.2.2.1 ∧ (∀ l, l < i → gm_sh (gm_yt pa s.2.1) (gm_ym pa D s.2.1) (G l) (a9 l) (s.2.2.2.2.2 l)) ∧ (∀ l, i ≤ l → l < 4 → gm_sh pa D (G l) (a9 l) (s.2.2.2.2.2 l))) 4 0 (o0, mv, a17, a18, a19, a10) (by omega) ⟨hY0, fun l q => absurd q (Nat.not_lt_zero _), fun l _ hl => hg l hl⟩ ?_ ?_
    · intro n s hs'
      exact pk_le 4 4 (fun _ => k67 _ _ _ _ _ _ hs'.1 hs'.2.1) (fun q => absurd q (by omega))
    · intro n l s hl hs' hw
      obtain ⟨o1, m1, c17, c18, c19, c10⟩ := s
      obtain ⟨hY, i1, i2⟩ := hs'
      dsimp only at hY i1 i2
      have raw := i2 l (Nat.le_refl _) hl
      refine pk_le 4 l (fun q => absurd q (by omega)) (fun _ => ⟨pk_in l 4 (by omega), ?_⟩)
      dsimp only
      rw [nI_clamp (show l < 2 ^ 31 by omega)]
      refine br_c (fun e => ⟨pk_in l 4 (by omega), ?_⟩) (fun e => ?_)
      · rw [e] at raw
        refine gm_wmoved_4 h0 hY raw (fun r o3 m3 e17 e18 e19 hY3 hE3 hr => ?_)
        refine ⟨pk_in l 4 (by omega), nm_e (nm_r (nI_1 _) (hw (o3, m3, e17, e18, e19, upd c10 l r) ⟨hY3, fun l' hl' => ?_, fun l' hl' hl2 => ?_⟩))⟩
        · dsimp only
          by_cases el : l' = l
          · rw [el, pk_us, e]
            exact hr
          · rw [pk_un el]
            exact gm_sh_ext hE3 (i1 l' (by omega))
        · dsimp only
          rw [pk_un (by omega)]
          exact i2 l' (by omega) hl2
      · refine nm_r (nI_1 _) (hw (o1, m1, c17, c18, c19, c10) ⟨hY, fun l' hl' => ?_, fun l' hl' hl2 => i2 l' (by omega) hl2⟩)
        dsimp only
        by_cases el : l' = l
        · rw [el]
          exact gm_sh_no raw e
        · exact i1 l' (by omega)
  unfold wpX_collectYoung
  dsimp only
  refine pk_loop (fun n i (s : Nat → Int32) => wX_collectYoung_2 post xpr xlv xfc (nI o0) xyu xrm xmk xsc xmd xrs xrn xpc xwc n (nI i) a1 a2 a3 a4 a5 a6 a7 a8 a9 a10 a11 a12 a13 a14 a15 a16 a17 a18 a19 a20 s a22) (fun i s => ∀ y, y < i → s y = -1) 8 0 a21 (by omega) (fun y q => absurd q (Nat.not_lt_zero _)) ?_ ?_
  · intro n s hs'
    exact pk_le 8 8 (fun _ => k28 s hs') (fun q => absurd q (by omega))
  · intro n i s hi hs' hw
    refine pk_le 8 i (fun q => absurd q (by omega)) (fun _ => ⟨pk_in i 32 (by omega), nm_e (nm_r (nI_1 i) (hw _ (fun y hy => ?_)))⟩)
    rw [nI_clamp (show i < 2 ^ 31 by omega)]
    by_cases e : y = i
    · rw [e, pk_us]
    · rw [pk_un e]
      exact hs' y (by omega)
end
end
section
section
variable {z : Prop} {P : gm_P} {b : Nat} {pa : Nat → Nat} {D : Nat → Prop} {F : gm_F} {G : Nat → gm_V} {H : gm_H} {C : gm_C} {u : St1}
theorem gm_bits (f : Nat → Bool) : ∀ n, n ≤ 32 → ∃ m : Int32, ∀ p, p < 32 → gm_bt m p = (f p && decide (p < n)) := by
  intro n
  induction n with
  | zero => exact fun _ => ⟨0, fun p _ => by rw [gm_b_0, decide_eq_false (Nat.not_lt_zero p), Bool.and_false]⟩
  | succ n ih =>
    intro hn
    obtain ⟨m, hm⟩ := ih (by omega)
    cases e : f n
    · refine ⟨m, fun p hp => ?_⟩
      rw [hm p hp]
      by_cases ep : p = n
      · rw [ep, e, Bool.false_and, Bool.false_and]
      · congr 1
        exact decide_eq_decide.mpr (by omega)
    · refine ⟨m ||| ((1 : Int32) <<< (nI n &&& 31)), fun p hp => ?_⟩
      rw [gm_set m (show n < 32 by omega) hp, hm p hp]
      by_cases ep : p = n
      · rw [ep, e, decide_eq_true rfl, decide_eq_true (Nat.lt_succ_self n), Bool.or_true, Bool.and_true]
      · rw [decide_eq_false ep, Bool.or_false]
        congr 1
        exact decide_eq_decide.mpr (by omega)
theorem gm_fin_ex {xfc xo xy rm : Int32} {a9 a10 a11 a12 a13 a14 a15 a16 a17 a18 a19 : Nat → Int32} (hf : gm_fr pa D F xfc a11 a12 a13 a14 a15 a16) (hg : gm_gl pa D G a9 a10) (hh : gm_hp pa D H xo xy rm a17 a18 a19) : ∃ m, gm_fin pa D F G H m := by
  have lt := gm_hp_lt hh
  have hrt := gm_rt_D hf hg
  have hRD : ∀ i, gm_RA F G H i → D i := fun i hi => hi D hrt (fun j k hj hk h2 => (gm_sh_o (gm_hp_f hh hj hk) h2).2.1)
  obtain ⟨m, hm⟩ := gm_bits (fun p => @decide (∃ i, D i ∧ pa i = p ∧ gm_RA F G H i) (Classical.propDecidable _)) 32 (Nat.le_refl _)
  have hm2 : ∀ p, p < 32 → (gm_bt m p = true ↔ ∃ i, D i ∧ pa i = p ∧ gm_RA F G H i) := by
    intro p hp
    rw [hm p hp, decide_eq_true hp, Bool.and_true]
    exact ⟨fun q => @of_decide_eq_true _ (Classical.propDecidable _) q, fun q => @decide_eq_true _ (Classical.propDecidable _) q⟩
  exact ⟨m, fun p hp hb => (hm2 p hp).mp hb, fun i hi => ⟨hRD i hi, (hm2 _ (lt i (hRD i hi))).mpr ⟨i, hRD i hi, rfl, hi⟩⟩⟩
theorem gm_cnt_le {xfc rm : Int32} {o y : Nat} {a9 a10 a11 a12 a13 a14 a15 a16 a17 a18 a19 : Nat → Int32} (hf : gm_fr pa D F xfc a11 a12 a13 a14 a15 a16) (hg : gm_gl pa D G a9 a10) (hq : gm_hq pa D H o y rm a17 a18 a19) : gm_cnt F G H ≤ o + y := by
  have hh : gm_hp pa D H (nI o) (nI y) rm a17 a18 a19 := ⟨o, y, rfl, rfl, hq⟩
  obtain ⟨m, hm⟩ := gm_fin_ex hf hg hh
  rw [gm_cnt_eq (gm_fin_card hh hm)]
  exact gm_fin_le hq hm
/-- a new object at place 24 + y -/
theorem gm_hq_new {o y : Nat} {rm : Int32} {a17 a18 a19 b18 b19 : Nat → Int32} (h : gm_hq pa D H o y rm a17 a18 a19) (hs : o + y < 16) (hy : y < 8) {c : Nat} (hc : c < 4) (hz : ∀ k, k < 3 → b18 (3 * (24 + y) + k) = 0 ∧ b19 (3 * (24 + y) + k) = 0) (hk : ∀ q, q < 3 * (24 + y) ∨ 3 * (24 + y) + 3 ≤ q → b18 q = a18 q ∧ b19 q = a19 q) :
    gm_hq (gm_up pa H.1 (24 + y)) (fun i => D i ∨ i = H.1) (gm_newo H (nI c)) o (y + 1) rm (upd a17 (24 + y) (nI c)) b18 b19 := by
  obtain ⟨h1, h2, h3, h4, h5, h6⟩ := h
  have ne : ∀ i, D i → i ≠ H.1 := fun i hi e => by have := (h3 i hi).1; omega
  have old : ∀ i, D i → gm_up pa H.1 (24 + y) i = pa i := fun i hi => gm_up_n (ne i hi)
  have us : ∀ i, D i → pa i ≠ 24 + y ∧ pa i < 32 := fun i hi => by
    have := (h3 i hi).2.1
    unfold gm_us at this
    omega
  have mono : ∀ {v s n}, gm_sh pa D v s n → gm_sh (gm_up pa H.1 (24 + y)) (fun i => D i ∨ i = H.1) v s n := fun hv => gm_sh_mono hv (fun i hi => ⟨old i hi, Or.inl hi⟩)
  refine ⟨by omega, by omega, fun i hi => ?_, fun i j hi hj e => ?_, fun p hp => ?_, fun i k hi hi24 hk3 => ?_⟩
  · rcases hi with hi | hi
    · obtain ⟨v1, v2, v3, v4, v5⟩ := h3 i hi
      have us' := us i hi
      have hn := ne i hi
      refine ⟨?_, ?_, ?_, ?_, fun k hk3 => ?_⟩
      · show i < H.1 + 1
        omega
      · rw [old i hi]
        unfold gm_us at v2 ⊢
        omega
      · rw [old i hi, pk_un us'.1]
        show a17 (pa i) = gm_up H.2.1 H.1 (nI c) i
        rw [gm_up_n hn]
        exact v3
      · show ∃ c', c' < 4 ∧ gm_up H.2.1 H.1 (nI c) i = nI c'
        rw [gm_up_n hn]
        exact v4
      · show gm_sh _ _ (gm_up H.2.2 H.1 _ i k) _ _
        rw [gm_up_n hn, old i hi, (hk _ (by omega)).1, (hk _ (by omega)).2]
        exact mono (v5 k hk3)
    · rw [hi]
      refine ⟨Nat.lt_succ_self _, ?_, ?_, ?_, fun k hk3 => ?_⟩
      · rw [gm_up_s]
        unfold gm_us
        omega
      · rw [gm_up_s, pk_us]
        show nI c = gm_up H.2.1 H.1 (nI c) H.1
        rw [gm_up_s]
      · show ∃ c', c' < 4 ∧ gm_up H.2.1 H.1 (nI c) H.1 = nI c'
        rw [gm_up_s]
        exact ⟨c, hc, rfl⟩
      · show gm_sh _ _ (gm_up H.2.2 H.1 _ H.1 k) _ _
        rw [gm_up_s, gm_up_s, (hz k hk3).1, (hz k hk3).2]
        exact gm_sh_0
  · rcases hi with hi | hi
    · rcases hj with hj | hj
      · rw [old i hi, old j hj] at e
        exact h4 i j hi hj e
      · rw [hj, old i hi, gm_up_s] at e
        exact absurd e (us i hi).1
    · rcases hj with hj | hj
      · rw [hi, old j hj, gm_up_s] at e
        exact absurd e.symm (us j hj).1
      · rw [hi, hj]
  · by_cases e : p = 24 + y
    · exact ⟨H.1, Or.inr rfl, by rw [gm_up_s, e]⟩
    · obtain ⟨i, i1, i2⟩ := h5 p (by unfold gm_us at hp ⊢; omega)
      exact ⟨i, Or.inl i1, by rw [old i i1, i2]⟩
  · show (gm_up H.2.2 H.1 _ i k).1 = 2 → 24 ≤ gm_up pa H.1 (24 + y) (gm_up H.2.2 H.1 _ i k).2.2 → _
    rcases hi with hi | hi
    · rw [gm_up_n (ne i hi), old i hi]
      intro w1 w2
      have hd := (gm_sh_o ((h3 i hi).2.2.2.2 k hk3) w1).2.1
      rw [old _ hd] at w2
      rw [old i hi] at hi24
      exact h6 i k hi hi24 hk3 w1 w2
    · rw [hi, gm_up_s] at hi24
      omega
theorem gm_wmake56 {post : Int32 → St1 → Prop} {xpr xlv xfc xrm xmk xsc xmd xrs xrn xpc xwc : Int32} {a1 a2 a3 a4 a5 a6 a7 a8 a9 a10 a11 a12 a13 a14 a15 a16 a17 a18 a19 a20 a21 a22 : Nat → Int32} {o y : Nat} (h : gm_M z P b pa D F G H C (xpr, xlv, xfc, nI o, nI y, xrm, xmk, xsc, xmd, xrs, xrn, xpc, xwc, a1, a2, a3, a4, a5, a6, a7, a8, a9, a10, a11, a12, a13, a14, a15, a16, a17, a18, a19, a20, a21, a22)) (hs : o + y < 16) (hy : y < 8) (h0 : 0 < F.1) (hd : gm_d F < 6) {c : Nat} (hc4 : c < 4)
    (hp : ∀ pa' D' u', gm_M z P b pa' D' (gm_sdue (gm_push F (2, 0, H.1)) (gm_cur F + 1)) G (gm_newo H (nI c)) (gm_made1 C) u' → post (-1) u') : wX_makeObject_56 post (nI c) xpr xlv xfc (nI o) (nI y) xrm xmk xsc xmd xrs xrn xpc xwc a1 a2 a3 a4 a5 a6 a7 a8 a9 a10 a11 a12 a13 a14 a15 a16 a17 a18 a19 a20 a21 a22 := by
  obtain ⟨hc, hf, hg, hh, hcs⟩ := h
  obtain ⟨o', y', eo, ey, hq⟩ := hh
  have so := hq.1
  have sy := hq.2.1
  have eo' := (nI_eq (by omega) (by omega)).mp eo
  have ey' := (nI_eq (by omega) (by omega)).mp ey
  subst eo' ey'
  unfold wX_makeObject_56
  have e24 : 24 + nI y = nI (24 + y) := nI_add 24 y
  have mono : ∀ {v s n}, gm_sh pa D v s n → gm_sh (gm_up pa H.1 (24 + y)) (fun i => D i ∨ i = H.1) v s n := fun hv => gm_sh_mono hv (fun i hi => ⟨gm_up_n (by have := (hq.2.2.1 i hi).1; omega), Or.inl hi⟩)
  refine nm_r e24 (nm_r (nI_1 y) (nm_e ⟨pk_in (24 + y) 32 (by omega), ?_⟩))
  rw [nI_clamp (show 24 + y < 2 ^ 31 by omega), gm_b8 c (by omega)]
  refine nm_e (nm_r gm_m3 ?_)
  refine pk_loop (fun n k (s : (Nat → Int32) × (Nat → Int32)) => wX_makeObject_96 post (nI (24 + y)) xpr xlv xfc (nI o) (nI (y + 1)) xrm xmk xsc (xmd + 1) xrs xrn xpc xwc n (nI k) a1 a2 a3 a4 a5 a6 a7 a8 a9 a10 a11 a12 a13 a14 a15 a16 (upd a17 (24 + y) (nI c)) s.1 s.2 a20 a21 a22)
    (fun k s => 3 * (24 + y) ≤ k ∧ (∀ l, 3 * (24 + y) + l < k → s.1 (3 * (24 + y) + l) = 0 ∧ s.2 (3 * (24 + y) + l) = 0) ∧ (∀ q, q < 3 * (24 + y) ∨ 3 * (24 + y) + 3 ≤ q → s.1 q = a18 q ∧ s.2 q = a19 q)) (3 * (24 + y) + 3) (3 * (24 + y)) (a18, a19) (by omega) ⟨Nat.le_refl _, fun l hl => absurd hl (by omega), fun q _ => ⟨rfl, rfl⟩⟩ ?_ ?_
  · intro n s hs'
    obtain ⟨s1, s2⟩ := s
    obtain ⟨_, i1, i2⟩ := hs'
    dsimp only at i1 i2
    refine pk_le (3 * (24 + y) + 3) (3 * (24 + y) + 3) (fun _ => ?_) (fun q => absurd q (by omega)) gm_i33
    have hM : gm_M z P b (gm_up pa H.1 (24 + y)) (fun i => D i ∨ i = H.1) F G (gm_newo H (nI c)) (gm_made1 C) (xpr, xlv, xfc, nI o, nI (y + 1), xrm, xmk, xsc, xmd + 1, xrs, xrn, xpc, xwc, a1, a2, a3, a4, a5, a6, a7, a8, a9, a10, a11, a12, a13, a14, a15, a16, upd a17 (24 + y) (nI c), s1, s2, a20, a21, a22) := by
      obtain ⟨k1, k2, k3, k4, k5, k6, k7, k8⟩ := hcs
      refine ⟨hc, ⟨hf.1, hf.2.1, hf.2.2.1, fun l hl => mono (hf.2.2.2.1 l hl), fun f k hf' hk => mono (hf.2.2.2.2.1 f k hf' hk), hf.2.2.2.2.2⟩, fun g hg' => mono (hg g hg'), ⟨o, y + 1, rfl, rfl, gm_hq_new hq hs hy hc4 (fun k hk => i1 k (by omega)) i2⟩, k1, k2, ?_, k4, k5, k6, k7, k8⟩
      show xmd + 1 = C.2.1 + 1
      rw [k3]
    have hv : gm_sh (gm_up pa H.1 (24 + y)) (fun i => D i ∨ i = H.1) (2, 0, H.1) 2 (nI (24 + y)) := Or.inl ⟨H.1, rfl, rfl, by rw [gm_up_s], Or.inr rfl⟩
    refine gm_wpush hM h0 hd hv (fun u' h' => ?_)
    obtain ⟨xpr', xlv', xfc', xou', xyu', xrm', xmk', xsc', xmd', xrs', xrn', xpc', xwc', a1', a2', a3', a4', a5', a6', a7', a8', a9', a10', a11', a12', a13', a14', a15', a16', a17', a18', a19', a20', a21', a22'⟩ := u'
    exact gm_winc h'.2.1 h0 (hp _ _ _ (gm_Mdue h'))
  · intro n k s hk hs' hw
    obtain ⟨s1, s2⟩ := s
    obtain ⟨i0, i1, i2⟩ := hs'
    dsimp only at i1 i2
    refine pk_le (3 * (24 + y) + 3) k (fun q => absurd q (by omega)) (fun _ => ?_) gm_i33
    rw [nI_clamp (show k < 2 ^ 31 by omega)]
    refine ⟨pk_in k 96 (by omega), nm_e ⟨pk_in k 96 (by omega), nm_e (nm_r (nI_1 k) (hw (_, _) ⟨by omega, fun l hl => ?_, fun q hq' => ?_⟩))⟩⟩
    · show upd s1 k 0 _ = 0 ∧ upd s2 k 0 _ = 0
      by_cases e : 3 * (24 + y) + l = k
      · rw [e, pk_us, pk_us]
        exact ⟨rfl, rfl⟩
      · rw [pk_un e, pk_un e]
        exact i1 l (by omega)
    · show upd s1 k 0 q = _ ∧ upd s2 k 0 q = _
      rw [pk_un (by omega), pk_un (by omega)]
      exact i2 q hq'
theorem gm_wmake29 {post : Int32 → St1 → Prop} {xpr xlv xfc xou xyu xrm xmk xsc xmd xrs xrn xpc xwc : Int32} {a1 a2 a3 a4 a5 a6 a7 a8 a9 a10 a11 a12 a13 a14 a15 a16 a17 a18 a19 a20 a21 a22 : Nat → Int32} (h : gm_M z P b pa D F G H C (xpr, xlv, xfc, xou, xyu, xrm, xmk, xsc, xmd, xrs, xrn, xpc, xwc, a1, a2, a3, a4, a5, a6, a7, a8, a9, a10, a11, a12, a13, a14, a15, a16, a17, a18, a19, a20, a21, a22)) (hcnt : gm_cnt F G H < 16) (hoy : ∀ o y, xou = nI o → xyu = nI y → o + y ≤ 16 → o + y < 16) (h0 : 0 < F.1) (hd : gm_d F < 6) {c : Nat} (hc4 : c < 4)
    (hp : ∀ pa' D' u', gm_M z P b pa' D' (gm_sdue (gm_push F (2, 0, H.1)) (gm_cur F + 1)) G (gm_newo H (nI c)) (gm_made1 C) u' → post (-1) u') : wX_makeObject_29 post (nI c) xpr xlv xfc xou xyu xrm xmk xsc xmd xrs xrn xpc xwc a1 a2 a3 a4 a5 a6 a7 a8 a9 a10 a11 a12 a13 a14 a15 a16 a17 a18 a19 a20 a21 a22 := by
  have hh := h.2.2.2.1
  obtain ⟨o, y, eo, ey, hq⟩ := hh
  have so := hq.1
  have sy := hq.2.1
  have s16 := hoy o y eo ey so
  unfold wX_makeObject_29
  refine pk_eq y 8 (fun e8 => ?_) (fun e8 => ?_) ey
  · refine br_c (fun _ => ?_) (fun _ => ?_)
    · refine gm_wall h (fun pa' D' u' h' w1 w2 => ?_)
      obtain ⟨xpr', xlv', xfc', xou', xyu', xrm', xmk', xsc', xmd', xrs', xrn', xpc', xwc', a1', a2', a3', a4', a5', a6', a7', a8', a9', a10', a11', a12', a13', a14', a15', a16', a17', a18', a19', a20', a21', a22'⟩ := u'
      have w1' : xou' = nI (gm_cnt F G H) := w1
      have w2' : xyu' = nI 0 := w2
      subst w1' w2'
      exact gm_wmake56 h' (by omega) (by omega) h0 hd hc4 hp
    · refine gm_wyoung h (fun pa' D' u' o' h' w1 w2 w3 => ?_)
      obtain ⟨xpr', xlv', xfc', xou', xyu', xrm', xmk', xsc', xmd', xrs', xrn', xpc', xwc', a1', a2', a3', a4', a5', a6', a7', a8', a9', a10', a11', a12', a13', a14', a15', a16', a17', a18', a19', a20', a21', a22'⟩ := u'
      have w1' : xou' = nI o' := w1
      have w2' : xyu' = nI 0 := w2
      have w4 := w3 o y eo ey so
      subst w1' w2'
      exact gm_wmake56 h' (by omega) (by omega) h0 hd hc4 hp
  · subst eo ey
    exact gm_wmake56 h s16 (by omega) h0 hd hc4 hp
theorem gm_wmake {post : Int32 → St1 → Prop} (h : gm_M z P b pa D F G H C u) (h0 : 0 < F.1) (hd : gm_d F < 6) {c : Nat} (hc4 : c < 4)
    (h5 : 16 ≤ gm_cnt F G H → ∀ pa' D' u', gm_M z P b pa' D' F G H C u' → post 5 u')
    (hp : ¬ 16 ≤ gm_cnt F G H → ∀ pa' D' u', gm_M z P b pa' D' (gm_sdue (gm_push F (2, 0, H.1)) (gm_cur F + 1)) G (gm_newo H (nI c)) (gm_made1 C) u' → post (-1) u') : wpX_makeObject post u (nI c) := by
  obtain ⟨xpr, xlv, xfc, xou, xyu, xrm, xmk, xsc, xmd, xrs, xrn, xpc, xwc, a1, a2, a3, a4, a5, a6, a7, a8, a9, a10, a11, a12, a13, a14, a15, a16, a17, a18, a19, a20, a21, a22⟩ := u
  obtain ⟨o, y, eo, ey, hq⟩ := h.2.2.2.1
  have so := hq.1
  have sy := hq.2.1
  unfold wpX_makeObject
  dsimp only
  have hle : gm_cnt F G H ≤ o + y := gm_cnt_le h.2.1 h.2.2.1 hq
  refine pk_lt (o + y) 16 (fun q => ?_) (fun q => ?_) (by rw [eo, ey, nI_add])
  · refine gm_wmake29 h (by omega) (fun o' y' eo' ey' w => ?_) h0 hd hc4 (hp (by omega))
    rw [eo] at eo'
    rw [ey] at ey'
    have := (nI_eq (by omega) (by omega)).mp eo'
    have := (nI_eq (by omega) (by omega)).mp ey'
    omega
  · refine gm_wall h (fun pa' D' u' h' w1 w2 => ?_)
    obtain ⟨xpr', xlv', xfc', xou', xyu', xrm', xmk', xsc', xmd', xrs', xrn', xpc', xwc', a1', a2', a3', a4', a5', a6', a7', a8', a9', a10', a11', a12', a13', a14', a15', a16', a17', a18', a19', a20', a21', a22'⟩ := u'
    have w1' : xou' = nI (gm_cnt F G H) := w1
    have w2' : xyu' = nI 0 := w2
    refine pk_lt (gm_cnt F G H) 16 (fun q2 => ?_) (fun q2 => ?_) w1'
    · refine gm_wmake29 h' q2 (fun o' y' eo' ey' w => ?_) h0 hd hc4 (hp (by omega))
      rw [w1'] at eo'
      rw [w2'] at ey'
      have := (nI_eq (by omega) (by omega)).mp eo'
      have := (nI_eq (by omega) (by omega)).mp ey'
      omega
    · exact h5 q2 _ _ _ h'
end
end
section
section
variable {z : Prop} {P : gm_P} {b : Nat} {pa : Nat → Nat} {D : Nat → Prop} {F : gm_F} {G : Nat → gm_V} {H : gm_H} {C : gm_C} {u : St1}
theorem gm_wone {post : Int32 → St1 → Prop} (h : gm_M True P 0 pa D F G H C u) (h0 : 0 < F.1) {i : Nat} (hi : i < 60) (hcur : gm_cur F = nI i) (ht : gm_tk (P.1 i) ≤ gm_d F) (hq : gm_d F - gm_tk (P.1 i) + gm_pt (P.1 i) ≤ 6)
    (hp : gm_K P post (gm_one P (nI i) (P.1 i) (P.2.1 i) F G H C)) : wpX_workOne post u (nI i) (P.1 i) (P.2.1 i) := by
  obtain ⟨xpr, xlv, xfc, xou, xyu, xrm, xmk, xsc, xmd, xrs, xrn, xpc, xwc, a1, a2, a3, a4, a5, a6, a7, a8, a9, a10, a11, a12, a13, a14, a15, a16, a17, a18, a19, a20, a21, a22⟩ := u
  have hpg : gm_pg P := h.1.1
  have hfit := hpg.1 i hi
  have h1 := gm_M1 h (by omega)
  have h6 := (gm_fr_x h.2.1 h0).2.2.2.2.1
  generalize hO : P.1 i = O at *
  generalize hN : P.2.1 i = N at *
  unfold wpX_workOne
  dsimp only
  refine br_c (fun e => ?_) (fun e => ?_)
  · subst e
    obtain ⟨k, hk, rfl⟩ := hfit.2.1 (by decide)
    have t1 : gm_tk 15 = 0 := by decide
    have t2 : gm_pt 15 = 1 := by decide
    rw [t1, t2] at hq
    unfold gm_one at hp
    rw [if_pos rfl] at hp
    refine gm_wmake h1 h0 (by omega) hk (fun w pa' D' u' h' => ?_) (fun w pa' D' u' h' => ?_)
    · rw [if_pos w] at hp
      exact hp pa' D' u' h'
    · rw [if_neg w] at hp
      exact hp pa' D' u' h'
  refine br_c (fun e2 => ?_) (fun e2 => ?_)
  · subst e2
    obtain ⟨k, hk, rfl⟩ := hfit.2.2 (by decide)
    have t1 : gm_tk 16 = 1 := by decide
    rw [t1] at ht
    unfold gm_one at hp
    rw [if_neg e, if_pos rfl, nI_clamp (by omega)] at hp
    refine gm_wget h1 h0 ht hk (fun w u' h' => ?_) (fun w => ?_)
    · rw [if_pos w] at hp
      exact hp pa D u' h'
    · rw [if_neg w] at hp
      exact hp pa D _ h1
  refine br_c (fun e3 => ?_) (fun e3 => ?_)
  · subst e3
    obtain ⟨k, hk, rfl⟩ := hfit.2.2 (by decide)
    have t1 : gm_tk 17 = 2 := by decide
    rw [t1] at ht
    unfold gm_one at hp
    rw [if_neg e, if_neg e2, if_pos rfl, nI_clamp (by omega)] at hp
    refine gm_wput h1 h0 ht hk (fun w u' h' => ?_) (fun w => ?_)
    · rw [if_pos w] at hp
      exact hp pa D u' h'
    · rw [if_neg w] at hp
      exact hp pa D _ h1
  refine br_c (fun e4 => ?_) (fun e4 => ?_)
  · subst e4
    obtain ⟨k, hk, rfl⟩ := hfit.2.1 (by decide)
    have t1 : gm_tk 19 = 2 := by decide
    rw [t1] at ht
    exact gm_wcall h1 h0 ht hi hO hN hk hp
  refine br_c (fun e5 => ?_) (fun e5 => ?_)
  · subst e5
    have t1 : gm_tk 20 = 1 := by decide
    rw [t1] at ht
    unfold gm_one at hp
    rw [if_neg e, if_neg e2, if_neg e3, if_neg e4, if_pos rfl] at hp
    refine gm_wleave h1 h0 ht (fun w u' h' => ?_) (fun w u' h' => ?_)
    · rw [if_pos w] at hp
      exact hp pa D u' h'
    · rw [if_neg w] at hp
      exact hp pa D u' h'
  refine br_c (fun e6 => ?_) (fun e6 => ?_)
  · unfold gm_one at hp
    rw [if_neg e, if_neg e2, if_neg e3, if_neg e4, if_neg e5, if_pos e6] at hp
    exact hp pa D _ h1
  have k79 : ¬ (8 ≤ O ∧ O ≤ 11) → wX_workOne_79 post (nI i) O N xpr xlv xfc xou xyu xrm xmk xsc xmd xrs xrn xpc xwc a1 a2 a3 a4 a5 a6 a7 a8 a9 a10 a11 a12 a13 a14 a15 a16 a17 a18 a19 a20 a21 a22 := by
    intro e7
    unfold gm_one at hp
    rw [if_neg e, if_neg e2, if_neg e3, if_neg e4, if_neg e5, if_neg e6, if_neg e7] at hp
    have k91 : O = 14 ∨ O = 23 → wX_workOne_91 post (nI i) O N xpr xlv xfc xou xyu xrm xmk xsc xmd xrs xrn xpc xwc a1 a2 a3 a4 a5 a6 a7 a8 a9 a10 a11 a12 a13 a14 a15 a16 a17 a18 a19 a20 a21 a22 := by
      intro e8
      rw [if_pos e8] at hp
      have t1 : 1 ≤ gm_d F := by
        have : gm_tk O = 1 := by rcases e8 with w | w <;> (rw [w]; decide)
        omega
      unfold wX_workOne_91
      refine gm_wsort h h0 (k := 0) t1 ?_
      refine br_c (fun w => ?_) (fun w => ?_)
      rotate_left
      · rw [if_neg w] at hp
        exact hp pa D _ h1
      rw [if_pos w] at hp
      refine gm_wnum h h0 (k := 0) t1 (fun m hm => ?_)
      rw [gm_sh_n1 hm w]
      refine gm_wdrop h h0 t1 (fun u' h' => ?_)
      obtain ⟨xpr', xlv', xfc', xou', xyu', xrm', xmk', xsc', xmd', xrs', xrn', xpc', xwc', a1', a2', a3', a4', a5', a6', a7', a8', a9', a10', a11', a12', a13', a14', a15', a16', a17', a18', a19', a20', a21', a22'⟩ := u'
      obtain ⟨x1, x2, x3, x4, x5, x6⟩ := gm_fr_x h'.2.1 h0
      have k140 : ∀ t, t = (if O = 14 ∧ (gm_at F 0).2.1 = 0 then N else nI i + 1) → wX_workOne_140 post O (gm_at F 0).2.1 t (xfc' - 1) xpr' xlv' xfc' xou' xyu' xrm' xmk' xsc' xmd' xrs' xrn' xpc' xwc' a1' a2' a3' a4' a5' a6' a7' a8' a9' a10' a11' a12' a13' a14' a15' a16' a17' a18' a19' a20' a21' a22' := by
        intro t et
        rw [← et] at hp
        unfold wX_workOne_140
        rw [x2, x1]
        refine ⟨pk_in _ 10 x3, nm_e (br_c (fun w2 => ?_) (fun w2 => ?_))⟩
        · rw [if_pos w2] at hp
          exact gm_wprint (gm_Mdue h') (fun u2 h2 => hp pa D u2 h2)
        · rw [if_neg w2] at hp
          exact hp pa D _ (gm_M1 (gm_Mdue h') (by omega))
      refine br_c (fun w1 => br_c (fun w2 => k140 _ (by rw [if_pos ⟨w1, w2⟩])) (fun w2 => k140 _ (by rw [if_neg (fun q => w2 q.2)]))) (fun w1 => k140 _ (by rw [if_neg (fun q => w1 q.1)]))
    unfold wX_workOne_79
    refine br_c (fun w => k91 (Or.inl w)) (fun w => br_c (fun w2 => k91 (Or.inr w2)) (fun w2 => ?_))
    rw [if_neg (fun q => q.elim w w2)] at hp
    obtain ⟨x1, x2, x3, x4, x5, x6⟩ := gm_fr_x h.2.1 h0
    have k176 : ∀ t, t = (if O = 13 then N else nI i + 1) → wX_workOne_176 post O N t (xfc - 1) xpr xlv xfc xou xyu xrm xmk xsc xmd xrs xrn xpc xwc a1 a2 a3 a4 a5 a6 a7 a8 a9 a10 a11 a12 a13 a14 a15 a16 a17 a18 a19 a20 a21 a22 := by
      intro t et
      rw [← et] at hp
      unfold wX_workOne_176
      rw [x2, x1]
      refine ⟨pk_in _ 10 x3, nm_e ?_⟩
      exact gm_wmove (gm_Mdue h) h0 hfit ht hq (fun u' h' => hp pa D u' (gm_M1 h' (by omega)))
    exact br_c (fun w3 => k176 _ (by rw [if_pos w3])) (fun w3 => k176 _ (by rw [if_neg w3]))
  refine br_c (fun w => k79 (fun q => absurd q.1 (Int32.not_le.mpr w))) (fun w => br_c (fun w2 => k79 (fun q => absurd q.2 (Int32.not_le.mpr w2))) (fun w2 => ?_))
  have e7 : 8 ≤ O ∧ O ≤ 11 := ⟨Int32.not_lt.mp w, Int32.not_lt.mp w2⟩
  unfold gm_one at hp
  rw [if_neg e, if_neg e2, if_neg e3, if_neg e4, if_neg e5, if_neg e6, if_pos e7] at hp
  have t1 : 2 ≤ gm_d F := by
    have : gm_tk O = 2 := by
      unfold gm_tk
      rw [if_neg (by rintro rfl; exact absurd e7.1 (by decide)), if_neg w, if_pos (Int32.le_trans e7.2 (by decide))]
    omega
  refine gm_wcomb h1 h0 t1 (fun w u' h' => ?_) (fun w => ?_)
  · rw [if_pos w] at hp
    exact hp pa D u' h'
  · rw [if_neg w] at hp
    exact hp pa D _ h1
end
end
section
section
variable {z : Prop} {P : gm_P} {b : Nat} {pa : Nat → Nat} {D : Nat → Prop} {F : gm_F} {G : Nat → gm_V} {H : gm_H} {C : gm_C} {u : St1}
theorem gm_upd_same (a : Nat → Int32) (k : Nat) : upd a k (a k) = a := by
  funext j
  by_cases e : j = k
  · rw [e, pk_us]
  · rw [pk_un e]
theorem gm_at_push0 {v : gm_V} : gm_at (gm_push F v) 0 = v := by
  have e : 6 * (F.1 - 1) + gm_d (gm_push F v) - 1 - 0 = 6 * (F.1 - 1) + gm_d F := by
    rw [gm_d_push]
    omega
  show gm_up F.2.2.2.2 (6 * (F.1 - 1) + gm_d F) v (6 * (F.1 - 1) + gm_d (gm_push F v) - 1 - 0) = v
  rw [e, gm_up_s]
theorem gm_at_push1 {v : gm_V} {k : Nat} (hk : k < gm_d F) : gm_at (gm_push F v) (k + 1) = gm_at F k := by
  have e : 6 * (F.1 - 1) + gm_d (gm_push F v) - 1 - (k + 1) = 6 * (F.1 - 1) + gm_d F - 1 - k := by
    rw [gm_d_push]
    omega
  show gm_up F.2.2.2.2 (6 * (F.1 - 1) + gm_d F) v (6 * (F.1 - 1) + gm_d (gm_push F v) - 1 - (k + 1)) = _
  rw [e, gm_up_n (by omega)]
  rfl
/-- a step that goes on -/
theorem gm_step_one {i : Nat} (hcur : gm_cur F = nI i) (hi : i < 60) (hs : ¬ C.1 = 300) (ht : gm_tk (P.1 i) ≤ gm_d F) (hq : gm_d F - gm_tk (P.1 i) + gm_pt (P.1 i) ≤ 6) : gm_step P (F, G, H, C) = (fun r : Int32 × gm_S => if r.1 = -1 ∨ r.1 = 0 then (r.1, r.2.1, r.2.2.1, r.2.2.2.1, gm_tick r.2.2.2.2) else r) (gm_one P (nI i) (P.1 i) (P.2.1 i) F G H C) := by
  unfold gm_step
  dsimp only
  rw [hcur, nI_clamp (by omega), if_neg (nI_pos (by omega)), if_neg (fun q => q (nI_le (b := 59) (by omega) (by omega))), if_neg hs, if_neg (by omega), if_neg (fun q => q hq)]
theorem gm_step_w {i : Nat} (hcur : gm_cur F = nI i) (hi : i < 60) (hs : ¬ C.1 = 300) (ht : gm_tk (P.1 i) ≤ gm_d F) (hq : gm_d F - gm_tk (P.1 i) + gm_pt (P.1 i) ≤ 6) {F' : gm_F} {G' : Nat → gm_V} {H' : gm_H} {C' : gm_C} (e : gm_one P (nI i) (P.1 i) (P.2.1 i) F G H C = (-1, F', G', H', C')) : gm_step P (F, G, H, C) = (-1, F', G', H', gm_tick C') := by
  rw [gm_step_one hcur hi hs ht hq, e]
  dsimp only
  rw [if_pos (Or.inl rfl)]
theorem gm_one_3 {i n : Int32} : gm_one P i 3 n F G H C = (-1, gm_push (gm_sdue F (i + 1)) (gm_lo F n.toNatClampNeg), G, H, C) := by
  unfold gm_one gm_move
  rw [if_neg (by decide), if_neg (by decide), if_neg (by decide), if_neg (by decide), if_neg (by decide), if_neg (by decide), if_neg (by decide), if_neg (by decide), if_neg (by decide), if_neg (by decide), if_pos rfl, if_neg (by decide)]
  rfl
theorem gm_one_1 {i n : Int32} : gm_one P i 1 n F G H C = (-1, gm_push (gm_sdue F (i + 1)) (1, n, 0), G, H, C) := by
  unfold gm_one gm_move
  rw [if_neg (by decide), if_neg (by decide), if_neg (by decide), if_neg (by decide), if_neg (by decide), if_neg (by decide), if_neg (by decide), if_neg (by decide), if_pos rfl, if_neg (by decide)]
theorem gm_one_16 {i n : Int32} (h : (gm_at F 0).1 = 2) : gm_one P i 16 n F G H C = (-1, gm_sdue (gm_push (gm_drop F 1) (H.2.2 (gm_at F 0).2.2 n.toNatClampNeg)) (gm_cur F + 1), G, H, C) := by
  unfold gm_one
  rw [if_neg (by decide), if_pos rfl, if_pos h]
theorem gm_one_c {i o n : Int32} (ho : o = 8 ∨ o = 11) (h : (gm_at F 0).1 = 1 ∧ (gm_at F 1).1 = 1) : gm_one P i o n F G H C = (-1, gm_sdue (gm_push (gm_drop F 2) (1, gm_comb o F, 0)) (gm_cur F + 1), G, H, C) := by
  unfold gm_one
  rcases ho with rfl | rfl
  · rw [if_neg (by decide), if_neg (by decide), if_neg (by decide), if_neg (by decide), if_neg (by decide), if_neg (by decide), if_pos (by decide), if_pos h]
  · rw [if_neg (by decide), if_neg (by decide), if_neg (by decide), if_neg (by decide), if_neg (by decide), if_neg (by decide), if_pos (by decide), if_pos h]
theorem gm_one_14 {i n : Int32} (h : (gm_at F 0).1 = 1) : gm_one P i 14 n F G H C = (-1, gm_sdue (gm_drop F 1) (if (gm_at F 0).2.1 = 0 then n else i + 1), G, H, C) := by
  unfold gm_one
  rw [if_neg (by decide), if_neg (by decide), if_neg (by decide), if_neg (by decide), if_neg (by decide), if_neg (by decide), if_neg (by decide), if_pos (Or.inl rfl), if_pos h]
  by_cases e : (gm_at F 0).2.1 = 0
  · rw [if_pos ⟨rfl, e⟩, if_pos e]
    rfl
  · rw [if_neg (fun q => e q.2), if_neg e]
    rfl
/-- what a couple must bring: two steps that go on -/
def gm_two (P : gm_P) (F : gm_F) (G : Nat → gm_V) (H : gm_H) (C : gm_C) (pa : Nat → Nat) (D : Nat → Prop) (u : St1) : Prop :=
  ∃ S1 F2, gm_step P (F, G, H, C) = (-1, S1) ∧ gm_step P S1 = (-1, F2, G, H, gm_tick (gm_tick C)) ∧ F2.1 = F.1 ∧ gm_M True P 0 pa D F2 G H C u
theorem gm_Mfr {F' : gm_F} (h : gm_M z P b pa D F G H C u) (e1 : F'.1 = F.1) (e2 : ∀ f, f < F.1 → F'.2.1 f = F.2.1 f ∧ F'.2.2.1 f = F.2.2.1 f) (e3 : ∀ l, l < 4 * F.1 → F'.2.2.2.1 l = F.2.2.2.1 l) (e4 : ∀ f k, f < F.1 → k < F.2.2.1 f → F'.2.2.2.2 (6 * f + k) = F.2.2.2.2 (6 * f + k)) : gm_M z P b pa D F' G H C u := by
  obtain ⟨xpr, xlv, xfc, xou, xyu, xrm, xmk, xsc, xmd, xrs, xrn, xpc, xwc, a1, a2, a3, a4, a5, a6, a7, a8, a9, a10, a11, a12, a13, a14, a15, a16, a17, a18, a19, a20, a21, a22⟩ := u
  exact ⟨h.1, gm_fr_e h.2.1 e1 e2 e3 e4, h.2.2.1, h.2.2.2.1, h.2.2.2.2⟩
theorem gm_st_lg {i k k2 : Nat} (hi : i < 59) (hs : C.1 ≤ 298) (hcur : gm_cur F = nI i) (e1 : P.1 i = 3) (e2 : P.1 (i + 1) = 16) (n1 : P.2.1 i = nI k) (n2 : P.2.1 (i + 1) = nI k2) (hk : k < 4) (hk2 : k2 < 3) (hd : gm_d F < 6) (hv : (gm_lo F k).1 = 2) :
    gm_step P (F, G, H, C) = (-1, gm_push (gm_sdue F (nI i + 1)) (gm_lo F k), G, H, gm_tick C) ∧ gm_step P (gm_push (gm_sdue F (nI i + 1)) (gm_lo F k), G, H, gm_tick C) = (-1, gm_sdue (gm_push (gm_drop (gm_push (gm_sdue F (nI i + 1)) (gm_lo F k)) 1) (H.2.2 (gm_lo F k).2.2 k2)) (nI i + 1 + 1), G, H, gm_tick (gm_tick C)) := by
  constructor
  · refine gm_step_w hcur (by omega) (by omega) ?_ ?_ ?_
    · rw [e1]
      exact Nat.zero_le _
    · rw [e1]
      show gm_d F - 0 + 1 ≤ 6
      omega
    · rw [e1, n1]
      have t := gm_one_3 (P := P) (F := F) (G := G) (H := H) (C := C) (i := nI i) (n := nI k)
      rw [nI_clamp (by omega)] at t
      exact t
  · have ec : gm_cur (gm_push (gm_sdue F (nI i + 1)) (gm_lo F k)) = nI i + 1 := gm_up_s
    refine gm_step_w (i := i + 1) (by rw [ec, nI_1]) (by omega) (by show ¬ C.1 + 1 = 300; omega) ?_ ?_ ?_
    · rw [e2, gm_d_push]
      show 1 ≤ gm_d F + 1
      omega
    · rw [e2, gm_d_push]
      show gm_d F + 1 - 1 + 1 ≤ 6
      omega
    · rw [e2, n2]
      have t := gm_one_16 (P := P) (F := gm_push (gm_sdue F (nI i + 1)) (gm_lo F k)) (G := G) (H := H) (C := gm_tick C) (i := nI (i + 1)) (n := nI k2) (by rw [gm_at_push0]; exact hv)
      rw [gm_at_push0, nI_clamp (by omega), ec] at t
      exact t
theorem gm_wlg {post : Int32 → St1 → Prop} (h : gm_M True P 0 pa D F G H C u) (h0 : 0 < F.1) {i : Nat} (hi : i < 59) (hs : C.1 ≤ 298) (hcur : gm_cur F = nI i) (e1 : P.1 i = 3) (e2 : P.1 (i + 1) = 16) (hno : post 0 u) (hyes : ∀ u', gm_two P F G H C pa D u' → post 1 u') : wpX_loadGet post u (nI i) := by
  obtain ⟨xpr, xlv, xfc, xou, xyu, xrm, xmk, xsc, xmd, xrs, xrn, xpc, xwc, a1, a2, a3, a4, a5, a6, a7, a8, a9, a10, a11, a12, a13, a14, a15, a16, a17, a18, a19, a20, a21, a22⟩ := u
  have hpg : gm_pg P := h.1.1
  obtain ⟨k, hk, n1⟩ := (hpg.1 i (by omega)).2.1 (Or.inl e1)
  obtain ⟨k2, hk2, n2⟩ := (hpg.1 (i + 1) (by omega)).2.2 (Or.inl e2)
  have a2i : a2 i = nI k := ((h.1.2.1 i (by omega)).2).trans n1
  have a2j : a2 (i + 1) = nI k2 := ((h.1.2.1 (i + 1) (by omega)).2).trans n2
  obtain ⟨x1, x2, x3, x4, x5, x6⟩ := gm_fr_x h.2.1 h0
  have hv := gm_fr_lo h.2.1 h0 hk
  unfold wpX_loadGet wpX_top
  dsimp only
  rw [x2, x4, x1, nI_1, nI_clamp (show i < 2 ^ 31 by omega), nI_clamp (show i + 1 < 2 ^ 31 by omega), a2i, a2j, gm_i4]
  refine ⟨pk_in i 60 (by omega), nm_e ⟨pk_in _ 10 x3, pk_le 6 (gm_d F) (fun _ => hno) (fun q => ⟨pk_in (4 * (F.1 - 1) + k) 40 (by omega), ?_⟩)⟩⟩
  rw [nI_clamp (show 4 * (F.1 - 1) + k < 2 ^ 31 by omega)]
  refine br_c (fun e => ⟨pk_in (4 * (F.1 - 1) + k) 40 (by omega), pk_in (i + 1) 60 (by omega), ?_⟩) (fun _ => hno)
  have e' : (gm_lo F k).1 = 2 := (gm_sh_s hv) ▸ e
  obtain ⟨g1, g2, g3⟩ := gm_sh_o hv e'
  have lt := gm_hp_lt h.2.2.2.1 _ g2
  rw [g1, gm_i3]
  refine nm_e ⟨pk_in (3 * pa (gm_lo F k).2.2 + k2) 96 (by omega), pk_in (3 * pa (gm_lo F k).2.2 + k2) 96 (by omega), ?_⟩
  rw [nI_clamp (by omega)]
  refine gm_wpush h h0 q (gm_hp_f h.2.2.2.1 g2 hk2) (fun u' h' => ?_)
  obtain ⟨xpr', xlv', xfc', xou', xyu', xrm', xmk', xsc', xmd', xrs', xrn', xpc', xwc', a1', a2', a3', a4', a5', a6', a7', a8', a9', a10', a11', a12', a13', a14', a15', a16', a17', a18', a19', a20', a21', a22'⟩ := u'
  obtain ⟨y1, y2, y3, y4, y5, y6⟩ := gm_fr_x h'.2.1 h0
  have y6' : a11' (F.1 - 1) = gm_cur F := y6
  dsimp only
  rw [y6']
  obtain ⟨st1, st2⟩ := gm_st_lg (P := P) (F := F) (G := G) (H := H) (C := C) hi hs hcur e1 e2 n1 n2 hk hk2 q e'
  refine ⟨pk_in _ 10 x3, pk_in _ 10 x3, nm_e (hyes _ ⟨_, _, st1, st2, rfl, gm_Mfr (gm_Mdue (i := gm_cur F + 2) h') rfl (fun f hf => ⟨?_, ?_⟩) (fun l hl => rfl) (fun f l hf hl => ?_)⟩)⟩
  · show gm_up (gm_up F.2.1 (F.1 - 1) (nI i + 1)) (F.1 - 1) (nI i + 1 + 1) f = gm_up F.2.1 (F.1 - 1) (gm_cur F + 2) f
    rw [gm_up_up, hcur, Int32.add_assoc]
    rfl
  · show gm_up (gm_up (gm_up F.2.2.1 (F.1 - 1) (gm_d F + 1)) (F.1 - 1) (gm_d (gm_push (gm_sdue F (nI i + 1)) (gm_lo F k)) - 1)) (F.1 - 1) (gm_d (gm_drop (gm_push (gm_sdue F (nI i + 1)) (gm_lo F k)) 1) + 1) f = gm_up F.2.2.1 (F.1 - 1) (gm_d F + 1) f
    rw [gm_up_up, gm_up_up, gm_d_drop, gm_d_push]
    rfl
  · show gm_up (gm_up F.2.2.2.2 (6 * (F.1 - 1) + gm_d F) (gm_lo F k)) (6 * (F.1 - 1) + gm_d (gm_drop (gm_push (gm_sdue F (nI i + 1)) (gm_lo F k)) 1)) (H.2.2 (gm_lo F k).2.2 k2) (6 * f + l) = gm_up F.2.2.2.2 (6 * (F.1 - 1) + gm_d F) (H.2.2 (gm_lo F k).2.2 k2) (6 * f + l)
    have ed : gm_d (gm_drop (gm_push (gm_sdue F (nI i + 1)) (gm_lo F k)) 1) = gm_d F := by
      rw [gm_d_drop, gm_d_push]
      rfl
    rw [ed, gm_up_up]
theorem gm_st_pa {i : Nat} (hi : i < 59) (hs : C.1 ≤ 298) (hcur : gm_cur F = nI i) (e1 : P.1 i = 1) (e2 : P.1 (i + 1) = 8) (hd : gm_d F < 6) (hd1 : 1 ≤ gm_d F) (hv : (gm_at F 0).1 = 1) :
    gm_step P (F, G, H, C) = (-1, gm_push (gm_sdue F (nI i + 1)) (1, P.2.1 i, 0), G, H, gm_tick C) ∧ gm_step P (gm_push (gm_sdue F (nI i + 1)) (1, P.2.1 i, 0), G, H, gm_tick C) = (-1, gm_sdue (gm_push (gm_drop (gm_push (gm_sdue F (nI i + 1)) (1, P.2.1 i, 0)) 2) (1, (gm_at F 0).2.1 + P.2.1 i, 0)) (nI i + 1 + 1), G, H, gm_tick (gm_tick C)) := by
  constructor
  · refine gm_step_w hcur (by omega) (by omega) ?_ ?_ ?_
    · rw [e1]
      exact Nat.zero_le _
    · rw [e1]
      show gm_d F - 0 + 1 ≤ 6
      omega
    · rw [e1]
      exact gm_one_1
  · have ec : gm_cur (gm_push (gm_sdue F (nI i + 1)) (1, P.2.1 i, 0)) = nI i + 1 := gm_up_s
    have a1 : gm_at (gm_push (gm_sdue F (nI i + 1)) (1, P.2.1 i, 0)) 1 = gm_at F 0 := gm_at_push1 (F := gm_sdue F (nI i + 1)) (k := 0) (show 0 < gm_d F by omega)
    have ecb : gm_comb 8 (gm_push (gm_sdue F (nI i + 1)) (1, P.2.1 i, 0)) = (gm_at F 0).2.1 + P.2.1 i := by
      unfold gm_comb
      rw [if_pos rfl, a1, gm_at_push0]
    refine gm_step_w (i := i + 1) (by rw [ec, nI_1]) (by omega) (by show ¬ C.1 + 1 = 300; omega) ?_ ?_ ?_
    · rw [e2, gm_d_push]
      show 2 ≤ gm_d F + 1
      omega
    · rw [e2, gm_d_push]
      show gm_d F + 1 - 2 + 1 ≤ 6
      omega
    · rw [e2]
      have t := gm_one_c (P := P) (F := gm_push (gm_sdue F (nI i + 1)) (1, P.2.1 i, 0)) (G := G) (H := H) (C := gm_tick C) (i := nI (i + 1)) (o := 8) (n := P.2.1 (i + 1)) (Or.inl rfl) ⟨by rw [gm_at_push0], by rw [a1]; exact hv⟩
      rw [ecb, ec] at t
      exact t
theorem gm_wpa {post : Int32 → St1 → Prop} (h : gm_M True P 0 pa D F G H C u) (h0 : 0 < F.1) {i : Nat} (hi : i < 59) (hs : C.1 ≤ 298) (hcur : gm_cur F = nI i) (e1 : P.1 i = 1) (e2 : P.1 (i + 1) = 8) (hno : post 0 u) (hyes : ∀ u', gm_two P F G H C pa D u' → post 1 u') : wpX_pushAdd post u (nI i) := by
  obtain ⟨xpr, xlv, xfc, xou, xyu, xrm, xmk, xsc, xmd, xrs, xrn, xpc, xwc, a1, a2, a3, a4, a5, a6, a7, a8, a9, a10, a11, a12, a13, a14, a15, a16, a17, a18, a19, a20, a21, a22⟩ := u
  have a2i : a2 i = P.2.1 i := (h.1.2.1 i (by omega)).2
  obtain ⟨x1, x2, x3, x4, x5, x6⟩ := gm_fr_x h.2.1 h0
  unfold wpX_pushAdd wpX_top
  dsimp only
  rw [x2, x4, x6, x1, nI_clamp (show i < 2 ^ 31 by omega), a2i]
  refine ⟨pk_in _ 10 x3, pk_lt (gm_d F) 1 (fun _ => hno) (fun q => ⟨pk_in _ 10 x3, pk_le 6 (gm_d F) (fun _ => hno) (fun q2 => ?_)⟩)⟩
  refine gm_wsort h h0 (k := 0) (by omega) ?_
  refine br_c (fun e => ?_) (fun _ => hno)
  have hv := gm_fr_at h.2.1 h0 (show 0 < gm_d F by omega)
  have ei : 6 * nI (F.1 - 1) + nI (gm_d F) - 1 - 0 = nI (6 * (F.1 - 1) + gm_d F - 1 - 0) := gm_ft (k := 0) (by omega)
  have n0 := gm_sh_n1 hv e
  have s0 : a15 (6 * (F.1 - 1) + gm_d F - 1 - 0) = 1 := (gm_sh_s hv).trans e
  unfold wpX_fromTop wpX_top
  dsimp only
  rw [x2, x4, x1, ei, nI_clamp (show 6 * (F.1 - 1) + gm_d F - 1 - 0 < 2 ^ 31 by omega), n0]
  have hM2 : gm_M True P 0 pa D (gm_put F 0 (1, (gm_at F 0).2.1 + P.2.1 i, 0)) G H C (xpr, xlv, xfc, xou, xyu, xrm, xmk, xsc, xmd, xrs, xrn, xpc, xwc, a1, a2, a3, a4, a5, a6, a7, a8, a9, a10, a11, a12, a13, a14, a15, upd a16 (6 * (F.1 - 1) + gm_d F - 1 - 0) ((gm_at F 0).2.1 + P.2.1 i), a17, a18, a19, a20, a21, a22) := by
    obtain ⟨hc, hf, hg, hh, hcs⟩ := h
    have t := gm_fr_put (c := 0) hf (gm_sh_1 (pa := pa) (D := D) ((gm_at F 0).2.1 + P.2.1 i))
    have e15 : upd a15 (6 * (F.1 - 1) + gm_d F - 1 - 0) 1 = a15 := by
      have t2 := gm_upd_same a15 (6 * (F.1 - 1) + gm_d F - 1 - 0)
      rw [s0] at t2
      exact t2
    rw [e15] at t
    exact ⟨hc, t, hg, hh, hcs⟩
  obtain ⟨st1, st2⟩ := gm_st_pa (P := P) (F := F) (G := G) (H := H) (C := C) hi hs hcur e1 e2 q2 q e
  refine ⟨pk_in _ 10 x3, pk_in (6 * (F.1 - 1) + gm_d F - 1 - 0) 60 (by omega), pk_in i 60 (by omega), pk_in (6 * (F.1 - 1) + gm_d F - 1 - 0) 60 (by omega), nm_e ⟨pk_in _ 10 x3, pk_in _ 10 x3, nm_e (hyes _ ⟨_, _, st1, st2, rfl, gm_Mfr (gm_Mdue (i := gm_cur F + 2) hM2) rfl (fun f hf => ⟨?_, ?_⟩) (fun l hl => rfl) (fun f l hf hl => ?_)⟩)⟩⟩
  · show gm_up (gm_up F.2.1 (F.1 - 1) (nI i + 1)) (F.1 - 1) (nI i + 1 + 1) f = gm_up F.2.1 (F.1 - 1) (gm_cur F + 2) f
    rw [gm_up_up, hcur, Int32.add_assoc]
    rfl
  · show gm_up (gm_up (gm_up F.2.2.1 (F.1 - 1) (gm_d F + 1)) (F.1 - 1) (gm_d (gm_push (gm_sdue F (nI i + 1)) (1, P.2.1 i, 0)) - 2)) (F.1 - 1) (gm_d (gm_drop (gm_push (gm_sdue F (nI i + 1)) (1, P.2.1 i, 0)) 2) + 1) f = F.2.2.1 f
    rw [gm_up_up, gm_up_up, gm_d_drop, gm_d_push]
    by_cases ef : f = F.1 - 1
    · rw [ef, gm_up_s]
      show gm_d F + 1 - 2 + 1 = gm_d F
      omega
    · rw [gm_up_n ef]
  · have hl' : l < F.2.2.1 f := hl
    have hf' : f < F.1 := hf
    have d6 := (h.2.1.2.2.1 f hf').2.2
    have ed : gm_d (gm_drop (gm_push (gm_sdue F (nI i + 1)) (1, P.2.1 i, 0)) 2) = gm_d F - 1 := by
      rw [gm_d_drop, gm_d_push]
      show gm_d F + 1 - 2 = gm_d F - 1
      omega
    show gm_up (gm_up F.2.2.2.2 (6 * (F.1 - 1) + gm_d F) (1, P.2.1 i, 0)) (6 * (F.1 - 1) + gm_d (gm_drop (gm_push (gm_sdue F (nI i + 1)) (1, P.2.1 i, 0)) 2)) (1, (gm_at F 0).2.1 + P.2.1 i, 0) (6 * f + l) = gm_up F.2.2.2.2 (6 * (F.1 - 1) + gm_d F - 1 - 0) (1, (gm_at F 0).2.1 + P.2.1 i, 0) (6 * f + l)
    rw [ed, show 6 * (F.1 - 1) + gm_d F - 1 - 0 = 6 * (F.1 - 1) + (gm_d F - 1) by omega]
    by_cases eq : 6 * f + l = 6 * (F.1 - 1) + (gm_d F - 1)
    · rw [eq, gm_up_s, gm_up_s]
    · rw [gm_up_n eq, gm_up_n eq, gm_up_n ?_]
      intro w
      by_cases ef : f = F.1 - 1
      · have : l < gm_d F := by
          unfold gm_d
          rw [← ef]
          exact hl'
        omega
      · omega
theorem gm_st_lz {i : Nat} (hi : i < 59) (hs : C.1 ≤ 298) (hcur : gm_cur F = nI i) (e1 : P.1 i = 11) (e2 : P.1 (i + 1) = 14) (hd6 : gm_d F ≤ 6) (hd : 2 ≤ gm_d F) (hv : (gm_at F 0).1 = 1 ∧ (gm_at F 1).1 = 1) :
    gm_step P (F, G, H, C) = (-1, gm_sdue (gm_push (gm_drop F 2) (1, gm_comb 11 F, 0)) (nI i + 1), G, H, gm_tick C) ∧ gm_step P (gm_sdue (gm_push (gm_drop F 2) (1, gm_comb 11 F, 0)) (nI i + 1), G, H, gm_tick C) = (-1, gm_sdue (gm_drop (gm_sdue (gm_push (gm_drop F 2) (1, gm_comb 11 F, 0)) (nI i + 1)) 1) (if gm_comb 11 F = 0 then P.2.1 (i + 1) else nI (i + 1) + 1), G, H, gm_tick (gm_tick C)) := by
  constructor
  · refine gm_step_w hcur (by omega) (by omega) ?_ ?_ ?_
    · rw [e1]
      exact hd
    · rw [e1]
      show gm_d F - 2 + 1 ≤ 6
      omega
    · rw [e1, ← hcur]
      exact gm_one_c (Or.inr rfl) hv
  · have ec : gm_cur (gm_sdue (gm_push (gm_drop F 2) (1, gm_comb 11 F, 0)) (nI i + 1)) = nI i + 1 := gm_up_s
    have a0 : gm_at (gm_sdue (gm_push (gm_drop F 2) (1, gm_comb 11 F, 0)) (nI i + 1)) 0 = (1, gm_comb 11 F, 0) := gm_at_push0 (F := gm_drop F 2)
    have ed : gm_d (gm_sdue (gm_push (gm_drop F 2) (1, gm_comb 11 F, 0)) (nI i + 1)) = gm_d F - 2 + 1 := (gm_d_push (F := gm_drop F 2)).trans (by rw [gm_d_drop])
    refine gm_step_w (i := i + 1) (by rw [ec, nI_1]) (by omega) (by show ¬ C.1 + 1 = 300; omega) ?_ ?_ ?_
    · rw [e2, ed]
      show 1 ≤ gm_d F - 2 + 1
      omega
    · rw [e2, ed]
      show gm_d F - 2 + 1 - 1 + 0 ≤ 6
      omega
    · rw [e2]
      have t := gm_one_14 (P := P) (F := gm_sdue (gm_push (gm_drop F 2) (1, gm_comb 11 F, 0)) (nI i + 1)) (G := G) (H := H) (C := gm_tick C) (i := nI (i + 1)) (n := P.2.1 (i + 1)) (by rw [a0])
      rw [a0] at t
      exact t
theorem gm_wlz {post : Int32 → St1 → Prop} (h : gm_M True P 0 pa D F G H C u) (h0 : 0 < F.1) {i : Nat} (hi : i < 59) (hs : C.1 ≤ 298) (hcur : gm_cur F = nI i) (e1 : P.1 i = 11) (e2 : P.1 (i + 1) = 14) (hno : post 0 u) (hyes : ∀ u', gm_two P F G H C pa D u' → post 1 u') : wpX_lessZero post u (nI i) := by
  obtain ⟨xpr, xlv, xfc, xou, xyu, xrm, xmk, xsc, xmd, xrs, xrn, xpc, xwc, a1, a2, a3, a4, a5, a6, a7, a8, a9, a10, a11, a12, a13, a14, a15, a16, a17, a18, a19, a20, a21, a22⟩ := u
  obtain ⟨x1, x2, x3, x4, x5, x6⟩ := gm_fr_x h.2.1 h0
  unfold wpX_lessZero wpX_top
  dsimp only
  rw [x2, x4, x1]
  refine ⟨pk_in _ 10 x3, pk_lt (gm_d F) 2 (fun _ => hno) (fun q => ?_)⟩
  refine gm_wsort h h0 (k := 0) (by omega) ?_
  refine br_c (fun e0 => ?_) (fun _ => hno)
  refine gm_wsort h h0 (k := 1) (by omega) ?_
  refine br_c (fun e0' => ?_) (fun _ => hno)
  refine gm_wnum h h0 (k := 1) (by omega) (fun m1 hm1 => ?_)
  refine gm_wnum h h0 (k := 0) (by omega) (fun m0 hm0 => ?_)
  rw [gm_sh_n1 hm0 e0, gm_sh_n1 hm1 e0']
  obtain ⟨st1, st2⟩ := gm_st_lz (P := P) (F := F) (G := G) (H := H) (C := C) hi hs hcur e1 e2 x5 q ⟨e0, e0'⟩
  have two : ∀ (t : Int32) {xpr xlv xfc xou xyu xrm xmk xsc xmd xrs xrn xpc xwc : Int32} {a1 a2 a3 a4 a5 a6 a7 a8 a9 a10 a11 a12 a13 a14 a15 a16 a17 a18 a19 a20 a21 a22 : Nat → Int32}, t = (if gm_comb 11 F = 0 then P.2.1 (i + 1) else nI (i + 1) + 1) → gm_M True P 0 pa D (gm_drop F 2) G H C (xpr, xlv, xfc, xou, xyu, xrm, xmk, xsc, xmd, xrs, xrn, xpc, xwc, a1, a2, a3, a4, a5, a6, a7, a8, a9, a10, a11, a12, a13, a14, a15, a16, a17, a18, a19, a20, a21, a22) → gm_two P F G H C pa D (xpr, xlv, xfc, xou, xyu, xrm, xmk, xsc, xmd, xrs, xrn, xpc, xwc, a1, a2, a3, a4, a5, a6, a7, a8, a9, a10, upd a11 (F.1 - 1) t, a12, a13, a14, a15, a16, a17, a18, a19, a20, a21, a22) := by
    intro t xpr' xlv' xfc' xou' xyu' xrm' xmk' xsc' xmd' xrs' xrn' xpc' xwc' a1' a2' a3' a4' a5' a6' a7' a8' a9' a10' a11' a12' a13' a14' a15' a16' a17' a18' a19' a20' a21' a22' et hM
    refine ⟨_, _, st1, st2, rfl, gm_Mfr (gm_Mdue (i := t) hM) rfl (fun f hf => ⟨?_, ?_⟩) (fun l hl => rfl) (fun f l hf hl => ?_)⟩
    · show gm_up (gm_up F.2.1 (F.1 - 1) (nI i + 1)) (F.1 - 1) (if gm_comb 11 F = 0 then P.2.1 (i + 1) else nI (i + 1) + 1) f = gm_up F.2.1 (F.1 - 1) t f
      rw [gm_up_up, et]
    · show gm_up (gm_up (gm_up F.2.2.1 (F.1 - 1) (gm_d F - 2)) (F.1 - 1) (gm_d (gm_drop F 2) + 1)) (F.1 - 1) (gm_d (gm_push (gm_drop F 2) (1, gm_comb 11 F, 0)) - 1) f = gm_up F.2.2.1 (F.1 - 1) (gm_d F - 2) f
      rw [gm_up_up, gm_up_up, gm_d_push, gm_d_drop]
      rfl
    · have hl' : l < gm_up F.2.2.1 (F.1 - 1) (gm_d F - 2) f := hl
      have hf' : f < F.1 := hf
      have d6 := (h.2.1.2.2.1 f hf').2.2
      show gm_up F.2.2.2.2 (6 * (F.1 - 1) + gm_d (gm_drop F 2)) (1, gm_comb 11 F, 0) (6 * f + l) = F.2.2.2.2 (6 * f + l)
      rw [gm_d_drop, gm_up_n ?_]
      by_cases ef : f = F.1 - 1
      · rw [ef, gm_up_s] at hl'
        omega
      · rw [gm_up_n ef] at hl'
        omega
  have k53 : ∀ z0 : Int32, z0 = gm_comb 11 F → wX_lessZero_53 post (nI i) (nI (F.1 - 1)) z0 xpr xlv xfc xou xyu xrm xmk xsc xmd xrs xrn xpc xwc a1 a2 a3 a4 a5 a6 a7 a8 a9 a10 a11 a12 a13 a14 a15 a16 a17 a18 a19 a20 a21 a22 := by
    intro z0 ez
    unfold wX_lessZero_53
    refine gm_wdrop h h0 q (fun u' h' => ?_)
    obtain ⟨xpr', xlv', xfc', xou', xyu', xrm', xmk', xsc', xmd', xrs', xrn', xpc', xwc', a1', a2', a3', a4', a5', a6', a7', a8', a9', a10', a11', a12', a13', a14', a15', a16', a17', a18', a19', a20', a21', a22'⟩ := u'
    have a2j : a2' (i + 1) = P.2.1 (i + 1) := (h'.1.2.1 (i + 1) (by omega)).2
    dsimp only
    rw [nI_1, nI_clamp (show F.1 - 1 < 2 ^ 31 by omega), nI_clamp (show i + 1 < 2 ^ 31 by omega)]
    refine br_c (fun w => ⟨pk_in (i + 1) 60 (by omega), pk_in _ 10 x3, nm_e (hyes _ (two _ ?_ h'))⟩) (fun w => ⟨pk_in _ 10 x3, nm_e (hyes _ (two _ ?_ h'))⟩)
    · rw [a2j, if_pos (ez ▸ w)]
    · rw [if_neg (ez ▸ w), ← nI_1, Int32.add_assoc]
      rfl
  refine br_c (fun w => k53 0 ?_) (fun w => k53 1 ?_)
  · unfold gm_comb
    rw [if_neg (by decide), if_neg (by decide), if_neg (by decide), if_pos w]
  · unfold gm_comb
    rw [if_neg (by decide), if_neg (by decide), if_neg (by decide), if_neg w]
theorem gm_st_ll {i k k2 : Nat} (hi : i < 59) (hs : C.1 ≤ 298) (hcur : gm_cur F = nI i) (e1 : P.1 i = 3) (e2 : P.1 (i + 1) = 3) (n1 : P.2.1 i = nI k) (n2 : P.2.1 (i + 1) = nI k2) (hk : k < 4) (hk2 : k2 < 4) (hd : gm_d F ≤ 4) :
    gm_step P (F, G, H, C) = (-1, gm_push (gm_sdue F (nI i + 1)) (gm_lo F k), G, H, gm_tick C) ∧ gm_step P (gm_push (gm_sdue F (nI i + 1)) (gm_lo F k), G, H, gm_tick C) = (-1, gm_push (gm_sdue (gm_push (gm_sdue F (nI i + 1)) (gm_lo F k)) (nI (i + 1) + 1)) (gm_lo F k2), G, H, gm_tick (gm_tick C)) := by
  constructor
  · refine gm_step_w hcur (by omega) (by omega) ?_ ?_ ?_
    · rw [e1]
      exact Nat.zero_le _
    · rw [e1]
      show gm_d F - 0 + 1 ≤ 6
      omega
    · rw [e1, n1]
      have t := gm_one_3 (P := P) (F := F) (G := G) (H := H) (C := C) (i := nI i) (n := nI k)
      rw [nI_clamp (by omega)] at t
      exact t
  · have ec : gm_cur (gm_push (gm_sdue F (nI i + 1)) (gm_lo F k)) = nI i + 1 := gm_up_s
    refine gm_step_w (i := i + 1) (by rw [ec, nI_1]) (by omega) (by show ¬ C.1 + 1 = 300; omega) ?_ ?_ ?_
    · rw [e2]
      exact Nat.zero_le _
    · rw [e2, gm_d_push]
      show gm_d F + 1 - 0 + 1 ≤ 6
      omega
    · rw [e2, n2]
      have t := gm_one_3 (P := P) (F := gm_push (gm_sdue F (nI i + 1)) (gm_lo F k)) (G := G) (H := H) (C := gm_tick C) (i := nI (i + 1)) (n := nI k2)
      rw [nI_clamp (by omega)] at t
      exact t
theorem gm_wll {post : Int32 → St1 → Prop} (h : gm_M True P 0 pa D F G H C u) (h0 : 0 < F.1) {i : Nat} (hi : i < 59) (hs : C.1 ≤ 298) (hcur : gm_cur F = nI i) (e1 : P.1 i = 3) (e2 : P.1 (i + 1) = 3) (hno : post 0 u) (hyes : ∀ u', gm_two P F G H C pa D u' → post 1 u') : wpX_loadLoad post u (nI i) := by
  obtain ⟨xpr, xlv, xfc, xou, xyu, xrm, xmk, xsc, xmd, xrs, xrn, xpc, xwc, a1, a2, a3, a4, a5, a6, a7, a8, a9, a10, a11, a12, a13, a14, a15, a16, a17, a18, a19, a20, a21, a22⟩ := u
  have hpg : gm_pg P := h.1.1
  obtain ⟨k, hk, n1⟩ := (hpg.1 i (by omega)).2.1 (Or.inl e1)
  obtain ⟨k2, hk2, n2⟩ := (hpg.1 (i + 1) (by omega)).2.1 (Or.inl e2)
  have a2i : a2 i = nI k := ((h.1.2.1 i (by omega)).2).trans n1
  obtain ⟨x1, x2, x3, x4, x5, x6⟩ := gm_fr_x h.2.1 h0
  unfold wpX_loadLoad wpX_top
  dsimp only
  rw [x2, x4, x1, nI_1, nI_clamp (show i < 2 ^ 31 by omega), nI_clamp (show i + 1 < 2 ^ 31 by omega), a2i]
  refine ⟨pk_in _ 10 x3, pk_le (gm_d F) 4 (fun q => ⟨pk_in i 60 (by omega), ?_⟩) (fun _ => hno)⟩
  refine gm_wlocal h h0 (by omega) hk (fun u' h' => ?_)
  obtain ⟨xpr', xlv', xfc', xou', xyu', xrm', xmk', xsc', xmd', xrs', xrn', xpc', xwc', a1', a2', a3', a4', a5', a6', a7', a8', a9', a10', a11', a12', a13', a14', a15', a16', a17', a18', a19', a20', a21', a22'⟩ := u'
  have a2j : a2' (i + 1) = nI k2 := ((h'.1.2.1 (i + 1) (by omega)).2).trans n2
  refine ⟨pk_in (i + 1) 60 (by omega), ?_⟩
  refine gm_wlocal h' h0 (by rw [gm_d_push]; omega) hk2 (fun u2 h2 => ?_) a2j
  obtain ⟨xpr'', xlv'', xfc'', xou'', xyu'', xrm'', xmk'', xsc'', xmd'', xrs'', xrn'', xpc'', xwc'', a1'', a2'', a3'', a4'', a5'', a6'', a7'', a8'', a9'', a10'', a11'', a12'', a13'', a14'', a15'', a16'', a17'', a18'', a19'', a20'', a21'', a22''⟩ := u2
  obtain ⟨y1, y2, y3, y4, y5, y6⟩ := gm_fr_x h2.2.1 h0
  have y6' : a11'' (F.1 - 1) = gm_cur F := y6
  dsimp only
  rw [y6']
  obtain ⟨st1, st2⟩ := gm_st_ll (P := P) (F := F) (G := G) (H := H) (C := C) hi hs hcur e1 e2 n1 n2 hk hk2 q
  refine ⟨pk_in _ 10 x3, pk_in _ 10 x3, nm_e (hyes _ ⟨_, _, st1, st2, rfl, gm_Mfr (gm_Mdue (i := gm_cur F + 2) h2) rfl (fun f hf => ⟨?_, rfl⟩) (fun l hl => rfl) (fun f l hf hl => rfl)⟩)⟩
  show gm_up (gm_up F.2.1 (F.1 - 1) (nI i + 1)) (F.1 - 1) (nI (i + 1) + 1) f = gm_up F.2.1 (F.1 - 1) (gm_cur F + 2) f
  rw [gm_up_up, hcur, ← nI_1, Int32.add_assoc]
  rfl
def gm_two2 (P : gm_P) (F : gm_F) (G : Nat → gm_V) (H : gm_H) (C : gm_C) (pa : Nat → Nat) (D : Nat → Prop) (u : St1) : Prop :=
  ∃ S1 F2, gm_step P (F, G, H, C) = (-1, S1) ∧ gm_step P S1 = (-1, F2, G, H, gm_tick (gm_tick C)) ∧ F2.1 = F.1 ∧ gm_M True P 0 pa D F2 G H (gm_tick (gm_tick C)) u
theorem gm_cpl_i {x y : Int32} : (gm_cpl x y = 1 → x = 3 ∧ y = 16) ∧ (gm_cpl x y = 2 → x = 1 ∧ y = 8) ∧ (gm_cpl x y = 3 → x = 11 ∧ y = 14) ∧ (¬ gm_cpl x y = 0 → ¬ gm_cpl x y = 1 → ¬ gm_cpl x y = 2 → ¬ gm_cpl x y = 3 → x = 3 ∧ y = 3) := by
  unfold gm_cpl
  repeat' split
  · rename_i q
    exact ⟨fun _ => q, fun w => absurd w (by decide), fun w => absurd w (by decide), fun _ w => absurd rfl w⟩
  · rename_i q
    exact ⟨fun w => absurd w (by decide), fun _ => q, fun w => absurd w (by decide), fun _ _ w => absurd rfl w⟩
  · rename_i q
    exact ⟨fun w => absurd w (by decide), fun w => absurd w (by decide), fun _ => q, fun _ _ _ w => absurd rfl w⟩
  · rename_i q
    exact ⟨fun w => absurd w (by decide), fun w => absurd w (by decide), fun w => absurd w (by decide), fun _ _ _ _ => q⟩
  · exact ⟨fun w => absurd w (by decide), fun w => absurd w (by decide), fun w => absurd w (by decide), fun w => absurd rfl w⟩
theorem gm_wcouple {post : Int32 → St1 → Prop} (h : gm_M True P 0 pa D F G H C u) (h0 : 0 < F.1) {i : Nat} (hi : i < 59) (hcur : gm_cur F = nI i) (hc : ¬ gm_cpl (P.1 i) (P.1 (i + 1)) = 0) (hno : post 0 u) (hyes : ∀ u', gm_two2 P F G H C pa D u' → post 1 u') : wpX_workCouple post u (nI i) (gm_cpl (P.1 i) (P.1 (i + 1))) := by
  have k56 : ∀ u', gm_two P F G H C pa D u' → C.1 ≤ 298 → wX_workCouple_56 post 1 u'.1 u'.2.1 u'.2.2.1 u'.2.2.2.1 u'.2.2.2.2.1 u'.2.2.2.2.2.1 u'.2.2.2.2.2.2.1 u'.2.2.2.2.2.2.2.1 u'.2.2.2.2.2.2.2.2.1 u'.2.2.2.2.2.2.2.2.2.1 u'.2.2.2.2.2.2.2.2.2.2.1 u'.2.2.2.2.2.2.2.2.2.2.2.1 u'.2.2.2.2.2.2.2.2.2.2.2.2.1 u'.2.2.2.2.2.2.2.2.2.2.2.2.2.1 u'.2.2.2.2.2.2.2.2.2.2.2.2.2.2.1 u'.2.2.2.2.2.2.2.2.2.2.2.2.2.2.2.1 u'.2.2.2.2.2.2.2.2.2.2.2.2.2.2.2.2.1 u'.2.2.2.2.2.2.2.2.2.2.2.2.2.2.2.2.2.1 u'.2.2.2.2.2.2.2.2.2.2.2.2.2.2.2.2.2.2.1 u'.2.2.2.2.2.2.2.2.2.2.2.2.2.2.2.2.2.2.2.1 u'.2.2.2.2.2.2.2.2.2.2.2.2.2.2.2.2.2.2.2.2.1 u'.2.2.2.2.2.2.2.2.2.2.2.2.2.2.2.2.2.2.2.2.2.1 u'.2.2.2.2.2.2.2.2.2.2.2.2.2.2.2.2.2.2.2.2.2.2.1 u'.2.2.2.2.2.2.2.2.2.2.2.2.2.2.2.2.2.2.2.2.2.2.2.1 u'.2.2.2.2.2.2.2.2.2.2.2.2.2.2.2.2.2.2.2.2.2.2.2.2.1 u'.2.2.2.2.2.2.2.2.2.2.2.2.2.2.2.2.2.2.2.2.2.2.2.2.2.1 u'.2.2.2.2.2.2.2.2.2.2.2.2.2.2.2.2.2.2.2.2.2.2.2.2.2.2.1 u'.2.2.2.2.2.2.2.2.2.2.2.2.2.2.2.2.2.2.2.2.2.2.2.2.2.2.2.1 u'.2.2.2.2.2.2.2.2.2.2.2.2.2.2.2.2.2.2.2.2.2.2.2.2.2.2.2.2.1 u'.2.2.2.2.2.2.2.2.2.2.2.2.2.2.2.2.2.2.2.2.2.2.2.2.2.2.2.2.2.1 u'.2.2.2.2.2.2.2.2.2.2.2.2.2.2.2.2.2.2.2.2.2.2.2.2.2.2.2.2.2.2.1 u'.2.2.2.2.2.2.2.2.2.2.2.2.2.2.2.2.2.2.2.2.2.2.2.2.2.2.2.2.2.2.2.1 u'.2.2.2.2.2.2.2.2.2.2.2.2.2.2.2.2.2.2.2.2.2.2.2.2.2.2.2.2.2.2.2.2.1 u'.2.2.2.2.2.2.2.2.2.2.2.2.2.2.2.2.2.2.2.2.2.2.2.2.2.2.2.2.2.2.2.2.2.1 u'.2.2.2.2.2.2.2.2.2.2.2.2.2.2.2.2.2.2.2.2.2.2.2.2.2.2.2.2.2.2.2.2.2.2 := by
    intro u' h2 hs
    obtain ⟨xpr', xlv', xfc', xou', xyu', xrm', xmk', xsc', xmd', xrs', xrn', xpc', xwc', a1', a2', a3', a4', a5', a6', a7', a8', a9', a10', a11', a12', a13', a14', a15', a16', a17', a18', a19', a20', a21', a22'⟩ := u'
    obtain ⟨S1, F2, t1, t2, t3, hM⟩ := h2
    refine br_f (by decide) (nm_e ⟨rfl, hyes _ ⟨S1, F2, t1, t2, t3, ?_⟩⟩)
    obtain ⟨hc, hf, hg, hh, s1, s2, s3, s4, s5, s6, s7, s8⟩ := hM
    exact ⟨hc, hf, hg, hh, by rw [s1]; exact nI_add C.1 2, by show C.1 + 1 + 1 ≤ 300; omega, s3, s4, s5, s6, by show C.2.2.2.2.1 ≤ C.1 + 1 + 1 + 0; omega, s8⟩
  have k0 : wX_workCouple_56 post 0 u.1 u.2.1 u.2.2.1 u.2.2.2.1 u.2.2.2.2.1 u.2.2.2.2.2.1 u.2.2.2.2.2.2.1 u.2.2.2.2.2.2.2.1 u.2.2.2.2.2.2.2.2.1 u.2.2.2.2.2.2.2.2.2.1 u.2.2.2.2.2.2.2.2.2.2.1 u.2.2.2.2.2.2.2.2.2.2.2.1 u.2.2.2.2.2.2.2.2.2.2.2.2.1 u.2.2.2.2.2.2.2.2.2.2.2.2.2.1 u.2.2.2.2.2.2.2.2.2.2.2.2.2.2.1 u.2.2.2.2.2.2.2.2.2.2.2.2.2.2.2.1 u.2.2.2.2.2.2.2.2.2.2.2.2.2.2.2.2.1 u.2.2.2.2.2.2.2.2.2.2.2.2.2.2.2.2.2.1 u.2.2.2.2.2.2.2.2.2.2.2.2.2.2.2.2.2.2.1 u.2.2.2.2.2.2.2.2.2.2.2.2.2.2.2.2.2.2.2.1 u.2.2.2.2.2.2.2.2.2.2.2.2.2.2.2.2.2.2.2.2.1 u.2.2.2.2.2.2.2.2.2.2.2.2.2.2.2.2.2.2.2.2.2.1 u.2.2.2.2.2.2.2.2.2.2.2.2.2.2.2.2.2.2.2.2.2.2.1 u.2.2.2.2.2.2.2.2.2.2.2.2.2.2.2.2.2.2.2.2.2.2.2.1 u.2.2.2.2.2.2.2.2.2.2.2.2.2.2.2.2.2.2.2.2.2.2.2.2.1 u.2.2.2.2.2.2.2.2.2.2.2.2.2.2.2.2.2.2.2.2.2.2.2.2.2.1 u.2.2.2.2.2.2.2.2.2.2.2.2.2.2.2.2.2.2.2.2.2.2.2.2.2.2.1 u.2.2.2.2.2.2.2.2.2.2.2.2.2.2.2.2.2.2.2.2.2.2.2.2.2.2.2.1 u.2.2.2.2.2.2.2.2.2.2.2.2.2.2.2.2.2.2.2.2.2.2.2.2.2.2.2.2.1 u.2.2.2.2.2.2.2.2.2.2.2.2.2.2.2.2.2.2.2.2.2.2.2.2.2.2.2.2.2.1 u.2.2.2.2.2.2.2.2.2.2.2.2.2.2.2.2.2.2.2.2.2.2.2.2.2.2.2.2.2.2.1 u.2.2.2.2.2.2.2.2.2.2.2.2.2.2.2.2.2.2.2.2.2.2.2.2.2.2.2.2.2.2.2.1 u.2.2.2.2.2.2.2.2.2.2.2.2.2.2.2.2.2.2.2.2.2.2.2.2.2.2.2.2.2.2.2.2.1 u.2.2.2.2.2.2.2.2.2.2.2.2.2.2.2.2.2.2.2.2.2.2.2.2.2.2.2.2.2.2.2.2.2.1 u.2.2.2.2.2.2.2.2.2.2.2.2.2.2.2.2.2.2.2.2.2.2.2.2.2.2.2.2.2.2.2.2.2.2 := by
    obtain ⟨xpr, xlv, xfc, xou, xyu, xrm, xmk, xsc, xmd, xrs, xrn, xpc, xwc, a1, a2, a3, a4, a5, a6, a7, a8, a9, a10, a11, a12, a13, a14, a15, a16, a17, a18, a19, a20, a21, a22⟩ := u
    exact br_t rfl ⟨rfl, hno⟩
  have hsc := h
  obtain ⟨c1, c2, c3, c4⟩ := gm_cpl_i (x := P.1 i) (y := P.1 (i + 1))
  obtain ⟨xpr, xlv, xfc, xou, xyu, xrm, xmk, xsc, xmd, xrs, xrn, xpc, xwc, a1, a2, a3, a4, a5, a6, a7, a8, a9, a10, a11, a12, a13, a14, a15, a16, a17, a18, a19, a20, a21, a22⟩ := u
  have xs : xsc = nI C.1 := h.2.2.2.2.1
  have c300 : C.1 ≤ 300 := h.2.2.2.2.2.1
  unfold wpX_workCouple
  dsimp only
  refine pk_le C.1 298 (fun q => ?_) (fun q => hno) xs
  refine br_c (fun w1 => ?_) (fun w1 => br_c (fun w2 => ?_) (fun w2 => br_c (fun w3 => ?_) (fun w3 => ?_)))
  · exact gm_wlg h h0 hi q hcur (c1 w1).1 (c1 w1).2 k0 (fun u' h' => k56 u' h' q)
  · exact gm_wpa h h0 hi q hcur (c2 w2).1 (c2 w2).2 k0 (fun u' h' => k56 u' h' q)
  · exact gm_wlz h h0 hi q hcur (c3 w3).1 (c3 w3).2 k0 (fun u' h' => k56 u' h' q)
  · exact gm_wll h h0 hi q hcur (c4 hc w1 w2 w3).1 (c4 hc w1 w2 w3).2 k0 (fun u' h' => k56 u' h' q)
end
end
section
section
variable {z : Prop} {P : gm_P} {b : Nat} {pa : Nat → Nat} {D : Nat → Prop} {F : gm_F} {G : Nat → gm_V} {H : gm_H} {C : gm_C} {u : St1}
theorem gm_wcode {post : Int32 → St1 → Prop} (h : gm_M False P b pa D F G H C u) {i : Nat} (hi : i < 60) {o n : Int32} (hfit : gm_fit o n) (hp : ∀ u', gm_M False (gm_up P.1 i o, gm_up P.2.1 i n, P.2.2.1, P.2.2.2) b pa D F G H C u' → post 1 u') : wpX_code post u (nI i) o n := by
  obtain ⟨xpr, xlv, xfc, xou, xyu, xrm, xmk, xsc, xmd, xrs, xrn, xpc, xwc, a1, a2, a3, a4, a5, a6, a7, a8, a9, a10, a11, a12, a13, a14, a15, a16, a17, a18, a19, a20, a21, a22⟩ := u
  obtain ⟨⟨d1, d2, d3, d4, d5, d6⟩, hf, hg, hh, hs⟩ := h
  obtain ⟨⟨j, hj, ej⟩, f4, f3⟩ := hfit
  have k118 : wX_code_118 post (nI i) o n xpr xlv xfc xou xyu xrm xmk xsc xmd xrs xrn xpc xwc a1 a2 a3 a4 a5 a6 a7 a8 a9 a10 a11 a12 a13 a14 a15 a16 a17 a18 a19 a20 a21 a22 := by
    unfold wX_code_118
    rw [nI_clamp (show i < 2 ^ 31 by omega), show o.toInt8.toInt32 = o by rw [ej, gm_b8 j (by omega)]]
    refine ⟨pk_in i 60 hi, nm_e ⟨pk_in i 60 hi, nm_e (hp _ ⟨⟨⟨fun k hk => ?_, d1.2⟩, fun k hk => ?_, d3, d4, fun q => absurd q id, fun q => absurd rfl q⟩, hf, hg, hh, hs⟩)⟩⟩
    · dsimp only
      by_cases e : k = i
      · rw [e, gm_up_s, gm_up_s]
        exact ⟨⟨j, hj, ej⟩, f4, f3⟩
      · rw [gm_up_n e, gm_up_n e]
        exact d1.1 k hk
    · dsimp only
      by_cases e : k = i
      · rw [e, gm_up_s, gm_up_s, pk_us, pk_us]
        exact ⟨rfl, rfl⟩
      · rw [gm_up_n e, gm_up_n e, pk_un e, pk_un e]
        exact d2 k hk
  have k102 : ∀ x5 : Int32, (¬ x5 = 0 → ∃ k, k < 3 ∧ n = nI k) → wX_code_102 post (nI i) o n x5 xpr xlv xfc xou xyu xrm xmk xsc xmd xrs xrn xpc xwc a1 a2 a3 a4 a5 a6 a7 a8 a9 a10 a11 a12 a13 a14 a15 a16 a17 a18 a19 a20 a21 a22 := by
    intro x5 h5
    unfold wX_code_102
    refine br_c (fun _ => k118) (fun e => ?_)
    obtain ⟨k, hk, ek⟩ := h5 e
    exact br_f (by rw [ek]; exact nI_pos (by omega)) (br_t (by rw [ek]; exact nI_le (b := 2) (by omega) (by omega)) k118)
  have k86 : ∀ x4 z0 : Int32, (¬ x4 = 0 → ∃ k, k < 4 ∧ n = nI k) → (¬ z0 = 0 → ∃ k, k < 3 ∧ n = nI k) → wX_code_86 post (nI i) o n x4 z0 xpr xlv xfc xou xyu xrm xmk xsc xmd xrs xrn xpc xwc a1 a2 a3 a4 a5 a6 a7 a8 a9 a10 a11 a12 a13 a14 a15 a16 a17 a18 a19 a20 a21 a22 := by
    intro x4 z0 h4 h5
    unfold wX_code_86
    refine br_c (fun _ => k102 z0 h5) (fun e => ?_)
    obtain ⟨k, hk, ek⟩ := h4 e
    exact br_f (by rw [ek]; exact nI_pos (by omega)) (br_f (by rw [ek]; exact nI_nlt (a := 3) (by omega) (by omega)) (k102 z0 h5))
  have k67 : ∀ z0 : Int32, (¬ z0 = 0 → ∃ k, k < 4 ∧ n = nI k) → wX_code_67 post (nI i) o n z0 xpr xlv xfc xou xyu xrm xmk xsc xmd xrs xrn xpc xwc a1 a2 a3 a4 a5 a6 a7 a8 a9 a10 a11 a12 a13 a14 a15 a16 a17 a18 a19 a20 a21 a22 := by
    intro z0 h4
    unfold wX_code_67
    refine br_c (fun e => k86 z0 1 h4 (fun _ => f3 (Or.inl e))) (fun e => br_c (fun e2 => k86 z0 1 h4 (fun _ => f3 (Or.inr e2))) (fun e2 => k86 z0 0 h4 (fun q => absurd rfl q)))
  have k62 : (o = 3 ∨ o = 4 ∨ o = 15 ∨ o = 18 ∨ o = 19 ∨ o = 21 ∨ o = 22) → wX_code_62 post (nI i) o n xpr xlv xfc xou xyu xrm xmk xsc xmd xrs xrn xpc xwc a1 a2 a3 a4 a5 a6 a7 a8 a9 a10 a11 a12 a13 a14 a15 a16 a17 a18 a19 a20 a21 a22 := fun e => k67 1 (fun _ => f4 e)
  unfold wpX_code
  dsimp only
  refine br_f (nI_pos (by omega)) (br_f (nI_nlt (a := 59) (by omega) (by omega)) (br_f (by rw [ej]; exact nI_pos (by omega)) (br_t (by rw [ej]; exact nI_le (b := 23) (by omega) (by omega)) ?_)))
  exact br_c (fun e => k62 (Or.inl e)) (fun _ => br_c (fun e => k62 (Or.inr (Or.inl e))) (fun _ => br_c (fun e => k62 (Or.inr (Or.inr (Or.inl e)))) (fun _ => br_c (fun e => k62 (Or.inr (Or.inr (Or.inr (Or.inl e))))) (fun _ => br_c (fun e => k62 (Or.inr (Or.inr (Or.inr (Or.inr (Or.inl e)))))) (fun _ => br_c (fun e => k62 (Or.inr (Or.inr (Or.inr (Or.inr (Or.inr (Or.inl e))))))) (fun _ => br_c (fun e => k62 (Or.inr (Or.inr (Or.inr (Or.inr (Or.inr (Or.inr e))))))) (fun _ => k67 0 (fun q => absurd rfl q))))))))
theorem gm_ab_t : ∀ c, c < 4 → ∀ d, d < 4 → (nI d - 1 < nI c ↔ d ≤ c) ∧ ¬ (nI d - 1 < -1) ∧ (nI d - 1).toInt8.toInt32 = nI d - 1 ∧ (d ≤ c → nI d - 1 = -1 ∨ (nI d - 1 = nI (d - 1) ∧ d - 1 < c)) := by decide +kernel
theorem gm_wabove {post : Int32 → St1 → Prop} (h : gm_M False P b pa D F G H C u) {c d : Nat} (hc : c < 4) (hd : d < 4) (h1 : d ≤ c → ∀ u', gm_M False (P.1, P.2.1, gm_up P.2.2.1 c (nI d - 1), P.2.2.2) b pa D F G H C u' → post 1 u') (h2 : ¬ d ≤ c → post 0 u) : wpX_above post u (nI c) (nI d - 1) := by
  obtain ⟨xpr, xlv, xfc, xou, xyu, xrm, xmk, xsc, xmd, xrs, xrn, xpc, xwc, a1, a2, a3, a4, a5, a6, a7, a8, a9, a10, a11, a12, a13, a14, a15, a16, a17, a18, a19, a20, a21, a22⟩ := u
  obtain ⟨⟨d1, d2, d3, d4, d5, d6⟩, hf, hg, hh, hs⟩ := h
  obtain ⟨t1, t2, t3, t4⟩ := gm_ab_t c hc d hd
  unfold wpX_above
  dsimp only
  refine br_f (nI_pos (by omega)) (br_f (nI_nlt (a := 3) (by omega) (by omega)) (br_f t2 (ek_if t1 (fun e => ?_) h2)))
  rw [nI_clamp (show c < 2 ^ 31 by omega), t3]
  refine ⟨pk_in c 4 hc, nm_e (h1 e _ ⟨⟨⟨d1.1, fun k hk => ?_, d1.2.2⟩, d2, fun k hk => ?_, d4, fun q => absurd q id, fun q => absurd rfl q⟩, hf, hg, hh, hs⟩)⟩
  · dsimp only
    by_cases ek : k = c
    · rw [ek, gm_up_s]
      rcases t4 e with w | ⟨w1, w2⟩
      · exact Or.inl w
      · exact Or.inr ⟨d - 1, w2, w1⟩
    · rw [gm_up_n ek]
      exact d1.2.1 k hk
  · dsimp only
    by_cases ek : k = c
    · rw [ek, gm_up_s, pk_us]
    · rw [gm_up_n ek, pk_un ek]
      exact d3 k hk
theorem gm_wmethod {post : Int32 → St1 → Prop} (h : gm_M False P b pa D F G H C u) {c s t : Nat} (hc : c < 4) (hs4 : s < 4) (ht : t < 60) (hp : ∀ u', gm_M False (P.1, P.2.1, P.2.2.1, gm_up P.2.2.2 (4 * c + s) (nI t)) b pa D F G H C u' → post 1 u') : wpX_method post u (nI c) (nI s) (nI t) := by
  obtain ⟨xpr, xlv, xfc, xou, xyu, xrm, xmk, xsc, xmd, xrs, xrn, xpc, xwc, a1, a2, a3, a4, a5, a6, a7, a8, a9, a10, a11, a12, a13, a14, a15, a16, a17, a18, a19, a20, a21, a22⟩ := u
  obtain ⟨⟨d1, d2, d3, d4, d5, d6⟩, hf, hg, hh, hs⟩ := h
  unfold wpX_method
  dsimp only
  refine br_f (nI_pos (by omega)) (br_f (nI_nlt (a := 3) (by omega) (by omega)) (br_f (nI_pos (by omega)) (br_f (nI_nlt (a := 3) (by omega) (by omega)) (br_f (fun q => absurd (Int32.lt_trans q (by decide)) (nI_pos (n := t) (by omega))) (br_t (nI_le (b := 59) (by omega) (by omega)) ?_)))))
  rw [gm_i4, nI_clamp (show 4 * c + s < 2 ^ 31 by omega), gm_b8 t (by omega)]
  refine ⟨pk_in (4 * c + s) 16 (by omega), nm_e (hp _ ⟨⟨⟨d1.1, d1.2.1, fun k hk => ?_⟩, d2, d3, fun k hk => ?_, fun q => absurd q id, fun q => absurd rfl q⟩, hf, hg, hh, hs⟩)⟩
  · dsimp only
    by_cases ek : k = 4 * c + s
    · rw [ek, gm_up_s, gm_b8 t (by omega)]
    · rw [gm_up_n ek]
      exact d1.2.2 k hk
  · dsimp only
    by_cases ek : k = 4 * c + s
    · rw [ek, gm_up_s, pk_us]
    · rw [gm_up_n ek, pk_un ek]
      exact d4 k hk
theorem gm_wclear {post : Int32 → St1 → Prop} (h : gm_M z P b pa D F G H C u) {g : Nat} (hg4 : g < 4) (hp : ∀ u', gm_M z P b pa D F (gm_up G g (0, 0, 0)) H C u' → post 1 u') : wpX_clear post u (nI g) := by
  obtain ⟨xpr, xlv, xfc, xou, xyu, xrm, xmk, xsc, xmd, xrs, xrn, xpc, xwc, a1, a2, a3, a4, a5, a6, a7, a8, a9, a10, a11, a12, a13, a14, a15, a16, a17, a18, a19, a20, a21, a22⟩ := u
  obtain ⟨hc, hf, hg, hh, hs⟩ := h
  unfold wpX_clear
  dsimp only
  refine br_f (nI_pos (by omega)) (br_t (nI_le (b := 3) (by omega) (by omega)) ?_)
  rw [nI_clamp (show g < 2 ^ 31 by omega)]
  exact ⟨pk_in g 4 hg4, nm_e ⟨pk_in g 4 hg4, nm_e (hp _ ⟨hc, hf, gm_gl_up hg gm_sh_0, hh, hs⟩)⟩⟩
theorem gm_wlevel {post : Int32 → St1 → Prop} (h : gm_M z P b pa D F G H C u) {l : Nat} (hl : l < 3) (hp : ∀ u', gm_M z P b pa D F G H C u' → post 1 u') {x : Int32} (hx : x = nI l := by rfl) : wpX_level post u x := by
  obtain ⟨xpr, xlv, xfc, xou, xyu, xrm, xmk, xsc, xmd, xrs, xrn, xpc, xwc, a1, a2, a3, a4, a5, a6, a7, a8, a9, a10, a11, a12, a13, a14, a15, a16, a17, a18, a19, a20, a21, a22⟩ := u
  obtain ⟨hc, hf, hg, hh, hs⟩ := h
  subst hx
  unfold wpX_level
  dsimp only
  exact br_f (nI_pos (by omega)) (br_t (nI_le (b := 2) (by omega) (by omega)) (hp _ ⟨hc, hf, hg, hh, hs⟩))
theorem gm_cpl_8 (x y : Int32) : (gm_cpl x y).toInt8.toInt32 = gm_cpl x y := by
  unfold gm_cpl
  repeat' split
  all_goals rfl
theorem gm_wcpl {post : Int32 → Prop} {x y : Int32} (hp : post (gm_cpl x y)) : wpX_coupleOf post u x y := by
  obtain ⟨xpr, xlv, xfc, xou, xyu, xrm, xmk, xsc, xmd, xrs, xrn, xpc, xwc, a1, a2, a3, a4, a5, a6, a7, a8, a9, a10, a11, a12, a13, a14, a15, a16, a17, a18, a19, a20, a21, a22⟩ := u
  have k40 : ¬ (x = 3 ∧ y = 16) → ¬ (x = 1 ∧ y = 8) → ¬ (x = 11 ∧ y = 14) → wX_coupleOf_40 post x y xpr xlv xfc xou xyu xrm xmk xsc xmd xrs xrn xpc xwc a1 a2 a3 a4 a5 a6 a7 a8 a9 a10 a11 a12 a13 a14 a15 a16 a17 a18 a19 a20 a21 a22 := by
    intro e1 e2 e3
    unfold gm_cpl at hp
    rw [if_neg e1, if_neg e2, if_neg e3] at hp
    refine br_c (fun w1 => br_c (fun w2 => ?_) (fun w2 => ?_)) (fun w1 => ?_)
    · rw [if_pos ⟨w1, w2⟩] at hp
      exact hp
    · rw [if_neg (fun q => w2 q.2)] at hp
      exact hp
    · rw [if_neg (fun q => w1 q.1)] at hp
      exact hp
  have k26 : ¬ (x = 3 ∧ y = 16) → ¬ (x = 1 ∧ y = 8) → wX_coupleOf_26 post x y xpr xlv xfc xou xyu xrm xmk xsc xmd xrs xrn xpc xwc a1 a2 a3 a4 a5 a6 a7 a8 a9 a10 a11 a12 a13 a14 a15 a16 a17 a18 a19 a20 a21 a22 := by
    intro e1 e2
    refine br_c (fun w1 => br_c (fun w2 => ?_) (fun w2 => k40 e1 e2 (fun q => w2 q.2))) (fun w1 => k40 e1 e2 (fun q => w1 q.1))
    unfold gm_cpl at hp
    rw [if_neg e1, if_neg e2, if_pos ⟨w1, w2⟩] at hp
    exact hp
  have k13 : ¬ (x = 3 ∧ y = 16) → wX_coupleOf_13 post x y xpr xlv xfc xou xyu xrm xmk xsc xmd xrs xrn xpc xwc a1 a2 a3 a4 a5 a6 a7 a8 a9 a10 a11 a12 a13 a14 a15 a16 a17 a18 a19 a20 a21 a22 := by
    intro e1
    refine br_c (fun w1 => br_c (fun w2 => ?_) (fun w2 => k26 e1 (fun q => w2 q.2))) (fun w1 => k26 e1 (fun q => w1 q.1))
    unfold gm_cpl at hp
    rw [if_neg e1, if_pos ⟨w1, w2⟩] at hp
    exact hp
  unfold wpX_coupleOf
  dsimp only
  refine br_c (fun w1 => br_c (fun w2 => ?_) (fun w2 => k13 (fun q => w2 q.2))) (fun w1 => k13 (fun q => w1 q.1))
  unfold gm_cpl at hp
  rw [if_pos ⟨w1, w2⟩] at hp
  exact hp
theorem gm_rs_fuel {ab st : Nat → Int32} (hab : ∀ c, c < 4 → ab c = -1 ∨ ∃ d, d < c ∧ ab c = nI d) (s : Nat) : ∀ n m c, c < 4 → c < n → c < m → gm_rs ab st n c s = gm_rs ab st m c s := by
  intro n
  induction n with
  | zero => intro m c _ h; omega
  | succ n ih =>
    intro m c hc hn hm
    obtain ⟨m', rfl⟩ : ∃ m', m = m' + 1 := ⟨m - 1, by omega⟩
    show (if st (4 * c + s) < 0 ∧ 0 ≤ ab c then gm_rs ab st n (ab c).toNatClampNeg s else st (4 * c + s)) = (if st (4 * c + s) < 0 ∧ 0 ≤ ab c then gm_rs ab st m' (ab c).toNatClampNeg s else st (4 * c + s))
    by_cases e : st (4 * c + s) < 0 ∧ 0 ≤ ab c
    · rw [if_pos e, if_pos e]
      rcases hab c hc with q | ⟨d, hd, q⟩
      · rw [q] at e
        exact absurd e.2 (by decide)
      · rw [q, nI_clamp (by omega)]
        exact ih m' d (by omega) (by omega) (by omega)
    · rw [if_neg e, if_neg e]
theorem gm_wprep {post : St1 → Prop} (h : gm_M False P b pa D F G H C u) (hp : ∀ u', gm_M True P b pa D F G H C u' → post u') : wpX_prepare post u := by
  obtain ⟨xpr, xlv, xfc, xou, xyu, xrm, xmk, xsc, xmd, xrs, xrn, xpc, xwc, a1, a2, a3, a4, a5, a6, a7, a8, a9, a10, a11, a12, a13, a14, a15, a16, a17, a18, a19, a20, a21, a22⟩ := u
  obtain ⟨⟨d1, d2, d3, d4, d5, d6⟩, hf, hg, hh, hs⟩ := h
  unfold wpX_prepare
  dsimp only
  refine br_c (fun e0 => ?_) (fun e0 => hp _ ⟨⟨d1, d2, d3, d4, fun _ => e0, d6⟩, hf, hg, hh, hs⟩)
  have k95 : ∀ b5 : Nat → Int32, (∀ c s, c < 4 → s < 4 → b5 (4 * c + s) = gm_rs P.2.2.1 P.2.2.2 4 c s) → ∃ n, wX_prepare_95 post 1 xlv xfc xou xyu xrm xmk xsc xmd xrs xrn xpc xwc n 0 a1 a2 a3 a4 b5 a6 a7 a8 a9 a10 a11 a12 a13 a14 a15 a16 a17 a18 a19 a20 a21 a22 := by
    intro b5 h5
    refine pk_loop (fun n i (s : (Nat → Int32) × (Nat → Int32)) => wX_prepare_95 post 1 xlv xfc xou xyu xrm xmk xsc xmd xrs xrn xpc xwc n (nI i) a1 a2 a3 a4 b5 s.1 s.2 a8 a9 a10 a11 a12 a13 a14 a15 a16 a17 a18 a19 a20 a21 a22)
      (fun i s => (∀ j, j < i → s.2 j = -1) ∧ (∀ j, j < i → j < 59 → s.1 j = gm_cpl (P.1 j) (P.1 (j + 1))) ∧ (59 < i → s.1 59 = 0)) 60 0 (a6, a7) (by omega) ⟨fun j q => absurd q (Nat.not_lt_zero _), fun j q => absurd q (Nat.not_lt_zero _), fun q => absurd q (by omega)⟩ ?_ ?_
    · intro n s hs'
      obtain ⟨i1, i2, i3⟩ := hs'
      refine pk_le 60 60 (fun _ => hp _ ⟨⟨d1, d2, d3, d4, fun _ => by decide, fun _ => ⟨h5, fun j hj => i2 j (by omega) hj, i3 (by omega), fun j c hj hc _ ha => ?_⟩⟩, hf, hg, hh, hs⟩) (fun q => absurd q (by omega))
      rw [i1 j hj] at ha
      exact absurd (by rw [← ha]; decide : nI c < 0) (nI_pos (by omega))
    · intro n i s hi hs' hw
      obtain ⟨s6, s7⟩ := s
      obtain ⟨i1, i2, i3⟩ := hs'
      dsimp only at i1 i2 i3
      refine pk_le 60 i (fun q => absurd q (by omega)) (fun _ => ⟨pk_in i 60 hi, nm_e ?_⟩)
      rw [nI_clamp (show i < 2 ^ 31 by omega)]
      have hA : ∀ j, j < i + 1 → upd s7 i (-1) j = -1 := by
        intro j hj
        by_cases e : j = i
        · rw [e, pk_us]
        · rw [pk_un e]
          exact i1 j (by omega)
      refine pk_le 59 i (fun q => ⟨pk_in i 60 hi, nm_e (nm_r (nI_1 i) (hw (upd s6 i ((0 : Int32).toInt8.toInt32), upd s7 i (-1)) ⟨hA, fun j hj hj9 => ?_, fun _ => ?_⟩))⟩) (fun q => ?_)
      · dsimp only
        rw [pk_un (by omega)]
        exact i2 j (by omega) hj9
      · have ei : i = 59 := by omega
        dsimp only
        rw [ei, pk_us]
        rfl
      · rw [nI_1, nI_clamp (show i + 1 < 2 ^ 31 by omega), (d2 i hi).1, (d2 (i + 1) (by omega)).1]
        refine ⟨pk_in i 60 hi, pk_in (i + 1) 60 (by omega), gm_wcpl ⟨pk_in i 60 hi, ?_⟩⟩
        rw [gm_cpl_8]
        refine nm_e (nm_e (hw (upd s6 i (gm_cpl (P.1 i) (P.1 (i + 1))), upd s7 i (-1)) ⟨hA, fun j hj hj9 => ?_, fun w => absurd w (by omega)⟩))
        dsimp only
        by_cases e : j = i
        · rw [e, pk_us]
        · rw [pk_un e]
          exact i2 j (by omega) hj9
  refine pk_loop (fun n c (s : Nat → Int32) => wX_prepare_15 post 1 xlv xfc xou xyu xrm xmk xsc xmd xrs xrn xpc xwc n (nI c) a1 a2 a3 a4 s a6 a7 a8 a9 a10 a11 a12 a13 a14 a15 a16 a17 a18 a19 a20 a21 a22) (fun c s => ∀ c' s', c' < c → s' < 4 → s (4 * c' + s') = gm_rs P.2.2.1 P.2.2.2 4 c' s') 4 0 a5 (by omega) (fun c' s' q => absurd q (Nat.not_lt_zero _)) ?_ ?_
  · intro n s hs'
    exact pk_le 4 4 (fun _ => k95 s (fun c s' hc hs4 => hs' c s' hc hs4)) (fun q => absurd q (by omega))
  · intro n c s hc hs' hw
    refine pk_le 4 c (fun q => absurd q (by omega)) (fun _ => ?_)
    refine pk_loop (fun n' l (s2 : Nat → Int32) => wX_prepare_22 post (wX_prepare_15 post 1 xlv xfc xou xyu xrm xmk xsc xmd xrs xrn xpc xwc n) (nI c) 1 xlv xfc xou xyu xrm xmk xsc xmd xrs xrn xpc xwc n' (nI l) a1 a2 a3 a4 s2 a6 a7 a8 a9 a10 a11 a12 a13 a14 a15 a16 a17 a18 a19 a20 a21 a22) (fun l s2 => (∀ c' s', c' < c → s' < 4 → s2 (4 * c' + s') = gm_rs P.2.2.1 P.2.2.2 4 c' s') ∧ (∀ s', s' < l → s2 (4 * c + s') = gm_rs P.2.2.1 P.2.2.2 4 c s')) 4 0 s (by omega) ⟨hs', fun s' q => absurd q (Nat.not_lt_zero _)⟩ ?_ ?_
    · intro n' s2 hs2
      refine pk_le 4 4 (fun _ => nm_r (nI_1 c) (hw s2 (fun c' s' hc' hs4 => ?_))) (fun q => absurd q (by omega))
      by_cases e : c' = c
      · rw [e]
        exact hs2.2 s' hs4
      · exact hs2.1 c' s' (by omega) hs4
    · intro n' l s2 hl hs2 hw2
      obtain ⟨i1, i2⟩ := hs2
      have st : ∀ x : Int32, x.toInt8.toInt32 = gm_rs P.2.2.1 P.2.2.2 4 c l → wX_prepare_22 post (wX_prepare_15 post 1 xlv xfc xou xyu xrm xmk xsc xmd xrs xrn xpc xwc n) (nI c) 1 xlv xfc xou xyu xrm xmk xsc xmd xrs xrn xpc xwc n' (nI (l + 1)) a1 a2 a3 a4 (upd s2 (4 * c + l) x.toInt8.toInt32) a6 a7 a8 a9 a10 a11 a12 a13 a14 a15 a16 a17 a18 a19 a20 a21 a22 := by
        intro x ex
        refine hw2 _ ⟨fun c' s' hc' hs4 => ?_, fun s' hs4 => ?_⟩
        · rw [pk_un (by omega)]
          exact i1 c' s' hc' hs4
        · by_cases e : s' = l
          · rw [e, pk_us]
            exact ex
          · rw [pk_un (by omega)]
            exact i2 s' (by omega)
      have rs1 : gm_rs P.2.2.1 P.2.2.2 4 c l = (if P.2.2.2 (4 * c + l) < 0 ∧ 0 ≤ P.2.2.1 c then gm_rs P.2.2.1 P.2.2.2 3 (P.2.2.1 c).toNatClampNeg l else P.2.2.2 (4 * c + l)) := rfl
      have b8 := d1.2.2 (4 * c + l) (by omega)
      refine pk_le 4 l (fun q => absurd q (by omega)) (fun _ => ?_)
      rw [gm_i4, nI_clamp (show 4 * c + l < 2 ^ 31 by omega), nI_clamp (show c < 2 ^ 31 by omega), d4 _ (by omega), d3 c hc]
      refine ⟨pk_in (4 * c + l) 16 (by omega), nm_e (br_c (fun w => ⟨pk_in (4 * c + l) 16 (by omega), nm_e (nm_r (nI_1 l) (st _ ?_))⟩) (fun w => ⟨pk_in c 4 hc, br_c (fun w2 => ⟨pk_in (4 * c + l) 16 (by omega), nm_e (nm_r (nI_1 l) (st _ ?_))⟩) (fun w2 => ?_)⟩))⟩
      · rw [b8, rs1, if_neg (fun q => absurd q.1 (Int32.not_lt.mpr w))]
      · rw [b8, rs1, if_neg (fun q => absurd w2 (Int32.not_lt.mpr q.2))]
      · rcases d1.2.1 c hc with q | ⟨d, hd, q⟩
        · rw [q] at w2
          exact absurd (by decide) w2
        · rw [q, gm_i4, nI_clamp (show 4 * d + l < 2 ^ 31 by omega), i1 d l hd hl]
          refine ⟨pk_in c 4 hc, pk_in (4 * d + l) 16 (by omega), pk_in (4 * c + l) 16 (by omega), nm_e (nm_r (nI_1 l) (st _ ?_))⟩
          rw [gm_rs_8 d1.2.1 d1.2.2 4 d l (by omega) hl, rs1, if_pos ⟨Int32.not_le.mp w, Int32.not_lt.mp w2⟩, q, nI_clamp (by omega)]
          exact gm_rs_fuel d1.2.1 l 4 3 d (by omega) (by omega) (by omega)
end
def gm_P0 : gm_P := (fun _ => 0, fun _ => 0, fun _ => -1, fun _ => -1)
def gm_F0 : gm_F := (0, fun _ => 0, fun _ => 0, fun _ => (0, 0, 0), fun _ => (0, 0, 0))
def gm_G0 : Nat → gm_V := fun _ => (0, 0, 0)
def gm_H0 : gm_H := (0, fun _ => 0, fun _ _ => (0, 0, 0))
def gm_C0 : gm_C := (0, 0, 0, 0, 0, fun _ => 0)
theorem gm_pg0 : gm_pg gm_P0 := by
  refine ⟨fun i _ => ⟨⟨0, by omega, rfl⟩, fun q => ?_, fun q => ?_⟩, fun c _ => Or.inl rfl, fun m _ => rfl⟩
  · have q' : (0 : Int32) = 3 ∨ (0 : Int32) = 4 ∨ (0 : Int32) = 15 ∨ (0 : Int32) = 18 ∨ (0 : Int32) = 19 ∨ (0 : Int32) = 21 ∨ (0 : Int32) = 22 := q
    exact absurd q' (by decide)
  · have q' : (0 : Int32) = 16 ∨ (0 : Int32) = 17 := q
    exact absurd q' (by decide)
theorem gm_winit {post : St1 → Prop} (hp : ∀ u, gm_M False gm_P0 1 (fun _ => 0) (fun _ => False) gm_F0 gm_G0 gm_H0 gm_C0 u → post u) : wpX_init post 22 872 (0, 0, 0, 0, 0, 0, 0, 0, 0, 0, 0, 0, 0) := by
  have k204 : ∀ s : Nat → Int32, (∀ c, c < 4 → s c = -1) → ∃ n, wX_init_204 post 22 872 22 872 0 2 0 0 0 0 0 0 0 0 0 0 0 n 0 (fun _ => 0) (fun _ => 0) s (fun _ => 0) (fun _ => 0) (fun _ => 0) (fun _ => 0) (fun _ => 0) (fun _ => 0) (fun _ => 0) (fun _ => 0) (fun _ => 0) (fun _ => 0) (fun _ => 0) (fun _ => 0) (fun _ => 0) (fun _ => 0) (fun _ => 0) (fun _ => 0) (fun _ => 0) (fun _ => 0) (fun _ => 0) := by
    intro s hs
    refine pk_loop (fun n i (t : Nat → Int32) => wX_init_204 post 22 872 22 872 0 2 0 0 0 0 0 0 0 0 0 0 0 n (nI i) (fun _ => 0) (fun _ => 0) s t (fun _ => 0) (fun _ => 0) (fun _ => 0) (fun _ => 0) (fun _ => 0) (fun _ => 0) (fun _ => 0) (fun _ => 0) (fun _ => 0) (fun _ => 0) (fun _ => 0) (fun _ => 0) (fun _ => 0) (fun _ => 0) (fun _ => 0) (fun _ => 0) (fun _ => 0) (fun _ => 0)) (fun i t => ∀ m, m < i → t m = -1) 16 0 (fun _ => 0) (by omega) (fun m q => absurd q (Nat.not_lt_zero _)) ?_ ?_
    · intro n t ht
      refine pk_le 16 16 (fun _ => hp _ ⟨⟨gm_pg0, fun i _ => ⟨rfl, rfl⟩, hs, ht, fun q => absurd q id, fun q => absurd rfl q⟩, ?_, fun g _ => gm_sh_0, ⟨0, 0, rfl, rfl, by omega, by omega, fun i q => absurd q id, fun i j q => absurd q id, fun p q => ?_, fun i k q => absurd q id⟩, rfl, by decide, rfl, rfl, rfl, rfl, by decide, rfl⟩) (fun q => absurd q (by omega))
      · exact ⟨rfl, Nat.zero_le _, fun f hf => absurd hf (Nat.not_lt_zero f), fun l hl => absurd hl (Nat.not_lt_zero l), fun f k hf => absurd hf (Nat.not_lt_zero f), fun f hf => absurd hf (Nat.not_lt_zero _)⟩
      · unfold gm_us at q
        omega
    · intro n i t hi ht hw
      refine pk_le 16 i (fun q => absurd q (by omega)) (fun _ => ⟨pk_in i 16 hi, nm_e (nm_r (nI_1 i) (hw _ (fun m hm => ?_)))⟩)
      rw [nI_clamp (show i < 2 ^ 31 by omega)]
      by_cases e : m = i
      · rw [e, pk_us]
      · rw [pk_un e]
        exact ht m (by omega)
  unfold wpX_init
  dsimp only
  refine ⟨by decide, by decide, by decide, by decide, by decide, by decide, by decide, by decide, by decide, by decide, by decide, by decide, by decide, by decide, by decide, by decide, by decide, by decide, by decide, by decide, by decide, by decide, by decide, by decide, by decide, by decide, by decide, by decide, by decide, by decide, by decide, by decide, by decide, by decide, by decide, by decide, by decide, by decide, by decide, by decide, by decide, by decide, by decide, by decide, ?_⟩
  refine pk_loop (fun n i (s : Nat → Int32) => wX_init_184 post 22 872 22 872 0 2 0 0 0 0 0 0 0 0 0 0 0 n (nI i) (fun _ => 0) (fun _ => 0) s (fun _ => 0) (fun _ => 0) (fun _ => 0) (fun _ => 0) (fun _ => 0) (fun _ => 0) (fun _ => 0) (fun _ => 0) (fun _ => 0) (fun _ => 0) (fun _ => 0) (fun _ => 0) (fun _ => 0) (fun _ => 0) (fun _ => 0) (fun _ => 0) (fun _ => 0) (fun _ => 0) (fun _ => 0)) (fun i s => ∀ c, c < i → s c = -1) 4 0 (fun _ => 0) (by omega) (fun m q => absurd q (Nat.not_lt_zero _)) ?_ ?_
  · intro n s hs
    exact pk_le 4 4 (fun _ => k204 s hs) (fun q => absurd q (by omega))
  · intro n i t hi ht hw
    refine pk_le 4 i (fun q => absurd q (by omega)) (fun _ => ⟨pk_in i 4 hi, nm_e (nm_r (nI_1 i) (hw _ (fun m hm => ?_)))⟩)
    rw [nI_clamp (show i < 2 ^ 31 by omega)]
    by_cases e : m = i
    · rw [e, pk_us]
    · rw [pk_un e]
      exact ht m (by omega)
end
section
section
variable {z : Prop} {P : gm_P} {b : Nat} {pa : Nat → Nat} {D : Nat → Prop} {F : gm_F} {G : Nat → gm_V} {H : gm_H} {C : gm_C} {u : St1}
theorem gm_ite_le {c : Prop} {d : Decidable c} {a b n : Nat} (ha : a ≤ n) (hb : b ≤ n) : @ite Nat c d a b ≤ n := by
  by_cases h : c
  · rw [if_pos h]
    exact ha
  · rw [if_neg h]
    exact hb
theorem gm_tk18_le (o : Int32) : gm_tk18 o ≤ 2 := by
  unfold gm_tk18
  repeat' apply gm_ite_le
  all_goals decide
theorem gm_tk_le (o : Int32) : gm_tk o ≤ 2 := by
  unfold gm_tk
  exact gm_ite_le (by decide) (gm_ite_le (gm_tk18_le o) (gm_ite_le (by decide) (gm_tk18_le o)))
theorem gm_pt43_le (o : Int32) : gm_pt43 o ≤ 2 := by
  unfold gm_pt43
  repeat' apply gm_ite_le
  all_goals decide
theorem gm_pt_le (o : Int32) : gm_pt o ≤ 2 := by
  unfold gm_pt
  exact gm_ite_le (by decide) (gm_ite_le (by decide) (gm_ite_le (by decide) (gm_ite_le (by decide) (gm_ite_le (by decide) (gm_ite_le (gm_pt43_le o) (gm_ite_le (gm_pt43_le o) (by decide)))))))
theorem gm_move_fc {ab : Nat → Int32} {o n : Int32} : (gm_move ab o n F G H).1.1 = F.1 := by
  unfold gm_move gm_take
  repeat' split
  all_goals rfl
theorem gm_one_fc {i o n : Int32} (h0 : 0 < F.1) : (gm_one P i o n F G H C).1 = -1 → 0 < (gm_one P i o n F G H C).2.1.1 := by
  unfold gm_one
  repeat' split
  all_goals first
    | exact fun q => absurd (show (0 : Int32) = -1 from q) (by decide)
    | exact fun q => absurd (show (4 : Int32) = -1 from q) (by decide)
    | exact fun q => absurd (show (5 : Int32) = -1 from q) (by decide)
    | exact fun q => absurd (show (6 : Int32) = -1 from q) (by decide)
    | exact fun q => absurd (show (7 : Int32) = -1 from q) (by decide)
    | exact fun _ => h0
    | exact fun _ => Nat.succ_pos _
    | (intro _; show 0 < F.1 - 1; omega)
    | (intro _; show 0 < (gm_move _ _ _ _ _ _).1.1; rw [gm_move_fc]; exact h0)
theorem gm_one_st {i o n : Int32} : (gm_one P i o n F G H C).2.2.2.2.1 = C.1 := by
  unfold gm_one
  repeat' split
  all_goals rfl
/-- the post holds at the end r of a step -/
def gm_K2 (P : gm_P) (post : Int32 → St1 → Prop) (r : Int32 × gm_S) : Prop := ∀ pa D u, gm_M True P (if r.1 = -1 then 0 else 1) pa D r.2.1 r.2.2.1 r.2.2.2.1 r.2.2.2.2 u → post r.1 u
theorem gm_Mtick {xpr xlv xfc xou xyu xrm xmk xsc xmd xrs xrn xpc xwc : Int32} {a1 a2 a3 a4 a5 a6 a7 a8 a9 a10 a11 a12 a13 a14 a15 a16 a17 a18 a19 a20 a21 a22 : Nat → Int32} (h : gm_M z P 1 pa D F G H C (xpr, xlv, xfc, xou, xyu, xrm, xmk, xsc, xmd, xrs, xrn, xpc, xwc, a1, a2, a3, a4, a5, a6, a7, a8, a9, a10, a11, a12, a13, a14, a15, a16, a17, a18, a19, a20, a21, a22)) (hs : C.1 < 300) : gm_M z P 0 pa D F G H (gm_tick C) (xpr, xlv, xfc, xou, xyu, xrm, xmk, xsc + 1, xmd, xrs, xrn, xpc, xwc, a1, a2, a3, a4, a5, a6, a7, a8, a9, a10, a11, a12, a13, a14, a15, a16, a17, a18, a19, a20, a21, a22) := by
  obtain ⟨hc, hf, hg, hh, s1, s2, s3, s4, s5, s6, s7, s8⟩ := h
  exact ⟨hc, hf, hg, hh, by rw [s1, nI_1]; rfl, by show C.1 + 1 ≤ 300; omega, s3, s4, s5, s6, by show C.2.2.2.2.1 ≤ C.1 + 1 + 0; omega, s8⟩
theorem gm_w69 {post : Int32 → St1 → Prop} {xpr xlv xfc xou xyu xrm xmk xsc xmd xrs xrn xpc xwc : Int32} {a1 a2 a3 a4 a5 a6 a7 a8 a9 a10 a11 a12 a13 a14 a15 a16 a17 a18 a19 a20 a21 a22 : Nat → Int32} (h : gm_M True P 0 pa D F G H C (xpr, xlv, xfc, xou, xyu, xrm, xmk, xsc, xmd, xrs, xrn, xpc, xwc, a1, a2, a3, a4, a5, a6, a7, a8, a9, a10, a11, a12, a13, a14, a15, a16, a17, a18, a19, a20, a21, a22)) (h0 : 0 < F.1) {i : Nat} (hi : i < 60) (hcur : gm_cur F = nI i) (hs : ¬ C.1 = 300) (hp : gm_K2 P post (gm_step P (F, G, H, C))) : wX_work_69 post (xfc - 1) (nI i) xpr xlv xfc xou xyu xrm xmk xsc xmd xrs xrn xpc xwc a1 a2 a3 a4 a5 a6 a7 a8 a9 a10 a11 a12 a13 a14 a15 a16 a17 a18 a19 a20 a21 a22 := by
  obtain ⟨x1, x2, x3, x4, x5, x6⟩ := gm_fr_x h.2.1 h0
  have c300 : C.1 ≤ 300 := h.2.2.2.2.2.1
  obtain ⟨p1, p2⟩ := h.1.2.1 i hi
  have h1 := gm_M1 h (by omega)
  unfold wX_work_69
  rw [nI_clamp (show i < 2 ^ 31 by omega), p1, p2, x2, x4, x1]
  refine ⟨pk_in i 60 hi, nm_e (gm_wtk ⟨pk_in _ 10 x3, ?_⟩)⟩
  have tk6 := gm_tk_le (P.1 i)
  have pt6 := gm_pt_le (P.1 i)
  refine pk_lt (gm_d F) (gm_tk (P.1 i)) (fun q => ?_) (fun q => ⟨pk_in _ 10 x3, gm_wpt ?_⟩)
  · have e : gm_step P (F, G, H, C) = (3, F, G, H, C) := by
      unfold gm_step
      dsimp only
      rw [hcur, nI_clamp (by omega), if_neg (nI_pos (by omega)), if_neg (fun q => q (nI_le (b := 59) (by omega) (by omega))), if_neg hs, if_pos q]
    rw [e] at hp
    exact hp pa D _ h1
  refine pk_le (gm_d F - gm_tk (P.1 i) + gm_pt (P.1 i)) 6 (fun q2 => ⟨pk_in i 60 hi, ?_⟩) (fun q2 => ?_) (by rw [pk_sub q, nI_add])
  rotate_left
  · have e : gm_step P (F, G, H, C) = (3, F, G, H, C) := by
      unfold gm_step
      dsimp only
      rw [hcur, nI_clamp (by omega), if_neg (nI_pos (by omega)), if_neg (fun q => q (nI_le (b := 59) (by omega) (by omega))), if_neg hs, if_neg (by omega), if_pos (by omega)]
    rw [e] at hp
    exact hp pa D _ h1
  rw [gm_step_one hcur hi hs q q2] at hp
  refine gm_wone h h0 hi hcur q q2 (fun pa' D' u' h' => ?_)
  obtain ⟨xpr', xlv', xfc', xou', xyu', xrm', xmk', xsc', xmd', xrs', xrn', xpc', xwc', a1', a2', a3', a4', a5', a6', a7', a8', a9', a10', a11', a12', a13', a14', a15', a16', a17', a18', a19', a20', a21', a22'⟩ := u'
  have st : (gm_one P (nI i) (P.1 i) (P.2.1 i) F G H C).2.2.2.2.1 = C.1 := gm_one_st
  refine br_c (fun e => ?_) (fun e => br_c (fun e2 => ?_) (fun e2 => ?_))
  · dsimp only at hp
    rw [if_pos (Or.inl e)] at hp
    refine nm_e (hp pa' D' _ ?_)
    dsimp only
    rw [if_pos e]
    exact gm_Mtick h' (by omega)
  · dsimp only at hp
    rw [if_pos (Or.inr e2)] at hp
    refine nm_e (hp pa' D' _ ?_)
    dsimp only
    rw [if_neg e]
    exact gm_M1 (gm_Mtick h' (by omega)) (by omega)
  · dsimp only at hp
    rw [if_neg (fun w => w.elim e e2)] at hp
    refine hp pa' D' _ ?_
    rw [if_neg e]
    exact h'
/-- where a run stands: the end e, at the end R of the whole -/
def gm_J (P : gm_P) (R : Int32 × gm_S) (t : Nat) (e : Int32) (u : St1) : Prop := ∃ F G H C pa D, gm_M True P (if e = -1 then 0 else 1) pa D F G H C u ∧ (e = -1 → 0 < F.1 ∧ t ≤ C.1 ∧ gm_go P (301 - C.1) (F, G, H, C) = R) ∧ (¬ e = -1 → R = (e, F, G, H, C))
theorem gm_step_st {S : gm_S} (e : (gm_step P S).1 = -1) (h0 : 0 < S.1.1) : (gm_step P S).2.2.2.2.1 = S.2.2.2.1 + 1 ∧ 0 < (gm_step P S).2.1.1 ∧ ¬ S.2.2.2.1 = 300 := by
  obtain ⟨F, G, H, C⟩ := S
  revert e
  unfold gm_step
  dsimp only
  split
  · exact fun q => absurd (show (1 : Int32) = -1 from q) (by decide)
  split
  · exact fun q => absurd (show (1 : Int32) = -1 from q) (by decide)
  split
  · exact fun q => absurd (show (2 : Int32) = -1 from q) (by decide)
  rename_i hs
  split
  · exact fun q => absurd (show (3 : Int32) = -1 from q) (by decide)
  split
  · exact fun q => absurd (show (3 : Int32) = -1 from q) (by decide)
  split
  · rename_i hr
    intro e
    have st := gm_one_st (P := P) (F := F) (G := G) (H := H) (C := C) (i := gm_cur F) (o := P.1 (gm_cur F).toNatClampNeg) (n := P.2.1 (gm_cur F).toNatClampNeg)
    exact ⟨congrArg (· + 1) st, gm_one_fc h0 e, hs⟩
  · rename_i hr
    exact fun q => absurd (Or.inl q) hr
theorem gm_go_s {S : gm_S} {R : Int32 × gm_S} (h0 : 0 < S.1.1) (hc : S.2.2.2.1 ≤ 300) (hR : gm_go P (301 - S.2.2.2.1) S = R) : ((gm_step P S).1 = -1 → gm_go P (301 - (gm_step P S).2.2.2.2.1) (gm_step P S).2 = R) ∧ (¬ (gm_step P S).1 = -1 → R = gm_step P S) := by
  have e : 301 - S.2.2.2.1 = (300 - S.2.2.2.1) + 1 := by omega
  rw [e] at hR
  have hR' : (if (gm_step P S).1 = -1 then gm_go P (300 - S.2.2.2.1) (gm_step P S).2 else gm_step P S) = R := hR
  constructor
  · intro q
    rw [if_pos q] at hR'
    have st := (gm_step_st q h0).1
    rw [st, show 301 - (S.2.2.2.1 + 1) = 300 - S.2.2.2.1 by omega]
    exact hR'
  · intro q
    rw [if_neg q] at hR'
    exact hR'.symm
theorem gm_J_step {R : Int32 × gm_S} (h0 : 0 < F.1) (hc : C.1 ≤ 300) (hR : gm_go P (301 - C.1) (F, G, H, C) = R) {pa' : Nat → Nat} {D' : Nat → Prop} (h : gm_M True P (if (gm_step P (F, G, H, C)).1 = -1 then 0 else 1) pa' D' (gm_step P (F, G, H, C)).2.1 (gm_step P (F, G, H, C)).2.2.1 (gm_step P (F, G, H, C)).2.2.2.1 (gm_step P (F, G, H, C)).2.2.2.2 u) : gm_J P R (C.1 + 1) (gm_step P (F, G, H, C)).1 u := by
  obtain ⟨g1, g2⟩ := gm_go_s (S := (F, G, H, C)) h0 hc hR
  refine ⟨_, _, _, _, _, _, h, fun q => ?_, fun q => g2 q⟩
  obtain ⟨t1, t2, t3⟩ := gm_step_st q h0
  refine ⟨t2, ?_, g1 q⟩
  have : (gm_step P (F, G, H, C)).2.2.2.2.1 = C.1 + 1 := t1
  omega
theorem gm_wwork {post : Int32 → St1 → Prop} (h : gm_M True P 0 pa D F G H C u) (h0 : 0 < F.1) {R : Int32 × gm_S} (hR : gm_go P (301 - C.1) (F, G, H, C) = R) (hp : ∀ e u', gm_J P R (C.1 + 1) e u' → post e u') : wpX_work post u := by
  obtain ⟨xpr, xlv, xfc, xou, xyu, xrm, xmk, xsc, xmd, xrs, xrn, xpc, xwc, a1, a2, a3, a4, a5, a6, a7, a8, a9, a10, a11, a12, a13, a14, a15, a16, a17, a18, a19, a20, a21, a22⟩ := u
  obtain ⟨x1, x2, x3, x4, x5, x6⟩ := gm_fr_x h.2.1 h0
  have c300 : C.1 ≤ 300 := h.2.2.2.2.2.1
  have xs : xsc = nI C.1 := h.2.2.2.2.1
  have h1 := gm_M1 h (by omega)
  have stop : ∀ e : Int32, ¬ e = -1 → gm_step P (F, G, H, C) = (e, F, G, H, C) → post e (xpr, xlv, xfc, xou, xyu, xrm, xmk, xsc, xmd, xrs, xrn, xpc, xwc, a1, a2, a3, a4, a5, a6, a7, a8, a9, a10, a11, a12, a13, a14, a15, a16, a17, a18, a19, a20, a21, a22) := by
    intro e he hst
    refine hp e _ ?_
    have hJ := gm_J_step (u := (xpr, xlv, xfc, xou, xyu, xrm, xmk, xsc, xmd, xrs, xrn, xpc, xwc, a1, a2, a3, a4, a5, a6, a7, a8, a9, a10, a11, a12, a13, a14, a15, a16, a17, a18, a19, a20, a21, a22)) (pa' := pa) (D' := D) h0 c300 hR (by rw [hst]; dsimp only; rw [if_neg he]; exact h1)
    rw [hst] at hJ
    exact hJ
  unfold wpX_work wpX_top
  dsimp only
  rw [x2, x6, x1]
  refine ⟨pk_in _ 10 x3, nm_e (br_c (fun q => stop 1 (by decide) ?_) (fun q => br_c (fun q2 => ?_) (fun q2 => stop 1 (by decide) ?_)))⟩
  · unfold gm_step
    dsimp only
    rw [if_pos q]
  rotate_left
  · unfold gm_step
    dsimp only
    rw [if_neg q, if_pos q2]
  obtain ⟨i, hi, ei⟩ := nI_of2 (M := 59) (n := 59) rfl q q2
  refine pk_eq C.1 300 (fun q3 => stop 2 (by decide) ?_) (fun q3 => ?_) xs
  · unfold gm_step
    dsimp only
    rw [if_neg q, if_neg (fun w => w q2), if_pos q3]
  have k69 : wX_work_69 post (nI (F.1 - 1)) (nI i) xpr xlv xfc xou xyu xrm xmk xsc xmd xrs xrn xpc xwc a1 a2 a3 a4 a5 a6 a7 a8 a9 a10 a11 a12 a13 a14 a15 a16 a17 a18 a19 a20 a21 a22 := by
    rw [← x1]
    exact gm_w69 h h0 (by omega) ei q3 (fun pa' D' u' h' => hp _ _ (gm_J_step h0 c300 hR h'))
  rw [ei]
  refine br_c (fun q4 => ⟨pk_in i 60 (by omega), ?_⟩) (fun q4 => k69)
  rw [nI_clamp (show i < 2 ^ 31 by omega)]
  refine br_c (fun q5 => k69) (fun q5 => ⟨pk_in i 60 (by omega), ?_⟩)
  have hrd : gm_rd P a5 a6 a7 a8 := h.1.2.2.2.2.2 (h.1.2.2.2.2.1 trivial)
  have i59 : i < 59 := by
    by_cases e : i < 59
    · exact e
    · have e2 : i = 59 := by omega
      rw [e2] at q5
      exact absurd hrd.2.2.1 q5
  rw [hrd.2.1 i i59] at q5 ⊢
  refine gm_wcouple h h0 i59 ei q5 ?_ (fun u' h' => ?_)
  · exact br_t rfl k69
  · obtain ⟨xpr', xlv', xfc', xou', xyu', xrm', xmk', xsc', xmd', xrs', xrn', xpc', xwc', a1', a2', a3', a4', a5', a6', a7', a8', a9', a10', a11', a12', a13', a14', a15', a16', a17', a18', a19', a20', a21', a22'⟩ := u'
    obtain ⟨S1, F2, e1, e2, e3, hM⟩ := h'
    refine br_f (by decide) (hp _ _ ?_)
    have t1 := gm_go_s (S := (F, G, H, C)) h0 c300 hR
    rw [e1] at t1
    have g1 := t1.1 rfl
    have st1 := gm_step_st (P := P) (S := (F, G, H, C)) (by rw [e1]) h0
    rw [e1] at st1
    have st1' : S1.2.2.2.1 = C.1 + 1 := st1.1
    have t2 := gm_go_s (S := S1) st1.2.1 (by omega) g1
    rw [e2] at t2
    exact ⟨F2, G, H, gm_tick (gm_tick C), pa, D, by rw [if_pos rfl]; exact hM, fun _ => ⟨by omega, by show C.1 + 1 ≤ C.1 + 1 + 1; omega, t2.1 rfl⟩, fun q => absurd rfl q⟩
theorem gm_wrun {post : Int32 → St1 → Prop} (h : gm_M False P b pa D F G H C u) {st a : Int32} (hp : ∀ pa' D' u', gm_M True P 1 pa' D' (gm_run P st a (F, G, H, C)).2.1 (gm_run P st a (F, G, H, C)).2.2.1 (gm_run P st a (F, G, H, C)).2.2.2.1 (gm_run P st a (F, G, H, C)).2.2.2.2 u' → post (gm_run P st a (F, G, H, C)).1 u') : wpX_run post u st a := by
  obtain ⟨xpr, xlv, xfc, xou, xyu, xrm, xmk, xsc, xmd, xrs, xrn, xpc, xwc, a1, a2, a3, a4, a5, a6, a7, a8, a9, a10, a11, a12, a13, a14, a15, a16, a17, a18, a19, a20, a21, a22⟩ := u
  unfold wpX_run
  dsimp only
  refine gm_wprep h (fun u' h' => ?_)
  obtain ⟨xpr', xlv', xfc', xou', xyu', xrm', xmk', xsc', xmd', xrs', xrn', xpc', xwc', a1', a2', a3', a4', a5', a6', a7', a8', a9', a10', a11', a12', a13', a14', a15', a16', a17', a18', a19', a20', a21', a22'⟩ := u'
  obtain ⟨hc, hf, hg, hh, hs⟩ := h'
  have h2 : gm_M True P 0 pa D (gm_zero F) G H (0, 0, 0, 0, 0, C.2.2.2.2.2) (xpr', xlv', 0, xou', xyu', xrm', xmk', 0, 0, 0, 0, 0, xwc', a1', a2', a3', a4', a5', a6', a7', a8', a9', a10', a11', a12', a13', a14', a15', a16', a17', a18', a19', a20', a21', a22') := ⟨hc, gm_fr_zero (x := 0), hg, hh, rfl, Nat.zero_le _, rfl, rfl, rfl, rfl, Nat.zero_le _, hs.2.2.2.2.2.2.2⟩
  refine gm_wopen h2 (show 0 < 10 by omega) (fun w => absurd w (Nat.not_lt_zero _)) (fun u2 h3 => ?_)
  obtain ⟨xpr'', xlv'', xfc'', xou'', xyu'', xrm'', xmk'', xsc'', xmd'', xrs'', xrn'', xpc'', xwc'', a1'', a2'', a3'', a4'', a5'', a6'', a7'', a8'', a9'', a10'', a11'', a12'', a13'', a14'', a15'', a16'', a17'', a18'', a19'', a20'', a21'', a22''⟩ := u2
  refine gm_wslo h3 (Nat.succ_pos _) (l := 1) (by omega) (gm_sh_1 a) (fun u3 h4 => ?_)
  generalize hR : gm_go P 301 (gm_begin st a (F, G, H, C)) = R at *
  have e0 : gm_run P st a (F, G, H, C) = (R.1, gm_zero R.2.1, R.2.2) := by
    unfold gm_run
    rw [hR]
  rw [e0] at hp
  refine loop_m (fun n (s : Int32 × St1) => wX_run_48 post n s.1 s.2.1 s.2.2.1 s.2.2.2.1 s.2.2.2.2.1 s.2.2.2.2.2.1 s.2.2.2.2.2.2.1 s.2.2.2.2.2.2.2.1 s.2.2.2.2.2.2.2.2.1 s.2.2.2.2.2.2.2.2.2.1 s.2.2.2.2.2.2.2.2.2.2.1 s.2.2.2.2.2.2.2.2.2.2.2.1 s.2.2.2.2.2.2.2.2.2.2.2.2.1 s.2.2.2.2.2.2.2.2.2.2.2.2.2.1 s.2.2.2.2.2.2.2.2.2.2.2.2.2.2.1 s.2.2.2.2.2.2.2.2.2.2.2.2.2.2.2.1 s.2.2.2.2.2.2.2.2.2.2.2.2.2.2.2.2.1 s.2.2.2.2.2.2.2.2.2.2.2.2.2.2.2.2.2.1 s.2.2.2.2.2.2.2.2.2.2.2.2.2.2.2.2.2.2.1 s.2.2.2.2.2.2.2.2.2.2.2.2.2.2.2.2.2.2.2.1 s.2.2.2.2.2.2.2.2.2.2.2.2.2.2.2.2.2.2.2.2.1 s.2.2.2.2.2.2.2.2.2.2.2.2.2.2.2.2.2.2.2.2.2.1 s.2.2.2.2.2.2.2.2.2.2.2.2.2.2.2.2.2.2.2.2.2.2.1 s.2.2.2.2.2.2.2.2.2.2.2.2.2.2.2.2.2.2.2.2.2.2.2.1 s.2.2.2.2.2.2.2.2.2.2.2.2.2.2.2.2.2.2.2.2.2.2.2.2.1 s.2.2.2.2.2.2.2.2.2.2.2.2.2.2.2.2.2.2.2.2.2.2.2.2.2.1 s.2.2.2.2.2.2.2.2.2.2.2.2.2.2.2.2.2.2.2.2.2.2.2.2.2.2.1 s.2.2.2.2.2.2.2.2.2.2.2.2.2.2.2.2.2.2.2.2.2.2.2.2.2.2.2.1 s.2.2.2.2.2.2.2.2.2.2.2.2.2.2.2.2.2.2.2.2.2.2.2.2.2.2.2.2.1 s.2.2.2.2.2.2.2.2.2.2.2.2.2.2.2.2.2.2.2.2.2.2.2.2.2.2.2.2.2.1 s.2.2.2.2.2.2.2.2.2.2.2.2.2.2.2.2.2.2.2.2.2.2.2.2.2.2.2.2.2.2.1 s.2.2.2.2.2.2.2.2.2.2.2.2.2.2.2.2.2.2.2.2.2.2.2.2.2.2.2.2.2.2.2.1 s.2.2.2.2.2.2.2.2.2.2.2.2.2.2.2.2.2.2.2.2.2.2.2.2.2.2.2.2.2.2.2.2.1 s.2.2.2.2.2.2.2.2.2.2.2.2.2.2.2.2.2.2.2.2.2.2.2.2.2.2.2.2.2.2.2.2.2.1 s.2.2.2.2.2.2.2.2.2.2.2.2.2.2.2.2.2.2.2.2.2.2.2.2.2.2.2.2.2.2.2.2.2.2.1 s.2.2.2.2.2.2.2.2.2.2.2.2.2.2.2.2.2.2.2.2.2.2.2.2.2.2.2.2.2.2.2.2.2.2.2) (fun s => ∃ t, gm_J P R t s.1 s.2) (fun s => if s.1 = -1 then 302 - (s.2.2.2.2.2.2.2.2.1).toNatClampNeg else 0) ?_ (-1, u3) ⟨0, gm_slo (gm_enter (gm_zero F) st) 1 (1, a, 0), G, H, (0, 0, 0, 0, 0, C.2.2.2.2.2), pa, D, by rw [if_pos rfl]; exact h4, fun _ => ⟨Nat.succ_pos _, Nat.zero_le _, hR⟩, fun q => absurd rfl q⟩
  intro n s hI hw
  obtain ⟨e, v⟩ := s
  obtain ⟨t, F', G', H', C', pa', D', hM, j1, j2⟩ := hI
  dsimp only at hM j1 j2
  by_cases he : e = -1
  · subst he
    rw [if_pos rfl] at hM
    obtain ⟨f0, _, hgo⟩ := j1 rfl
    have hsc : v.2.2.2.2.2.2.2.1 = nI C'.1 ∧ C'.1 ≤ 300 := by
      obtain ⟨xpr''', xlv''', xfc''', xou''', xyu''', xrm''', xmk''', xsc''', xmd''', xrs''', xrn''', xpc''', xwc''', a1''', a2''', a3''', a4''', a5''', a6''', a7''', a8''', a9''', a10''', a11''', a12''', a13''', a14''', a15''', a16''', a17''', a18''', a19''', a20''', a21''', a22'''⟩ := v
      exact ⟨hM.2.2.2.2.1, hM.2.2.2.2.2.1⟩
    refine br_t rfl (gm_wwork hM f0 hgo (fun e2 u4 hJ => ?_))
    refine hw (e2, u4) ⟨_, hJ⟩ ?_
    dsimp only
    rw [if_pos rfl, hsc.1, nI_clamp (by omega)]
    obtain ⟨F2, G2, H2, C2, pa2, D2, hM2, k1, k2⟩ := hJ
    by_cases he2 : e2 = -1
    · rw [if_pos he2] at hM2 ⊢
      obtain ⟨_, k3, _⟩ := k1 he2
      have hsc2 : u4.2.2.2.2.2.2.2.1 = nI C2.1 ∧ C2.1 ≤ 300 := by
        obtain ⟨xpr''', xlv''', xfc''', xou''', xyu''', xrm''', xmk''', xsc''', xmd''', xrs''', xrn''', xpc''', xwc''', a1''', a2''', a3''', a4''', a5''', a6''', a7''', a8''', a9''', a10''', a11''', a12''', a13''', a14''', a15''', a16''', a17''', a18''', a19''', a20''', a21''', a22'''⟩ := u4
        exact ⟨hM2.2.2.2.2.1, hM2.2.2.2.2.2.1⟩
      rw [hsc2.1, nI_clamp (by omega)]
      omega
    · rw [if_neg he2]
      omega
  · rw [if_neg he] at hM
    rw [j2 he] at hp
    obtain ⟨xpr''', xlv''', xfc''', xou''', xyu''', xrm''', xmk''', xsc''', xmd''', xrs''', xrn''', xpc''', xwc''', a1''', a2''', a3''', a4''', a5''', a6''', a7''', a8''', a9''', a10''', a11''', a12''', a13''', a14''', a15''', a16''', a17''', a18''', a19''', a20''', a21''', a22'''⟩ := v
    obtain ⟨hc', hf', hg', hh', hs'⟩ := hM
    exact br_f he (hp pa' D' _ ⟨hc', gm_fr_zero (x := 0), hg', hh', hs'⟩)
end
end
section
/-! what is seen from outside -/
def gm_out (C : gm_C) (k : Nat) : Int32 := if C.2.2.2.2.1 ≤ k then 0 else C.2.2.2.2.2 k
def gm_get (H : gm_H) : List Nat → gm_V → Option gm_V
  | [] => fun v => some v
  | k :: ks => fun v => if v.1 = 2 then gm_get H ks (H.2.2 v.2.2 k) else none
def gm_enc : List Nat → Int32 → Prop
  | [] => fun x => x &&& 3 = 3
  | k :: ks => fun x => k < 3 ∧ x &&& 3 = nI k ∧ gm_enc ks (x >>> ((2 : Int32) &&& 31))
def gm_srt (v : Option gm_V) : Int32 := match v with
  | none => -2
  | some w => w.1
def gm_nmb (H : gm_H) (v : Option gm_V) : Int32 := match v with
  | none => 0
  | some w => if w.1 = 0 then 0 else gm_shown H w
section
variable {z : Prop} {P : gm_P} {b : Nat} {pa : Nat → Nat} {D : Nat → Prop} {F : gm_F} {G : Nat → gm_V} {H : gm_H} {C : gm_C} {u : St1}
theorem gm_wout {post : Int32 → Prop} (h : gm_M z P b pa D F G H C u) (hb : b ≤ 1) {k : Nat} (hk : k < 20) (hp : post (gm_out C k)) : wpX_output post u (nI k) := by
  obtain ⟨xpr, xlv, xfc, xou, xyu, xrm, xmk, xsc, xmd, xrs, xrn, xpc, xwc, a1, a2, a3, a4, a5, a6, a7, a8, a9, a10, a11, a12, a13, a14, a15, a16, a17, a18, a19, a20, a21, a22⟩ := u
  obtain ⟨hc, hf, hg, hh, s1, s2, s3, s4, s5, s6, s7, s8⟩ := h
  unfold gm_out at hp
  unfold wpX_output
  dsimp only
  refine br_f (nI_pos (by omega)) (pk_le C.2.2.2.2.1 k (fun q => ?_) (fun q => ?_) s6)
  · rw [if_pos q] at hp
    exact hp
  · rw [if_neg (by omega)] at hp
    refine br_t (nI_le (b := 19) (by omega) (by omega)) ⟨pk_in k 20 hk, ?_⟩
    rw [nI_clamp (by omega), s8]
    exact hp
def gm_pl (pa : Nat → Nat) (D : Nat → Prop) (G : Nat → gm_V) (H : gm_H) (g : Nat) (x : Int32) (v : gm_V) : Prop := (x = -1 ∧ v = G g) ∨ ∃ i k, D i ∧ k < 3 ∧ x = nI (3 * pa i + k) ∧ v = H.2.2 i k
theorem gm_wwalk {post : Int32 → Prop} {xpr xlv xfc xou xyu xrm xmk xsc xmd xrs xrn xpc xwc : Int32} {a1 a2 a3 a4 a5 a6 a7 a8 a9 a10 a11 a12 a13 a14 a15 a16 a17 a18 a19 a20 a21 a22 : Nat → Int32} (hg : gm_gl pa D G a9 a10) (hh : gm_hp pa D H xou xyu xrm a17 a18 a19) {g : Nat} (hg4 : g < 4) : ∀ (ks : List Nat) (x x4 : Int32) (v : gm_V), gm_enc ks x → gm_pl pa D G H g x4 v → (gm_get H ks v = none → post (-2)) → (∀ w x', gm_get H ks v = some w → gm_pl pa D G H g x' w → post x') → ∃ n, wX_walk_5 post (nI g) xpr xlv xfc xou xyu xrm xmk xsc xmd xrs xrn xpc xwc a1 a2 a3 a4 a5 a6 a7 a8 a9 a10 a11 a12 a13 a14 a15 a16 a17 a18 a19 a20 a21 a22 n x x4 := by
  have lt := gm_hp_lt hh
  intro ks
  induction ks with
  | nil =>
    intro x x4 v he hv _ h2
    exact ⟨1, br_t he (h2 v x4 rfl hv)⟩
  | cons k ks ih =>
    intro x x4 v he hv h1 h2
    obtain ⟨hk, e1, e2⟩ := he
    have ne : ¬ x &&& 3 = 3 := by
      rw [e1]
      intro q
      have := (nI_eq (a := k) (b := 3) (by omega) (by omega)).mp q
      omega
    have key : ∀ s n, gm_sh pa D v s n → ∃ m, wX_walk_56 post (wX_walk_5 post (nI g) xpr xlv xfc xou xyu xrm xmk xsc xmd xrs xrn xpc xwc a1 a2 a3 a4 a5 a6 a7 a8 a9 a10 a11 a12 a13 a14 a15 a16 a17 a18 a19 a20 a21 a22 m) (nI g) x s n xpr xlv xfc xou xyu xrm xmk xsc xmd xrs xrn xpc xwc a1 a2 a3 a4 a5 a6 a7 a8 a9 a10 a11 a12 a13 a14 a15 a16 a17 a18 a19 a20 a21 a22 := by
      intro s n hsn
      by_cases e : v.1 = 2
      · obtain ⟨q1, q2, q3⟩ := gm_sh_o hsn e
        have e' : s = 2 := (gm_sh_s hsn).trans e
        obtain ⟨m, hm⟩ := ih (x >>> ((2 : Int32) &&& 31)) (nI (3 * pa v.2.2 + k)) (H.2.2 v.2.2 k) e2 (Or.inr ⟨v.2.2, k, q2, hk, rfl, rfl⟩) (fun q => h1 (by show (if v.1 = 2 then _ else _) = none; rw [if_pos e]; exact q)) (fun w x' q => h2 w x' (by show (if v.1 = 2 then _ else _) = some w; rw [if_pos e]; exact q))
        refine ⟨m, br_t e' (nm_r (by rw [q1, e1, gm_i3]) (nm_e hm))⟩
      · have e' : ¬ s = 2 := fun q => e ((gm_sh_s hsn).symm.trans q)
        exact ⟨0, br_f e' (h1 (by show (if v.1 = 2 then _ else _) = none; rw [if_neg e]))⟩
    rcases hv with ⟨rfl, rfl⟩ | ⟨i, l, hi, hl, rfl, rfl⟩
    · obtain ⟨m, hm⟩ := key _ _ (hg g hg4)
      refine ⟨m + 1, br_f ne (br_f (by decide) ⟨pk_in g 4 hg4, br_f (by decide) ⟨pk_in g 4 hg4, ?_⟩⟩)⟩
      rw [nI_clamp (show g < 2 ^ 31 by omega)]
      exact hm
    · have l32 := lt i hi
      obtain ⟨m, hm⟩ := key _ _ (gm_hp_f hh hi hl)
      refine ⟨m + 1, br_f ne (br_t (nI_pos' (by omega)) ⟨pk_in (3 * pa i + l) 96 (by omega), br_t (nI_pos' (by omega)) ⟨pk_in (3 * pa i + l) 96 (by omega), ?_⟩⟩)⟩
      rw [nI_clamp (show 3 * pa i + l < 2 ^ 31 by omega)]
      exact hm
theorem gm_whas {post : Int32 → Prop} {xpr xlv xfc xou xyu xrm xmk xsc xmd xrs xrn xpc xwc : Int32} {a1 a2 a3 a4 a5 a6 a7 a8 a9 a10 a11 a12 a13 a14 a15 a16 a17 a18 a19 a20 a21 a22 : Nat → Int32} (hp : post 1) : ∀ (ks : List Nat) (x : Int32) (j : Nat), gm_enc ks x → ks.length + j < 8 → ∃ n, wX_hasEnd_4 post xpr xlv xfc xou xyu xrm xmk xsc xmd xrs xrn xpc xwc a1 a2 a3 a4 a5 a6 a7 a8 a9 a10 a11 a12 a13 a14 a15 a16 a17 a18 a19 a20 a21 a22 n x (nI j) := by
  intro ks
  induction ks with
  | nil =>
    intro x j he hl
    exact ⟨1, pk_le 8 j (fun q => absurd hl (by show ¬ 0 + j < 8; omega)) (fun _ => br_t he hp)⟩
  | cons k ks ih =>
    intro x j he hl
    have hl' : ks.length + 1 + j < 8 := hl
    obtain ⟨hk, e1, e2⟩ := he
    have ne : ¬ x &&& 3 = 3 := by
      rw [e1]
      intro q
      have := (nI_eq (a := k) (b := 3) (by omega) (by omega)).mp q
      omega
    obtain ⟨n, hn⟩ := ih _ (j + 1) e2 (by omega)
    exact ⟨n + 1, pk_le 8 j (fun q => absurd q (by omega)) (fun _ => br_f ne (nm_e (nm_r (nI_1 j) hn)))⟩
theorem gm_pl_v {a9 a10 a18 a19 : Nat → Int32} {xou xyu xrm : Int32} {a17 : Nat → Int32} (hg : gm_gl pa D G a9 a10) (hh : gm_hp pa D H xou xyu xrm a17 a18 a19) {g : Nat} (hg4 : g < 4) {x : Int32} {w : gm_V} (h : gm_pl pa D G H g x w) : (x = -1 ∧ gm_sh pa D w (a9 g) (a10 g)) ∨ ∃ q, q < 96 ∧ x = nI q ∧ gm_sh pa D w (a18 q) (a19 q) := by
  rcases h with ⟨rfl, rfl⟩ | ⟨i, l, hi, hl, rfl, rfl⟩
  · exact Or.inl ⟨rfl, hg g hg4⟩
  · have := gm_hp_lt hh i hi
    exact Or.inr ⟨3 * pa i + l, by omega, rfl, gm_hp_f hh hi hl⟩
theorem gm_get_ok {xou xyu xrm : Int32} {a17 a18 a19 : Nat → Int32} (hh : gm_hp pa D H xou xyu xrm a17 a18 a19) : ∀ (ks : List Nat) (x : Int32) (v w : gm_V), gm_enc ks x → (∃ s n, gm_sh pa D v s n) → gm_get H ks v = some w → ∃ s n, gm_sh pa D w s n := by
  intro ks
  induction ks with
  | nil =>
    intro x v w _ hv e
    have e' : some v = some w := e
    rw [← Option.some.inj e']
    exact hv
  | cons k ks ih =>
    intro x v w he hv e
    obtain ⟨hk, _, e2⟩ := he
    obtain ⟨s, n, hv⟩ := hv
    have e' : (if v.1 = 2 then gm_get H ks (H.2.2 v.2.2 k) else none) = some w := e
    by_cases q : v.1 = 2
    · rw [if_pos q] at e'
      exact ih _ _ w e2 ⟨_, _, gm_hp_f hh (gm_sh_o hv q).2.1 hk⟩ e'
    · rw [if_neg q] at e'
      exact absurd e'.symm (Option.some_ne_none w)
theorem gm_sh_3 {v : gm_V} {s n : Int32} (h : gm_sh pa D v s n) : v.1 = 0 ∨ v.1 = 1 ∨ v.1 = 2 := by
  rcases h with ⟨i, rfl, _⟩ | ⟨h1 | h1, rfl⟩
  · exact Or.inr (Or.inr rfl)
  · exact Or.inl h1
  · exact Or.inr (Or.inl h1)
theorem gm_nI_ne2 {q : Nat} (h : q < 96) : ¬ nI q = -2 := fun e => absurd (by rw [e]; decide : nI q < 0) (nI_pos (by omega))
theorem gm_wsrt {post : Int32 → Prop} (h : gm_M z P b pa D F G H C u) {g : Nat} (hg4 : g < 4) {ks : List Nat} {x : Int32} (he : gm_enc ks x) (hl : ks.length < 8) (hx0 : ¬ x < 0) (hx1 : ¬ 65535 < x) (hp : post (gm_srt (gm_get H ks (G g)))) : wpX_sort post u (nI g) x := by
  obtain ⟨xpr, xlv, xfc, xou, xyu, xrm, xmk, xsc, xmd, xrs, xrn, xpc, xwc, a1, a2, a3, a4, a5, a6, a7, a8, a9, a10, a11, a12, a13, a14, a15, a16, a17, a18, a19, a20, a21, a22⟩ := u
  obtain ⟨hc, hf, hg, hh, hs⟩ := h
  unfold wpX_sort
  dsimp only
  refine br_f (nI_pos (by omega)) (br_f (nI_nlt (a := 3) (by omega) (by omega)) (br_f hx0 (br_f hx1 ?_)))
  refine gm_whas (br_f (by decide) ?_) ks x 0 he (by omega)
  refine gm_wwalk hg hh hg4 ks x (-1) (G g) he (Or.inl ⟨rfl, rfl⟩) (fun q => ?_) (fun w x' q hw => ?_)
  · rw [q] at hp
    exact br_t rfl hp
  · rw [q] at hp
    have hp' : post w.1 := hp
    rcases gm_pl_v hg hh hg4 hw with ⟨rfl, hv⟩ | ⟨q, q1, rfl, hv⟩
    · refine br_f (by decide) (br_f (by decide) ⟨pk_in g 4 hg4, ?_⟩)
      rw [nI_clamp (by omega), gm_sh_s hv]
      exact hp'
    · refine br_f (gm_nI_ne2 q1) (br_t (nI_pos' (by omega)) ⟨pk_in q 96 q1, ?_⟩)
      rw [nI_clamp (by omega), gm_sh_s hv]
      exact hp'
theorem gm_wnmb {post : Int32 → Prop} (h : gm_M z P b pa D F G H C u) {g : Nat} (hg4 : g < 4) {ks : List Nat} {x : Int32} (he : gm_enc ks x) (hl : ks.length < 8) (hx0 : ¬ x < 0) (hx1 : ¬ 65535 < x) (hp : post (gm_nmb H (gm_get H ks (G g)))) : wpX_number post u (nI g) x := by
  obtain ⟨xpr, xlv, xfc, xou, xyu, xrm, xmk, xsc, xmd, xrs, xrn, xpc, xwc, a1, a2, a3, a4, a5, a6, a7, a8, a9, a10, a11, a12, a13, a14, a15, a16, a17, a18, a19, a20, a21, a22⟩ := u
  have hM := h
  obtain ⟨hc, hf, hg, hh, hs⟩ := h
  unfold wpX_number
  dsimp only
  refine gm_wsrt hM hg4 he hl hx0 hx1 ?_
  refine br_c (fun e => ?_) (fun e => ?_)
  · refine gm_wwalk hg hh hg4 ks x (-1) (G g) he (Or.inl ⟨rfl, rfl⟩) (fun q => ?_) (fun w x' q hw => ?_)
    · rw [q] at e
      exact absurd e (by decide)
    · rw [q] at hp e ⊢
      have e1 : 0 < w.1 := e
      have hp' : post (if w.1 = 0 then 0 else gm_shown H w) := hp
      rw [if_neg (fun q => by rw [q] at e1; exact absurd e1 (by decide))] at hp'
      have k42 : ∀ s n, gm_sh pa D w s n → wX_number_42 post w.1 n xpr xlv xfc xou xyu xrm xmk xsc xmd xrs xrn xpc xwc a1 a2 a3 a4 a5 a6 a7 a8 a9 a10 a11 a12 a13 a14 a15 a16 a17 a18 a19 a20 a21 a22 := by
        intro s n hsn
        unfold gm_shown at hp'
        refine br_c (fun e2 => ?_) (fun e2 => ?_)
        · obtain ⟨q1, q2, q3⟩ := gm_sh_o hsn e2
          have lt := gm_hp_lt hh _ q2
          rw [if_pos e2] at hp'
          rw [q1, nI_clamp (by omega), (gm_hp_c hh q2).1]
          exact ⟨pk_in _ 32 lt, hp'⟩
        · rw [if_neg e2] at hp'
          rw [gm_sh_n hsn e2]
          exact hp'
      rcases gm_pl_v hg hh hg4 hw with ⟨rfl, hv⟩ | ⟨q, q1, rfl, hv⟩
      · refine br_f (by decide) ⟨pk_in g 4 hg4, ?_⟩
        rw [nI_clamp (by omega)]
        exact k42 _ _ hv
      · refine br_t (nI_pos' (by omega)) ⟨pk_in q 96 q1, ?_⟩
        rw [nI_clamp (by omega)]
        exact k42 _ _ hv
  · cases q : gm_get H ks (G g) with
    | none =>
      rw [q] at hp
      exact hp
    | some w =>
      rw [q] at hp e
      have e1 : ¬ 0 < w.1 := e
      have hp' : post (if w.1 = 0 then 0 else gm_shown H w) := hp
      obtain ⟨s', n', hv'⟩ := gm_get_ok hh ks x (G g) w he ⟨_, _, hg g hg4⟩ q
      have w3 := gm_sh_3 hv'
      rcases w3 with w3 | w3 | w3
      · rw [if_pos w3] at hp'
        exact hp'
      · rw [w3] at e1
        exact absurd (by decide) e1
      · rw [w3] at e1
        exact absurd (by decide) e1
end
end
section
def gm_h1 (C : gm_C) (h : Int32) : Nat → Int32
  | 0 => h
  | n + 1 => 31 * gm_h1 C h n + gm_out C n
def gm_h3 (G : Nat → gm_V) (H : gm_H) (g : Nat) (h : Int32) : Nat → Int32
  | 0 => h
  | p + 1 => 31 * gm_h3 G H g h p + gm_srt (gm_get H [p / 3, p % 3] (G g)) + 5 * gm_nmb H (gm_get H [p / 3, p % 3] (G g)) + gm_srt (gm_get H [p % 3] (G g))
def gm_h2 (G : Nat → gm_V) (H : gm_H) (h : Int32) : Nat → Int32
  | 0 => h
  | g + 1 => gm_h3 G H g (31 * gm_h2 G H h g + gm_srt (gm_get H [] (G g)) + 5 * gm_nmb H (gm_get H [] (G g))) 9
noncomputable def gm_sum (F : gm_F) (G : Nat → gm_V) (H : gm_H) (C : gm_C) : Int32 :=
  gm_h2 G H (gm_h1 C (nI C.1 + 3 * C.2.1 + 7 * nI C.2.2.2.2.1 + 11 * C.2.2.2.1 + 13 * C.2.2.1 + 17 * nI (gm_cnt F G H)) 20) 4
theorem gm_enc2 : ∀ p, p < 9 → gm_enc [p / 3, p % 3] (nI (48 + p / 3 + 4 * (p % 3))) := by
  have t : ∀ p, p < 9 → p / 3 < 3 ∧ nI (48 + p / 3 + 4 * (p % 3)) &&& 3 = nI (p / 3) ∧ p % 3 < 3 ∧ (nI (48 + p / 3 + 4 * (p % 3)) >>> ((2 : Int32) &&& 31)) &&& 3 = nI (p % 3) ∧ (nI (48 + p / 3 + 4 * (p % 3)) >>> ((2 : Int32) &&& 31) >>> ((2 : Int32) &&& 31)) &&& 3 = 3 := by decide +kernel
  intro p hp
  obtain ⟨t1, t2, t3, t4, t5⟩ := t p hp
  exact ⟨t1, t2, t3, t4, t5⟩
theorem gm_enc1 : ∀ p, p < 3 → gm_enc [p] (nI (12 + p)) := by
  have t : ∀ p, p < 3 → p < 3 ∧ nI (12 + p) &&& 3 = nI p ∧ (nI (12 + p) >>> ((2 : Int32) &&& 31)) &&& 3 = 3 := by decide +kernel
  intro p hp
  obtain ⟨t1, t2, t3⟩ := t p hp
  exact ⟨t1, t2, t3⟩
theorem gm_enc0 : gm_enc [] 3 := by
  show (3 : Int32) &&& 3 = 3
  decide
section
variable {z : Prop} {P : gm_P} {b : Nat} {pa : Nat → Nat} {D : Nat → Prop} {F : gm_F} {G : Nat → gm_V} {H : gm_H} {C : gm_C} {u : St1}
theorem gm_wsum {post : Int32 → St1 → Prop} (h : gm_M z P b pa D F G H C u) (hb : b ≤ 1) (hp : gm_cnt F G H ≤ 16 → ∀ u', gm_M z P b pa D F G H C u' → post (gm_sum F G H C) u') : wpL_sum post u := by
  obtain ⟨xpr, xlv, xfc, xou, xyu, xrm, xmk, xsc, xmd, xrs, xrn, xpc, xwc, a1, a2, a3, a4, a5, a6, a7, a8, a9, a10, a11, a12, a13, a14, a15, a16, a17, a18, a19, a20, a21, a22⟩ := u
  obtain ⟨s1, s2, s3, s4, s5, s6, s7, s8⟩ := h.2.2.2.2
  unfold wpL_sum wpX_steps wpX_made wpX_printed wpX_given wpX_givenSort
  dsimp only
  refine gm_wneeded h (fun h16 u' h' => ?_)
  obtain ⟨xpr', xlv', xfc', xou', xyu', xrm', xmk', xsc', xmd', xrs', xrn', xpc', xwc', a1', a2', a3', a4', a5', a6', a7', a8', a9', a10', a11', a12', a13', a14', a15', a16', a17', a18', a19', a20', a21', a22'⟩ := u'
  have hp' := hp h16 _ h'
  rw [s1, s3, s4, s5, s6]
  refine nm_e ?_
  have k99 : ∀ (J : Int32 → Int32 → Prop) (g : Nat) (h0 : Int32), g < 4 → J (gm_h3 G H g h0 9) (nI (g + 1)) → ∃ n, wL_sum_99 post J (nI g) xpr' xlv' xfc' xou' xyu' xrm' xmk' xsc' xmd' xrs' xrn' xpc' xwc' a1' a2' a3' a4' a5' a6' a7' a8' a9' a10' a11' a12' a13' a14' a15' a16' a17' a18' a19' a20' a21' a22' n h0 0 := by
    intro J g h0 hg4 hJ
    refine pk_loop (fun n p (_ : Unit) => wL_sum_99 post J (nI g) xpr' xlv' xfc' xou' xyu' xrm' xmk' xsc' xmd' xrs' xrn' xpc' xwc' a1' a2' a3' a4' a5' a6' a7' a8' a9' a10' a11' a12' a13' a14' a15' a16' a17' a18' a19' a20' a21' a22' n (gm_h3 G H g h0 p) (nI p)) (fun _ _ => True) 9 0 () (by omega) trivial ?_ ?_
    · intro n _ _
      exact pk_le 9 9 (fun _ => nm_r (nI_1 g) hJ) (fun q => absurd q (by omega))
    · intro n p _ hp9 _ hw
      have e1 : nI p / 3 = nI (p / 3) := pk_div (d := 3) (by omega) (by omega) (by omega)
      have e2 : nI p - nI p / 3 * 3 = nI (p % 3) := pk_rem (d := 3) (by omega) (by omega) (by omega)
      have e3 : 48 + nI p / 3 + 4 * (nI p - nI p / 3 * 3) = nI (48 + p / 3 + 4 * (p % 3)) := by
        rw [e2, e1]
        show nI 48 + nI (p / 3) + nI 4 * nI (p % 3) = _
        rw [pk_mul, nI_add, nI_add]
      have e4 : 12 + (nI p - nI p / 3 * 3) = nI (12 + p % 3) := by
        rw [e2]
        show nI 12 + nI (p % 3) = _
        rw [nI_add]
      refine pk_le 9 p (fun q => absurd q (by omega)) (fun _ => ?_)
      rw [e3, e4]
      have x1 : ¬ nI (48 + p / 3 + 4 * (p % 3)) < 0 := nI_pos (by omega)
      have x2 : ¬ 65535 < nI (48 + p / 3 + 4 * (p % 3)) := nI_nlt (a := 65535) (by omega) (by omega)
      have x3 : ¬ nI (12 + p % 3) < 0 := nI_pos (by omega)
      have x4 : ¬ 65535 < nI (12 + p % 3) := nI_nlt (a := 65535) (by omega) (by omega)
      refine ⟨by decide, by decide, gm_wsrt h' hg4 (gm_enc2 p hp9) (show 2 < 8 by decide) x1 x2 ⟨by decide, by decide, gm_wnmb h' hg4 (gm_enc2 p hp9) (show 2 < 8 by decide) x1 x2 ⟨by decide, gm_wsrt h' hg4 (gm_enc1 (p % 3) (by omega)) (show 1 < 8 by decide) x3 x4 (nm_e (nm_r (nI_1 p) (hw () trivial)))⟩⟩⟩
  have k71 : ∀ h0 : Int32, gm_h2 G H h0 4 = gm_sum F G H C → ∃ n, wL_sum_71 post xpr' xlv' xfc' xou' xyu' xrm' xmk' xsc' xmd' xrs' xrn' xpc' xwc' a1' a2' a3' a4' a5' a6' a7' a8' a9' a10' a11' a12' a13' a14' a15' a16' a17' a18' a19' a20' a21' a22' n h0 0 := by
    intro h0 e0
    refine pk_loop (fun n g (_ : Unit) => wL_sum_71 post xpr' xlv' xfc' xou' xyu' xrm' xmk' xsc' xmd' xrs' xrn' xpc' xwc' a1' a2' a3' a4' a5' a6' a7' a8' a9' a10' a11' a12' a13' a14' a15' a16' a17' a18' a19' a20' a21' a22' n (gm_h2 G H h0 g) (nI g)) (fun _ _ => True) 4 0 () (by omega) trivial ?_ ?_
    · intro n _ _
      refine pk_le 4 4 (fun _ => ?_) (fun q => absurd q (by omega))
      rw [e0]
      exact hp'
    · intro n g _ hg4 _ hw
      refine pk_le 4 g (fun q => absurd q (by omega)) (fun _ => ?_)
      refine gm_wsrt h' hg4 gm_enc0 (by decide) (by decide) (by decide) (gm_wnmb h' hg4 gm_enc0 (by decide) (by decide) (by decide) (nm_e ?_))
      exact k99 _ g _ hg4 (hw () trivial)
  refine pk_loop (fun n k (_ : Unit) => wL_sum_46 post xpr' xlv' xfc' xou' xyu' xrm' xmk' xsc' xmd' xrs' xrn' xpc' xwc' a1' a2' a3' a4' a5' a6' a7' a8' a9' a10' a11' a12' a13' a14' a15' a16' a17' a18' a19' a20' a21' a22' n (gm_h1 C (nI C.1 + 3 * C.2.1 + 7 * nI C.2.2.2.2.1 + 11 * C.2.2.2.1 + 13 * C.2.2.1 + 17 * nI (gm_cnt F G H)) k) (nI k)) (fun _ _ => True) 20 0 () (by omega) trivial ?_ ?_
  · intro n _ _
    exact pk_le 20 20 (fun _ => k71 _ rfl) (fun q => absurd q (by omega))
  · intro n k _ hk _ hw
    refine pk_le 20 k (fun q => absurd q (by omega)) (fun _ => ?_)
    exact gm_wout h' hb hk (nm_e (nm_r (nI_1 k) (hw () trivial)))
end
end
section
def gm_T3 (P : gm_P) (F : gm_F) (G : Nat → gm_V) (H : gm_H) (C : gm_C) (u v w : St1) : Prop := (∃ pa D, gm_M False P 1 pa D F G H C u) ∧ (∃ pa D, gm_M False P 1 pa D F G H C v) ∧ (∃ pa D, gm_M False P 1 pa D F G H C w)
section
variable {z : Prop} {P : gm_P} {b : Nat} {pa : Nat → Nat} {D : Nat → Prop} {F : gm_F} {G : Nat → gm_V} {H : gm_H} {C : gm_C} {u v w : St1}
theorem gm_Mz (h : gm_M z P b pa D F G H C u) : gm_M False P b pa D F G H C u := by
  obtain ⟨xpr, xlv, xfc, xou, xyu, xrm, xmk, xsc, xmd, xrs, xrn, xpc, xwc, a1, a2, a3, a4, a5, a6, a7, a8, a9, a10, a11, a12, a13, a14, a15, a16, a17, a18, a19, a20, a21, a22⟩ := u
  obtain ⟨⟨d1, d2, d3, d4, d5, d6⟩, hf, hg, hh, hs⟩ := h
  exact ⟨⟨d1, d2, d3, d4, fun q => absurd q id, d6⟩, hf, hg, hh, hs⟩
/-- what the law's loop asks of the next turn -/
def gm_nx (post : Int32 → Prop) (L : Nat) (xs : Nat → Int32) (kc ks n : Nat) (x5 : Int32) : Prop := ∀ (m : Nat) (P : gm_P) (F : gm_F) (G : Nat → gm_V) (H : gm_H) (C : gm_C) (u v w : St1), m < 30 → gm_T3 P F G H C u v w → F.1 = 0 → wL_law_48 post L xs kc ks n (nI m) (x5 + 3) u.1 u.2.1 u.2.2.1 u.2.2.2.1 u.2.2.2.2.1 u.2.2.2.2.2.1 u.2.2.2.2.2.2.1 u.2.2.2.2.2.2.2.1 u.2.2.2.2.2.2.2.2.1 u.2.2.2.2.2.2.2.2.2.1 u.2.2.2.2.2.2.2.2.2.2.1 u.2.2.2.2.2.2.2.2.2.2.2.1 u.2.2.2.2.2.2.2.2.2.2.2.2.1 u.2.2.2.2.2.2.2.2.2.2.2.2.2.1 u.2.2.2.2.2.2.2.2.2.2.2.2.2.2.1 u.2.2.2.2.2.2.2.2.2.2.2.2.2.2.2.1 u.2.2.2.2.2.2.2.2.2.2.2.2.2.2.2.2.1 u.2.2.2.2.2.2.2.2.2.2.2.2.2.2.2.2.2.1 u.2.2.2.2.2.2.2.2.2.2.2.2.2.2.2.2.2.2.1 u.2.2.2.2.2.2.2.2.2.2.2.2.2.2.2.2.2.2.2.1 u.2.2.2.2.2.2.2.2.2.2.2.2.2.2.2.2.2.2.2.2.1 u.2.2.2.2.2.2.2.2.2.2.2.2.2.2.2.2.2.2.2.2.2.1 u.2.2.2.2.2.2.2.2.2.2.2.2.2.2.2.2.2.2.2.2.2.2.1 u.2.2.2.2.2.2.2.2.2.2.2.2.2.2.2.2.2.2.2.2.2.2.2.1 u.2.2.2.2.2.2.2.2.2.2.2.2.2.2.2.2.2.2.2.2.2.2.2.2.1 u.2.2.2.2.2.2.2.2.2.2.2.2.2.2.2.2.2.2.2.2.2.2.2.2.2.1 u.2.2.2.2.2.2.2.2.2.2.2.2.2.2.2.2.2.2.2.2.2.2.2.2.2.2.1 u.2.2.2.2.2.2.2.2.2.2.2.2.2.2.2.2.2.2.2.2.2.2.2.2.2.2.2.1 u.2.2.2.2.2.2.2.2.2.2.2.2.2.2.2.2.2.2.2.2.2.2.2.2.2.2.2.2.1 u.2.2.2.2.2.2.2.2.2.2.2.2.2.2.2.2.2.2.2.2.2.2.2.2.2.2.2.2.2.1 u.2.2.2.2.2.2.2.2.2.2.2.2.2.2.2.2.2.2.2.2.2.2.2.2.2.2.2.2.2.2.1 u.2.2.2.2.2.2.2.2.2.2.2.2.2.2.2.2.2.2.2.2.2.2.2.2.2.2.2.2.2.2.2.1 u.2.2.2.2.2.2.2.2.2.2.2.2.2.2.2.2.2.2.2.2.2.2.2.2.2.2.2.2.2.2.2.2.1 u.2.2.2.2.2.2.2.2.2.2.2.2.2.2.2.2.2.2.2.2.2.2.2.2.2.2.2.2.2.2.2.2.2.1 u.2.2.2.2.2.2.2.2.2.2.2.2.2.2.2.2.2.2.2.2.2.2.2.2.2.2.2.2.2.2.2.2.2.2 v.1 v.2.1 v.2.2.1 v.2.2.2.1 v.2.2.2.2.1 v.2.2.2.2.2.1 v.2.2.2.2.2.2.1 v.2.2.2.2.2.2.2.1 v.2.2.2.2.2.2.2.2.1 v.2.2.2.2.2.2.2.2.2.1 v.2.2.2.2.2.2.2.2.2.2.1 v.2.2.2.2.2.2.2.2.2.2.2.1 v.2.2.2.2.2.2.2.2.2.2.2.2.1 v.2.2.2.2.2.2.2.2.2.2.2.2.2.1 v.2.2.2.2.2.2.2.2.2.2.2.2.2.2.1 v.2.2.2.2.2.2.2.2.2.2.2.2.2.2.2.1 v.2.2.2.2.2.2.2.2.2.2.2.2.2.2.2.2.1 v.2.2.2.2.2.2.2.2.2.2.2.2.2.2.2.2.2.1 v.2.2.2.2.2.2.2.2.2.2.2.2.2.2.2.2.2.2.1 v.2.2.2.2.2.2.2.2.2.2.2.2.2.2.2.2.2.2.2.1 v.2.2.2.2.2.2.2.2.2.2.2.2.2.2.2.2.2.2.2.2.1 v.2.2.2.2.2.2.2.2.2.2.2.2.2.2.2.2.2.2.2.2.2.1 v.2.2.2.2.2.2.2.2.2.2.2.2.2.2.2.2.2.2.2.2.2.2.1 v.2.2.2.2.2.2.2.2.2.2.2.2.2.2.2.2.2.2.2.2.2.2.2.1 v.2.2.2.2.2.2.2.2.2.2.2.2.2.2.2.2.2.2.2.2.2.2.2.2.1 v.2.2.2.2.2.2.2.2.2.2.2.2.2.2.2.2.2.2.2.2.2.2.2.2.2.1 v.2.2.2.2.2.2.2.2.2.2.2.2.2.2.2.2.2.2.2.2.2.2.2.2.2.2.1 v.2.2.2.2.2.2.2.2.2.2.2.2.2.2.2.2.2.2.2.2.2.2.2.2.2.2.2.1 v.2.2.2.2.2.2.2.2.2.2.2.2.2.2.2.2.2.2.2.2.2.2.2.2.2.2.2.2.1 v.2.2.2.2.2.2.2.2.2.2.2.2.2.2.2.2.2.2.2.2.2.2.2.2.2.2.2.2.2.1 v.2.2.2.2.2.2.2.2.2.2.2.2.2.2.2.2.2.2.2.2.2.2.2.2.2.2.2.2.2.2.1 v.2.2.2.2.2.2.2.2.2.2.2.2.2.2.2.2.2.2.2.2.2.2.2.2.2.2.2.2.2.2.2.1 v.2.2.2.2.2.2.2.2.2.2.2.2.2.2.2.2.2.2.2.2.2.2.2.2.2.2.2.2.2.2.2.2.1 v.2.2.2.2.2.2.2.2.2.2.2.2.2.2.2.2.2.2.2.2.2.2.2.2.2.2.2.2.2.2.2.2.2.1 v.2.2.2.2.2.2.2.2.2.2.2.2.2.2.2.2.2.2.2.2.2.2.2.2.2.2.2.2.2.2.2.2.2.2 w.1 w.2.1 w.2.2.1 w.2.2.2.1 w.2.2.2.2.1 w.2.2.2.2.2.1 w.2.2.2.2.2.2.1 w.2.2.2.2.2.2.2.1 w.2.2.2.2.2.2.2.2.1 w.2.2.2.2.2.2.2.2.2.1 w.2.2.2.2.2.2.2.2.2.2.1 w.2.2.2.2.2.2.2.2.2.2.2.1 w.2.2.2.2.2.2.2.2.2.2.2.2.1 w.2.2.2.2.2.2.2.2.2.2.2.2.2.1 w.2.2.2.2.2.2.2.2.2.2.2.2.2.2.1 w.2.2.2.2.2.2.2.2.2.2.2.2.2.2.2.1 w.2.2.2.2.2.2.2.2.2.2.2.2.2.2.2.2.1 w.2.2.2.2.2.2.2.2.2.2.2.2.2.2.2.2.2.1 w.2.2.2.2.2.2.2.2.2.2.2.2.2.2.2.2.2.2.1 w.2.2.2.2.2.2.2.2.2.2.2.2.2.2.2.2.2.2.2.1 w.2.2.2.2.2.2.2.2.2.2.2.2.2.2.2.2.2.2.2.2.1 w.2.2.2.2.2.2.2.2.2.2.2.2.2.2.2.2.2.2.2.2.2.1 w.2.2.2.2.2.2.2.2.2.2.2.2.2.2.2.2.2.2.2.2.2.2.1 w.2.2.2.2.2.2.2.2.2.2.2.2.2.2.2.2.2.2.2.2.2.2.2.1 w.2.2.2.2.2.2.2.2.2.2.2.2.2.2.2.2.2.2.2.2.2.2.2.2.1 w.2.2.2.2.2.2.2.2.2.2.2.2.2.2.2.2.2.2.2.2.2.2.2.2.2.1 w.2.2.2.2.2.2.2.2.2.2.2.2.2.2.2.2.2.2.2.2.2.2.2.2.2.2.1 w.2.2.2.2.2.2.2.2.2.2.2.2.2.2.2.2.2.2.2.2.2.2.2.2.2.2.2.1 w.2.2.2.2.2.2.2.2.2.2.2.2.2.2.2.2.2.2.2.2.2.2.2.2.2.2.2.2.1 w.2.2.2.2.2.2.2.2.2.2.2.2.2.2.2.2.2.2.2.2.2.2.2.2.2.2.2.2.2.1 w.2.2.2.2.2.2.2.2.2.2.2.2.2.2.2.2.2.2.2.2.2.2.2.2.2.2.2.2.2.2.1 w.2.2.2.2.2.2.2.2.2.2.2.2.2.2.2.2.2.2.2.2.2.2.2.2.2.2.2.2.2.2.2.1 w.2.2.2.2.2.2.2.2.2.2.2.2.2.2.2.2.2.2.2.2.2.2.2.2.2.2.2.2.2.2.2.2.1 w.2.2.2.2.2.2.2.2.2.2.2.2.2.2.2.2.2.2.2.2.2.2.2.2.2.2.2.2.2.2.2.2.2.1 w.2.2.2.2.2.2.2.2.2.2.2.2.2.2.2.2.2.2.2.2.2.2.2.2.2.2.2.2.2.2.2.2.2.2
theorem gm_w447 {post : Int32 → Prop} {L : Nat} {xs : Nat → Int32} {kc ks n m : Nat} {x5 x7 : Int32} (hm : m < 30) (h : gm_T3 P F G H C u v w) (hw : gm_nx post L xs kc ks n x5) : wL_law_447 post L xs (wL_law_48 post L xs kc ks n) (nI m) x5 x7 kc ks u.1 u.2.1 u.2.2.1 u.2.2.2.1 u.2.2.2.2.1 u.2.2.2.2.2.1 u.2.2.2.2.2.2.1 u.2.2.2.2.2.2.2.1 u.2.2.2.2.2.2.2.2.1 u.2.2.2.2.2.2.2.2.2.1 u.2.2.2.2.2.2.2.2.2.2.1 u.2.2.2.2.2.2.2.2.2.2.2.1 u.2.2.2.2.2.2.2.2.2.2.2.2.1 u.2.2.2.2.2.2.2.2.2.2.2.2.2.1 u.2.2.2.2.2.2.2.2.2.2.2.2.2.2.1 u.2.2.2.2.2.2.2.2.2.2.2.2.2.2.2.1 u.2.2.2.2.2.2.2.2.2.2.2.2.2.2.2.2.1 u.2.2.2.2.2.2.2.2.2.2.2.2.2.2.2.2.2.1 u.2.2.2.2.2.2.2.2.2.2.2.2.2.2.2.2.2.2.1 u.2.2.2.2.2.2.2.2.2.2.2.2.2.2.2.2.2.2.2.1 u.2.2.2.2.2.2.2.2.2.2.2.2.2.2.2.2.2.2.2.2.1 u.2.2.2.2.2.2.2.2.2.2.2.2.2.2.2.2.2.2.2.2.2.1 u.2.2.2.2.2.2.2.2.2.2.2.2.2.2.2.2.2.2.2.2.2.2.1 u.2.2.2.2.2.2.2.2.2.2.2.2.2.2.2.2.2.2.2.2.2.2.2.1 u.2.2.2.2.2.2.2.2.2.2.2.2.2.2.2.2.2.2.2.2.2.2.2.2.1 u.2.2.2.2.2.2.2.2.2.2.2.2.2.2.2.2.2.2.2.2.2.2.2.2.2.1 u.2.2.2.2.2.2.2.2.2.2.2.2.2.2.2.2.2.2.2.2.2.2.2.2.2.2.1 u.2.2.2.2.2.2.2.2.2.2.2.2.2.2.2.2.2.2.2.2.2.2.2.2.2.2.2.1 u.2.2.2.2.2.2.2.2.2.2.2.2.2.2.2.2.2.2.2.2.2.2.2.2.2.2.2.2.1 u.2.2.2.2.2.2.2.2.2.2.2.2.2.2.2.2.2.2.2.2.2.2.2.2.2.2.2.2.2.1 u.2.2.2.2.2.2.2.2.2.2.2.2.2.2.2.2.2.2.2.2.2.2.2.2.2.2.2.2.2.2.1 u.2.2.2.2.2.2.2.2.2.2.2.2.2.2.2.2.2.2.2.2.2.2.2.2.2.2.2.2.2.2.2.1 u.2.2.2.2.2.2.2.2.2.2.2.2.2.2.2.2.2.2.2.2.2.2.2.2.2.2.2.2.2.2.2.2.1 u.2.2.2.2.2.2.2.2.2.2.2.2.2.2.2.2.2.2.2.2.2.2.2.2.2.2.2.2.2.2.2.2.2.1 u.2.2.2.2.2.2.2.2.2.2.2.2.2.2.2.2.2.2.2.2.2.2.2.2.2.2.2.2.2.2.2.2.2.2 v.1 v.2.1 v.2.2.1 v.2.2.2.1 v.2.2.2.2.1 v.2.2.2.2.2.1 v.2.2.2.2.2.2.1 v.2.2.2.2.2.2.2.1 v.2.2.2.2.2.2.2.2.1 v.2.2.2.2.2.2.2.2.2.1 v.2.2.2.2.2.2.2.2.2.2.1 v.2.2.2.2.2.2.2.2.2.2.2.1 v.2.2.2.2.2.2.2.2.2.2.2.2.1 v.2.2.2.2.2.2.2.2.2.2.2.2.2.1 v.2.2.2.2.2.2.2.2.2.2.2.2.2.2.1 v.2.2.2.2.2.2.2.2.2.2.2.2.2.2.2.1 v.2.2.2.2.2.2.2.2.2.2.2.2.2.2.2.2.1 v.2.2.2.2.2.2.2.2.2.2.2.2.2.2.2.2.2.1 v.2.2.2.2.2.2.2.2.2.2.2.2.2.2.2.2.2.2.1 v.2.2.2.2.2.2.2.2.2.2.2.2.2.2.2.2.2.2.2.1 v.2.2.2.2.2.2.2.2.2.2.2.2.2.2.2.2.2.2.2.2.1 v.2.2.2.2.2.2.2.2.2.2.2.2.2.2.2.2.2.2.2.2.2.1 v.2.2.2.2.2.2.2.2.2.2.2.2.2.2.2.2.2.2.2.2.2.2.1 v.2.2.2.2.2.2.2.2.2.2.2.2.2.2.2.2.2.2.2.2.2.2.2.1 v.2.2.2.2.2.2.2.2.2.2.2.2.2.2.2.2.2.2.2.2.2.2.2.2.1 v.2.2.2.2.2.2.2.2.2.2.2.2.2.2.2.2.2.2.2.2.2.2.2.2.2.1 v.2.2.2.2.2.2.2.2.2.2.2.2.2.2.2.2.2.2.2.2.2.2.2.2.2.2.1 v.2.2.2.2.2.2.2.2.2.2.2.2.2.2.2.2.2.2.2.2.2.2.2.2.2.2.2.1 v.2.2.2.2.2.2.2.2.2.2.2.2.2.2.2.2.2.2.2.2.2.2.2.2.2.2.2.2.1 v.2.2.2.2.2.2.2.2.2.2.2.2.2.2.2.2.2.2.2.2.2.2.2.2.2.2.2.2.2.1 v.2.2.2.2.2.2.2.2.2.2.2.2.2.2.2.2.2.2.2.2.2.2.2.2.2.2.2.2.2.2.1 v.2.2.2.2.2.2.2.2.2.2.2.2.2.2.2.2.2.2.2.2.2.2.2.2.2.2.2.2.2.2.2.1 v.2.2.2.2.2.2.2.2.2.2.2.2.2.2.2.2.2.2.2.2.2.2.2.2.2.2.2.2.2.2.2.2.1 v.2.2.2.2.2.2.2.2.2.2.2.2.2.2.2.2.2.2.2.2.2.2.2.2.2.2.2.2.2.2.2.2.2.1 v.2.2.2.2.2.2.2.2.2.2.2.2.2.2.2.2.2.2.2.2.2.2.2.2.2.2.2.2.2.2.2.2.2.2 w.1 w.2.1 w.2.2.1 w.2.2.2.1 w.2.2.2.2.1 w.2.2.2.2.2.1 w.2.2.2.2.2.2.1 w.2.2.2.2.2.2.2.1 w.2.2.2.2.2.2.2.2.1 w.2.2.2.2.2.2.2.2.2.1 w.2.2.2.2.2.2.2.2.2.2.1 w.2.2.2.2.2.2.2.2.2.2.2.1 w.2.2.2.2.2.2.2.2.2.2.2.2.1 w.2.2.2.2.2.2.2.2.2.2.2.2.2.1 w.2.2.2.2.2.2.2.2.2.2.2.2.2.2.1 w.2.2.2.2.2.2.2.2.2.2.2.2.2.2.2.1 w.2.2.2.2.2.2.2.2.2.2.2.2.2.2.2.2.1 w.2.2.2.2.2.2.2.2.2.2.2.2.2.2.2.2.2.1 w.2.2.2.2.2.2.2.2.2.2.2.2.2.2.2.2.2.2.1 w.2.2.2.2.2.2.2.2.2.2.2.2.2.2.2.2.2.2.2.1 w.2.2.2.2.2.2.2.2.2.2.2.2.2.2.2.2.2.2.2.2.1 w.2.2.2.2.2.2.2.2.2.2.2.2.2.2.2.2.2.2.2.2.2.1 w.2.2.2.2.2.2.2.2.2.2.2.2.2.2.2.2.2.2.2.2.2.2.1 w.2.2.2.2.2.2.2.2.2.2.2.2.2.2.2.2.2.2.2.2.2.2.2.1 w.2.2.2.2.2.2.2.2.2.2.2.2.2.2.2.2.2.2.2.2.2.2.2.2.1 w.2.2.2.2.2.2.2.2.2.2.2.2.2.2.2.2.2.2.2.2.2.2.2.2.2.1 w.2.2.2.2.2.2.2.2.2.2.2.2.2.2.2.2.2.2.2.2.2.2.2.2.2.2.1 w.2.2.2.2.2.2.2.2.2.2.2.2.2.2.2.2.2.2.2.2.2.2.2.2.2.2.2.1 w.2.2.2.2.2.2.2.2.2.2.2.2.2.2.2.2.2.2.2.2.2.2.2.2.2.2.2.2.1 w.2.2.2.2.2.2.2.2.2.2.2.2.2.2.2.2.2.2.2.2.2.2.2.2.2.2.2.2.2.1 w.2.2.2.2.2.2.2.2.2.2.2.2.2.2.2.2.2.2.2.2.2.2.2.2.2.2.2.2.2.2.1 w.2.2.2.2.2.2.2.2.2.2.2.2.2.2.2.2.2.2.2.2.2.2.2.2.2.2.2.2.2.2.2.1 w.2.2.2.2.2.2.2.2.2.2.2.2.2.2.2.2.2.2.2.2.2.2.2.2.2.2.2.2.2.2.2.2.1 w.2.2.2.2.2.2.2.2.2.2.2.2.2.2.2.2.2.2.2.2.2.2.2.2.2.2.2.2.2.2.2.2.2.1 w.2.2.2.2.2.2.2.2.2.2.2.2.2.2.2.2.2.2.2.2.2.2.2.2.2.2.2.2.2.2.2.2.2.2 := by
  obtain ⟨⟨pu, Du, hu⟩, ⟨pv, Dv, hv⟩, ⟨pw, Dw, hw'⟩⟩ := h
  unfold wL_law_447
  refine ⟨by decide, nm_e ?_⟩
  refine gm_wrun hu (fun pa1 D1 u1 h1 => ?_)
  obtain ⟨xpr', xlv', xfc', xou', xyu', xrm', xmk', xsc', xmd', xrs', xrn', xpc', xwc', a1', a2', a3', a4', a5', a6', a7', a8', a9', a10', a11', a12', a13', a14', a15', a16', a17', a18', a19', a20', a21', a22'⟩ := u1
  refine gm_wrun hv (fun pa2 D2 v1 h2 => ?_)
  obtain ⟨xpr'', xlv'', xfc'', xou'', xyu'', xrm'', xmk'', xsc'', xmd'', xrs'', xrn'', xpc'', xwc'', a1'', a2'', a3'', a4'', a5'', a6'', a7'', a8'', a9'', a10'', a11'', a12'', a13'', a14'', a15'', a16'', a17'', a18'', a19'', a20'', a21'', a22''⟩ := v1
  refine br_t rfl ?_
  refine gm_wrun hw' (fun pa3 D3 w1 h3 => ?_)
  obtain ⟨xpr''', xlv''', xfc''', xou''', xyu''', xrm''', xmk''', xsc''', xmd''', xrs''', xrn''', xpc''', xwc''', a1''', a2''', a3''', a4''', a5''', a6''', a7''', a8''', a9''', a10''', a11''', a12''', a13''', a14''', a15''', a16''', a17''', a18''', a19''', a20''', a21''', a22'''⟩ := w1
  refine br_t rfl ?_
  refine gm_wsum h1 (by omega) (fun _ u2 k1 => ?_)
  obtain ⟨xpr', xlv', xfc', xou', xyu', xrm', xmk', xsc', xmd', xrs', xrn', xpc', xwc', a1', a2', a3', a4', a5', a6', a7', a8', a9', a10', a11', a12', a13', a14', a15', a16', a17', a18', a19', a20', a21', a22'⟩ := u2
  refine gm_wsum h2 (by omega) (fun _ v2 k2 => ?_)
  obtain ⟨xpr'', xlv'', xfc'', xou'', xyu'', xrm'', xmk'', xsc'', xmd'', xrs'', xrn'', xpc'', xwc'', a1'', a2'', a3'', a4'', a5'', a6'', a7'', a8'', a9'', a10'', a11'', a12'', a13'', a14'', a15'', a16'', a17'', a18'', a19'', a20'', a21'', a22''⟩ := v2
  refine br_t rfl ?_
  refine gm_wsum h3 (by omega) (fun _ w2 k3 => ?_)
  obtain ⟨xpr''', xlv''', xfc''', xou''', xyu''', xrm''', xmk''', xsc''', xmd''', xrs''', xrn''', xpc''', xwc''', a1''', a2''', a3''', a4''', a5''', a6''', a7''', a8''', a9''', a10''', a11''', a12''', a13''', a14''', a15''', a16''', a17''', a18''', a19''', a20''', a21''', a22'''⟩ := w2
  refine br_t rfl ?_
  obtain ⟨s1, s2, _⟩ := k1.2.2.2.2
  refine br_f (by rw [s1]; exact nI_pos (by omega)) (br_f (by rw [s1]; exact nI_nlt (a := 300) (by omega) (by omega)) ?_)
  refine gm_wneeded k1 (fun c16 u3 k4 => ?_)
  obtain ⟨xpr', xlv', xfc', xou', xyu', xrm', xmk', xsc', xmd', xrs', xrn', xpc', xwc', a1', a2', a3', a4', a5', a6', a7', a8', a9', a10', a11', a12', a13', a14', a15', a16', a17', a18', a19', a20', a21', a22'⟩ := u3
  refine br_f (nI_pos (by omega)) ?_
  refine gm_wneeded k4 (fun c16' u4 k5 => ?_)
  obtain ⟨xpr', xlv', xfc', xou', xyu', xrm', xmk', xsc', xmd', xrs', xrn', xpc', xwc', a1', a2', a3', a4', a5', a6', a7', a8', a9', a10', a11', a12', a13', a14', a15', a16', a17', a18', a19', a20', a21', a22'⟩ := u4
  refine br_t (nI_le (b := 16) c16' (by omega)) (nm_e ?_)
  exact hw m P _ _ _ _ (xpr', xlv', xfc', xou', xyu', xrm', xmk', xsc', xmd', xrs', xrn', xpc', xwc', a1', a2', a3', a4', a5', a6', a7', a8', a9', a10', a11', a12', a13', a14', a15', a16', a17', a18', a19', a20', a21', a22') (xpr'', xlv'', xfc'', xou'', xyu'', xrm'', xmk'', xsc'', xmd'', xrs'', xrn'', xpc'', xwc'', a1'', a2'', a3'', a4'', a5'', a6'', a7'', a8'', a9'', a10'', a11'', a12'', a13'', a14'', a15'', a16'', a17'', a18'', a19'', a20'', a21'', a22'') (xpr''', xlv''', xfc''', xou''', xyu''', xrm''', xmk''', xsc''', xmd''', xrs''', xrn''', xpc''', xwc''', a1''', a2''', a3''', a4''', a5''', a6''', a7''', a8''', a9''', a10''', a11''', a12''', a13''', a14''', a15''', a16''', a17''', a18''', a19''', a20''', a21''', a22''') hm ⟨⟨_, _, gm_Mz k5⟩, ⟨_, _, gm_Mz k2⟩, ⟨_, _, gm_Mz k3⟩⟩ rfl
theorem gm_r30 {k : Nat} (h : k < 256) : nI k - nI k / 30 * 30 = nI (k % 30) := pk_rem (d := 30) (by omega) (by omega) (by omega)
theorem gm_w388 {post : Int32 → Prop} {L : Nat} {xs : Nat → Int32} {kc ks n m i k : Nat} {x5 x7 x8 x9 : Int32} (hm : m < 30) (hi : i < 30) (hk : k < 16) (hfit : gm_fit x8 x9) (h : gm_T3 P F G H C u v w) (hw : gm_nx post L xs kc ks n x5) : wL_law_388 post L xs (wL_law_48 post L xs kc ks n) (nI m) x5 x7 x8 x9 (nI k) (nI i) kc ks u.1 u.2.1 u.2.2.1 u.2.2.2.1 u.2.2.2.2.1 u.2.2.2.2.2.1 u.2.2.2.2.2.2.1 u.2.2.2.2.2.2.2.1 u.2.2.2.2.2.2.2.2.1 u.2.2.2.2.2.2.2.2.2.1 u.2.2.2.2.2.2.2.2.2.2.1 u.2.2.2.2.2.2.2.2.2.2.2.1 u.2.2.2.2.2.2.2.2.2.2.2.2.1 u.2.2.2.2.2.2.2.2.2.2.2.2.2.1 u.2.2.2.2.2.2.2.2.2.2.2.2.2.2.1 u.2.2.2.2.2.2.2.2.2.2.2.2.2.2.2.1 u.2.2.2.2.2.2.2.2.2.2.2.2.2.2.2.2.1 u.2.2.2.2.2.2.2.2.2.2.2.2.2.2.2.2.2.1 u.2.2.2.2.2.2.2.2.2.2.2.2.2.2.2.2.2.2.1 u.2.2.2.2.2.2.2.2.2.2.2.2.2.2.2.2.2.2.2.1 u.2.2.2.2.2.2.2.2.2.2.2.2.2.2.2.2.2.2.2.2.1 u.2.2.2.2.2.2.2.2.2.2.2.2.2.2.2.2.2.2.2.2.2.1 u.2.2.2.2.2.2.2.2.2.2.2.2.2.2.2.2.2.2.2.2.2.2.1 u.2.2.2.2.2.2.2.2.2.2.2.2.2.2.2.2.2.2.2.2.2.2.2.1 u.2.2.2.2.2.2.2.2.2.2.2.2.2.2.2.2.2.2.2.2.2.2.2.2.1 u.2.2.2.2.2.2.2.2.2.2.2.2.2.2.2.2.2.2.2.2.2.2.2.2.2.1 u.2.2.2.2.2.2.2.2.2.2.2.2.2.2.2.2.2.2.2.2.2.2.2.2.2.2.1 u.2.2.2.2.2.2.2.2.2.2.2.2.2.2.2.2.2.2.2.2.2.2.2.2.2.2.2.1 u.2.2.2.2.2.2.2.2.2.2.2.2.2.2.2.2.2.2.2.2.2.2.2.2.2.2.2.2.1 u.2.2.2.2.2.2.2.2.2.2.2.2.2.2.2.2.2.2.2.2.2.2.2.2.2.2.2.2.2.1 u.2.2.2.2.2.2.2.2.2.2.2.2.2.2.2.2.2.2.2.2.2.2.2.2.2.2.2.2.2.2.1 u.2.2.2.2.2.2.2.2.2.2.2.2.2.2.2.2.2.2.2.2.2.2.2.2.2.2.2.2.2.2.2.1 u.2.2.2.2.2.2.2.2.2.2.2.2.2.2.2.2.2.2.2.2.2.2.2.2.2.2.2.2.2.2.2.2.1 u.2.2.2.2.2.2.2.2.2.2.2.2.2.2.2.2.2.2.2.2.2.2.2.2.2.2.2.2.2.2.2.2.2.1 u.2.2.2.2.2.2.2.2.2.2.2.2.2.2.2.2.2.2.2.2.2.2.2.2.2.2.2.2.2.2.2.2.2.2 v.1 v.2.1 v.2.2.1 v.2.2.2.1 v.2.2.2.2.1 v.2.2.2.2.2.1 v.2.2.2.2.2.2.1 v.2.2.2.2.2.2.2.1 v.2.2.2.2.2.2.2.2.1 v.2.2.2.2.2.2.2.2.2.1 v.2.2.2.2.2.2.2.2.2.2.1 v.2.2.2.2.2.2.2.2.2.2.2.1 v.2.2.2.2.2.2.2.2.2.2.2.2.1 v.2.2.2.2.2.2.2.2.2.2.2.2.2.1 v.2.2.2.2.2.2.2.2.2.2.2.2.2.2.1 v.2.2.2.2.2.2.2.2.2.2.2.2.2.2.2.1 v.2.2.2.2.2.2.2.2.2.2.2.2.2.2.2.2.1 v.2.2.2.2.2.2.2.2.2.2.2.2.2.2.2.2.2.1 v.2.2.2.2.2.2.2.2.2.2.2.2.2.2.2.2.2.2.1 v.2.2.2.2.2.2.2.2.2.2.2.2.2.2.2.2.2.2.2.1 v.2.2.2.2.2.2.2.2.2.2.2.2.2.2.2.2.2.2.2.2.1 v.2.2.2.2.2.2.2.2.2.2.2.2.2.2.2.2.2.2.2.2.2.1 v.2.2.2.2.2.2.2.2.2.2.2.2.2.2.2.2.2.2.2.2.2.2.1 v.2.2.2.2.2.2.2.2.2.2.2.2.2.2.2.2.2.2.2.2.2.2.2.1 v.2.2.2.2.2.2.2.2.2.2.2.2.2.2.2.2.2.2.2.2.2.2.2.2.1 v.2.2.2.2.2.2.2.2.2.2.2.2.2.2.2.2.2.2.2.2.2.2.2.2.2.1 v.2.2.2.2.2.2.2.2.2.2.2.2.2.2.2.2.2.2.2.2.2.2.2.2.2.2.1 v.2.2.2.2.2.2.2.2.2.2.2.2.2.2.2.2.2.2.2.2.2.2.2.2.2.2.2.1 v.2.2.2.2.2.2.2.2.2.2.2.2.2.2.2.2.2.2.2.2.2.2.2.2.2.2.2.2.1 v.2.2.2.2.2.2.2.2.2.2.2.2.2.2.2.2.2.2.2.2.2.2.2.2.2.2.2.2.2.1 v.2.2.2.2.2.2.2.2.2.2.2.2.2.2.2.2.2.2.2.2.2.2.2.2.2.2.2.2.2.2.1 v.2.2.2.2.2.2.2.2.2.2.2.2.2.2.2.2.2.2.2.2.2.2.2.2.2.2.2.2.2.2.2.1 v.2.2.2.2.2.2.2.2.2.2.2.2.2.2.2.2.2.2.2.2.2.2.2.2.2.2.2.2.2.2.2.2.1 v.2.2.2.2.2.2.2.2.2.2.2.2.2.2.2.2.2.2.2.2.2.2.2.2.2.2.2.2.2.2.2.2.2.1 v.2.2.2.2.2.2.2.2.2.2.2.2.2.2.2.2.2.2.2.2.2.2.2.2.2.2.2.2.2.2.2.2.2.2 w.1 w.2.1 w.2.2.1 w.2.2.2.1 w.2.2.2.2.1 w.2.2.2.2.2.1 w.2.2.2.2.2.2.1 w.2.2.2.2.2.2.2.1 w.2.2.2.2.2.2.2.2.1 w.2.2.2.2.2.2.2.2.2.1 w.2.2.2.2.2.2.2.2.2.2.1 w.2.2.2.2.2.2.2.2.2.2.2.1 w.2.2.2.2.2.2.2.2.2.2.2.2.1 w.2.2.2.2.2.2.2.2.2.2.2.2.2.1 w.2.2.2.2.2.2.2.2.2.2.2.2.2.2.1 w.2.2.2.2.2.2.2.2.2.2.2.2.2.2.2.1 w.2.2.2.2.2.2.2.2.2.2.2.2.2.2.2.2.1 w.2.2.2.2.2.2.2.2.2.2.2.2.2.2.2.2.2.1 w.2.2.2.2.2.2.2.2.2.2.2.2.2.2.2.2.2.2.1 w.2.2.2.2.2.2.2.2.2.2.2.2.2.2.2.2.2.2.2.1 w.2.2.2.2.2.2.2.2.2.2.2.2.2.2.2.2.2.2.2.2.1 w.2.2.2.2.2.2.2.2.2.2.2.2.2.2.2.2.2.2.2.2.2.1 w.2.2.2.2.2.2.2.2.2.2.2.2.2.2.2.2.2.2.2.2.2.2.1 w.2.2.2.2.2.2.2.2.2.2.2.2.2.2.2.2.2.2.2.2.2.2.2.1 w.2.2.2.2.2.2.2.2.2.2.2.2.2.2.2.2.2.2.2.2.2.2.2.2.1 w.2.2.2.2.2.2.2.2.2.2.2.2.2.2.2.2.2.2.2.2.2.2.2.2.2.1 w.2.2.2.2.2.2.2.2.2.2.2.2.2.2.2.2.2.2.2.2.2.2.2.2.2.2.1 w.2.2.2.2.2.2.2.2.2.2.2.2.2.2.2.2.2.2.2.2.2.2.2.2.2.2.2.1 w.2.2.2.2.2.2.2.2.2.2.2.2.2.2.2.2.2.2.2.2.2.2.2.2.2.2.2.2.1 w.2.2.2.2.2.2.2.2.2.2.2.2.2.2.2.2.2.2.2.2.2.2.2.2.2.2.2.2.2.1 w.2.2.2.2.2.2.2.2.2.2.2.2.2.2.2.2.2.2.2.2.2.2.2.2.2.2.2.2.2.2.1 w.2.2.2.2.2.2.2.2.2.2.2.2.2.2.2.2.2.2.2.2.2.2.2.2.2.2.2.2.2.2.2.1 w.2.2.2.2.2.2.2.2.2.2.2.2.2.2.2.2.2.2.2.2.2.2.2.2.2.2.2.2.2.2.2.2.1 w.2.2.2.2.2.2.2.2.2.2.2.2.2.2.2.2.2.2.2.2.2.2.2.2.2.2.2.2.2.2.2.2.2.1 w.2.2.2.2.2.2.2.2.2.2.2.2.2.2.2.2.2.2.2.2.2.2.2.2.2.2.2.2.2.2.2.2.2.2 := by
  obtain ⟨⟨pu, Du, hu⟩, ⟨pv, Dv, hv⟩, ⟨pw, Dw, hw'⟩⟩ := h
  unfold wL_law_388
  refine gm_wcode hu (show i < 60 by omega) hfit (fun u1 h1 => ?_)
  obtain ⟨xpr', xlv', xfc', xou', xyu', xrm', xmk', xsc', xmd', xrs', xrn', xpc', xwc', a1', a2', a3', a4', a5', a6', a7', a8', a9', a10', a11', a12', a13', a14', a15', a16', a17', a18', a19', a20', a21', a22'⟩ := u1
  refine br_f (by decide) ?_
  refine gm_wcode hv (show i < 60 by omega) hfit (fun v1 h2 => ?_)
  obtain ⟨xpr'', xlv'', xfc'', xou'', xyu'', xrm'', xmk'', xsc'', xmd'', xrs'', xrn'', xpc'', xwc'', a1'', a2'', a3'', a4'', a5'', a6'', a7'', a8'', a9'', a10'', a11'', a12'', a13'', a14'', a15'', a16'', a17'', a18'', a19'', a20'', a21'', a22''⟩ := v1
  refine br_f (by decide) ?_
  refine gm_wcode hw' (show i < 60 by omega) hfit (fun w1 h3 => ?_)
  obtain ⟨xpr''', xlv''', xfc''', xou''', xyu''', xrm''', xmk''', xsc''', xmd''', xrs''', xrn''', xpc''', xwc''', a1''', a2''', a3''', a4''', a5''', a6''', a7''', a8''', a9''', a10''', a11''', a12''', a13''', a14''', a15''', a16''', a17''', a18''', a19''', a20''', a21''', a22'''⟩ := w1
  refine br_f (by decide) ?_
  refine pk_le 9 k (fun q => ?_) (fun q => ⟨by decide, ?_⟩)
  · exact gm_w447 (u := (xpr', xlv', xfc', xou', xyu', xrm', xmk', xsc', xmd', xrs', xrn', xpc', xwc', a1', a2', a3', a4', a5', a6', a7', a8', a9', a10', a11', a12', a13', a14', a15', a16', a17', a18', a19', a20', a21', a22')) (v := (xpr'', xlv'', xfc'', xou'', xyu'', xrm'', xmk'', xsc'', xmd'', xrs'', xrn'', xpc'', xwc'', a1'', a2'', a3'', a4'', a5'', a6'', a7'', a8'', a9'', a10'', a11'', a12'', a13'', a14'', a15'', a16'', a17'', a18'', a19'', a20'', a21'', a22'')) (w := (xpr''', xlv''', xfc''', xou''', xyu''', xrm''', xmk''', xsc''', xmd''', xrs''', xrn''', xpc''', xwc''', a1''', a2''', a3''', a4''', a5''', a6''', a7''', a8''', a9''', a10''', a11''', a12''', a13''', a14''', a15''', a16''', a17''', a18''', a19''', a20''', a21''', a22''')) hm ⟨⟨_, _, h1⟩, ⟨_, _, h2⟩, ⟨_, _, h3⟩⟩ hw
  · refine nm_r (e' := nI ((m + 1) % 30)) (by rw [nI_1]; exact gm_r30 (by omega)) ?_
    exact gm_w447 (u := (xpr', xlv', xfc', xou', xyu', xrm', xmk', xsc', xmd', xrs', xrn', xpc', xwc', a1', a2', a3', a4', a5', a6', a7', a8', a9', a10', a11', a12', a13', a14', a15', a16', a17', a18', a19', a20', a21', a22')) (v := (xpr'', xlv'', xfc'', xou'', xyu'', xrm'', xmk'', xsc'', xmd'', xrs'', xrn'', xpc'', xwc'', a1'', a2'', a3'', a4'', a5'', a6'', a7'', a8'', a9'', a10'', a11'', a12'', a13'', a14'', a15'', a16'', a17'', a18'', a19'', a20'', a21'', a22'')) (w := (xpr''', xlv''', xfc''', xou''', xyu''', xrm''', xmk''', xsc''', xmd''', xrs''', xrn''', xpc''', xwc''', a1''', a2''', a3''', a4''', a5''', a6''', a7''', a8''', a9''', a10''', a11''', a12''', a13''', a14''', a15''', a16''', a17''', a18''', a19''', a20''', a21''', a22''')) (Nat.mod_lt _ (by omega)) ⟨⟨_, _, h1⟩, ⟨_, _, h2⟩, ⟨_, _, h3⟩⟩ hw
theorem gm_w155 {post : Int32 → Prop} {L : Nat} {xs : Nat → Int32} {kc ks n m i : Nat} {x6 x7 x8 x9 : Int32} (hm : m < 30) (hi : i < L) (hL : L ≤ 260) (hfit : gm_fit x8 x9) (h : gm_T3 P F G H C u v w) (hw : gm_nx post L xs kc ks n (nI i)) : wL_law_155 post L xs (wL_law_48 post L xs kc ks n) (nI m) (nI i) x6 x7 x8 x9 kc ks u.1 u.2.1 u.2.2.1 u.2.2.2.1 u.2.2.2.2.1 u.2.2.2.2.2.1 u.2.2.2.2.2.2.1 u.2.2.2.2.2.2.2.1 u.2.2.2.2.2.2.2.2.1 u.2.2.2.2.2.2.2.2.2.1 u.2.2.2.2.2.2.2.2.2.2.1 u.2.2.2.2.2.2.2.2.2.2.2.1 u.2.2.2.2.2.2.2.2.2.2.2.2.1 u.2.2.2.2.2.2.2.2.2.2.2.2.2.1 u.2.2.2.2.2.2.2.2.2.2.2.2.2.2.1 u.2.2.2.2.2.2.2.2.2.2.2.2.2.2.2.1 u.2.2.2.2.2.2.2.2.2.2.2.2.2.2.2.2.1 u.2.2.2.2.2.2.2.2.2.2.2.2.2.2.2.2.2.1 u.2.2.2.2.2.2.2.2.2.2.2.2.2.2.2.2.2.2.1 u.2.2.2.2.2.2.2.2.2.2.2.2.2.2.2.2.2.2.2.1 u.2.2.2.2.2.2.2.2.2.2.2.2.2.2.2.2.2.2.2.2.1 u.2.2.2.2.2.2.2.2.2.2.2.2.2.2.2.2.2.2.2.2.2.1 u.2.2.2.2.2.2.2.2.2.2.2.2.2.2.2.2.2.2.2.2.2.2.1 u.2.2.2.2.2.2.2.2.2.2.2.2.2.2.2.2.2.2.2.2.2.2.2.1 u.2.2.2.2.2.2.2.2.2.2.2.2.2.2.2.2.2.2.2.2.2.2.2.2.1 u.2.2.2.2.2.2.2.2.2.2.2.2.2.2.2.2.2.2.2.2.2.2.2.2.2.1 u.2.2.2.2.2.2.2.2.2.2.2.2.2.2.2.2.2.2.2.2.2.2.2.2.2.2.1 u.2.2.2.2.2.2.2.2.2.2.2.2.2.2.2.2.2.2.2.2.2.2.2.2.2.2.2.1 u.2.2.2.2.2.2.2.2.2.2.2.2.2.2.2.2.2.2.2.2.2.2.2.2.2.2.2.2.1 u.2.2.2.2.2.2.2.2.2.2.2.2.2.2.2.2.2.2.2.2.2.2.2.2.2.2.2.2.2.1 u.2.2.2.2.2.2.2.2.2.2.2.2.2.2.2.2.2.2.2.2.2.2.2.2.2.2.2.2.2.2.1 u.2.2.2.2.2.2.2.2.2.2.2.2.2.2.2.2.2.2.2.2.2.2.2.2.2.2.2.2.2.2.2.1 u.2.2.2.2.2.2.2.2.2.2.2.2.2.2.2.2.2.2.2.2.2.2.2.2.2.2.2.2.2.2.2.2.1 u.2.2.2.2.2.2.2.2.2.2.2.2.2.2.2.2.2.2.2.2.2.2.2.2.2.2.2.2.2.2.2.2.2.1 u.2.2.2.2.2.2.2.2.2.2.2.2.2.2.2.2.2.2.2.2.2.2.2.2.2.2.2.2.2.2.2.2.2.2 v.1 v.2.1 v.2.2.1 v.2.2.2.1 v.2.2.2.2.1 v.2.2.2.2.2.1 v.2.2.2.2.2.2.1 v.2.2.2.2.2.2.2.1 v.2.2.2.2.2.2.2.2.1 v.2.2.2.2.2.2.2.2.2.1 v.2.2.2.2.2.2.2.2.2.2.1 v.2.2.2.2.2.2.2.2.2.2.2.1 v.2.2.2.2.2.2.2.2.2.2.2.2.1 v.2.2.2.2.2.2.2.2.2.2.2.2.2.1 v.2.2.2.2.2.2.2.2.2.2.2.2.2.2.1 v.2.2.2.2.2.2.2.2.2.2.2.2.2.2.2.1 v.2.2.2.2.2.2.2.2.2.2.2.2.2.2.2.2.1 v.2.2.2.2.2.2.2.2.2.2.2.2.2.2.2.2.2.1 v.2.2.2.2.2.2.2.2.2.2.2.2.2.2.2.2.2.2.1 v.2.2.2.2.2.2.2.2.2.2.2.2.2.2.2.2.2.2.2.1 v.2.2.2.2.2.2.2.2.2.2.2.2.2.2.2.2.2.2.2.2.1 v.2.2.2.2.2.2.2.2.2.2.2.2.2.2.2.2.2.2.2.2.2.1 v.2.2.2.2.2.2.2.2.2.2.2.2.2.2.2.2.2.2.2.2.2.2.1 v.2.2.2.2.2.2.2.2.2.2.2.2.2.2.2.2.2.2.2.2.2.2.2.1 v.2.2.2.2.2.2.2.2.2.2.2.2.2.2.2.2.2.2.2.2.2.2.2.2.1 v.2.2.2.2.2.2.2.2.2.2.2.2.2.2.2.2.2.2.2.2.2.2.2.2.2.1 v.2.2.2.2.2.2.2.2.2.2.2.2.2.2.2.2.2.2.2.2.2.2.2.2.2.2.1 v.2.2.2.2.2.2.2.2.2.2.2.2.2.2.2.2.2.2.2.2.2.2.2.2.2.2.2.1 v.2.2.2.2.2.2.2.2.2.2.2.2.2.2.2.2.2.2.2.2.2.2.2.2.2.2.2.2.1 v.2.2.2.2.2.2.2.2.2.2.2.2.2.2.2.2.2.2.2.2.2.2.2.2.2.2.2.2.2.1 v.2.2.2.2.2.2.2.2.2.2.2.2.2.2.2.2.2.2.2.2.2.2.2.2.2.2.2.2.2.2.1 v.2.2.2.2.2.2.2.2.2.2.2.2.2.2.2.2.2.2.2.2.2.2.2.2.2.2.2.2.2.2.2.1 v.2.2.2.2.2.2.2.2.2.2.2.2.2.2.2.2.2.2.2.2.2.2.2.2.2.2.2.2.2.2.2.2.1 v.2.2.2.2.2.2.2.2.2.2.2.2.2.2.2.2.2.2.2.2.2.2.2.2.2.2.2.2.2.2.2.2.2.1 v.2.2.2.2.2.2.2.2.2.2.2.2.2.2.2.2.2.2.2.2.2.2.2.2.2.2.2.2.2.2.2.2.2.2 w.1 w.2.1 w.2.2.1 w.2.2.2.1 w.2.2.2.2.1 w.2.2.2.2.2.1 w.2.2.2.2.2.2.1 w.2.2.2.2.2.2.2.1 w.2.2.2.2.2.2.2.2.1 w.2.2.2.2.2.2.2.2.2.1 w.2.2.2.2.2.2.2.2.2.2.1 w.2.2.2.2.2.2.2.2.2.2.2.1 w.2.2.2.2.2.2.2.2.2.2.2.2.1 w.2.2.2.2.2.2.2.2.2.2.2.2.2.1 w.2.2.2.2.2.2.2.2.2.2.2.2.2.2.1 w.2.2.2.2.2.2.2.2.2.2.2.2.2.2.2.1 w.2.2.2.2.2.2.2.2.2.2.2.2.2.2.2.2.1 w.2.2.2.2.2.2.2.2.2.2.2.2.2.2.2.2.2.1 w.2.2.2.2.2.2.2.2.2.2.2.2.2.2.2.2.2.2.1 w.2.2.2.2.2.2.2.2.2.2.2.2.2.2.2.2.2.2.2.1 w.2.2.2.2.2.2.2.2.2.2.2.2.2.2.2.2.2.2.2.2.1 w.2.2.2.2.2.2.2.2.2.2.2.2.2.2.2.2.2.2.2.2.2.1 w.2.2.2.2.2.2.2.2.2.2.2.2.2.2.2.2.2.2.2.2.2.2.1 w.2.2.2.2.2.2.2.2.2.2.2.2.2.2.2.2.2.2.2.2.2.2.2.1 w.2.2.2.2.2.2.2.2.2.2.2.2.2.2.2.2.2.2.2.2.2.2.2.2.1 w.2.2.2.2.2.2.2.2.2.2.2.2.2.2.2.2.2.2.2.2.2.2.2.2.2.1 w.2.2.2.2.2.2.2.2.2.2.2.2.2.2.2.2.2.2.2.2.2.2.2.2.2.2.1 w.2.2.2.2.2.2.2.2.2.2.2.2.2.2.2.2.2.2.2.2.2.2.2.2.2.2.2.1 w.2.2.2.2.2.2.2.2.2.2.2.2.2.2.2.2.2.2.2.2.2.2.2.2.2.2.2.2.1 w.2.2.2.2.2.2.2.2.2.2.2.2.2.2.2.2.2.2.2.2.2.2.2.2.2.2.2.2.2.1 w.2.2.2.2.2.2.2.2.2.2.2.2.2.2.2.2.2.2.2.2.2.2.2.2.2.2.2.2.2.2.1 w.2.2.2.2.2.2.2.2.2.2.2.2.2.2.2.2.2.2.2.2.2.2.2.2.2.2.2.2.2.2.2.1 w.2.2.2.2.2.2.2.2.2.2.2.2.2.2.2.2.2.2.2.2.2.2.2.2.2.2.2.2.2.2.2.2.1 w.2.2.2.2.2.2.2.2.2.2.2.2.2.2.2.2.2.2.2.2.2.2.2.2.2.2.2.2.2.2.2.2.2.1 w.2.2.2.2.2.2.2.2.2.2.2.2.2.2.2.2.2.2.2.2.2.2.2.2.2.2.2.2.2.2.2.2.2.2 := by
  have hT := h
  obtain ⟨⟨pu, Du, hu⟩, ⟨pv, Dv, hv⟩, ⟨pw, Dw, hw'⟩⟩ := h
  obtain ⟨k, hk, ek⟩ := pk_andE (xs (nI i).toNatClampNeg >>> ((8 : Int32) &&& 31)) (m := 15) 4 (by decide)
  obtain ⟨c, hc, ec⟩ := pk_andE x6 (m := 3) 2 (by decide)
  obtain ⟨s, hs, es⟩ := pk_andE (x6 >>> ((2 : Int32) &&& 31)) (m := 3) 2 (by decide)
  obtain ⟨t, ht, et⟩ := pk_andE x7 (m := 255) 8 (by decide)
  obtain ⟨d, hd, ed⟩ := pk_andE x7 (m := 3) 2 (by decide)
  unfold wL_law_155
  rw [ek, ec, es, et, ed, gm_r30 (by omega)]
  refine ⟨pk_in i L hi, nm_e (pk_eq k 0 (fun q => ⟨by decide, ?_⟩) (fun q => pk_eq k 1 (fun q2 => ?_) (fun q2 => pk_eq k 2 (fun q3 => ?_) (fun q3 => pk_le 9 k (fun q4 => ⟨by decide, ?_⟩) (fun q4 => ?_)))))⟩
  · refine gm_wmethod hu (c := c) (s := s) (t := t % 30) (by omega) (by omega) (by omega) (fun u1 h1 => ?_)
    obtain ⟨xpr', xlv', xfc', xou', xyu', xrm', xmk', xsc', xmd', xrs', xrn', xpc', xwc', a1', a2', a3', a4', a5', a6', a7', a8', a9', a10', a11', a12', a13', a14', a15', a16', a17', a18', a19', a20', a21', a22'⟩ := u1
    refine br_f (by decide) ⟨by decide, ?_⟩
    refine gm_wmethod hv (c := c) (s := s) (t := t % 30) (by omega) (by omega) (by omega) (fun v1 h2 => ?_)
    obtain ⟨xpr'', xlv'', xfc'', xou'', xyu'', xrm'', xmk'', xsc'', xmd'', xrs'', xrn'', xpc'', xwc'', a1'', a2'', a3'', a4'', a5'', a6'', a7'', a8'', a9'', a10'', a11'', a12'', a13'', a14'', a15'', a16'', a17'', a18'', a19'', a20'', a21'', a22''⟩ := v1
    refine br_f (by decide) ⟨by decide, ?_⟩
    refine gm_wmethod hw' (c := c) (s := s) (t := t % 30) (by omega) (by omega) (by omega) (fun w1 h3 => ?_)
    obtain ⟨xpr''', xlv''', xfc''', xou''', xyu''', xrm''', xmk''', xsc''', xmd''', xrs''', xrn''', xpc''', xwc''', a1''', a2''', a3''', a4''', a5''', a6''', a7''', a8''', a9''', a10''', a11''', a12''', a13''', a14''', a15''', a16''', a17''', a18''', a19''', a20''', a21''', a22'''⟩ := w1
    refine br_f (by decide) ?_
    exact gm_w447 (u := (xpr', xlv', xfc', xou', xyu', xrm', xmk', xsc', xmd', xrs', xrn', xpc', xwc', a1', a2', a3', a4', a5', a6', a7', a8', a9', a10', a11', a12', a13', a14', a15', a16', a17', a18', a19', a20', a21', a22')) (v := (xpr'', xlv'', xfc'', xou'', xyu'', xrm'', xmk'', xsc'', xmd'', xrs'', xrn'', xpc'', xwc'', a1'', a2'', a3'', a4'', a5'', a6'', a7'', a8'', a9'', a10'', a11'', a12'', a13'', a14'', a15'', a16'', a17'', a18'', a19'', a20'', a21'', a22'')) (w := (xpr''', xlv''', xfc''', xou''', xyu''', xrm''', xmk''', xsc''', xmd''', xrs''', xrn''', xpc''', xwc''', a1''', a2''', a3''', a4''', a5''', a6''', a7''', a8''', a9''', a10''', a11''', a12''', a13''', a14''', a15''', a16''', a17''', a18''', a19''', a20''', a21''', a22''')) hm ⟨⟨_, _, h1⟩, ⟨_, _, h2⟩, ⟨_, _, h3⟩⟩ hw
  · by_cases q5 : d ≤ c
    · refine gm_wabove hu (c := c) (d := d) (by omega) (by omega) (fun _ u1 h1 => ?_) (fun q6 => absurd q5 q6)
      obtain ⟨xpr', xlv', xfc', xou', xyu', xrm', xmk', xsc', xmd', xrs', xrn', xpc', xwc', a1', a2', a3', a4', a5', a6', a7', a8', a9', a10', a11', a12', a13', a14', a15', a16', a17', a18', a19', a20', a21', a22'⟩ := u1
      refine gm_wabove hv (c := c) (d := d) (by omega) (by omega) (fun _ v1 h2 => ?_) (fun q6 => absurd q5 q6)
      obtain ⟨xpr'', xlv'', xfc'', xou'', xyu'', xrm'', xmk'', xsc'', xmd'', xrs'', xrn'', xpc'', xwc'', a1'', a2'', a3'', a4'', a5'', a6'', a7'', a8'', a9'', a10'', a11'', a12'', a13'', a14'', a15'', a16'', a17'', a18'', a19'', a20'', a21'', a22''⟩ := v1
      refine br_t rfl ?_
      refine gm_wabove hw' (c := c) (d := d) (by omega) (by omega) (fun _ w1 h3 => ?_) (fun q6 => absurd q5 q6)
      obtain ⟨xpr''', xlv''', xfc''', xou''', xyu''', xrm''', xmk''', xsc''', xmd''', xrs''', xrn''', xpc''', xwc''', a1''', a2''', a3''', a4''', a5''', a6''', a7''', a8''', a9''', a10''', a11''', a12''', a13''', a14''', a15''', a16''', a17''', a18''', a19''', a20''', a21''', a22'''⟩ := w1
      refine br_t rfl ?_
      exact gm_w447 (u := (xpr', xlv', xfc', xou', xyu', xrm', xmk', xsc', xmd', xrs', xrn', xpc', xwc', a1', a2', a3', a4', a5', a6', a7', a8', a9', a10', a11', a12', a13', a14', a15', a16', a17', a18', a19', a20', a21', a22')) (v := (xpr'', xlv'', xfc'', xou'', xyu'', xrm'', xmk'', xsc'', xmd'', xrs'', xrn'', xpc'', xwc'', a1'', a2'', a3'', a4'', a5'', a6'', a7'', a8'', a9'', a10'', a11'', a12'', a13'', a14'', a15'', a16'', a17'', a18'', a19'', a20'', a21'', a22'')) (w := (xpr''', xlv''', xfc''', xou''', xyu''', xrm''', xmk''', xsc''', xmd''', xrs''', xrn''', xpc''', xwc''', a1''', a2''', a3''', a4''', a5''', a6''', a7''', a8''', a9''', a10''', a11''', a12''', a13''', a14''', a15''', a16''', a17''', a18''', a19''', a20''', a21''', a22''')) hm ⟨⟨_, _, h1⟩, ⟨_, _, h2⟩, ⟨_, _, h3⟩⟩ hw
    · refine gm_wabove hu (c := c) (d := d) (by omega) (by omega) (fun q6 => absurd q6 q5) (fun _ => ?_)
      refine gm_wabove hv (c := c) (d := d) (by omega) (by omega) (fun q6 => absurd q6 q5) (fun _ => br_t rfl ?_)
      refine gm_wabove hw' (c := c) (d := d) (by omega) (by omega) (fun q6 => absurd q6 q5) (fun _ => br_t rfl ?_)
      exact gm_w447 (u := u) (v := v) (w := w) hm hT hw
  · refine gm_wclear hu (g := c) (by omega) (fun u1 h1 => ?_)
    obtain ⟨xpr', xlv', xfc', xou', xyu', xrm', xmk', xsc', xmd', xrs', xrn', xpc', xwc', a1', a2', a3', a4', a5', a6', a7', a8', a9', a10', a11', a12', a13', a14', a15', a16', a17', a18', a19', a20', a21', a22'⟩ := u1
    refine br_f (by decide) ?_
    refine gm_wclear hv (g := c) (by omega) (fun v1 h2 => ?_)
    obtain ⟨xpr'', xlv'', xfc'', xou'', xyu'', xrm'', xmk'', xsc'', xmd'', xrs'', xrn'', xpc'', xwc'', a1'', a2'', a3'', a4'', a5'', a6'', a7'', a8'', a9'', a10'', a11'', a12'', a13'', a14'', a15'', a16'', a17'', a18'', a19'', a20'', a21'', a22''⟩ := v1
    refine br_f (by decide) ?_
    refine gm_wclear hw' (g := c) (by omega) (fun w1 h3 => ?_)
    obtain ⟨xpr''', xlv''', xfc''', xou''', xyu''', xrm''', xmk''', xsc''', xmd''', xrs''', xrn''', xpc''', xwc''', a1''', a2''', a3''', a4''', a5''', a6''', a7''', a8''', a9''', a10''', a11''', a12''', a13''', a14''', a15''', a16''', a17''', a18''', a19''', a20''', a21''', a22'''⟩ := w1
    refine br_f (by decide) ?_
    exact gm_w447 (u := (xpr', xlv', xfc', xou', xyu', xrm', xmk', xsc', xmd', xrs', xrn', xpc', xwc', a1', a2', a3', a4', a5', a6', a7', a8', a9', a10', a11', a12', a13', a14', a15', a16', a17', a18', a19', a20', a21', a22')) (v := (xpr'', xlv'', xfc'', xou'', xyu'', xrm'', xmk'', xsc'', xmd'', xrs'', xrn'', xpc'', xwc'', a1'', a2'', a3'', a4'', a5'', a6'', a7'', a8'', a9'', a10'', a11'', a12'', a13'', a14'', a15'', a16'', a17'', a18'', a19'', a20'', a21'', a22'')) (w := (xpr''', xlv''', xfc''', xou''', xyu''', xrm''', xmk''', xsc''', xmd''', xrs''', xrn''', xpc''', xwc''', a1''', a2''', a3''', a4''', a5''', a6''', a7''', a8''', a9''', a10''', a11''', a12''', a13''', a14''', a15''', a16''', a17''', a18''', a19''', a20''', a21''', a22''')) hm ⟨⟨_, _, h1⟩, ⟨_, _, h2⟩, ⟨_, _, h3⟩⟩ hw
  · exact gm_w388 (i := t % 30) (k := k) hm (by omega) (by omega) hfit hT hw
  · exact gm_w388 (i := m) (k := k) hm hm (by omega) hfit hT hw
theorem gm_fit_t : ∀ j, j < 24 → (nI j = 13 ∨ nI j = 14 ∨ nI j = 1 → ¬ (nI j = 3 ∨ nI j = 4 ∨ nI j = 15 ∨ nI j = 18 ∨ nI j = 19 ∨ nI j = 21 ∨ nI j = 22) ∧ ¬ (nI j = 16 ∨ nI j = 17)) ∧ (nI j = 16 ∨ nI j = 17 → ¬ (nI j = 3 ∨ nI j = 4 ∨ nI j = 15 ∨ nI j = 18 ∨ nI j = 19 ∨ nI j = 21 ∨ nI j = 22)) := by decide +kernel
theorem gm_cnt0 (h0 : F.1 = 0) (hG : ∀ g, g < 4 → G g = (0, 0, 0)) : gm_cnt F G H = 0 := by
  refine gm_cnt_eq ⟨[], List.nodup_nil, fun i => ⟨fun q => absurd q List.not_mem_nil, fun hi => ?_⟩, rfl⟩
  refine absurd (hi (fun _ => False) (fun v hv h2 => ?_) (fun _ _ q _ _ => q)) id
  rcases hv with ⟨g, hg, rfl⟩ | ⟨l, hl, rfl⟩ | ⟨f, k, hf, _⟩
  · rw [hG g hg] at h2
    exact absurd h2 (by decide)
  · rw [h0] at hl
    exact absurd hl (Nat.not_lt_zero l)
  · rw [h0] at hf
    exact absurd hf (Nat.not_lt_zero f)
theorem gm_w567 {post : Int32 → Prop} {L : Nat} {xs : Nat → Int32} {kc ks : Nat} (hp : post 1) (h0 : F.1 = 0) (hu : ∃ pa D, gm_M False P 1 pa D F G H C u) (hw : ∃ pa D, gm_M False P 1 pa D F G H C w) : ∃ n, wL_law_567 post L xs kc ks n 0 u.1 u.2.1 u.2.2.1 u.2.2.2.1 u.2.2.2.2.1 u.2.2.2.2.2.1 u.2.2.2.2.2.2.1 u.2.2.2.2.2.2.2.1 u.2.2.2.2.2.2.2.2.1 u.2.2.2.2.2.2.2.2.2.1 u.2.2.2.2.2.2.2.2.2.2.1 u.2.2.2.2.2.2.2.2.2.2.2.1 u.2.2.2.2.2.2.2.2.2.2.2.2.1 u.2.2.2.2.2.2.2.2.2.2.2.2.2.1 u.2.2.2.2.2.2.2.2.2.2.2.2.2.2.1 u.2.2.2.2.2.2.2.2.2.2.2.2.2.2.2.1 u.2.2.2.2.2.2.2.2.2.2.2.2.2.2.2.2.1 u.2.2.2.2.2.2.2.2.2.2.2.2.2.2.2.2.2.1 u.2.2.2.2.2.2.2.2.2.2.2.2.2.2.2.2.2.2.1 u.2.2.2.2.2.2.2.2.2.2.2.2.2.2.2.2.2.2.2.1 u.2.2.2.2.2.2.2.2.2.2.2.2.2.2.2.2.2.2.2.2.1 u.2.2.2.2.2.2.2.2.2.2.2.2.2.2.2.2.2.2.2.2.2.1 u.2.2.2.2.2.2.2.2.2.2.2.2.2.2.2.2.2.2.2.2.2.2.1 u.2.2.2.2.2.2.2.2.2.2.2.2.2.2.2.2.2.2.2.2.2.2.2.1 u.2.2.2.2.2.2.2.2.2.2.2.2.2.2.2.2.2.2.2.2.2.2.2.2.1 u.2.2.2.2.2.2.2.2.2.2.2.2.2.2.2.2.2.2.2.2.2.2.2.2.2.1 u.2.2.2.2.2.2.2.2.2.2.2.2.2.2.2.2.2.2.2.2.2.2.2.2.2.2.1 u.2.2.2.2.2.2.2.2.2.2.2.2.2.2.2.2.2.2.2.2.2.2.2.2.2.2.2.1 u.2.2.2.2.2.2.2.2.2.2.2.2.2.2.2.2.2.2.2.2.2.2.2.2.2.2.2.2.1 u.2.2.2.2.2.2.2.2.2.2.2.2.2.2.2.2.2.2.2.2.2.2.2.2.2.2.2.2.2.1 u.2.2.2.2.2.2.2.2.2.2.2.2.2.2.2.2.2.2.2.2.2.2.2.2.2.2.2.2.2.2.1 u.2.2.2.2.2.2.2.2.2.2.2.2.2.2.2.2.2.2.2.2.2.2.2.2.2.2.2.2.2.2.2.1 u.2.2.2.2.2.2.2.2.2.2.2.2.2.2.2.2.2.2.2.2.2.2.2.2.2.2.2.2.2.2.2.2.1 u.2.2.2.2.2.2.2.2.2.2.2.2.2.2.2.2.2.2.2.2.2.2.2.2.2.2.2.2.2.2.2.2.2.1 u.2.2.2.2.2.2.2.2.2.2.2.2.2.2.2.2.2.2.2.2.2.2.2.2.2.2.2.2.2.2.2.2.2.2 w.1 w.2.1 w.2.2.1 w.2.2.2.1 w.2.2.2.2.1 w.2.2.2.2.2.1 w.2.2.2.2.2.2.1 w.2.2.2.2.2.2.2.1 w.2.2.2.2.2.2.2.2.1 w.2.2.2.2.2.2.2.2.2.1 w.2.2.2.2.2.2.2.2.2.2.1 w.2.2.2.2.2.2.2.2.2.2.2.1 w.2.2.2.2.2.2.2.2.2.2.2.2.1 w.2.2.2.2.2.2.2.2.2.2.2.2.2.1 w.2.2.2.2.2.2.2.2.2.2.2.2.2.2.1 w.2.2.2.2.2.2.2.2.2.2.2.2.2.2.2.1 w.2.2.2.2.2.2.2.2.2.2.2.2.2.2.2.2.1 w.2.2.2.2.2.2.2.2.2.2.2.2.2.2.2.2.2.1 w.2.2.2.2.2.2.2.2.2.2.2.2.2.2.2.2.2.2.1 w.2.2.2.2.2.2.2.2.2.2.2.2.2.2.2.2.2.2.2.1 w.2.2.2.2.2.2.2.2.2.2.2.2.2.2.2.2.2.2.2.2.1 w.2.2.2.2.2.2.2.2.2.2.2.2.2.2.2.2.2.2.2.2.2.1 w.2.2.2.2.2.2.2.2.2.2.2.2.2.2.2.2.2.2.2.2.2.2.1 w.2.2.2.2.2.2.2.2.2.2.2.2.2.2.2.2.2.2.2.2.2.2.2.1 w.2.2.2.2.2.2.2.2.2.2.2.2.2.2.2.2.2.2.2.2.2.2.2.2.1 w.2.2.2.2.2.2.2.2.2.2.2.2.2.2.2.2.2.2.2.2.2.2.2.2.2.1 w.2.2.2.2.2.2.2.2.2.2.2.2.2.2.2.2.2.2.2.2.2.2.2.2.2.2.1 w.2.2.2.2.2.2.2.2.2.2.2.2.2.2.2.2.2.2.2.2.2.2.2.2.2.2.2.1 w.2.2.2.2.2.2.2.2.2.2.2.2.2.2.2.2.2.2.2.2.2.2.2.2.2.2.2.2.1 w.2.2.2.2.2.2.2.2.2.2.2.2.2.2.2.2.2.2.2.2.2.2.2.2.2.2.2.2.2.1 w.2.2.2.2.2.2.2.2.2.2.2.2.2.2.2.2.2.2.2.2.2.2.2.2.2.2.2.2.2.2.1 w.2.2.2.2.2.2.2.2.2.2.2.2.2.2.2.2.2.2.2.2.2.2.2.2.2.2.2.2.2.2.2.1 w.2.2.2.2.2.2.2.2.2.2.2.2.2.2.2.2.2.2.2.2.2.2.2.2.2.2.2.2.2.2.2.2.1 w.2.2.2.2.2.2.2.2.2.2.2.2.2.2.2.2.2.2.2.2.2.2.2.2.2.2.2.2.2.2.2.2.2.1 w.2.2.2.2.2.2.2.2.2.2.2.2.2.2.2.2.2.2.2.2.2.2.2.2.2.2.2.2.2.2.2.2.2.2 := by
  refine pk_loop (fun n g (s : St1 × St1) => wL_law_567 post L xs kc ks n (nI g) s.1.1 s.1.2.1 s.1.2.2.1 s.1.2.2.2.1 s.1.2.2.2.2.1 s.1.2.2.2.2.2.1 s.1.2.2.2.2.2.2.1 s.1.2.2.2.2.2.2.2.1 s.1.2.2.2.2.2.2.2.2.1 s.1.2.2.2.2.2.2.2.2.2.1 s.1.2.2.2.2.2.2.2.2.2.2.1 s.1.2.2.2.2.2.2.2.2.2.2.2.1 s.1.2.2.2.2.2.2.2.2.2.2.2.2.1 s.1.2.2.2.2.2.2.2.2.2.2.2.2.2.1 s.1.2.2.2.2.2.2.2.2.2.2.2.2.2.2.1 s.1.2.2.2.2.2.2.2.2.2.2.2.2.2.2.2.1 s.1.2.2.2.2.2.2.2.2.2.2.2.2.2.2.2.2.1 s.1.2.2.2.2.2.2.2.2.2.2.2.2.2.2.2.2.2.1 s.1.2.2.2.2.2.2.2.2.2.2.2.2.2.2.2.2.2.2.1 s.1.2.2.2.2.2.2.2.2.2.2.2.2.2.2.2.2.2.2.2.1 s.1.2.2.2.2.2.2.2.2.2.2.2.2.2.2.2.2.2.2.2.2.1 s.1.2.2.2.2.2.2.2.2.2.2.2.2.2.2.2.2.2.2.2.2.2.1 s.1.2.2.2.2.2.2.2.2.2.2.2.2.2.2.2.2.2.2.2.2.2.2.1 s.1.2.2.2.2.2.2.2.2.2.2.2.2.2.2.2.2.2.2.2.2.2.2.2.1 s.1.2.2.2.2.2.2.2.2.2.2.2.2.2.2.2.2.2.2.2.2.2.2.2.2.1 s.1.2.2.2.2.2.2.2.2.2.2.2.2.2.2.2.2.2.2.2.2.2.2.2.2.2.1 s.1.2.2.2.2.2.2.2.2.2.2.2.2.2.2.2.2.2.2.2.2.2.2.2.2.2.2.1 s.1.2.2.2.2.2.2.2.2.2.2.2.2.2.2.2.2.2.2.2.2.2.2.2.2.2.2.2.1 s.1.2.2.2.2.2.2.2.2.2.2.2.2.2.2.2.2.2.2.2.2.2.2.2.2.2.2.2.2.1 s.1.2.2.2.2.2.2.2.2.2.2.2.2.2.2.2.2.2.2.2.2.2.2.2.2.2.2.2.2.2.1 s.1.2.2.2.2.2.2.2.2.2.2.2.2.2.2.2.2.2.2.2.2.2.2.2.2.2.2.2.2.2.2.1 s.1.2.2.2.2.2.2.2.2.2.2.2.2.2.2.2.2.2.2.2.2.2.2.2.2.2.2.2.2.2.2.2.1 s.1.2.2.2.2.2.2.2.2.2.2.2.2.2.2.2.2.2.2.2.2.2.2.2.2.2.2.2.2.2.2.2.2.1 s.1.2.2.2.2.2.2.2.2.2.2.2.2.2.2.2.2.2.2.2.2.2.2.2.2.2.2.2.2.2.2.2.2.2.1 s.1.2.2.2.2.2.2.2.2.2.2.2.2.2.2.2.2.2.2.2.2.2.2.2.2.2.2.2.2.2.2.2.2.2.2 s.2.1 s.2.2.1 s.2.2.2.1 s.2.2.2.2.1 s.2.2.2.2.2.1 s.2.2.2.2.2.2.1 s.2.2.2.2.2.2.2.1 s.2.2.2.2.2.2.2.2.1 s.2.2.2.2.2.2.2.2.2.1 s.2.2.2.2.2.2.2.2.2.2.1 s.2.2.2.2.2.2.2.2.2.2.2.1 s.2.2.2.2.2.2.2.2.2.2.2.2.1 s.2.2.2.2.2.2.2.2.2.2.2.2.2.1 s.2.2.2.2.2.2.2.2.2.2.2.2.2.2.1 s.2.2.2.2.2.2.2.2.2.2.2.2.2.2.2.1 s.2.2.2.2.2.2.2.2.2.2.2.2.2.2.2.2.1 s.2.2.2.2.2.2.2.2.2.2.2.2.2.2.2.2.2.1 s.2.2.2.2.2.2.2.2.2.2.2.2.2.2.2.2.2.2.1 s.2.2.2.2.2.2.2.2.2.2.2.2.2.2.2.2.2.2.2.1 s.2.2.2.2.2.2.2.2.2.2.2.2.2.2.2.2.2.2.2.2.1 s.2.2.2.2.2.2.2.2.2.2.2.2.2.2.2.2.2.2.2.2.2.1 s.2.2.2.2.2.2.2.2.2.2.2.2.2.2.2.2.2.2.2.2.2.2.1 s.2.2.2.2.2.2.2.2.2.2.2.2.2.2.2.2.2.2.2.2.2.2.2.1 s.2.2.2.2.2.2.2.2.2.2.2.2.2.2.2.2.2.2.2.2.2.2.2.2.1 s.2.2.2.2.2.2.2.2.2.2.2.2.2.2.2.2.2.2.2.2.2.2.2.2.2.1 s.2.2.2.2.2.2.2.2.2.2.2.2.2.2.2.2.2.2.2.2.2.2.2.2.2.2.1 s.2.2.2.2.2.2.2.2.2.2.2.2.2.2.2.2.2.2.2.2.2.2.2.2.2.2.2.1 s.2.2.2.2.2.2.2.2.2.2.2.2.2.2.2.2.2.2.2.2.2.2.2.2.2.2.2.2.1 s.2.2.2.2.2.2.2.2.2.2.2.2.2.2.2.2.2.2.2.2.2.2.2.2.2.2.2.2.2.1 s.2.2.2.2.2.2.2.2.2.2.2.2.2.2.2.2.2.2.2.2.2.2.2.2.2.2.2.2.2.2.1 s.2.2.2.2.2.2.2.2.2.2.2.2.2.2.2.2.2.2.2.2.2.2.2.2.2.2.2.2.2.2.2.1 s.2.2.2.2.2.2.2.2.2.2.2.2.2.2.2.2.2.2.2.2.2.2.2.2.2.2.2.2.2.2.2.2.1 s.2.2.2.2.2.2.2.2.2.2.2.2.2.2.2.2.2.2.2.2.2.2.2.2.2.2.2.2.2.2.2.2.2.1 s.2.2.2.2.2.2.2.2.2.2.2.2.2.2.2.2.2.2.2.2.2.2.2.2.2.2.2.2.2.2.2.2.2.2.1 s.2.2.2.2.2.2.2.2.2.2.2.2.2.2.2.2.2.2.2.2.2.2.2.2.2.2.2.2.2.2.2.2.2.2.2) (fun g s => ∃ G', (∀ j, j < g → G' j = (0, 0, 0)) ∧ (∃ pa D, gm_M False P 1 pa D F G' H C s.1) ∧ (∃ pa D, gm_M False P 1 pa D F G' H C s.2)) 4 0 (u, w) (by omega) ⟨G, fun j q => absurd q (Nat.not_lt_zero _), hu, hw⟩ ?_ ?_
  · intro n s hs
    obtain ⟨u, w⟩ := s
    obtain ⟨G', hz, ⟨pu, Du, hu⟩, ⟨pw, Dw, hw⟩⟩ := hs
    have c0 : gm_cnt F G' H = 0 := gm_cnt0 h0 hz
    refine pk_le 4 4 (fun _ => ?_) (fun q => absurd q (by omega))
    refine gm_wneeded hu (fun _ u1 h1 => ?_)
    obtain ⟨xpr', xlv', xfc', xou', xyu', xrm', xmk', xsc', xmd', xrs', xrn', xpc', xwc', a1', a2', a3', a4', a5', a6', a7', a8', a9', a10', a11', a12', a13', a14', a15', a16', a17', a18', a19', a20', a21', a22'⟩ := u1
    refine br_t (by rw [c0]; rfl) ?_
    refine gm_wneeded hw (fun _ w1 h2 => ?_)
    obtain ⟨xpr'', xlv'', xfc'', xou'', xyu'', xrm'', xmk'', xsc'', xmd'', xrs'', xrn'', xpc'', xwc'', a1'', a2'', a3'', a4'', a5'', a6'', a7'', a8'', a9'', a10'', a11'', a12'', a13'', a14'', a15'', a16'', a17'', a18'', a19'', a20'', a21'', a22''⟩ := w1
    exact br_t (by rw [c0]; rfl) hp
  · intro n g s hg hs hwk
    obtain ⟨u, w⟩ := s
    obtain ⟨G', hz, ⟨pu, Du, hu⟩, ⟨pw, Dw, hw⟩⟩ := hs
    refine pk_le 4 g (fun q => absurd q (by omega)) (fun _ => ?_)
    refine gm_wclear hu hg (fun u1 h1 => ?_)
    obtain ⟨xpr', xlv', xfc', xou', xyu', xrm', xmk', xsc', xmd', xrs', xrn', xpc', xwc', a1', a2', a3', a4', a5', a6', a7', a8', a9', a10', a11', a12', a13', a14', a15', a16', a17', a18', a19', a20', a21', a22'⟩ := u1
    refine br_f (by decide) ?_
    refine gm_wclear hw hg (fun w1 h2 => ?_)
    obtain ⟨xpr'', xlv'', xfc'', xou'', xyu'', xrm'', xmk'', xsc'', xmd'', xrs'', xrn'', xpc'', xwc'', a1'', a2'', a3'', a4'', a5'', a6'', a7'', a8'', a9'', a10'', a11'', a12'', a13'', a14'', a15'', a16'', a17'', a18'', a19'', a20'', a21'', a22''⟩ := w1
    refine br_f (by decide) (nm_r (nI_1 g) (hwk ((xpr', xlv', xfc', xou', xyu', xrm', xmk', xsc', xmd', xrs', xrn', xpc', xwc', a1', a2', a3', a4', a5', a6', a7', a8', a9', a10', a11', a12', a13', a14', a15', a16', a17', a18', a19', a20', a21', a22'), (xpr'', xlv'', xfc'', xou'', xyu'', xrm'', xmk'', xsc'', xmd'', xrs'', xrn'', xpc'', xwc'', a1'', a2'', a3'', a4'', a5'', a6'', a7'', a8'', a9'', a10'', a11'', a12'', a13'', a14'', a15'', a16'', a17'', a18'', a19'', a20'', a21'', a22'')) ⟨_, fun j hj => ?_, ⟨_, _, h1⟩, ⟨_, _, h2⟩⟩))
    by_cases e : j = g
    · rw [e, gm_up_s]
    · rw [gm_up_n e]
      exact hz j (by omega)
theorem gm_ltL {L i : Nat} (hL : L ≤ 260) (hi : i ≤ 300) : nI L - 3 < nI i ↔ L < i + 3 := by
  have e : (nI L - nI 3).toInt = (L : Int) - (3 : Nat) := pk_sub_toInt (by omega) (by omega)
  rw [Int32.lt_iff_toInt_lt]
  show (nI L - nI 3).toInt < _ ↔ _
  rw [e, nI_toInt (by omega)]
  omega
theorem gm_w48 {post : Int32 → Prop} {L : Nat} {xs : Nat → Int32} {kc ks : Nat} (hL : L ≤ 260) (hp : post 1) (h : gm_T3 P F G H C u v w) (h0 : F.1 = 0) : ∃ n, wL_law_48 post L xs kc ks n 0 0 u.1 u.2.1 u.2.2.1 u.2.2.2.1 u.2.2.2.2.1 u.2.2.2.2.2.1 u.2.2.2.2.2.2.1 u.2.2.2.2.2.2.2.1 u.2.2.2.2.2.2.2.2.1 u.2.2.2.2.2.2.2.2.2.1 u.2.2.2.2.2.2.2.2.2.2.1 u.2.2.2.2.2.2.2.2.2.2.2.1 u.2.2.2.2.2.2.2.2.2.2.2.2.1 u.2.2.2.2.2.2.2.2.2.2.2.2.2.1 u.2.2.2.2.2.2.2.2.2.2.2.2.2.2.1 u.2.2.2.2.2.2.2.2.2.2.2.2.2.2.2.1 u.2.2.2.2.2.2.2.2.2.2.2.2.2.2.2.2.1 u.2.2.2.2.2.2.2.2.2.2.2.2.2.2.2.2.2.1 u.2.2.2.2.2.2.2.2.2.2.2.2.2.2.2.2.2.2.1 u.2.2.2.2.2.2.2.2.2.2.2.2.2.2.2.2.2.2.2.1 u.2.2.2.2.2.2.2.2.2.2.2.2.2.2.2.2.2.2.2.2.1 u.2.2.2.2.2.2.2.2.2.2.2.2.2.2.2.2.2.2.2.2.2.1 u.2.2.2.2.2.2.2.2.2.2.2.2.2.2.2.2.2.2.2.2.2.2.1 u.2.2.2.2.2.2.2.2.2.2.2.2.2.2.2.2.2.2.2.2.2.2.2.1 u.2.2.2.2.2.2.2.2.2.2.2.2.2.2.2.2.2.2.2.2.2.2.2.2.1 u.2.2.2.2.2.2.2.2.2.2.2.2.2.2.2.2.2.2.2.2.2.2.2.2.2.1 u.2.2.2.2.2.2.2.2.2.2.2.2.2.2.2.2.2.2.2.2.2.2.2.2.2.2.1 u.2.2.2.2.2.2.2.2.2.2.2.2.2.2.2.2.2.2.2.2.2.2.2.2.2.2.2.1 u.2.2.2.2.2.2.2.2.2.2.2.2.2.2.2.2.2.2.2.2.2.2.2.2.2.2.2.2.1 u.2.2.2.2.2.2.2.2.2.2.2.2.2.2.2.2.2.2.2.2.2.2.2.2.2.2.2.2.2.1 u.2.2.2.2.2.2.2.2.2.2.2.2.2.2.2.2.2.2.2.2.2.2.2.2.2.2.2.2.2.2.1 u.2.2.2.2.2.2.2.2.2.2.2.2.2.2.2.2.2.2.2.2.2.2.2.2.2.2.2.2.2.2.2.1 u.2.2.2.2.2.2.2.2.2.2.2.2.2.2.2.2.2.2.2.2.2.2.2.2.2.2.2.2.2.2.2.2.1 u.2.2.2.2.2.2.2.2.2.2.2.2.2.2.2.2.2.2.2.2.2.2.2.2.2.2.2.2.2.2.2.2.2.1 u.2.2.2.2.2.2.2.2.2.2.2.2.2.2.2.2.2.2.2.2.2.2.2.2.2.2.2.2.2.2.2.2.2.2 v.1 v.2.1 v.2.2.1 v.2.2.2.1 v.2.2.2.2.1 v.2.2.2.2.2.1 v.2.2.2.2.2.2.1 v.2.2.2.2.2.2.2.1 v.2.2.2.2.2.2.2.2.1 v.2.2.2.2.2.2.2.2.2.1 v.2.2.2.2.2.2.2.2.2.2.1 v.2.2.2.2.2.2.2.2.2.2.2.1 v.2.2.2.2.2.2.2.2.2.2.2.2.1 v.2.2.2.2.2.2.2.2.2.2.2.2.2.1 v.2.2.2.2.2.2.2.2.2.2.2.2.2.2.1 v.2.2.2.2.2.2.2.2.2.2.2.2.2.2.2.1 v.2.2.2.2.2.2.2.2.2.2.2.2.2.2.2.2.1 v.2.2.2.2.2.2.2.2.2.2.2.2.2.2.2.2.2.1 v.2.2.2.2.2.2.2.2.2.2.2.2.2.2.2.2.2.2.1 v.2.2.2.2.2.2.2.2.2.2.2.2.2.2.2.2.2.2.2.1 v.2.2.2.2.2.2.2.2.2.2.2.2.2.2.2.2.2.2.2.2.1 v.2.2.2.2.2.2.2.2.2.2.2.2.2.2.2.2.2.2.2.2.2.1 v.2.2.2.2.2.2.2.2.2.2.2.2.2.2.2.2.2.2.2.2.2.2.1 v.2.2.2.2.2.2.2.2.2.2.2.2.2.2.2.2.2.2.2.2.2.2.2.1 v.2.2.2.2.2.2.2.2.2.2.2.2.2.2.2.2.2.2.2.2.2.2.2.2.1 v.2.2.2.2.2.2.2.2.2.2.2.2.2.2.2.2.2.2.2.2.2.2.2.2.2.1 v.2.2.2.2.2.2.2.2.2.2.2.2.2.2.2.2.2.2.2.2.2.2.2.2.2.2.1 v.2.2.2.2.2.2.2.2.2.2.2.2.2.2.2.2.2.2.2.2.2.2.2.2.2.2.2.1 v.2.2.2.2.2.2.2.2.2.2.2.2.2.2.2.2.2.2.2.2.2.2.2.2.2.2.2.2.1 v.2.2.2.2.2.2.2.2.2.2.2.2.2.2.2.2.2.2.2.2.2.2.2.2.2.2.2.2.2.1 v.2.2.2.2.2.2.2.2.2.2.2.2.2.2.2.2.2.2.2.2.2.2.2.2.2.2.2.2.2.2.1 v.2.2.2.2.2.2.2.2.2.2.2.2.2.2.2.2.2.2.2.2.2.2.2.2.2.2.2.2.2.2.2.1 v.2.2.2.2.2.2.2.2.2.2.2.2.2.2.2.2.2.2.2.2.2.2.2.2.2.2.2.2.2.2.2.2.1 v.2.2.2.2.2.2.2.2.2.2.2.2.2.2.2.2.2.2.2.2.2.2.2.2.2.2.2.2.2.2.2.2.2.1 v.2.2.2.2.2.2.2.2.2.2.2.2.2.2.2.2.2.2.2.2.2.2.2.2.2.2.2.2.2.2.2.2.2.2 w.1 w.2.1 w.2.2.1 w.2.2.2.1 w.2.2.2.2.1 w.2.2.2.2.2.1 w.2.2.2.2.2.2.1 w.2.2.2.2.2.2.2.1 w.2.2.2.2.2.2.2.2.1 w.2.2.2.2.2.2.2.2.2.1 w.2.2.2.2.2.2.2.2.2.2.1 w.2.2.2.2.2.2.2.2.2.2.2.1 w.2.2.2.2.2.2.2.2.2.2.2.2.1 w.2.2.2.2.2.2.2.2.2.2.2.2.2.1 w.2.2.2.2.2.2.2.2.2.2.2.2.2.2.1 w.2.2.2.2.2.2.2.2.2.2.2.2.2.2.2.1 w.2.2.2.2.2.2.2.2.2.2.2.2.2.2.2.2.1 w.2.2.2.2.2.2.2.2.2.2.2.2.2.2.2.2.2.1 w.2.2.2.2.2.2.2.2.2.2.2.2.2.2.2.2.2.2.1 w.2.2.2.2.2.2.2.2.2.2.2.2.2.2.2.2.2.2.2.1 w.2.2.2.2.2.2.2.2.2.2.2.2.2.2.2.2.2.2.2.2.1 w.2.2.2.2.2.2.2.2.2.2.2.2.2.2.2.2.2.2.2.2.2.1 w.2.2.2.2.2.2.2.2.2.2.2.2.2.2.2.2.2.2.2.2.2.2.1 w.2.2.2.2.2.2.2.2.2.2.2.2.2.2.2.2.2.2.2.2.2.2.2.1 w.2.2.2.2.2.2.2.2.2.2.2.2.2.2.2.2.2.2.2.2.2.2.2.2.1 w.2.2.2.2.2.2.2.2.2.2.2.2.2.2.2.2.2.2.2.2.2.2.2.2.2.1 w.2.2.2.2.2.2.2.2.2.2.2.2.2.2.2.2.2.2.2.2.2.2.2.2.2.2.1 w.2.2.2.2.2.2.2.2.2.2.2.2.2.2.2.2.2.2.2.2.2.2.2.2.2.2.2.1 w.2.2.2.2.2.2.2.2.2.2.2.2.2.2.2.2.2.2.2.2.2.2.2.2.2.2.2.2.1 w.2.2.2.2.2.2.2.2.2.2.2.2.2.2.2.2.2.2.2.2.2.2.2.2.2.2.2.2.2.1 w.2.2.2.2.2.2.2.2.2.2.2.2.2.2.2.2.2.2.2.2.2.2.2.2.2.2.2.2.2.2.1 w.2.2.2.2.2.2.2.2.2.2.2.2.2.2.2.2.2.2.2.2.2.2.2.2.2.2.2.2.2.2.2.1 w.2.2.2.2.2.2.2.2.2.2.2.2.2.2.2.2.2.2.2.2.2.2.2.2.2.2.2.2.2.2.2.2.1 w.2.2.2.2.2.2.2.2.2.2.2.2.2.2.2.2.2.2.2.2.2.2.2.2.2.2.2.2.2.2.2.2.2.1 w.2.2.2.2.2.2.2.2.2.2.2.2.2.2.2.2.2.2.2.2.2.2.2.2.2.2.2.2.2.2.2.2.2.2 := by
  refine loop_m (fun n (s : Nat × Nat × St1 × St1 × St1) => wL_law_48 post L xs kc ks n (nI s.1) (nI s.2.1) s.2.2.1.1 s.2.2.1.2.1 s.2.2.1.2.2.1 s.2.2.1.2.2.2.1 s.2.2.1.2.2.2.2.1 s.2.2.1.2.2.2.2.2.1 s.2.2.1.2.2.2.2.2.2.1 s.2.2.1.2.2.2.2.2.2.2.1 s.2.2.1.2.2.2.2.2.2.2.2.1 s.2.2.1.2.2.2.2.2.2.2.2.2.1 s.2.2.1.2.2.2.2.2.2.2.2.2.2.1 s.2.2.1.2.2.2.2.2.2.2.2.2.2.2.1 s.2.2.1.2.2.2.2.2.2.2.2.2.2.2.2.1 s.2.2.1.2.2.2.2.2.2.2.2.2.2.2.2.2.1 s.2.2.1.2.2.2.2.2.2.2.2.2.2.2.2.2.2.1 s.2.2.1.2.2.2.2.2.2.2.2.2.2.2.2.2.2.2.1 s.2.2.1.2.2.2.2.2.2.2.2.2.2.2.2.2.2.2.2.1 s.2.2.1.2.2.2.2.2.2.2.2.2.2.2.2.2.2.2.2.2.1 s.2.2.1.2.2.2.2.2.2.2.2.2.2.2.2.2.2.2.2.2.2.1 s.2.2.1.2.2.2.2.2.2.2.2.2.2.2.2.2.2.2.2.2.2.2.1 s.2.2.1.2.2.2.2.2.2.2.2.2.2.2.2.2.2.2.2.2.2.2.2.1 s.2.2.1.2.2.2.2.2.2.2.2.2.2.2.2.2.2.2.2.2.2.2.2.2.1 s.2.2.1.2.2.2.2.2.2.2.2.2.2.2.2.2.2.2.2.2.2.2.2.2.2.1 s.2.2.1.2.2.2.2.2.2.2.2.2.2.2.2.2.2.2.2.2.2.2.2.2.2.2.1 s.2.2.1.2.2.2.2.2.2.2.2.2.2.2.2.2.2.2.2.2.2.2.2.2.2.2.2.1 s.2.2.1.2.2.2.2.2.2.2.2.2.2.2.2.2.2.2.2.2.2.2.2.2.2.2.2.2.1 s.2.2.1.2.2.2.2.2.2.2.2.2.2.2.2.2.2.2.2.2.2.2.2.2.2.2.2.2.2.1 s.2.2.1.2.2.2.2.2.2.2.2.2.2.2.2.2.2.2.2.2.2.2.2.2.2.2.2.2.2.2.1 s.2.2.1.2.2.2.2.2.2.2.2.2.2.2.2.2.2.2.2.2.2.2.2.2.2.2.2.2.2.2.2.1 s.2.2.1.2.2.2.2.2.2.2.2.2.2.2.2.2.2.2.2.2.2.2.2.2.2.2.2.2.2.2.2.2.1 s.2.2.1.2.2.2.2.2.2.2.2.2.2.2.2.2.2.2.2.2.2.2.2.2.2.2.2.2.2.2.2.2.2.1 s.2.2.1.2.2.2.2.2.2.2.2.2.2.2.2.2.2.2.2.2.2.2.2.2.2.2.2.2.2.2.2.2.2.2.1 s.2.2.1.2.2.2.2.2.2.2.2.2.2.2.2.2.2.2.2.2.2.2.2.2.2.2.2.2.2.2.2.2.2.2.2.1 s.2.2.1.2.2.2.2.2.2.2.2.2.2.2.2.2.2.2.2.2.2.2.2.2.2.2.2.2.2.2.2.2.2.2.2.2.1 s.2.2.1.2.2.2.2.2.2.2.2.2.2.2.2.2.2.2.2.2.2.2.2.2.2.2.2.2.2.2.2.2.2.2.2.2.2 s.2.2.2.1.1 s.2.2.2.1.2.1 s.2.2.2.1.2.2.1 s.2.2.2.1.2.2.2.1 s.2.2.2.1.2.2.2.2.1 s.2.2.2.1.2.2.2.2.2.1 s.2.2.2.1.2.2.2.2.2.2.1 s.2.2.2.1.2.2.2.2.2.2.2.1 s.2.2.2.1.2.2.2.2.2.2.2.2.1 s.2.2.2.1.2.2.2.2.2.2.2.2.2.1 s.2.2.2.1.2.2.2.2.2.2.2.2.2.2.1 s.2.2.2.1.2.2.2.2.2.2.2.2.2.2.2.1 s.2.2.2.1.2.2.2.2.2.2.2.2.2.2.2.2.1 s.2.2.2.1.2.2.2.2.2.2.2.2.2.2.2.2.2.1 s.2.2.2.1.2.2.2.2.2.2.2.2.2.2.2.2.2.2.1 s.2.2.2.1.2.2.2.2.2.2.2.2.2.2.2.2.2.2.2.1 s.2.2.2.1.2.2.2.2.2.2.2.2.2.2.2.2.2.2.2.2.1 s.2.2.2.1.2.2.2.2.2.2.2.2.2.2.2.2.2.2.2.2.2.1 s.2.2.2.1.2.2.2.2.2.2.2.2.2.2.2.2.2.2.2.2.2.2.1 s.2.2.2.1.2.2.2.2.2.2.2.2.2.2.2.2.2.2.2.2.2.2.2.1 s.2.2.2.1.2.2.2.2.2.2.2.2.2.2.2.2.2.2.2.2.2.2.2.2.1 s.2.2.2.1.2.2.2.2.2.2.2.2.2.2.2.2.2.2.2.2.2.2.2.2.2.1 s.2.2.2.1.2.2.2.2.2.2.2.2.2.2.2.2.2.2.2.2.2.2.2.2.2.2.1 s.2.2.2.1.2.2.2.2.2.2.2.2.2.2.2.2.2.2.2.2.2.2.2.2.2.2.2.1 s.2.2.2.1.2.2.2.2.2.2.2.2.2.2.2.2.2.2.2.2.2.2.2.2.2.2.2.2.1 s.2.2.2.1.2.2.2.2.2.2.2.2.2.2.2.2.2.2.2.2.2.2.2.2.2.2.2.2.2.1 s.2.2.2.1.2.2.2.2.2.2.2.2.2.2.2.2.2.2.2.2.2.2.2.2.2.2.2.2.2.2.1 s.2.2.2.1.2.2.2.2.2.2.2.2.2.2.2.2.2.2.2.2.2.2.2.2.2.2.2.2.2.2.2.1 s.2.2.2.1.2.2.2.2.2.2.2.2.2.2.2.2.2.2.2.2.2.2.2.2.2.2.2.2.2.2.2.2.1 s.2.2.2.1.2.2.2.2.2.2.2.2.2.2.2.2.2.2.2.2.2.2.2.2.2.2.2.2.2.2.2.2.2.1 s.2.2.2.1.2.2.2.2.2.2.2.2.2.2.2.2.2.2.2.2.2.2.2.2.2.2.2.2.2.2.2.2.2.2.1 s.2.2.2.1.2.2.2.2.2.2.2.2.2.2.2.2.2.2.2.2.2.2.2.2.2.2.2.2.2.2.2.2.2.2.2.1 s.2.2.2.1.2.2.2.2.2.2.2.2.2.2.2.2.2.2.2.2.2.2.2.2.2.2.2.2.2.2.2.2.2.2.2.2.1 s.2.2.2.1.2.2.2.2.2.2.2.2.2.2.2.2.2.2.2.2.2.2.2.2.2.2.2.2.2.2.2.2.2.2.2.2.2.1 s.2.2.2.1.2.2.2.2.2.2.2.2.2.2.2.2.2.2.2.2.2.2.2.2.2.2.2.2.2.2.2.2.2.2.2.2.2.2 s.2.2.2.2.1 s.2.2.2.2.2.1 s.2.2.2.2.2.2.1 s.2.2.2.2.2.2.2.1 s.2.2.2.2.2.2.2.2.1 s.2.2.2.2.2.2.2.2.2.1 s.2.2.2.2.2.2.2.2.2.2.1 s.2.2.2.2.2.2.2.2.2.2.2.1 s.2.2.2.2.2.2.2.2.2.2.2.2.1 s.2.2.2.2.2.2.2.2.2.2.2.2.2.1 s.2.2.2.2.2.2.2.2.2.2.2.2.2.2.1 s.2.2.2.2.2.2.2.2.2.2.2.2.2.2.2.1 s.2.2.2.2.2.2.2.2.2.2.2.2.2.2.2.2.1 s.2.2.2.2.2.2.2.2.2.2.2.2.2.2.2.2.2.1 s.2.2.2.2.2.2.2.2.2.2.2.2.2.2.2.2.2.2.1 s.2.2.2.2.2.2.2.2.2.2.2.2.2.2.2.2.2.2.2.1 s.2.2.2.2.2.2.2.2.2.2.2.2.2.2.2.2.2.2.2.2.1 s.2.2.2.2.2.2.2.2.2.2.2.2.2.2.2.2.2.2.2.2.2.1 s.2.2.2.2.2.2.2.2.2.2.2.2.2.2.2.2.2.2.2.2.2.2.1 s.2.2.2.2.2.2.2.2.2.2.2.2.2.2.2.2.2.2.2.2.2.2.2.1 s.2.2.2.2.2.2.2.2.2.2.2.2.2.2.2.2.2.2.2.2.2.2.2.2.1 s.2.2.2.2.2.2.2.2.2.2.2.2.2.2.2.2.2.2.2.2.2.2.2.2.2.1 s.2.2.2.2.2.2.2.2.2.2.2.2.2.2.2.2.2.2.2.2.2.2.2.2.2.2.1 s.2.2.2.2.2.2.2.2.2.2.2.2.2.2.2.2.2.2.2.2.2.2.2.2.2.2.2.1 s.2.2.2.2.2.2.2.2.2.2.2.2.2.2.2.2.2.2.2.2.2.2.2.2.2.2.2.2.1 s.2.2.2.2.2.2.2.2.2.2.2.2.2.2.2.2.2.2.2.2.2.2.2.2.2.2.2.2.2.1 s.2.2.2.2.2.2.2.2.2.2.2.2.2.2.2.2.2.2.2.2.2.2.2.2.2.2.2.2.2.2.1 s.2.2.2.2.2.2.2.2.2.2.2.2.2.2.2.2.2.2.2.2.2.2.2.2.2.2.2.2.2.2.2.1 s.2.2.2.2.2.2.2.2.2.2.2.2.2.2.2.2.2.2.2.2.2.2.2.2.2.2.2.2.2.2.2.2.1 s.2.2.2.2.2.2.2.2.2.2.2.2.2.2.2.2.2.2.2.2.2.2.2.2.2.2.2.2.2.2.2.2.2.1 s.2.2.2.2.2.2.2.2.2.2.2.2.2.2.2.2.2.2.2.2.2.2.2.2.2.2.2.2.2.2.2.2.2.2.1 s.2.2.2.2.2.2.2.2.2.2.2.2.2.2.2.2.2.2.2.2.2.2.2.2.2.2.2.2.2.2.2.2.2.2.2.1 s.2.2.2.2.2.2.2.2.2.2.2.2.2.2.2.2.2.2.2.2.2.2.2.2.2.2.2.2.2.2.2.2.2.2.2.2.1 s.2.2.2.2.2.2.2.2.2.2.2.2.2.2.2.2.2.2.2.2.2.2.2.2.2.2.2.2.2.2.2.2.2.2.2.2.2.1 s.2.2.2.2.2.2.2.2.2.2.2.2.2.2.2.2.2.2.2.2.2.2.2.2.2.2.2.2.2.2.2.2.2.2.2.2.2.2) (fun s => s.1 < 30 ∧ s.2.1 ≤ L + 2 ∧ ∃ P F G H C, gm_T3 P F G H C s.2.2.1 s.2.2.2.1 s.2.2.2.2 ∧ F.1 = 0) (fun s => L + 3 - s.2.1) ?_ (0, 0, u, v, w) ⟨show 0 < 30 by decide, Nat.zero_le _, P, F, G, H, C, h, h0⟩
  intro n s hI hw
  obtain ⟨m, i, u, v, w⟩ := s
  obtain ⟨hm, hi, P, F, G, H, C, hT, h0⟩ := hI
  dsimp only at hm hi hT
  refine ek_if (gm_ltL (i := i) hL (by omega)) (fun q => ?_) (fun q => ?_)
  · exact gm_w567 (P := P) (F := F) (G := G) (H := H) (C := C) hp h0 hT.1 hT.2.2
  have hnx : gm_nx post L xs kc ks n (nI i) := by
    intro m' P' F' G' H' C' u' v' w' hm' hT' h0'
    have t := hw (m', i + 3, u', v', w') ⟨hm', by show i + 3 ≤ L + 2; omega, P', F', G', H', C', hT', h0'⟩ (by show L + 3 - (i + 3) < L + 3 - i; omega)
    have e : nI i + 3 = nI (i + 3) := nI_add i 3
    rw [e]
    exact t
  dsimp only
  have e1 : nI i + 1 = nI (i + 1) := nI_1 i
  have e2 : nI i + 2 = nI (i + 2) := nI_add i 2
  obtain ⟨o, ho, eo⟩ := pk_andE (xs (nI i).toNatClampNeg) (m := 255) 8 (by decide)
  have e24 : nI o - nI o / 24 * 24 = nI (o % 24) := pk_rem (d := 24) (by omega) (by omega) (by omega)
  rw [e1, e2, eo, e24]
  have hj : o % 24 < 24 := Nat.mod_lt _ (by omega)
  generalize o % 24 = j at *
  obtain ⟨f1, f2⟩ := gm_fit_t j hj
  refine ⟨pk_in (i + 1) L (by omega), nm_e ⟨pk_in (i + 2) L (by omega), nm_e ⟨pk_in i L (by omega), by decide, nm_e ?_⟩⟩⟩
  have any : ∀ x9, (nI j = 13 ∨ nI j = 14 ∨ nI j = 1) → gm_fit (nI j) x9 := fun x9 q => ⟨⟨j, hj, rfl⟩, fun w => absurd w (f1 q).1, fun w => absurd w (f1 q).2⟩
  have k100 : (nI j = 13 ∨ nI j = 14 ∨ nI j = 1) → wL_law_100 post L xs (wL_law_48 post L xs kc ks n) (nI m) (nI i) (xs (nI (i + 1)).toNatClampNeg) (xs (nI (i + 2)).toNatClampNeg) (nI j) kc ks u.1 u.2.1 u.2.2.1 u.2.2.2.1 u.2.2.2.2.1 u.2.2.2.2.2.1 u.2.2.2.2.2.2.1 u.2.2.2.2.2.2.2.1 u.2.2.2.2.2.2.2.2.1 u.2.2.2.2.2.2.2.2.2.1 u.2.2.2.2.2.2.2.2.2.2.1 u.2.2.2.2.2.2.2.2.2.2.2.1 u.2.2.2.2.2.2.2.2.2.2.2.2.1 u.2.2.2.2.2.2.2.2.2.2.2.2.2.1 u.2.2.2.2.2.2.2.2.2.2.2.2.2.2.1 u.2.2.2.2.2.2.2.2.2.2.2.2.2.2.2.1 u.2.2.2.2.2.2.2.2.2.2.2.2.2.2.2.2.1 u.2.2.2.2.2.2.2.2.2.2.2.2.2.2.2.2.2.1 u.2.2.2.2.2.2.2.2.2.2.2.2.2.2.2.2.2.2.1 u.2.2.2.2.2.2.2.2.2.2.2.2.2.2.2.2.2.2.2.1 u.2.2.2.2.2.2.2.2.2.2.2.2.2.2.2.2.2.2.2.2.1 u.2.2.2.2.2.2.2.2.2.2.2.2.2.2.2.2.2.2.2.2.2.1 u.2.2.2.2.2.2.2.2.2.2.2.2.2.2.2.2.2.2.2.2.2.2.1 u.2.2.2.2.2.2.2.2.2.2.2.2.2.2.2.2.2.2.2.2.2.2.2.1 u.2.2.2.2.2.2.2.2.2.2.2.2.2.2.2.2.2.2.2.2.2.2.2.2.1 u.2.2.2.2.2.2.2.2.2.2.2.2.2.2.2.2.2.2.2.2.2.2.2.2.2.1 u.2.2.2.2.2.2.2.2.2.2.2.2.2.2.2.2.2.2.2.2.2.2.2.2.2.2.1 u.2.2.2.2.2.2.2.2.2.2.2.2.2.2.2.2.2.2.2.2.2.2.2.2.2.2.2.1 u.2.2.2.2.2.2.2.2.2.2.2.2.2.2.2.2.2.2.2.2.2.2.2.2.2.2.2.2.1 u.2.2.2.2.2.2.2.2.2.2.2.2.2.2.2.2.2.2.2.2.2.2.2.2.2.2.2.2.2.1 u.2.2.2.2.2.2.2.2.2.2.2.2.2.2.2.2.2.2.2.2.2.2.2.2.2.2.2.2.2.2.1 u.2.2.2.2.2.2.2.2.2.2.2.2.2.2.2.2.2.2.2.2.2.2.2.2.2.2.2.2.2.2.2.1 u.2.2.2.2.2.2.2.2.2.2.2.2.2.2.2.2.2.2.2.2.2.2.2.2.2.2.2.2.2.2.2.2.1 u.2.2.2.2.2.2.2.2.2.2.2.2.2.2.2.2.2.2.2.2.2.2.2.2.2.2.2.2.2.2.2.2.2.1 u.2.2.2.2.2.2.2.2.2.2.2.2.2.2.2.2.2.2.2.2.2.2.2.2.2.2.2.2.2.2.2.2.2.2 v.1 v.2.1 v.2.2.1 v.2.2.2.1 v.2.2.2.2.1 v.2.2.2.2.2.1 v.2.2.2.2.2.2.1 v.2.2.2.2.2.2.2.1 v.2.2.2.2.2.2.2.2.1 v.2.2.2.2.2.2.2.2.2.1 v.2.2.2.2.2.2.2.2.2.2.1 v.2.2.2.2.2.2.2.2.2.2.2.1 v.2.2.2.2.2.2.2.2.2.2.2.2.1 v.2.2.2.2.2.2.2.2.2.2.2.2.2.1 v.2.2.2.2.2.2.2.2.2.2.2.2.2.2.1 v.2.2.2.2.2.2.2.2.2.2.2.2.2.2.2.1 v.2.2.2.2.2.2.2.2.2.2.2.2.2.2.2.2.1 v.2.2.2.2.2.2.2.2.2.2.2.2.2.2.2.2.2.1 v.2.2.2.2.2.2.2.2.2.2.2.2.2.2.2.2.2.2.1 v.2.2.2.2.2.2.2.2.2.2.2.2.2.2.2.2.2.2.2.1 v.2.2.2.2.2.2.2.2.2.2.2.2.2.2.2.2.2.2.2.2.1 v.2.2.2.2.2.2.2.2.2.2.2.2.2.2.2.2.2.2.2.2.2.1 v.2.2.2.2.2.2.2.2.2.2.2.2.2.2.2.2.2.2.2.2.2.2.1 v.2.2.2.2.2.2.2.2.2.2.2.2.2.2.2.2.2.2.2.2.2.2.2.1 v.2.2.2.2.2.2.2.2.2.2.2.2.2.2.2.2.2.2.2.2.2.2.2.2.1 v.2.2.2.2.2.2.2.2.2.2.2.2.2.2.2.2.2.2.2.2.2.2.2.2.2.1 v.2.2.2.2.2.2.2.2.2.2.2.2.2.2.2.2.2.2.2.2.2.2.2.2.2.2.1 v.2.2.2.2.2.2.2.2.2.2.2.2.2.2.2.2.2.2.2.2.2.2.2.2.2.2.2.1 v.2.2.2.2.2.2.2.2.2.2.2.2.2.2.2.2.2.2.2.2.2.2.2.2.2.2.2.2.1 v.2.2.2.2.2.2.2.2.2.2.2.2.2.2.2.2.2.2.2.2.2.2.2.2.2.2.2.2.2.1 v.2.2.2.2.2.2.2.2.2.2.2.2.2.2.2.2.2.2.2.2.2.2.2.2.2.2.2.2.2.2.1 v.2.2.2.2.2.2.2.2.2.2.2.2.2.2.2.2.2.2.2.2.2.2.2.2.2.2.2.2.2.2.2.1 v.2.2.2.2.2.2.2.2.2.2.2.2.2.2.2.2.2.2.2.2.2.2.2.2.2.2.2.2.2.2.2.2.1 v.2.2.2.2.2.2.2.2.2.2.2.2.2.2.2.2.2.2.2.2.2.2.2.2.2.2.2.2.2.2.2.2.2.1 v.2.2.2.2.2.2.2.2.2.2.2.2.2.2.2.2.2.2.2.2.2.2.2.2.2.2.2.2.2.2.2.2.2.2 w.1 w.2.1 w.2.2.1 w.2.2.2.1 w.2.2.2.2.1 w.2.2.2.2.2.1 w.2.2.2.2.2.2.1 w.2.2.2.2.2.2.2.1 w.2.2.2.2.2.2.2.2.1 w.2.2.2.2.2.2.2.2.2.1 w.2.2.2.2.2.2.2.2.2.2.1 w.2.2.2.2.2.2.2.2.2.2.2.1 w.2.2.2.2.2.2.2.2.2.2.2.2.1 w.2.2.2.2.2.2.2.2.2.2.2.2.2.1 w.2.2.2.2.2.2.2.2.2.2.2.2.2.2.1 w.2.2.2.2.2.2.2.2.2.2.2.2.2.2.2.1 w.2.2.2.2.2.2.2.2.2.2.2.2.2.2.2.2.1 w.2.2.2.2.2.2.2.2.2.2.2.2.2.2.2.2.2.1 w.2.2.2.2.2.2.2.2.2.2.2.2.2.2.2.2.2.2.1 w.2.2.2.2.2.2.2.2.2.2.2.2.2.2.2.2.2.2.2.1 w.2.2.2.2.2.2.2.2.2.2.2.2.2.2.2.2.2.2.2.2.1 w.2.2.2.2.2.2.2.2.2.2.2.2.2.2.2.2.2.2.2.2.2.1 w.2.2.2.2.2.2.2.2.2.2.2.2.2.2.2.2.2.2.2.2.2.2.1 w.2.2.2.2.2.2.2.2.2.2.2.2.2.2.2.2.2.2.2.2.2.2.2.1 w.2.2.2.2.2.2.2.2.2.2.2.2.2.2.2.2.2.2.2.2.2.2.2.2.1 w.2.2.2.2.2.2.2.2.2.2.2.2.2.2.2.2.2.2.2.2.2.2.2.2.2.1 w.2.2.2.2.2.2.2.2.2.2.2.2.2.2.2.2.2.2.2.2.2.2.2.2.2.2.1 w.2.2.2.2.2.2.2.2.2.2.2.2.2.2.2.2.2.2.2.2.2.2.2.2.2.2.2.1 w.2.2.2.2.2.2.2.2.2.2.2.2.2.2.2.2.2.2.2.2.2.2.2.2.2.2.2.2.1 w.2.2.2.2.2.2.2.2.2.2.2.2.2.2.2.2.2.2.2.2.2.2.2.2.2.2.2.2.2.1 w.2.2.2.2.2.2.2.2.2.2.2.2.2.2.2.2.2.2.2.2.2.2.2.2.2.2.2.2.2.2.1 w.2.2.2.2.2.2.2.2.2.2.2.2.2.2.2.2.2.2.2.2.2.2.2.2.2.2.2.2.2.2.2.1 w.2.2.2.2.2.2.2.2.2.2.2.2.2.2.2.2.2.2.2.2.2.2.2.2.2.2.2.2.2.2.2.2.1 w.2.2.2.2.2.2.2.2.2.2.2.2.2.2.2.2.2.2.2.2.2.2.2.2.2.2.2.2.2.2.2.2.2.1 w.2.2.2.2.2.2.2.2.2.2.2.2.2.2.2.2.2.2.2.2.2.2.2.2.2.2.2.2.2.2.2.2.2.2 := by
    intro q
    exact ⟨by decide, gm_w155 hm (by omega) hL (any _ q) hT hnx⟩
  have k126 : (nI j = 16 ∨ nI j = 17) → wL_law_126 post L xs (wL_law_48 post L xs kc ks n) (nI m) (nI i) (xs (nI (i + 1)).toNatClampNeg) (xs (nI (i + 2)).toNatClampNeg) (nI j) kc ks u.1 u.2.1 u.2.2.1 u.2.2.2.1 u.2.2.2.2.1 u.2.2.2.2.2.1 u.2.2.2.2.2.2.1 u.2.2.2.2.2.2.2.1 u.2.2.2.2.2.2.2.2.1 u.2.2.2.2.2.2.2.2.2.1 u.2.2.2.2.2.2.2.2.2.2.1 u.2.2.2.2.2.2.2.2.2.2.2.1 u.2.2.2.2.2.2.2.2.2.2.2.2.1 u.2.2.2.2.2.2.2.2.2.2.2.2.2.1 u.2.2.2.2.2.2.2.2.2.2.2.2.2.2.1 u.2.2.2.2.2.2.2.2.2.2.2.2.2.2.2.1 u.2.2.2.2.2.2.2.2.2.2.2.2.2.2.2.2.1 u.2.2.2.2.2.2.2.2.2.2.2.2.2.2.2.2.2.1 u.2.2.2.2.2.2.2.2.2.2.2.2.2.2.2.2.2.2.1 u.2.2.2.2.2.2.2.2.2.2.2.2.2.2.2.2.2.2.2.1 u.2.2.2.2.2.2.2.2.2.2.2.2.2.2.2.2.2.2.2.2.1 u.2.2.2.2.2.2.2.2.2.2.2.2.2.2.2.2.2.2.2.2.2.1 u.2.2.2.2.2.2.2.2.2.2.2.2.2.2.2.2.2.2.2.2.2.2.1 u.2.2.2.2.2.2.2.2.2.2.2.2.2.2.2.2.2.2.2.2.2.2.2.1 u.2.2.2.2.2.2.2.2.2.2.2.2.2.2.2.2.2.2.2.2.2.2.2.2.1 u.2.2.2.2.2.2.2.2.2.2.2.2.2.2.2.2.2.2.2.2.2.2.2.2.2.1 u.2.2.2.2.2.2.2.2.2.2.2.2.2.2.2.2.2.2.2.2.2.2.2.2.2.2.1 u.2.2.2.2.2.2.2.2.2.2.2.2.2.2.2.2.2.2.2.2.2.2.2.2.2.2.2.1 u.2.2.2.2.2.2.2.2.2.2.2.2.2.2.2.2.2.2.2.2.2.2.2.2.2.2.2.2.1 u.2.2.2.2.2.2.2.2.2.2.2.2.2.2.2.2.2.2.2.2.2.2.2.2.2.2.2.2.2.1 u.2.2.2.2.2.2.2.2.2.2.2.2.2.2.2.2.2.2.2.2.2.2.2.2.2.2.2.2.2.2.1 u.2.2.2.2.2.2.2.2.2.2.2.2.2.2.2.2.2.2.2.2.2.2.2.2.2.2.2.2.2.2.2.1 u.2.2.2.2.2.2.2.2.2.2.2.2.2.2.2.2.2.2.2.2.2.2.2.2.2.2.2.2.2.2.2.2.1 u.2.2.2.2.2.2.2.2.2.2.2.2.2.2.2.2.2.2.2.2.2.2.2.2.2.2.2.2.2.2.2.2.2.1 u.2.2.2.2.2.2.2.2.2.2.2.2.2.2.2.2.2.2.2.2.2.2.2.2.2.2.2.2.2.2.2.2.2.2 v.1 v.2.1 v.2.2.1 v.2.2.2.1 v.2.2.2.2.1 v.2.2.2.2.2.1 v.2.2.2.2.2.2.1 v.2.2.2.2.2.2.2.1 v.2.2.2.2.2.2.2.2.1 v.2.2.2.2.2.2.2.2.2.1 v.2.2.2.2.2.2.2.2.2.2.1 v.2.2.2.2.2.2.2.2.2.2.2.1 v.2.2.2.2.2.2.2.2.2.2.2.2.1 v.2.2.2.2.2.2.2.2.2.2.2.2.2.1 v.2.2.2.2.2.2.2.2.2.2.2.2.2.2.1 v.2.2.2.2.2.2.2.2.2.2.2.2.2.2.2.1 v.2.2.2.2.2.2.2.2.2.2.2.2.2.2.2.2.1 v.2.2.2.2.2.2.2.2.2.2.2.2.2.2.2.2.2.1 v.2.2.2.2.2.2.2.2.2.2.2.2.2.2.2.2.2.2.1 v.2.2.2.2.2.2.2.2.2.2.2.2.2.2.2.2.2.2.2.1 v.2.2.2.2.2.2.2.2.2.2.2.2.2.2.2.2.2.2.2.2.1 v.2.2.2.2.2.2.2.2.2.2.2.2.2.2.2.2.2.2.2.2.2.1 v.2.2.2.2.2.2.2.2.2.2.2.2.2.2.2.2.2.2.2.2.2.2.1 v.2.2.2.2.2.2.2.2.2.2.2.2.2.2.2.2.2.2.2.2.2.2.2.1 v.2.2.2.2.2.2.2.2.2.2.2.2.2.2.2.2.2.2.2.2.2.2.2.2.1 v.2.2.2.2.2.2.2.2.2.2.2.2.2.2.2.2.2.2.2.2.2.2.2.2.2.1 v.2.2.2.2.2.2.2.2.2.2.2.2.2.2.2.2.2.2.2.2.2.2.2.2.2.2.1 v.2.2.2.2.2.2.2.2.2.2.2.2.2.2.2.2.2.2.2.2.2.2.2.2.2.2.2.1 v.2.2.2.2.2.2.2.2.2.2.2.2.2.2.2.2.2.2.2.2.2.2.2.2.2.2.2.2.1 v.2.2.2.2.2.2.2.2.2.2.2.2.2.2.2.2.2.2.2.2.2.2.2.2.2.2.2.2.2.1 v.2.2.2.2.2.2.2.2.2.2.2.2.2.2.2.2.2.2.2.2.2.2.2.2.2.2.2.2.2.2.1 v.2.2.2.2.2.2.2.2.2.2.2.2.2.2.2.2.2.2.2.2.2.2.2.2.2.2.2.2.2.2.2.1 v.2.2.2.2.2.2.2.2.2.2.2.2.2.2.2.2.2.2.2.2.2.2.2.2.2.2.2.2.2.2.2.2.1 v.2.2.2.2.2.2.2.2.2.2.2.2.2.2.2.2.2.2.2.2.2.2.2.2.2.2.2.2.2.2.2.2.2.1 v.2.2.2.2.2.2.2.2.2.2.2.2.2.2.2.2.2.2.2.2.2.2.2.2.2.2.2.2.2.2.2.2.2.2 w.1 w.2.1 w.2.2.1 w.2.2.2.1 w.2.2.2.2.1 w.2.2.2.2.2.1 w.2.2.2.2.2.2.1 w.2.2.2.2.2.2.2.1 w.2.2.2.2.2.2.2.2.1 w.2.2.2.2.2.2.2.2.2.1 w.2.2.2.2.2.2.2.2.2.2.1 w.2.2.2.2.2.2.2.2.2.2.2.1 w.2.2.2.2.2.2.2.2.2.2.2.2.1 w.2.2.2.2.2.2.2.2.2.2.2.2.2.1 w.2.2.2.2.2.2.2.2.2.2.2.2.2.2.1 w.2.2.2.2.2.2.2.2.2.2.2.2.2.2.2.1 w.2.2.2.2.2.2.2.2.2.2.2.2.2.2.2.2.1 w.2.2.2.2.2.2.2.2.2.2.2.2.2.2.2.2.2.1 w.2.2.2.2.2.2.2.2.2.2.2.2.2.2.2.2.2.2.1 w.2.2.2.2.2.2.2.2.2.2.2.2.2.2.2.2.2.2.2.1 w.2.2.2.2.2.2.2.2.2.2.2.2.2.2.2.2.2.2.2.2.1 w.2.2.2.2.2.2.2.2.2.2.2.2.2.2.2.2.2.2.2.2.2.1 w.2.2.2.2.2.2.2.2.2.2.2.2.2.2.2.2.2.2.2.2.2.2.1 w.2.2.2.2.2.2.2.2.2.2.2.2.2.2.2.2.2.2.2.2.2.2.2.1 w.2.2.2.2.2.2.2.2.2.2.2.2.2.2.2.2.2.2.2.2.2.2.2.2.1 w.2.2.2.2.2.2.2.2.2.2.2.2.2.2.2.2.2.2.2.2.2.2.2.2.2.1 w.2.2.2.2.2.2.2.2.2.2.2.2.2.2.2.2.2.2.2.2.2.2.2.2.2.2.1 w.2.2.2.2.2.2.2.2.2.2.2.2.2.2.2.2.2.2.2.2.2.2.2.2.2.2.2.1 w.2.2.2.2.2.2.2.2.2.2.2.2.2.2.2.2.2.2.2.2.2.2.2.2.2.2.2.2.1 w.2.2.2.2.2.2.2.2.2.2.2.2.2.2.2.2.2.2.2.2.2.2.2.2.2.2.2.2.2.1 w.2.2.2.2.2.2.2.2.2.2.2.2.2.2.2.2.2.2.2.2.2.2.2.2.2.2.2.2.2.2.1 w.2.2.2.2.2.2.2.2.2.2.2.2.2.2.2.2.2.2.2.2.2.2.2.2.2.2.2.2.2.2.2.1 w.2.2.2.2.2.2.2.2.2.2.2.2.2.2.2.2.2.2.2.2.2.2.2.2.2.2.2.2.2.2.2.2.1 w.2.2.2.2.2.2.2.2.2.2.2.2.2.2.2.2.2.2.2.2.2.2.2.2.2.2.2.2.2.2.2.2.2.1 w.2.2.2.2.2.2.2.2.2.2.2.2.2.2.2.2.2.2.2.2.2.2.2.2.2.2.2.2.2.2.2.2.2.2 := by
    intro q
    refine ⟨by decide, gm_w155 hm (by omega) hL ⟨⟨j, hj, rfl⟩, fun w => absurd w (f2 q), fun _ => ?_⟩ hT hnx⟩
    obtain ⟨t, ht, et⟩ := pk_andE (xs (nI (i + 1)).toNatClampNeg) (m := 255) 8 (by decide)
    rw [et]
    exact ⟨t % 3, Nat.mod_lt _ (by omega), pk_rem (d := 3) (by omega) (by omega) (by omega)⟩
  refine br_c (fun q1 => k100 (Or.inl q1)) (fun q1 => br_c (fun q2 => k100 (Or.inr (Or.inl q2))) (fun q2 => br_c (fun q3 => k126 (Or.inl q3)) (fun q3 => br_c (fun q4 => k126 (Or.inr q4)) (fun q4 => br_c (fun q5 => ⟨by decide, ?_⟩) (fun q5 => ?_)))))
  · exact gm_w155 hm (by omega) hL (any _ (Or.inr (Or.inr q5))) hT hnx
  · refine gm_w155 hm (by omega) hL ⟨⟨j, hj, rfl⟩, fun _ => ?_, fun w => absurd w (fun w => w.elim q3 q4)⟩ hT hnx
    obtain ⟨t, ht, et⟩ := pk_andE (xs (nI (i + 1)).toNatClampNeg) (m := 3) 2 (by decide)
    rw [et]
    exact ⟨t, by omega, rfl⟩
end
end
section
theorem i_vc (xs : Nat → Int32) (L : Nat) (hL : L ≤ 260) : wpL_law (fun r => r = 1) L xs := by
  unfold wpL_law
  refine ⟨22, 872, by decide, by decide, gm_winit (fun u hu => ?_)⟩
  obtain ⟨xpr, xlv, xfc, xou, xyu, xrm, xmk, xsc, xmd, xrs, xrn, xpc, xwc, a1, a2, a3, a4, a5, a6, a7, a8, a9, a10, a11, a12, a13, a14, a15, a16, a17, a18, a19, a20, a21, a22⟩ := u
  refine ⟨by decide, by decide, 22, 872, by decide, by decide, gm_winit (fun v hv => ?_)⟩
  obtain ⟨xpr', xlv', xfc', xou', xyu', xrm', xmk', xsc', xmd', xrs', xrn', xpc', xwc', a1', a2', a3', a4', a5', a6', a7', a8', a9', a10', a11', a12', a13', a14', a15', a16', a17', a18', a19', a20', a21', a22'⟩ := v
  refine ⟨by decide, by decide, 22, 872, by decide, by decide, gm_winit (fun w hw => ?_)⟩
  obtain ⟨xpr'', xlv'', xfc'', xou'', xyu'', xrm'', xmk'', xsc'', xmd'', xrs'', xrn'', xpc'', xwc'', a1'', a2'', a3'', a4'', a5'', a6'', a7'', a8'', a9'', a10'', a11'', a12'', a13'', a14'', a15'', a16'', a17'', a18'', a19'', a20'', a21'', a22''⟩ := w
  refine gm_wlevel hu (l := 0) (by decide) (fun u1 h1 => ?_)
  obtain ⟨xpr, xlv, xfc, xou, xyu, xrm, xmk, xsc, xmd, xrs, xrn, xpc, xwc, a1, a2, a3, a4, a5, a6, a7, a8, a9, a10, a11, a12, a13, a14, a15, a16, a17, a18, a19, a20, a21, a22⟩ := u1
  refine br_f (by decide) ?_
  refine gm_wlevel hv (l := 1) (by decide) (fun v1 h2 => ?_)
  obtain ⟨xpr', xlv', xfc', xou', xyu', xrm', xmk', xsc', xmd', xrs', xrn', xpc', xwc', a1', a2', a3', a4', a5', a6', a7', a8', a9', a10', a11', a12', a13', a14', a15', a16', a17', a18', a19', a20', a21', a22'⟩ := v1
  refine br_f (by decide) ?_
  exact gm_w48 (u := (xpr, xlv, xfc, xou, xyu, xrm, xmk, xsc, xmd, xrs, xrn, xpc, xwc, a1, a2, a3, a4, a5, a6, a7, a8, a9, a10, a11, a12, a13, a14, a15, a16, a17, a18, a19, a20, a21, a22)) (v := (xpr', xlv', xfc', xou', xyu', xrm', xmk', xsc', xmd', xrs', xrn', xpc', xwc', a1', a2', a3', a4', a5', a6', a7', a8', a9', a10', a11', a12', a13', a14', a15', a16', a17', a18', a19', a20', a21', a22')) (w := (xpr'', xlv'', xfc'', xou'', xyu'', xrm'', xmk'', xsc'', xmd'', xrs'', xrn'', xpc'', xwc'', a1'', a2'', a3'', a4'', a5'', a6'', a7'', a8'', a9'', a10'', a11'', a12'', a13'', a14'', a15'', a16'', a17'', a18'', a19'', a20'', a21'', a22'')) hL rfl ⟨⟨_, _, h1⟩, ⟨_, _, h2⟩, ⟨_, _, hw⟩⟩ rfl
end
