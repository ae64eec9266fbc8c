section
/-! ===== bits of an int (after kit/laws BITS, names of our own) ===== -/
def sg_bt (x : Int32) (i : Nat) : Bool := x.toBitVec.getLsbD i
theorem sg_bext {x y : Int32} (h : ∀ i, i < 32 → sg_bt x i = sg_bt y i) : x = y := Int32.toBitVec_inj.mp (BitVec.eq_of_getLsbD_eq (fun i hi => h i hi))
theorem sg_bor (x y : Int32) (i : Nat) : sg_bt (x ||| y) i = (sg_bt x i || sg_bt y i) := by unfold sg_bt; rw [Int32.toBitVec_or, BitVec.getLsbD_or]
theorem sg_band (x y : Int32) (i : Nat) : sg_bt (x &&& y) i = (sg_bt x i && sg_bt y i) := by unfold sg_bt; rw [Int32.toBitVec_and, BitVec.getLsbD_and]
theorem sg_bxor (x y : Int32) (i : Nat) : sg_bt (x ^^^ y) i = (sg_bt x i ^^ sg_bt y i) := by unfold sg_bt; rw [Int32.toBitVec_xor, BitVec.getLsbD_xor]
theorem sg_bbig {x : Int32} {i : Nat} (h : 32 ≤ i) : sg_bt x i = false := BitVec.getLsbD_of_ge _ _ h
theorem sg_blt {x : Int32} {i : Nat} (h : sg_bt x i = true) : i < 32 := by
  rcases Nat.lt_or_ge i 32 with z | z
  · exact z
  · rw [sg_bbig z] at h
    exact absurd h (by decide)
theorem sg_bm1 : ∀ i, i < 32 → sg_bt (-1) i = true := by decide +kernel
theorem sg_b0 (i : Nat) : sg_bt 0 i = false := BitVec.getLsbD_zero
theorem sg_sl : ∀ n, n < 32 → ((nI n &&& 31).toBitVec.smod 32).toNat = n := by decide +kernel
theorem sg_b1 : ∀ n, n < 32 → ∀ i, i < 32 → sg_bt ((1 : Int32) <<< (nI n &&& 31)) i = decide (i = n) := by decide +kernel
theorem sg_bone : ∀ i, i < 32 → sg_bt 1 i = decide (i = 0) := by decide +kernel
theorem sg_bshr (n : Nat) (hn : n < 32) (x : Int32) {i : Nat} (hi : i < 32) : sg_bt (x >>> (nI n &&& 31)) i = if n + i < 32 then sg_bt x (n + i) else sg_bt x 31 := by
  unfold sg_bt
  rw [Int32.toBitVec_shiftRight]
  show (x.toBitVec.sshiftRight ((nI n &&& 31).toBitVec.smod 32).toNat).getLsbD i = _
  rw [sg_sl n hn, BitVec.getLsbD_sshiftRight, BitVec.msb_eq_getLsbD_last]
  simp [hi]
theorem sg_one_cases {y : Int32} : (sg_bt y 0 = true → y &&& 1 = 1) ∧ (sg_bt y 0 = false → y &&& 1 = 0) := by
  constructor
  · intro h
    apply sg_bext
    intro i hi
    rw [sg_band, sg_bone i hi]
    by_cases e : i = 0
    · subst e
      rw [h]
      rfl
    · rw [decide_eq_false e, Bool.and_false]
  · intro h
    apply sg_bext
    intro i hi
    rw [sg_band, sg_bone i hi, sg_b0]
    by_cases e : i = 0
    · subst e
      rw [h]
      rfl
    · rw [decide_eq_false e, Bool.and_false]
theorem sg_shr0 {x : Int32} {n : Nat} (hn : n < 32) : sg_bt (x >>> (nI n &&& 31)) 0 = sg_bt x n := by
  rw [sg_bshr n hn x (by omega)]
  simp [hn]
theorem sg_t1 {x : Int32} {n : Nat} (hn : n < 32) (h : sg_bt x n = true) : (x >>> (nI n &&& 31)) &&& 1 = 1 := sg_one_cases.1 (by rw [sg_shr0 hn, h])
theorem sg_t0 {x : Int32} {n : Nat} (hn : n < 32) (h : sg_bt x n = false) : (x >>> (nI n &&& 31)) &&& 1 = 0 := sg_one_cases.2 (by rw [sg_shr0 hn, h])
/-- a test of a bit against 0 -/
theorem sg_br {x y : Int32} {A B : Prop} (n : Nat) (hn : n < 32) (f : sg_bt x n = false → A) (g : sg_bt x n = true → B) (hy : y = nI n := by rfl) : (((x >>> (y &&& 31)) &&& 1) = 0 → A) ∧ (¬ ((x >>> (y &&& 31)) &&& 1) = 0 → B) := by
  subst hy
  cases h : sg_bt x n
  · exact br_t (sg_t0 hn h) (f h)
  · exact br_f (by rw [sg_t1 hn h]; decide) (g h)
/-- a test of a bit against 1 -/
theorem sg_br1 {x y : Int32} {A B : Prop} (n : Nat) (hn : n < 32) (f : sg_bt x n = true → A) (g : sg_bt x n = false → B) (hy : y = nI n := by rfl) : (((x >>> (y &&& 31)) &&& 1) = 1 → A) ∧ (¬ ((x >>> (y &&& 31)) &&& 1) = 1 → B) := by
  subst hy
  cases h : sg_bt x n
  · exact br_f (by rw [sg_t0 hn h]; decide) (g h)
  · exact br_t (sg_t1 hn h) (f h)
/-- a test by a mask of one bit -/
theorem sg_brm {x y : Int32} {A B : Prop} (n : Nat) (hn : n < 32) (f : sg_bt x n = false → A) (g : sg_bt x n = true → B) (hy : y = (1 : Int32) <<< (nI n &&& 31) := by rfl) : ((x &&& y) = 0 → A) ∧ (¬ (x &&& y) = 0 → B) := by
  subst hy
  cases h : sg_bt x n
  · refine br_t ?_ (f h)
    apply sg_bext
    intro i hi
    rw [sg_band, sg_b1 n hn i hi, sg_b0]
    by_cases e : i = n
    · subst e
      rw [h]
      rfl
    · rw [decide_eq_false e, Bool.and_false]
  · refine br_f ?_ (g h)
    intro z
    have t : sg_bt (x &&& ((1 : Int32) <<< (nI n &&& 31))) n = sg_bt 0 n := by rw [z]
    rw [sg_band, sg_b1 n hn n hn, h, sg_b0] at t
    simp at t
/-- bit i of x with bit n set -/
theorem sg_set {x : Int32} {n i : Nat} (hn : n < 32) (hi : i < 32) : sg_bt (x ||| ((1 : Int32) <<< (nI n &&& 31))) i = (sg_bt x i || decide (i = n)) := by
  rw [sg_bor, sg_b1 n hn i hi]
/-- bit i of x with bit n cleared -/
theorem sg_clr {x : Int32} {n i : Nat} (hn : n < 32) (hi : i < 32) : sg_bt (x &&& (((1 : Int32) <<< (nI n &&& 31)) ^^^ (-1))) i = (sg_bt x i && !decide (i = n)) := by
  rw [sg_band, sg_bxor, sg_b1 n hn i hi, sg_bm1 i hi, Bool.xor_true]
/-- or grows the unsigned number -/
theorem sg_orle (x y : Int32) : x.toBitVec.toNat ≤ (x ||| y).toBitVec.toNat := by
  rw [Int32.toBitVec_or, BitVec.toNat_or]
  exact Nat.left_le_or
theorem sg_natinj {x y : Int32} (h : x.toBitVec.toNat = y.toBitVec.toNat) : x = y := Int32.toBitVec_inj.mp (BitVec.eq_of_toNat_eq h)
theorem sg_natlt (x : Int32) : x.toBitVec.toNat < 2 ^ 32 := x.toBitVec.isLt
end
section
/-! ===== counts ===== -/
def sg_cn (p : Nat → Bool) : Nat → Nat
  | 0 => 0
  | n + 1 => sg_cn p n + (if p n = true then 1 else 0)
theorem sg_cn_t {p : Nat → Bool} {n : Nat} (h : p n = true) : sg_cn p (n + 1) = sg_cn p n + 1 := by
  show sg_cn p n + (if p n = true then 1 else 0) = _
  rw [if_pos h]
theorem sg_cn_f {p : Nat → Bool} {n : Nat} (h : p n = false) : sg_cn p (n + 1) = sg_cn p n := by
  show sg_cn p n + (if p n = true then 1 else 0) = _
  rw [if_neg (by rw [h]; decide)]
  rfl
theorem sg_cn_le (p : Nat → Bool) (n : Nat) : sg_cn p n ≤ n := by
  induction n with
  | zero => exact Nat.le_refl 0
  | succ n ih =>
    cases h : p n
    · rw [sg_cn_f h]; omega
    · rw [sg_cn_t h]; omega
theorem sg_cn_mono {p q : Nat → Bool} (n : Nat) (h : ∀ x, x < n → p x = true → q x = true) : sg_cn p n ≤ sg_cn q n := by
  induction n with
  | zero => exact Nat.le_refl 0
  | succ n ih =>
    have i := ih (fun x hx => h x (by omega))
    cases hp : p n
    · rw [sg_cn_f hp]
      cases hq : q n
      · rw [sg_cn_f hq]; exact i
      · rw [sg_cn_t hq]; omega
    · rw [sg_cn_t hp, sg_cn_t (h n (by omega) hp)]; omega
theorem sg_cn_lt {p q : Nat → Bool} (n : Nat) (h : ∀ x, x < n → p x = true → q x = true) (y : Nat) (hy : y < n) (hp : p y = false) (hq : q y = true) : sg_cn p n < sg_cn q n := by
  induction n with
  | zero => omega
  | succ n ih =>
    by_cases e : y = n
    · subst e
      rw [sg_cn_f hp, sg_cn_t hq]
      have := sg_cn_mono y (fun x hx => h x (by omega))
      omega
    · have i := ih (fun x hx => h x (by omega)) (by omega)
      cases hp' : p n
      · rw [sg_cn_f hp']
        cases hq' : q n
        · rw [sg_cn_f hq']; exact i
        · rw [sg_cn_t hq']; omega
      · rw [sg_cn_t hp', sg_cn_t (h n (by omega) hp')]; omega
/-! ===== a relation: what one comes to over it, ranks ===== -/
def sg_rc (E : Nat → Nat → Prop) (k j : Nat) : Prop := ∀ T : Nat → Prop, (∀ m, E k m → T m) → (∀ m l, T m → E m l → T l) → T j
def sg_ac (E : Nat → Nat → Prop) : Prop := ∃ r : Nat → Nat, ∀ k m, E k m → r m < r k
theorem sg_rc1 {E : Nat → Nat → Prop} {k m : Nat} (h : E k m) : sg_rc E k m := fun _ h1 _ => h1 m h
theorem sg_rcs {E : Nat → Nat → Prop} {k m l : Nat} (h : sg_rc E k m) (h2 : E m l) : sg_rc E k l := fun T a b => b m l (h T a b) h2
theorem sg_rct {E : Nat → Nat → Prop} {k m l : Nat} (h : sg_rc E k m) (h2 : sg_rc E m l) : sg_rc E k l :=
  h2 (fun j => sg_rc E k j) (fun _ hj => sg_rcs h hj) (fun _ _ hm e => sg_rcs hm e)
theorem sg_rci {E : Nat → Nat → Prop} {k : Nat} (ha : sg_ac E) : ¬ sg_rc E k k := by
  obtain ⟨r, hr⟩ := ha
  intro h
  have t : r k < r k := h (fun j => r j < r k) (fun m e => hr k m e) (fun m l hm e => Nat.lt_trans (hr m l e) hm)
  omega
theorem sg_ac_mono {E E' : Nat → Nat → Prop} (ha : sg_ac E) (h : ∀ k m, E' k m → E k m) : sg_ac E' := by
  obtain ⟨r, hr⟩ := ha
  exact ⟨r, fun k m e => hr k m (h k m e)⟩
theorem sg_ac_tie {E E' : Nat → Nat → Prop} {h e : Nat} (ha : sg_ac E) (h1 : ∀ k m, E' k m → k ≠ h → E k m) (h2 : ∀ m, E' h m → m = e) (he : e ≠ h) (hn : ¬ sg_rc E e h) : sg_ac E' := by
  classical
  obtain ⟨r, hr⟩ := ha
  refine ⟨fun k => if k = h ∨ sg_rc E k h then r k + r e + 1 else r k, fun k m hk => ?_⟩
  dsimp only
  by_cases ek : k = h
  · subst ek
    have em := h2 m hk
    subst em
    rw [if_neg (by intro z; rcases z with z | z; exact he z; exact hn z), if_pos (Or.inl rfl)]
    omega
  · have hE := h1 k m hk ek
    have hlt := hr k m hE
    by_cases hm : m = h ∨ sg_rc E m h
    · have hk' : sg_rc E k h := by
        rcases hm with z | z
        · rw [← z]; exact sg_rc1 hE
        · exact sg_rct (sg_rc1 hE) z
      rw [if_pos hm, if_pos (Or.inr hk')]
      omega
    · rw [if_neg hm]
      split <;> omega
theorem sg_bnd (r : Nat → Nat) (N : Nat) : ∃ K, ∀ j, j < N → r j < K := by
  induction N with
  | zero => exact ⟨0, fun j hj => absurd hj (by omega)⟩
  | succ N ih =>
    obtain ⟨K, hK⟩ := ih
    refine ⟨K + r N + 1, fun j hj => ?_⟩
    by_cases e : j = N
    · subst e; omega
    · have := hK j (by omega)
      omega
theorem sg_ac_add {E E' : Nat → Nat → Prop} {N : Nat} (ha : sg_ac E) (h1 : ∀ k m, E' k m → k ≠ N → E k m ∧ m ≠ N) (h2 : ∀ m, E' N m → m < N) : sg_ac E' := by
  obtain ⟨r, hr⟩ := ha
  obtain ⟨K, hK⟩ := sg_bnd r N
  refine ⟨fun k => if k = N then K else r k, fun k m hk => ?_⟩
  dsimp only
  by_cases ek : k = N
  · subst ek
    have t := h2 m hk
    rw [if_neg (by omega), if_pos rfl]
    exact hK m t
  · obtain ⟨hE, hm⟩ := h1 k m hk ek
    rw [if_neg hm, if_neg ek]
    exact hr k m hE
theorem sg_ac_cmp {E : Nat → Nat → Prop} {N : Nat} (ha : sg_ac E) (hN : ∀ k m, E k m → m < N) : ∃ r : Nat → Nat, (∀ k m, E k m → r m < r k) ∧ ∀ k, k < N → r k < N := by
  obtain ⟨r, hr⟩ := ha
  refine ⟨fun k => sg_cn (fun x => decide (r x < r k)) N, fun k m hk => ?_, fun k hk => ?_⟩
  · have h1 := hr k m hk
    exact sg_cn_lt N (fun x _ hx => decide_eq_true (Nat.lt_trans (of_decide_eq_true hx) h1)) m (hN k m hk) (decide_eq_false (Nat.lt_irrefl _)) (decide_eq_true h1)
  · have t := sg_cn_lt (p := fun x => decide (r x < r k)) (q := fun _ => true) N (fun _ _ _ => rfl) k hk (decide_eq_false (Nat.lt_irrefl _)) rfl
    exact Nat.lt_of_lt_of_le t (sg_cn_le _ N)
/-! ===== the parts of a node ===== -/
/-- the cell kinds -/
def sg_cl (t : Int32) : Prop := t = 4 ∨ t = 6 ∨ t = 13 ∨ t = 14
/-- the parts as bits, by kind and operands -/
def sg_pv (t x y z : Int32) : Int32 :=
  if t = 0 then 0 else if t = 11 then 0 else
  if t = 4 then (if 0 ≤ x then (1 : Int32) <<< (x &&& 31) else 0) else
  if t = 10 then ((1 : Int32) <<< (y &&& 31)) ||| ((1 : Int32) <<< (z &&& 31)) else
  if t = 3 then ((1 : Int32) <<< (x &&& 31)) ||| ((1 : Int32) <<< (y &&& 31)) else
  if t = 6 then ((1 : Int32) <<< (x &&& 31)) ||| ((1 : Int32) <<< (y &&& 31)) else
  if t = 13 then ((1 : Int32) <<< (x &&& 31)) ||| (((1 : Int32) <<< (y &&& 31)) ||| ((1 : Int32) <<< (z &&& 31))) else
  (1 : Int32) <<< (x &&& 31)
/-- node k of N nodes has operands that are there -/
def sg_ok (N k : Nat) (t x y z : Int32) : Prop :=
  (¬ t = 0 → ¬ t = 4 → ∃ j, j < k ∧ x = nI j) ∧ (t = 4 → x = -1 ∨ ∃ j, j < N ∧ x = nI j) ∧
  ((t = 3 ∨ t = 5 ∨ t = 6 ∨ t = 7 ∨ t = 10 ∨ t = 13) → ∃ j, j < k ∧ y = nI j) ∧
  ((t = 10 ∨ t = 13) → ∃ j, j < k ∧ z = nI j)
theorem sg_one {j m : Nat} {x : Int32} (e : x = nI j) (hj : j < 32) (h : sg_bt ((1 : Int32) <<< (x &&& 31)) m = true) : m = j := by
  subst e
  rw [sg_b1 j hj m (sg_blt h)] at h
  exact of_decide_eq_true h
theorem sg_no0 {m : Nat} {A : Prop} (h : sg_bt 0 m = true) : A := by
  rw [sg_b0] at h
  exact absurd h (by decide)
theorem sg_pv_bit {N k m : Nat} {t x y z : Int32} (ho : sg_ok N k t x y z) (hk : k ≤ N) (hN : N ≤ 24) (h : sg_bt (sg_pv t x y z) m = true) : m < N ∧ (¬ t = 4 → m < k) := by
  obtain ⟨ox, o4, oy, oz⟩ := ho
  unfold sg_pv at h
  split at h
  · exact sg_no0 h
  rename_i h0
  split at h
  · exact sg_no0 h
  split at h
  · rename_i h4
    split at h
    · rename_i hx
      rcases o4 h4 with e | ⟨j, hj, e⟩
      · rw [e] at hx
        exact absurd hx (by decide)
      · have := sg_one e (by omega) h
        exact ⟨by omega, fun z => absurd h4 z⟩
    · exact sg_no0 h
  rename_i h4
  split at h
  · rename_i h10
    obtain ⟨jy, hjy, ey⟩ := oy (Or.inr (Or.inr (Or.inr (Or.inr (Or.inl h10)))))
    obtain ⟨jz, hjz, ez⟩ := oz (Or.inl h10)
    rw [sg_bor, Bool.or_eq_true] at h
    rcases h with h | h
    · have := sg_one ey (by omega) h
      exact ⟨by omega, fun _ => by omega⟩
    · have := sg_one ez (by omega) h
      exact ⟨by omega, fun _ => by omega⟩
  obtain ⟨jx, hjx, ex⟩ := ox h0 h4
  split at h
  · rename_i h3
    obtain ⟨jy, hjy, ey⟩ := oy (Or.inl h3)
    rw [sg_bor, Bool.or_eq_true] at h
    rcases h with h | h
    · have := sg_one ex (by omega) h
      exact ⟨by omega, fun _ => by omega⟩
    · have := sg_one ey (by omega) h
      exact ⟨by omega, fun _ => by omega⟩
  split at h
  · rename_i h6
    obtain ⟨jy, hjy, ey⟩ := oy (Or.inr (Or.inr (Or.inl h6)))
    rw [sg_bor, Bool.or_eq_true] at h
    rcases h with h | h
    · have := sg_one ex (by omega) h
      exact ⟨by omega, fun _ => by omega⟩
    · have := sg_one ey (by omega) h
      exact ⟨by omega, fun _ => by omega⟩
  split at h
  · rename_i h13
    obtain ⟨jy, hjy, ey⟩ := oy (Or.inr (Or.inr (Or.inr (Or.inr (Or.inr h13)))))
    obtain ⟨jz, hjz, ez⟩ := oz (Or.inr h13)
    rw [sg_bor, sg_bor, Bool.or_eq_true, Bool.or_eq_true] at h
    rcases h with h | h | h
    · have := sg_one ex (by omega) h
      exact ⟨by omega, fun _ => by omega⟩
    · have := sg_one ey (by omega) h
      exact ⟨by omega, fun _ => by omega⟩
    · have := sg_one ez (by omega) h
      exact ⟨by omega, fun _ => by omega⟩
  · have := sg_one ex (by omega) h
    exact ⟨by omega, fun _ => by omega⟩
theorem sg_ok_mono {N N' k : Nat} {t x y z : Int32} (h : sg_ok N k t x y z) (hN : N ≤ N') : sg_ok N' k t x y z := by
  refine ⟨h.1, fun e => ?_, h.2.2.1, h.2.2.2⟩
  rcases h.2.1 e with z | ⟨j, hj, z⟩
  · exact Or.inl z
  · exact Or.inr ⟨j, by omega, z⟩
theorem sg_pv4m (y z : Int32) : sg_pv 4 (-1) y z = 0 := by
  unfold sg_pv
  rw [if_neg (by decide), if_neg (by decide), if_pos rfl, if_neg (by decide)]
theorem sg_pv4 {x y z : Int32} (h : 0 ≤ x) : sg_pv 4 x y z = (1 : Int32) <<< (x &&& 31) := by
  unfold sg_pv
  rw [if_neg (by decide), if_neg (by decide), if_pos rfl, if_pos h]
/-! ===== the graph ===== -/
def sg_pm (a1 a2 a3 a4 : Nat → Int32) (k : Nat) : Int32 := sg_pv (a1 k) (a2 k) (a3 k) (a4 k)
def sg_E (N : Nat) (a1 a2 a3 a4 : Nat → Int32) (k m : Nat) : Prop := k < N ∧ sg_bt (sg_pm a1 a2 a3 a4 k) m = true
def sg_G (N : Nat) (a1 a2 a3 a4 : Nat → Int32) : Prop :=
  N ≤ 24 ∧ (∀ k, k < N → sg_ok N k (a1 k) (a2 k) (a3 k) (a4 k)) ∧ sg_ac (sg_E N a1 a2 a3 a4)
section
variable {N : Nat} {a1 a2 a3 a4 : Nat → Int32}
theorem sg_G_lt {k m : Nat} (g : sg_G N a1 a2 a3 a4) (h : sg_E N a1 a2 a3 a4 k m) : m < N :=
  (sg_pv_bit (g.2.1 k h.1) (by have := h.1; omega) g.1 h.2).1
theorem sg_G_rlt {k m : Nat} (g : sg_G N a1 a2 a3 a4) (h : sg_rc (sg_E N a1 a2 a3 a4) k m) : m < N :=
  h (fun j => j < N) (fun _ e => sg_G_lt g e) (fun _ _ _ e => sg_G_lt g e)
theorem sg_G0 : sg_G 0 a1 a2 a3 a4 :=
  ⟨by omega, fun k hk => absurd hk (by omega), ⟨fun _ => 0, fun k m h => absurd h.1 (by omega)⟩⟩
theorem sg_G_add {t x y z : Int32} (g : sg_G N a1 a2 a3 a4) (hN : N < 24) (ho : sg_ok N N t x y z) : sg_G (N + 1) (upd a1 N t) (upd a2 N x) (upd a3 N y) (upd a4 N z) := by
  refine ⟨by omega, fun k hk => ?_, sg_ac_add (N := N) g.2.2 (fun k m h hk => ?_) (fun m h => ?_)⟩
  · by_cases e : k = N
    · subst e
      rw [pk_us, pk_us, pk_us, pk_us]
      exact sg_ok_mono ho (by omega)
    · rw [pk_un e, pk_un e, pk_un e, pk_un e]
      exact sg_ok_mono (g.2.1 k (by omega)) (by omega)
  · have h2 := h.2
    unfold sg_pm at h2
    rw [pk_un hk, pk_un hk, pk_un hk, pk_un hk] at h2
    have hE : sg_E N a1 a2 a3 a4 k m := ⟨by have := h.1; omega, h2⟩
    have := sg_G_lt g hE
    exact ⟨hE, by omega⟩
  · have h2 := h.2
    unfold sg_pm at h2
    rw [pk_us, pk_us, pk_us, pk_us] at h2
    exact (sg_pv_bit ho (Nat.le_refl N) g.1 h2).1
theorem sg_G_tie {h : Nat} {x : Int32} (g : sg_G N a1 a2 a3 a4) (hh : h < N) (h4 : a1 h = 4) (hx : x = -1 ∨ ∃ e, e < N ∧ x = nI e ∧ e ≠ h ∧ ¬ sg_rc (sg_E N a1 a2 a3 a4) e h) : sg_G N a1 (upd a2 h x) a3 a4 := by
  have off : ∀ k m, sg_E N a1 (upd a2 h x) a3 a4 k m → k ≠ h → sg_E N a1 a2 a3 a4 k m := by
    intro k m e hk
    have e2 := e.2
    unfold sg_pm at e2
    rw [pk_un hk] at e2
    exact ⟨e.1, e2⟩
  refine ⟨g.1, fun k hk => ?_, ?_⟩
  · by_cases e : k = h
    · subst e
      rw [pk_us]
      refine ⟨fun _ z => absurd h4 z, fun _ => ?_, (g.2.1 k hk).2.2.1, (g.2.1 k hk).2.2.2⟩
      rcases hx with z | ⟨j, hj, z, _⟩
      · exact Or.inl z
      · exact Or.inr ⟨j, hj, z⟩
    · rw [pk_un e]
      exact g.2.1 k hk
  · rcases hx with z | ⟨e, he, z, hne, hrc⟩
    · refine sg_ac_mono g.2.2 (fun k m e => ?_)
      by_cases ek : k = h
      · subst ek
        have e2 := e.2
        unfold sg_pm at e2
        rw [pk_us, h4, z, sg_pv4m] at e2
        exact sg_no0 e2
      · exact off k m e ek
    · have := g.1
      refine sg_ac_tie (h := h) (e := e) g.2.2 off (fun m hm => ?_) hne hrc
      have e2 := hm.2
      unfold sg_pm at e2
      rw [pk_us, h4, z, sg_pv4 (nI_pos' (by omega))] at e2
      exact sg_one rfl (by omega) e2
theorem sg_G_ret {a2' : Nat → Int32} (g : sg_G (N + 1) a1 a2 a3 a4) (h2 : ∀ k, k < N → (a2' k = a2 k ∧ ¬ (a1 k = 4 ∧ a2 k = nI N)) ∨ (a1 k = 4 ∧ a2' k = -1)) : sg_G N a1 a2' a3 a4 := by
  have hN := g.1
  refine ⟨by omega, fun k hk => ?_, sg_ac_mono g.2.2 (fun k m e => ?_)⟩
  · obtain ⟨ox, o4, oy, oz⟩ := g.2.1 k (by omega)
    rcases h2 k hk with ⟨e, hn⟩ | ⟨e4, e⟩
    · rw [e]
      refine ⟨ox, fun z => ?_, oy, oz⟩
      rcases o4 z with w | ⟨j, hj, w⟩
      · exact Or.inl w
      · refine Or.inr ⟨j, ?_, w⟩
        by_cases q : j = N
        · subst q
          exact absurd ⟨z, w⟩ hn
        · omega
    · rw [e]
      exact ⟨fun _ z => absurd e4 z, fun _ => Or.inl rfl, oy, oz⟩
  · have e2 := e.2
    unfold sg_pm at e2
    rcases h2 k e.1 with ⟨z, _⟩ | ⟨e4, z⟩
    · rw [z] at e2
      exact ⟨by have := e.1; omega, e2⟩
    · rw [z, e4, sg_pv4m] at e2
      exact sg_no0 e2
theorem sg_G_rank (g : sg_G N a1 a2 a3 a4) : ∃ r : Nat → Nat, (∀ k m, sg_E N a1 a2 a3 a4 k m → r m < r k) ∧ ∀ k, k < N → r k < N :=
  sg_ac_cmp g.2.2 (fun _ _ e => sg_G_lt g e)
end
end
section
/-! ===== the methods that only read ===== -/
/-- no node -/
def sg_nn (N : Nat) (p : Int32) : Prop := ∀ j, j < N → p ≠ nI j
section
variable {N T : Nat} {ar hv ch kt ov lv wt : Int32} {a1 a2 a3 a4 a5 a6 a7 a8 a9 a10 : Nat → Int32}
theorem sg_partsOf {post : Int32 → Prop} {k : Nat} (hk : k < 24) (h : post (sg_pm a1 a2 a3 a4 k)) : wpX_partsOf post (nI N, ar, hv, ch, kt, ov, nI T, lv, wt, a1, a2, a3, a4, a5, a6, a7, a8, a9, a10) (nI k) := by
  have hc : (nI k).toNatClampNeg = k := nI_clamp (by omega)
  have hi : vp_in (nI k) 24 := vp_in_nI hk (by omega)
  unfold wpX_partsOf
  dsimp only
  rw [hc]
  unfold sg_pm sg_pv at h
  refine ⟨hi, fun t et => ?_⟩
  rw [← et] at h
  by_cases h0 : t = 0
  · rw [if_pos h0] at h
    exact br_t h0 h
  rw [if_neg h0] at h
  refine br_f h0 ?_
  by_cases h11 : t = 11
  · rw [if_pos h11] at h
    exact br_t h11 h
  rw [if_neg h11] at h
  refine br_f h11 ?_
  by_cases h4 : t = 4
  · rw [if_pos h4] at h
    refine br_t h4 ⟨hi, ?_⟩
    by_cases hx : 0 ≤ a2 k
    · rw [if_pos hx] at h
      exact br_t hx ⟨hi, h⟩
    · rw [if_neg hx] at h
      exact br_f hx h
  rw [if_neg h4] at h
  refine br_f h4 ?_
  by_cases h10 : t = 10
  · rw [if_pos h10] at h
    exact br_t h10 ⟨hi, hi, h⟩
  rw [if_neg h10] at h
  refine br_f h10 ⟨hi, fun x ex => ?_⟩
  rw [← ex] at h
  unfold wX_partsOf_90 wX_partsOf_101
  rw [hc]
  by_cases h3 : t = 3
  · rw [if_pos h3] at h
    exact br_t h3 ⟨hi, nm_e (br_f (by rw [h3]; decide) h)⟩
  rw [if_neg h3] at h
  refine br_f h3 ?_
  by_cases h6 : t = 6
  · rw [if_pos h6] at h
    exact br_t h6 ⟨hi, nm_e (br_f (by rw [h6]; decide) h)⟩
  rw [if_neg h6] at h
  refine br_f h6 ?_
  by_cases h13 : t = 13
  · rw [if_pos h13] at h
    exact br_t h13 ⟨hi, hi, nm_e h⟩
  rw [if_neg h13] at h
  exact br_f h13 h
theorem sg_below18 {post : Int32 → Prop} {J : Int32 → Int32 → Prop} {k : Nat} {b : Int32} (g : sg_G N a1 a2 a3 a4)
    (hb : ∀ j, sg_bt b j = true → sg_rc (sg_E N a1 a2 a3 a4) k j)
    (H : ∀ s, (∀ j, sg_bt b j = true → sg_bt s j = true) → b.toBitVec.toNat ≤ s.toBitVec.toNat → (∀ j, sg_bt s j = true → sg_rc (sg_E N a1 a2 a3 a4) k j) →
      (∀ m l, sg_bt b m = true → sg_E N a1 a2 a3 a4 m l → sg_bt s l = true) → J s b) :
    ∃ n, wX_below_18 post J b (nI N) ar hv ch kt ov (nI T) lv wt a1 a2 a3 a4 a5 a6 a7 a8 a9 a10 n b 0 := by
  have hN := g.1
  exact pk_loop (fun n i s => wX_below_18 post J b (nI N) ar hv ch kt ov (nI T) lv wt a1 a2 a3 a4 a5 a6 a7 a8 a9 a10 n s (nI i))
    (fun i s => (∀ j, sg_bt b j = true → sg_bt s j = true) ∧ b.toBitVec.toNat ≤ s.toBitVec.toNat ∧ (∀ j, sg_bt s j = true → sg_rc (sg_E N a1 a2 a3 a4) k j) ∧
      (∀ m l, m < i → sg_bt b m = true → sg_E N a1 a2 a3 a4 m l → sg_bt s l = true)) N 0 b (by omega)
    ⟨fun _ h => h, Nat.le_refl _, hb, fun m l hm => absurd hm (by omega)⟩
    (fun n s h => pk_le N N (fun _ => H s h.1 h.2.1 h.2.2.1 (fun m l hm e => h.2.2.2 m l e.1 hm e)) (fun z => absurd z (by omega)))
    (fun n i s hi h hw => pk_le N i (fun z => absurd z (by omega)) (fun _ => sg_br i (by omega)
      (fun h0 => nm_r (nI_1 i) (hw s ⟨h.1, h.2.1, h.2.2.1, fun m l hm hbm e => by
        by_cases q : m = i
        · subst q
          have := h.1 m hbm
          rw [h0] at this
          exact absurd this (by decide)
        · exact h.2.2.2 m l (by omega) hbm e⟩))
      (fun h1 => sg_partsOf (by omega) (nm_e (nm_r (nI_1 i) (hw _ ⟨fun j hj => by rw [sg_bor, h.1 j hj, Bool.true_or], Nat.le_trans h.2.1 (sg_orle _ _),
        fun j hj => by
          rw [sg_bor, Bool.or_eq_true] at hj
          rcases hj with hj | hj
          · exact h.2.2.1 j hj
          · exact sg_rcs (h.2.2.1 i h1) ⟨hi, hj⟩,
        fun m l hm hbm e => by
          rw [sg_bor, Bool.or_eq_true]
          by_cases q : m = i
          · subst q
            exact Or.inr e.2
          · exact Or.inl (h.2.2.2 m l (by omega) hbm e)⟩))))))
theorem sg_below {post : Int32 → Prop} {k : Nat} (g : sg_G N a1 a2 a3 a4) (hk : k < N) (H : ∀ r, (∀ j, sg_bt r j = true ↔ sg_rc (sg_E N a1 a2 a3 a4) k j) → post r) : wpX_below post (nI N, ar, hv, ch, kt, ov, nI T, lv, wt, a1, a2, a3, a4, a5, a6, a7, a8, a9, a10) (nI k) := by
  have hN := g.1
  unfold wpX_below
  dsimp only
  refine sg_partsOf (by omega) ?_
  exact lp2 (fun n x y => wX_below_8 post (nI N) ar hv ch kt ov (nI T) lv wt a1 a2 a3 a4 a5 a6 a7 a8 a9 a10 n x y)
    (fun x y => (∀ j, sg_bt x j = true → sg_rc (sg_E N a1 a2 a3 a4) k j) ∧ (∀ l, sg_E N a1 a2 a3 a4 k l → sg_bt x l = true) ∧ (x = y → ∀ m l, sg_bt x m = true → sg_E N a1 a2 a3 a4 m l → sg_bt x l = true))
    (fun x y => if x = y then 0 else 2 ^ 32 - x.toBitVec.toNat)
    (fun n x y h ih => by
      by_cases e : x = y
      · exact br_t e (H x (fun j => ⟨h.1 j, fun hr => hr (fun j => sg_bt x j = true) h.2.1 (h.2.2 e)⟩))
      · refine br_f e (sg_below18 (k := k) g h.1 (fun s h1 h2 h3 h4 => ih s x ⟨h3, fun l hl => h1 l (h.2.1 l hl), fun es m l hm hE => ?_⟩ ?_))
        · subst es
          exact h4 m l hm hE
        · rw [if_neg e]
          have b1 := sg_natlt x
          have b2 := sg_natlt s
          by_cases es : s = x
          · rw [if_pos es]
            omega
          · rw [if_neg es]
            have : s.toBitVec.toNat ≠ x.toBitVec.toNat := fun z => es (sg_natinj z)
            omega)
    _ 0 ⟨fun j hj => sg_rc1 ⟨hk, hj⟩, fun l hl => hl.2, fun e m l hm => by rw [e] at hm; exact sg_no0 hm⟩
theorem sg_has {post : Int32 → Prop} {p : Nat} (hp : p < 32) (f : sg_bt hv p = false → post 0) (g : sg_bt hv p = true → post 1) : wpX_has post (nI N, ar, hv, ch, kt, ov, nI T, lv, wt, a1, a2, a3, a4, a5, a6, a7, a8, a9, a10) (nI p) :=
  sg_br p hp f g
theorem sg_isCellKind {post : Int32 → Prop} {t : Int32} (f : sg_cl t → post 1) (g : ¬ sg_cl t → post 0) : wpX_isCellKind post (nI N, ar, hv, ch, kt, ov, nI T, lv, wt, a1, a2, a3, a4, a5, a6, a7, a8, a9, a10) t := by
  unfold wpX_isCellKind
  dsimp only
  exact br_c (fun h => f (Or.inl h)) (fun h4 => br_c (fun h => f (Or.inr (Or.inl h))) (fun h6 => br_c (fun h => f (Or.inr (Or.inr (Or.inl h)))) (fun h13 => br_c (fun h => f (Or.inr (Or.inr (Or.inr h)))) (fun h14 => g (fun z => by
    rcases z with z | z | z | z
    · exact h4 z
    · exact h6 z
    · exact h13 z
    · exact h14 z)))))
theorem sg_isNodeT {post : Int32 → Prop} {k : Nat} (hN : N ≤ 24) (hk : k < N) (h : post 1) : wpX_isNode post (nI N, ar, hv, ch, kt, ov, nI T, lv, wt, a1, a2, a3, a4, a5, a6, a7, a8, a9, a10) (nI k) :=
  br_f (nI_pos (by omega)) (br_f (nI_ge hk (by omega)) h)
theorem sg_isNodeF {post : Int32 → Prop} {p : Int32} (hN : N ≤ 24) (hp : sg_nn N p) (h : post 0) : wpX_isNode post (nI N, ar, hv, ch, kt, ov, nI T, lv, wt, a1, a2, a3, a4, a5, a6, a7, a8, a9, a10) p := by
  unfold wpX_isNode
  dsimp only
  rcases pk_ix p (show N < 2 ^ 31 by omega) with z | z | ⟨j, hj, z⟩
  · exact br_t z h
  · exact br_c (fun _ => h) (fun _ => br_t z h)
  · exact absurd z (hp j hj)
theorem sg_nd (N : Nat) (p : Int32) : sg_nn N p ∨ ∃ j, j < N ∧ p = nI j := by
  by_cases h : ∃ j, j < N ∧ p = nI j
  · exact Or.inr h
  · exact Or.inl (fun j hj e => h ⟨j, hj, e⟩)
theorem sg_nnN (hN : N ≤ 24) {k : Nat} (hk : N ≤ k) (h2 : k < 2 ^ 31) : sg_nn N (nI k) := fun j hj e => by
  have := (nI_eq h2 (by omega)).mp e
  omega
theorem sg_nnm (hN : N ≤ 24) {p : Int32} (hp : p < 0) : sg_nn N p := fun j hj e => by
  rw [e] at hp
  exact nI_pos (by omega) hp
theorem sg_sortT {post : Int32 → Prop} {k : Nat} (hN : N ≤ 24) (hk : k < N) (f : sg_cl (a1 k) → post 2) (g : ¬ sg_cl (a1 k) → post 1) : wpX_sort post (nI N, ar, hv, ch, kt, ov, nI T, lv, wt, a1, a2, a3, a4, a5, a6, a7, a8, a9, a10) (nI k) := by
  have hc : (nI k).toNatClampNeg = k := nI_clamp (by omega)
  unfold wpX_sort
  dsimp only
  rw [hc]
  exact sg_isNodeT hN hk (br_f (by decide) ⟨vp_in_nI (by omega) (by omega), sg_isCellKind (fun h => br_f (by decide) (f h)) (fun h => br_t rfl (g h))⟩)
theorem sg_sortF {post : Int32 → Prop} {p : Int32} (hN : N ≤ 24) (hp : sg_nn N p) (h : post (-1)) : wpX_sort post (nI N, ar, hv, ch, kt, ov, nI T, lv, wt, a1, a2, a3, a4, a5, a6, a7, a8, a9, a10) p := by
  unfold wpX_sort
  dsimp only
  exact sg_isNodeF hN hp (br_t rfl h)
theorem sg_timesT {post : Int32 → Prop} {k : Nat} (hN : N ≤ 24) (hk : k < N) (h : post (a10 k)) : wpX_times post (nI N, ar, hv, ch, kt, ov, nI T, lv, wt, a1, a2, a3, a4, a5, a6, a7, a8, a9, a10) (nI k) := by
  have hc : (nI k).toNatClampNeg = k := nI_clamp (by omega)
  unfold wpX_times
  dsimp only
  rw [hc]
  exact sg_isNodeT hN hk (br_f (by decide) ⟨vp_in_nI (by omega) (by omega), h⟩)
theorem sg_timesF {post : Int32 → Prop} {p : Int32} (hN : N ≤ 24) (hp : sg_nn N p) (h : post (-1)) : wpX_times post (nI N, ar, hv, ch, kt, ov, nI T, lv, wt, a1, a2, a3, a4, a5, a6, a7, a8, a9, a10) p := by
  unfold wpX_times
  dsimp only
  exact sg_isNodeF hN hp (br_t rfl h)
theorem sg_isEventT {post : Int32 → Prop} {k : Nat} (hN : N ≤ 24) (hk : k < N) (f : ¬ sg_cl (a1 k) → post 1) (g : sg_cl (a1 k) → post 0) : wpX_isEvent post (nI N, ar, hv, ch, kt, ov, nI T, lv, wt, a1, a2, a3, a4, a5, a6, a7, a8, a9, a10) (nI k) := by
  have hc : (nI k).toNatClampNeg = k := nI_clamp (by omega)
  unfold wpX_isEvent
  dsimp only
  rw [hc]
  exact sg_isNodeT hN hk (br_f (by decide) ⟨vp_in_nI (by omega) (by omega), sg_isCellKind (fun h => br_f (by decide) (g h)) (fun h => br_t rfl (f h))⟩)
theorem sg_isEventF {post : Int32 → Prop} {p : Int32} (hN : N ≤ 24) (hp : sg_nn N p) (h : post 0) : wpX_isEvent post (nI N, ar, hv, ch, kt, ov, nI T, lv, wt, a1, a2, a3, a4, a5, a6, a7, a8, a9, a10) p := by
  unfold wpX_isEvent
  dsimp only
  exact sg_isNodeF hN hp (br_t rfl h)
theorem sg_isCellT {post : Int32 → Prop} {k : Nat} (hN : N ≤ 24) (hk : k < N) (f : sg_cl (a1 k) → post 1) (g : ¬ sg_cl (a1 k) → post 0) : wpX_isCell post (nI N, ar, hv, ch, kt, ov, nI T, lv, wt, a1, a2, a3, a4, a5, a6, a7, a8, a9, a10) (nI k) := by
  have hc : (nI k).toNatClampNeg = k := nI_clamp (by omega)
  unfold wpX_isCell
  dsimp only
  rw [hc]
  exact sg_isNodeT hN hk (br_f (by decide) ⟨vp_in_nI (by omega) (by omega), sg_isCellKind (fun h => br_f (by decide) (f h)) (fun h => br_t rfl (g h))⟩)
theorem sg_isCellF {post : Int32 → Prop} {p : Int32} (hN : N ≤ 24) (hp : sg_nn N p) (h : post 0) : wpX_isCell post (nI N, ar, hv, ch, kt, ov, nI T, lv, wt, a1, a2, a3, a4, a5, a6, a7, a8, a9, a10) p := by
  unfold wpX_isCell
  dsimp only
  exact sg_isNodeF hN hp (br_t rfl h)
theorem sg_valueT {post : Int32 → Prop} {k : Nat} (hN : N ≤ 24) (hk : k < N) (f : ¬ sg_cl (a1 k) → sg_bt hv k = false → post 0) (g : (sg_cl (a1 k) ∨ sg_bt hv k = true) → post (a7 k)) : wpX_value post (nI N, ar, hv, ch, kt, ov, nI T, lv, wt, a1, a2, a3, a4, a5, a6, a7, a8, a9, a10) (nI k) := by
  have hc : (nI k).toNatClampNeg = k := nI_clamp (by omega)
  have hi : vp_in (nI k) 24 := vp_in_nI (by omega) (by omega)
  unfold wpX_value
  dsimp only
  rw [hc]
  exact sg_isNodeT hN hk (br_f (by decide) (sg_isEventT hN hk (fun h => br_f (by decide) (sg_has (by omega) (fun z => br_t rfl (f h z)) (fun z => br_f (by decide) ⟨hi, g (Or.inr z)⟩))) (fun h => br_t rfl ⟨hi, g (Or.inl h)⟩)))
theorem sg_valueF {post : Int32 → Prop} {p : Int32} (hN : N ≤ 24) (hp : sg_nn N p) (h : post 0) : wpX_value post (nI N, ar, hv, ch, kt, ov, nI T, lv, wt, a1, a2, a3, a4, a5, a6, a7, a8, a9, a10) p := by
  unfold wpX_value
  dsimp only
  exact sg_isNodeF hN hp (br_t rfl h)
theorem sg_hadT {post : Int32 → Prop} {k : Nat} (hN : N ≤ 24) (hk : k < N) (f : ¬ sg_cl (a1 k) → sg_bt hv k = true → post 1) (g : (sg_cl (a1 k) ∨ sg_bt hv k = false) → post 0) : wpX_had post (nI N, ar, hv, ch, kt, ov, nI T, lv, wt, a1, a2, a3, a4, a5, a6, a7, a8, a9, a10) (nI k) := by
  unfold wpX_had
  dsimp only
  exact sg_isEventT hN hk (fun h => br_f (by decide) (sg_has (by omega) (fun z => br_t rfl (g (Or.inr z))) (fun z => br_f (by decide) (f h z)))) (fun h => br_t rfl (g (Or.inl h)))
theorem sg_hadF {post : Int32 → Prop} {p : Int32} (hN : N ≤ 24) (hp : sg_nn N p) (h : post 0) : wpX_had post (nI N, ar, hv, ch, kt, ov, nI T, lv, wt, a1, a2, a3, a4, a5, a6, a7, a8, a9, a10) p := by
  unfold wpX_had
  dsimp only
  exact sg_isEventF hN hp (br_t rfl h)
theorem sg_leadsT {post : Int32 → Prop} {k m : Nat} (g : sg_G N a1 a2 a3 a4) (hk : k < N) (hm : m < N) (f : sg_rc (sg_E N a1 a2 a3 a4) k m → post 1) (f0 : ¬ sg_rc (sg_E N a1 a2 a3 a4) k m → post 0) : wpX_leads post (nI N, ar, hv, ch, kt, ov, nI T, lv, wt, a1, a2, a3, a4, a5, a6, a7, a8, a9, a10) (nI k) (nI m) := by
  have hN := g.1
  unfold wpX_leads
  dsimp only
  exact sg_isNodeT hN hk (br_f (by decide) (sg_isNodeT hN hm (br_f (by decide) (sg_below g hk (fun r hr => sg_br m (by omega)
    (fun h => f0 (fun z => by
      have := (hr m).mpr z
      rw [h] at this
      exact absurd this (by decide)))
    (fun h => f ((hr m).mp h)))))))
theorem sg_leadsF1 {post : Int32 → Prop} {p q : Int32} (hN : N ≤ 24) (hp : sg_nn N p) (h : post 0) : wpX_leads post (nI N, ar, hv, ch, kt, ov, nI T, lv, wt, a1, a2, a3, a4, a5, a6, a7, a8, a9, a10) p q := by
  unfold wpX_leads
  dsimp only
  exact sg_isNodeF hN hp (br_t rfl h)
theorem sg_leadsF2 {post : Int32 → Prop} {k : Nat} {q : Int32} (hN : N ≤ 24) (hk : k < N) (hq : sg_nn N q) (h : post 0) : wpX_leads post (nI N, ar, hv, ch, kt, ov, nI T, lv, wt, a1, a2, a3, a4, a5, a6, a7, a8, a9, a10) (nI k) q := by
  unfold wpX_leads
  dsimp only
  exact sg_isNodeT hN hk (br_f (by decide) (sg_isNodeF hN hq (br_t rfl h)))
theorem sg_reaches {post : Int32 → Prop} {k m : Nat} (g : sg_G N a1 a2 a3 a4) (hk : k < N) (hm : m < N) (f : (k = m ∨ sg_rc (sg_E N a1 a2 a3 a4) k m) → post 1) (f0 : k ≠ m → ¬ sg_rc (sg_E N a1 a2 a3 a4) k m → post 0) : wpX_reaches post (nI N, ar, hv, ch, kt, ov, nI T, lv, wt, a1, a2, a3, a4, a5, a6, a7, a8, a9, a10) (nI k) (nI m) := by
  have hN := g.1
  unfold wpX_reaches
  dsimp only
  exact pk_eq k m (fun e => f (Or.inl e)) (fun e => sg_below g hk (fun r hr => sg_br m (by omega)
    (fun h => f0 e (fun z => by
      have := (hr m).mpr z
      rw [h] at this
      exact absurd this (by decide)))
    (fun h => f (Or.inr ((hr m).mp h)))))
end
end
section
/-! ===== heights ===== -/
def sg_su (f : Nat → Nat) : Nat → Nat
  | 0 => 0
  | n + 1 => sg_su f n + f n
theorem sg_su_mono {f g : Nat → Nat} (n : Nat) (h : ∀ x, x < n → f x ≤ g x) : sg_su f n ≤ sg_su g n := by
  induction n with
  | zero => exact Nat.le_refl 0
  | succ n ih =>
    have i := ih (fun x hx => h x (by omega))
    have j := h n (by omega)
    show sg_su f n + f n ≤ sg_su g n + g n
    omega
theorem sg_su_lt {f g : Nat → Nat} (n : Nat) (h : ∀ x, x < n → f x ≤ g x) (y : Nat) (hy : y < n) (hl : f y < g y) : sg_su f n < sg_su g n := by
  induction n with
  | zero => omega
  | succ n ih =>
    have j := h n (by omega)
    show sg_su f n + f n < sg_su g n + g n
    by_cases e : y = n
    · subst e
      have := sg_su_mono y (fun x hx => h x (by omega))
      omega
    · have i := ih (fun x hx => h x (by omega)) (by omega)
      omega
theorem sg_su_le {f : Nat → Nat} (n : Nat) (h : ∀ x, x < n → f x ≤ 24) : sg_su f n ≤ 24 * n := by
  induction n with
  | zero => exact Nat.le_refl 0
  | succ n ih =>
    have i := ih (fun x hx => h x (by omega))
    have j := h n (by omega)
    show sg_su f n + f n ≤ 24 * (n + 1)
    omega
def sg_ht (a : Nat → Int32) (k : Nat) : Nat := (a k).toNatClampNeg
theorem sg_ht_s {a : Nat → Int32} {k v : Nat} (hv : v < 2 ^ 31) : sg_ht (upd a k (nI v)) k = v := by
  unfold sg_ht
  rw [pk_us, nI_clamp hv]
theorem sg_ht_n {a : Nat → Int32} {k j : Nat} {x : Int32} (h : j ≠ k) : sg_ht (upd a k x) j = sg_ht a j := by
  unfold sg_ht
  rw [pk_un h]
/-- heights below the ranks, each zero or at most one above a part -/
def sg_H (N : Nat) (E : Nat → Nat → Prop) (r : Nat → Nat) (a : Nat → Int32) : Prop :=
  ∀ k, k < N → a k = nI (sg_ht a k) ∧ sg_ht a k ≤ r k ∧ (sg_ht a k = 0 ∨ ∃ m, E k m ∧ sg_ht a k ≤ sg_ht a m + 1)
theorem sg_H_upd {N k v : Nat} {E : Nat → Nat → Prop} {r : Nat → Nat} {a : Nat → Int32} (h : sg_H N E r a) (hk : k < N) (hv : v < 2 ^ 31) (h1 : sg_ht a k ≤ v) (h2 : v ≤ r k) (h3 : v = 0 ∨ ∃ m, E k m ∧ v ≤ sg_ht a m + 1) : sg_H N E r (upd a k (nI v)) := by
  have up : ∀ m, sg_ht a m ≤ sg_ht (upd a k (nI v)) m := by
    intro m
    by_cases e : m = k
    · subst e
      rw [sg_ht_s hv]
      exact h1
    · rw [sg_ht_n e]
      exact Nat.le_refl _
  intro j hj
  by_cases e : j = k
  · subst e
    rw [sg_ht_s hv, pk_us]
    refine ⟨rfl, h2, ?_⟩
    rcases h3 with z | ⟨m, hE, z⟩
    · exact Or.inl z
    · exact Or.inr ⟨m, hE, by have := up m; omega⟩
  · rw [sg_ht_n e, pk_un e]
    obtain ⟨e1, e2, e3⟩ := h j hj
    refine ⟨e1, e2, ?_⟩
    rcases e3 with z | ⟨m, hE, z⟩
    · exact Or.inl z
    · exact Or.inr ⟨m, hE, by have := up m; omega⟩
theorem sg_i8 : ∀ s, s < 128 → (nI s).toInt8.toInt32 = nI s := by decide +kernel
section
variable {N T : Nat} {ar hv ch kt ov lv wt : Int32} {a1 a2 a3 a4 a5 a6 a7 a8 a9 a10 : Nat → Int32}
theorem sg_raise71 {post : Int32 → St1 → Prop} {k s : Nat} {z : Int32} (hk : k < 24) (hs : s < 128) (hz : z = 0 ∨ z = 1) (h : post z (nI N, ar, hv, ch, kt, ov, nI T, lv, wt, a1, a2, a3, a4, upd a5 k (nI s), a6, a7, a8, a9, a10)) : wX_raise_71 post (nI k) (nI s) z (nI N) ar hv ch kt ov (nI T) lv wt a1 a2 a3 a4 a5 a6 a7 a8 a9 a10 := by
  unfold wX_raise_71
  rw [nI_clamp (show k < 2 ^ 31 by omega), sg_i8 s hs]
  refine ⟨vp_in_nI hk (by omega), nm_e ⟨?_, h⟩⟩
  rcases hz with e | e <;> (subst e; rfl)
theorem sg_raise {post : Int32 → St1 → Prop} {k : Nat} {r : Nat → Nat} (g : sg_G N a1 a2 a3 a4) (hr : ∀ k m, sg_E N a1 a2 a3 a4 k m → r m < r k) (hb : ∀ k, k < N → r k < N) (hH : sg_H N (sg_E N a1 a2 a3 a4) r a5) (hk : k < N)
    (H : ∀ (z : Int32) (v : Nat), sg_ht a5 k ≤ v → v ≤ r k → (v = 0 ∨ ∃ m, sg_E N a1 a2 a3 a4 k m ∧ v ≤ sg_ht a5 m + 1) → ((z = 0 ∧ v = sg_ht a5 k) ∨ (z = 1 ∧ sg_ht a5 k < v)) → post z (nI N, ar, hv, ch, kt, ov, nI T, lv, wt, a1, a2, a3, a4, upd a5 k (nI v), a6, a7, a8, a9, a10)) :
    wpX_raise post (nI N, ar, hv, ch, kt, ov, nI T, lv, wt, a1, a2, a3, a4, a5, a6, a7, a8, a9, a10) (nI k) := by
  have hN := g.1
  have hrk := hb k hk
  have hck : (nI k).toNatClampNeg = k := nI_clamp (by omega)
  obtain ⟨ek, lk, wk⟩ := hH k hk
  have big : ∀ m, m < N → sg_ht a5 m < 24 := fun m hm => by
    have := hb m hm
    have := (hH m hm).2.1
    omega
  unfold wpX_raise
  dsimp only
  refine sg_partsOf (by omega) ?_
  exact pk_loop (fun n i s => wX_raise_11 post (nI k) (sg_pm a1 a2 a3 a4 k) (nI N) ar hv ch kt ov (nI T) lv wt a1 a2 a3 a4 a5 a6 a7 a8 a9 a10 n (nI s) (nI i))
    (fun i s => (∀ m, m < i → sg_E N a1 a2 a3 a4 k m → sg_ht a5 m + 1 ≤ s) ∧ (s = 0 ∨ ∃ m, sg_E N a1 a2 a3 a4 k m ∧ s = sg_ht a5 m + 1)) N 0 0 (by omega)
    ⟨fun m hm => absurd hm (by omega), Or.inl rfl⟩
    (fun n s h => by
      have hs : s ≤ r k := by
        rcases h.2 with z | ⟨m, hE, z⟩
        · omega
        · have := hr k m hE
          have := (hH m (sg_G_lt g hE)).2.1
          omega
      have hs2 : sg_ht a5 k ≤ s := by
        rcases wk with z | ⟨m, hE, z⟩
        · omega
        · have := h.1 m (sg_G_lt g hE) hE
          omega
      have hs3 : s = 0 ∨ ∃ m, sg_E N a1 a2 a3 a4 k m ∧ s ≤ sg_ht a5 m + 1 := by
        rcases h.2 with z | ⟨m, hE, z⟩
        · exact Or.inl z
        · exact Or.inr ⟨m, hE, by omega⟩
      have hg := big k hk
      exact pk_le N N (fun _ => ⟨vp_in_nI (by omega) (by omega), pk_le s (sg_ht a5 k)
        (fun z => sg_raise71 (by omega) (by omega) (Or.inl rfl) (H 0 s hs2 hs hs3 (Or.inl ⟨rfl, by omega⟩)))
        (fun z => sg_raise71 (by omega) (by omega) (Or.inr rfl) (H 1 s hs2 hs hs3 (Or.inr ⟨rfl, z⟩)))
        rfl (by rw [hck]; exact ek)⟩) (fun z => absurd z (by omega)))
    (fun n i s hi h hw => by
      have hci : (nI i).toNatClampNeg = i := nI_clamp (by omega)
      have hgi := big i hi
      have hs : s < 100 := by
        rcases h.2 with z | ⟨m, hE, z⟩
        · omega
        · have := big m (sg_G_lt g hE)
          omega
      exact pk_le N i (fun z => absurd z (by omega)) (fun _ => sg_br i (by omega)
        (fun h0 => nm_r (nI_1 i) (hw s ⟨fun m hm hE => by
          by_cases q : m = i
          · subst q
            have := hE.2
            rw [h0] at this
            exact absurd this (by decide)
          · exact h.1 m (by omega) hE, h.2⟩))
        (fun h1 => ⟨vp_in_nI (by omega) (by omega), pk_lt (sg_ht a5 i) s
          (fun z => nm_r (nI_1 i) (hw s ⟨fun m hm hE => by
            by_cases q : m = i
            · subst q
              omega
            · exact h.1 m (by omega) hE, h.2⟩))
          (fun z => ⟨vp_in_nI (by omega) (by omega), nm_r (show a5 (nI i).toNatClampNeg + 1 = nI (sg_ht a5 i + 1) by rw [hci, (hH i hi).1]; exact nI_1 _) (nm_r (nI_1 i) (hw (sg_ht a5 i + 1) ⟨fun m hm hE => by
            by_cases q : m = i
            · subst q
              omega
            · have := h.1 m (by omega) hE
              omega, Or.inr ⟨i, ⟨hk, h1⟩, rfl⟩⟩))⟩)
          (by rw [hci]; exact (hH i hi).1) rfl⟩)))
theorem sg_arr99 {post : St1 → Prop} {J : Int32 → (Nat → Int32) → (Nat → Int32) → (Nat → Int32) → (Nat → Int32) → (Nat → Int32) → (Nat → Int32) → (Nat → Int32) → (Nat → Int32) → (Nat → Int32) → (Nat → Int32) → Prop} {k : Nat} {x : Int32} (hN : N ≤ 24)
    (H : ∀ a, J (nI (k + 1)) a1 a2 a3 a4 a5 a a7 a8 a9 a10) : ∃ n, wX_arrange_99 post J (nI k) x (nI N) ar hv ch kt ov (nI T) lv wt n 0 a1 a2 a3 a4 a5 a6 a7 a8 a9 a10 :=
  pk_loop (fun n i s => wX_arrange_99 post J (nI k) x (nI N) ar hv ch kt ov (nI T) lv wt n (nI i) a1 a2 a3 a4 a5 s a7 a8 a9 a10) (fun _ _ => True) N 0 a6 (by omega) trivial
    (fun n s _ => pk_le N N (fun _ => nm_r (nI_1 k) (H s)) (fun z => absurd z (by omega)))
    (fun n i s hi _ hw => pk_le N i (fun z => absurd z (by omega)) (fun _ => sg_br i (by omega)
      (fun _ => nm_r (nI_1 i) (hw s trivial))
      (fun _ => ⟨vp_in_nI (by omega) (by omega), vp_in_nI (by omega) (by omega), nm_e (nm_r (nI_1 i) (hw _ trivial))⟩)))
theorem sg_arr82 {post : St1 → Prop} (hN : N ≤ 24) (H : ∀ a, post (nI N, ar, hv, ch, kt, ov, nI T, lv, wt, a1, a2, a3, a4, a5, a, a7, a8, a9, a10)) : ∃ n, wX_arrange_82 post (nI N) ar hv ch kt ov (nI T) lv wt n 0 a1 a2 a3 a4 a5 a6 a7 a8 a9 a10 :=
  pk_loop (fun n i s => wX_arrange_82 post (nI N) ar hv ch kt ov (nI T) lv wt n (nI i) a1 a2 a3 a4 a5 s a7 a8 a9 a10) (fun _ _ => True) N 0 a6 (by omega) trivial
    (fun n s _ => pk_le N N (fun _ => H s) (fun z => absurd z (by omega)))
    (fun n i s hi _ hw => pk_le N i (fun z => absurd z (by omega)) (fun _ => sg_partsOf (by omega) (sg_arr99 hN (fun a => hw a trivial))))
theorem sg_arr53 {post : St1 → Prop} {J : Int32 → Int32 → Int32 → Int32 → Int32 → Int32 → Int32 → Int32 → Int32 → Int32 → (Nat → Int32) → (Nat → Int32) → (Nat → Int32) → (Nat → Int32) → (Nat → Int32) → (Nat → Int32) → (Nat → Int32) → (Nat → Int32) → (Nat → Int32) → (Nat → Int32) → Prop} {r : Nat → Nat}
    (g : sg_G N a1 a2 a3 a4) (hr : ∀ k m, sg_E N a1 a2 a3 a4 k m → r m < r k) (hb : ∀ k, k < N → r k < N) (hH : sg_H N (sg_E N a1 a2 a3 a4) r a5)
    (H : ∀ z a, sg_H N (sg_E N a1 a2 a3 a4) r a → (z = 0 ∨ (z = 1 ∧ sg_su (sg_ht a5) N < sg_su (sg_ht a) N)) → J z (nI N) ar hv ch kt ov (nI T) lv wt a1 a2 a3 a4 a a6 a7 a8 a9 a10) :
    ∃ n, wX_arrange_53 post J n 0 0 (nI N) ar hv ch kt ov (nI T) lv wt a1 a2 a3 a4 a5 a6 a7 a8 a9 a10 := by
  have hN := g.1
  exact pk_loop (fun n i (s : Int32 × (Nat → Int32)) => wX_arrange_53 post J n s.1 (nI i) (nI N) ar hv ch kt ov (nI T) lv wt a1 a2 a3 a4 s.2 a6 a7 a8 a9 a10)
    (fun i s => sg_H N (sg_E N a1 a2 a3 a4) r s.2 ∧ sg_su (sg_ht a5) N ≤ sg_su (sg_ht s.2) N ∧ (s.1 = 0 ∨ (s.1 = 1 ∧ sg_su (sg_ht a5) N < sg_su (sg_ht s.2) N))) N 0 (0, a5) (by omega)
    ⟨hH, Nat.le_refl _, Or.inl rfl⟩
    (fun n s h => pk_le N N (fun _ => H s.1 s.2 h.1 h.2.2) (fun z => absurd z (by omega)))
    (fun n i s hi h hw => pk_le N i (fun z => absurd z (by omega)) (fun _ => sg_raise g hr hb h.1 hi (fun z v v1 v2 v3 v4 => by
      have hv : v < 2 ^ 31 := by
        have := hb i hi
        omega
      have up : ∀ x, x < N → sg_ht s.2 x ≤ sg_ht (upd s.2 i (nI v)) x := by
        intro x _
        by_cases e : x = i
        · subst e
          rw [sg_ht_s hv]
          exact v1
        · rw [sg_ht_n e]
          exact Nat.le_refl _
      have hH' := sg_H_upd h.1 hi hv v1 v2 v3
      have hm := sg_su_mono N up
      rcases v4 with ⟨ez, ev⟩ | ⟨ez, ev⟩
      · subst ez
        refine br_t rfl (nm_r (nI_1 i) (hw (s.1, upd s.2 i (nI v)) ⟨hH', Nat.le_trans h.2.1 hm, ?_⟩))
        rcases h.2.2 with w | ⟨w, w2⟩
        · exact Or.inl w
        · exact Or.inr ⟨w, Nat.lt_of_lt_of_le w2 hm⟩
      · subst ez
        have hl := sg_su_lt N up i hi (by rw [sg_ht_s hv]; exact ev)
        exact br_f (by decide) (nm_r (nI_1 i) (hw (1, upd s.2 i (nI v)) ⟨hH', Nat.le_trans h.2.1 hm, Or.inr ⟨rfl, Nat.lt_of_le_of_lt h.2.1 hl⟩⟩)))))
theorem sg_arr45 {post : St1 → Prop} {r : Nat → Nat}
    (g : sg_G N a1 a2 a3 a4) (hr : ∀ k m, sg_E N a1 a2 a3 a4 k m → r m < r k) (hb : ∀ k, k < N → r k < N) (hH : sg_H N (sg_E N a1 a2 a3 a4) r a5)
    (H : ∀ a b, post (nI N, ar, hv, ch, kt, ov, nI T, lv, wt, a1, a2, a3, a4, a, b, a7, a8, a9, a10)) : ∃ n, wX_arrange_45 post n 1 (nI N) ar hv ch kt ov (nI T) lv wt a1 a2 a3 a4 a5 a6 a7 a8 a9 a10 := by
  have hN := g.1
  have bd : ∀ a, sg_H N (sg_E N a1 a2 a3 a4) r a → sg_su (sg_ht a) N ≤ 24 * N := fun a ha => sg_su_le N (fun x hx => by
    have := (ha x hx).2.1
    have := hb x hx
    omega)
  exact loop_m (fun n (s : Int32 × (Nat → Int32)) => wX_arrange_45 post n s.1 (nI N) ar hv ch kt ov (nI T) lv wt a1 a2 a3 a4 s.2 a6 a7 a8 a9 a10) (fun s => sg_H N (sg_E N a1 a2 a3 a4) r s.2)
    (fun s => if s.1 = 0 then 0 else 1 + (24 * N - sg_su (sg_ht s.2) N))
    (fun n s h ih => br_c (fun _ => sg_arr82 hN (fun b => H _ b)) (fun e => sg_arr53 g hr hb h (fun z a ha hz => ih (z, a) ha (by
      dsimp only
      rw [if_neg e]
      have b1 := bd a ha
      rcases hz with w | ⟨w, w2⟩
      · rw [if_pos w]
        omega
      · rw [if_neg (by rw [w]; decide)]
        omega))))
    (1, a5) hH
theorem sg_arrange {post : St1 → Prop} (g : sg_G N a1 a2 a3 a4) (H : ∀ x a b, post (nI N, x, hv, ch, kt, ov, nI T, lv, wt, a1, a2, a3, a4, a, b, a7, a8, a9, a10)) : wpX_arrange post (nI N, ar, hv, ch, kt, ov, nI T, lv, wt, a1, a2, a3, a4, a5, a6, a7, a8, a9, a10) := by
  have hN := g.1
  obtain ⟨r, hr, hb⟩ := sg_G_rank g
  unfold wpX_arrange
  dsimp only
  refine br_c (fun _ => ?_) (fun _ => H _ _ _)
  exact pk_loop (fun n i (s : (Nat → Int32) × (Nat → Int32)) => wX_arrange_15 post (nI N) 1 hv ch kt ov (nI T) lv wt n (nI i) a1 a2 a3 a4 s.1 s.2 a7 a8 a9 a10)
    (fun i s => ∀ j, j < i → s.1 j = nI 0) N 0 (a5, a6) (by omega) (fun j hj => absurd hj (by omega))
    (fun n s h => pk_le N N (fun _ => sg_arr45 g hr hb (fun k hk => by
      have e : sg_ht s.1 k = 0 := by
        unfold sg_ht
        rw [h k hk]
        rfl
      rw [e]
      exact ⟨h k hk, by omega, Or.inl rfl⟩) (fun a b => H _ a b)) (fun z => absurd z (by omega)))
    (fun n i s hi h hw => pk_le N i (fun z => absurd z (by omega)) (fun _ => by
      have hin : vp_in (nI i) 24 := vp_in_nI (by omega) (by omega)
      rw [nI_clamp (show i < 2 ^ 31 by omega)]
      refine ⟨hin, nm_e ⟨hin, nm_e (nm_r (nI_1 i) (hw (upd s.1 i 0, upd s.2 i 0) (fun j hj => ?_)))⟩⟩
      show upd s.1 i 0 j = nI 0
      by_cases e : j = i
      · subst e
        rw [pk_us]
        rfl
      · rw [pk_un e]
        exact h j (by omega)))
end
end
section
/-! ===== looking at a node ===== -/
/-- only events have a value -/
def sg_V (N : Nat) (a1 : Nat → Int32) (hv : Int32) : Prop := ∀ k, k < N → sg_bt hv k = true → ¬ sg_cl (a1 k)
section
variable {N T : Nat} {ar hv ch kt ov lv wt : Int32} {a1 a2 a3 a4 a5 a6 a7 a8 a9 a10 : Nat → Int32}
theorem sg_give {post : Int32 → St1 → Prop} {k : Nat} {v : Int32} (hk : k < 24) (h : post 1 (nI N, ar, hv ||| ((1 : Int32) <<< (nI k &&& 31)), ch, kt, ov, nI T, lv, wt, a1, a2, a3, a4, a5, a6, upd a7 k v, a8, a9, a10)) : wpX_give post (nI N, ar, hv, ch, kt, ov, nI T, lv, wt, a1, a2, a3, a4, a5, a6, a7, a8, a9, a10) (nI k) v := by
  unfold wpX_give
  dsimp only
  rw [nI_clamp (show k < 2 ^ 31 by omega)]
  exact nm_e ⟨vp_in_nI hk (by omega), nm_e h⟩
theorem sg_merge35 {post : Int32 → St1 → Prop} {k jx jy : Nat} {x y : Int32} (hk : k < 24) (hx : jx < 24) (hy : jy < 24) (ex : x = nI jx) (ey : y = nI jy) (h0 : post 0 (nI N, ar, hv, ch, kt, ov, nI T, lv, wt, a1, a2, a3, a4, a5, a6, a7, a8, a9, a10))
    (h1 : ∀ v, post 1 (nI N, ar, hv ||| ((1 : Int32) <<< (nI k &&& 31)), ch, kt, ov, nI T, lv, wt, a1, a2, a3, a4, a5, a6, upd a7 k v, a8, a9, a10)) : wX_merge_35 post (nI k) x y (nI N) ar hv ch kt ov (nI T) lv wt a1 a2 a3 a4 a5 a6 a7 a8 a9 a10 := by
  subst ex ey
  unfold wX_merge_35
  exact sg_has (by omega) (fun _ => br_t rfl (sg_has (by omega) (fun _ => br_t rfl h0) (fun _ => br_f (by decide) ⟨vp_in_nI hy (by omega), sg_give hk (br_f (by decide) (h1 _))⟩)))
    (fun _ => br_f (by decide) ⟨vp_in_nI hx (by omega), sg_give hk ⟨rfl, h1 _⟩⟩)
theorem sg_merge {post : Int32 → St1 → Prop} {k jx jy : Nat} {x y : Int32} (hk : k < 24) (hx : jx < 24) (hy : jy < 24) (ex : x = nI jx) (ey : y = nI jy) (h0 : post 0 (nI N, ar, hv, ch, kt, ov, nI T, lv, wt, a1, a2, a3, a4, a5, a6, a7, a8, a9, a10))
    (h1 : ∀ v, post 1 (nI N, ar, hv ||| ((1 : Int32) <<< (nI k &&& 31)), ch, kt, ov, nI T, lv, wt, a1, a2, a3, a4, a5, a6, upd a7 k v, a8, a9, a10)) : wpX_merge post (nI N, ar, hv, ch, kt, ov, nI T, lv, wt, a1, a2, a3, a4, a5, a6, a7, a8, a9, a10) (nI k) x y := by
  subst ex ey
  unfold wpX_merge
  dsimp only
  exact sg_has (by omega) (fun _ => br_t rfl (sg_merge35 hk hx hy rfl rfl h0 h1))
    (fun _ => br_f (by decide) (sg_has (by omega) (fun _ => br_t rfl (sg_merge35 hk hx hy rfl rfl h0 h1))
      (fun _ => br_f (by decide) ⟨vp_in_nI hx (by omega), vp_in_nI hy (by omega), sg_give hk ⟨rfl, h1 _⟩⟩)))
theorem sg_ev24 {post : Int32 → St1 → Prop} {k : Nat} (hk : k < 24) (h0 : post 0 (nI N, ar, hv, ch, kt, ov, nI T, lv, wt, a1, a2, a3, a4, a5, a6, a7, a8, a9, a10))
    (h1 : ∀ v, post 1 (nI N, ar, hv ||| ((1 : Int32) <<< (nI k &&& 31)), ch, kt, ov, nI T, lv, wt, a1, a2, a3, a4, a5, a6, upd a7 k v, a8, a9, a10)) : wX_lookAtEvent_24 post (nI k) (nI N) ar hv ch kt ov (nI T) lv wt a1 a2 a3 a4 a5 a6 a7 a8 a9 a10 :=
  sg_br k (by omega) (fun _ => h0) (fun _ => ⟨vp_in_nI hk (by omega), sg_give hk (br_f (by decide) (h1 _))⟩)
theorem sg_ev122 {post : Int32 → St1 → Prop} {k j : Nat} {z : Int32} (hk : k < 24) (hj : j < 24) (ez : z = nI j) (h0 : post 0 (nI N, ar, hv, ch, kt, ov, nI T, lv, wt, a1, a2, a3, a4, a5, a6, a7, a8, a9, a10))
    (h1 : ∀ v, post 1 (nI N, ar, hv ||| ((1 : Int32) <<< (nI k &&& 31)), ch, kt, ov, nI T, lv, wt, a1, a2, a3, a4, a5, a6, upd a7 k v, a8, a9, a10)) : wX_lookAtEvent_122 post (nI k) z (nI N) ar hv ch kt ov (nI T) lv wt a1 a2 a3 a4 a5 a6 a7 a8 a9 a10 := by
  subst ez
  unfold wX_lookAtEvent_122
  exact sg_has (by omega) (fun _ => br_t rfl h0) (fun _ => br_f (by decide) ⟨vp_in_nI hj (by omega), sg_give hk (br_f (by decide) (h1 _))⟩)
theorem sg_lookEv {post : Int32 → St1 → Prop} {k : Nat} (hk : k < 24) (ho : sg_ok N k (a1 k) (a2 k) (a3 k) (a4 k)) (hc : ¬ sg_cl (a1 k)) (h0 : post 0 (nI N, ar, hv, ch, kt, ov, nI T, lv, wt, a1, a2, a3, a4, a5, a6, a7, a8, a9, a10))
    (h1 : ∀ v, post 1 (nI N, ar, hv ||| ((1 : Int32) <<< (nI k &&& 31)), ch, kt, ov, nI T, lv, wt, a1, a2, a3, a4, a5, a6, upd a7 k v, a8, a9, a10)) : wpX_lookAtEvent post (nI N, ar, hv, ch, kt, ov, nI T, lv, wt, a1, a2, a3, a4, a5, a6, a7, a8, a9, a10) (nI k) := by
  have hck : (nI k).toNatClampNeg = k := nI_clamp (by omega)
  have hi : vp_in (nI k) 24 := vp_in_nI hk (by omega)
  obtain ⟨ox, _, oy, oz⟩ := ho
  have n4 : ¬ a1 k = 4 := fun z => hc (Or.inl z)
  unfold wpX_lookAtEvent
  dsimp only
  rw [hck]
  refine ⟨hi, fun t et => ⟨hi, fun x ex => ?_⟩⟩
  rw [← et] at ox oy oz n4
  refine br_c (fun _ => sg_ev24 hk h0 h1) (fun n0 => br_c (fun _ => sg_ev24 hk h0 h1) (fun n11 => ?_))
  obtain ⟨jx, hjx, ejx⟩ := ox n0 n4
  have e : x = nI jx := ex.trans ejx
  clear ex
  subst e
  have hjx' : jx < 24 := by omega
  have hix : vp_in (nI jx) 24 := vp_in_nI hjx' (by omega)
  refine br_c (fun _ => sg_br jx (by omega) (fun _ => h0) (fun _ => ⟨hix, sg_give hk (br_f (by decide) (h1 _))⟩)) (fun n9 => ?_)
  refine br_c (fun h10 => ?_) (fun n10 => ?_)
  · obtain ⟨jy, hjy, ejy⟩ := oy (Or.inr (Or.inr (Or.inr (Or.inr (Or.inl h10)))))
    obtain ⟨jz, hjz, ejz⟩ := oz (Or.inl h10)
    exact ⟨hix, br_c (fun _ => ⟨hi, sg_ev122 hk (show jz < 24 by omega) ejz h0 h1⟩) (fun _ => ⟨hi, sg_ev122 hk (show jy < 24 by omega) ejy h0 h1⟩)⟩
  refine br_c (fun h3 => ?_) (fun n3 => ?_)
  · obtain ⟨jy, hjy, ejy⟩ := oy (Or.inl h3)
    exact ⟨hi, sg_merge hk hjx' (show jy < 24 by omega) rfl ejy ⟨rfl, h0⟩ (fun v => ⟨rfl, h1 v⟩)⟩
  refine sg_has (by omega) (fun _ => br_t rfl h0) (fun _ => br_f (by decide) ⟨hix, fun v ev => ?_⟩)
  refine br_c (fun _ => ⟨hi, hi, sg_give hk ⟨rfl, h1 _⟩⟩) (fun n1 => ?_)
  refine br_c (fun _ => ⟨hi, br_c (fun _ => h0) (fun _ => sg_give hk (br_f (by decide) (h1 _)))⟩) (fun n2 => ?_)
  refine br_c (fun h5 => ?_) (fun n5 => ?_)
  · obtain ⟨jy, hjy, ejy⟩ := oy (Or.inr (Or.inl h5))
    exact ⟨hi, pk_in jy 24 (by omega) ejy, sg_give hk ⟨rfl, h1 _⟩⟩
  refine br_c (fun h7 => ?_) (fun n7 => ?_)
  · obtain ⟨jy, hjy, ejy⟩ := oy (Or.inr (Or.inr (Or.inr (Or.inl h7))))
    exact ⟨hi, pk_in jy 24 (by omega) ejy, br_c (fun _ => h0) (fun _ => sg_give hk (br_f (by decide) (h1 _)))⟩
  refine br_c (fun _ => ⟨hi, sg_give hk ⟨rfl, h1 _⟩⟩) (fun n8 => ?_)
  exact sg_br k (by omega) (fun _ => sg_give hk (br_f (by decide) (h1 _))) (fun _ => h0)
theorem sg_cellValue {post : Int32 → Prop} {j : Nat} {x p : Int32} (hj : j < 24) (ex : x = nI j) (h : ∀ v, post v) : wpX_cellValue post (nI N, ar, hv, ch, kt, ov, nI T, lv, wt, a1, a2, a3, a4, a5, a6, a7, a8, a9, a10) x p := by
  subst ex
  have hi : vp_in (nI j) 24 := vp_in_nI hj (by omega)
  exact br_c (fun _ => ⟨hi, h _⟩) (fun _ => sg_br j (by omega) (fun _ => ⟨hi, h _⟩) (fun _ => ⟨hi, h _⟩))
theorem sg_combined {post : Int32 → Prop} {M k : Nat} {p : Int32} (hk : k < 24) (ho : sg_ok M k (a1 k) (a2 k) (a3 k) (a4 k)) (hc : sg_cl (a1 k)) (n4 : ¬ a1 k = 4) (h : ∀ v, post v) : wpX_combined post (nI N, ar, hv, ch, kt, ov, nI T, lv, wt, a1, a2, a3, a4, a5, a6, a7, a8, a9, a10) (nI k) p := by
  have hck : (nI k).toNatClampNeg = k := nI_clamp (by omega)
  have hi : vp_in (nI k) 24 := vp_in_nI hk (by omega)
  obtain ⟨ox, _, oy, oz⟩ := ho
  have n0 : ¬ a1 k = 0 := by
    intro z
    rw [z] at hc
    rcases hc with w | w | w | w <;> exact absurd w (by decide)
  obtain ⟨jx, hjx, ejx⟩ := ox n0 n4
  unfold wpX_combined
  dsimp only
  rw [hck]
  refine ⟨hi, fun t et => ⟨hi, ?_⟩⟩
  rw [← et] at hc oy oz n4
  refine sg_cellValue (show jx < 24 by omega) ejx (fun v => ?_)
  refine br_c (fun _ => ⟨hi, hi, h _⟩) (fun n14 => br_c (fun h6 => ?_) (fun n6 => ?_))
  · obtain ⟨jy, hjy, ejy⟩ := oy (Or.inr (Or.inr (Or.inl h6)))
    exact ⟨hi, sg_cellValue (show jy < 24 by omega) ejy (fun v => h _)⟩
  · have h13 : t = 13 := by
      rcases hc with w | w | w | w
      · exact absurd w n4
      · exact absurd w n6
      · exact w
      · exact absurd w n14
    obtain ⟨jy, hjy, ejy⟩ := oy (Or.inr (Or.inr (Or.inr (Or.inr (Or.inr h13)))))
    obtain ⟨jz, hjz, ejz⟩ := oz (Or.inr h13)
    exact br_c (fun _ => ⟨hi, sg_cellValue (show jz < 24 by omega) ejz (fun v => h _)⟩) (fun _ => ⟨hi, sg_cellValue (show jy < 24 by omega) ejy (fun v => h _)⟩)
theorem sg_cell61 {post : Int32 → St1 → Prop} {k : Nat} {x : Int32} (hk : k < 24) (h0 : post 0 (nI N, ar, hv, ch, kt, ov, nI T, lv, wt, a1, a2, a3, a4, a5, a6, a7, a8, a9, a10)) (h1 : ∀ f a, post 1 (nI N, ar, hv, f, kt, ov, nI T, lv, wt, a1, a2, a3, a4, a5, a6, a7, a, a9, a10)) : wX_lookAtCell_61 post (nI k) x (nI N) ar hv ch kt ov (nI T) lv wt a1 a2 a3 a4 a5 a6 a7 a8 a9 a10 :=
  ⟨vp_in_nI hk (by omega), br_c (fun _ => h0) (fun _ => ⟨vp_in_nI hk (by omega), fun _ _ => fun _ _ => h1 _ _⟩)⟩
theorem sg_lookCell {post : Int32 → St1 → Prop} {k : Nat} (hN : N ≤ 24) (hk : k < 24) (ho : sg_ok N k (a1 k) (a2 k) (a3 k) (a4 k)) (hc : sg_cl (a1 k)) (h0 : post 0 (nI N, ar, hv, ch, kt, ov, nI T, lv, wt, a1, a2, a3, a4, a5, a6, a7, a8, a9, a10)) (h1 : ∀ f a, post 1 (nI N, ar, hv, f, kt, ov, nI T, lv, wt, a1, a2, a3, a4, a5, a6, a7, a, a9, a10)) : wpX_lookAtCell post (nI N, ar, hv, ch, kt, ov, nI T, lv, wt, a1, a2, a3, a4, a5, a6, a7, a8, a9, a10) (nI k) := by
  have hck : (nI k).toNatClampNeg = k := nI_clamp (by omega)
  have hi : vp_in (nI k) 24 := vp_in_nI hk (by omega)
  have h61 : ∀ x, wX_lookAtCell_61 post (nI k) x (nI N) ar hv ch kt ov (nI T) lv wt a1 a2 a3 a4 a5 a6 a7 a8 a9 a10 := fun x => sg_cell61 hk h0 h1
  unfold wpX_lookAtCell
  dsimp only
  rw [hck]
  refine ⟨hi, fun x ex => ⟨hi, br_c (fun h4 => ⟨hi, ?_⟩) (fun n4 => sg_combined hk ho hc n4 (fun v => h61 v))⟩⟩
  rcases ho.2.1 h4 with e | ⟨j, hj, e⟩
  · exact br_t (by rw [e]; decide) (h61 _)
  · refine br_f (by rw [e]; exact nI_pos (by omega)) ⟨hi, ?_⟩
    rw [e]
    exact sg_has (by omega) (fun _ => br_t rfl (h61 _)) (fun _ => br_f (by decide) ⟨hi, vp_in_nI (by omega) (by omega), fun v _ => h61 v⟩)
theorem sg_look40 {post : St1 → Prop} {k : Nat} {z : Int32} (hk : k < 24) (h : ∀ w, post (nI N, ar, hv, ch, kt, ov, nI T, lv, w, a1, a2, a3, a4, a5, a6, a7, a8, a9, a10)) : wX_look_40 post (nI k) z (nI N) ar hv ch kt ov (nI T) lv wt a1 a2 a3 a4 a5 a6 a7 a8 a9 a10 :=
  br_c (fun _ => h _) (fun _ => ⟨vp_in_nI hk (by omega), fun _ _ => h _⟩)
theorem sg_V_set {k : Nat} (hN : N ≤ 24) (hk : k < N) (h : sg_V N a1 hv) (hc : ¬ sg_cl (a1 k)) : sg_V N a1 (hv ||| ((1 : Int32) <<< (nI k &&& 31))) := by
  intro j hj hb
  rw [sg_set (by omega) (by omega), Bool.or_eq_true] at hb
  rcases hb with z | z
  · exact h j hj z
  · rw [of_decide_eq_true z]
    exact hc
theorem sg_look {post : St1 → Prop} {k : Nat} (g : sg_G N a1 a2 a3 a4) (hk : k < N) (hV : sg_V N a1 hv) (H : ∀ x y w a b, sg_V N a1 x → post (nI N, ar, x, y, kt, ov, nI T, lv, w, a1, a2, a3, a4, a5, a6, a, b, a9, a10)) : wpX_look post (nI N, ar, hv, ch, kt, ov, nI T, lv, wt, a1, a2, a3, a4, a5, a6, a7, a8, a9, a10) (nI k) := by
  have hN := g.1
  have hck : (nI k).toNatClampNeg = k := nI_clamp (by omega)
  have hk2 : k < 24 := by omega
  unfold wpX_look
  dsimp only
  rw [hck]
  refine fun w ew => ⟨vp_in_nI hk2 (by omega), sg_isCellKind (fun hc => br_f (by decide) ?_) (fun hc => br_t rfl ?_)⟩
  · exact sg_lookCell hN hk2 (g.2.1 k hk) hc (sg_look40 hk2 (fun w => H _ _ _ _ _ hV)) (fun f a => sg_look40 hk2 (fun w => H _ _ _ _ _ hV))
  · exact sg_lookEv hk2 (g.2.1 k hk) hc (sg_look40 hk2 (fun w => H _ _ _ _ _ hV)) (fun v => sg_look40 hk2 (fun w => H _ _ _ _ _ (sg_V_set hN hk hV hc)))
end
end
section
/-! ===== a transaction ===== -/
/-- how often: within 0..T, never at a cell, once at least where there is a value now -/
def sg_T (N T : Nat) (hv : Int32) (a1 a10 : Nat → Int32) : Prop :=
  ∀ k, k < N → ∃ t : Nat, t ≤ T ∧ a10 k = nI t ∧ (sg_cl (a1 k) → t = 0) ∧ (sg_bt hv k = true → ¬ sg_cl (a1 k) ∧ 1 ≤ t)
theorem sg_T_next {N T : Nat} {hv hv' : Int32} {a1 a10 b : Nat → Int32} (h : sg_T N T hv a1 a10) (hV : sg_V N a1 hv') (hb : ∀ k, k < N → b k = if sg_bt hv' k = true then a10 k + 1 else a10 k) : sg_T N (T + 1) hv' a1 b := by
  intro k hk
  obtain ⟨t, ht, e, hc, _⟩ := h k hk
  have hbk := hb k hk
  by_cases q : sg_bt hv' k = true
  · rw [if_pos q, e, nI_1] at hbk
    exact ⟨t + 1, by omega, hbk, fun z => absurd z (hV k hk q), fun _ => ⟨hV k hk q, by omega⟩⟩
  · rw [if_neg q, e] at hbk
    exact ⟨t, by omega, hbk, hc, fun z => absurd z q⟩
section
variable {N T : Nat} {ar hv ch kt ov lv wt : Int32} {a1 a2 a3 a4 a5 a6 a7 a8 a9 a10 : Nat → Int32}
theorem sg_keep {post : St1 → Prop} {k j : Nat} {e : Int32} (hk : k < 24) (hj : j < 24) (ee : e = nI j) (H : ∀ x a, post (nI N, ar, hv, ch, x, ov, nI T, lv, wt, a1, a2, a3, a4, a5, a6, a7, a8, a, a10)) : wpX_keep post (nI N, ar, hv, ch, kt, ov, nI T, lv, wt, a1, a2, a3, a4, a5, a6, a7, a8, a9, a10) (nI k) e := by
  subst ee
  unfold wpX_keep
  dsimp only
  exact sg_has (by omega) (fun _ => br_t rfl (fun _ _ => H _ _)) (fun _ => br_f (by decide) ⟨vp_in_nI hj (by omega), vp_in_nI hk (by omega), fun _ _ => fun _ _ => H _ _⟩)
theorem sg_fin141 {post : St1 → Prop} (g : sg_G N a1 a2 a3 a4) (H : ∀ x a, post (nI N, ar, hv, ch, x, ov, nI T, lv, wt, a1, a2, a3, a4, a5, a6, a7, a8, a, a10)) : ∃ n, wX_finish_141 post n 0 (nI N) ar hv ch kt ov (nI T) lv wt a1 a2 a3 a4 a5 a6 a7 a8 a9 a10 := by
  have hN := g.1
  exact pk_loop (fun n i (s : Int32 × (Nat → Int32)) => wX_finish_141 post n (nI i) (nI N) ar hv ch s.1 ov (nI T) lv wt a1 a2 a3 a4 a5 a6 a7 a8 s.2 a10) (fun _ _ => True) N 0 (kt, a9) (by omega) trivial
    (fun n s _ => pk_le N N (fun _ => H _ _) (fun z => absurd z (by omega)))
    (fun n i s hi _ hw => pk_le N i (fun z => absurd z (by omega)) (fun _ => ⟨vp_in_nI (by omega) (by omega), br_c (fun h11 => by
        rw [nI_clamp (show i < 2 ^ 31 by omega)] at h11 ⊢
        obtain ⟨j, hj, ej⟩ := (g.2.1 i hi).1 (by rw [h11]; decide) (by rw [h11]; decide)
        exact ⟨vp_in_nI (by omega) (by omega), sg_keep (by omega) (show j < 24 by omega) ej (fun x a => nm_r (nI_1 i) (hw (x, a) trivial))⟩)
      (fun _ => nm_r (nI_1 i) (hw s trivial))⟩))
theorem sg_fin109 {post : St1 → Prop} {J : Int32 → Int32 → Int32 → (Nat → Int32) → (Nat → Int32) → (Nat → Int32) → (Nat → Int32) → (Nat → Int32) → (Nat → Int32) → (Nat → Int32) → (Nat → Int32) → (Nat → Int32) → (Nat → Int32) → Prop} {k : Nat} {x y : Int32} (hk : k < 24)
    (H : ∀ o, J (nI (k + 1)) kt o a1 a2 a3 a4 a5 a6 a7 a8 a9 a10) : wX_finish_109 post J (nI k) x y (nI N) ar hv ch kt ov (nI T) lv wt a1 a2 a3 a4 a5 a6 a7 a8 a9 a10 := by
  unfold wX_finish_109
  exact br_c (fun _ => sg_has (by omega) (fun _ => br_t rfl (nm_r (nI_1 k) (H _))) (fun _ => br_f (by decide) (fun _ _ => nm_r (nI_1 k) (H _)))) (fun _ => nm_r (nI_1 k) (H _))
theorem sg_fin54 {post : St1 → Prop} {J : Int32 → Int32 → Int32 → (Nat → Int32) → (Nat → Int32) → (Nat → Int32) → (Nat → Int32) → (Nat → Int32) → (Nat → Int32) → (Nat → Int32) → (Nat → Int32) → (Nat → Int32) → (Nat → Int32) → Prop} {k : Nat} {x : Int32} (hk : k < 24)
    (H : ∀ q o a, J (nI (k + 1)) q o a1 a2 a3 a4 a5 a6 a7 a8 a a10) : wX_finish_54 post J (nI k) x (nI N) ar hv ch kt ov (nI T) lv wt a1 a2 a3 a4 a5 a6 a7 a8 a9 a10 := by
  unfold wX_finish_54
  have hi : vp_in (nI k) 24 := vp_in_nI hk (by omega)
  exact ⟨hi, fun t _ => br_c (fun _ => fun _ _ => nm_r (nI_1 k) (H _ _ _)) (fun _ => br_c (fun _ => sg_has (by omega) (fun _ => br_t rfl (sg_fin109 hk (fun o => H _ _ _)))
    (fun _ => br_f (by decide) ⟨hi, hi, fun _ _ => nm_r (nI_1 k) (H _ _ _)⟩)) (fun _ => sg_fin109 hk (fun o => H _ _ _)))⟩
theorem sg_fin35 {post : St1 → Prop} {J : Int32 → Int32 → Int32 → (Nat → Int32) → (Nat → Int32) → (Nat → Int32) → (Nat → Int32) → (Nat → Int32) → (Nat → Int32) → (Nat → Int32) → (Nat → Int32) → (Nat → Int32) → (Nat → Int32) → Prop} {k : Nat} {x : Int32} (hk : k < 24) (ex : x = (1 : Int32) <<< (nI k &&& 31))
    (H0 : sg_bt hv k = false → ∀ q o a, J (nI (k + 1)) q o a1 a2 a3 a4 a5 a6 a7 a8 a a10) (H1 : sg_bt hv k = true → ∀ q o a, J (nI (k + 1)) q o a1 a2 a3 a4 a5 a6 a7 a8 a (upd a10 k (a10 k + 1))) : wX_finish_35 post J (nI k) x (nI N) ar hv ch kt ov (nI T) lv wt a1 a2 a3 a4 a5 a6 a7 a8 a9 a10 := by
  unfold wX_finish_35
  have hi : vp_in (nI k) 24 := vp_in_nI hk (by omega)
  rw [nI_clamp (show k < 2 ^ 31 by omega)]
  exact sg_brm k (by omega) (fun h => sg_fin54 hk (H0 h)) (fun h => ⟨hi, hi, nm_e (sg_fin54 hk (H1 h))⟩) ex
theorem sg_finish {post : St1 → Prop} (g : sg_G N a1 a2 a3 a4) (H : ∀ q o a b d, (∀ k, k < N → d k = if sg_bt hv k = true then a10 k + 1 else a10 k) → post (nI N, ar, hv, ch, q, o, nI T, lv, wt, a1, a2, a3, a4, a5, a6, a, a8, b, d)) : wpX_finish post (nI N, ar, hv, ch, kt, ov, nI T, lv, wt, a1, a2, a3, a4, a5, a6, a7, a8, a9, a10) := by
  have hN := g.1
  unfold wpX_finish
  dsimp only
  have up0 : ∀ (s : Nat → Int32) (i : Nat), sg_bt hv i = false → (∀ k, k < N → s k = if k < i ∧ sg_bt hv k = true then a10 k + 1 else a10 k) → ∀ k, k < N → s k = if k < i + 1 ∧ sg_bt hv k = true then a10 k + 1 else a10 k := by
    intro s i hb hs k hk
    rw [hs k hk]
    by_cases e : k = i
    · subst e
      rw [if_neg (fun z => absurd z.1 (by omega)), if_neg (fun z => by have := z.2; rw [hb] at this; exact absurd this (by decide))]
    · by_cases e2 : k < i ∧ sg_bt hv k = true
      · rw [if_pos e2, if_pos ⟨by omega, e2.2⟩]
      · rw [if_neg e2, if_neg (fun z => e2 ⟨by omega, z.2⟩)]
  have up1 : ∀ (s : Nat → Int32) (i : Nat), i < N → sg_bt hv i = true → (∀ k, k < N → s k = if k < i ∧ sg_bt hv k = true then a10 k + 1 else a10 k) → ∀ k, k < N → upd s i (s i + 1) k = if k < i + 1 ∧ sg_bt hv k = true then a10 k + 1 else a10 k := by
    intro s i hi hb hs k hk
    by_cases e : k = i
    · subst e
      rw [pk_us, hs k hk, if_neg (fun z => absurd z.1 (by omega)), if_pos ⟨by omega, hb⟩]
    · rw [pk_un e, hs k hk]
      by_cases e2 : k < i ∧ sg_bt hv k = true
      · rw [if_pos e2, if_pos ⟨by omega, e2.2⟩]
      · rw [if_neg e2, if_neg (fun z => e2 ⟨by omega, z.2⟩)]
  exact pk_loop (fun n i (s : Int32 × Int32 × (Nat → Int32) × (Nat → Int32) × (Nat → Int32)) => wX_finish_2 post (nI N) ar hv ch (nI T) lv wt n (nI i) s.1 s.2.1 a1 a2 a3 a4 a5 a6 s.2.2.1 a8 s.2.2.2.1 s.2.2.2.2)
    (fun i s => ∀ k, k < N → s.2.2.2.2 k = if k < i ∧ sg_bt hv k = true then a10 k + 1 else a10 k) N 0 (kt, ov, a7, a9, a10) (by omega)
    (fun k hk => by rw [if_neg (fun z => absurd z.1 (by omega))])
    (fun n s h => pk_le N N (fun _ => sg_fin141 g (fun x a => H _ _ _ _ _ (fun k hk => by
      rw [h k hk]
      by_cases e : sg_bt hv k = true
      · rw [if_pos e, if_pos ⟨hk, e⟩]
      · rw [if_neg e, if_neg (fun z => e z.2)]))) (fun z => absurd z (by omega)))
    (fun n i s hi h hw => pk_le N i (fun z => absurd z (by omega)) (fun _ => nm_e (br_c
      (fun _ => sg_fin35 (by omega) rfl (fun hb q o a => hw (q, o, _, a, _) (up0 _ i hb h)) (fun hb q o a => hw (q, o, _, a, _) (up1 _ i hi hb h)))
      (fun _ => ⟨vp_in_nI (by omega) (by omega), vp_in_nI (by omega) (by omega), nm_e (sg_fin35 (by omega) rfl (fun hb q o a => hw (q, o, _, a, _) (up0 _ i hb h)) (fun hb q o a => hw (q, o, _, a, _) (up1 _ i hi hb h)))⟩))))
theorem sg_com154 {post : Int32 → St1 → Prop} (hN : N ≤ 24) (H : post (nI (sg_cn (sg_bt hv) N)) (nI N, ar, hv, ch, kt, ov, nI T, lv, wt, a1, a2, a3, a4, a5, a6, a7, a8, a9, a10)) : ∃ n, wX_commit_154 post (nI N) ar hv ch kt ov (nI T) lv wt a1 a2 a3 a4 a5 a6 a7 a8 a9 a10 n 0 0 :=
  pk_loop (σ := Unit) (fun n i _ => wX_commit_154 post (nI N) ar hv ch kt ov (nI T) lv wt a1 a2 a3 a4 a5 a6 a7 a8 a9 a10 n (nI (sg_cn (sg_bt hv) i)) (nI i)) (fun _ _ => True) N 0 () (by omega) trivial
    (fun n _ _ => pk_le N N (fun _ => H) (fun z => absurd z (by omega)))
    (fun n i _ hi _ hw => pk_le N i (fun z => absurd z (by omega)) (fun _ => sg_br i (by omega)
      (fun h0 => nm_r (nI_1 i) (by have t := hw () trivial; rw [sg_cn_f h0] at t; exact t))
      (fun h1 => nm_r (nI_1 _) (nm_r (nI_1 i) (by have t := hw () trivial; rw [sg_cn_t h1] at t; exact t)))))
theorem sg_com146 {post : Int32 → St1 → Prop} {hv0 : Int32} (g : sg_G N a1 a2 a3 a4) (hT : sg_T N T hv0 a1 a10) (hV : sg_V N a1 hv)
    (H : ∀ x1 x2 x3 x4 x5 b5 b6 b7 b8 b9 b10 x0, sg_T N (T + 1) x1 a1 b10 → post (nI (sg_cn (sg_bt x1) N)) (nI N, x0, x1, x2, x3, x4, nI (T + 1), lv, x5, a1, a2, a3, a4, b5, b6, b7, b8, b9, b10)) : wX_commit_146 post (nI N) ar hv ch kt ov (nI (T + 1)) lv wt a1 a2 a3 a4 a5 a6 a7 a8 a9 a10 := by
  unfold wX_commit_146
  exact sg_finish (T := T + 1) g (fun q o a b d hd => sg_com154 (T := T + 1) g.1 (H _ _ _ _ _ _ _ _ _ _ _ _ (sg_T_next hT hV hd)))
theorem sg_com100 {post : Int32 → St1 → Prop} {J : Int32 → Int32 → Int32 → Int32 → Int32 → Int32 → Int32 → Int32 → Int32 → Int32 → (Nat → Int32) → (Nat → Int32) → (Nat → Int32) → (Nat → Int32) → (Nat → Int32) → (Nat → Int32) → (Nat → Int32) → (Nat → Int32) → (Nat → Int32) → (Nat → Int32) → Prop} {h : Nat} (g : sg_G N a1 a2 a3 a4) (hV : sg_V N a1 hv)
    (H : ∀ x y w a b, sg_V N a1 x → J (nI (h + 1)) (nI N) ar x y kt ov (nI T) lv w a1 a2 a3 a4 a5 a6 a b a9 a10) : ∃ n, wX_commit_100 post J (nI h) n 0 (nI N) ar hv ch kt ov (nI T) lv wt a1 a2 a3 a4 a5 a6 a7 a8 a9 a10 := by
  have hN := g.1
  exact pk_loop (fun n i (s : Int32 × Int32 × Int32 × (Nat → Int32) × (Nat → Int32)) => wX_commit_100 post J (nI h) n (nI i) (nI N) ar s.1 s.2.1 kt ov (nI T) lv s.2.2.1 a1 a2 a3 a4 a5 a6 s.2.2.2.1 s.2.2.2.2 a9 a10)
    (fun _ s => sg_V N a1 s.1) N 0 (hv, ch, wt, a7, a8) (by omega) hV
    (fun n s hs => pk_le N N (fun _ => nm_r (nI_1 h) (H _ _ _ _ _ hs)) (fun z => absurd z (by omega)))
    (fun n i s hi hs hw => pk_le N i (fun z => absurd z (by omega)) (fun _ => sg_br i (by omega)
      (fun _ => nm_r (nI_1 i) (hw s hs))
      (fun _ => ⟨vp_in_nI (by omega) (by omega), br_c (fun _ => sg_look g hi hs (fun x y w a b hx => nm_r (nI_1 i) (hw (x, y, w, a, b) hx))) (fun _ => nm_r (nI_1 i) (hw s hs))⟩)))
theorem sg_com85 {post : Int32 → St1 → Prop} {hv0 : Int32} (g : sg_G N a1 a2 a3 a4) (hT : sg_T N T hv0 a1 a10) (hV : sg_V N a1 hv)
    (H : ∀ x1 x2 x3 x4 x5 b5 b6 b7 b8 b9 b10 x0, sg_T N (T + 1) x1 a1 b10 → post (nI (sg_cn (sg_bt x1) N)) (nI N, x0, x1, x2, x3, x4, nI (T + 1), lv, x5, a1, a2, a3, a4, b5, b6, b7, b8, b9, b10)) : ∃ n, wX_commit_85 post n 0 (nI N) ar hv ch kt ov (nI (T + 1)) lv wt a1 a2 a3 a4 a5 a6 a7 a8 a9 a10 :=
  pk_loop (fun n i (s : Int32 × Int32 × Int32 × (Nat → Int32) × (Nat → Int32)) => wX_commit_85 post n (nI i) (nI N) ar s.1 s.2.1 kt ov (nI (T + 1)) lv s.2.2.1 a1 a2 a3 a4 a5 a6 s.2.2.2.1 s.2.2.2.2 a9 a10)
    (fun _ s => sg_V N a1 s.1) 24 0 (hv, ch, wt, a7, a8) (by omega) hV
    (fun n s hs => pk_le 24 24 (fun _ => sg_com146 g hT hs H) (fun z => absurd z (by omega)))
    (fun n i s hi hs hw => pk_le 24 i (fun z => absurd z (by omega)) (fun _ => br_c (fun _ => sg_com146 g hT hs H)
      (fun _ => sg_com100 (T := T + 1) g hs (fun x y w a b hx => hw (x, y, w, a, b) hx))))
theorem sg_starts {post : Int32 → Prop} {k : Nat} (hk : k < 24) (h0 : post 0) (h1 : post 1) : wpX_startsByItself post (nI N, ar, hv, ch, kt, ov, nI T, lv, wt, a1, a2, a3, a4, a5, a6, a7, a8, a9, a10) (nI k) := by
  have h20 : wX_startsByItself_20 post (nI k) (nI N) ar hv ch kt ov (nI T) lv wt a1 a2 a3 a4 a5 a6 a7 a8 a9 a10 := br_c (fun _ => h0) (fun _ => h1)
  have hi : vp_in (nI k) 24 := vp_in_nI hk (by omega)
  exact ⟨hi, br_c (fun _ => h20) (fun _ => ⟨hi, br_c (fun _ => h20) (fun _ => h0)⟩)⟩
theorem sg_com49 {post : Int32 → St1 → Prop} {hv0 : Int32} (g : sg_G N a1 a2 a3 a4) (hT : sg_T N T hv0 a1 a10) (hV : sg_V N a1 hv)
    (H : ∀ x1 x2 x3 x4 x5 b5 b6 b7 b8 b9 b10 x0, sg_T N (T + 1) x1 a1 b10 → post (nI (sg_cn (sg_bt x1) N)) (nI N, x0, x1, x2, x3, x4, nI (T + 1), lv, x5, a1, a2, a3, a4, b5, b6, b7, b8, b9, b10)) : ∃ n, wX_commit_49 post (nI N) ar hv ch kt ov (nI (T + 1)) lv a1 a2 a3 a4 a5 a6 a7 a8 a9 a10 n 0 wt := by
  have hN := g.1
  exact pk_loop (fun n i (s : Int32) => wX_commit_49 post (nI N) ar hv ch kt ov (nI (T + 1)) lv a1 a2 a3 a4 a5 a6 a7 a8 a9 a10 n (nI i) s) (fun _ _ => True) N 0 wt (by omega) trivial
    (fun n s _ => pk_le N N (fun _ => sg_com85 g hT hV H) (fun z => absurd z (by omega)))
    (fun n i s hi _ hw => pk_le N i (fun z => absurd z (by omega)) (fun _ => sg_starts (T := T + 1) (by omega) (br_t rfl (nm_r (nI_1 i) (hw _ trivial))) (br_f (by decide) (fun _ _ => nm_r (nI_1 i) (hw _ trivial)))))
theorem sg_commit {post : Int32 → St1 → Prop} (g : sg_G N a1 a2 a3 a4) (hT : sg_T N T hv a1 a10)
    (H : ∀ x1 x2 x3 x4 x5 b5 b6 b7 b8 b9 b10 x0, sg_T N (T + 1) x1 a1 b10 → post (nI (sg_cn (sg_bt x1) N)) (nI N, x0, x1, x2, x3, x4, nI (T + 1), lv, x5, a1, a2, a3, a4, b5, b6, b7, b8, b9, b10)) : wpX_commit post (nI N, ar, hv, ch, kt, ov, nI T, lv, wt, a1, a2, a3, a4, a5, a6, a7, a8, a9, a10) := by
  have hV : sg_V N a1 0 := fun k _ h => sg_no0 h
  unfold wpX_commit
  dsimp only
  exact sg_arrange g (fun x a b => nm_r (nI_1 T) (br_c (fun _ => fun _ _ => sg_com49 g hT hV H) (fun _ => sg_com49 g hT hV H)))
end
end
section
/-! ===== the methods that change ===== -/
def sg_ev (N : Nat) (a1 : Nat → Int32) (p : Int32) : Prop := ∃ j, j < N ∧ p = nI j ∧ ¬ sg_cl (a1 j)
def sg_ce (N : Nat) (a1 : Nat → Int32) (p : Int32) : Prop := ∃ j, j < N ∧ p = nI j ∧ sg_cl (a1 j)
def sg_fit (N : Nat) (a1 : Nat → Int32) (t x y z : Int32) : Prop :=
  (t = 4 → x = -1 ∨ sg_ev N a1 x) ∧ (t = 3 → sg_ev N a1 x ∧ sg_ev N a1 y) ∧ (t = 5 ∨ t = 7 → sg_ev N a1 x ∧ sg_ce N a1 y) ∧ (t = 6 → sg_ce N a1 x ∧ sg_ce N a1 y) ∧
  (t = 10 → sg_ce N a1 x ∧ sg_ev N a1 y ∧ sg_ev N a1 z) ∧ (t = 13 → sg_ce N a1 x ∧ sg_ce N a1 y ∧ sg_ce N a1 z) ∧ (t = 9 ∨ t = 14 → sg_ce N a1 x) ∧
  (¬ t = 0 → ¬ t = 4 → ¬ t = 3 → ¬ t = 5 → ¬ t = 7 → ¬ t = 6 → ¬ t = 10 → ¬ t = 13 → ¬ t = 9 → ¬ t = 14 → sg_ev N a1 x)
theorem sg_ok_of {N : Nat} {t x y z : Int32} (h4 : ¬ t = 4) (hx : ∃ j, j < N ∧ x = nI j) (hy : (t = 3 ∨ t = 5 ∨ t = 6 ∨ t = 7 ∨ t = 10 ∨ t = 13) → ∃ j, j < N ∧ y = nI j) (hz : (t = 10 ∨ t = 13) → ∃ j, j < N ∧ z = nI j) : sg_ok N N t x y z :=
  ⟨fun _ _ => hx, fun e => absurd e h4, hy, hz⟩
theorem sg_ev_in {N : Nat} {a1 : Nat → Int32} {p : Int32} (h : sg_ev N a1 p) : ∃ j, j < N ∧ p = nI j := by
  obtain ⟨j, hj, e, _⟩ := h
  exact ⟨j, hj, e⟩
theorem sg_ce_in {N : Nat} {a1 : Nat → Int32} {p : Int32} (h : sg_ce N a1 p) : ∃ j, j < N ∧ p = nI j := by
  obtain ⟨j, hj, e, _⟩ := h
  exact ⟨j, hj, e⟩
section
variable {N T : Nat} {ar hv ch kt ov lv wt : Int32} {a1 a2 a3 a4 a5 a6 a7 a8 a9 a10 : Nat → Int32}
theorem sg_isEvent {post : Int32 → Prop} {p : Int32} (hN : N ≤ 24) (f : sg_ev N a1 p → post 1) (g : ¬ sg_ev N a1 p → post 0) : wpX_isEvent post (nI N, ar, hv, ch, kt, ov, nI T, lv, wt, a1, a2, a3, a4, a5, a6, a7, a8, a9, a10) p := by
  rcases sg_nd N p with h | ⟨j, hj, e⟩
  · exact sg_isEventF hN h (g (fun z => by
      obtain ⟨j, hj, e⟩ := sg_ev_in z
      exact h j hj e))
  · subst e
    exact sg_isEventT hN hj (fun h => f ⟨j, hj, rfl, h⟩) (fun h => g (fun z => by
      obtain ⟨i, hi, e, n⟩ := z
      have e2 := (nI_eq (by omega) (by omega)).mp e
      subst e2
      exact n h))
theorem sg_isCell {post : Int32 → Prop} {p : Int32} (hN : N ≤ 24) (f : sg_ce N a1 p → post 1) (g : ¬ sg_ce N a1 p → post 0) : wpX_isCell post (nI N, ar, hv, ch, kt, ov, nI T, lv, wt, a1, a2, a3, a4, a5, a6, a7, a8, a9, a10) p := by
  rcases sg_nd N p with h | ⟨j, hj, e⟩
  · exact sg_isCellF hN h (g (fun z => by
      obtain ⟨j, hj, e⟩ := sg_ce_in z
      exact h j hj e))
  · subst e
    exact sg_isCellT hN hj (fun h => f ⟨j, hj, rfl, h⟩) (fun h => g (fun z => by
      obtain ⟨i, hi, e, n⟩ := z
      have e2 := (nI_eq (by omega) (by omega)).mp e
      subst e2
      exact h n))
theorem sg_fit68 {post : Int32 → Prop} {x y : Int32} (hN : N ≤ 24) (f : sg_ev N a1 x → sg_ce N a1 y → post 1) (g : ¬ (sg_ev N a1 x ∧ sg_ce N a1 y) → post 0) : wX_operandsFit_68 post x y (nI N) ar hv ch kt ov (nI T) lv wt a1 a2 a3 a4 a5 a6 a7 a8 a9 a10 := by
  unfold wX_operandsFit_68
  exact sg_isEvent hN (fun h => br_f (by decide) (sg_isCell hN (fun h2 => br_f (by decide) (f h h2)) (fun h2 => br_t rfl (g (fun z => h2 z.2))))) (fun h => br_t rfl (g (fun z => h z.1)))
theorem sg_fit204 {post : Int32 → Prop} {x : Int32} (hN : N ≤ 24) (f : sg_ce N a1 x → post 1) (g : ¬ sg_ce N a1 x → post 0) : wX_operandsFit_204 post x (nI N) ar hv ch kt ov (nI T) lv wt a1 a2 a3 a4 a5 a6 a7 a8 a9 a10 := by
  unfold wX_operandsFit_204
  exact sg_isCell hN (fun h => ⟨rfl, f h⟩) (fun h => ⟨rfl, g h⟩)
theorem sg_operandsFit {post : Int32 → Prop} {t x y z : Int32} (hN : N ≤ 24) (f : sg_ok N N t x y z → post 1) (g : ¬ sg_fit N a1 t x y z → post 0) : wpX_operandsFit post (nI N, ar, hv, ch, kt, ov, nI T, lv, wt, a1, a2, a3, a4, a5, a6, a7, a8, a9, a10) t x y z := by
  unfold wpX_operandsFit
  dsimp only
  refine br_c (fun h0 => ?_) (fun n0 => ?_)
  · subst h0
    exact f ⟨fun h => absurd rfl h, fun h => absurd h (by decide), fun h => absurd h (by decide), fun h => absurd h (by decide)⟩
  refine br_c (fun h4 => ?_) (fun n4 => ?_)
  · refine br_c (fun hx => f ?_) (fun hx => sg_isEvent hN (fun h => br_f (by decide) (f ?_)) (fun h => br_t rfl (g (fun w => ?_))))
    · subst h4
      exact ⟨fun _ h => absurd rfl h, fun _ => Or.inl hx, fun h => absurd h (by decide), fun h => absurd h (by decide)⟩
    · subst h4
      exact ⟨fun _ h => absurd rfl h, fun _ => Or.inr (sg_ev_in h), fun h => absurd h (by decide), fun h => absurd h (by decide)⟩
    · rcases w.1 h4 with q | q
      · exact hx q
      · exact h q
  refine br_c (fun h3 => ?_) (fun n3 => ?_)
  · refine sg_isEvent hN (fun h => br_f (by decide) (sg_isEvent hN (fun h2 => br_f (by decide) (f (sg_ok_of n4 (sg_ev_in h) (fun _ => sg_ev_in h2) (fun q => ?_)))) (fun h2 => br_t rfl (g (fun w => h2 (w.2.1 h3).2))))) (fun h => br_t rfl (g (fun w => h (w.2.1 h3).1)))
    subst h3
    exact absurd q (by decide)
  refine br_c (fun h5 => ?_) (fun n5 => ?_)
  · refine sg_fit68 hN (fun h h2 => f (sg_ok_of n4 (sg_ev_in h) (fun _ => sg_ce_in h2) (fun q => ?_))) (fun h => g (fun w => h (w.2.2.1 (Or.inl h5))))
    subst h5
    exact absurd q (by decide)
  refine br_c (fun h7 => ?_) (fun n7 => ?_)
  · refine sg_fit68 hN (fun h h2 => f (sg_ok_of n4 (sg_ev_in h) (fun _ => sg_ce_in h2) (fun q => ?_))) (fun h => g (fun w => h (w.2.2.1 (Or.inr h7))))
    subst h7
    exact absurd q (by decide)
  refine br_c (fun h6 => ?_) (fun n6 => ?_)
  · refine sg_isCell hN (fun h => br_f (by decide) (sg_isCell hN (fun h2 => br_f (by decide) (f (sg_ok_of n4 (sg_ce_in h) (fun _ => sg_ce_in h2) (fun q => ?_)))) (fun h2 => br_t rfl (g (fun w => h2 (w.2.2.2.1 h6).2))))) (fun h => br_t rfl (g (fun w => h (w.2.2.2.1 h6).1)))
    subst h6
    exact absurd q (by decide)
  refine br_c (fun h10 => ?_) (fun n10 => ?_)
  · exact sg_isCell hN (fun h => br_f (by decide) (sg_isEvent hN (fun h2 => br_f (by decide) (sg_isEvent hN (fun h3 => br_f (by decide) (f (sg_ok_of n4 (sg_ce_in h) (fun _ => sg_ev_in h2) (fun _ => sg_ev_in h3))))
      (fun h3 => br_t rfl (g (fun w => h3 (w.2.2.2.2.1 h10).2.2))))) (fun h2 => br_t rfl (g (fun w => h2 (w.2.2.2.2.1 h10).2.1))))) (fun h => br_t rfl (g (fun w => h (w.2.2.2.2.1 h10).1)))
  refine br_c (fun h13 => ?_) (fun n13 => ?_)
  · exact sg_isCell hN (fun h => br_f (by decide) (sg_isCell hN (fun h2 => br_f (by decide) (sg_isCell hN (fun h3 => br_f (by decide) (f (sg_ok_of n4 (sg_ce_in h) (fun _ => sg_ce_in h2) (fun _ => sg_ce_in h3))))
      (fun h3 => br_t rfl (g (fun w => h3 (w.2.2.2.2.2.1 h13).2.2))))) (fun h2 => br_t rfl (g (fun w => h2 (w.2.2.2.2.2.1 h13).2.1))))) (fun h => br_t rfl (g (fun w => h (w.2.2.2.2.2.1 h13).1)))
  have ny : ¬ (t = 3 ∨ t = 5 ∨ t = 6 ∨ t = 7 ∨ t = 10 ∨ t = 13) := by
    intro w
    rcases w with w | w | w | w | w | w
    · exact n3 w
    · exact n5 w
    · exact n6 w
    · exact n7 w
    · exact n10 w
    · exact n13 w
  have nz : ¬ (t = 10 ∨ t = 13) := by
    intro w
    rcases w with w | w
    · exact n10 w
    · exact n13 w
  refine br_c (fun h9 => sg_fit204 hN (fun h => f (sg_ok_of n4 (sg_ce_in h) (fun q => absurd q ny) (fun q => absurd q nz))) (fun h => g (fun w => h (w.2.2.2.2.2.2.1 (Or.inl h9))))) (fun n9 => ?_)
  refine br_c (fun h14 => sg_fit204 hN (fun h => f (sg_ok_of n4 (sg_ce_in h) (fun q => absurd q ny) (fun q => absurd q nz))) (fun h => g (fun w => h (w.2.2.2.2.2.2.1 (Or.inr h14))))) (fun n14 => ?_)
  exact sg_isEvent hN (fun h => ⟨rfl, f (sg_ok_of n4 (sg_ev_in h) (fun q => absurd q ny) (fun q => absurd q nz))⟩) (fun h => ⟨rfl, g (fun w => h (w.2.2.2.2.2.2.2 n0 n4 n3 n5 n7 n6 n10 n13 n9 n14))⟩)
theorem sg_fireF {post : Int32 → St1 → Prop} {p v : Int32} (hN : N ≤ 24) (hp : sg_nn N p) (h : post 0 (nI N, ar, hv, ch, kt, ov, nI T, lv, wt, a1, a2, a3, a4, a5, a6, a7, a8, a9, a10)) : wpX_fire post (nI N, ar, hv, ch, kt, ov, nI T, lv, wt, a1, a2, a3, a4, a5, a6, a7, a8, a9, a10) p v := by
  unfold wpX_fire
  dsimp only
  exact sg_isNodeF hN hp (br_t rfl h)
theorem sg_fireT {post : Int32 → St1 → Prop} {k : Nat} {v : Int32} (hN : N ≤ 24) (hk : k < N) (h1 : a1 k = 0 → ∀ x a, post 1 (nI N, ar, hv, ch, x, ov, nI T, lv, wt, a1, a2, a3, a4, a5, a6, a7, a8, a, a10)) (h0 : ¬ a1 k = 0 → post 0 (nI N, ar, hv, ch, kt, ov, nI T, lv, wt, a1, a2, a3, a4, a5, a6, a7, a8, a9, a10)) : wpX_fire post (nI N, ar, hv, ch, kt, ov, nI T, lv, wt, a1, a2, a3, a4, a5, a6, a7, a8, a9, a10) (nI k) v := by
  have hi : vp_in (nI k) 24 := vp_in_nI (by omega) (by omega)
  unfold wpX_fire
  dsimp only
  rw [nI_clamp (show k < 2 ^ 31 by omega)]
  exact sg_isNodeT hN hk (br_f (by decide) ⟨hi, br_c (fun z => ⟨hi, fun _ _ => fun _ _ => h1 z _ _⟩) (fun z => h0 z)⟩)
theorem sg_tieF {post : Int32 → St1 → Prop} {p e : Int32} (hN : N ≤ 24) (hp : sg_nn N p) (h : post 0 (nI N, ar, hv, ch, kt, ov, nI T, lv, wt, a1, a2, a3, a4, a5, a6, a7, a8, a9, a10)) : wpX_tie post (nI N, ar, hv, ch, kt, ov, nI T, lv, wt, a1, a2, a3, a4, a5, a6, a7, a8, a9, a10) p e := by
  unfold wpX_tie
  dsimp only
  exact sg_isNodeF hN hp (br_t rfl h)
theorem sg_tie44 {post : Int32 → St1 → Prop} {k : Nat} {e : Int32} (hk : k < 24) (h : post 1 (nI N, 0, hv, ch, kt, ov, nI T, lv, wt, a1, upd a2 k e, a3, a4, a5, a6, a7, a8, a9, a10)) : wX_tie_44 post (nI k) e (nI N) ar hv ch kt ov (nI T) lv wt a1 a2 a3 a4 a5 a6 a7 a8 a9 a10 := by
  unfold wX_tie_44
  rw [nI_clamp (show k < 2 ^ 31 by omega)]
  exact ⟨vp_in_nI hk (by omega), nm_e h⟩
theorem sg_tieN {post : Int32 → St1 → Prop} {k : Nat} {e : Int32} (hN : N ≤ 24) (hk : k < N) (n4 : ¬ a1 k = 4) (h : post 0 (nI N, ar, hv, ch, kt, ov, nI T, lv, wt, a1, a2, a3, a4, a5, a6, a7, a8, a9, a10)) : wpX_tie post (nI N, ar, hv, ch, kt, ov, nI T, lv, wt, a1, a2, a3, a4, a5, a6, a7, a8, a9, a10) (nI k) e := by
  unfold wpX_tie
  dsimp only
  rw [nI_clamp (show k < 2 ^ 31 by omega)]
  exact sg_isNodeT hN hk (br_f (by decide) ⟨vp_in_nI (by omega) (by omega), br_f n4 h⟩)
theorem sg_tieM {post : Int32 → St1 → Prop} {k : Nat} (hN : N ≤ 24) (hk : k < N) (h4 : a1 k = 4) (h : post 1 (nI N, 0, hv, ch, kt, ov, nI T, lv, wt, a1, upd a2 k (-1), a3, a4, a5, a6, a7, a8, a9, a10)) : wpX_tie post (nI N, ar, hv, ch, kt, ov, nI T, lv, wt, a1, a2, a3, a4, a5, a6, a7, a8, a9, a10) (nI k) (-1) := by
  unfold wpX_tie
  dsimp only
  rw [nI_clamp (show k < 2 ^ 31 by omega)]
  exact sg_isNodeT hN hk (br_f (by decide) ⟨vp_in_nI (by omega) (by omega), br_t h4 (br_t rfl (sg_tie44 (by omega) h))⟩)
theorem sg_tieE {post : Int32 → St1 → Prop} {k : Nat} {e : Int32} (g : sg_G N a1 a2 a3 a4) (hk : k < N) (h4 : a1 k = 4) (he : ¬ e = -1) (h0 : ¬ sg_ev N a1 e → post 0 (nI N, ar, hv, ch, kt, ov, nI T, lv, wt, a1, a2, a3, a4, a5, a6, a7, a8, a9, a10))
    (h1 : ∀ j, j < N → e = nI j → ¬ sg_cl (a1 j) → sg_rc (sg_E N a1 a2 a3 a4) j k → post 0 (nI N, ar, hv, ch, kt, ov, nI T, lv, wt, a1, a2, a3, a4, a5, a6, a7, a8, a9, a10))
    (h2 : ∀ j, j < N → e = nI j → ¬ sg_cl (a1 j) → j ≠ k → ¬ sg_rc (sg_E N a1 a2 a3 a4) j k → post 1 (nI N, 0, hv, ch, kt, ov, nI T, lv, wt, a1, upd a2 k e, a3, a4, a5, a6, a7, a8, a9, a10)) : wpX_tie post (nI N, ar, hv, ch, kt, ov, nI T, lv, wt, a1, a2, a3, a4, a5, a6, a7, a8, a9, a10) (nI k) e := by
  have hN := g.1
  unfold wpX_tie
  dsimp only
  rw [nI_clamp (show k < 2 ^ 31 by omega)]
  refine sg_isNodeT hN hk (br_f (by decide) ⟨vp_in_nI (by omega) (by omega), br_t h4 (br_f he (sg_isEvent hN (fun h => br_f (by decide) ?_) (fun h => br_t rfl (h0 h))))⟩)
  obtain ⟨j, hj, e1, hc⟩ := h
  have hjk : j ≠ k := fun z => hc (Or.inl (by rw [z]; exact h4))
  subst e1
  exact sg_reaches g hj hk (fun z => br_f (by decide) (by
    rcases z with z | z
    · exact absurd z hjk
    · exact h1 j hj rfl hc z)) (fun _ z => br_t rfl (sg_tie44 (by omega) (h2 j hj rfl hc hjk z)))
theorem sg_level1 {post : Int32 → St1 → Prop} {x : Int32} (h : ∀ l, post 1 (nI N, ar, hv, ch, kt, ov, nI T, l, wt, a1, a2, a3, a4, a5, a6, a7, a8, a9, a10)) : wpX_level post (nI N, ar, hv, ch, kt, ov, nI T, lv, wt, a1, a2, a3, a4, a5, a6, a7, a8, a9, a10) (x &&& 1) := by
  obtain ⟨j, hj, e⟩ := pk_andE x (m := 1) 1 (by decide)
  rw [e]
  exact br_f (nI_pos (by omega)) (br_t (nI_le (b := 1) (by omega) (by omega)) (h _))
theorem sg_level2 {post : Int32 → St1 → Prop} (h : post 0 (nI N, ar, hv, ch, kt, ov, nI T, lv, wt, a1, a2, a3, a4, a5, a6, a7, a8, a9, a10)) : wpX_level post (nI N, ar, hv, ch, kt, ov, nI T, lv, wt, a1, a2, a3, a4, a5, a6, a7, a8, a9, a10) 2 :=
  br_f (by decide) (br_f (by decide) h)
theorem sg_forget {post : St1 → Prop} {p : Int32} (h : ∀ x y w, post (nI N, ar, hv &&& (((1 : Int32) <<< (p &&& 31)) ^^^ (-1)), x, y, w, nI T, lv, wt, a1, a2, a3, a4, a5, a6, a7, a8, a9, a10)) : wpX_forget post (nI N, ar, hv, ch, kt, ov, nI T, lv, wt, a1, a2, a3, a4, a5, a6, a7, a8, a9, a10) p := by
  unfold wpX_forget
  dsimp only
  exact nm_e (nm_e (fun _ _ => fun _ _ => fun _ _ => h _ _ _))
theorem sg_T_add {t : Int32} (hN : N < 24) (h : sg_T N T hv a1 a10) : sg_T (N + 1) T (hv &&& (((1 : Int32) <<< (nI N &&& 31)) ^^^ (-1))) (upd a1 N t) (upd a10 N 0) := by
  intro k hk
  rw [sg_clr (by omega) (by omega)]
  by_cases e : k = N
  · subst e
    rw [pk_us, pk_us]
    exact ⟨0, by omega, rfl, fun _ => rfl, fun z => by simp at z⟩
  · rw [pk_un e, pk_un e, decide_eq_false e, Bool.not_false, Bool.and_true]
    exact h k (by omega)
theorem sg_node118 {post : Int32 → St1 → Prop} {M : Nat} {t x5 z0 : Int32} (hM : M < 24) (ho : sg_ok M M t (a2 M) (a3 M) (a4 M)) (ht : a1 M = t) (h5 : x5 = nI M)
    (H : ∀ x y w a, post (nI M) (nI N, 0, hv &&& (((1 : Int32) <<< (nI M &&& 31)) ^^^ (-1)), x, y, w, nI T, lv, wt, a1, a2, a3, a4, a5, a6, a, a8, a9, a10)) : wX_node_118 post t x5 z0 x5 (nI N) ar hv ch kt ov (nI T) lv wt a1 a2 a3 a4 a5 a6 a7 a8 a9 a10 := by
  subst h5
  unfold wX_node_118
  have hi : vp_in (nI M) 24 := vp_in_nI hM (by omega)
  refine ⟨hi, fun b _ => sg_forget (fun x y w => sg_isCellKind (fun hc => br_f (by decide) (br_c (fun _ => H _ _ _ _) (fun n4 => ?_))) (fun _ => br_t rfl (H _ _ _ _)))⟩
  subst ht
  exact sg_combined hM ho hc n4 (fun v => ⟨hi, fun _ _ => H _ _ _ _⟩)
theorem sg_node {post : Int32 → St1 → Prop} {t x y z : Int32} (g : sg_G N a1 a2 a3 a4) (hT : sg_T N T hv a1 a10) (Hf : N = 24 → post (-2) (nI N, ar, hv, ch, kt, ov, nI T, lv, wt, a1, a2, a3, a4, a5, a6, a7, a8, a9, a10))
    (Hb : N < 24 → ¬ ((∃ k, k < 15 ∧ t = nI k) ∧ sg_fit N a1 t x y z) → post (-1) (nI N, ar, hv, ch, kt, ov, nI T, lv, wt, a1, a2, a3, a4, a5, a6, a7, a8, a9, a10))
    (Ho : N < 24 → (∃ k, k < 15 ∧ t = nI k) → ∀ v f q w b d, sg_G (N + 1) (upd a1 N t) (upd a2 N x) (upd a3 N y) (upd a4 N z) → sg_T (N + 1) T v (upd a1 N t) (upd a10 N 0) →
      post (nI N) (nI (N + 1), 0, v, f, q, w, nI T, lv, wt, upd a1 N t, upd a2 N x, upd a3 N y, upd a4 N z, a5, a6, b, a8, d, upd a10 N 0)) : wpX_node post (nI N, ar, hv, ch, kt, ov, nI T, lv, wt, a1, a2, a3, a4, a5, a6, a7, a8, a9, a10) t x y z := by
  have hN := g.1
  unfold wpX_node
  dsimp only
  refine pk_lt N 24 (fun hl => ?_) (fun hl => Hf (by omega))
  have hi : vp_in (nI N) 24 := vp_in_nI hl (by omega)
  refine br_c (fun h => Hb hl (fun w => ?_)) (fun h => br_c (fun h2 => Hb hl (fun w => ?_)) (fun h2 => ?_))
  · obtain ⟨⟨k, hk, e⟩, _⟩ := w
    rw [e] at h
    exact nI_pos (by omega) h
  · obtain ⟨⟨k, hk, e⟩, _⟩ := w
    rw [e] at h2
    exact nI_nlt (b := k) (a := 14) (by omega) (by omega) h2
  have hk : ∃ k, k < 15 ∧ t = nI k := by
    obtain ⟨k, hk, e⟩ := nI_of h
    refine ⟨k, ?_, e⟩
    rw [e] at h2
    rcases Nat.lt_or_ge k 15 with w | w
    · exact w
    · exact absurd (nI_lt (a := 14) (b := k) (by omega) hk) h2
  refine sg_operandsFit hN (fun ho => br_f (by decide) ?_) (fun hn => br_t rfl (Hb hl (fun w => hn w.2)))
  have et : t.toInt8.toInt32 = t := by
    obtain ⟨k, hk, e⟩ := hk
    rw [e]
    exact sg_i8 k (by omega)
  rw [nI_clamp (show N < 2 ^ 31 by omega), et]
  have key : ∀ z0 : Int32, wX_node_118 post t (nI N) z0 (nI N) (nI (N + 1)) ar hv ch kt ov (nI T) lv wt (upd a1 N t) (upd a2 N x) (upd a3 N y) (upd a4 N z) a5 a6 a7 a8 (upd a9 N 0) (upd a10 N 0) := fun z0 =>
    sg_node118 (N := N + 1) hl (by rw [pk_us, pk_us, pk_us]; exact ho) pk_us rfl (fun p q w a => Ho hl hk _ _ _ _ _ _ (sg_G_add g hl ho) (sg_T_add hl hT))
  exact nm_r (nI_1 N) ⟨hi, nm_e ⟨hi, nm_e ⟨hi, nm_e ⟨hi, nm_e ⟨hi, nm_e ⟨hi, nm_e (br_c (fun _ => key _) (fun _ => key _))⟩⟩⟩⟩⟩⟩
theorem sg_T_ret (hN : N < 24) (h : sg_T (N + 1) T hv a1 a10) : sg_T N T (hv &&& (((1 : Int32) <<< (nI N &&& 31)) ^^^ (-1))) a1 a10 := by
  intro k hk
  rw [sg_clr (by omega) (by omega), decide_eq_false (show ¬ k = N by omega), Bool.not_false, Bool.and_true]
  exact h k (by omega)
theorem sg_retract0 {post : Int32 → St1 → Prop} (h : post (-1) (nI 0, ar, hv, ch, kt, ov, nI T, lv, wt, a1, a2, a3, a4, a5, a6, a7, a8, a9, a10)) : wpX_retract post (nI 0, ar, hv, ch, kt, ov, nI T, lv, wt, a1, a2, a3, a4, a5, a6, a7, a8, a9, a10) :=
  br_t rfl h
theorem sg_retract {post : Int32 → St1 → Prop} (g : sg_G (N + 1) a1 a2 a3 a4) (hT : sg_T (N + 1) T hv a1 a10)
    (H : ∀ v f q w b, sg_G N a1 b a3 a4 → sg_T N T v a1 a10 → post (nI N) (nI N, 0, v, f, q, w, nI T, lv, wt, a1, b, a3, a4, a5, a6, a7, a8, a9, a10)) : wpX_retract post (nI (N + 1), ar, hv, ch, kt, ov, nI T, lv, wt, a1, a2, a3, a4, a5, a6, a7, a8, a9, a10) := by
  have hN := g.1
  unfold wpX_retract
  dsimp only
  refine br_f (nI_ne0 (by omega) (by omega)) (nm_r (nI_pred N) ?_)
  exact pk_loop (fun n i s => wX_retract_21 post (nI N) ar hv ch kt ov (nI T) lv wt n (nI i) a1 s a3 a4 a5 a6 a7 a8 a9 a10)
    (fun i s => ∀ k, k < N → (k < i → (s k = a2 k ∧ ¬ (a1 k = 4 ∧ a2 k = nI N)) ∨ (a1 k = 4 ∧ s k = -1)) ∧ (¬ k < i → s k = a2 k)) N 0 a2 (by omega)
    (fun k _ => ⟨fun z => absurd z (by omega), fun _ => rfl⟩)
    (fun n s h => pk_le N N (fun _ => sg_forget (fun x y w => H _ _ _ _ _ (sg_G_ret g (fun k hk => (h k hk).1 hk)) (sg_T_ret (by omega) hT))) (fun z => absurd z (by omega)))
    (fun n i s hi h hw => pk_le N i (fun z => absurd z (by omega)) (fun _ => by
      have hin : vp_in (nI i) 24 := vp_in_nI (by omega) (by omega)
      have esi : s i = a2 i := (h i hi).2 (by omega)
      have keep : ¬ (a1 i = 4 ∧ a2 i = nI N) → ∀ k, k < N → (k < i + 1 → (s k = a2 k ∧ ¬ (a1 k = 4 ∧ a2 k = nI N)) ∨ (a1 k = 4 ∧ s k = -1)) ∧ (¬ k < i + 1 → s k = a2 k) := by
        intro hn k hk
        refine ⟨fun z => ?_, fun z => (h k hk).2 (by omega)⟩
        by_cases e : k = i
        · subst e
          exact Or.inl ⟨esi, hn⟩
        · exact (h k hk).1 (by omega)
      rw [nI_clamp (show i < 2 ^ 31 by omega)]
      refine ⟨hin, br_c (fun h4 => ⟨hin, br_c (fun e => ⟨hin, nm_e (nm_r (nI_1 i) (hw _ (fun k hk => ?_)))⟩) (fun e => nm_r (nI_1 i) (hw s (keep (fun z => e (esi.trans z.2)))))⟩) (fun n4 => nm_r (nI_1 i) (hw s (keep (fun z => n4 z.1))))⟩
      by_cases q : k = i
      · subst q
        rw [pk_us]
        exact ⟨fun _ => Or.inr ⟨h4, rfl⟩, fun z => absurd (show k < k + 1 by omega) z⟩
      · rw [pk_un q]
        exact ⟨fun z => (h k hk).1 (by omega), fun z => (h k hk).2 (by omega)⟩))
end
end
section
/-! ===== the law's own methods ===== -/
/-- one step of sum -/
def sg_st (N : Nat) (hv : Int32) (a1 a7 a10 : Nat → Int32) (k : Nat) (x : Int32) : Int32 :=
  if k < N then
    (if a1 k = 4 ∨ a1 k = 6 ∨ a1 k = 13 ∨ a1 k = 14 then ((((31 * x) + a7 k) + (3 * a10 k)) + (5 * 2)) + 0
     else if sg_bt hv k = true then ((((31 * x) + a7 k) + (3 * a10 k)) + (5 * 1)) + 7
     else ((((31 * x) + 0) + (3 * a10 k)) + (5 * 1)) + 0)
  else ((((31 * x) + 0) + (3 * (-1))) + (5 * (-1))) + 0
def sg_sum (N T : Nat) (hv : Int32) (a1 a7 a10 : Nat → Int32) : Nat → Int32
  | 0 => nI T
  | i + 1 => sg_st N hv a1 a7 a10 i (sg_sum N T hv a1 a7 a10 i)
def sg_pe (N : Nat) (a1 : Nat → Int32) (p : Int32) : Prop := sg_ev N a1 p ∨ (p = -1 ∧ ∀ j, j < N → sg_cl (a1 j))
def sg_pc (N : Nat) (a1 : Nat → Int32) (p : Int32) : Prop := sg_ce N a1 p ∨ (p = -1 ∧ ∀ j, j < N → ¬ sg_cl (a1 j))
theorem sg_pe2 {N : Nat} {a1 : Nat → Int32} {p q : Int32} (hp : sg_pe N a1 p) (hq : sg_pe N a1 q) (h : 0 ≤ p) : sg_ev N a1 p ∧ sg_ev N a1 q := by
  rcases hp with hp | ⟨e, _⟩
  · refine ⟨hp, ?_⟩
    rcases hq with hq | ⟨_, n⟩
    · exact hq
    · obtain ⟨j, hj, _, nj⟩ := hp
      exact absurd (n j hj) nj
  · rw [e] at h
    exact absurd h (by decide)
theorem sg_pc2 {N : Nat} {a1 : Nat → Int32} {p q : Int32} (hp : sg_pc N a1 p) (hq : sg_pc N a1 q) (h : 0 ≤ p) : sg_ce N a1 p ∧ sg_ce N a1 q := by
  rcases hp with hp | ⟨e, _⟩
  · refine ⟨hp, ?_⟩
    rcases hq with hq | ⟨_, n⟩
    · exact hq
    · obtain ⟨j, hj, _, nj⟩ := hp
      exact absurd nj (n j hj)
  · rw [e] at h
    exact absurd h (by decide)
section
variable {N T : Nat} {ar hv ch kt ov lv wt : Int32} {a1 a2 a3 a4 a5 a6 a7 a8 a9 a10 : Nat → Int32}
theorem sg_fit0 {x y z : Int32} : sg_fit N a1 0 x y z :=
  ⟨fun h => absurd h (by decide), fun h => absurd h (by decide), fun h => absurd h (by decide), fun h => absurd h (by decide), fun h => absurd h (by decide), fun h => absurd h (by decide), fun h => absurd h (by decide), fun h => absurd rfl h⟩
theorem sg_fit4 {x y z : Int32} (h : x = -1 ∨ sg_ev N a1 x) : sg_fit N a1 4 x y z :=
  ⟨fun _ => h, fun h => absurd h (by decide), fun h => absurd h (by decide), fun h => absurd h (by decide), fun h => absurd h (by decide), fun h => absurd h (by decide), fun h => absurd h (by decide), fun _ h => absurd rfl h⟩
theorem sg_fit3 {x y z : Int32} (hx : sg_ev N a1 x) (hy : sg_ev N a1 y) : sg_fit N a1 3 x y z :=
  ⟨fun h => absurd h (by decide), fun _ => ⟨hx, hy⟩, fun h => absurd h (by decide), fun h => absurd h (by decide), fun h => absurd h (by decide), fun h => absurd h (by decide), fun h => absurd h (by decide), fun _ _ h => absurd rfl h⟩
theorem sg_fit57 {t x y z : Int32} (ht : t = 5 ∨ t = 7) (hx : sg_ev N a1 x) (hy : sg_ce N a1 y) : sg_fit N a1 t x y z := by
  rcases ht with e | e
  · subst e
    exact ⟨fun h => absurd h (by decide), fun h => absurd h (by decide), fun _ => ⟨hx, hy⟩, fun h => absurd h (by decide), fun h => absurd h (by decide), fun h => absurd h (by decide), fun h => absurd h (by decide), fun _ _ _ h => absurd rfl h⟩
  · subst e
    exact ⟨fun h => absurd h (by decide), fun h => absurd h (by decide), fun _ => ⟨hx, hy⟩, fun h => absurd h (by decide), fun h => absurd h (by decide), fun h => absurd h (by decide), fun h => absurd h (by decide), fun _ _ _ _ h => absurd rfl h⟩
theorem sg_fit69 {t x y z : Int32} (ht : t = 6 ∨ t = 9 ∨ t = 13) (hx : sg_ce N a1 x) (hy : sg_ce N a1 y) (hz : sg_ce N a1 z) : sg_fit N a1 t x y z := by
  rcases ht with e | e | e
  · subst e
    exact ⟨fun h => absurd h (by decide), fun h => absurd h (by decide), fun h => absurd h (by decide), fun _ => ⟨hx, hy⟩, fun h => absurd h (by decide), fun h => absurd h (by decide), fun h => absurd h (by decide), fun _ _ _ _ _ h => absurd rfl h⟩
  · subst e
    exact ⟨fun h => absurd h (by decide), fun h => absurd h (by decide), fun h => absurd h (by decide), fun h => absurd h (by decide), fun h => absurd h (by decide), fun h => absurd h (by decide), fun _ => hx, fun _ _ _ _ _ _ _ _ h => absurd rfl h⟩
  · subst e
    exact ⟨fun h => absurd h (by decide), fun h => absurd h (by decide), fun h => absurd h (by decide), fun h => absurd h (by decide), fun h => absurd h (by decide), fun _ => ⟨hx, hy, hz⟩, fun h => absurd h (by decide), fun _ _ _ _ _ _ _ h => absurd rfl h⟩
theorem sg_fit10 {x y z : Int32} (hx : sg_ce N a1 x) (hy : sg_ev N a1 y) (hz : sg_ev N a1 z) : sg_fit N a1 10 x y z :=
  ⟨fun h => absurd h (by decide), fun h => absurd h (by decide), fun h => absurd h (by decide), fun h => absurd h (by decide), fun _ => ⟨hx, hy, hz⟩, fun h => absurd h (by decide), fun h => absurd h (by decide), fun _ _ _ _ _ _ h => absurd rfl h⟩
theorem sg_fit14 {x y z : Int32} (hx : sg_ce N a1 x) : sg_fit N a1 14 x y z :=
  ⟨fun h => absurd h (by decide), fun h => absurd h (by decide), fun h => absurd h (by decide), fun h => absurd h (by decide), fun h => absurd h (by decide), fun h => absurd h (by decide), fun _ => hx, fun _ _ _ _ _ _ _ _ _ h => absurd rfl h⟩
theorem sg_fitE {t x y z : Int32} (hx : ¬ t = 0 → sg_ev N a1 x) (n3 : ¬ t = 3) (n4 : ¬ t = 4) (n5 : ¬ t = 5) (n7 : ¬ t = 7) (n6 : ¬ t = 6) (n9 : ¬ t = 9) (n13 : ¬ t = 13) (n10 : ¬ t = 10) (n14 : ¬ t = 14) : sg_fit N a1 t x y z :=
  ⟨fun h => absurd h n4, fun h => absurd h n3, fun h => absurd h (fun w => by rcases w with w | w; exact n5 w; exact n7 w), fun h => absurd h n6, fun h => absurd h n10, fun h => absurd h n13, fun h => absurd h (fun w => by rcases w with w | w; exact n9 w; exact n14 w), fun h _ _ _ _ _ _ _ _ _ => hx h⟩
theorem sg_sumL {post : Int32 → Prop} (hN : N ≤ 24) (h : post (sg_sum N T hv a1 a7 a10 24)) : wpL_sum post (nI N, ar, hv, ch, kt, ov, nI T, lv, wt, a1, a2, a3, a4, a5, a6, a7, a8, a9, a10) := by
  unfold wpL_sum
  dsimp only
  exact pk_loop (σ := Unit) (fun n i _ => wL_sum_7 post (nI N) ar hv ch kt ov (nI T) lv wt a1 a2 a3 a4 a5 a6 a7 a8 a9 a10 n (sg_sum N T hv a1 a7 a10 i) (nI i)) (fun _ _ => True) 24 0 () (by omega) trivial
    (fun n _ _ => pk_le 24 24 (fun _ => h) (fun z => absurd z (by omega)))
    (fun n i _ hi _ hw => pk_le 24 i (fun z => absurd z (by omega)) (fun _ => by
      have t := hw () trivial
      have e : sg_sum N T hv a1 a7 a10 (i + 1) = sg_st N hv a1 a7 a10 i (sg_sum N T hv a1 a7 a10 i) := rfl
      rw [e] at t
      unfold sg_st at t
      by_cases hiN : i < N
      · rw [if_pos hiN] at t
        by_cases hc : sg_cl (a1 i)
        · rw [if_pos (show a1 i = 4 ∨ a1 i = 6 ∨ a1 i = 13 ∨ a1 i = 14 from hc)] at t
          exact sg_valueT hN hiN (fun z => absurd hc z) (fun _ => sg_timesT hN hiN (sg_sortT hN hiN (fun _ => sg_hadT hN hiN (fun z => absurd hc z) (fun _ => br_t rfl (nm_e (nm_r (nI_1 i) t)))) (fun z => absurd hc z)))
        · rw [if_neg (show ¬ (a1 i = 4 ∨ a1 i = 6 ∨ a1 i = 13 ∨ a1 i = 14) from hc)] at t
          by_cases hb : sg_bt hv i = true
          · rw [if_pos hb] at t
            exact sg_valueT hN hiN (fun _ z => by rw [hb] at z; exact absurd z (by decide)) (fun _ => sg_timesT hN hiN (sg_sortT hN hiN (fun z => absurd z hc) (fun _ => sg_hadT hN hiN (fun _ _ => br_f (by decide) (nm_e (nm_r (nI_1 i) t))) (fun z => by
              rcases z with z | z
              · exact absurd z hc
              · rw [hb] at z
                exact absurd z (by decide)))))
          · rw [if_neg hb] at t
            exact sg_valueT hN hiN (fun _ _ => sg_timesT hN hiN (sg_sortT hN hiN (fun z => absurd z hc) (fun _ => sg_hadT hN hiN (fun _ z => absurd z hb) (fun _ => br_t rfl (nm_e (nm_r (nI_1 i) t)))))) (fun z => by
              rcases z with z | z
              · exact absurd z hc
              · exact absurd z hb)
      · rw [if_neg hiN] at t
        have nn : sg_nn N (nI i) := sg_nnN hN (by omega) (by omega)
        exact sg_valueF hN nn (sg_timesF hN nn (sg_sortF hN nn (sg_hadF hN nn (br_t rfl (nm_e (nm_r (nI_1 i) t))))))))
theorem sg_pickL {post : Int32 → Prop} {f : Nat} {s : Int32} (Q : Nat → Prop) (hN : N ≤ 24) (hf : f < N)
    (hs : ∀ j, j < N → ∀ P : Int32 → Prop, (Q j → P s) → (¬ Q j → ∀ r, ¬ r = s → P r) → wpX_sort P (nI N, ar, hv, ch, kt, ov, nI T, lv, wt, a1, a2, a3, a4, a5, a6, a7, a8, a9, a10) (nI j))
    (H1 : ∀ j, j < N → Q j → post (nI j)) (H0 : (∀ j, j < N → ¬ Q j) → post (-1)) : wpL_pick post (nI N, ar, hv, ch, kt, ov, nI T, lv, wt, a1, a2, a3, a4, a5, a6, a7, a8, a9, a10) (nI N) (nI f) s := by
  have n0 : ¬ nI N = 0 := nI_ne0 (by omega) (by omega)
  unfold wpL_pick
  dsimp only
  exact pk_loop (σ := Unit) (fun n i _ => wL_pick_3 post (nI N) (nI f) s (nI N) ar hv ch kt ov (nI T) lv wt a1 a2 a3 a4 a5 a6 a7 a8 a9 a10 n (nI i)) (fun i _ => ∀ k, k < i → ¬ Q ((f + k) % N)) N 0 () (by omega) (fun k hk => absurd hk (by omega))
    (fun n _ h => pk_le N N (fun _ => H0 (fun j hj => by
      by_cases e : f ≤ j
      · have t := h (j - f) (by omega)
        rw [show f + (j - f) = j by omega, Nat.mod_eq_of_lt hj] at t
        exact t
      · have t := h (j + N - f) (by omega)
        rw [show f + (j + N - f) = j + N by omega, Nat.add_mod_right, Nat.mod_eq_of_lt hj] at t
        exact t)) (fun z => absurd z (by omega)))
    (fun n i _ hi h hw => pk_le N i (fun z => absurd z (by omega)) (fun _ => by
      have hj : (f + i) % N < N := Nat.mod_lt _ (by omega)
      rw [nI_add, pk_rem (by omega) (by omega) (by omega)]
      exact ⟨n0, hs _ hj _ (fun q => br_t rfl ⟨n0, H1 _ hj q⟩) (fun q r hr => br_f hr (nm_r (nI_1 i) (hw () (fun k hk => by
        by_cases e : k = i
        · subst e
          exact q
        · exact h k (by omega)))))⟩))
theorem sg_pick1 {post : Int32 → Prop} {f : Nat} (hN : N ≤ 24) (hf : f < N) (H : ∀ p, sg_pe N a1 p → post p) : wpL_pick post (nI N, ar, hv, ch, kt, ov, nI T, lv, wt, a1, a2, a3, a4, a5, a6, a7, a8, a9, a10) (nI N) (nI f) 1 :=
  sg_pickL (fun j => ¬ sg_cl (a1 j)) hN hf (fun j hj P p1 p2 => sg_sortT hN hj (fun h => p2 (fun z => z h) 2 (by decide)) (fun h => p1 h))
    (fun j hj q => H _ (Or.inl ⟨j, hj, rfl, q⟩)) (fun h => H _ (Or.inr ⟨rfl, fun j hj => Classical.byContradiction (fun z => h j hj z)⟩))
theorem sg_pick2 {post : Int32 → Prop} {f : Nat} (hN : N ≤ 24) (hf : f < N) (H : ∀ p, sg_pc N a1 p → post p) : wpL_pick post (nI N, ar, hv, ch, kt, ov, nI T, lv, wt, a1, a2, a3, a4, a5, a6, a7, a8, a9, a10) (nI N) (nI f) 2 :=
  sg_pickL (fun j => sg_cl (a1 j)) hN hf (fun j hj P p1 p2 => sg_sortT hN hj (fun h => p1 h) (fun h => p2 h 1 (by decide)))
    (fun j hj q => H _ (Or.inl ⟨j, hj, rfl, q⟩)) (fun h => H _ (Or.inr ⟨rfl, h⟩))
theorem sg_nodeOK {post : Int32 → St1 → Prop} {t x y z : Int32} (g : sg_G N a1 a2 a3 a4) (hT : sg_T N T hv a1 a10) (ht : ∃ k, k < 15 ∧ t = nI k) (hfit : sg_fit N a1 t x y z) (Hf : N = 24 → post (-2) (nI N, ar, hv, ch, kt, ov, nI T, lv, wt, a1, a2, a3, a4, a5, a6, a7, a8, a9, a10))
    (Ho : N < 24 → ∀ t x y z v f q w b d, sg_G (N + 1) (upd a1 N t) (upd a2 N x) (upd a3 N y) (upd a4 N z) → sg_T (N + 1) T v (upd a1 N t) (upd a10 N 0) →
      post (nI N) (nI (N + 1), 0, v, f, q, w, nI T, lv, wt, upd a1 N t, upd a2 N x, upd a3 N y, upd a4 N z, a5, a6, b, a8, d, upd a10 N 0)) : wpX_node post (nI N, ar, hv, ch, kt, ov, nI T, lv, wt, a1, a2, a3, a4, a5, a6, a7, a8, a9, a10) t x y z :=
  sg_node g hT Hf (fun _ h => absurd ⟨ht, hfit⟩ h) (fun hl _ v f q w b d hG hT' => Ho hl _ _ _ _ _ _ _ _ _ _ hG hT')
theorem sg_made {post : Int32 → St1 → Prop} {p1 p2 p3 : Int32} (g : sg_G N a1 a2 a3 a4) (hT : sg_T N T hv a1 a10) (Hf : N = 24 → post (-2) (nI N, ar, hv, ch, kt, ov, nI T, lv, wt, a1, a2, a3, a4, a5, a6, a7, a8, a9, a10))
    (Ho : N < 24 → ∀ t x y z v f q w b d, sg_G (N + 1) (upd a1 N t) (upd a2 N x) (upd a3 N y) (upd a4 N z) → sg_T (N + 1) T v (upd a1 N t) (upd a10 N 0) →
      post (nI N) (nI (N + 1), 0, v, f, q, w, nI T, lv, wt, upd a1 N t, upd a2 N x, upd a3 N y, upd a4 N z, a5, a6, b, a8, d, upd a10 N 0)) : wpL_made post (nI N, ar, hv, ch, kt, ov, nI T, lv, wt, a1, a2, a3, a4, a5, a6, a7, a8, a9, a10) p1 p2 p3 (nI N) := by
  have hN := g.1
  have K209 : ∀ x5 x8 x9 x10 x11 x12 x13 : Int32, (∃ k, k < 15 ∧ x5 = nI k) → (¬ x5 = 0 → sg_ev N a1 x9 ∧ sg_ev N a1 x10) →
      ((x5 = 5 ∨ x5 = 6 ∨ x5 = 7 ∨ x5 = 9 ∨ x5 = 10 ∨ x5 = 13 ∨ x5 = 14) → sg_ce N a1 x11 ∧ sg_ce N a1 x12 ∧ sg_ce N a1 x13) → wL_made_209 post p3 x5 x8 x9 x10 x11 x12 x13 (nI N) ar hv ch kt ov (nI T) lv wt a1 a2 a3 a4 a5 a6 a7 a8 a9 a10 := by
    intro x5 x8 x9 x10 x11 x12 x13 hk he hc
    unfold wL_made_209
    refine br_c (fun h3 => ?_) (fun n3 => br_c (fun h4 => ?_) (fun n4 => br_c (fun h5 => ?_) (fun n5 => br_c (fun h7 => ?_) (fun n7 => br_c (fun h6 => ?_) (fun n6 => br_c (fun h9 => ?_) (fun n9 => br_c (fun h13 => ?_) (fun n13 => br_c (fun h10 => ?_) (fun n10 => br_c (fun h14 => ?_) (fun n14 => ?_)))))))))
    · have hh := he (by rw [h3]; decide)
      exact sg_nodeOK g hT ⟨3, by omega, rfl⟩ (sg_fit3 hh.1 hh.2) Hf Ho
    · have hh := he (by rw [h4]; decide)
      exact br_c (fun _ => ⟨by decide, sg_nodeOK g hT ⟨4, by omega, rfl⟩ (sg_fit4 (Or.inl rfl)) Hf Ho⟩) (fun _ => ⟨by decide, sg_nodeOK g hT ⟨4, by omega, rfl⟩ (sg_fit4 (Or.inr hh.1)) Hf Ho⟩)
    · have hh := he (by rw [h5]; decide)
      have hd := hc (Or.inl h5)
      exact sg_nodeOK g hT hk (sg_fit57 (Or.inl h5) hh.1 hd.2.1) Hf Ho
    · have hh := he (by rw [h7]; decide)
      have hd := hc (Or.inr (Or.inr (Or.inl h7)))
      exact sg_nodeOK g hT hk (sg_fit57 (Or.inr h7) hh.1 hd.2.1) Hf Ho
    · have hd := hc (Or.inr (Or.inl h6))
      exact sg_nodeOK g hT hk (sg_fit69 (Or.inl h6) hd.1 hd.2.1 hd.2.2) Hf Ho
    · have hd := hc (Or.inr (Or.inr (Or.inr (Or.inl h9))))
      exact sg_nodeOK g hT hk (sg_fit69 (Or.inr (Or.inl h9)) hd.1 hd.2.1 hd.2.2) Hf Ho
    · have hd := hc (Or.inr (Or.inr (Or.inr (Or.inr (Or.inr (Or.inl h13))))))
      exact sg_nodeOK g hT hk (sg_fit69 (Or.inr (Or.inr h13)) hd.1 hd.2.1 hd.2.2) Hf Ho
    · have hh := he (by rw [h10]; decide)
      have hd := hc (Or.inr (Or.inr (Or.inr (Or.inr (Or.inl h10)))))
      exact sg_nodeOK g hT ⟨10, by omega, rfl⟩ (sg_fit10 hd.1 hh.2 hh.1) Hf Ho
    · have hd := hc (Or.inr (Or.inr (Or.inr (Or.inr (Or.inr (Or.inr h14))))))
      exact ⟨by decide, sg_nodeOK g hT ⟨14, by omega, rfl⟩ (sg_fit14 hd.1) Hf Ho⟩
    · exact ⟨by decide, sg_nodeOK g hT hk (sg_fitE (fun z => (he z).1) n3 n4 n5 n7 n6 n9 n13 n10 n14) Hf Ho⟩
  have K206 : ∀ x8 x9 x10 x11 x12 x13 : Int32, (sg_ev N a1 x9 ∧ sg_ev N a1 x10) → wL_made_206 post p3 x8 x9 x10 x11 x12 x13 (nI N) ar hv ch kt ov (nI T) lv wt a1 a2 a3 a4 a5 a6 a7 a8 a9 a10 :=
    fun x8 x9 x10 x11 x12 x13 he => K209 4 x8 x9 x10 x11 x12 x13 ⟨4, by omega, rfl⟩ (fun _ => he) (fun h => absurd h (by decide))
  have K160 : ∀ x5 x8 x9 x10 x11 x12 x13 : Int32, (∃ k, k < 15 ∧ x5 = nI k) → (¬ x5 = 0 → sg_ev N a1 x9 ∧ sg_ev N a1 x10) → sg_pc N a1 x11 → sg_pc N a1 x12 → sg_pc N a1 x13 → wL_made_160 post p3 x5 x8 x9 x10 x11 x12 x13 (nI N) ar hv ch kt ov (nI T) lv wt a1 a2 a3 a4 a5 a6 a7 a8 a9 a10 := by
    intro x5 x8 x9 x10 x11 x12 x13 hk he h11 h12 h13
    unfold wL_made_160
    refine br_c (fun h => K209 _ _ _ _ _ _ _ hk he (fun _ => ⟨(sg_pc2 h11 h12 h).1, (sg_pc2 h11 h12 h).2, (sg_pc2 h11 h13 h).2⟩)) (fun _ => ?_)
    refine br_c (fun h5 => K206 _ _ _ _ _ _ (he (by rw [h5]; decide))) (fun n5 => br_c (fun h6 => K206 _ _ _ _ _ _ (he (by rw [h6]; decide))) (fun n6 => br_c (fun h7 => K206 _ _ _ _ _ _ (he (by rw [h7]; decide))) (fun n7 =>
      br_c (fun h9 => K206 _ _ _ _ _ _ (he (by rw [h9]; decide))) (fun n9 => br_c (fun h10 => K206 _ _ _ _ _ _ (he (by rw [h10]; decide))) (fun n10 => br_c (fun hl => K209 _ _ _ _ _ _ _ hk he (fun w => ?_)) (fun hl => K206 _ _ _ _ _ _ (he (fun z => ?_))))))))
    · rcases w with w | w | w | w | w | w | w
      · exact absurd w n5
      · exact absurd w n6
      · exact absurd w n7
      · exact absurd w n9
      · exact absurd w n10
      · rw [w] at hl
        exact absurd hl (by decide)
      · rw [w] at hl
        exact absurd hl (by decide)
    · rw [z] at hl
      exact hl (by decide)
  have K150 : ∀ x5 x8 x9 x10 x11 x12 x13 : Int32, (∃ k, k < 15 ∧ x5 = nI k) → sg_pe N a1 x9 → sg_pe N a1 x10 → sg_pc N a1 x11 → sg_pc N a1 x12 → sg_pc N a1 x13 → wL_made_150 post p3 x5 x8 x9 x10 x11 x12 x13 (nI N) ar hv ch kt ov (nI T) lv wt a1 a2 a3 a4 a5 a6 a7 a8 a9 a10 :=
    fun x5 x8 x9 x10 x11 x12 x13 hk h9 h10 h11 h12 h13 => br_c (fun h => K160 _ _ _ _ _ _ _ hk (fun _ => sg_pe2 h9 h10 h) h11 h12 h13) (fun _ => K160 _ _ _ _ _ _ _ ⟨0, by omega, rfl⟩ (fun z => absurd rfl z) h11 h12 h13)
  obtain ⟨j1, hj1, e1⟩ := pk_andE p1 (m := 255) 8 (by decide)
  obtain ⟨j2, hj2, e2⟩ := pk_andE p2 (m := 255) 8 (by decide)
  obtain ⟨j3, hj3, e3⟩ := pk_andE (p2 >>> ((8 : Int32) &&& 31)) (m := 255) 8 (by decide)
  obtain ⟨j4, hj4, e4⟩ := pk_andE (p2 >>> ((16 : Int32) &&& 31)) (m := 255) 8 (by decide)
  unfold wpL_made
  dsimp only
  rw [e1, e2, e3, e4]
  refine ⟨by decide, nm_r (pk_rem (d := 15) (show j1 < 2 ^ 31 by omega) (by omega) (by omega)) (nm_e (nm_e (nm_e ?_)))⟩
  have hk : ∃ k, k < 15 ∧ nI (j1 % 15) = nI k := ⟨j1 % 15, Nat.mod_lt _ (by omega), rfl⟩
  rcases Nat.eq_zero_or_pos N with z | hpos
  · subst z
    have ne : sg_pe 0 a1 (-1) := Or.inr ⟨rfl, fun j hj => absurd hj (by omega)⟩
    have nc : sg_pc 0 a1 (-1) := Or.inr ⟨rfl, fun j hj => absurd hj (by omega)⟩
    exact br_t rfl (br_t rfl (br_t rfl (br_t rfl (br_t rfl (K150 _ _ _ _ _ _ _ hk ne ne nc nc nc)))))
  · have n0 : ¬ nI N = 0 := nI_ne0 hpos (by omega)
    have m2 : nI j2 - nI j2 / nI N * nI N = nI (j2 % N) := pk_rem (by omega) hpos (by omega)
    have m3 : nI j3 - nI j3 / nI N * nI N = nI (j3 % N) := pk_rem (by omega) hpos (by omega)
    have m4 : nI j4 - nI j4 / nI N * nI N = nI (j4 % N) := pk_rem (by omega) hpos (by omega)
    have l2 : j2 % N < N := Nat.mod_lt _ hpos
    have l3 : j3 % N < N := Nat.mod_lt _ hpos
    have l4 : j4 % N < N := Nat.mod_lt _ hpos
    have K127 : ∀ x9 x10 x11 x12 : Int32, sg_pe N a1 x9 → sg_pe N a1 x10 → sg_pc N a1 x11 → sg_pc N a1 x12 → wL_made_127 post p3 (nI N) (nI (j1 % 15)) (nI j4) x9 x10 x11 x12 (nI N) ar hv ch kt ov (nI T) lv wt a1 a2 a3 a4 a5 a6 a7 a8 a9 a10 := by
      intro x9 x10 x11 x12 h9 h10 h11 h12
      unfold wL_made_127
      rw [m4]
      exact br_f n0 ⟨n0, sg_pick2 hN l4 (fun p hp => K150 _ _ _ _ _ _ _ hk h9 h10 h11 h12 hp)⟩
    have K104 : ∀ x9 x10 x11 : Int32, sg_pe N a1 x9 → sg_pe N a1 x10 → sg_pc N a1 x11 → wL_made_104 post p3 (nI N) (nI (j1 % 15)) (nI j3) (nI j4) x9 x10 x11 (nI N) ar hv ch kt ov (nI T) lv wt a1 a2 a3 a4 a5 a6 a7 a8 a9 a10 := by
      intro x9 x10 x11 h9 h10 h11
      unfold wL_made_104
      rw [m3]
      exact br_f n0 ⟨n0, sg_pick2 hN l3 (fun p hp => K127 _ _ _ _ h9 h10 h11 hp)⟩
    have K81 : ∀ x9 x10 : Int32, sg_pe N a1 x9 → sg_pe N a1 x10 → wL_made_81 post p3 (nI N) (nI (j1 % 15)) (nI j2) (nI j3) (nI j4) x9 x10 (nI N) ar hv ch kt ov (nI T) lv wt a1 a2 a3 a4 a5 a6 a7 a8 a9 a10 := by
      intro x9 x10 h9 h10
      unfold wL_made_81
      rw [m2]
      exact br_f n0 ⟨n0, sg_pick2 hN l2 (fun p hp => K104 _ _ _ h9 h10 hp)⟩
    have K58 : ∀ x9 : Int32, sg_pe N a1 x9 → wL_made_58 post p3 (nI N) (nI (j1 % 15)) (nI j2) (nI j3) (nI j4) x9 (nI N) ar hv ch kt ov (nI T) lv wt a1 a2 a3 a4 a5 a6 a7 a8 a9 a10 := by
      intro x9 h9
      unfold wL_made_58
      rw [m3]
      exact br_f n0 ⟨n0, sg_pick1 hN l3 (fun p hp => K81 _ _ h9 hp)⟩
    rw [m2]
    exact br_f n0 ⟨n0, sg_pick1 hN l2 (fun p hp => K58 _ hp)⟩
end
end
section
/-! ===== holds ===== -/
theorem sg_inT {post : Int32 → Prop} {u : St2} {p a b : Int32} (h1 : ¬ p < a) (h2 : ¬ b < p) (h : post 1) : wpL_in post u p a b := br_f h1 (br_f h2 h)
section
variable {N T : Nat} {ar hv ch kt ov lv wt : Int32} {a1 a2 a3 a4 a5 a6 a7 a8 a9 a10 : Nat → Int32}
theorem sg_h153 {post : Int32 → St1 → Prop} {J : Int32 → Prop} {a b : Nat} (g : sg_G N a1 a2 a3 a4) (ha : a < N) (hb : b < N) (H : J (nI (b + 1))) : ∃ n, wL_holds_153 post J (nI N) (nI a) (nI b) (nI N) ar hv ch kt ov (nI T) lv wt a1 a2 a3 a4 a5 a6 a7 a8 a9 a10 n 0 := by
  have hN := g.1
  exact pk_loop (σ := Unit) (fun n i _ => wL_holds_153 post J (nI N) (nI a) (nI b) (nI N) ar hv ch kt ov (nI T) lv wt a1 a2 a3 a4 a5 a6 a7 a8 a9 a10 n (nI i)) (fun _ _ => True) N 0 () (by omega) trivial
    (fun n _ _ => pk_le N N (fun _ => nm_r (nI_1 b) H) (fun z => absurd z (by omega)))
    (fun n i _ hi _ hw => pk_le N i (fun z => absurd z (by omega)) (fun _ => sg_leadsT g ha hb
      (fun h1 => br_f (by decide) (sg_leadsT g hb hi
        (fun h2 => br_f (by decide) (sg_leadsT g ha hi (fun _ => br_f (by decide) (nm_r (nI_1 i) (hw () trivial))) (fun z => absurd (sg_rct h1 h2) z)))
        (fun _ => br_t rfl (nm_r (nI_1 i) (hw () trivial)))))
      (fun _ => br_t rfl (nm_r (nI_1 i) (hw () trivial)))))
theorem sg_h144 {post : Int32 → St1 → Prop} {a : Nat} (g : sg_G N a1 a2 a3 a4) (ha : N = 0 ∨ a < N) (h : post 1 (nI N, ar, hv, ch, kt, ov, nI T, lv, wt, a1, a2, a3, a4, a5, a6, a7, a8, a9, a10)) : ∃ n, wL_holds_144 post (nI N) (nI a) (nI N) ar hv ch kt ov (nI T) lv wt a1 a2 a3 a4 a5 a6 a7 a8 a9 a10 n 0 := by
  have hN := g.1
  have nn : sg_nn N (nI N) := sg_nnN hN (Nat.le_refl N) (by omega)
  have nm : sg_nn N (-1) := sg_nnm hN (by decide)
  have hl : ∀ P : Int32 → Prop, P 0 → wpX_leads P (nI N, ar, hv, ch, kt, ov, nI T, lv, wt, a1, a2, a3, a4, a5, a6, a7, a8, a9, a10) 0 (nI N) := by
    intro P hP
    rcases Nat.eq_zero_or_pos N with z | hpos
    · subst z
      exact sg_leadsF1 hN (fun j hj => absurd hj (by omega)) hP
    · exact sg_leadsF2 (k := 0) hN hpos nn hP
  exact pk_loop (σ := Unit) (fun n i _ => wL_holds_144 post (nI N) (nI a) (nI N) ar hv ch kt ov (nI T) lv wt a1 a2 a3 a4 a5 a6 a7 a8 a9 a10 n (nI i)) (fun _ _ => True) N 0 () (by omega) trivial
    (fun n _ _ => pk_le N N (fun _ => by
      refine sg_sortF hN nn (br_t rfl ?_)
      refine sg_timesF hN nn (br_t rfl ?_)
      refine sg_timesF hN nm (br_t rfl ?_)
      refine sg_valueF hN nn (br_t rfl ?_)
      refine sg_hadF hN nn (br_t rfl ?_)
      refine sg_leadsF1 hN nn (br_t rfl ?_)
      refine hl _ (br_t rfl ?_)
      refine sg_fireF hN nn (br_t rfl ?_)
      refine sg_tieF hN nn (br_t rfl ?_)
      exact sg_level2 (br_t rfl h)) (fun z => absurd z (by omega)))
    (fun n i _ hi _ hw => pk_le N i (fun z => absurd z (by omega)) (fun _ => sg_h153 g (by omega) hi (hw () trivial)))
theorem sg_h109 {post : Int32 → St1 → Prop} {J : Int32 → Prop} {k : Nat} {x1 x2 x3 : Int32} (g : sg_G N a1 a2 a3 a4) (hk : k < N) (H : J (nI (k + 1))) : wL_holds_109 post J x1 x2 x3 (nI k) (nI N) ar hv ch kt ov (nI T) lv wt a1 a2 a3 a4 a5 a6 a7 a8 a9 a10 := by
  unfold wL_holds_109
  exact sg_leadsT g hk hk (fun z => absurd z (sg_rci g.2.2)) (fun _ => br_t rfl (nm_r (nI_1 k) H))
theorem sg_holds {post : Int32 → St1 → Prop} {f : Nat} (g : sg_G N a1 a2 a3 a4) (hT : sg_T N T hv a1 a10) (hTb : T < 2 ^ 31) (hf : f < 2 ^ 31) (h : post 1 (nI N, ar, hv, ch, kt, ov, nI T, lv, wt, a1, a2, a3, a4, a5, a6, a7, a8, a9, a10)) : wpL_holds post (nI N, ar, hv, ch, kt, ov, nI T, lv, wt, a1, a2, a3, a4, a5, a6, a7, a8, a9, a10) (nI N) (nI f) := by
  have hN := g.1
  unfold wpL_holds
  dsimp only
  exact pk_loop (σ := Unit) (fun n i _ => wL_holds_8 post (nI N) (nI f) (nI T) (nI N) ar hv ch kt ov (nI T) lv wt a1 a2 a3 a4 a5 a6 a7 a8 a9 a10 n (nI i)) (fun _ _ => True) N 0 () (by omega) trivial
    (fun n _ _ => pk_le N N (fun _ => pk_eq N 0 (fun z => sg_h144 (a := 0) g (Or.inl z) h) (fun z => ⟨nI_ne0 (by omega) (by omega), nm_r (pk_rem hf (by omega) (by omega)) (sg_h144 g (Or.inr (Nat.mod_lt _ (by omega))) h)⟩)) (fun z => absurd z (by omega)))
    (fun n i _ hi _ hw => pk_le N i (fun z => absurd z (by omega)) (fun _ => by
      obtain ⟨t, ht, et, hc, hb⟩ := hT i hi
      have t0 : ¬ a10 i < 0 := by
        rw [et]
        exact nI_pos (by omega)
      have t1 : ¬ nI T < a10 i := by
        rw [et]
        exact nI_nlt ht hTb
      have next := hw () trivial
      refine sg_sortT hN hi (fun c => ?_) (fun c => ?_)
      · refine sg_timesT hN hi ?_
        refine sg_inT (by decide) (by decide) (br_f (by decide) ?_)
        refine sg_inT t0 t1 (br_f (by decide) (br_t rfl (br_t (by rw [et, hc c]; rfl) ?_)))
        exact sg_hadT hN hi (fun z => absurd c z) (fun _ => br_t rfl (br_f (by decide) (sg_h109 g hi next)))
      · have e94 : wL_holds_94 post (wL_holds_8 post (nI N) (nI f) (nI T) (nI N) ar hv ch kt ov (nI T) lv wt a1 a2 a3 a4 a5 a6 a7 a8 a9 a10 n) (nI N) (nI f) (nI T) (nI i) (a10 i) (nI N) ar hv ch kt ov (nI T) lv wt a1 a2 a3 a4 a5 a6 a7 a8 a9 a10 := by
          unfold wL_holds_94
          exact sg_hadT hN hi (fun _ z => br_f (by decide) (br_f (by
            rw [et]
            exact nI_nlt (b := 1) (hb z).2 (by omega)) (sg_h109 g hi next))) (fun _ => br_t rfl (sg_h109 g hi next))
        refine sg_timesT hN hi ?_
        refine sg_inT (by decide) (by decide) (br_f (by decide) ?_)
        refine sg_inT t0 t1 (br_f (by decide) (br_f (by decide) (br_t rfl ?_)))
        refine sg_hadT hN hi (fun _ _ => br_f (by decide) e94) (fun z => br_t rfl ?_)
        refine sg_valueT hN hi (fun _ _ => br_t rfl e94) (fun w => ?_)
        rcases w with w | w
        · exact absurd w c
        · rcases z with z | z
          · exact absurd z c
          · rw [w] at z
            exact absurd z (by decide)))
end
end
section
/-! ===== the law's turn ===== -/
/-- the law's masks: the holds, the sources -/
def sg_L (N : Nat) (a1 : Nat → Int32) (x4 x5 : Int32) : Prop := ∀ k, k < N → (sg_bt x4 k = true ↔ a1 k = 4) ∧ (sg_bt x5 k = true ↔ a1 k = 0)
def sg_C (J : Int32 → Int32 → Int32 → Int32 → Int32 → Int32 → Int32 → Int32 → Int32 → Int32 → Int32 → Int32 → Int32 → Int32 → (Nat → Int32) → (Nat → Int32) → (Nat → Int32) → (Nat → Int32) → (Nat → Int32) → (Nat → Int32) → (Nat → Int32) → (Nat → Int32) → (Nat → Int32) → (Nat → Int32) → Prop) (i : Nat) : Prop :=
  ∀ (N T : Nat) (x4 x5 ar hv ch kt ov lv wt : Int32) (a1 a2 a3 a4 a5 a6 a7 a8 a9 a10 : Nat → Int32), sg_G N a1 a2 a3 a4 → sg_T N T hv a1 a10 → sg_L N a1 x4 x5 → T ≤ i → J (nI N) (nI T) x4 x5 (nI i) (nI N) ar hv ch kt ov (nI T) lv wt a1 a2 a3 a4 a5 a6 a7 a8 a9 a10
theorem sg_mk0 {x : Int32} {M : Nat} {P : Nat → Prop} (hM : M < 24) (h : ∀ k, k < M → (sg_bt x k = true ↔ P k)) (hn : ¬ P M) : ∀ k, k < M + 1 → (sg_bt (x &&& (((1 : Int32) <<< (nI M &&& 31)) ^^^ (-1))) k = true ↔ P k) := by
  intro k hk
  rw [sg_clr (by omega) (by omega)]
  by_cases e : k = M
  · subst e
    rw [decide_eq_true rfl, Bool.not_true, Bool.and_false]
    exact ⟨fun z => absurd z (by decide), fun z => absurd z hn⟩
  · rw [decide_eq_false e, Bool.not_false, Bool.and_true]
    exact h k (by omega)
theorem sg_mk1 {x : Int32} {M : Nat} {P : Nat → Prop} (hM : M < 24) (h : ∀ k, k < M → (sg_bt x k = true ↔ P k)) (hp : P M) : ∀ k, k < M + 1 → (sg_bt ((x &&& (((1 : Int32) <<< (nI M &&& 31)) ^^^ (-1))) ||| ((1 : Int32) <<< (nI M &&& 31))) k = true ↔ P k) := by
  intro k hk
  rw [sg_set (by omega) (by omega), sg_clr (by omega) (by omega)]
  by_cases e : k = M
  · subst e
    rw [decide_eq_true rfl, Bool.or_true]
    exact ⟨fun _ => hp, fun _ => rfl⟩
  · rw [decide_eq_false e, Bool.not_false, Bool.and_true, Bool.or_false]
    exact h k (by omega)
theorem sg_n1 {N : Nat} (h : 0 < N) : nI N - 1 = nI (N - 1) := by
  have t := nI_pred (N - 1)
  rw [show N - 1 + 1 = N by omega] at t
  exact t
theorem sg_inF {post : Int32 → Prop} {u : St2} {N : Nat} {p : Int32} (hN : N ≤ 24) (hp : sg_nn N p) (h : post 0) : wpL_in post u p 0 (nI N - 1) := by
  refine br_c (fun _ => h) (fun n0 => br_t ?_ h)
  obtain ⟨j, hj, e⟩ := nI_of n0
  have hjN : N ≤ j := by
    rcases Nat.lt_or_ge j N with w | w
    · exact absurd e (hp j w)
    · exact w
  rw [e]
  rcases Nat.eq_zero_or_pos N with z | hpos
  · subst z
    rw [Int32.lt_iff_toInt_lt, nI_toInt hj, show (nI 0 - 1).toInt = -1 from by decide]
    omega
  · rw [sg_n1 hpos]
    exact nI_lt (by omega) hj
theorem sg_inN {post : Int32 → Prop} {u : St2} {N j : Nat} (hN : N ≤ 24) (hj : j < N) (h : post 1) : wpL_in post u (nI j) 0 (nI N - 1) := by
  rw [sg_n1 (by omega)]
  exact sg_inT (nI_pos (by omega)) (nI_nlt (by omega) (by omega)) h
theorem sg_cn_n (p : Nat → Bool) {i n : Nat} (h : i ≤ n) : sg_cn p i ≤ sg_cn p n := by
  induction n with
  | zero =>
    rw [show i = 0 by omega]
    exact Nat.le_refl _
  | succ n ih =>
    by_cases e : i = n + 1
    · rw [e]
      exact Nat.le_refl _
    · have := ih (by omega)
      cases hp : p n
      · rw [sg_cn_f hp]; omega
      · rw [sg_cn_t hp]; omega
section
variable {N T i L kc ks : Nat} {xs : Nat → Int32} {post : Int32 → Prop} {x4 x5 x9 x10 : Int32} {ar hv ch kt ov lv wt : Int32} {a1 a2 a3 a4 a5 a6 a7 a8 a9 a10 : Nat → Int32}
variable {J : Int32 → Int32 → Int32 → Int32 → Int32 → Int32 → Int32 → Int32 → Int32 → Int32 → Int32 → Int32 → Int32 → Int32 → (Nat → Int32) → (Nat → Int32) → (Nat → Int32) → (Nat → Int32) → (Nat → Int32) → (Nat → Int32) → (Nat → Int32) → (Nat → Int32) → (Nat → Int32) → (Nat → Int32) → Prop}
theorem sg_l726 {x11 : Int32} (HJ : sg_C J (i + 5)) (hi : i < 300) (g : sg_G N a1 a2 a3 a4) (hT : sg_T N T hv a1 a10) (hL : sg_L N a1 x4 x5) (hTi : T ≤ i + 5) (e11 : x11 = sg_sum N T hv a1 a7 a10 24) :
    wL_law_726 post L xs J (nI N) (nI T) x4 x5 (nI i) x9 x10 x11 kc ks (nI N) ar hv ch kt ov (nI T) lv wt a1 a2 a3 a4 a5 a6 a7 a8 a9 a10 := by
  subst e11
  obtain ⟨j, hj, e⟩ := pk_andE x9 (m := 255) 8 (by decide)
  unfold wL_law_726
  rw [e]
  exact sg_sumL g.1 (br_t rfl (sg_level1 (fun l => br_f (by decide) (sg_holds g hT (by omega) (by omega) (br_f (by decide) (nm_r (nI_add i 5) (HJ _ _ _ _ _ _ _ _ _ _ _ _ _ _ _ _ _ _ _ _ _ g hT hL hTi)))))))
theorem sg_l576n {x11 x13 x14 : Int32} (HJ : sg_C J (i + 5)) (hi : i < 300) (g : sg_G N a1 a2 a3 a4) (hT : sg_T N T hv a1 a10) (hL : sg_L N a1 x4 x5) (hTi : T ≤ i + 5) (e11 : x11 = sg_sum N T hv a1 a7 a10 24) (h13 : x13 < 0) :
    wL_law_576 post L xs J (nI N) (nI T) x4 x5 (nI i) x9 x10 x11 x13 x14 kc ks (nI N) ar hv ch kt ov (nI T) lv wt a1 a2 a3 a4 a5 a6 a7 a8 a9 a10 :=
  br_t h13 (sg_l726 HJ hi g hT hL hTi e11)
theorem sg_l720 (HJ : sg_C J (i + 5)) (hi : i < 300) (g : sg_G N a1 a2 a3 a4) (hT : sg_T N T hv a1 a10) (hL : sg_L N a1 x4 x5) (hTi : T ≤ i + 5) :
    wL_law_720 post L xs J (nI N) (nI T) x4 x5 (nI i) x9 x10 kc ks (nI N) ar hv ch kt ov (nI T) lv wt a1 a2 a3 a4 a5 a6 a7 a8 a9 a10 := by
  unfold wL_law_720
  exact sg_sumL g.1 (sg_l726 HJ hi g hT hL hTi rfl)
theorem sg_l672 {M : Nat} {x15 x16 : Int32} (HJ : sg_C J (i + 5)) (hi : i < 300) (g : sg_G (M + 1) a1 a2 a3 a4) (hT : sg_T (M + 1) T hv a1 a10) (hL : sg_L M a1 x4 x5) (hTi : T ≤ i + 5) (hz : a10 M = 0)
    (h15 : (a1 M = 0 ∧ x15 = 1) ∨ (¬ a1 M = 0 ∧ x15 = 0)) (h16 : (a1 M = 4 ∧ x16 = 1) ∨ (¬ a1 M = 4 ∧ x16 = 0)) :
    wL_law_672 post L xs J (nI (M + 1)) (nI T) (x4 &&& (((1 : Int32) <<< (nI M &&& 31)) ^^^ (-1))) (x5 &&& (((1 : Int32) <<< (nI M &&& 31)) ^^^ (-1))) (nI i) x9 x10 (nI M) x15 x16 kc ks (nI (M + 1)) ar hv ch kt ov (nI T) lv wt a1 a2 a3 a4 a5 a6 a7 a8 a9 a10 := by
  have hM := g.1
  have hb : sg_bt hv M = false := by
    obtain ⟨t, _, e, _, h⟩ := hT M (by omega)
    cases q : sg_bt hv M
    · rfl
    · have h1 := (h q).2
      rw [hz] at e
      have e2 := (nI_eq (a := 0) (b := t) (by omega) (by omega)).mp e
      omega
  have A : ∀ y4 y5 : Int32, sg_L (M + 1) a1 y4 y5 → wL_law_720 post L xs J (nI (M + 1)) (nI T) y4 y5 (nI i) x9 x10 kc ks (nI (M + 1)) ar hv ch kt ov (nI T) lv wt a1 a2 a3 a4 a5 a6 a7 a8 a9 a10 := fun y4 y5 h => sg_l720 HJ hi g hT h hTi
  have B : ∀ y5 : Int32, (∀ k, k < M + 1 → (sg_bt y5 k = true ↔ a1 k = 0)) → wL_law_706 post L xs J (nI (M + 1)) (nI T) (x4 &&& (((1 : Int32) <<< (nI M &&& 31)) ^^^ (-1))) y5 (nI i) x9 x10 (nI M) x16 kc ks (nI (M + 1)) ar hv ch kt ov (nI T) lv wt a1 a2 a3 a4 a5 a6 a7 a8 a9 a10 := by
    intro y5 h5
    unfold wL_law_706
    rcases h16 with ⟨e, e16⟩ | ⟨e, e16⟩
    · subst e16
      exact br_f (by decide) (nm_e (A _ _ (fun k hk => ⟨sg_mk1 (P := fun k => a1 k = 4) (by omega) (fun k hk => (hL k hk).1) e k hk, h5 k hk⟩)))
    · subst e16
      exact br_t rfl (A _ _ (fun k hk => ⟨sg_mk0 (P := fun k => a1 k = 4) (by omega) (fun k hk => (hL k hk).1) e k hk, h5 k hk⟩))
  unfold wL_law_672
  refine sg_timesT hM (by omega) (br_t hz (sg_hadT hM (by omega) (fun _ z => by rw [hb] at z; exact absurd z (by decide)) (fun _ => br_t rfl ?_)))
  rcases h15 with ⟨e, e15⟩ | ⟨e, e15⟩
  · subst e15
    exact br_f (by decide) (nm_e (B _ (sg_mk1 (P := fun k => a1 k = 0) (by omega) (fun k hk => (hL k hk).2) e)))
  · subst e15
    exact br_t rfl (B _ (sg_mk0 (P := fun k => a1 k = 0) (by omega) (fun k hk => (hL k hk).2) e))
theorem sg_l634 {M : Nat} {x14 x15 x16 : Int32} (HJ : sg_C J (i + 5)) (hi : i < 300) (g : sg_G (M + 1) a1 a2 a3 a4) (hT : sg_T (M + 1) T hv a1 a10) (hL : sg_L M a1 x4 x5) (hTi : T ≤ i + 5) (hz : a10 M = 0)
    (h15 : (a1 M = 0 ∧ x15 = 1) ∨ (¬ a1 M = 0 ∧ x15 = 0)) (h16 : (a1 M = 4 ∧ x16 = 1) ∨ (¬ a1 M = 4 ∧ x16 = 0)) (h14 : 15 ≤ x14 ∨ x14 = a1 M) :
    wL_law_634 post L xs J (nI (M + 1)) (nI T) (x4 &&& (((1 : Int32) <<< (nI M &&& 31)) ^^^ (-1))) (x5 &&& (((1 : Int32) <<< (nI M &&& 31)) ^^^ (-1))) (nI i) x9 x10 (nI M) x14 x15 x16 kc ks (nI (M + 1)) ar hv ch kt ov (nI T) lv wt a1 a2 a3 a4 a5 a6 a7 a8 a9 a10 := by
  have K := sg_l672 (post := post) (L := L) (xs := xs) (kc := kc) (ks := ks) (x9 := x9) (x10 := x10) (ar := ar) (ch := ch) (kt := kt) (ov := ov) (lv := lv) (wt := wt) (a5 := a5) (a6 := a6) (a7 := a7) (a8 := a8) (a9 := a9) HJ hi g hT hL hTi hz h15 h16
  refine br_c (fun _ => K) (fun n15 => ?_)
  have e14 : x14 = a1 M := by
    rcases h14 with w | w
    · exact absurd w n15
    · exact w
  rw [← e14] at h15 h16
  refine br_c (fun h0 => ?_) (fun n0 => ?_)
  · refine br_t ?_ (br_c (fun h4 => br_t ?_ K) (fun n4 => br_t ?_ K))
    · rcases h15 with ⟨_, w⟩ | ⟨w, _⟩
      · exact w
      · exact absurd h0 w
    · rcases h16 with ⟨_, w⟩ | ⟨w, _⟩
      · exact w
      · exact absurd h4 w
    · rcases h16 with ⟨w, _⟩ | ⟨_, w⟩
      · exact absurd w n4
      · exact w
  · refine br_t ?_ (br_c (fun h4 => br_t ?_ K) (fun n4 => br_t ?_ K))
    · rcases h15 with ⟨w, _⟩ | ⟨_, w⟩
      · exact absurd w n0
      · exact w
    · rcases h16 with ⟨_, w⟩ | ⟨w, _⟩
      · exact w
      · exact absurd h4 w
    · rcases h16 with ⟨w, _⟩ | ⟨_, w⟩
      · exact absurd w n4
      · exact w
theorem sg_l576p {M : Nat} {x11 x14 : Int32} (HJ : sg_C J (i + 5)) (hi : i < 300) (g : sg_G (M + 1) a1 a2 a3 a4) (hT : sg_T (M + 1) T hv a1 a10) (hL : sg_L M a1 x4 x5) (hTi : T ≤ i + 5) (hz : a10 M = 0) (h14 : 15 ≤ x14 ∨ x14 = a1 M) :
    wL_law_576 post L xs J (nI M) (nI T) x4 x5 (nI i) x9 x10 x11 (nI M) x14 kc ks (nI (M + 1)) ar hv ch kt ov (nI T) lv wt a1 a2 a3 a4 a5 a6 a7 a8 a9 a10 := by
  have hM := g.1
  unfold wL_law_576
  refine br_f (nI_pos (by omega)) (nm_e (nm_e (nm_r (nI_1 M) ?_)))
  refine sg_fireT hM (by omega) (fun e x a => ?_) (fun e => ?_)
  · have n4 : ¬ a1 M = 4 := by
      rw [e]
      decide
    exact sg_tieN hM (by omega) n4 (br_f (by decide) (br_t rfl (sg_l634 HJ hi g hT hL hTi hz (Or.inl ⟨e, rfl⟩) (Or.inr ⟨n4, rfl⟩) h14)))
  · by_cases h4 : a1 M = 4
    · exact sg_tieM hM (by omega) h4 (br_t rfl (sg_l634 HJ hi (sg_G_tie g (by omega) h4 (Or.inl rfl)) hT hL hTi hz (Or.inr ⟨e, rfl⟩) (Or.inl ⟨h4, rfl⟩) h14))
    · exact sg_tieN hM (by omega) h4 (br_t rfl (sg_l634 HJ hi g hT hL hTi hz (Or.inr ⟨e, rfl⟩) (Or.inr ⟨h4, rfl⟩) h14))
/-- retract -/
theorem sg_l187 (HJ : sg_C J (i + 5)) (hi : i < 300) (g : sg_G N a1 a2 a3 a4) (hT : sg_T N T hv a1 a10) (hL : sg_L N a1 x4 x5) (hTi : T ≤ i + 5) :
    wL_law_187 post L xs J (nI N) (nI T) x4 x5 (nI i) x9 x10 (-3) (-1) kc ks (nI N) ar hv ch kt ov (nI T) lv wt a1 a2 a3 a4 a5 a6 a7 a8 a9 a10 := by
  unfold wL_law_187
  exact sg_sumL g.1 (sg_l576n HJ hi g hT hL hTi rfl (by decide))
/-- tie -/
theorem sg_l299 {x11 x12 x16 : Int32} (HJ : sg_C J (i + 5)) (hi : i < 300) (g : sg_G N a1 a2 a3 a4) (hT : sg_T N T hv a1 a10) (hL : sg_L N a1 x4 x5) (hTi : T ≤ i + 5) (e11 : x11 = sg_sum N T hv a1 a7 a10 24)
    (ht : ∀ P : Int32 → St1 → Prop, P 0 (nI N, ar, hv, ch, kt, ov, nI T, lv, wt, a1, a2, a3, a4, a5, a6, a7, a8, a9, a10) → wpX_tie P (nI N, ar, hv, ch, kt, ov, nI T, lv, wt, a1, a2, a3, a4, a5, a6, a7, a8, a9, a10) x12 x16) : wL_law_299 post L xs J (nI N) (nI T) x4 x5 (nI i) x9 x10 x11 x12 (-3) (-1) x16 kc ks (nI N) ar hv ch kt ov (nI T) lv wt a1 a2 a3 a4 a5 a6 a7 a8 a9 a10 := by
  unfold wL_law_299 wL_law_300
  exact ht _ (br_t rfl (br_t rfl (sg_l576n HJ hi g hT hL hTi e11 (by decide))))
theorem sg_l295m {k : Nat} {x11 : Int32} (HJ : sg_C J (i + 5)) (hi : i < 300) (g : sg_G N a1 a2 a3 a4) (hT : sg_T N T hv a1 a10) (hL : sg_L N a1 x4 x5) (hTi : T ≤ i + 5) (e11 : x11 = sg_sum N T hv a1 a7 a10 24)
    (hk : k < N) (h4 : a1 k = 4) : wL_law_295 post L xs J (nI N) (nI T) x4 x5 (nI i) x9 x10 x11 (nI k) (-3) (-1) (-1) kc ks (nI N) ar hv ch kt ov (nI T) lv wt a1 a2 a3 a4 a5 a6 a7 a8 a9 a10 := by
  unfold wL_law_295 wL_law_300
  exact sg_tieM g.1 hk h4 (br_t rfl (br_f (by decide) (br_t (by decide) (sg_l576n HJ hi (sg_G_tie g hk h4 (Or.inl rfl)) hT hL hTi e11 (by decide)))))
theorem sg_l295e {k j : Nat} {x11 : Int32} (HJ : sg_C J (i + 5)) (hi : i < 300) (g : sg_G N a1 a2 a3 a4) (hT : sg_T N T hv a1 a10) (hL : sg_L N a1 x4 x5) (hTi : T ≤ i + 5) (e11 : x11 = sg_sum N T hv a1 a7 a10 24)
    (hk : k < N) (h4 : a1 k = 4) (hj : j < N) (hc : ¬ sg_cl (a1 j)) (hr : ¬ sg_rc (sg_E N a1 a2 a3 a4) j k) : wL_law_295 post L xs J (nI N) (nI T) x4 x5 (nI i) x9 x10 x11 (nI k) (-3) (-1) (nI j) kc ks (nI N) ar hv ch kt ov (nI T) lv wt a1 a2 a3 a4 a5 a6 a7 a8 a9 a10 := by
  have hN := g.1
  have hjk : j ≠ k := fun z => hc (Or.inl (by rw [z]; exact h4))
  have hm : ¬ nI j = -1 := fun z => by
    have := nI_pos (n := j) (by omega)
    rw [z] at this
    exact this (by decide)
  have g' : sg_G N a1 (upd a2 k (nI j)) a3 a4 := sg_G_tie g hk h4 (Or.inr ⟨j, hj, rfl, hjk, hr⟩)
  have hE : sg_E N a1 (upd a2 k (nI j)) a3 a4 k j := by
    refine ⟨hk, ?_⟩
    unfold sg_pm
    rw [pk_us, h4, sg_pv4 (nI_pos' (by omega)), sg_b1 j (by omega) j (by omega)]
    exact decide_eq_true rfl
  unfold wL_law_295 wL_law_300
  refine sg_tieE g hk h4 hm (fun z => absurd ⟨j, hj, rfl, hc⟩ z) (fun l hl e _ z => ?_) (fun _ _ _ _ _ _ => ?_)
  · have e2 := (nI_eq (by omega) (by omega)).mp e
    subst e2
    exact absurd z hr
  · exact br_t rfl (br_f (by decide) (br_f (nI_pos (by omega)) (sg_leadsT g' hk hj (fun _ => br_f (by decide) (sg_l576n HJ hi g' hT hL hTi e11 (by decide))) (fun z => absurd (sg_rc1 hE) z))))
theorem sg_l227 {x11 x12 e : Int32} (HJ : sg_C J (i + 5)) (hi : i < 300) (g : sg_G N a1 a2 a3 a4) (hT : sg_T N T hv a1 a10) (hL : sg_L N a1 x4 x5) (hTi : T ≤ i + 5) (e11 : x11 = sg_sum N T hv a1 a7 a10 24)
    (hk : N = 0 ∨ ∃ k, k < N ∧ x12 = nI k) : wL_law_227 post L xs J (nI N) (nI T) x4 x5 (nI i) x9 x10 x11 x12 (-3) (-1) e kc ks (nI N) ar hv ch kt ov (nI T) lv wt a1 a2 a3 a4 a5 a6 a7 a8 a9 a10 := by
  have hN := g.1
  unfold wL_law_227
  refine pk_le N 0 (fun z => ?_) (fun z => ?_)
  · exact br_t rfl (sg_l299 HJ hi g hT hL hTi e11 (fun P hP => sg_tieF hN (fun j hj => absurd hj (by omega)) hP))
  obtain ⟨k, hkN, ek⟩ : ∃ k, k < N ∧ x12 = nI k := by
    rcases hk with w | w
    · omega
    · exact w
  subst ek
  refine sg_br1 k (by omega) (fun hb => ?_) (fun hb => ?_)
  · have h4 := ((hL k hkN).1).mp hb
    refine br_f (by decide) (br_c (fun em => ?_) (fun em => ?_))
    · subst em
      exact sg_l295m HJ hi g hT hL hTi e11 hkN h4
    rcases sg_nd N e with nn | ⟨j, hj, ej⟩
    · exact sg_inF hN nn (br_t rfl (sg_l299 HJ hi g hT hL hTi e11 (fun P hP => sg_tieE g hkN h4 em (fun _ => hP) (fun j hj ej => absurd ej (nn j hj)) (fun j hj ej => absurd ej (nn j hj)))))
    · subst ej
      refine sg_inN hN hj (br_f (by decide) (sg_sortT hN hj (fun c => br_f (by decide) ?_) (fun c => br_t rfl (sg_leadsT g hj hkN (fun hr => br_f (by decide) ?_) (fun hr => br_t rfl ?_)))))
      · refine sg_l299 HJ hi g hT hL hTi e11 (fun P hP => sg_tieE g hkN h4 em (fun _ => hP) (fun l hl el cl => ?_) (fun l hl el cl => ?_))
        · have e2 := (nI_eq (by omega) (by omega)).mp el
          subst e2
          exact absurd c cl
        · have e2 := (nI_eq (by omega) (by omega)).mp el
          subst e2
          exact absurd c cl
      · refine sg_l299 HJ hi g hT hL hTi e11 (fun P hP => sg_tieE g hkN h4 em (fun _ => hP) (fun l hl el cl _ => hP) (fun l hl el cl _ nr => ?_))
        have e2 := (nI_eq (by omega) (by omega)).mp el
        subst e2
        exact absurd hr nr
      · exact sg_l295e HJ hi g hT hL hTi e11 hkN h4 hj c hr
  · have n4 : ¬ a1 k = 4 := fun z => by
      have := ((hL k hkN).1).mpr z
      rw [hb] at this
      exact absurd this (by decide)
    exact br_t rfl (sg_l299 HJ hi g hT hL hTi e11 (fun P hP => sg_tieN hN hkN n4 hP))
theorem sg_l196 {x8 x11 x12 : Int32} (HJ : sg_C J (i + 5)) (hi : i < 300) (hiL : i < L) (hL2 : L < 2 ^ 31) (g : sg_G N a1 a2 a3 a4) (hT : sg_T N T hv a1 a10) (hL : sg_L N a1 x4 x5) (hTi : T ≤ i + 5) (e11 : x11 = sg_sum N T hv a1 a7 a10 24)
    (hk : N = 0 ∨ ∃ k, k < N ∧ x12 = nI k) : wL_law_196 post L xs J (nI N) (nI T) x4 x5 (nI i) x8 x9 x10 x11 x12 (-3) (-1) kc ks (nI N) ar hv ch kt ov (nI T) lv wt a1 a2 a3 a4 a5 a6 a7 a8 a9 a10 :=
  ⟨vp_in_nI hiL hL2, br_c (fun _ => sg_l227 HJ hi g hT hL hTi e11 hk) (fun _ => br_c (fun _ => sg_l227 HJ hi g hT hL hTi e11 hk) (fun z => ⟨z, sg_l227 HJ hi g hT hL hTi e11 hk⟩))⟩
/-- fire -/
theorem sg_l355 {x8 x11 p : Int32} (HJ : sg_C J (i + 5)) (hi : i < 300) (g : sg_G N a1 a2 a3 a4) (hT : sg_T N T hv a1 a10) (hL : sg_L N a1 x4 x5) (hTi : T ≤ i + 5) (e11 : x11 = sg_sum N T hv a1 a7 a10 24) :
    wL_law_355 post L xs J (nI N) (nI T) x4 x5 (nI i) x8 x9 x10 x11 (-3) (-1) p kc ks (nI N) ar hv ch kt ov (nI T) lv wt a1 a2 a3 a4 a5 a6 a7 a8 a9 a10 := by
  have hN := g.1
  unfold wL_law_355
  rcases sg_nd N p with nn | ⟨k, hk, e⟩
  · exact sg_fireF hN nn (sg_inF hN nn (br_t rfl (br_t rfl (sg_l576n HJ hi g hT hL hTi e11 (by decide)))))
  · subst e
    refine sg_fireT hN hk (fun h0 x a => ?_) (fun n0 => ?_)
    · exact sg_inN hN hk (br_f (by decide) (sg_br1 k (by omega) (fun _ => br_t rfl (sg_l576n HJ hi g hT hL hTi e11 (by decide))) (fun hb => by
        have := ((hL k hk).2).mpr h0
        rw [hb] at this
        exact absurd this (by decide))))
    · exact sg_inN hN hk (br_f (by decide) (sg_br1 k (by omega) (fun hb => absurd (((hL k hk).2).mp hb) n0) (fun hb => br_t rfl (sg_l576n HJ hi g hT hL hTi e11 (by decide)))))
theorem sg_l338 {x7 x8 x11 x12 : Int32} (HJ : sg_C J (i + 5)) (hi : i < 300) (hiL : i < L) (hL2 : L < 2 ^ 31) (g : sg_G N a1 a2 a3 a4) (hT : sg_T N T hv a1 a10) (hL : sg_L N a1 x4 x5) (hTi : T ≤ i + 5) (e11 : x11 = sg_sum N T hv a1 a7 a10 24) :
    wL_law_338 post L xs J (nI N) (nI T) x4 x5 (nI i) x7 x8 x9 x10 x11 x12 (-3) (-1) kc ks (nI N) ar hv ch kt ov (nI T) lv wt a1 a2 a3 a4 a5 a6 a7 a8 a9 a10 :=
  ⟨vp_in_nI hiL hL2, br_c (fun _ => sg_l355 HJ hi g hT hL hTi e11) (fun _ => sg_l355 HJ hi g hT hL hTi e11)⟩
/-- commit -/
theorem sg_l410 (HJ : sg_C J (i + 5)) (hi : i < 300) (g : sg_G N a1 a2 a3 a4) (hT : sg_T N T hv a1 a10) (hL : sg_L N a1 x4 x5) (hTi : T ≤ i + 5) :
    ∃ n, wL_law_410 post L xs J (nI N) (nI T) x4 x5 (nI i) x9 x10 (-3) (-1) kc ks (nI N) ar hv ch kt ov (nI T) lv wt a1 a2 a3 a4 a5 a6 a7 a8 a9 a10 n (nI (sg_cn (sg_bt hv) N)) 0 := by
  have hN := g.1
  have hcn := sg_cn_le (sg_bt hv) N
  exact pk_loop (σ := Unit) (fun n v _ => wL_law_410 post L xs J (nI N) (nI T) x4 x5 (nI i) x9 x10 (-3) (-1) kc ks (nI N) ar hv ch kt ov (nI T) lv wt a1 a2 a3 a4 a5 a6 a7 a8 a9 a10 n (nI (sg_cn (sg_bt hv) N - sg_cn (sg_bt hv) v)) (nI v)) (fun _ _ => True) N 0 () (by omega) trivial
    (fun n _ _ => pk_le N N (fun _ => br_t (by rw [Nat.sub_self]; rfl) (br_t rfl (sg_sumL hN (sg_l576n HJ hi g hT hL hTi rfl (by decide))))) (fun z => absurd z (by omega)))
    (fun n v _ hv' _ hw => pk_le N v (fun z => absurd z (by omega)) (fun _ => by
      have t := hw () trivial
      obtain ⟨_, _, _, _, hb⟩ := hT v hv'
      refine sg_hadT hN hv' (fun _ b => br_f (by decide) ?_) (fun b => br_t rfl (nm_r (nI_1 v) ?_))
      · have hle := sg_cn_n (sg_bt hv) (show v + 1 ≤ N by omega)
        rw [sg_cn_t b] at t hle
        refine nm_r (show nI (sg_cn (sg_bt hv) N - sg_cn (sg_bt hv) v) + (-1) = nI (sg_cn (sg_bt hv) N - (sg_cn (sg_bt hv) v + 1)) from ?_) (nm_r (nI_1 v) t)
        rw [sb_m1 (by omega)]
        rfl
      · have b' : sg_bt hv v = false := by
          rcases b with b | b
          · cases q : sg_bt hv v
            · rfl
            · exact absurd b (hb q).1
          · exact b
        rw [sg_cn_f b'] at t
        exact t))
theorem sg_l398 (HJ : sg_C J (i + 5)) (hi : i < 300) (g : sg_G N a1 a2 a3 a4) (hT : sg_T N T hv a1 a10) (hL : sg_L N a1 x4 x5) (hTi : T ≤ i) :
    wL_law_398 post L xs J (nI N) (nI T) x4 x5 (nI i) x9 x10 (-3) (-1) kc ks (nI N) ar hv ch kt ov (nI T) lv wt a1 a2 a3 a4 a5 a6 a7 a8 a9 a10 := by
  unfold wL_law_398
  exact sg_commit g hT (fun x1 x2 x3 x4' x5' b5 b6 b7 b8 b9 b10 x0 hT' => nm_r (nI_1 T) (sg_l410 HJ hi g hT' hL (by omega)))
theorem sg_L_add {t : Int32} (hL : sg_L N a1 x4 x5) : sg_L N (upd a1 N t) x4 x5 := fun k hk => by
  rw [pk_un (show k ≠ N by omega)]
  exact hL k hk
theorem sg_l84 {x7 x8 x11 x12 : Int32} (HJ : sg_C J (i + 5)) (hi : i < 300) (hiL : i < L) (hL2 : L < 2 ^ 31) (g : sg_G N a1 a2 a3 a4) (hT : sg_T N T hv a1 a10) (hL : sg_L N a1 x4 x5) (hTi : T ≤ i) (e11 : x11 = sg_sum N T hv a1 a7 a10 24)
    (hk : N = 0 ∨ ∃ k, k < N ∧ x12 = nI k) : wL_law_84 post L xs J (nI N) (nI T) x4 x5 (nI i) x7 x8 x9 x10 x11 x12 kc ks (nI N) ar hv ch kt ov (nI T) lv wt a1 a2 a3 a4 a5 a6 a7 a8 a9 a10 := by
  have hN := g.1
  have hT5 : T ≤ i + 5 := by omega
  unfold wL_law_84
  refine ⟨vp_in_nI hiL hL2, ?_⟩
  obtain ⟨j, hj, e⟩ := pk_andE (xs (nI i).toNatClampNeg) (m := 15) 4 (by decide)
  refine nm_r e (br_f (nI_pos (by omega)) ?_)
  refine br_c (fun _ => ?_) (fun _ => ?_)
  · refine sg_made g hT (fun h24 => ?_) (fun hl t x y z v f q w b d hG hT' => ?_)
    · subst h24
      exact br_t (by decide) (br_t rfl (br_t rfl (sg_l576n HJ hi g hT hL hT5 e11 (by decide))))
    · exact br_f (nI_pos (by omega)) (br_t (nI_le (b := 23) (by omega) (by omega)) (br_f (fun z => by
        have := (nI_eq (b := 24) (by omega) (by omega)).mp z
        omega) (br_t rfl (sg_l576p HJ hi hG hT' (sg_L_add hL) hT5 pk_us (Or.inl (by decide))))))
  refine br_c (fun _ => ?_) (fun _ => ?_)
  · rcases Nat.eq_zero_or_pos N with z | hpos
    · subst z
      exact sg_retract0 (br_t rfl (br_t rfl (br_t (by decide) (sg_l187 HJ hi g hT hL hT5))))
    · obtain ⟨M, eM⟩ : ∃ M, N = M + 1 := ⟨N - 1, by omega⟩
      subst eM
      refine sg_retract g hT (fun v f q w b hG hT' => br_f (nI_ne0 (by omega) (by omega)) (br_t (nI_pred M).symm (br_f (nI_nle (by omega) (by omega)) (nm_r (pk_m1 M) ?_))))
      exact sg_l187 HJ hi hG hT' (fun k hk => hL k (by omega)) hT5
  refine br_c (fun _ => sg_l196 HJ hi hiL hL2 g hT hL hT5 e11 hk) (fun _ => br_c (fun _ => sg_l196 HJ hi hiL hL2 g hT hL hT5 e11 hk) (fun _ => ?_))
  refine br_c (fun _ => sg_l338 HJ hi hiL hL2 g hT hL hT5 e11) (fun _ => br_c (fun _ => sg_l338 HJ hi hiL hL2 g hT hL hT5 e11) (fun _ => br_c (fun _ => sg_l338 HJ hi hiL hL2 g hT hL hT5 e11) (fun _ => ?_)))
  refine br_c (fun _ => sg_l398 HJ hi g hT hL hTi) (fun _ => br_c (fun _ => sg_l398 HJ hi g hT hL hTi) (fun _ => br_c (fun _ => sg_l398 HJ hi g hT hL hTi) (fun _ => br_c (fun _ => ?_) (fun _ => trivial))))
  have nm : ∀ p : Int32, p < 0 → ¬ p = nI N := fun p hp z => by
    rw [z] at hp
    exact nI_pos (by omega) hp
  refine sg_node g hT (fun h24 => ?_) (fun hl _ => ?_) (fun hl hk' v f q w b d hG hT' => ?_)
  · subst h24
    exact br_f (by decide) (br_t rfl (br_t rfl (br_f (by decide) (sg_l576n HJ hi g hT hL hT5 e11 (by decide)))))
  · exact br_f (nm _ (by decide)) (br_f (fun z => by
      have := (nI_eq (b := 24) (by omega) (by omega)).mp z
      omega) (br_t rfl (br_f (nm _ (by decide)) (sg_l576n HJ hi g hT hL hT5 e11 (by decide)))))
  · obtain ⟨k, hk15, ek⟩ := hk'
    refine br_t rfl (br_t rfl (br_f (nI_ge (b := 24) hl (by omega)) (sg_inT ?_ ?_ (br_f (by decide) (sg_l576p HJ hi hG hT' (sg_L_add hL) hT5 pk_us (Or.inr pk_us.symm))))))
    · rw [ek]
      exact nI_pos (by omega)
    · rw [ek]
      exact nI_nlt (b := k) (a := 14) (by omega) (by omega)
end
end
section
/-! ===== the end of the law, and the whole ===== -/
section
variable {T L kc ks : Nat} {xs : Nat → Int32} {post : Int32 → Prop}
theorem sg_l827 {ar hv ch kt ov lv wt : Int32} {a1 a2 a3 a4 a5 a6 a7 a8 a9 a10 : Nat → Int32} (hp : post 1) (hTb : T < 1000) (g : sg_G 24 a1 a2 a3 a4) (hT : sg_T 24 T hv a1 a10) :
    ∃ n, wL_law_827 post L xs kc ks (nI 24) ar hv ch kt ov (nI T) lv wt a1 a2 a3 a4 a5 a6 a7 a8 a9 a10 n (nI (sg_cn (sg_bt hv) 24)) 0 := by
  have hN := g.1
  have hcn := sg_cn_le (sg_bt hv) 24
  exact pk_loop (σ := Unit) (fun n v _ => wL_law_827 post L xs kc ks (nI 24) ar hv ch kt ov (nI T) lv wt a1 a2 a3 a4 a5 a6 a7 a8 a9 a10 n (nI (sg_cn (sg_bt hv) 24 - sg_cn (sg_bt hv) v)) (nI v)) (fun _ _ => True) 24 0 () (by omega) trivial
    (fun n _ _ => pk_le 24 24 (fun _ => br_t (by rw [Nat.sub_self]; rfl) (sg_holds (N := 24) (f := 23) g hT (by omega) (by omega) (br_f (by decide) hp))) (fun z => absurd z (by omega)))
    (fun n v _ hv' _ hw => pk_le 24 v (fun z => absurd z (by omega)) (fun _ => by
      have t := hw () trivial
      obtain ⟨_, _, _, _, hb⟩ := hT v hv'
      refine sg_hadT hN hv' (fun _ b => br_f (by decide) ?_) (fun b => br_t rfl (nm_r (nI_1 v) ?_))
      · have hle := sg_cn_n (sg_bt hv) (show v + 1 ≤ 24 by omega)
        rw [sg_cn_t b] at t hle
        refine nm_r (show nI (sg_cn (sg_bt hv) 24 - sg_cn (sg_bt hv) v) + (-1) = nI (sg_cn (sg_bt hv) 24 - (sg_cn (sg_bt hv) v + 1)) from ?_) (nm_r (nI_1 v) t)
        rw [sb_m1 (by omega)]
        rfl
      · have b' : sg_bt hv v = false := by
          rcases b with b | b
          · cases q : sg_bt hv v
            · rfl
            · exact absurd b (hb q).1
          · exact b
        rw [sg_cn_f b'] at t
        exact t))
theorem sg_l771 (hp : post 1) (hTb : T < 900) : ∀ (n i : Nat), i ≤ 25 → 25 - i < n → ∀ (N : Nat) (ar hv ch kt ov lv wt : Int32) (a1 a2 a3 a4 a5 a6 a7 a8 a9 a10 : Nat → Int32), sg_G N a1 a2 a3 a4 → sg_T N T hv a1 a10 → (N = 24 ∨ i ≤ N) →
    wL_law_771 post L xs kc ks n (nI N) (nI i) (nI N) ar hv ch kt ov (nI T) lv wt a1 a2 a3 a4 a5 a6 a7 a8 a9 a10 := by
  intro n
  induction n with
  | zero => intro i _ h; omega
  | succ n ih =>
    intro i hi hn N ar hv ch kt ov lv wt a1 a2 a3 a4 a5 a6 a7 a8 a9 a10 g hT hNi
    have hN := g.1
    refine pk_le 25 i (fun z => ?_) (fun z => ?_)
    · have e24 : N = 24 := by omega
      subst e24
      exact sg_commit g hT (fun x1 x2 x3 x4 x5 b5 b6 b7 b8 b9 b10 x0 hT' => sg_l827 hp (by omega) g hT')
    · refine sg_nodeOK g hT ⟨0, by omega, rfl⟩ sg_fit0 (fun h24 => ?_) (fun hl t x y z v f q w b d hG hT' => ?_)
      · subst h24
        exact br_t rfl (br_t rfl (br_t (by decide) (nm_r (nI_1 i) (ih (i + 1) (by omega) (by omega) 24 _ _ _ _ _ _ _ _ _ _ _ _ _ _ _ _ _ g hT (Or.inl rfl)))))
      · exact br_f (fun z => by
          have := (nI_eq (b := 24) (by omega) (by omega)).mp z
          omega) (br_t rfl (br_f (nI_ge (b := 24) hl (by omega)) (nm_r (nI_1 N) (nm_r (nI_1 i) (ih (i + 1) (by omega) (by omega) (N + 1) _ _ _ _ _ _ _ _ _ _ _ _ _ _ _ _ _ hG hT' (by omega))))))
theorem sg_l21 (hp : post 1) (hL : L ≤ 260) : ∀ (n i : Nat), i ≤ L → L - i < n → ∀ (N T : Nat) (x4 x5 ar hv ch kt ov lv wt : Int32) (a1 a2 a3 a4 a5 a6 a7 a8 a9 a10 : Nat → Int32), sg_G N a1 a2 a3 a4 → sg_T N T hv a1 a10 → sg_L N a1 x4 x5 → T ≤ i →
    wL_law_21 post L xs kc ks n (nI N) (nI T) x4 x5 (nI i) (nI N) ar hv ch kt ov (nI T) lv wt a1 a2 a3 a4 a5 a6 a7 a8 a9 a10 := by
  intro n
  induction n with
  | zero => intro i _ h; omega
  | succ n ih =>
    intro i hi hn N T x4 x5 ar hv ch kt ov lv wt a1 a2 a3 a4 a5 a6 a7 a8 a9 a10 g hT hLm hTi
    have hN := g.1
    have hlt : (Int32.ofNat L - 5 < nI i) ↔ L < i + 5 := by
      have e := pk_sub_toInt (a := L) (b := 5) (by omega) (by omega)
      have e2 : (Int32.ofNat L - 5).toInt = (L : Int) - 5 := e
      rw [Int32.lt_iff_toInt_lt, nI_toInt (show i < 2 ^ 31 by omega), e2]
      omega
    refine ek_if hlt (fun h => ⟨26, sg_l771 hp (by omega) 26 0 (by omega) (by omega) N _ _ _ _ _ _ _ _ _ _ _ _ _ _ _ _ _ g hT (Or.inr (by omega))⟩) (fun h => ?_)
    have i5 : i + 5 ≤ L := by omega
    have HJ : sg_C (wL_law_21 post L xs kc ks n) (i + 5) := fun N T x4 x5 ar hv ch kt ov lv wt a1 a2 a3 a4 a5 a6 a7 a8 a9 a10 g hT hLm hTi => ih (i + 5) i5 (by omega) N T x4 x5 ar hv ch kt ov lv wt a1 a2 a3 a4 a5 a6 a7 a8 a9 a10 g hT hLm hTi
    have v1 : vp_in (nI i + 1) L := pk_in (i + 1) L (by omega) (nI_add i 1)
    have v2 : vp_in (nI i + 2) L := pk_in (i + 2) L (by omega) (nI_add i 2)
    have v3 : vp_in (nI i + 3) L := pk_in (i + 3) L (by omega) (nI_add i 3)
    have v4 : vp_in (nI i + 4) L := pk_in (i + 4) L (by omega) (nI_add i 4)
    refine ⟨v1, fun x7 _ => ⟨v2, fun x8 _ => ⟨v3, fun x9 _ => ⟨v4, fun x10 _ => ?_⟩⟩⟩⟩
    refine sg_sumL hN (pk_eq N 0 (fun z => ?_) (fun z => ⟨nI_ne0 (by omega) (by omega), ?_⟩))
    · exact sg_l84 HJ (by omega) (by omega) (by omega) g hT hLm hTi rfl (Or.inl z)
    · obtain ⟨j, hj, e⟩ := pk_andE x7 (m := 255) 8 (by decide)
      refine sg_l84 HJ (by omega) (by omega) (by omega) g hT hLm hTi rfl (Or.inr ⟨j % N, Nat.mod_lt _ (by omega), ?_⟩)
      rw [e]
      exact pk_rem (by omega) (by omega) (by omega)
end
theorem i_vc (xs : Nat → Int32) (L : Nat) (hL : L ≤ 260) : wpL_law (fun r => r = 1) L xs := by
  have t : ∀ kc ks, wL_law_21 (fun r => r = 1) L xs kc ks (L + 1) (nI 0) (nI 0) 0 0 (nI 0) (nI 0) 0 0 0 0 0 (nI 0) 1 0 (fun _ => 0) (fun _ => 0) (fun _ => 0) (fun _ => 0) (fun _ => 0) (fun _ => 0) (fun _ => 0) (fun _ => 0) (fun _ => 0) (fun _ => 0) :=
    fun kc ks => sg_l21 (post := fun r => r = 1) rfl hL (L + 1) 0 (by omega) (by omega) 0 0 0 0 0 0 0 0 0 1 0 _ _ _ _ _ _ _ _ _ _ sg_G0 (fun k hk => absurd hk (by omega)) (fun k hk => absurd hk (by omega)) (Nat.le_refl 0)
  exact ⟨10, 240, by omega, by omega, by omega, by omega, by omega, by omega, by omega, by omega, by omega, by omega, by omega, by omega, by omega, by omega, by omega, by omega, by omega, by omega, by omega, by omega, by omega, by omega, ⟨L + 1, t _ _⟩⟩
end
