section
def zs_bt (x : Int64) (k : Nat) : Bool := x.toBitVec.getLsbD k
theorem zs_c : ∀ k, k < 64 → ((nI k).toInt64 &&& 63) = lN k := by decide +kernel
theorem zs_cu : ∀ k, k < 64 → ((nI k).toInt64.toUInt64 &&& Int64.toUInt64 63) = UInt64.ofNat k := by decide +kernel
theorem zs_sm : ∀ k, k < 64 → (BitVec.ofNat 64 k).smod 64 = BitVec.ofNat 64 k := by decide +kernel
theorem zs_or (x y : Int64) (k : Nat) : zs_bt (x ||| y) k = (zs_bt x k || zs_bt y k) := by
  unfold zs_bt
  rw [Int64.toBitVec_or, BitVec.getLsbD_or]
theorem zs_and (x y : Int64) (k : Nat) : zs_bt (x &&& y) k = (zs_bt x k && zs_bt y k) := by
  unfold zs_bt
  rw [Int64.toBitVec_and, BitVec.getLsbD_and]
theorem zs_zero (k : Nat) : zs_bt 0 k = false := by
  show (0#64).getLsbD k = false
  exact BitVec.getLsbD_zero
theorem zs_1 (k : Nat) : zs_bt 1 k = decide (k = 0) := by
  show (1#64).getLsbD k = decide (k = 0)
  rw [BitVec.getLsbD_one]
  simp
theorem zs_ext {x y : Int64} (h : ∀ k, k < 64 → zs_bt x k = zs_bt y k) : x = y :=
  Int64.toBitVec_inj.mp (BitVec.eq_of_getLsbD_eq h)
theorem zs_shl (x : Int64) {k : Nat} (hk : k < 64) : (x <<< ((nI k).toInt64 &&& 63)).toBitVec = x.toBitVec <<< k := by
  rw [zs_c k hk, Int64.toBitVec_shiftLeft]
  show x.toBitVec <<< ((BitVec.ofNat 64 k).smod 64) = _
  rw [zs_sm k hk, BitVec.shiftLeft_eq', BitVec.toNat_ofNat, Nat.mod_eq_of_lt (by omega)]
theorem zs_btshl (x : Int64) {k : Nat} (hk : k < 64) (j : Nat) : zs_bt (x <<< ((nI k).toInt64 &&& 63)) j = (decide (j < 64) && !decide (j < k) && zs_bt x (j - k)) := by
  unfold zs_bt
  rw [zs_shl x hk, BitVec.getLsbD_shiftLeft]
theorem zs_one {k : Nat} (hk : k < 64) (j : Nat) : zs_bt ((1 : Int64) <<< ((nI k).toInt64 &&& 63)) j = decide (j = k) := by
  rw [zs_btshl _ hk, zs_1]
  by_cases h : j = k
  · subst h
    simp [hk]
  · by_cases h2 : j < k
    · simp [h, h2]
    · have h3 : ¬ j - k = 0 := by omega
      simp [h, h3]
theorem zs_ush (x : Int64) {k : Nat} (hk : k < 64) : ((x.toUInt64 >>> ((nI k).toInt64.toUInt64 &&& Int64.toUInt64 63)).toInt64 &&& 1) = if zs_bt x k = true then 1 else 0 := by
  rw [zs_cu k hk]
  have e : (x.toUInt64 >>> UInt64.ofNat k).toInt64.toBitVec = x.toBitVec >>> k := by
    apply BitVec.eq_of_toNat_eq
    show (x.toUInt64 >>> UInt64.ofNat k).toNat = _
    have hs : (UInt64.ofNat k).toNat = k := Nat.mod_eq_of_lt (by omega)
    rw [UInt64.toNat_shiftRight, hs, Nat.mod_eq_of_lt hk, BitVec.toNat_ushiftRight]
    rfl
  have e2 : ∀ j, zs_bt (x.toUInt64 >>> UInt64.ofNat k).toInt64 j = zs_bt x (k + j) := by
    intro j
    unfold zs_bt
    rw [e, BitVec.getLsbD_ushiftRight]
  apply zs_ext
  intro j hj
  rw [zs_and, e2, zs_1]
  by_cases h0 : j = 0
  · subst h0
    by_cases hb : zs_bt x k = true
    · rw [if_pos hb, zs_1, Nat.add_zero, hb]
      rfl
    · rw [if_neg hb, zs_zero, Nat.add_zero, eq_false_of_ne_true hb]
      rfl
  · have h1 : decide (j = 0) = false := decide_eq_false h0
    rw [h1, Bool.and_false]
    by_cases hb : zs_bt x k = true
    · rw [if_pos hb, zs_1, h1]
    · rw [if_neg hb, zs_zero]
theorem zs_b1 {x : Int64} {k : Nat} (hk : k < 64) : ((x.toUInt64 >>> ((nI k).toInt64.toUInt64 &&& Int64.toUInt64 63)).toInt64 &&& 1) = 1 ↔ zs_bt x k = true := by
  rw [zs_ush x hk]
  by_cases hb : zs_bt x k = true
  · rw [if_pos hb]
    exact ⟨fun _ => hb, fun _ => rfl⟩
  · rw [if_neg hb]
    exact ⟨fun h => absurd h (by decide), fun h => absurd h hb⟩
theorem zs_br {x : Int64} {i : Int32} {A B : Prop} (k : Nat) (f : zs_bt x k = true → A) (g : zs_bt x k = false → B) (hi : i = nI k := by rfl) (hk : k < 64 := by omega) : (((x.toUInt64 >>> (i.toInt64.toUInt64 &&& Int64.toUInt64 63)).toInt64 &&& 1) = 1 → A) ∧ (¬ ((x.toUInt64 >>> (i.toInt64.toUInt64 &&& Int64.toUInt64 63)).toInt64 &&& 1) = 1 → B) := by
  subst hi
  rw [zs_b1 hk]
  refine ⟨f, fun h => g ?_⟩
  cases hb : zs_bt x k with
  | false => rfl
  | true => exact absurd hb h
theorem zs_beq {x y : Int64} {k l : Nat} (hk : k < 64) (hl : l < 64) (h : zs_bt x k = zs_bt y l) : ((x.toUInt64 >>> ((nI k).toInt64.toUInt64 &&& Int64.toUInt64 63)).toInt64 &&& 1) = ((y.toUInt64 >>> ((nI l).toInt64.toUInt64 &&& Int64.toUInt64 63)).toInt64 &&& 1) := by
  rw [zs_ush x hk, zs_ush y hl, h]
theorem zs_put (x : Int64) {k i : Nat} (hk : k < 64) (hi : i < 64) (j : Nat) : zs_bt (((x.toUInt64 >>> ((nI k).toInt64.toUInt64 &&& Int64.toUInt64 63)).toInt64 &&& 1) <<< ((nI i).toInt64 &&& 63)) j = (zs_bt x k && decide (j = i)) := by
  rw [zs_ush x hk]
  cases hb : zs_bt x k with
  | true => rw [if_pos rfl, zs_one hi, Bool.true_and]
  | false => rw [if_neg Bool.false_ne_true, zs_btshl _ hi, zs_zero, Bool.and_false, Bool.false_and]
theorem zs_ne0 {x : Int64} {k : Nat} (h : zs_bt x k = true) : ¬ x = 0 := by
  intro e
  rw [e, zs_zero] at h
  exact Bool.false_ne_true h
theorem zs_ex {x : Int64} (h : ¬ x = 0) : ∃ k, zs_bt x k = true := by
  apply Classical.byContradiction
  intro hn
  apply h
  apply zs_ext
  intro k _
  rw [zs_zero]
  cases hb : zs_bt x k with
  | false => rfl
  | true => exact absurd ⟨k, hb⟩ hn
theorem zs_or0 {x : Int64} (y : Int64) (h : ¬ x = 0) : ¬ (x ||| y) = 0 := by
  obtain ⟨k, hk⟩ := zs_ex h
  exact zs_ne0 (k := k) (by rw [zs_or, hk, Bool.true_or])
theorem zs_and0 {x y : Int64} {k : Nat} (hx : zs_bt x k = true) (hy : zs_bt y k = true) : ¬ (x &&& y) = 0 :=
  zs_ne0 (k := k) (by rw [zs_and, hx, hy]; rfl)
theorem zs_orL {x : Int64} (y : Int64) {k : Nat} (h : zs_bt x k = true) : zs_bt (x ||| y) k = true := by rw [zs_or, h, Bool.true_or]
theorem zs_orR (x : Int64) {y : Int64} {k : Nat} (h : zs_bt y k = true) : zs_bt (x ||| y) k = true := by rw [zs_or, h, Bool.or_true]
theorem zs_orE {x y : Int64} {k : Nat} (h : zs_bt (x ||| y) k = true) : zs_bt x k = true ∨ zs_bt y k = true := by
  rw [zs_or] at h
  cases hb : zs_bt x k with
  | true => exact Or.inl rfl
  | false => rw [hb, Bool.false_or] at h; exact Or.inr h
theorem zs_oneT {k : Nat} (hk : k < 64) : zs_bt ((1 : Int64) <<< ((nI k).toInt64 &&& 63)) k = true := by rw [zs_one hk]; exact decide_eq_true rfl
theorem zs_oneE {k j : Nat} (hk : k < 64) (h : zs_bt ((1 : Int64) <<< ((nI k).toInt64 &&& 63)) j = true) : j = k := by
  rw [zs_one hk] at h
  exact of_decide_eq_true h
theorem zs_andL {x y : Int64} {k : Nat} (h : zs_bt (x &&& y) k = true) : zs_bt x k = true := by
  rw [zs_and] at h
  cases hb : zs_bt x k with
  | true => rfl
  | false => rw [hb, Bool.false_and] at h; exact h
theorem zs_andI {x y : Int64} {k : Nat} (hx : zs_bt x k = true) (hy : zs_bt y k = true) : zs_bt (x &&& y) k = true := by rw [zs_and, hx, hy]; rfl
end
section
theorem zs_ix {x : Int32} (n : Nat) (hn : n < 2 ^ 31) (h1 : ¬ x < 0) (h2 : ¬ nI n ≤ x) : ∃ j : Nat, j < n ∧ x = nI j := by
  rcases pk_ix x hn with h | h | h
  · exact absurd h h1
  · exact absurd h h2
  · exact h
theorem zs_m2 {k : Nat} (h : k < 2 ^ 31) : ¬ nI k = -2 := by
  intro e
  have t := congrArg Int32.toInt e
  rw [nI_toInt h] at t
  have t2 : (-2 : Int32).toInt = -2 := by decide
  omega
theorem zs_d6 {a : Nat} (h : a < 2 ^ 31) : nI a / 6 = nI (a / 6) := pk_div (d := 6) h (by omega) (by omega)
theorem zs_r6 {a : Nat} (h : a < 2 ^ 31) : nI a - nI a / 6 * 6 = nI (a % 6) := pk_rem (d := 6) h (by omega) (by omega)
theorem zs_d36 {a : Nat} (h : a < 2 ^ 31) : nI a / 36 = nI (a / 36) := pk_div (d := 36) h (by omega) (by omega)
theorem zs_r36 {a : Nat} (h : a < 2 ^ 31) : nI a - nI a / 36 * 36 = nI (a % 36) := pk_rem (d := 36) h (by omega) (by omega)
theorem zs_6 (x y : Nat) : (6 : Int32) * nI x + nI y = nI (6 * x + y) := by
  have h2 : (6 : Int32) * nI x = nI (6 * x) := pk_mul 6 x
  rw [h2, nI_add]
theorem zs_37 (x : Nat) : (37 : Int32) * nI x = nI (37 * x) := pk_mul 37 x
theorem zs_ad {a b c d : Nat} (h : d + c = a + b) : nI a + (nI b - nI c) = nI d := by
  have e : nI d + nI c = nI a + nI b := by rw [nI_add, nI_add, h]
  grind
theorem zs_da {a b c d : Nat} (ha : a < 2 ^ 20) (hb : b < 2 ^ 20) (hc : c < 2 ^ 20) (hd : d < 2 ^ 20) (h : nI a + (nI b - nI c) = nI d) : d + c = a + b := by
  have e : nI d + nI c = nI a + nI b := by grind
  rw [nI_add, nI_add] at e
  exact (nI_eq (by omega) (by omega)).mp e
theorem zs_moved {post : Int32 → Prop} {p0 p1 p2 : Int32} (H : ∀ r, (r = -1 ∨ ∃ x y : Nat, x < 6 ∧ y < 6 ∧ p0 / 6 + p1 = nI x ∧ (p0 - p0 / 6 * 6) + p2 = nI y ∧ r = nI (6 * x + y)) → post r) : wpX_moved post () p0 p1 p2 := by
  unfold wpX_moved
  have A : ∀ x y, wX_moved_41 post x y := fun x y => br_t (c := (0 : Int32) = 0) rfl (H _ (Or.inl rfl))
  refine ⟨by decide, fun x3 e3 => ⟨by decide, fun x4 e4 => ?_⟩⟩
  refine br_c (fun _ => A _ _) (fun n1 => br_c (fun _ => A _ _) (fun n2 => br_c (fun _ => A _ _) (fun n3 => br_c (fun _ => A _ _) (fun n4 => ?_))))
  obtain ⟨x, hx, ex⟩ := zs_ix 6 (by omega) n1 n2
  obtain ⟨y, hy, ey⟩ := zs_ix 6 (by omega) n3 n4
  refine br_f (by decide) (H _ (Or.inr ⟨x, y, hx, hy, ?_, ?_, ?_⟩))
  · rw [← e3, ex]
  · rw [← e4, ey]
  · rw [ex, ey, zs_6]
theorem zs_movedIn {post : Int32 → Prop} {p0 p1 p2 : Int32} {x y : Nat} (hx : x < 6) (hy : y < 6) (e3 : p0 / 6 + p1 = nI x) (e4 : (p0 - p0 / 6 * 6) + p2 = nI y) (h : post (nI (6 * x + y))) : wpX_moved post () p0 p1 p2 := by
  unfold wpX_moved
  refine ⟨by decide, nm_r e3 ⟨by decide, nm_r e4 ?_⟩⟩
  refine br_f (nI_pos (by omega)) (br_f (nI_ge (b := 6) hx (by decide)) (br_f (nI_pos (by omega)) (br_f (nI_ge (b := 6) hy (by decide)) ?_)))
  refine br_f (by decide) ?_
  rw [zs_6]
  exact h
theorem zs_cell {post : Int32 → Prop} {p : Int32} (h0 : post 0) (h1 : ∀ j : Nat, j < 36 → p = nI j → post 1) : wpX_isCell post () p := by
  unfold wpX_isCell
  refine br_c (fun _ => h0) (fun a => br_c (fun _ => h0) (fun b => ?_))
  obtain ⟨j, hj, e⟩ := zs_ix 36 (by omega) a b
  exact h1 j hj e
theorem zs_cellIn {post : Int32 → Prop} {j : Nat} (hj : j < 36) (h : post 1) : wpX_isCell post () (nI j) := by
  unfold wpX_isCell
  exact br_f (nI_pos (by omega)) (br_f (nI_ge (b := 36) hj (by decide)) h)
theorem zs_rc {post : Int32 → Prop} {p : Int32} (h0 : post 0) (h1 : ∀ f t : Nat, f < 36 → t < 36 → p / 36 = nI f → p - p / 36 * 36 = nI t → f / 6 ≤ t / 6 → f % 6 ≤ t % 6 → post 1) : wpX_isRectangle post () p := by
  unfold wpX_isRectangle
  refine ⟨by decide, fun x1 e1 => ⟨by decide, fun x2 e2 => br_c (fun _ => h0) (fun a => ?_)⟩⟩
  obtain ⟨j, hj, ej⟩ := nI_of a
  subst ej
  have E1 : nI j / 36 = nI (j / 36) := zs_d36 hj
  have E2 : nI j - nI j / 36 * 36 = nI (j % 36) := zs_r36 hj
  rw [E2] at e2
  rw [E1] at e1
  subst e1 e2
  refine pk_le 36 (j / 36) (fun _ => h0) (fun b => ⟨by decide, by decide, ?_⟩)
  rw [zs_r6 (a := j % 36) (by omega), zs_r6 (a := j / 36) (by omega), zs_d6 (a := j % 36) (by omega), zs_d6 (a := j / 36) (by omega)]
  refine pk_lt (j % 36 / 6) (j / 36 / 6) (fun _ => h0) (fun c => ⟨by decide, by decide, ?_⟩)
  exact pk_lt (j % 36 % 6) (j / 36 % 6) (fun _ => h0) (fun d => h1 (j / 36) (j % 36) b (by omega) E1 E2 c d)
theorem zs_rcIn {post : Int32 → Prop} {c : Nat} (hc : c < 36) (h : post 1) : wpX_isRectangle post () (nI (37 * c)) := by
  have E1 : nI (37 * c) / 36 = nI c := by rw [zs_d36 (by omega), show 37 * c / 36 = c by omega]
  have E2 : nI (37 * c) - nI (37 * c) / 36 * 36 = nI c := by rw [zs_r36 (by omega), show 37 * c % 36 = c by omega]
  unfold wpX_isRectangle
  refine ⟨by decide, nm_r E1 ⟨by decide, nm_r E2 ?_⟩⟩
  refine br_f (nI_pos (by omega)) (br_f (nI_ge (b := 36) hc (by decide)) ⟨by decide, by decide, br_f (fun z => ?_) ⟨by decide, by decide, br_f (fun z => ?_) h⟩⟩)
  · exact Int32.lt_irrefl z
  · exact Int32.lt_irrefl z
def zs_R (f t : Nat) (x : Int64) : Prop := ∀ k, zs_bt x k = true → k < 36 ∧ f / 6 ≤ k / 6 ∧ k / 6 ≤ t / 6 ∧ f % 6 ≤ k % 6 ∧ k % 6 ≤ t % 6
theorem zs_R0 (f t : Nat) : zs_R f t 0 := fun k h => absurd h (by rw [zs_zero]; exact Bool.false_ne_true)
theorem zs_Radd {f t r c : Nat} {x : Int64} (ht : t < 36) (h : zs_R f t x) (h1 : f / 6 ≤ r) (h2 : r ≤ t / 6) (h3 : f % 6 ≤ c) (h4 : c ≤ t % 6) : zs_R f t (x ||| ((1 : Int64) <<< (((6 * nI r) + nI c).toInt64 &&& 63))) := by
  rw [zs_6]
  intro k hk
  rcases zs_orE hk with hk | hk
  · exact h k hk
  · have e := zs_oneE (by omega) hk
    subst e
    omega
theorem zs_rs23 {post : Int64 → Prop} {J : Int64 → Int32 → Prop} {f t r : Nat} (ht : t < 36) (h1 : f / 6 ≤ r) (h2 : r ≤ t / 6) (H : ∀ y, zs_R f t y → J y (nI (r + 1))) : ∀ (n i : Nat) x, f % 6 ≤ i → i ≤ 6 → 6 - i < n → zs_R f t x → wX_rectangleSet_23 post J (nI f) (nI t) (nI r) n x (nI i) := by
  intro n
  induction n with
  | zero => intro i x _ _ h _; omega
  | succ n ih =>
    intro i x hi h6 hn hx
    refine ⟨by decide, ?_⟩
    rw [zs_r6 (a := t) (by omega)]
    refine pk_lt (t % 6) i (fun z => nm_r (nI_1 r) (H x hx)) (fun z => ?_)
    exact nm_e (nm_r (nI_1 i) (ih (i + 1) _ (by omega) (by omega) (by omega) (zs_Radd ht hx h1 h2 hi z)))
theorem zs_rs8 {post : Int64 → Prop} {f t : Nat} (hf : f < 36) (ht : t < 36) (H : ∀ y, zs_R f t y → post y) : ∀ (n i : Nat) x, f / 6 ≤ i → i ≤ 6 → 6 - i < n → zs_R f t x → wX_rectangleSet_8 post (nI f) (nI t) n x (nI i) := by
  intro n
  induction n with
  | zero => intro i x _ _ h _; omega
  | succ n ih =>
    intro i x hi h6 hn hx
    refine ⟨by decide, ?_⟩
    rw [zs_d6 (a := t) (by omega)]
    refine pk_lt (t / 6) i (fun z => H x hx) (fun z => ⟨by decide, nm_r (zs_r6 (by omega)) ⟨7, ?_⟩⟩)
    exact zs_rs23 ht hi z (fun y hy => ih (i + 1) y (by omega) (by omega) (by omega) hy) 7 (f % 6) x (by omega) (by omega) (by omega) hx
theorem zs_rset {post : Int64 → Prop} {f t : Nat} (hf : f < 36) (ht : t < 36) (H : ∀ y, zs_R f t y → post y) : wpX_rectangleSet post () (nI f) (nI t) := by
  unfold wpX_rectangleSet
  refine ⟨by decide, nm_r (zs_d6 (by omega)) ⟨7, ?_⟩⟩
  exact zs_rs8 hf ht H 7 (f / 6) 0 (by omega) (by omega) (by omega) (zs_R0 f t)
theorem zs_place {post : Int32 → Prop} {p : Int32} (H : ∀ r, post r) : wpL_place post () p := ⟨by decide, H _⟩
theorem zs_named {post : Int32 → Prop} {p : Int32} (H : ∀ r, post r) : wpL_named post () p := br_c (fun _ => H _) (fun _ => ⟨by decide, H _⟩)
theorem zs_rect66 {post : Int32 → Prop} (H : ∀ r, post r) (x y z v w : Int32) : wL_rect_66 post x y z v w := nm_e (nm_e (br_c (fun _ => H _) (fun _ => H _)))
theorem zs_rect57 {post : Int32 → Prop} (H : ∀ r, post r) (x y z v w : Int32) : wL_rect_57 post x y z v w := br_c (fun _ => zs_rect66 H _ _ _ _ _) (fun _ => zs_rect66 H _ _ _ _ _)
theorem zs_rect {post : Int32 → Prop} {p q : Int32} (H : ∀ r, post r) : wpL_rect post () p q :=
  ⟨by decide, nm_e ⟨by decide, nm_e (nm_e (nm_e (br_c (fun _ => zs_rect57 H _ _ _ _ _) (fun _ => zs_rect57 H _ _ _ _ _))))⟩⟩
theorem zs_comb54 {post : Int32 → Prop} (H : ∀ r, post r) (x y z : Int32) : wX_combined_54 post x y z := br_c (fun _ => H _) (fun _ => H _)
theorem zs_comb {post : Int32 → Prop} {p a b : Int32} (H : ∀ r, post r) : wpX_combined post () p a b := by
  unfold wpX_combined
  exact br_c (fun _ => H _) (fun _ => br_c (fun _ => H _) (fun _ => br_c (fun _ => H _) (fun _ => br_c (fun _ => br_c (fun _ => zs_comb54 H _ _ _) (fun _ => zs_comb54 H _ _ _)) (fun _ => br_c (fun _ => zs_comb54 H _ _ _) (fun _ => zs_comb54 H _ _ _)))))
end
section
section
variable {fr : Int64} {a1 a2 a3 a4 a5 a6 a7 a8 : Nat → Int32} {a9 a10 : Nat → Int64} {a11 a12 a13 : Nat → Int32}
def zs_C (k a b c : Int32) : Prop := k = 6 ∨ k = 1 ∨ ∃ f t : Nat, f < 36 ∧ t < 36 ∧ a = nI f ∧ b = nI t ∧ (k = 4 → ∃ g : Nat, g < 36 ∧ c = nI g) ∧ (k = 5 → f / 6 ≤ t / 6 ∧ f % 6 ≤ t % 6)
def zs_F (a1 a2 a3 a4 : Nat → Int32) : Prop := ∀ j, j < 36 → zs_C (a1 j) (a2 j) (a3 j) (a4 j)
def zs_V (a5 a6 : Nat → Int32) : Prop := ∀ j, j < 36 → (a5 j = -2 ∧ a6 j = -2) ∨ ∃ p q : Nat, p < 36 ∧ q < 36 ∧ a5 j = nI p ∧ a6 j = nI q
theorem zs_Vu {a5 a6 : Nat → Int32} {i p q : Nat} (h : zs_V a5 a6) (hp : p < 36) (hq : q < 36) : zs_V (upd a5 i (nI p)) (upd a6 i (nI q)) := by
  intro j hj
  by_cases e : j = i
  · subst e
    rw [pk_us, pk_us]
    exact Or.inr ⟨p, q, hp, hq, rfl, rfl⟩
  · rw [pk_un e, pk_un e]
    exact h j hj
theorem zs_V6 {a5 a6 : Nat → Int32} {j : Nat} (h : zs_V a5 a6) (hj : j < 36) : a6 j = -2 ∨ ∃ q : Nat, q < 36 ∧ a6 j = nI q := by
  rcases h j hj with h | ⟨p, q, _, hq, _, e⟩
  · exact Or.inl h.2
  · exact Or.inr ⟨q, hq, e⟩
theorem zs_Fu {a1 a2 a3 a4 : Nat → Int32} {i : Nat} {k a b c : Int32} (h : zs_F a1 a2 a3 a4) (hc : zs_C k a b c) : zs_F (upd a1 i k) (upd a2 i a) (upd a3 i b) (upd a4 i c) := by
  intro j hj
  by_cases e : j = i
  · subst e
    rw [pk_us, pk_us, pk_us, pk_us]
    exact hc
  · rw [pk_un e, pk_un e, pk_un e, pk_un e]
    exact h j hj
theorem zs_to23 {post : Int32 → Prop} {J : Int32 → Int32 → Prop} {f : Int32} {t r : Nat} (ht : t < 36) (h2 : r ≤ t / 6) (H : ∀ y, J y (nI (r + 1))) : ∀ (n i : Nat) x, i ≤ 6 → 6 - i < n → wX_totalOf_23 post J f (nI t) (nI r) fr a1 a2 a3 a4 a5 a6 a7 a8 a9 a10 a11 a12 a13 n x (nI i) := by
  intro n
  induction n with
  | zero => intro i x _ h; omega
  | succ n ih =>
    intro i x h6 hn
    refine ⟨by decide, ?_⟩
    rw [zs_r6 (a := t) (by omega)]
    refine pk_lt (t % 6) i (fun z => nm_r (nI_1 r) (H x)) (fun z => ⟨?_, nm_e (nm_r (nI_1 i) (ih (i + 1) _ (by omega) (by omega)))⟩)
    rw [zs_6]
    exact pk_in (6 * r + i) 36 (by omega)
theorem zs_to8 {post : Int32 → Prop} {f t : Nat} (hf : f < 36) (ht : t < 36) (H : ∀ y, post y) : ∀ (n i : Nat) x, i ≤ 6 → 6 - i < n → wX_totalOf_8 post (nI f) (nI t) fr a1 a2 a3 a4 a5 a6 a7 a8 a9 a10 a11 a12 a13 n x (nI i) := by
  intro n
  induction n with
  | zero => intro i x _ h; omega
  | succ n ih =>
    intro i x h6 hn
    refine ⟨by decide, ?_⟩
    rw [zs_d6 (a := t) (by omega)]
    refine pk_lt (t / 6) i (fun z => H x) (fun z => ⟨by decide, nm_r (zs_r6 (by omega)) ⟨7, ?_⟩⟩)
    exact zs_to23 ht z (fun y => ih (i + 1) y (by omega) (by omega)) 7 (f % 6) x (by omega) (by omega)
theorem zs_total {post : Int32 → Prop} {f t : Nat} (hf : f < 36) (ht : t < 36) (H : ∀ y, post y) : wpX_totalOf post (fr, a1, a2, a3, a4, a5, a6, a7, a8, a9, a10, a11, a12, a13) (nI f) (nI t) := by
  unfold wpX_totalOf
  refine ⟨by decide, nm_r (zs_d6 (by omega)) ⟨7, ?_⟩⟩
  exact zs_to8 hf ht H 7 (f / 6) 0 (by omega) (by omega)
theorem zs_total1 {post : Int32 → Prop} {c : Nat} (hc : c < 36) (H : post (a12 c)) : wpX_totalOf post (fr, a1, a2, a3, a4, a5, a6, a7, a8, a9, a10, a11, a12, a13) (nI c) (nI c) := by
  unfold wpX_totalOf
  refine ⟨by decide, nm_r (zs_d6 (by omega)) ⟨0 + 1 + 1, ?_⟩⟩
  refine ⟨by decide, ?_⟩
  rw [zs_r6 (a := c) (by omega), zs_d6 (a := c) (by omega)]
  refine br_f (nI_nlt (by omega) (by omega)) ⟨by decide, nm_e ⟨0 + 1 + 1, ?_⟩⟩
  refine ⟨by decide, ?_⟩
  rw [zs_r6 (a := c) (by omega)]
  refine br_f (nI_nlt (by omega) (by omega)) ?_
  rw [zs_6, show 6 * (c / 6) + c % 6 = c by omega, nI_clamp (show c < 2 ^ 31 by omega)]
  refine ⟨pk_in c 36 hc, nm_e (nm_r (nI_1 _) ?_)⟩
  refine ⟨by decide, ?_⟩
  rw [zs_r6 (a := c) (by omega)]
  refine br_t (nI_lt (by omega) (by omega)) (nm_r (nI_1 _) ?_)
  refine ⟨by decide, ?_⟩
  rw [zs_d6 (a := c) (by omega)]
  refine br_t (nI_lt (by omega) (by omega)) ?_
  rw [Int32.zero_add]
  exact H
theorem zs_valueNow {post : Int32 → Prop} {i : Nat} (hi : i < 36) (hC : zs_C (a1 i) (a2 i) (a3 i) (a4 i)) (h6 : ¬ a1 i = 6) (hV : a6 i = -2 ∨ ∃ q : Nat, q < 36 ∧ a6 i = nI q) (H : ∀ r, post r) : wpX_valueNow post (fr, a1, a2, a3, a4, a5, a6, a7, a8, a9, a10, a11, a12, a13) (nI i) := by
  have I := pk_in (x := nI i) i 36 hi
  unfold wpX_valueNow
  refine ⟨I, ?_⟩
  rw [nI_clamp (show i < 2 ^ 31 by omega)]
  refine br_c (fun _ => ⟨I, nm_e (br_c (fun _ => ⟨I, H _⟩) (fun k1 => ?_))⟩) (fun ne => ⟨I, ?_, H _⟩)
  · rcases hC with h | h | ⟨f, t, hf, ht, ea, eb, h4, _⟩
    · exact absurd h h6
    · exact absurd h k1
    · rw [ea, eb]
      refine br_c (fun _ => ⟨I, I, zs_total hf ht H⟩) (fun _ => ⟨I, pk_in f 36 hf, nm_e ⟨I, pk_in t 36 ht, nm_e (br_c (fun k4 => br_c (fun _ => ⟨I, ?_, H _⟩) (fun _ => H _)) (fun _ => ⟨I, zs_comb H⟩))⟩⟩)
      obtain ⟨g, hg, e⟩ := h4 k4
      rw [e]
      exact pk_in g 36 hg
  · rcases hV with h | ⟨q, hq, e⟩
    · exact absurd h ne
    · rw [e]
      exact pk_in q 36 hq
theorem zs_cov {post : St1 → Prop} {p f t x y : Nat} {w : Int64} (hp : p < 36) (hf : f < 36) (ht : t < 36) (h1 : f / 6 ≤ t / 6) (h2 : f % 6 ≤ t % 6) (ha : a2 p = nI f) (hx : x < 6) (hy : y < 6) (ex : x + f / 6 = p / 6 + t / 6) (ey : y + f % 6 = p % 6 + t % 6) (hw : zs_R p (6 * x + y) w) (H : ∀ b5 b6, zs_V b5 b6 → post (fr, a1, a2, a3, a4, b5, b6, a7, a8, a9, a10, a11, a12, a13)) : ∀ (n i : Nat) b5 b6, i ≤ 36 → 36 - i < n → zs_V b5 b6 → wX_cover_3 post (nI p) w fr n (nI i) a1 a2 a3 a4 b5 b6 a7 a8 a9 a10 a11 a12 a13 := by
  intro n
  induction n with
  | zero => intro i b5 b6 _ h _; omega
  | succ n ih =>
    intro i b5 b6 hi hn hv
    refine pk_le 36 i (fun _ => H b5 b6 hv) (fun z => zs_br i (fun hb => ?_) (fun _ => nm_r (nI_1 i) (ih (i + 1) b5 b6 (by omega) (by omega) hv)))
    have hr := hw i hb
    refine ⟨pk_in i 36 z, nm_e ⟨pk_in p 36 hp, by decide, by decide, by decide, by decide, ?_⟩⟩
    rw [nI_clamp (show p < 2 ^ 31 by omega), ha]
    refine zs_movedIn (x := f / 6 + i / 6 - p / 6) (y := f % 6 + i % 6 - p % 6) (by omega) (by omega) ?_ ?_ ?_
    · rw [zs_d6 (a := f) (by omega), zs_d6 (a := i) (by omega), zs_d6 (a := p) (by omega)]
      exact zs_ad (by omega)
    · rw [zs_r6 (a := f) (by omega), zs_r6 (a := i) (by omega), zs_r6 (a := p) (by omega)]
      exact zs_ad (by omega)
    · refine ⟨pk_in i 36 z, nm_e (nm_r (nI_1 i) (ih (i + 1) _ _ (by omega) (by omega) ?_))⟩
      exact zs_Vu hv hp (by omega)
theorem zs_area {post : Int64 → Prop} {p f t : Nat} (hp : p < 36) (hf : f < 36) (ht : t < 36) (e2 : a2 p = nI f) (e3 : a3 p = nI t) (H0 : post 0) (H1 : ∀ (x y : Nat) (w : Int64), x < 6 → y < 6 → x + f / 6 = p / 6 + t / 6 → y + f % 6 = p % 6 + t % 6 → zs_R p (6 * x + y) w → post w) : wpX_areaOf post (fr, a1, a2, a3, a4, a5, a6, a7, a8, a9, a10, a11, a12, a13) (nI p) := by
  have I := pk_in (x := nI p) p 36 hp
  unfold wpX_areaOf
  refine ⟨I, by decide, I, by decide, ?_⟩
  rw [nI_clamp (show p < 2 ^ 31 by omega), e2, e3, zs_r6 (a := f) (by omega), zs_r6 (a := t) (by omega), zs_d6 (a := f) (by omega), zs_d6 (a := t) (by omega)]
  refine nm_e ⟨I, by decide, I, by decide, nm_e ?_⟩
  refine zs_moved (fun r hr => ?_)
  rcases hr with h | ⟨x, y, hx, hy, ex, ey, h⟩
  · subst h
    exact br_f (by decide) H0
  · subst h
    rw [zs_d6 (a := p) (by omega)] at ex
    rw [zs_r6 (a := p) (by omega)] at ey
    refine br_t (nI_pos' (by omega)) (zs_rset hp (by omega) (fun w hw => ?_))
    exact H1 x y w hx hy (zs_da (by omega) (by omega) (by omega) (by omega) ex) (zs_da (by omega) (by omega) (by omega) (by omega) ey) hw
end
end
section
section
variable {fr : Int64} {a1 a2 a3 a4 a5 a6 a7 a8 : Nat → Int32} {a9 a10 : Nat → Int64} {a11 a12 a13 : Nat → Int32}
theorem zs_lay172 {post : St1 → Prop} (H : ∀ g, post (g, a1, a2, a3, a4, a5, a6, a7, a8, a9, a10, a11, a12, a13)) : ∀ (n i : Nat) g, i ≤ 36 → 36 - i < n → wX_layOut_172 post a1 a2 a3 a4 a5 a6 a7 a8 a9 a10 a11 a12 a13 n (nI i) g := by
  intro n
  induction n with
  | zero => intro i g _ h; omega
  | succ n ih =>
    intro i g hi hn
    exact pk_le 36 i (fun _ => H g) (fun z => ⟨pk_in i 36 z, pk_in i 36 z, br_c (fun _ => nm_r (nI_1 i) (ih (i + 1) _ (by omega) (by omega))) (fun _ => nm_e (nm_r (nI_1 i) (ih (i + 1) _ (by omega) (by omega))))⟩)
theorem zs_lay75 {post : St1 → Prop} {x1 : Int64} (hF : zs_F a1 a2 a3 a4) (H : ∀ g b5 b6 b8, zs_V b5 b6 → post (g, a1, a2, a3, a4, b5, b6, a7, b8, a9, a10, a11, a12, a13)) : ∀ (n i : Nat) x3 b5 b6 b8, i ≤ 36 → 36 - i < n → zs_V b5 b6 → wX_layOut_75 post x1 n x3 (nI i) fr a1 a2 a3 a4 b5 b6 a7 b8 a9 a10 a11 a12 a13 := by
  intro n
  induction n with
  | zero => intro i x3 b5 b6 b8 _ h _; omega
  | succ n ih =>
    intro i x3 b5 b6 b8 hi hn hv
    refine pk_le 36 i (fun _ => ⟨37, zs_lay172 (fun g => H g _ _ _ hv) 37 0 fr (by omega) (by omega)⟩) (fun z => ⟨pk_in i 36 z, ?_⟩)
    have K : wX_layOut_139 post (wX_layOut_75 post x1 n) x1 x3 (nI i) fr a1 a2 a3 a4 b5 b6 a7 b8 a9 a10 a11 a12 a13 :=
      ⟨pk_in i 36 z, nm_e (nm_r (nI_1 i) (ih (i + 1) _ _ _ _ (by omega) (by omega) hv))⟩
    refine br_c (fun k5 => ?_) (fun _ => nm_r (nI_1 i) (ih (i + 1) _ _ _ _ (by omega) (by omega) hv))
    rw [nI_clamp (show i < 2 ^ 31 by omega)] at k5
    rcases hF i z with h | h | ⟨f, t, hf, ht, ea, eb, _, hr⟩
    · rw [h] at k5
      exact absurd k5 (by decide)
    · rw [h] at k5
      exact absurd k5 (by decide)
    obtain ⟨r1, r2⟩ := hr k5
    refine zs_area z hf ht ea eb ?_ ?_
    · exact nm_e (br_t rfl K)
    · intro x y w hx hy ex ey hw
      refine nm_e (br_c (fun _ => K) (fun _ => br_c (fun _ => br_c (fun _ => nm_e ?_) (fun _ => K)) (fun _ => K)))
      refine ⟨37, ?_⟩
      refine zs_cov z hf ht r1 r2 ea hx hy ex ey hw ?_ 37 0 b5 b6 (by omega) (by omega) hv
      intro c5 c6 hc
      exact nm_r (nI_1 i) (ih (i + 1) _ c5 c6 b8 (by omega) (by omega) hc)
theorem zs_lay4 {post : St1 → Prop} (hF : zs_F a1 a2 a3 a4) (H : ∀ g b5 b6 b7 b8, zs_V b5 b6 → post (g, a1, a2, a3, a4, b5, b6, b7, b8, a9, a10, a11, a12, a13)) : ∀ (n i : Nat) x1 b5 b6 b7 b8, i ≤ 36 → 36 - i < n → (∀ j, j < i → b5 j = -2 ∧ b6 j = -2) → wX_layOut_4 post fr n x1 (nI i) a1 a2 a3 a4 b5 b6 b7 b8 a9 a10 a11 a12 a13 := by
  intro n
  induction n with
  | zero => intro i x1 b5 b6 b7 b8 _ h _; omega
  | succ n ih =>
    intro i x1 b5 b6 b7 b8 hi hn hv
    refine pk_le 36 i (fun z => ⟨37, ?_⟩) (fun z => ⟨pk_in i 36 z, ?_⟩)
    · refine zs_lay75 hF ?_ 37 0 0 b5 b6 b8 (by omega) (by omega) (fun j hj => Or.inl (hv j (by omega)))
      exact fun g c5 c6 c8 hc => H g c5 c6 b7 c8 hc
    · have K : ∀ z0, wX_layOut_27 post (wX_layOut_4 post fr n) (nI i) z0 x1 fr a1 a2 a3 a4 b5 b6 b7 b8 a9 a10 a11 a12 a13 := by
        intro z0
        refine nm_e ⟨pk_in i 36 z, pk_in i 36 z, nm_e ⟨pk_in i 36 z, nm_e ⟨pk_in i 36 z, nm_e ⟨pk_in i 36 z, nm_e (nm_r (nI_1 i) (ih (i + 1) _ _ _ _ _ (by omega) (by omega) ?_))⟩⟩⟩⟩
        rw [nI_clamp (show i < 2 ^ 31 by omega)]
        intro j hj
        by_cases e : j = i
        · subst e
          exact ⟨pk_us, pk_us⟩
        · rw [pk_un e, pk_un e]
          exact hv j (by omega)
      exact br_c (fun _ => K _) (fun _ => K _)
theorem zs_layOut {post : St1 → Prop} (hF : zs_F a1 a2 a3 a4) (H : ∀ g b5 b6 b7 b8, zs_V b5 b6 → post (g, a1, a2, a3, a4, b5, b6, b7, b8, a9, a10, a11, a12, a13)) : wpX_layOut post (fr, a1, a2, a3, a4, a5, a6, a7, a8, a9, a10, a11, a12, a13) := by
  refine ⟨37, ?_⟩
  exact zs_lay4 hF H 37 0 0 a5 a6 a7 a8 (by omega) (by omega) (fun j hj => absurd hj (by omega))
end
end
section
section
variable {fr : Int64} {a1 a2 a3 a4 a5 a6 a7 a8 : Nat → Int32} {a9 a10 : Nat → Int64} {a11 a12 a13 : Nat → Int32}
def zs_D (w : Int64) : Prop := ∀ k, zs_bt w k = true → k < 36
theorem zs_D0 : zs_D 0 := fun k h => absurd h (by rw [zs_zero]; exact Bool.false_ne_true)
theorem zs_D1 {x : Int32} {k : Nat} (hk : k < 36) (e : x = nI k) : zs_D ((1 : Int64) <<< (x.toInt64 &&& 63)) := by
  subst e
  intro j h
  rw [zs_oneE (by omega) h]
  exact hk
theorem zs_Dor {x y : Int64} (hx : zs_D x) (hy : zs_D y) : zs_D (x ||| y) := fun k h => (zs_orE h).elim (hx k) (hy k)
theorem zs_DR {f t : Nat} {x : Int64} (h : zs_R f t x) : zs_D x := fun k hk => (h k hk).1
theorem zs_fw2 {post : St1 → Prop} (hF : zs_F a1 a2 a3 a4) (hV : zs_V a5 a6) (H : ∀ g b9, (∀ j, j < 36 → zs_D (b9 j)) → post (g, a1, a2, a3, a4, a5, a6, a7, a8, b9, a10, a11, a12, a13)) : ∀ (n i : Nat) g b9, i ≤ 36 → 36 - i < n → (∀ j, j < i → zs_D (b9 j)) → wX_findWords_2 post n (nI i) g a1 a2 a3 a4 a5 a6 a7 a8 b9 a10 a11 a12 a13 := by
  intro n
  induction n with
  | zero => intro i g b9 _ h _; omega
  | succ n ih =>
    intro i g b9 hi hn hd
    refine pk_le 36 i (fun z => H g b9 (fun j hj => hd j (by omega))) (fun z => ?_)
    have I := pk_in (x := nI i) i 36 z
    have ci : (nI i).toNatClampNeg = i := nI_clamp (by omega)
    have U : ∀ w, zs_D w → ∀ j, j < i + 1 → zs_D (vp_updL b9 i w j) := by
      intro w hw j hj
      by_cases e : j = i
      · subst e
        rw [pk_uLs]
        exact hw
      · rw [pk_uLn e]
        exact hd j (by omega)
    have K : ∀ w, zs_D w → wX_findWords_117 post (wX_findWords_2 post n) (nI i) w g a1 a2 a3 a4 a5 a6 a7 a8 b9 a10 a11 a12 a13 := by
      intro w hw
      refine ⟨I, ?_⟩
      rw [ci]
      exact br_c (fun _ => ⟨I, nm_e (nm_r (nI_1 i) (ih (i + 1) _ _ (by omega) (by omega) (U w hw)))⟩) (fun _ => nm_e ⟨I, nm_e (nm_r (nI_1 i) (ih (i + 1) _ _ (by omega) (by omega) (U w hw)))⟩)
    have P : ∀ k, (k = 2 ∨ k = 4) → a1 i = k → wX_findWords_53 post (wX_findWords_2 post n) (nI i) k g a1 a2 a3 a4 a5 a6 a7 a8 b9 a10 a11 a12 a13 := by
      intro k hk ek
      rcases hF i z with h | h | ⟨f, t, hf, ht, ea, eb, h4, _⟩
      · rw [ek] at h
        subst h
        exact absurd hk (by decide)
      · rw [ek] at h
        subst h
        exact absurd hk (by decide)
      · refine ⟨I, I, ?_⟩
        rw [ci]
        refine nm_e (br_c (fun k4 => ⟨I, K _ ?_⟩) (fun _ => K _ ?_))
        · obtain ⟨q, hq, eq⟩ := h4 (ek.trans k4)
          exact zs_Dor (zs_Dor (zs_D1 hf ea) (zs_D1 ht eb)) (zs_D1 hq eq)
        · exact zs_Dor (zs_D1 hf ea) (zs_D1 ht eb)
    refine ⟨I, ?_⟩
    rw [ci]
    refine nm_e ⟨I, br_c (fun _ => br_c (fun k => P _ (Or.inl k) rfl) (fun _ => br_c (fun k => P _ (Or.inr k) rfl) (fun _ => br_c (fun k3 => ⟨I, I, ?_⟩) (fun _ => K _ zs_D0)))) (fun ne => ⟨I, nm_e (K _ ?_)⟩)⟩
    · rcases hF i z with h | h | ⟨f, t, hf, ht, ea, eb, _, _⟩
      · rw [h] at k3
        exact absurd k3 (by decide)
      · rw [h] at k3
        exact absurd k3 (by decide)
      · rw [ea, eb]
        exact zs_rset hf ht (fun w hw => K w (zs_DR hw))
    · rcases zs_V6 hV z with h | ⟨q, hq, e⟩
      · exact absurd h ne
      · exact zs_D1 hq e
theorem zs_findWords {post : St1 → Prop} (hF : zs_F a1 a2 a3 a4) (hV : zs_V a5 a6) (H : ∀ g b9, (∀ j, j < 36 → zs_D (b9 j)) → post (g, a1, a2, a3, a4, a5, a6, a7, a8, b9, a10, a11, a12, a13)) : wpX_findWords post (fr, a1, a2, a3, a4, a5, a6, a7, a8, a9, a10, a11, a12, a13) := by
  refine ⟨37, ?_⟩
  exact zs_fw2 hF hV H 37 0 fr a9 (by omega) (by omega) (fun j hj => absurd hj (by omega))
def zs_E (a9 a10 : Nat → Int64) : Prop := ∀ j, j < 36 → (a10 j = 0 ↔ a9 j = 0)
theorem zs_Eu {a9 a10 : Nat → Int64} {i : Nat} (w : Int64) (h : zs_E a9 a10) (hn : ¬ a10 i = 0) : zs_E a9 (vp_updL a10 i (a10 i ||| w)) := by
  intro j hj
  by_cases e : j = i
  · subst e
    rw [pk_uLs]
    exact ⟨fun z => absurd z (zs_or0 w hn), fun z => absurd ((h j hj).mpr z) hn⟩
  · rw [pk_uLn e]
    exact h j hj
theorem zs_cl36 {post : St1 → Prop} {J : Int32 → (Nat → Int32) → (Nat → Int32) → (Nat → Int32) → (Nat → Int32) → (Nat → Int32) → (Nat → Int32) → (Nat → Int32) → (Nat → Int32) → (Nat → Int64) → (Nat → Int64) → (Nat → Int32) → (Nat → Int32) → (Nat → Int32) → Prop} {o : Nat} (ho : o < 36) (H : ∀ b10, zs_E a9 b10 → J (nI (o + 1)) a1 a2 a3 a4 a5 a6 a7 a8 a9 b10 a11 a12 a13) : ∀ (n i : Nat) b10, i ≤ 36 → 36 - i < n → zs_E a9 b10 → wX_close_36 post J (nI o) fr n (nI i) a1 a2 a3 a4 a5 a6 a7 a8 a9 b10 a11 a12 a13 := by
  intro n
  induction n with
  | zero => intro i b10 _ h _; omega
  | succ n ih =>
    intro i b10 hi hn he
    refine pk_le 36 i (fun z => nm_r (nI_1 o) (H b10 he)) (fun z => ?_)
    have I := pk_in (x := nI i) i 36 z
    refine ⟨I, ?_⟩
    rw [nI_clamp (show i < 2 ^ 31 by omega)]
    refine zs_br o (fun hb => ⟨I, pk_in o 36 ho, I, nm_e (nm_r (nI_1 i) (ih (i + 1) _ (by omega) (by omega) ?_))⟩) (fun _ => nm_r (nI_1 i) (ih (i + 1) _ (by omega) (by omega) he))
    exact zs_Eu _ he (zs_ne0 hb)
theorem zs_cl28 {post : St1 → Prop} (H : ∀ b10, zs_E a9 b10 → post (fr, a1, a2, a3, a4, a5, a6, a7, a8, a9, b10, a11, a12, a13)) : ∀ (n i : Nat) b10, i ≤ 36 → 36 - i < n → zs_E a9 b10 → wX_close_28 post fr n (nI i) a1 a2 a3 a4 a5 a6 a7 a8 a9 b10 a11 a12 a13 := by
  intro n
  induction n with
  | zero => intro i b10 _ h _; omega
  | succ n ih =>
    intro i b10 hi hn he
    refine pk_le 36 i (fun z => H b10 he) (fun z => ⟨37, ?_⟩)
    refine zs_cl36 z ?_ 37 0 b10 (by omega) (by omega) he
    intro c10 hc
    exact ih (i + 1) c10 (by omega) (by omega) hc
theorem zs_cl2 {post : St1 → Prop} (H : ∀ b10, zs_E a9 b10 → post (fr, a1, a2, a3, a4, a5, a6, a7, a8, a9, b10, a11, a12, a13)) : ∀ (n i : Nat) b10, i ≤ 36 → 36 - i < n → (∀ j, j < i → b10 j = a9 j) → wX_close_2 post fr n (nI i) a1 a2 a3 a4 a5 a6 a7 a8 a9 b10 a11 a12 a13 := by
  intro n
  induction n with
  | zero => intro i b10 _ h _; omega
  | succ n ih =>
    intro i b10 hi hn he
    refine pk_le 36 i (fun z => ⟨37, ?_⟩) (fun z => ?_)
    · refine zs_cl28 H 37 0 b10 (by omega) (by omega) ?_
      intro j hj
      rw [he j (by omega)]
    · have I := pk_in (x := nI i) i 36 z
      refine ⟨I, I, nm_e (nm_r (nI_1 i) (ih (i + 1) _ (by omega) (by omega) ?_))⟩
      rw [nI_clamp (show i < 2 ^ 31 by omega)]
      intro j hj
      by_cases e : j = i
      · subst e
        rw [pk_uLs]
      · rw [pk_uLn e]
        exact he j (by omega)
theorem zs_close {post : St1 → Prop} (H : ∀ b10, zs_E a9 b10 → post (fr, a1, a2, a3, a4, a5, a6, a7, a8, a9, b10, a11, a12, a13)) : wpX_close post (fr, a1, a2, a3, a4, a5, a6, a7, a8, a9, a10, a11, a12, a13) := by
  refine ⟨37, ?_⟩
  exact zs_cl2 H 37 0 a10 (by omega) (by omega) (fun j hj => absurd hj (by omega))
def zs_S (w : Int64) (k s : Int32) (j : Nat) : Prop := (s = 0 ∨ s = 1 ∨ s = 2 ∨ s = 3) ∧ (zs_bt w j = true → s = 2) ∧ (s = 1 → ¬ k = 6)
theorem zs_fs71 {post : St1 → Prop} {x1 x3 : Int64} (hx : ∀ j, j < 36 → (zs_bt (a10 j) j = true → zs_bt x1 j = true) ∧ (a1 j = 6 → zs_bt x3 j = true)) (H : ∀ g b11, (∀ j, j < 36 → zs_S (a10 j) (a1 j) (b11 j) j) → post (g, a1, a2, a3, a4, a5, a6, a7, a8, a9, a10, b11, a12, a13)) : ∀ (n i : Nat) g b11, i ≤ 36 → 36 - i < n → (∀ j, j < i → zs_S (a10 j) (a1 j) (b11 j) j) → wX_findStates_71 post x1 x3 n (nI i) g a1 a2 a3 a4 a5 a6 a7 a8 a9 a10 b11 a12 a13 := by
  intro n
  induction n with
  | zero => intro i g b11 _ h _; omega
  | succ n ih =>
    intro i g b11 hi hn hs
    refine pk_le 36 i (fun z => H g b11 (fun j hj => hs j (by omega))) (fun z => ?_)
    have I := pk_in (x := nI i) i 36 z
    have ci : (nI i).toNatClampNeg = i := nI_clamp (by omega)
    have U : ∀ s, zs_S (a10 i) (a1 i) s i → ∀ j, j < i + 1 → zs_S (a10 j) (a1 j) (upd b11 i s j) j := by
      intro s h j hj
      by_cases e : j = i
      · subst e
        rw [pk_us]
        exact h
      · rw [pk_un e]
        exact hs j (by omega)
    have K : ∀ s, zs_S (a10 i) (a1 i) s i → wX_findStates_148 post (wX_findStates_71 post x1 x3 n) x1 x3 (nI i) s g a1 a2 a3 a4 a5 a6 a7 a8 a9 a10 b11 a12 a13 := by
      intro s h
      refine ⟨I, ?_⟩
      rw [ci]
      exact br_c (fun _ => ⟨I, nm_e (nm_r (nI_1 i) (ih (i + 1) _ _ (by omega) (by omega) (U s h)))⟩) (fun _ => nm_e ⟨I, nm_e (nm_r (nI_1 i) (ih (i + 1) _ _ (by omega) (by omega) (U s h)))⟩)
    have hb : zs_bt (a10 i ||| ((1 : Int64) <<< ((nI i).toInt64 &&& 63))) i = true := zs_orR _ (zs_oneT (by omega))
    have M : ∀ s, (s = 0 ∨ s = 1) → wX_findStates_119 post (wX_findStates_71 post x1 x3 n) x1 x3 (nI i) (a10 i ||| ((1 : Int64) <<< ((nI i).toInt64 &&& 63))) s g a1 a2 a3 a4 a5 a6 a7 a8 a9 a10 b11 a12 a13 := by
      intro s h
      refine br_c (fun c1 => br_c (fun c2 => K s ⟨?_, fun t => ?_, fun _ k6 => ?_⟩) (fun _ => K 3 ⟨by decide, fun t => ?_, fun t => absurd t (by decide)⟩)) (fun _ => K 2 ⟨by decide, fun _ => rfl, fun t => absurd t (by decide)⟩)
      · rcases h with h | h
        · exact Or.inl h
        · exact Or.inr (Or.inl h)
      · exact absurd c1 (zs_and0 hb ((hx i z).1 t))
      · exact zs_and0 hb ((hx i z).2 k6) c2
      · exact absurd c1 (zs_and0 hb ((hx i z).1 t))
    refine ⟨I, ?_⟩
    rw [ci]
    exact nm_e ⟨I, br_c (fun _ => ⟨I, br_c (fun _ => M 0 (Or.inl rfl)) (fun _ => M 1 (Or.inr rfl))⟩) (fun _ => M 1 (Or.inr rfl))⟩
theorem zs_fs7 {post : St1 → Prop} (H : ∀ g b11, (∀ j, j < 36 → zs_S (a10 j) (a1 j) (b11 j) j) → post (g, a1, a2, a3, a4, a5, a6, a7, a8, a9, a10, b11, a12, a13)) : ∀ (n i : Nat) x1 x3, i ≤ 36 → 36 - i < n → (∀ j, j < i → (zs_bt (a10 j) j = true → zs_bt x1 j = true) ∧ (a1 j = 6 → zs_bt x3 j = true)) → wX_findStates_7 post fr a1 a2 a3 a4 a5 a6 a7 a8 a9 a10 a11 a12 a13 n x1 x3 (nI i) := by
  intro n
  induction n with
  | zero => intro i x1 x3 _ h _; omega
  | succ n ih =>
    intro i x1 x3 hi hn hx
    refine pk_le 36 i (fun z => ⟨37, ?_⟩) (fun z => ?_)
    · exact zs_fs71 (fun j hj => hx j (by omega)) H 37 0 fr a11 (by omega) (by omega) (fun j hj => absurd hj (by omega))
    · have I := pk_in (x := nI i) i 36 z
      have ci : (nI i).toNatClampNeg = i := nI_clamp (by omega)
      have U : ∀ y, (a1 i = 6 → zs_bt (x3 ||| y) i = true) → ∀ j, j < i + 1 → (zs_bt (a10 j) j = true → zs_bt (x1 ||| (a10 i &&& ((1 : Int64) <<< ((nI i).toInt64 &&& 63)))) j = true) ∧ (a1 j = 6 → zs_bt (x3 ||| y) j = true) := by
        intro y hy j hj
        by_cases e : j = i
        · subst e
          exact ⟨fun t => zs_orR _ (zs_andI t (zs_oneT (by omega))), hy⟩
        · exact ⟨fun t => zs_orL _ ((hx j (by omega)).1 t), fun t => zs_orL _ ((hx j (by omega)).2 t)⟩
      have K : wX_findStates_52 post (wX_findStates_7 post fr a1 a2 a3 a4 a5 a6 a7 a8 a9 a10 a11 a12 a13 n) (x1 ||| (a10 i &&& ((1 : Int64) <<< ((nI i).toInt64 &&& 63)))) (nI i) x3 fr a1 a2 a3 a4 a5 a6 a7 a8 a9 a10 a11 a12 a13 :=
        nm_e (nm_r (nI_1 i) (ih (i + 1) _ _ (by omega) (by omega) (U _ (fun _ => zs_orR _ (zs_oneT (by omega))))))
      refine ⟨I, ?_⟩
      rw [ci]
      exact nm_e ⟨I, br_c (fun _ => ⟨I, br_c (fun _ => K) (fun n6 => nm_e (nm_r (nI_1 i) (ih (i + 1) _ _ (by omega) (by omega) (U 0 (fun t => absurd t n6)))))⟩) (fun _ => K)⟩
theorem zs_findStates {post : St1 → Prop} (H : ∀ g b11, (∀ j, j < 36 → zs_S (a10 j) (a1 j) (b11 j) j) → post (g, a1, a2, a3, a4, a5, a6, a7, a8, a9, a10, b11, a12, a13)) : wpX_findStates post (fr, a1, a2, a3, a4, a5, a6, a7, a8, a9, a10, a11, a12, a13) := by
  refine ⟨37, ?_⟩
  exact zs_fs7 H 37 0 0 0 (by omega) (by omega) (fun j hj => absurd hj (by omega))
def zs_W (a11 : Nat → Int32) (x : Int64) : Prop := ∀ k, zs_bt x k = true → k < 36 ∧ a11 k = 1
theorem zs_W0 (a11 : Nat → Int32) : zs_W a11 0 := fun k h => absurd h (by rw [zs_zero]; exact Bool.false_ne_true)
theorem zs_wo83 {post : St1 → Prop} {J : Int64 → Int32 → (Nat → Int32) → (Nat → Int32) → (Nat → Int32) → (Nat → Int32) → (Nat → Int32) → (Nat → Int32) → (Nat → Int32) → (Nat → Int32) → (Nat → Int64) → (Nat → Int64) → (Nat → Int32) → (Nat → Int32) → (Nat → Int32) → Prop} {o : Nat} (hF : zs_F a1 a2 a3 a4) (hV : zs_V a5 a6) (hS : ∀ j, j < 36 → zs_S (a10 j) (a1 j) (a11 j) j) (H : ∀ x b12, zs_W a11 x → J x (nI (o + 1)) a1 a2 a3 a4 a5 a6 a7 a8 a9 a10 a11 b12 a13) : ∀ (n i : Nat) x b12, i ≤ 36 → 36 - i < n → zs_W a11 x → wX_workOut_83 post J (nI o) fr n x (nI i) a1 a2 a3 a4 a5 a6 a7 a8 a9 a10 a11 b12 a13 := by
  intro n
  induction n with
  | zero => intro i x b12 _ h _; omega
  | succ n ih =>
    intro i x b12 hi hn hw
    refine pk_le 36 i (fun z => nm_r (nI_1 o) (H x b12 hw)) (fun z => ?_)
    have I := pk_in (x := nI i) i 36 z
    refine zs_br i (fun hb => ⟨I, br_c (fun _ => ?_) (fun _ => nm_r (nI_1 i) (ih (i + 1) _ _ (by omega) (by omega) hw))⟩) (fun _ => nm_r (nI_1 i) (ih (i + 1) _ _ (by omega) (by omega) hw))
    refine zs_valueNow z (hF i z) ((hS i z).2.2 (hw i hb).2) (zs_V6 hV z) ?_
    intro r
    exact ⟨I, nm_e (nm_e (nm_r (nI_1 i) (ih (i + 1) _ _ (by omega) (by omega) (fun k hk => hw k (zs_andL hk)))))⟩
theorem zs_wo68 {post : St1 → Prop} (hF : zs_F a1 a2 a3 a4) (hV : zs_V a5 a6) (hS : ∀ j, j < 36 → zs_S (a10 j) (a1 j) (a11 j) j) (H : ∀ b12, post (fr, a1, a2, a3, a4, a5, a6, a7, a8, a9, a10, a11, b12, a13)) : ∀ (n i : Nat) x b12, i ≤ 36 → 36 - i < n → zs_W a11 x → wX_workOut_68 post fr n x (nI i) a1 a2 a3 a4 a5 a6 a7 a8 a9 a10 a11 b12 a13 := by
  intro n
  induction n with
  | zero => intro i x b12 _ h _; omega
  | succ n ih =>
    intro i x b12 hi hn hw
    refine pk_le 36 i (fun z => H b12) (fun z => br_c (fun _ => H b12) (fun _ => ⟨37, ?_⟩))
    refine zs_wo83 hF hV hS ?_ 37 0 x b12 (by omega) (by omega) hw
    intro y c12 hy
    exact ih (i + 1) y c12 (by omega) (by omega) hy
theorem zs_wo4 {post : St1 → Prop} (hF : zs_F a1 a2 a3 a4) (hV : zs_V a5 a6) (hS : ∀ j, j < 36 → zs_S (a10 j) (a1 j) (a11 j) j) (H : ∀ b12, post (fr, a1, a2, a3, a4, a5, a6, a7, a8, a9, a10, a11, b12, a13)) : ∀ (n i : Nat) x b12, i ≤ 36 → 36 - i < n → zs_W a11 x → wX_workOut_4 post fr n x (nI i) a1 a2 a3 a4 a5 a6 a7 a8 a9 a10 a11 b12 a13 := by
  intro n
  induction n with
  | zero => intro i x b12 _ h _; omega
  | succ n ih =>
    intro i x b12 hi hn hw
    refine pk_le 36 i (fun z => ⟨37, ?_⟩) (fun z => ?_)
    · exact zs_wo68 hF hV hS H 37 0 x b12 (by omega) (by omega) hw
    · have I := pk_in (x := nI i) i 36 z
      refine ⟨I, ?_⟩
      rw [nI_clamp (show i < 2 ^ 31 by omega)]
      refine nm_e ⟨I, br_c (fun s1 => br_c (fun _ => nm_r (nI_1 i) (ih (i + 1) _ _ (by omega) (by omega) hw)) (fun _ => nm_e (nm_r (nI_1 i) (ih (i + 1) _ _ (by omega) (by omega) ?_)))) (fun _ => ⟨I, nm_e (nm_r (nI_1 i) (ih (i + 1) _ _ (by omega) (by omega) hw))⟩)⟩
      intro k hk
      rcases zs_orE hk with h | h
      · exact hw k h
      · rw [zs_oneE (by omega) h]
        exact ⟨z, s1⟩
theorem zs_workOut {post : St1 → Prop} (hF : zs_F a1 a2 a3 a4) (hV : zs_V a5 a6) (hS : ∀ j, j < 36 → zs_S (a10 j) (a1 j) (a11 j) j) (H : ∀ b12, post (fr, a1, a2, a3, a4, a5, a6, a7, a8, a9, a10, a11, b12, a13)) : wpX_workOut post (fr, a1, a2, a3, a4, a5, a6, a7, a8, a9, a10, a11, a12, a13) := by
  refine ⟨37, ?_⟩
  exact zs_wo4 hF hV hS H 37 0 0 a12 (by omega) (by omega) (zs_W0 a11)
def zs_J (a1 a2 a3 a4 a5 a6 : Nat → Int32) (a9 a10 : Nat → Int64) (a11 : Nat → Int32) : Prop := zs_F a1 a2 a3 a4 ∧ zs_V a5 a6 ∧ (∀ j, j < 36 → zs_D (a9 j)) ∧ zs_E a9 a10 ∧ (∀ j, j < 36 → zs_S (a10 j) (a1 j) (a11 j) j)
theorem zs_renew {post : St1 → Prop} {p : Int32} (hF : zs_F a1 a2 a3 a4) (H : ∀ g b5 b6 b7 b8 b9 b10 b11 b12, zs_J a1 a2 a3 a4 b5 b6 b9 b10 b11 → post (g, a1, a2, a3, a4, b5, b6, b7, b8, b9, b10, b11, b12, a13)) : wpX_renew post (fr, a1, a2, a3, a4, a5, a6, a7, a8, a9, a10, a11, a12, a13) p := by
  unfold wpX_renew
  refine nm_e ?_
  refine zs_layOut hF ?_
  intro g1 b5 b6 b7 b8 hV
  refine zs_findWords hF hV ?_
  intro g2 b9 hD
  refine zs_close ?_
  intro b10 hE
  refine zs_findStates ?_
  intro g3 b11 hS
  refine zs_workOut hF hV hS ?_
  intro b12
  exact H g3 b5 b6 b7 b8 b9 b10 b11 b12 ⟨hF, hV, hD, hE, hS⟩
end
end
section
section
variable {fr : Int64} {a1 a2 a3 a4 a5 a6 a7 a8 : Nat → Int32} {a9 a10 : Nat → Int64} {a11 a12 a13 : Nat → Int32}
theorem zs_write {post : St1 → Prop} {j : Nat} {k a b c : Int32} (hj : j < 36) (h : post (fr, (upd a1 j k), (upd a2 j a), (upd a3 j b), (upd a4 j c), a5, a6, a7, a8, a9, a10, a11, a12, a13)) : wpX_write post (fr, a1, a2, a3, a4, a5, a6, a7, a8, a9, a10, a11, a12, a13) (nI j) k a b c := by
  have I := pk_in (x := nI j) j 36 hj
  unfold wpX_write
  refine ⟨I, ?_⟩
  rw [nI_clamp (show j < 2 ^ 31 by omega)]
  exact nm_e ⟨I, nm_e ⟨I, nm_e ⟨I, nm_e h⟩⟩⟩
theorem zs_number {post : Int32 → St1 → Prop} {p q : Int32} (hJ : zs_J a1 a2 a3 a4 a5 a6 a9 a10 a11) (H : ∀ (r : Int32) (g : Int64) (b1 b2 b3 b4 b5 b6 b7 b8 : Nat → Int32) (b9 b10 : Nat → Int64) (b11 b12 b13 : Nat → Int32), zs_J b1 b2 b3 b4 b5 b6 b9 b10 b11 → post r (g, b1, b2, b3, b4, b5, b6, b7, b8, b9, b10, b11, b12, b13)) : wpX_number post (fr, a1, a2, a3, a4, a5, a6, a7, a8, a9, a10, a11, a12, a13) p q := by
  have H0 : ∀ r, post r (fr, a1, a2, a3, a4, a5, a6, a7, a8, a9, a10, a11, a12, a13) := fun r => H r _ _ _ _ _ _ _ _ _ _ _ _ _ _ hJ
  unfold wpX_number
  refine zs_cell ?_ ?_
  · exact br_t rfl (H0 _)
  · intro j hj e
    subst e
    refine br_f (by decide) (br_c (fun _ => H0 _) (fun _ => br_c (fun _ => ?_) (fun _ => H0 _)))
    refine zs_write hj ?_
    refine zs_renew (zs_Fu hJ.1 ?_) ?_
    · exact Or.inr (Or.inl rfl)
    · intro g b5 b6 b7 b8 b9 b10 b11 b12 h
      exact H _ _ _ _ _ _ _ _ _ _ _ _ _ _ _ h
theorem zs_pair {post : Int32 → St1 → Prop} {p o a b : Int32} (hJ : zs_J a1 a2 a3 a4 a5 a6 a9 a10 a11) (H : ∀ (r : Int32) (g : Int64) (b1 b2 b3 b4 b5 b6 b7 b8 : Nat → Int32) (b9 b10 : Nat → Int64) (b11 b12 b13 : Nat → Int32), zs_J b1 b2 b3 b4 b5 b6 b9 b10 b11 → post r (g, b1, b2, b3, b4, b5, b6, b7, b8, b9, b10, b11, b12, b13)) : wpX_pair post (fr, a1, a2, a3, a4, a5, a6, a7, a8, a9, a10, a11, a12, a13) p o a b := by
  have H0 : ∀ r, post r (fr, a1, a2, a3, a4, a5, a6, a7, a8, a9, a10, a11, a12, a13) := fun r => H r _ _ _ _ _ _ _ _ _ _ _ _ _ _ hJ
  unfold wpX_pair
  refine zs_cell ?_ ?_
  · exact br_t rfl (H0 _)
  · intro j hj e
    subst e
    refine br_f (by decide) (br_c (fun _ => H0 _) (fun _ => br_c (fun _ => ?_) (fun _ => H0 _)))
    refine zs_cell ?_ ?_
    · exact br_t rfl (H0 _)
    · intro f hf ef
      refine br_f (by decide) ?_
      refine zs_cell ?_ ?_
      · exact br_t rfl (H0 _)
      · intro t ht et
        refine br_f (by decide) ?_
        refine zs_write hj ?_
        refine zs_renew (zs_Fu hJ.1 ?_) ?_
        · exact Or.inr (Or.inr ⟨f, t, hf, ht, ef, et, fun h => absurd h (by decide), fun h => absurd h (by decide)⟩)
        · intro g b5 b6 b7 b8 b9 b10 b11 b12 h
          exact H _ _ _ _ _ _ _ _ _ _ _ _ _ _ _ h
theorem zs_choice {post : Int32 → St1 → Prop} {p a b c : Int32} (hJ : zs_J a1 a2 a3 a4 a5 a6 a9 a10 a11) (H : ∀ (r : Int32) (g : Int64) (b1 b2 b3 b4 b5 b6 b7 b8 : Nat → Int32) (b9 b10 : Nat → Int64) (b11 b12 b13 : Nat → Int32), zs_J b1 b2 b3 b4 b5 b6 b9 b10 b11 → post r (g, b1, b2, b3, b4, b5, b6, b7, b8, b9, b10, b11, b12, b13)) : wpX_choice post (fr, a1, a2, a3, a4, a5, a6, a7, a8, a9, a10, a11, a12, a13) p a b c := by
  have H0 : ∀ r, post r (fr, a1, a2, a3, a4, a5, a6, a7, a8, a9, a10, a11, a12, a13) := fun r => H r _ _ _ _ _ _ _ _ _ _ _ _ _ _ hJ
  unfold wpX_choice
  refine zs_cell ?_ ?_
  · exact br_t rfl (H0 _)
  · intro j hj e
    subst e
    refine br_f (by decide) ?_
    refine zs_cell ?_ ?_
    · exact br_t rfl (H0 _)
    · intro f hf ef
      refine br_f (by decide) ?_
      refine zs_cell ?_ ?_
      · exact br_t rfl (H0 _)
      · intro t ht et
        refine br_f (by decide) ?_
        refine zs_cell ?_ ?_
        · exact br_t rfl (H0 _)
        · intro u hu eu
          refine br_f (by decide) ?_
          refine zs_write hj ?_
          refine zs_renew (zs_Fu hJ.1 ?_) ?_
          · exact Or.inr (Or.inr ⟨f, t, hf, ht, ef, et, fun _ => ⟨u, hu, eu⟩, fun h => absurd h (by decide)⟩)
          · intro g b5 b6 b7 b8 b9 b10 b11 b12 h
            exact H _ _ _ _ _ _ _ _ _ _ _ _ _ _ _ h
theorem zs_sum {post : Int32 → St1 → Prop} {p q : Int32} (hJ : zs_J a1 a2 a3 a4 a5 a6 a9 a10 a11) (H : ∀ (r : Int32) (g : Int64) (b1 b2 b3 b4 b5 b6 b7 b8 : Nat → Int32) (b9 b10 : Nat → Int64) (b11 b12 b13 : Nat → Int32), zs_J b1 b2 b3 b4 b5 b6 b9 b10 b11 → post r (g, b1, b2, b3, b4, b5, b6, b7, b8, b9, b10, b11, b12, b13)) : wpX_sum post (fr, a1, a2, a3, a4, a5, a6, a7, a8, a9, a10, a11, a12, a13) p q := by
  have H0 : ∀ r, post r (fr, a1, a2, a3, a4, a5, a6, a7, a8, a9, a10, a11, a12, a13) := fun r => H r _ _ _ _ _ _ _ _ _ _ _ _ _ _ hJ
  unfold wpX_sum
  refine zs_cell ?_ ?_
  · exact br_t rfl (H0 _)
  · intro j hj e
    subst e
    refine br_f (by decide) ?_
    refine zs_rc ?_ ?_
    · exact br_t rfl (H0 _)
    · intro f t hf ht ef et r1 r2
      refine br_f (by decide) ⟨by decide, nm_e ⟨by decide, nm_e ?_⟩⟩
      refine zs_write hj ?_
      refine zs_renew (zs_Fu hJ.1 ?_) ?_
      · exact Or.inr (Or.inr ⟨f, t, hf, ht, ef, et, fun h => absurd h (by decide), fun _ => ⟨r1, r2⟩⟩)
      · intro g b5 b6 b7 b8 b9 b10 b11 b12 h
        exact ⟨by decide, by decide, by decide, by decide, H _ _ _ _ _ _ _ _ _ _ _ _ _ _ _ h⟩
theorem zs_spread {post : Int32 → St1 → Prop} {p q : Int32} (hJ : zs_J a1 a2 a3 a4 a5 a6 a9 a10 a11) (H : ∀ (r : Int32) (g : Int64) (b1 b2 b3 b4 b5 b6 b7 b8 : Nat → Int32) (b9 b10 : Nat → Int64) (b11 b12 b13 : Nat → Int32), zs_J b1 b2 b3 b4 b5 b6 b9 b10 b11 → post r (g, b1, b2, b3, b4, b5, b6, b7, b8, b9, b10, b11, b12, b13)) : wpX_spread post (fr, a1, a2, a3, a4, a5, a6, a7, a8, a9, a10, a11, a12, a13) p q := by
  have H0 : ∀ r, post r (fr, a1, a2, a3, a4, a5, a6, a7, a8, a9, a10, a11, a12, a13) := fun r => H r _ _ _ _ _ _ _ _ _ _ _ _ _ _ hJ
  unfold wpX_spread
  refine zs_cell ?_ ?_
  · exact br_t rfl (H0 _)
  · intro j hj e
    subst e
    refine br_f (by decide) ?_
    refine zs_rc ?_ ?_
    · exact br_t rfl (H0 _)
    · intro f t hf ht ef et r1 r2
      refine br_f (by decide) ⟨by decide, by decide, ?_⟩
      refine zs_write hj ?_
      refine zs_renew (zs_Fu hJ.1 ?_) ?_
      · exact Or.inr (Or.inr ⟨f, t, hf, ht, ef, et, fun h => absurd h (by decide), fun _ => ⟨r1, r2⟩⟩)
      · intro g b5 b6 b7 b8 b9 b10 b11 b12 h
        exact ⟨pk_in j 36 hj, br_c (fun _ => H _ _ _ _ _ _ _ _ _ _ _ _ _ _ _ h) (fun _ => H _ _ _ _ _ _ _ _ _ _ _ _ _ _ _ h)⟩
theorem zs_erase {post : Int32 → St1 → Prop} {p : Int32} (hJ : zs_J a1 a2 a3 a4 a5 a6 a9 a10 a11) (H : ∀ (r : Int32) (g : Int64) (b1 b2 b3 b4 b5 b6 b7 b8 : Nat → Int32) (b9 b10 : Nat → Int64) (b11 b12 b13 : Nat → Int32), zs_J b1 b2 b3 b4 b5 b6 b9 b10 b11 → post r (g, b1, b2, b3, b4, b5, b6, b7, b8, b9, b10, b11, b12, b13)) : wpX_erase post (fr, a1, a2, a3, a4, a5, a6, a7, a8, a9, a10, a11, a12, a13) p := by
  have H0 : ∀ r, post r (fr, a1, a2, a3, a4, a5, a6, a7, a8, a9, a10, a11, a12, a13) := fun r => H r _ _ _ _ _ _ _ _ _ _ _ _ _ _ hJ
  unfold wpX_erase
  refine zs_cell ?_ ?_
  · exact br_t rfl (H0 _)
  · intro j hj e
    subst e
    have K : ∀ z, wX_erase_23 post (nI j) z fr a1 a2 a3 a4 a5 a6 a7 a8 a9 a10 a11 a12 a13 := by
      intro z
      unfold wX_erase_23
      refine zs_write hj ?_
      refine zs_renew (zs_Fu hJ.1 ?_) ?_
      · exact Or.inr (Or.inr ⟨0, 0, by omega, by omega, rfl, rfl, fun h => absurd h (by decide), fun h => absurd h (by decide)⟩)
      · intro g b5 b6 b7 b8 b9 b10 b11 b12 h
        exact H _ _ _ _ _ _ _ _ _ _ _ _ _ _ _ h
    exact br_f (by decide) ⟨pk_in j 36 hj, br_c (fun _ => K _) (fun _ => K _)⟩
theorem zs_copy {post : Int32 → St1 → Prop} {p q : Int32} (hJ : zs_J a1 a2 a3 a4 a5 a6 a9 a10 a11) (H : ∀ (r : Int32) (g : Int64) (b1 b2 b3 b4 b5 b6 b7 b8 : Nat → Int32) (b9 b10 : Nat → Int64) (b11 b12 b13 : Nat → Int32), zs_J b1 b2 b3 b4 b5 b6 b9 b10 b11 → post r (g, b1, b2, b3, b4, b5, b6, b7, b8, b9, b10, b11, b12, b13)) : wpX_copy post (fr, a1, a2, a3, a4, a5, a6, a7, a8, a9, a10, a11, a12, a13) p q := by
  have H0 : ∀ r, post r (fr, a1, a2, a3, a4, a5, a6, a7, a8, a9, a10, a11, a12, a13) := fun r => H r _ _ _ _ _ _ _ _ _ _ _ _ _ _ hJ
  unfold wpX_copy
  refine zs_cell ?_ ?_
  · exact br_t rfl (H0 _)
  intro i hi e
  subst e
  refine br_f (by decide) ?_
  refine zs_cell ?_ ?_
  · exact br_t rfl (H0 _)
  intro j hj e
  subst e
  have K : ∀ k a b c, zs_C k a b c → wX_copy_146 post (nI j) k a b c fr a1 a2 a3 a4 a5 a6 a7 a8 a9 a10 a11 a12 a13 := by
    intro k a b c hc
    unfold wX_copy_146
    refine zs_write hj ?_
    refine zs_renew (zs_Fu hJ.1 hc) ?_
    intro g b5 b6 b7 b8 b9 b10 b11 b12 h
    exact br_c (fun _ => H _ _ _ _ _ _ _ _ _ _ _ _ _ _ _ h) (fun _ => H _ _ _ _ _ _ _ _ _ _ _ _ _ _ _ h)
  have A : ∀ a b c, wX_copy_137 post (nI j) a b c fr a1 a2 a3 a4 a5 a6 a7 a8 a9 a10 a11 a12 a13 := fun a b c => K 6 a b c (Or.inl rfl)
  have B : ∀ k a b c, (¬ a < 0 → ¬ b < 0 → 0 ≤ c → zs_C k a b c) → wX_copy_120 post (nI j) k a b c fr a1 a2 a3 a4 a5 a6 a7 a8 a9 a10 a11 a12 a13 :=
    fun k a b c h => br_c (fun _ => A _ _ _) (fun na => br_c (fun _ => A _ _ _) (fun nb => br_c (fun nc => K k a b c (h na nb nc)) (fun _ => A _ _ _)))
  have I := pk_in (x := nI i) i 36 hi
  have hC := hJ.1 i hi
  refine br_f (by decide) ⟨by decide, by decide, ?_⟩
  rw [nI_clamp (show i < 2 ^ 31 by omega), zs_r6 (a := i) (by omega), zs_r6 (a := j) (by omega), zs_d6 (a := i) (by omega), zs_d6 (a := j) (by omega)]
  refine nm_e ⟨by decide, by decide, nm_e ⟨I, nm_e ⟨I, nm_e ⟨I, nm_e ⟨I, nm_e ?_⟩⟩⟩⟩⟩
  refine br_c (fun _ => K _ _ _ _ hC) (fun n2 => br_c (fun _ => K _ _ _ _ hC) (fun n5 => ?_))
  rcases hC with h | h | ⟨f, t, hf, ht, ea, eb, h4, h5⟩
  · rw [h] at n5
    exact absurd (by decide) n5
  · rw [h] at n2
    exact absurd (by decide) n2
  rw [ea, eb]
  refine zs_moved (fun r1 g1 => zs_moved (fun r2 g2 => ?_))
  have R : ∀ {z : Int32} {m : Nat}, (z = -1 ∨ ∃ x y : Nat, x < 6 ∧ y < 6 ∧ nI m / 6 + (nI (j / 6) - nI (i / 6)) = nI x ∧ (nI m - nI m / 6 * 6) + (nI (j % 6) - nI (i % 6)) = nI y ∧ z = nI (6 * x + y)) → m < 36 → ¬ z < 0 → ∃ x y : Nat, x < 6 ∧ y < 6 ∧ x + i / 6 = m / 6 + j / 6 ∧ y + i % 6 = m % 6 + j % 6 ∧ z = nI (6 * x + y) := by
    intro z m hz hm nz
    rcases hz with h | ⟨x, y, hx, hy, ex, ey, h⟩
    · rw [h] at nz
      exact absurd (by decide) nz
    · rw [zs_d6 (a := m) (by omega)] at ex
      rw [zs_r6 (a := m) (by omega)] at ey
      exact ⟨x, y, hx, hy, zs_da (by omega) (by omega) (by omega) (by omega) ex, zs_da (by omega) (by omega) (by omega) (by omega) ey, h⟩
  have G : ∀ c, ¬ r1 < 0 → ¬ r2 < 0 → (a1 i = 4 → ∃ g : Nat, g < 36 ∧ c = nI g) → zs_C (a1 i) r1 r2 c := by
    intro c na nb hc
    obtain ⟨x, y, hx, hy, ex, ey, e1⟩ := R g1 hf na
    obtain ⟨x', y', hx', hy', ex', ey', e2⟩ := R g2 ht nb
    refine Or.inr (Or.inr ⟨6 * x + y, 6 * x' + y', by omega, by omega, e1, e2, hc, fun k5 => ?_⟩)
    have q := h5 k5
    omega
  refine br_c (fun k4 => zs_moved (fun r3 g3 => B _ _ _ _ (fun na nb nc => G r3 na nb (fun _ => ?_)))) (fun k4 => B _ _ _ _ (fun na nb _ => G _ na nb (fun h => absurd h k4)))
  rcases g3 with h | ⟨x, y, hx, hy, _, _, h⟩
  · rw [h] at nc
    exact absurd nc (by decide)
  · exact ⟨6 * x + y, by omega, h⟩
theorem zs_act {post : Int32 → St1 → Prop} {m x y v : Int32} (hJ : zs_J a1 a2 a3 a4 a5 a6 a9 a10 a11) (H : ∀ (r : Int32) (g : Int64) (b1 b2 b3 b4 b5 b6 b7 b8 : Nat → Int32) (b9 b10 : Nat → Int64) (b11 b12 b13 : Nat → Int32), zs_J b1 b2 b3 b4 b5 b6 b9 b10 b11 → post r (g, b1, b2, b3, b4, b5, b6, b7, b8, b9, b10, b11, b12, b13)) : wpL_act post (fr, a1, a2, a3, a4, a5, a6, a7, a8, a9, a10, a11, a12, a13) m x y v := by
  unfold wpL_act
  refine zs_place (fun c => zs_named (fun a => zs_named (fun b => ?_)))
  refine br_c (fun _ => br_c (fun _ => br_c (fun _ => br_c (fun _ => ⟨by decide, ?_⟩) (fun _ => br_c (fun _ => br_c (fun _ => ?_) (fun _ => ?_)) (fun _ => zs_rect (fun q => ?_)))) (fun _ => zs_rect (fun q => ?_))) (fun _ => ⟨by decide, ?_⟩)) (fun _ => ?_)
  · exact zs_choice hJ H
  · exact zs_copy hJ H
  · exact zs_erase hJ H
  · exact zs_spread hJ H
  · exact zs_sum hJ H
  · exact zs_pair hJ H
  · exact zs_number hJ H
end
end
section
section
variable {fr : Int64} {a1 a2 a3 a4 a5 a6 a7 a8 : Nat → Int32} {a9 a10 : Nat → Int64} {a11 a12 a13 : Nat → Int32}
def zs_cnt (f : Nat → Int32) (s : Int32) : Nat → Nat
  | 0 => 0
  | n + 1 => zs_cnt f s n + (if f n = s then 1 else 0)
theorem zs_cnt4 {f : Nat → Int32} : ∀ n : Nat, (∀ j, j < n → f j = 0 ∨ f j = 1 ∨ f j = 2 ∨ f j = 3) → zs_cnt f 0 n + zs_cnt f 1 n + zs_cnt f 2 n + zs_cnt f 3 n = n := by
  intro n
  induction n with
  | zero => intro _; rfl
  | succ n ih =>
    intro h
    have t := ih (fun j hj => h j (by omega))
    have d01 : ¬ (0 : Int32) = 1 := by decide
    have d02 : ¬ (0 : Int32) = 2 := by decide
    have d03 : ¬ (0 : Int32) = 3 := by decide
    have d10 : ¬ (1 : Int32) = 0 := by decide
    have d12 : ¬ (1 : Int32) = 2 := by decide
    have d13 : ¬ (1 : Int32) = 3 := by decide
    have d20 : ¬ (2 : Int32) = 0 := by decide
    have d21 : ¬ (2 : Int32) = 1 := by decide
    have d23 : ¬ (2 : Int32) = 3 := by decide
    have d30 : ¬ (3 : Int32) = 0 := by decide
    have d31 : ¬ (3 : Int32) = 1 := by decide
    have d32 : ¬ (3 : Int32) = 2 := by decide
    show (zs_cnt f 0 n + (if f n = 0 then 1 else 0)) + (zs_cnt f 1 n + (if f n = 1 then 1 else 0)) + (zs_cnt f 2 n + (if f n = 2 then 1 else 0)) + (zs_cnt f 3 n + (if f n = 3 then 1 else 0)) = n + 1
    rcases h n (by omega) with e | e | e | e
    · rw [e, if_pos rfl, if_neg d01, if_neg d02, if_neg d03]
      omega
    · rw [e, if_neg d10, if_pos rfl, if_neg d12, if_neg d13]
      omega
    · rw [e, if_neg d20, if_neg d21, if_pos rfl, if_neg d23]
      omega
    · rw [e, if_neg d30, if_neg d31, if_neg d32, if_pos rfl]
      omega
theorem zs_in15 {post : Int32 → Prop} {s : Int32} (H : post (nI (zs_cnt a11 s 36))) : ∀ (n i : Nat), i ≤ 36 → 36 - i < n → wX_inState_15 post s fr a1 a2 a3 a4 a5 a6 a7 a8 a9 a10 a11 a12 a13 n (nI (zs_cnt a11 s i)) (nI i) := by
  intro n
  induction n with
  | zero => intro i _ h; omega
  | succ n ih =>
    intro i hi hn
    refine pk_le 36 i (fun z => ?_) (fun z => ⟨pk_in i 36 z, ?_⟩)
    · have e : i = 36 := by omega
      subst e
      exact H
    · rw [nI_clamp (show i < 2 ^ 31 by omega)]
      have t := ih (i + 1) (by omega) (by omega)
      have u : zs_cnt a11 s (i + 1) = zs_cnt a11 s i + (if a11 i = s then 1 else 0) := rfl
      refine br_c (fun c => ?_) (fun c => ?_)
      · rw [if_pos c] at u
        rw [u] at t
        exact nm_r (nI_1 _) (nm_r (nI_1 i) t)
      · rw [if_neg c] at u
        rw [u] at t
        exact nm_r (Int32.add_zero _) (nm_r (nI_1 i) t)
theorem zs_inState {post : Int32 → Prop} {s : Int32} (h0 : ¬ s < 0) (h3 : s ≤ 3) (H : post (nI (zs_cnt a11 s 36))) : wpX_inState post (fr, a1, a2, a3, a4, a5, a6, a7, a8, a9, a10, a11, a12, a13) s := by
  unfold wpX_inState
  refine br_f h0 (br_t h3 ⟨37, ?_⟩)
  exact zs_in15 H 37 0 (by omega) (by omega)
theorem zs_sources {post : Int64 → Prop} {c : Nat} (hc : c < 36) (H : post (a10 c)) : wpX_sources post (fr, a1, a2, a3, a4, a5, a6, a7, a8, a9, a10, a11, a12, a13) (nI c) := by
  unfold wpX_sources
  refine zs_cellIn hc (br_f (by decide) ⟨pk_in c 36 hc, ?_⟩)
  rw [nI_clamp (show c < 2 ^ 31 by omega)]
  exact H
theorem zs_state {post : Int32 → Prop} {c : Nat} (hc : c < 36) (H : post (a11 c)) : wpX_state post (fr, a1, a2, a3, a4, a5, a6, a7, a8, a9, a10, a11, a12, a13) (nI c) := by
  unfold wpX_state
  refine zs_cellIn hc (br_f (by decide) ⟨pk_in c 36 hc, ?_⟩)
  rw [nI_clamp (show c < 2 ^ 31 by omega)]
  exact H
theorem zs_shows {post : Int32 → Prop} {c : Nat} (hc : c < 36) (H : post (a6 c)) : wpX_shows post (fr, a1, a2, a3, a4, a5, a6, a7, a8, a9, a10, a11, a12, a13) (nI c) := by
  unfold wpX_shows
  refine zs_cellIn hc (br_f (by decide) ⟨pk_in c 36 hc, ?_⟩)
  rw [nI_clamp (show c < 2 ^ 31 by omega)]
  exact H
theorem zs_owner {post : Int32 → Prop} {c : Nat} (hc : c < 36) (H : post (a5 c)) : wpX_owner post (fr, a1, a2, a3, a4, a5, a6, a7, a8, a9, a10, a11, a12, a13) (nI c) := by
  unfold wpX_owner
  refine zs_cellIn hc (br_f (by decide) ⟨pk_in c 36 hc, ?_⟩)
  rw [nI_clamp (show c < 2 ^ 31 by omega)]
  exact H
theorem zs_value {post : Int32 → Prop} {c : Nat} (hc : c < 36) (H : post (a12 c)) : wpX_value post (fr, a1, a2, a3, a4, a5, a6, a7, a8, a9, a10, a11, a12, a13) (nI c) := by
  unfold wpX_value
  refine zs_cellIn hc (br_f (by decide) ⟨pk_in c 36 hc, ?_⟩)
  rw [nI_clamp (show c < 2 ^ 31 by omega)]
  exact H
theorem zs_totalC {post : Int32 → Prop} {c : Nat} (hc : c < 36) (H : post (a12 c)) : wpX_total post (fr, a1, a2, a3, a4, a5, a6, a7, a8, a9, a10, a11, a12, a13) (37 * nI c) := by
  rw [zs_37]
  unfold wpX_total
  refine zs_rcIn hc (br_f (by decide) ⟨by decide, by decide, ?_⟩)
  rw [zs_r36 (a := 37 * c) (by omega), zs_d36 (a := 37 * c) (by omega), show 37 * c % 36 = c by omega, show 37 * c / 36 = c by omega]
  exact zs_total1 hc H
theorem zs_rd16 {post : Int64 → Prop} {c : Nat} (hc : c < 36) (H : ∀ r, (∀ j, j < 36 → zs_bt r j = zs_bt (a10 j) c) → post r) : ∀ (n i : Nat) x, i ≤ 36 → 36 - i < n → (∀ j, j < i → zs_bt x j = zs_bt (a10 j) c) → (∀ j, i ≤ j → zs_bt x j = false) → wX_readers_16 post (nI c) fr a1 a2 a3 a4 a5 a6 a7 a8 a9 a10 a11 a12 a13 n x (nI i) := by
  intro n
  induction n with
  | zero => intro i x _ h _ _; omega
  | succ n ih =>
    intro i x hi hn h1 h2
    refine pk_le 36 i (fun z => H x (fun j hj => h1 j (by omega))) (fun z => ⟨pk_in i 36 z, ?_⟩)
    rw [nI_clamp (show i < 2 ^ 31 by omega)]
    refine nm_e (nm_r (nI_1 i) (ih (i + 1) _ (by omega) (by omega) ?_ ?_))
    · intro j hj
      rw [zs_or, zs_put _ (by omega) (by omega)]
      by_cases e : j = i
      · subst e
        rw [h2 j (by omega), decide_eq_true rfl, Bool.and_true, Bool.false_or]
      · rw [decide_eq_false e, Bool.and_false, Bool.or_false]
        exact h1 j (by omega)
    · intro j hj
      rw [zs_or, zs_put _ (by omega) (by omega), h2 j (by omega), decide_eq_false (show ¬ j = i by omega), Bool.and_false, Bool.or_false]
theorem zs_readers {post : Int64 → Prop} {c : Nat} (hc : c < 36) (H : ∀ r, (∀ j, j < 36 → zs_bt r j = zs_bt (a10 j) c) → post r) : wpX_readers post (fr, a1, a2, a3, a4, a5, a6, a7, a8, a9, a10, a11, a12, a13) (nI c) := by
  unfold wpX_readers
  refine zs_cellIn hc (br_f (by decide) ⟨37, ?_⟩)
  exact zs_rd16 hc H 37 0 0 (by omega) (by omega) (fun j hj => absurd hj (by omega)) (fun j _ => zs_zero j)
theorem zs_dp5 {post : Int32 → Prop} {w : Int64} {M : Nat} (hM : M < 2 ^ 20) (hD : zs_D w) (hd : ∀ j, j < 36 → ∃ d : Nat, a13 j = nI d ∧ 1 ≤ d ∧ d ≤ M) (H : ∀ m : Nat, m ≤ M → (w = 0 → m = 0) → (¬ w = 0 → 1 ≤ m) → post (nI m)) : ∀ (n i m : Nat), i ≤ 36 → 36 - i < n → m ≤ M → (w = 0 → m = 0) → (∀ j, j < i → zs_bt w j = true → 1 ≤ m) → wX_deepest_5 post w fr a1 a2 a3 a4 a5 a6 a7 a8 a9 a10 a11 a12 a13 n (nI m) (nI i) := by
  intro n
  induction n with
  | zero => intro i m _ h _ _ _; omega
  | succ n ih =>
    intro i m hi hn hm h0 h1
    refine pk_le 36 i (fun z => H m hm h0 ?_) (fun z => zs_br i (fun hb => ⟨pk_in i 36 z, ?_⟩) (fun hb => nm_r (nI_1 i) (ih (i + 1) m (by omega) (by omega) hm h0 ?_)))
    · intro hw
      obtain ⟨k, hk⟩ := zs_ex hw
      exact h1 k (by have := hD k hk; omega) hk
    · rw [nI_clamp (show i < 2 ^ 31 by omega)]
      obtain ⟨d, ed, d1, d2⟩ := hd i z
      rw [ed]
      refine pk_le d m (fun c => nm_r (nI_1 i) (ih (i + 1) m (by omega) (by omega) hm h0 (fun _ _ _ => by omega))) (fun c => ⟨pk_in i 36 z, nm_e (nm_r (nI_1 i) (ih (i + 1) d (by omega) (by omega) d2 (fun h => absurd h (zs_ne0 hb)) (fun _ _ _ => d1)))⟩)
    · intro j hj hb'
      by_cases e : j = i
      · subst e
        rw [hb] at hb'
        exact absurd hb' Bool.false_ne_true
      · exact h1 j (by omega) hb'
theorem zs_deepest {post : Int32 → Prop} {w : Int64} {M : Nat} (hM : M < 2 ^ 20) (hD : zs_D w) (hd : ∀ j, j < 36 → ∃ d : Nat, a13 j = nI d ∧ 1 ≤ d ∧ d ≤ M) (H : ∀ m : Nat, m ≤ M → (w = 0 → m = 0) → (¬ w = 0 → 1 ≤ m) → post (nI m)) : wpX_deepest post (fr, a1, a2, a3, a4, a5, a6, a7, a8, a9, a10, a11, a12, a13) w := by
  refine ⟨37, ?_⟩
  exact zs_dp5 hM hD hd H 37 0 0 (by omega) (by omega) (by omega) (fun _ => rfl) (fun j hj => absurd hj (by omega))
def zs_Q (c : Nat) (w : Int64) (M : Nat) (ok : Prop) (b : Nat → Int32) : Prop := (∀ j, j < 36 → ∃ d : Nat, b j = nI d ∧ 1 ≤ d ∧ d ≤ M) ∧ (w = 0 → b c = nI 1) ∧ (¬ w = 0 → ok → ∃ d : Nat, b c = nI d ∧ 2 ≤ d ∧ d ≤ M)
theorem zs_Qm {c : Nat} {w : Int64} {M M' : Nat} {ok ok' : Prop} {b : Nat → Int32} (h : zs_Q c w M ok b) (hM : M ≤ M') (ho : ok' → ok) : zs_Q c w M' ok' b := by
  refine ⟨fun j hj => ?_, h.2.1, fun hw o => ?_⟩
  · obtain ⟨d, e, d1, d2⟩ := h.1 j hj
    exact ⟨d, e, d1, by omega⟩
  · obtain ⟨d, e, d1, d2⟩ := h.2.2 hw (ho o)
    exact ⟨d, e, d1, by omega⟩
theorem zs_Qu {c i d : Nat} {w : Int64} {M : Nat} {ok ok' : Prop} {b : Nat → Int32} (h : zs_Q c w M ok b) (h1 : 1 ≤ d) (h2 : d ≤ M + 1) (ho : ok' → ¬ i = c → ok) (hz : i = c → w = 0 → d = 1) (hn : i = c → ¬ w = 0 → 2 ≤ d) : zs_Q c w (M + 1) ok' (upd b i (nI d)) := by
  refine ⟨fun j hj => ?_, fun hw => ?_, fun hw o => ?_⟩
  · by_cases e : j = i
    · subst e
      rw [pk_us]
      exact ⟨d, rfl, h1, h2⟩
    · rw [pk_un e]
      obtain ⟨d, e, d1, d2⟩ := h.1 j hj
      exact ⟨d, e, d1, by omega⟩
  · by_cases e : c = i
    · subst e
      rw [pk_us, hz rfl hw]
    · rw [pk_un e]
      exact h.2.1 hw
  · by_cases e : c = i
    · subst e
      rw [pk_us]
      exact ⟨d, rfl, hn rfl hw, h2⟩
    · rw [pk_un e]
      obtain ⟨d, e, d1, d2⟩ := h.2.2 hw (ho o (fun z => e z.symm))
      exact ⟨d, e, d1, by omega⟩
theorem zs_dp81 {post : Int32 → St1 → Prop} {J : Int32 → Int32 → (Nat → Int32) → (Nat → Int32) → (Nat → Int32) → (Nat → Int32) → (Nat → Int32) → (Nat → Int32) → (Nat → Int32) → (Nat → Int32) → (Nat → Int64) → (Nat → Int64) → (Nat → Int32) → (Nat → Int32) → (Nat → Int32) → Prop} {c o : Nat} {w : Int64} (ho : o < 36) (hc : zs_bt w c = true) (hD : ∀ j, j < 36 → zs_D (a9 j)) (H : ∀ x b13, zs_Q c (a9 c) (1 + 36 * (o + 1)) True b13 → J x (nI (o + 1)) a1 a2 a3 a4 a5 a6 a7 a8 a9 a10 a11 a12 b13) : ∀ (n i : Nat) x b13, i ≤ 36 → 36 - i < n → (c < 36) → zs_Q c (a9 c) (1 + 36 * o + i) (1 ≤ o ∨ c < i) b13 → wX_depth_81 post J (nI c) w (nI o) fr n x (nI i) a1 a2 a3 a4 a5 a6 a7 a8 a9 a10 a11 a12 b13 := by
  intro n
  induction n with
  | zero => intro i x b13 _ h _ _; omega
  | succ n ih =>
    intro i x b13 hi hn hc36 hq
    refine pk_le 36 i (fun z => nm_r (nI_1 o) (H x b13 (zs_Qm hq (by omega) (fun _ => Or.inr (by omega))))) (fun z => ?_)
    have I := pk_in (x := nI i) i 36 z
    have ci : (nI i).toNatClampNeg = i := nI_clamp (by omega)
    refine zs_br i (fun hb => ⟨I, ?_⟩) (fun hb => nm_r (nI_1 i) (ih (i + 1) _ _ (by omega) (by omega) hc36 (zs_Qm hq (by omega) (fun t => ?_))))
    · rw [ci]
      refine zs_deepest (M := 1 + 36 * o + i) (by omega) (hD i z) hq.1 ?_
      intro m hm m0 m1
      obtain ⟨d, ed, d1, d2⟩ := hq.1 i z
      have N : ∀ e : Nat, d ≤ e → m + 1 ≤ e → (e = d ∨ e = m + 1) → zs_Q c (a9 c) (1 + 36 * o + (i + 1)) (1 ≤ o ∨ c < i + 1) (upd b13 i (nI e)) := by
        intro e he1 he2 he
        refine zs_Qu (M := 1 + 36 * o + i) hq (by omega) (by omega) (fun t ne => ?_) (fun ec hw => ?_) (fun ec hw => ?_)
        · rcases t with t | t
          · exact Or.inl t
          · exact Or.inr (by omega)
        · subst ec
          have q1 := hq.2.1 hw
          rw [ed] at q1
          have q2 : d = 1 := (nI_eq (by omega) (by omega)).mp q1
          have q3 := m0 hw
          omega
        · subst ec
          have q3 := m1 hw
          omega
      have P : ∀ y, wX_depth_136 post J (wX_depth_81 post J (nI c) w (nI o) fr n) (nI c) w (nI o) (nI i) (nI (m + 1)) y fr a1 a2 a3 a4 a5 a6 a7 a8 a9 a10 a11 a12 b13 := by
        intro y
        refine ⟨I, ?_⟩
        rw [ci, ed]
        exact pk_le (m + 1) d (fun l => ⟨I, I, nm_e (nm_r (nI_1 i) (ih (i + 1) _ _ (by omega) (by omega) hc36 (N d (by omega) l (Or.inl rfl))))⟩) (fun l => ⟨I, nm_e (nm_r (nI_1 i) (ih (i + 1) _ _ (by omega) (by omega) hc36 (N (m + 1) (by omega) (by omega) (Or.inr rfl))))⟩)
      exact nm_r (nI_1 m) (br_c (fun _ => ⟨I, br_c (fun _ => P _) (fun _ => P _)⟩) (fun _ => P _))
    · rcases t with t | t
      · exact Or.inl t
      · by_cases e : c = i
        · subst e
          rw [hc] at hb
          exact absurd hb.symm Bool.false_ne_true
        · exact Or.inr (by omega)
theorem zs_dp63 {post : Int32 → St1 → Prop} {c : Nat} {w : Int64} (hc36 : c < 36) (hc : zs_bt w c = true) (hD : ∀ j, j < 36 → zs_D (a9 j)) (H : ∀ r b13, (a9 c = 0 → r = 1) → (¬ a9 c = 0 → ¬ r = 1) → post r (fr, a1, a2, a3, a4, a5, a6, a7, a8, a9, a10, a11, a12, b13)) : ∀ (n i : Nat) x b13, i ≤ 36 → 36 - i < n → (i = 0 → ¬ x = 0) → zs_Q c (a9 c) (1 + 36 * i) (1 ≤ i) b13 → wX_depth_63 post (nI c) w fr n x (nI i) a1 a2 a3 a4 a5 a6 a7 a8 a9 a10 a11 a12 b13 := by
  intro n
  induction n with
  | zero => intro i x b13 _ h _ _; omega
  | succ n ih =>
    intro i x b13 hi hn hx hq
    have E : 1 ≤ i → vp_in (nI c) 36 ∧ post (b13 (nI c).toNatClampNeg) (fr, a1, a2, a3, a4, a5, a6, a7, a8, a9, a10, a11, a12, b13) := by
      intro h1
      rw [nI_clamp (show c < 2 ^ 31 by omega)]
      refine ⟨pk_in c 36 hc36, H _ _ hq.2.1 (fun hw e => ?_)⟩
      obtain ⟨d, ed, d1, d2⟩ := hq.2.2 hw h1
      rw [ed] at e
      have q : d = 1 := (nI_eq (by omega) (by omega)).mp e
      omega
    refine pk_le 36 i (fun z => E (by omega)) (fun z => br_c (fun x0 => E ?_) (fun _ => ⟨37, ?_⟩))
    · rcases Nat.eq_zero_or_pos i with h | h
      · exact absurd x0 (hx h)
      · exact h
    · refine zs_dp81 z hc hD ?_ 37 0 0 b13 (by omega) (by omega) hc36 (zs_Qm hq (by omega) (fun t => ?_))
      · intro y d13 hy
        exact ih (i + 1) y d13 (by omega) (by omega) (fun h => absurd h (by omega)) (zs_Qm hy (by omega) (fun _ => trivial))
      · rcases t with t | t
        · exact t
        · omega
theorem zs_dp36 {post : Int32 → St1 → Prop} {c : Nat} {w : Int64} (hc36 : c < 36) (hc : zs_bt w c = true) (hD : ∀ j, j < 36 → zs_D (a9 j)) (H : ∀ r b13, (a9 c = 0 → r = 1) → (¬ a9 c = 0 → ¬ r = 1) → post r (fr, a1, a2, a3, a4, a5, a6, a7, a8, a9, a10, a11, a12, b13)) : ∀ (n i : Nat) b13, i ≤ 36 → 36 - i < n → (∀ j, j < i → b13 j = nI 1) → wX_depth_36 post (nI c) w fr n (nI i) a1 a2 a3 a4 a5 a6 a7 a8 a9 a10 a11 a12 b13 := by
  intro n
  induction n with
  | zero => intro i b13 _ h _; omega
  | succ n ih =>
    intro i b13 hi hn hb
    refine pk_le 36 i (fun z => ⟨37, ?_⟩) (fun z => ⟨pk_in i 36 z, nm_e (nm_r (nI_1 i) (ih (i + 1) _ (by omega) (by omega) ?_))⟩)
    · refine zs_dp63 hc36 hc hD H 37 0 1 b13 (by omega) (by omega) (fun _ => by decide) ?_
      exact ⟨fun j hj => ⟨1, hb j (by omega), by omega, by omega⟩, fun _ => hb c (by omega), fun _ h => absurd h (by omega)⟩
    · rw [nI_clamp (show i < 2 ^ 31 by omega)]
      intro j hj
      by_cases e : j = i
      · subst e
        exact pk_us
      · rw [pk_un e]
        exact hb j (by omega)
theorem zs_depth {post : Int32 → St1 → Prop} {c : Nat} (hc : c < 36) (hD : ∀ j, j < 36 → zs_D (a9 j)) (H0 : a11 c = 2 → post (-2) (fr, a1, a2, a3, a4, a5, a6, a7, a8, a9, a10, a11, a12, a13)) (H : ¬ a11 c = 2 → ∀ r b13, (a9 c = 0 → r = 1) → (¬ a9 c = 0 → ¬ r = 1) → post r (fr, a1, a2, a3, a4, a5, a6, a7, a8, a9, a10, a11, a12, b13)) : wpX_depth post (fr, a1, a2, a3, a4, a5, a6, a7, a8, a9, a10, a11, a12, a13) (nI c) := by
  unfold wpX_depth
  refine zs_cellIn hc (br_f (by decide) ⟨pk_in c 36 hc, ?_⟩)
  rw [nI_clamp (show c < 2 ^ 31 by omega)]
  refine br_c (fun h => H0 h) (fun h => ⟨pk_in c 36 hc, nm_e ⟨37, ?_⟩⟩)
  exact zs_dp36 hc (zs_orR _ (zs_oneT (by omega))) hD (H h) 37 0 a13 (by omega) (by omega) (fun j hj => absurd hj (by omega))
theorem zs_ft111 {post : Int32 → St1 → Prop} {c : Nat} (hc : c < 36) (H : post 1 (fr, a1, a2, a3, a4, a5, a6, a7, a8, a9, a10, a11, a12, a13)) : wL_fits_111 post (nI c) fr a1 a2 a3 a4 a5 a6 a7 a8 a9 a10 a11 a12 a13 := by
  unfold wL_fits_111
  refine zs_totalC hc ?_
  refine zs_value hc ?_
  exact br_t rfl H
theorem zs_fits {post : Int32 → St1 → Prop} {c : Nat} (hc : c < 36) (hJ : zs_J a1 a2 a3 a4 a5 a6 a9 a10 a11) (H : ∀ b13, post 1 (fr, a1, a2, a3, a4, a5, a6, a7, a8, a9, a10, a11, a12, b13)) : wpL_fits post (fr, a1, a2, a3, a4, a5, a6, a7, a8, a9, a10, a11, a12, a13) (nI c) := by
  obtain ⟨_, hV, hD, hE, hS⟩ := hJ
  have K : ∀ z, wL_fits_67 post (nI c) (a11 c) (a10 c) z z fr a1 a2 a3 a4 a5 a6 a7 a8 a9 a10 a11 a12 a13 := by
    intro z
    refine br_t rfl ?_
    refine zs_depth hc hD ?_ ?_
    · intro h
      exact br_t h (zs_ft111 hc (H _))
    · intro h r b13 r0 r1
      refine br_f h ?_
      by_cases e : a9 c = 0
      · exact br_t (r0 e) (br_t ((hE c hc).mpr e) (br_t rfl (zs_ft111 hc (H _))))
      · exact br_f (r1 e) (br_f (fun t => e ((hE c hc).mp t)) (br_t rfl (zs_ft111 hc (H _))))
  have K2 : wL_fits_43 post (nI c) (a11 c) (a10 c) (a6 c) (a5 c) fr a1 a2 a3 a4 a5 a6 a7 a8 a9 a10 a11 a12 a13 := by
    rcases hV c hc with ⟨e5, e6⟩ | ⟨p, q, hp, hq, e5, e6⟩
    · exact br_t e6 (br_t e5 (K 1))
    · exact br_f (by rw [e6]; exact zs_m2 (by omega)) (br_f (by rw [e5]; exact zs_m2 (by omega)) (K 0))
  unfold wpL_fits
  refine zs_state hc ?_
  refine zs_sources hc ?_
  refine zs_shows hc ?_
  refine zs_owner hc ?_
  exact zs_br c (fun hb => br_t ((hS c hc).2.1 hb) K2) (fun _ => K2)
end
end
section
section
variable {fr : Int64} {a1 a2 a3 a4 a5 a6 a7 a8 : Nat → Int32} {a9 a10 : Nat → Int64} {a11 a12 a13 : Nat → Int32}
theorem zs_law121 {post : Int32 → Prop} {L : Nat} {xs : Nat → Int32} {J : Int32 → Int64 → (Nat → Int32) → (Nat → Int32) → (Nat → Int32) → (Nat → Int32) → (Nat → Int32) → (Nat → Int32) → (Nat → Int32) → (Nat → Int32) → (Nat → Int64) → (Nat → Int64) → (Nat → Int32) → (Nat → Int32) → (Nat → Int32) → Prop} {t x7 kc ks : Nat} {x10 : Int64} (h7 : x7 < 36) (hJ : zs_J a1 a2 a3 a4 a5 a6 a9 a10 a11) (hr : ∀ j, j < 36 → zs_bt x10 j = zs_bt (a10 j) x7) (H : ∀ b13, J (nI (t + 4)) fr a1 a2 a3 a4 a5 a6 a7 a8 a9 a10 a11 a12 b13) : ∀ (n i : Nat) b13, i ≤ 36 → 36 - i < n → wL_law_121 post L xs J (nI t) (nI x7) (a10 x7) x10 kc ks n (nI i) fr a1 a2 a3 a4 a5 a6 a7 a8 a9 a10 a11 a12 b13 := by
  intro n
  induction n with
  | zero => intro i b13 _ h; omega
  | succ n ih =>
    intro i b13 hi hn
    refine pk_le 36 i (fun z => nm_r (nI_add t 4) (H b13)) (fun z => ?_)
    refine zs_fits z hJ ?_
    intro c13
    refine br_f (by decide) ?_
    refine zs_readers z ?_
    intro r h
    refine zs_sources z ?_
    refine br_t (zs_beq (by omega) (by omega) (h x7 h7).symm) ?_
    refine br_t (zs_beq (by omega) (by omega) (hr i z)) ?_
    exact nm_r (nI_1 i) (ih (i + 1) c13 (by omega) (by omega))
theorem zs_36 {x : Int32} : ∃ j : Nat, j < 36 ∧ (x &&& 255) - (x &&& 255) / 36 * 36 = nI j := by
  rw [pk_and x (m := 255) 8 (by decide)]
  exact ⟨x.toBitVec.toNat % 2 ^ 8 % 36, Nat.mod_lt _ (by decide), zs_r36 (by omega)⟩
theorem zs_law10 {L : Nat} {xs : Nat → Int32} {kc ks : Nat} (hL : L ≤ 260) : ∀ (n i : Nat) (g : Int64) (b1 b2 b3 b4 b5 b6 b7 b8 : Nat → Int32) (b9 b10 : Nat → Int64) (b11 b12 b13 : Nat → Int32), i ≤ L / 4 → L / 4 - i < n → zs_J b1 b2 b3 b4 b5 b6 b9 b10 b11 → wL_law_10 (fun r => r = 1) L xs kc ks n (nI (4 * i)) g b1 b2 b3 b4 b5 b6 b7 b8 b9 b10 b11 b12 b13 := by
  intro n
  induction n with
  | zero => intro i g b1 b2 b3 b4 b5 b6 b7 b8 b9 b10 b11 b12 b13 _ h _; omega
  | succ n ih =>
    intro i g b1 b2 b3 b4 b5 b6 b7 b8 b9 b10 b11 b12 b13 hi hn hJ
    have e1 : nI (4 * i) + 1 = nI (4 * i + 1) := nI_add (4 * i) 1
    have e2 : nI (4 * i) + 2 = nI (4 * i + 2) := nI_add (4 * i) 2
    have e3 : nI (4 * i) + 3 = nI (4 * i + 3) := nI_add (4 * i) 3
    refine pk_le L (4 * i + 3) (fun _ => rfl) (fun z => ⟨pk_in (4 * i) L (by omega), pk_in (4 * i + 1) L (by omega) e1, pk_in (4 * i + 2) L (by omega) e2, pk_in (4 * i + 3) L (by omega) e3, ?_⟩) rfl e3
    refine zs_act hJ ?_
    intro r g c1 c2 c3 c4 c5 c6 c7 c8 c9 c10 c11 c12 c13 hK
    refine zs_inState (by decide) (by decide) ?_
    refine zs_inState (by decide) (by decide) ?_
    refine zs_inState (by decide) (by decide) ?_
    refine zs_inState (by decide) (by decide) ?_
    have hs : zs_cnt c11 0 36 + zs_cnt c11 1 36 + zs_cnt c11 2 36 + zs_cnt c11 3 36 = 36 := zs_cnt4 36 (fun j hj => (hK.2.2.2.2 j hj).1)
    refine br_t ?_ ⟨pk_in (4 * i + 1) L (by omega) e1, by decide, ?_⟩
    · rw [nI_add, nI_add, nI_add, hs]
      rfl
    · obtain ⟨j, hj, ej⟩ := zs_36 (x := xs (nI (4 * i) + 1).toNatClampNeg)
      refine nm_r ej ?_
      refine zs_sources hj ?_
      refine zs_readers hj ?_
      intro q hq
      refine ⟨37, ?_⟩
      refine zs_law121 hj hK hq ?_ 37 0 c13 (by omega) (by omega)
      intro d13
      exact ih (i + 1) _ _ _ _ _ _ _ _ _ _ _ _ _ _ (by omega) (by omega) hK
theorem zs_init110 {post : St1 → Prop} {mc ms kc ks : Nat} (hJ : ∀ b5 b6, (∀ j, j < 36 → b5 j = -2 ∧ b6 j = -2) → post (fr, a1, a2, a3, a4, b5, b6, a7, a8, a9, a10, a11, a12, a13)) : ∀ (n i : Nat) b5 b6, i ≤ 36 → 36 - i < n → (∀ j, j < i → b5 j = -2 ∧ b6 j = -2) → wX_init_110 post mc ms kc ks fr n (nI i) a1 a2 a3 a4 b5 b6 a7 a8 a9 a10 a11 a12 a13 := by
  intro n
  induction n with
  | zero => intro i b5 b6 _ h _; omega
  | succ n ih =>
    intro i b5 b6 hi hn hv
    refine pk_le 36 i (fun z => hJ b5 b6 (fun j hj => hv j (by omega))) (fun z => ⟨pk_in i 36 z, nm_e ⟨pk_in i 36 z, nm_e (nm_r (nI_1 i) (ih (i + 1) _ _ (by omega) (by omega) ?_))⟩⟩)
    rw [nI_clamp (show i < 2 ^ 31 by omega)]
    intro j hj
    by_cases e : j = i
    · subst e
      exact ⟨pk_us, pk_us⟩
    · rw [pk_un e, pk_un e]
      exact hv j (by omega)
end
theorem i_vc (xs : Nat → Int32) (L : Nat) (hL : L ≤ 260) : wpL_law (fun r => r = 1) L xs := by
  unfold wpL_law
  refine ⟨13, 468, by omega, by omega, ?_⟩
  unfold wpX_init
  refine ⟨by omega, by omega, by omega, by omega, by omega, by omega, by omega, by omega, by omega, by omega, by omega, by omega, by omega, by omega, by omega, by omega, by omega, by omega, by omega, by omega, by omega, by omega, by omega, by omega, by omega, by omega, ⟨37, ?_⟩⟩
  refine zs_init110 ?_ 37 0 _ _ (by omega) (by omega) (fun j hj => absurd hj (by omega))
  intro b5 b6 hb
  refine ⟨L / 4 + 1, ?_⟩
  refine zs_law10 hL (L / 4 + 1) 0 _ _ _ _ _ _ _ _ _ _ _ _ _ _ (by omega) (by omega) ?_
  refine ⟨fun j hj => ?_, fun j hj => Or.inl (hb j hj), fun j hj => zs_D0, fun j hj => Iff.rfl, fun j hj => ?_⟩
  · exact Or.inr (Or.inr ⟨0, 0, by omega, by omega, rfl, rfl, fun _ => ⟨0, by omega, rfl⟩, fun _ => ⟨by omega, by omega⟩⟩)
  · refine ⟨Or.inl rfl, fun h => ?_, fun h => ?_⟩
    · exact absurd h (by rw [zs_zero]; exact Bool.false_ne_true)
    · exact absurd (show (0 : Int32) = 1 from h) (by decide)
end
