section
/-! rows of kit/rows/PURE-ROWS (a starting text) -/
theorem pk_us {f : Nat → Int32} {k : Nat} {x : Int32} : upd f k x k = x := if_pos rfl
theorem pk_un {f : Nat → Int32} {k j : Nat} {x : Int32} (h : j ≠ k) : upd f k x j = f j := if_neg h
theorem pk_sub {a b : Nat} (h : b ≤ a) : nI a - nI b = nI (a - b) := by
  obtain ⟨c, rfl⟩ : ∃ c, a = c + b := ⟨a - b, by omega⟩
  rw [← nI_add, Int32.add_sub_cancel, Nat.add_sub_cancel]
theorem pk_mul (a b : Nat) : nI a * nI b = nI (a * b) := (Int32.ofNat_mul a b).symm
theorem pk_sub_toInt {a b : Nat} (ha : a < 2 ^ 30) (hb : b < 2 ^ 30) : (nI a - nI b).toInt = (a : Int) - b := by
  rw [Int32.toInt_sub, nI_toInt (by omega), nI_toInt (by omega)]
  exact Int.bmod_eq_of_le (by omega) (by omega)
theorem pk_ix (x : Int32) {n : Nat} (hn : n < 2 ^ 31) : x < 0 ∨ nI n ≤ x ∨ ∃ j : Nat, j < n ∧ x = nI j := by
  by_cases h : x < 0
  · exact Or.inl h
  · obtain ⟨j, hj, rfl⟩ := nI_of h
    by_cases h2 : j < n
    · exact Or.inr (Or.inr ⟨j, h2, rfl⟩)
    · exact Or.inr (Or.inl (nI_le (by omega) hj))
theorem pk_le {x y : Int32} {A B : Prop} (a b : Nat) (f : a ≤ b → A) (g : b < a → B) (hx : x = nI a := by rfl) (hy : y = nI b := by rfl) (ha : a < 2 ^ 31 := by omega) (hb : b < 2 ^ 31 := by omega) : (x ≤ y → A) ∧ (¬ x ≤ y → B) := by
  subst hx hy
  rw [nI_leI ha hb]
  exact ⟨f, fun z => g (by omega)⟩
theorem pk_lt {x y : Int32} {A B : Prop} (a b : Nat) (f : a < b → A) (g : b ≤ a → B) (hx : x = nI a := by rfl) (hy : y = nI b := by rfl) (ha : a < 2 ^ 31 := by omega) (hb : b < 2 ^ 31 := by omega) : (x < y → A) ∧ (¬ x < y → B) := by
  subst hx hy
  rw [nI_ltI ha hb]
  exact ⟨f, fun z => g (by omega)⟩
theorem pk_eq {x y : Int32} {A B : Prop} (a b : Nat) (f : a = b → A) (g : a ≠ b → B) (hx : x = nI a := by rfl) (hy : y = nI b := by rfl) (ha : a < 2 ^ 31 := by omega) (hb : b < 2 ^ 31 := by omega) : (x = y → A) ∧ (¬ x = y → B) := by
  subst hx hy
  rw [nI_eq ha hb]
  exact ⟨f, g⟩
theorem pk_in {x : Int32} (n N : Nat) (h : n < N) (hx : x = nI n := by rfl) (hN : N < 2 ^ 31 := by omega) : vp_in x N := by
  subst hx
  exact vp_in_nI h hN
theorem pk_cl {x : Int32} (n : Nat) (hx : x = nI n := by rfl) (h : n < 2 ^ 31 := by omega) : x.toNatClampNeg = n := by
  subst hx
  exact nI_clamp h
theorem pk_tn {n : Nat} (h : n < 2 ^ 32) : (nI n).toBitVec.toNat = n := Nat.mod_eq_of_lt h
theorem pk_and (x : Int32) {m : Int32} (k : Nat) (hm : m.toBitVec.toNat = 2 ^ k - 1) : x &&& m = nI (x.toBitVec.toNat % 2 ^ k) := by
  apply Int32.toBitVec_inj.mp
  apply BitVec.eq_of_toNat_eq
  rw [Int32.toBitVec_and, BitVec.toNat_and, hm, Nat.and_two_pow_sub_one_eq_mod]
  show _ = (BitVec.ofNat 32 _).toNat
  rw [BitVec.toNat_ofNat]
  exact (Nat.mod_eq_of_lt (Nat.lt_of_le_of_lt (Nat.mod_le _ _) x.toBitVec.isLt)).symm
theorem pk_andN {n : Nat} (h : n < 2 ^ 32) {m : Int32} (k : Nat) (hm : m.toBitVec.toNat = 2 ^ k - 1) : nI n &&& m = nI (n % 2 ^ k) := by
  rw [pk_and _ k hm, pk_tn h]
theorem pk_andE (x : Int32) {m : Int32} (k : Nat) (hm : m.toBitVec.toNat = 2 ^ k - 1) : ∃ j : Nat, j < 2 ^ k ∧ x &&& m = nI j := ⟨_, Nat.mod_lt _ (Nat.two_pow_pos k), pk_and x k hm⟩
end
section
/-! the picture of one belt: c items, their places P, their kinds K; the gaps are differences of places -/
abbrev bl_S : Type := Nat × (Nat → Nat) × (Nat → Nat)
def bl_gp (P : Nat → Nat) (i : Nat) : Nat := if i = 0 then P 0 else P i - (P (i - 1) + 4)
def bl_tot (c : Nat) (P : Nat → Nat) : Nat := if c = 0 then 0 else P (c - 1) - 4 * (c - 1)
def bl_ok (L c : Nat) (P K : Nat → Nat) : Prop := (∀ i, i < c → 4 * i ≤ P i ∧ P i ≤ L ∧ K i ≤ 7) ∧ (∀ i, i + 1 < c → P i + 4 ≤ P (i + 1))
def bl_ap (c x : Nat) (P : Nat → Nat) : Nat → Nat := fun j => if j = c then x else P j
def bl_rm (i : Nat) (P : Nat → Nat) : Nat → Nat := fun j => if j < i then P j else P (j + 1)
def bl_mv (f : Nat) (P : Nat → Nat) : Nat → Nat := fun j => if j < f then P j else P j - 1
def bl_room (L c : Nat) (P : Nat → Nat) : Prop := c = 0 ∨ P (c - 1) + 4 ≤ L
def bl_fo (c f : Nat) (P : Nat → Nat) : Prop := f ≤ c ∧ (∀ j, j < f → bl_gp P j = 0) ∧ (f < c → bl_gp P f ≠ 0)
theorem bl_gp0 (P : Nat → Nat) : bl_gp P 0 = P 0 := if_pos rfl
theorem bl_gpS (P : Nat → Nat) (i : Nat) : bl_gp P (i + 1) = P (i + 1) - (P i + 4) := if_neg (Nat.succ_ne_zero i)
theorem bl_totS (P : Nat → Nat) (c : Nat) : bl_tot (c + 1) P = P c - 4 * c := if_neg (Nat.succ_ne_zero c)
theorem bl_tot0 (P : Nat → Nat) : bl_tot 0 P = 0 := if_pos rfl
theorem bl_ap_s {c x : Nat} {P : Nat → Nat} : bl_ap c x P c = x := if_pos rfl
theorem bl_ap_n {c x j : Nat} {P : Nat → Nat} (h : j ≠ c) : bl_ap c x P j = P j := if_neg h
theorem bl_rm_l {i j : Nat} {P : Nat → Nat} (h : j < i) : bl_rm i P j = P j := if_pos h
theorem bl_rm_g {i j : Nat} {P : Nat → Nat} (h : i ≤ j) : bl_rm i P j = P (j + 1) := if_neg (by omega)
theorem bl_mv_l {i j : Nat} {P : Nat → Nat} (h : j < i) : bl_mv i P j = P j := if_pos h
theorem bl_mv_g {i j : Nat} {P : Nat → Nat} (h : i ≤ j) : bl_mv i P j = P j - 1 := if_neg (by omega)
theorem bl_find (p : Nat → Prop) : ∀ c : Nat, ∃ w, w ≤ c ∧ (∀ j, j < w → ¬ p j) ∧ (w < c → p w) := by
  intro c
  induction c with
  | zero => exact ⟨0, Nat.le_refl 0, fun j hj => absurd hj (Nat.not_lt_zero j), fun h => absurd h (Nat.not_lt_zero 0)⟩
  | succ c ih =>
    obtain ⟨w, h1, h2, h3⟩ := ih
    by_cases hw : w < c
    · exact ⟨w, by omega, h2, fun _ => h3 hw⟩
    · by_cases hp : p w
      · exact ⟨w, by omega, h2, fun _ => hp⟩
      · refine ⟨c + 1, Nat.le_refl _, fun j hj => ?_, fun h => absurd h (Nat.lt_irrefl _)⟩
        by_cases e : j < w
        · exact h2 j e
        · have e2 : j = w := by omega
          rw [e2]; exact hp
theorem bl_fo_ex (c : Nat) (P : Nat → Nat) : ∃ f, bl_fo c f P := by
  obtain ⟨w, h1, h2, h3⟩ := bl_find (fun j => bl_gp P j ≠ 0) c
  refine ⟨w, h1, fun j hj => ?_, h3⟩
  have := h2 j hj
  omega
theorem bl_c16 {L c : Nat} {P K : Nat → Nat} (h : bl_ok L c P K) (hL : L ≤ 60) : c ≤ 16 := by
  by_cases h0 : c = 0
  · omega
  · have := h.1 (c - 1) (by omega)
    omega
theorem bl_c15 {L c : Nat} {P K : Nat → Nat} (h : bl_ok L c P K) (hr : bl_room L c P) (hL : L ≤ 60) : c ≤ 15 := by
  by_cases h0 : c = 0
  · omega
  · have := h.1 (c - 1) (by omega)
    rcases hr with e | e <;> omega
/-! an item comes -/
theorem bl_ok_ap {L c k : Nat} {P K : Nat → Nat} (h : bl_ok L c P K) (hr : bl_room L c P) (hk : k ≤ 7) : bl_ok L (c + 1) (bl_ap c L P) (bl_ap c k K) := by
  refine ⟨fun i hi => ?_, fun i hi => ?_⟩
  · by_cases e : i = c
    · rw [e, bl_ap_s, bl_ap_s]
      refine ⟨?_, Nat.le_refl _, hk⟩
      by_cases h0 : c = 0
      · omega
      · have := h.1 (c - 1) (by omega)
        rcases hr with e2 | e2 <;> omega
    · rw [bl_ap_n e, bl_ap_n e]
      exact h.1 i (by omega)
  · rw [bl_ap_n (show i ≠ c by omega)]
    by_cases e : i + 1 = c
    · rw [e, bl_ap_s]
      have e3 : i = c - 1 := by omega
      rcases hr with e2 | e2
      · omega
      · rw [e3]; exact e2
    · rw [bl_ap_n e]
      exact h.2 i (by omega)
theorem bl_gp_apl {c x j : Nat} {P : Nat → Nat} (h : j < c) : bl_gp (bl_ap c x P) j = bl_gp P j := by
  cases j with
  | zero => rw [bl_gp0, bl_gp0, bl_ap_n (by omega)]
  | succ j => rw [bl_gpS, bl_gpS, bl_ap_n (by omega), bl_ap_n (by omega)]
theorem bl_tot_ap {L c : Nat} {P K : Nat → Nat} (h : bl_ok L c P K) (hr : bl_room L c P) : bl_tot (c + 1) (bl_ap c L P) = bl_tot c P + bl_gp (bl_ap c L P) c := by
  rw [bl_totS, bl_ap_s]
  cases c with
  | zero => rw [bl_tot0, bl_gp0, bl_ap_s]; omega
  | succ c =>
    rw [bl_totS, bl_gpS, bl_ap_s, bl_ap_n (by omega)]
    have := h.1 c (by omega)
    rcases hr with e | e
    · omega
    · rw [Nat.add_sub_cancel] at e
      omega
/-! an item goes -/
theorem bl_ok_rm {L c i : Nat} {P K : Nat → Nat} (h : bl_ok L c P K) : bl_ok L (c - 1) (bl_rm i P) (bl_rm i K) := by
  refine ⟨fun j hj => ?_, fun j hj => ?_⟩
  · by_cases e : j < i
    · rw [bl_rm_l e, bl_rm_l e]
      exact h.1 j (by omega)
    · rw [bl_rm_g (by omega), bl_rm_g (by omega)]
      have := h.1 (j + 1) (by omega)
      omega
  · by_cases e : j + 1 < i
    · rw [bl_rm_l e, bl_rm_l (show j < i by omega)]
      exact h.2 j (by omega)
    · rw [bl_rm_g (show i ≤ j + 1 by omega)]
      have h1 := h.2 j (by omega)
      have h2 := h.2 (j + 1) (by omega)
      by_cases e2 : j < i
      · rw [bl_rm_l e2]; omega
      · rw [bl_rm_g (by omega)]; omega
theorem bl_gp_rml {i j : Nat} {P : Nat → Nat} (h : j < i) : bl_gp (bl_rm i P) j = bl_gp P j := by
  cases j with
  | zero => rw [bl_gp0, bl_gp0, bl_rm_l h]
  | succ j => rw [bl_gpS, bl_gpS, bl_rm_l h, bl_rm_l (by omega)]
theorem bl_gp_rmg {i j : Nat} {P : Nat → Nat} (h : i < j) : bl_gp (bl_rm i P) j = bl_gp P (j + 1) := by
  cases j with
  | zero => omega
  | succ j => rw [bl_gpS, bl_gpS, bl_rm_g (by omega), bl_rm_g (by omega)]
theorem bl_gp_rme {L c i : Nat} {P K : Nat → Nat} (h : bl_ok L c P K) (hi : i + 1 < c) : bl_gp (bl_rm i P) i = bl_gp P (i + 1) + (bl_gp P i + 4) := by
  have h1 := h.2 i hi
  cases i with
  | zero =>
    rw [bl_gpS, bl_gp0, bl_gp0, bl_rm_g (Nat.le_refl _)]
    omega
  | succ i =>
    have h2 := h.2 i (by omega)
    rw [bl_gpS, bl_gpS, bl_gpS, bl_rm_g (Nat.le_refl _), bl_rm_l (by omega)]
    omega
theorem bl_tot_rmg {L c i : Nat} {P K : Nat → Nat} (h : bl_ok L c P K) (hi : i + 1 < c) : bl_tot (c - 1) (bl_rm i P) = bl_tot c P + 4 := by
  obtain ⟨d, rfl⟩ : ∃ d, c = d + 2 := ⟨c - 2, by omega⟩
  have h1 := h.1 (d + 1) (by omega)
  rw [show d + 2 - 1 = d + 1 from rfl, bl_totS, bl_totS, bl_rm_g (by omega)]
  omega
theorem bl_tot_rme {L c i : Nat} {P K : Nat → Nat} (h : bl_ok L c P K) (hi : i + 1 = c) : bl_gp P i ≤ bl_tot c P ∧ bl_tot (c - 1) (bl_rm i P) = bl_tot c P - bl_gp P i := by
  subst hi
  rw [show i + 1 - 1 = i from rfl, bl_totS]
  have h1 := h.1 i (by omega)
  cases i with
  | zero =>
    rw [bl_tot0, bl_gp0]
    omega
  | succ i =>
    have h2 := h.1 i (by omega)
    have h3 := h.2 i (by omega)
    rw [bl_totS, bl_gpS, bl_rm_l (by omega)]
    omega
/-! a turn -/
theorem bl_low {L c f : Nat} {P K : Nat → Nat} (h : bl_ok L c P K) (hf : bl_fo c f P) : ∀ d, f + d < c → 4 * (f + d) + 1 ≤ P (f + d) := by
  intro d
  induction d with
  | zero =>
    intro hc
    have h1 := hf.2.2 hc
    show 4 * f + 1 ≤ P f
    cases f with
    | zero => rw [bl_gp0] at h1; omega
    | succ f =>
      rw [bl_gpS] at h1
      have h2 := h.1 f (by omega)
      omega
  | succ d ih =>
    intro hc
    have h1 := ih (by omega)
    have h2 := h.2 (f + d) (by omega)
    rw [← Nat.add_assoc]
    omega
theorem bl_low' {L c f j : Nat} {P K : Nat → Nat} (h : bl_ok L c P K) (hf : bl_fo c f P) (h1 : f ≤ j) (h2 : j < c) : 4 * j + 1 ≤ P j := by
  have := bl_low h hf (j - f) (by omega)
  rw [show f + (j - f) = j by omega] at this
  exact this
theorem bl_ok_mv {L c f : Nat} {P K : Nat → Nat} (h : bl_ok L c P K) (hf : bl_fo c f P) : bl_ok L c (bl_mv f P) K := by
  refine ⟨fun j hj => ?_, fun j hj => ?_⟩
  · have h1 := h.1 j hj
    by_cases e : j < f
    · rw [bl_mv_l e]; exact h1
    · have h2 := bl_low' h hf (by omega) hj
      rw [bl_mv_g (by omega)]; omega
  · have h1 := h.2 j hj
    by_cases e : j + 1 < f
    · rw [bl_mv_l e, bl_mv_l (show j < f by omega)]; exact h1
    · rw [bl_mv_g (show f ≤ j + 1 by omega)]
      by_cases e2 : j < f
      · have e3 : f = j + 1 := by omega
        have h3 := hf.2.2 (by omega)
        rw [e3, bl_gpS] at h3
        rw [bl_mv_l e2]; omega
      · have h3 := bl_low' h hf (j := j) (by omega) (by omega)
        rw [bl_mv_g (show f ≤ j by omega)]; omega
theorem bl_gp_mvl {f j : Nat} {P : Nat → Nat} (h : j < f) : bl_gp (bl_mv f P) j = bl_gp P j := by
  cases j with
  | zero => rw [bl_gp0, bl_gp0, bl_mv_l h]
  | succ j => rw [bl_gpS, bl_gpS, bl_mv_l h, bl_mv_l (by omega)]
theorem bl_gp_mve {f : Nat} {P : Nat → Nat} : bl_gp (bl_mv f P) f = bl_gp P f - 1 := by
  cases f with
  | zero => rw [bl_gp0, bl_gp0, bl_mv_g (Nat.le_refl _)]
  | succ f => rw [bl_gpS, bl_gpS, bl_mv_g (Nat.le_refl _), bl_mv_l (by omega)]; omega
theorem bl_gp_mvg {L c f j : Nat} {P K : Nat → Nat} (h : bl_ok L c P K) (hf : bl_fo c f P) (h1 : f < j) (h2 : j < c) : bl_gp (bl_mv f P) j = bl_gp P j := by
  cases j with
  | zero => omega
  | succ j =>
    have h3 := bl_low' h hf (j := j) (by omega) (by omega)
    have h4 := h.2 j h2
    rw [bl_gpS, bl_gpS, bl_mv_g (by omega), bl_mv_g (by omega)]
    omega
theorem bl_tot_mv {L c f : Nat} {P K : Nat → Nat} (h : bl_ok L c P K) (hf : bl_fo c f P) (hc : f < c) : 1 ≤ bl_tot c P ∧ bl_tot c (bl_mv f P) = bl_tot c P - 1 := by
  obtain ⟨d, rfl⟩ : ∃ d, c = d + 1 := ⟨c - 1, by omega⟩
  have h3 := bl_low' h hf (j := d) (by omega) (by omega)
  rw [bl_totS, bl_totS, bl_mv_g (by omega)]
  omega
theorem bl_tot_end {c : Nat} {P : Nat → Nat} : bl_tot c (bl_mv c P) = bl_tot c P := by
  cases c with
  | zero => rw [bl_tot0, bl_tot0]
  | succ c => rw [bl_totS, bl_totS, bl_mv_l (by omega)]
theorem bl_roomS {L c : Nat} {P : Nat → Nat} : bl_room L (c + 1) P ↔ P c + 4 ≤ L := by
  refine ⟨fun h => ?_, fun h => Or.inr h⟩
  rcases h with e | e
  · omega
  · exact e
theorem bl_gp_le (P : Nat → Nat) (i : Nat) : bl_gp P i ≤ P i := by
  cases i with
  | zero => rw [bl_gp0]; exact Nat.le_refl _
  | succ i => rw [bl_gpS]; omega
theorem bl_tot_st {L c k : Nat} {P K : Nat → Nat} (h : bl_ok L c P K) (hk : k < c) : bl_tot (k + 1) P = bl_tot k P + bl_gp P k := by
  rw [bl_totS]
  cases k with
  | zero => rw [bl_tot0, bl_gp0]; omega
  | succ k =>
    rw [bl_totS, bl_gpS]
    have h1 := h.1 k (by omega)
    have h2 := h.2 k (by omega)
    omega
/-! numbers -/
theorem bl_neg {k : Nat} (hk : k < 2 ^ 31) {x : Int32} (hx : x < 0) : ¬ nI k = x := by
  intro e
  rw [← e] at hx
  exact nI_pos hk hx
theorem bl_b16 (b r : Nat) : nI b * 16 + nI r = nI (16 * b + r) := by
  show nI b * nI 16 + nI r = _
  rw [pk_mul, nI_add, Nat.mul_comm]
theorem bl_b160 (b : Nat) : nI b * 16 = nI (16 * b) := by
  show nI b * nI 16 = _
  rw [pk_mul, Nat.mul_comm]
theorem bl_s1 {n : Nat} (h : 0 < n) : nI n - 1 = nI (n - 1) := pk_sub (a := n) (b := 1) h
theorem bl_a15 {n : Nat} (h : n < 2 ^ 32) : nI n &&& 15 = nI (n % 16) := pk_andN h 4 (by decide)
/-- the place of the item before, as the running sums hold it -/
def bl_fr (P : Nat → Nat) (i : Nat) : Int32 := if i = 0 then -4 else nI (P (i - 1))
theorem bl_fr0 (P : Nat → Nat) : bl_fr P 0 = -4 := if_pos rfl
theorem bl_frS (P : Nat → Nat) (i : Nat) : bl_fr P (i + 1) = nI (P i) := if_neg (Nat.succ_ne_zero i)
theorem bl_fr_st {L c i : Nat} {P K : Nat → Nat} (h : bl_ok L c P K) (hi : i < c) : bl_fr P i + (nI (bl_gp P i) + 4) = nI (P i) := by
  cases i with
  | zero =>
    rw [bl_fr0, bl_gp0, Int32.add_comm (nI (P 0)) 4, ← Int32.add_assoc, show (-4 : Int32) + 4 = 0 from by decide, Int32.zero_add]
  | succ i =>
    have h2 := h.2 i hi
    rw [bl_frS, bl_gpS]
    show nI _ + (nI _ + nI 4) = _
    rw [nI_add, nI_add]
    exact congrArg nI (by omega)
/-- item i is one that the arm takes -/
def bl_hit (T : Int32) (r : Nat) (P K : Nat → Nat) (i : Nat) : Prop := ((T >>> (nI (K i) &&& 31)) &&& 1) = 1 ∧ r ≤ P i ∧ P i ≤ r + 3
end
section
/-! the pictures of the two states, belt by belt -/
def bl_up (b : Nat) (s : bl_S) (w : Nat → bl_S) : Nat → bl_S := fun j => if j = b then s else w j
theorem bl_up_s {b : Nat} {s : bl_S} {w : Nat → bl_S} : bl_up b s w b = s := if_pos rfl
theorem bl_up_n {b j : Nat} {s : bl_S} {w : Nat → bl_S} (h : j ≠ b) : bl_up b s w j = w j := if_neg h
def bl_X (b : Nat) (s : bl_S) (hd cnt gap kx gs : Nat → Int32) : Prop := ∃ h : Nat, h < 16 ∧ hd b = nI h ∧ cnt b = nI s.1 ∧ gs b = nI (bl_tot s.1 s.2.1) ∧ ∀ i, i < s.1 → gap (16 * b + (h + i) % 16) = nI (bl_gp s.2.1 i) ∧ kx (16 * b + (h + i) % 16) = nI (s.2.2 i)
def bl_Y (b : Nat) (s : bl_S) (cn pl ky : Nat → Int32) : Prop := cn b = nI s.1 ∧ ∀ i, i < s.1 → pl (16 * b + i) = nI (s.2.1 i) ∧ ky (16 * b + i) = nI (s.2.2 i)
def bl_XW (w : Nat → bl_S) (hd cnt gap kx gs : Nat → Int32) : Prop := ∀ b, b < 4 → bl_X b (w b) hd cnt gap kx gs
def bl_YW (w : Nat → bl_S) (cn pl ky : Nat → Int32) : Prop := ∀ b, b < 4 → bl_Y b (w b) cn pl ky
def bl_OK (L : Nat) (w : Nat → bl_S) : Prop := ∀ b, b < 4 → bl_ok L (w b).1 (w b).2.1 (w b).2.2
theorem bl_Xup {w : Nat → bl_S} {b : Nat} {s : bl_S} {hd cnt gap kx gs hd' cnt' gap' kx' gs' : Nat → Int32} (W : bl_XW w hd cnt gap kx gs) (B : bl_X b s hd' cnt' gap' kx' gs') (f1 : ∀ j, j ≠ b → hd' j = hd j ∧ cnt' j = cnt j ∧ gs' j = gs j) (f2 : ∀ q, q / 16 ≠ b → gap' q = gap q ∧ kx' q = kx q) : bl_XW (bl_up b s w) hd' cnt' gap' kx' gs' := by
  intro d hd4
  by_cases e : d = b
  · rw [e, bl_up_s]; exact B
  · rw [bl_up_n e]
    obtain ⟨h, h16, eh, ec, eg, eI⟩ := W d hd4
    refine ⟨h, h16, (f1 d e).1.trans eh, (f1 d e).2.1.trans ec, (f1 d e).2.2.trans eg, fun i hi => ?_⟩
    have hq : (16 * d + (h + i) % 16) / 16 ≠ b := by omega
    rw [(f2 _ hq).1, (f2 _ hq).2]
    exact eI i hi
theorem bl_Yup {w : Nat → bl_S} {b : Nat} {s : bl_S} {cn pl ky cn' pl' ky' : Nat → Int32} (W : bl_YW w cn pl ky) (C : ∀ d, d < 4 → (w d).1 ≤ 16) (B : bl_Y b s cn' pl' ky') (f1 : ∀ j, j ≠ b → cn' j = cn j) (f2 : ∀ q, q / 16 ≠ b → pl' q = pl q ∧ ky' q = ky q) : bl_YW (bl_up b s w) cn' pl' ky' := by
  intro d hd4
  by_cases e : d = b
  · rw [e, bl_up_s]; exact B
  · rw [bl_up_n e]
    obtain ⟨ec, eI⟩ := W d hd4
    refine ⟨(f1 d e).trans ec, fun i hi => ?_⟩
    have h16 := C d hd4
    have hq : (16 * d + i) / 16 ≠ b := by omega
    rw [(f2 _ hq).1, (f2 _ hq).2]
    exact eI i hi
theorem bl_OKup {L b c : Nat} {P K : Nat → Nat} {w : Nat → bl_S} (O : bl_OK L w) (h : bl_ok L c P K) : bl_OK L (bl_up b (c, P, K) w) := by
  intro d hd4
  by_cases e : d = b
  · rw [e, bl_up_s]; exact h
  · rw [bl_up_n e]; exact O d hd4
theorem bl_C {L : Nat} {w : Nat → bl_S} (O : bl_OK L w) (hL : L ≤ 60) : ∀ d, d < 4 → (w d).1 ≤ 16 := fun d h => bl_c16 (O d h) hL
theorem bl_Xat {w : Nat → bl_S} {b c : Nat} {P K : Nat → Nat} {hd cnt gap kx gs : Nat → Int32} (W : bl_XW w hd cnt gap kx gs) (hb : b < 4) (hs : w b = (c, P, K)) : ∃ h : Nat, h < 16 ∧ hd b = nI h ∧ cnt b = nI c ∧ gs b = nI (bl_tot c P) ∧ ∀ i, i < c → gap (16 * b + (h + i) % 16) = nI (bl_gp P i) ∧ kx (16 * b + (h + i) % 16) = nI (K i) := by
  have B := W b hb
  rw [hs] at B
  exact B
theorem bl_Yat {w : Nat → bl_S} {b c : Nat} {P K : Nat → Nat} {cn pl ky : Nat → Int32} (W : bl_YW w cn pl ky) (hb : b < 4) (hs : w b = (c, P, K)) : cn b = nI c ∧ ∀ i, i < c → pl (16 * b + i) = nI (P i) ∧ ky (16 * b + i) = nI (K i) := by
  have B := W b hb
  rw [hs] at B
  exact B
theorem bl_Oat {L : Nat} {w : Nat → bl_S} {b c : Nat} {P K : Nat → Nat} (O : bl_OK L w) (hb : b < 4) (hs : w b = (c, P, K)) : bl_ok L c P K := by
  have B := O b hb
  rw [hs] at B
  exact B
end
section
/-! the component's belts: reads, an item comes, an item goes -/
section
variable {fl fg : Int32} {hd cnt gap kx gs lds st tf po rc tk hl : Nat → Int32}
theorem bl_xbad {post : Int32 → Prop} {b : Nat} (hb : b < 4) (hp : post 0) : wpX_bad post (nI b) := br_f (nI_pos (by omega)) (br_t (nI_lt (b := 4) hb (by omega)) hp)
theorem bl_slot {post : Int32 → Prop} {b h i : Nat} {x y : Int32} (hb : b < 4) (h16 : h < 16) (eh : hd b = nI h) (hi : i ≤ 16) (ex : x = nI b) (ey : y = nI i) (hp : post (nI (16 * b + (h + i) % 16))) : wpX_slot post (fl, fg, hd, cnt, gap, kx, gs, lds, st, tf, po, rc, tk, hl) x y := by
  subst ex ey
  have e : (nI b * 16) + ((hd (nI b).toNatClampNeg + nI i) &&& 15) = nI (16 * b + (h + i) % 16) := by
    rw [nI_clamp (by omega), eh, nI_add h i, bl_a15 (by omega), bl_b16]
  refine And.intro (vp_in_nI hb (by omega)) ?_
  rw [e]; exact hp
theorem bl_last {post : Int32 → Prop} {b c : Nat} {P : Nat → Nat} (hb : b < 4) (ec : cnt b = nI (c + 1)) (eg : gs b = nI (bl_tot (c + 1) P)) (h4 : 4 * c ≤ P c) (hp : post (nI (P c))) : wpX_lastPlace post (fl, fg, hd, cnt, gap, kx, gs, lds, st, tf, po, rc, tk, hl) (nI b) := by
  have e : gs (nI b).toNatClampNeg + (4 * (cnt (nI b).toNatClampNeg - 1)) = nI (P c) := by
    rw [nI_clamp (by omega), ec, eg, nI_pred, bl_totS]
    show nI (P c - 4 * c) + nI 4 * nI c = _
    rw [pk_mul, nI_add]
    exact congrArg nI (by omega)
  refine And.intro (vp_in_nI hb (by omega)) (And.intro (vp_in_nI hb (by omega)) ?_)
  rw [e]; exact hp
theorem bl_xroom {post : Int32 → Prop} {L b c : Nat} {P K : Nat → Nat} {w : Nat → bl_S} {x : Int32} (hb : b < 4) (hL : L ≤ 60) (h8 : 8 ≤ L) (W : bl_XW w hd cnt gap kx gs) (hs : w b = (c, P, K)) (ok : bl_ok L c P K) (ex : x = nI b) (h1 : bl_room L c P → post 1) (h0 : ¬ bl_room L c P → post 0) : wpX_hasRoom post (nI L, fg, hd, cnt, gap, kx, gs, lds, st, tf, po, rc, tk, hl) x := by
  subst ex
  obtain ⟨h, h16, eh, ec, eg, eI⟩ := bl_Xat W hb hs
  have c16 := bl_c16 ok hL
  have hcl : (nI b).toNatClampNeg = b := nI_clamp (by omega)
  refine And.intro (vp_in_nI hb (by omega)) ?_
  rw [hcl, ec]
  cases c with
  | zero => exact br_t rfl (h1 (Or.inl rfl))
  | succ c =>
    have hP := ok.1 c (by omega)
    refine br_f (nI_ne0 (by omega) (by omega)) (bl_last hb ec eg hP.1 ?_)
    have eL : nI L - 4 = nI (L - 4) := pk_sub (a := L) (b := 4) (by omega)
    rw [eL]
    refine pk_lt (L - 4) (P c) (fun z => h0 ?_) (fun z => h1 ?_)
    · rw [bl_roomS]; omega
    · rw [bl_roomS]; omega
theorem bl_xapp28 {post : SX → Prop} {L b c k : Nat} {P K : Nat → Nat} {w : Nat → bl_S} {z : Int32} (hb : b < 4) (hL : L ≤ 60) (W : bl_XW w hd cnt gap kx gs) (hs : w b = (c, P, K)) (ok : bl_ok L c P K) (hr : bl_room L c P) (ez : z = nI (bl_gp (bl_ap c L P) c)) (H : ∀ cnt' gap' kx' gs' : Nat → Int32, bl_XW (bl_up b (c + 1, bl_ap c L P, bl_ap c k K) w) hd cnt' gap' kx' gs' → post (fl, fg, hd, cnt', gap', kx', gs', lds, st, tf, po, rc, tk, hl)) : wX_append_28 post (nI b) (nI k) z fl fg hd cnt gap kx gs lds st tf po rc tk hl := by
  subst ez
  obtain ⟨h, h16, eh, ec, eg, eI⟩ := bl_Xat W hb hs
  have c15 := bl_c15 ok hr hL
  have hbI : vp_in (nI b) 4 := vp_in_nI hb (by omega)
  have hcl : (nI b).toNatClampNeg = b := nI_clamp (by omega)
  have hqI : vp_in (nI (16 * b + (h + c) % 16)) 64 := vp_in_nI (by omega) (by omega)
  have hqc : (nI (16 * b + (h + c) % 16)).toNatClampNeg = 16 * b + (h + c) % 16 := nI_clamp (by omega)
  refine And.intro hbI (bl_slot hb h16 eh (i := c) (by omega) rfl (by rw [hcl]; exact ec) ?_)
  refine ⟨hqI, nm_e ⟨hqI, nm_e ⟨hbI, hbI, nm_e ⟨hbI, hbI, nm_e ?_⟩⟩⟩⟩
  rw [hcl, hqc]
  refine H _ _ _ _ (bl_Xup W ⟨h, h16, eh, ?_, ?_, fun i hi => ?_⟩ (fun j hj => ⟨rfl, pk_un hj, pk_un hj⟩) (fun q hq => ⟨pk_un (by omega), pk_un (by omega)⟩))
  · rw [pk_us, ec]; exact nI_1 c
  · rw [pk_us, eg, nI_add]
    show _ = nI (bl_tot (c + 1) (bl_ap c L P))
    rw [bl_tot_ap ok hr]
  · replace hi : i < c + 1 := hi
    show _ = nI (bl_gp (bl_ap c L P) i) ∧ _ = nI (bl_ap c k K i)
    by_cases e : i = c
    · subst e
      rw [pk_us, pk_us, bl_ap_s]
      exact ⟨rfl, rfl⟩
    · rw [pk_un (by omega), pk_un (by omega), bl_gp_apl (by omega), bl_ap_n e]
      exact eI i (by omega)
theorem bl_xapp {post : SX → Prop} {L b c k : Nat} {P K : Nat → Nat} {w : Nat → bl_S} {x y : Int32} (hb : b < 4) (hL : L ≤ 60) (W : bl_XW w hd cnt gap kx gs) (hs : w b = (c, P, K)) (ok : bl_ok L c P K) (hr : bl_room L c P) (ex : x = nI b) (ey : y = nI k) (H : ∀ cnt' gap' kx' gs' : Nat → Int32, bl_XW (bl_up b (c + 1, bl_ap c L P, bl_ap c k K) w) hd cnt' gap' kx' gs' → post (nI L, fg, hd, cnt', gap', kx', gs', lds, st, tf, po, rc, tk, hl)) : wpX_append post (nI L, fg, hd, cnt, gap, kx, gs, lds, st, tf, po, rc, tk, hl) x y := by
  subst ex ey
  obtain ⟨h, h16, eh, ec, eg, eI⟩ := bl_Xat W hb hs
  have c15 := bl_c15 ok hr hL
  have hcl : (nI b).toNatClampNeg = b := nI_clamp (by omega)
  refine And.intro (vp_in_nI hb (by omega)) ?_
  rw [hcl, ec]
  cases c with
  | zero => exact br_t rfl (bl_xapp28 hb hL W hs ok hr (by rw [bl_gp0, bl_ap_s]) H)
  | succ c =>
    have hP := ok.1 c (by omega)
    have hr' := bl_roomS.mp hr
    refine br_f (nI_ne0 (by omega) (by omega)) (bl_last hb ec eg hP.1 (bl_xapp28 hb hL W hs ok hr ?_ H))
    rw [bl_gpS, bl_ap_s, bl_ap_n (by omega), pk_sub hP.2.1]
    show nI (L - P c) - nI 4 = _
    rw [pk_sub (by omega), Nat.sub_sub]
theorem bl_xclose {post : SX → Prop} {b h c : Nat} {G M : Nat → Nat} (hb : b < 4) (h16 : h < 16) (eh : hd b = nI h) (ec : cnt b = nI c) (c16 : c ≤ 16) : ∀ (n k : Nat) (gap kx : Nat → Int32), c - k < n → k < c → (∀ j, j < k → gap (16 * b + (h + j) % 16) = nI (G j) ∧ kx (16 * b + (h + j) % 16) = nI (M j)) → (∀ j, k ≤ j → j + 1 < c → gap (16 * b + (h + (j + 1)) % 16) = nI (G j) ∧ kx (16 * b + (h + (j + 1)) % 16) = nI (M j)) → (∀ gap' kx' : Nat → Int32, (∀ j, j + 1 < c → gap' (16 * b + (h + j) % 16) = nI (G j) ∧ kx' (16 * b + (h + j) % 16) = nI (M j)) → (∀ q, q / 16 ≠ b → gap' q = gap q ∧ kx' q = kx q) → post (fl, fg, hd, cnt, gap', kx', gs, lds, st, tf, po, rc, tk, hl)) → wX_closeUp_2 post (nI b) fl fg n (nI k) hd cnt gap kx gs lds st tf po rc tk hl := by
  intro n
  induction n with
  | zero => intro k gap kx hn; omega
  | succ n ih =>
    intro k gap kx hn hk h1 h2 H
    have hbI : vp_in (nI b) 4 := vp_in_nI hb (by omega)
    have hcl : (nI b).toNatClampNeg = b := nI_clamp (by omega)
    have q0I : vp_in (nI (16 * b + (h + k) % 16)) 64 := vp_in_nI (by omega) (by omega)
    have q0c : (nI (16 * b + (h + k) % 16)).toNatClampNeg = 16 * b + (h + k) % 16 := nI_clamp (by omega)
    have q1I : vp_in (nI (16 * b + (h + (k + 1)) % 16)) 64 := vp_in_nI (by omega) (by omega)
    have q1c : (nI (16 * b + (h + (k + 1)) % 16)).toNatClampNeg = 16 * b + (h + (k + 1)) % 16 := nI_clamp (by omega)
    refine And.intro hbI (pk_le c (k + 1) (fun z => H gap kx (fun j hj => h1 j (by omega)) (fun q _ => ⟨rfl, rfl⟩)) (fun z => ?_) (by rw [hcl]; exact ec) (nI_1 k))
    refine bl_slot hb h16 eh (i := k) (by omega) rfl rfl (bl_slot hb h16 eh (i := k + 1) (by omega) rfl (nI_1 k) ?_)
    refine ⟨q1I, q0I, nm_e ⟨q1I, q0I, nm_e (nm_r (nI_1 k) ?_)⟩⟩
    rw [q0c, q1c]
    refine ih (k + 1) _ _ (by omega) (by omega) (fun j hj => ?_) (fun j h3 h4 => ?_) (fun gap' kx' h3 h4 => H gap' kx' h3 (fun q hq => ?_))
    · by_cases e : j = k
      · subst e
        rw [pk_us, pk_us]
        exact h2 j (Nat.le_refl _) z
      · rw [pk_un (by omega), pk_un (by omega)]
        exact h1 j (by omega)
    · rw [pk_un (by omega), pk_un (by omega)]
      exact h2 j (by omega) h4
    · rw [(h4 q hq).1, (h4 q hq).2, pk_un (by omega), pk_un (by omega)]
      exact ⟨rfl, rfl⟩
theorem bl_xrm79 {post : Int32 → SX → Prop} {b h c i : Nat} {G M : Nat → Nat} {x4 : Int32} (hb : b < 4) (h16 : h < 16) (eh : hd b = nI h) (ec : cnt b = nI c) (c16 : c ≤ 16) (hi : i < c) (hG : ∀ j, j + 1 < c → (j < i → gap (16 * b + (h + j) % 16) = nI (G j) ∧ kx (16 * b + (h + j) % 16) = nI (M j)) ∧ (i ≤ j → gap (16 * b + (h + (j + 1)) % 16) = nI (G j) ∧ kx (16 * b + (h + (j + 1)) % 16) = nI (M j))) (H : ∀ (h' : Nat) (hd' cnt' gap' kx' : Nat → Int32), h' < 16 → hd' b = nI h' → cnt' b = nI (c - 1) → (∀ j, j < c - 1 → gap' (16 * b + (h' + j) % 16) = nI (G j) ∧ kx' (16 * b + (h' + j) % 16) = nI (M j)) → (∀ j, j ≠ b → hd' j = hd j ∧ cnt' j = cnt j) → (∀ q, q / 16 ≠ b → gap' q = gap q ∧ kx' q = kx q) → post x4 (fl, fg, hd', cnt', gap', kx', gs, lds, st, tf, po, rc, tk, hl)) : wX_removeItem_79 post (nI b) (nI i) x4 fl fg hd cnt gap kx gs lds st tf po rc tk hl := by
  have hbI : vp_in (nI b) 4 := vp_in_nI hb (by omega)
  have hcl : (nI b).toNatClampNeg = b := nI_clamp (by omega)
  have hc1 : upd cnt b (cnt b - 1) b = nI (c - 1) := by rw [pk_us, ec]; exact bl_s1 (by omega)
  refine pk_eq i 0 (fun z => ?_) (fun z => ?_)
  · subst z
    refine And.intro hbI (And.intro hbI (nm_e ?_))
    refine And.intro hbI (And.intro hbI (nm_e ?_))
    rw [hcl]
    refine H ((h + 1) % 16) _ _ _ _ (by omega) ?_ hc1 (fun j hj => ?_) (fun j hj => ⟨pk_un hj, pk_un hj⟩) (fun q hq => ⟨rfl, rfl⟩)
    · rw [pk_us, eh, nI_1, bl_a15 (by omega)]
    · rw [show 16 * b + ((h + 1) % 16 + j) % 16 = 16 * b + (h + (j + 1)) % 16 by omega]
      exact (hG j (by omega)).2 (by omega)
  · refine Exists.intro (c + 1) (bl_xclose (G := G) (M := M) hb h16 eh ec c16 (c + 1) i gap kx (by omega) hi (fun j hj => (hG j (by omega)).1 hj) (fun j h3 h4 => (hG j h4).2 h3) (fun gap' kx' h3 h4 => ?_))
    refine And.intro hbI (And.intro hbI (nm_e ?_))
    rw [hcl]
    exact H h _ _ _ _ h16 eh hc1 (fun j hj => h3 j (by omega)) (fun j hj => ⟨rfl, pk_un hj⟩) h4
theorem bl_xrm {post : Int32 → SX → Prop} {L b c i : Nat} {P K : Nat → Nat} {w : Nat → bl_S} {x y : Int32} (hb : b < 4) (hL : L ≤ 60) (W : bl_XW w hd cnt gap kx gs) (hs : w b = (c, P, K)) (ok : bl_ok L c P K) (hi : i < c) (ex : x = nI b) (ey : y = nI i) (H : ∀ hd' cnt' gap' kx' gs' : Nat → Int32, bl_XW (bl_up b (c - 1, bl_rm i P, bl_rm i K) w) hd' cnt' gap' kx' gs' → post (nI (K i)) (fl, fg, hd', cnt', gap', kx', gs', lds, st, tf, po, rc, tk, hl)) : wpX_removeItem post (fl, fg, hd, cnt, gap, kx, gs, lds, st, tf, po, rc, tk, hl) x y := by
  subst ex ey
  obtain ⟨h, h16, eh, ec, eg, eI⟩ := bl_Xat W hb hs
  have c16 := bl_c16 ok hL
  have hbI : vp_in (nI b) 4 := vp_in_nI hb (by omega)
  have hcl : (nI b).toNatClampNeg = b := nI_clamp (by omega)
  have q0I : vp_in (nI (16 * b + (h + i) % 16)) 64 := vp_in_nI (by omega) (by omega)
  have q0c : (nI (16 * b + (h + i) % 16)).toNatClampNeg = 16 * b + (h + i) % 16 := nI_clamp (by omega)
  unfold wpX_removeItem
  dsimp only
  refine bl_slot hb h16 eh (i := i) (by omega) rfl rfl ?_
  refine ⟨q0I, nm_r (e' := nI (K i)) (by rw [q0c]; exact (eI i hi).2) ⟨q0I, nm_r (e' := nI (bl_gp P i)) (by rw [q0c]; exact (eI i hi).1) ⟨hbI, ?_⟩⟩⟩
  refine pk_le c (i + 1) (fun z => ?_) (fun z => ?_) (by rw [hcl]; exact ec) (nI_1 i)
  · have hic : i + 1 = c := by omega
    have ht := bl_tot_rme ok hic
    refine ⟨hbI, hbI, nm_e ?_⟩
    rw [hcl]
    refine bl_xrm79 (G := bl_gp (bl_rm i P)) (M := bl_rm i K) hb h16 eh ec c16 hi (fun j hj => ⟨fun h3 => ?_, fun h3 => ?_⟩) (fun h' hd' cnt' gap' kx' a1 a2 a3 a4 a5 a6 => H _ _ _ _ _ (bl_Xup W ⟨h', a1, a2, a3, ?_, a4⟩ (fun j hj => ⟨(a5 j hj).1, (a5 j hj).2, pk_un hj⟩) a6))
    · rw [bl_gp_rml h3, bl_rm_l h3]; exact eI j (by omega)
    · omega
    · rw [pk_us, eg, pk_sub ht.1]; exact congrArg nI ht.2.symm
  · have ht := bl_tot_rmg ok z
    have q1I : vp_in (nI (16 * b + (h + (i + 1)) % 16)) 64 := vp_in_nI (by omega) (by omega)
    have q1c : (nI (16 * b + (h + (i + 1)) % 16)).toNatClampNeg = 16 * b + (h + (i + 1)) % 16 := nI_clamp (by omega)
    refine bl_slot hb h16 eh (i := i + 1) (by omega) rfl (nI_1 i) ?_
    refine ⟨q1I, q1I, nm_e ⟨hbI, hbI, nm_e ?_⟩⟩
    rw [hcl, q1c]
    refine bl_xrm79 (G := bl_gp (bl_rm i P)) (M := bl_rm i K) hb h16 eh ec c16 hi (fun j hj => ⟨fun h3 => ?_, fun h3 => ?_⟩) (fun h' hd' cnt' gap' kx' a1 a2 a3 a4 a5 a6 => H _ _ _ _ _ (bl_Xup W ⟨h', a1, a2, a3, ?_, a4⟩ (fun j hj => ⟨(a5 j hj).1, (a5 j hj).2, pk_un hj⟩) (fun q hq => ⟨((a6 q hq).1).trans (pk_un (by omega)), (a6 q hq).2⟩)))
    · rw [bl_gp_rml h3, bl_rm_l h3, pk_un (by omega)]; exact eI j (by omega)
    · rw [bl_rm_g h3]
      by_cases e : j = i
      · subst e
        rw [pk_us, (eI (j + 1) hj).1, bl_gp_rme ok hj]
        refine ⟨?_, (eI (j + 1) hj).2⟩
        show nI _ + (nI _ + nI 4) = _
        rw [nI_add, nI_add]
      · rw [bl_gp_rmg (by omega), pk_un (by omega)]; exact eI (j + 1) hj
    · rw [pk_us, eg]
      show nI _ + nI 4 = nI (bl_tot (c - 1) (bl_rm i P))
      rw [nI_add, ht]
end
end
section
/-! the component: the end, the first gap, a turn, a place, an arm's reach -/
section
variable {fl fg : Int32} {hd cnt gap kx gs lds st tf po rc tk hl : Nat → Int32}
theorem bl_xend {post : Int32 → Prop} {L b c : Nat} {P K : Nat → Nat} {w : Nat → bl_S} (hb : b < 4) (hL : L ≤ 60) (W : bl_XW w hd cnt gap kx gs) (hs : w b = (c, P, K)) (ok : bl_ok L c P K) (h1 : 0 < c → P 0 = 0 → post 1) (h0 : c = 0 ∨ P 0 ≠ 0 → post 0) : wpX_atEnd post (fl, fg, hd, cnt, gap, kx, gs, lds, st, tf, po, rc, tk, hl) (nI b) := by
  obtain ⟨h, h16, eh, ec, eg, eI⟩ := bl_Xat W hb hs
  have c16 := bl_c16 ok hL
  have hcl : (nI b).toNatClampNeg = b := nI_clamp (by omega)
  have q0I : vp_in (nI (16 * b + (h + 0) % 16)) 64 := vp_in_nI (by omega) (by omega)
  have q0c : (nI (16 * b + (h + 0) % 16)).toNatClampNeg = 16 * b + (h + 0) % 16 := nI_clamp (by omega)
  refine And.intro (vp_in_nI hb (by omega)) (pk_le c 0 (fun z => h0 (Or.inl (by omega))) (fun z => ?_) (by rw [hcl]; exact ec))
  have hP := ok.1 0 z
  refine bl_slot hb h16 eh (i := 0) (by omega) rfl rfl ?_
  exact ⟨q0I, pk_eq (P 0) 0 (fun z2 => h1 z z2) (fun z2 => h0 (Or.inr z2)) (by rw [q0c, (eI 0 z).1, bl_gp0])⟩
theorem bl_xfo {post : Int32 → Prop} {L b h c f : Nat} {P K : Nat → Nat} (hb : b < 4) (hL : L ≤ 60) (h16 : h < 16) (eh : hd b = nI h) (ec : cnt b = nI c) (eI : ∀ i, i < c → gap (16 * b + (h + i) % 16) = nI (bl_gp P i)) (ok : bl_ok L c P K) (hf : bl_fo c f P) (hp : post (nI f)) : ∀ n j, f - j < n → j ≤ f → wX_firstOpen_2 post (nI b) fl fg hd cnt gap kx gs lds st tf po rc tk hl n (nI j) := by
  have c16 := bl_c16 ok hL
  have hcl : (nI b).toNatClampNeg = b := nI_clamp (by omega)
  have hfc := hf.1
  intro n
  induction n with
  | zero => intro j hn; omega
  | succ n ih =>
    intro j hn hj
    refine And.intro (vp_in_nI hb (by omega)) (pk_le c j (fun z => ?_) (fun z => ?_) (by rw [hcl]; exact ec))
    · have e : j = f := by omega
      rw [e]; exact hp
    · have q0I : vp_in (nI (16 * b + (h + j) % 16)) 64 := vp_in_nI (by omega) (by omega)
      have q0c : (nI (16 * b + (h + j) % 16)).toNatClampNeg = 16 * b + (h + j) % 16 := nI_clamp (by omega)
      have hP := ok.1 j z
      have hg := bl_gp_le P j
      refine bl_slot hb h16 eh (i := j) (by omega) rfl rfl ⟨q0I, pk_eq (bl_gp P j) 0 (fun z2 => nm_r (nI_1 j) (ih (j + 1) ?_ ?_)) (fun z2 => ?_) (by rw [q0c]; exact eI j z)⟩
      · by_cases e : j = f
        · exact absurd z2 (e ▸ hf.2.2 (e ▸ z))
        · omega
      · by_cases e : j = f
        · exact absurd z2 (e ▸ hf.2.2 (e ▸ z))
        · omega
      · by_cases e : j = f
        · rw [e]; exact hp
        · exact absurd (hf.2.1 j (by omega)) z2
theorem bl_xfirst {post : Int32 → Prop} {L b c f : Nat} {P K : Nat → Nat} {w : Nat → bl_S} (hb : b < 4) (hL : L ≤ 60) (W : bl_XW w hd cnt gap kx gs) (hs : w b = (c, P, K)) (ok : bl_ok L c P K) (hf : bl_fo c f P) (hp : post (nI f)) : wpX_firstOpen post (fl, fg, hd, cnt, gap, kx, gs, lds, st, tf, po, rc, tk, hl) (nI b) := by
  obtain ⟨h, h16, eh, ec, eg, eI⟩ := bl_Xat W hb hs
  exact Exists.intro (f + 1) (bl_xfo hb hL h16 eh ec (fun i hi => (eI i hi).1) ok hf hp (f + 1) 0 (by omega) (by omega))
theorem bl_xadv {post : SX → Prop} {L b c f : Nat} {P K : Nat → Nat} {w : Nat → bl_S} (hb : b < 4) (hL : L ≤ 60) (W : bl_XW w hd cnt gap kx gs) (hs : w b = (c, P, K)) (ok : bl_ok L c P K) (hf : bl_fo c f P) (H : ∀ gap' gs' : Nat → Int32, bl_XW (bl_up b (c, bl_mv f P, K) w) hd cnt gap' kx gs' → post (fl, fg, hd, cnt, gap', kx, gs', lds, st, tf, po, rc, tk, hl)) : wpX_advance post (fl, fg, hd, cnt, gap, kx, gs, lds, st, tf, po, rc, tk, hl) (nI b) := by
  obtain ⟨h, h16, eh, ec, eg, eI⟩ := bl_Xat W hb hs
  have c16 := bl_c16 ok hL
  have hbI : vp_in (nI b) 4 := vp_in_nI hb (by omega)
  have hcl : (nI b).toNatClampNeg = b := nI_clamp (by omega)
  have hfc := hf.1
  unfold wpX_advance
  dsimp only
  refine bl_xfirst hb hL W hs ok hf ⟨hbI, pk_eq f c (fun z => ?_) (fun z => ?_) rfl (by rw [hcl]; exact ec)⟩
  · subst z
    refine H _ _ (bl_Xup W ⟨h, h16, eh, ec, ?_, fun i hi => ?_⟩ (fun j hj => ⟨rfl, rfl, rfl⟩) (fun q hq => ⟨rfl, rfl⟩))
    · rw [eg]; exact congrArg nI bl_tot_end.symm
    · replace hi : i < f := hi
      show _ = nI (bl_gp (bl_mv f P) i) ∧ _ = nI (K i)
      rw [bl_gp_mvl hi]; exact eI i hi
  · have hfl : f < c := by omega
    have ht := bl_tot_mv ok hf hfl
    have hg0 := hf.2.2 hfl
    have q0I : vp_in (nI (16 * b + (h + f) % 16)) 64 := vp_in_nI (by omega) (by omega)
    have q0c : (nI (16 * b + (h + f) % 16)).toNatClampNeg = 16 * b + (h + f) % 16 := nI_clamp (by omega)
    refine bl_slot hb h16 eh (i := f) (by omega) rfl rfl ⟨q0I, q0I, nm_e ⟨hbI, hbI, nm_e ?_⟩⟩
    rw [hcl, q0c]
    refine H _ _ (bl_Xup W ⟨h, h16, eh, ec, ?_, fun i hi => ?_⟩ (fun j hj => ⟨rfl, rfl, pk_un hj⟩) (fun q hq => ⟨pk_un (by omega), rfl⟩))
    · rw [pk_us, eg, bl_s1 (by omega)]; exact congrArg nI ht.2.symm
    · replace hi : i < c := hi
      show _ = nI (bl_gp (bl_mv f P) i) ∧ _ = nI (K i)
      by_cases e : i = f
      · subst e
        rw [pk_us, (eI i hi).1, bl_s1 (by omega), bl_gp_mve]
        exact ⟨rfl, (eI i hi).2⟩
      · rw [pk_un (by omega)]
        by_cases e2 : i < f
        · rw [bl_gp_mvl e2]; exact eI i hi
        · rw [bl_gp_mvg ok hf (by omega) hi]; exact eI i hi
theorem bl_xpl {post : Int32 → Prop} {L b h c i : Nat} {P K : Nat → Nat} (hb : b < 4) (hL : L ≤ 60) (h16 : h < 16) (eh : hd b = nI h) (eI : ∀ i, i < c → gap (16 * b + (h + i) % 16) = nI (bl_gp P i)) (ok : bl_ok L c P K) (hi : i < c) (hp : post (nI (P i))) : ∀ n k, i + 1 - k < n → k ≤ i + 1 → wX_placeOf_7 post (nI b) (nI i) fl fg hd cnt gap kx gs lds st tf po rc tk hl n (nI (4 * i + bl_tot k P)) (nI k) := by
  have c16 := bl_c16 ok hL
  intro n
  induction n with
  | zero => intro k hn; omega
  | succ n ih =>
    intro k hn hk
    refine pk_lt i k (fun z => ?_) (fun z => ?_)
    · have e : k = i + 1 := by omega
      have h4 := (ok.1 i hi).1
      rw [e, bl_totS, show 4 * i + (P i - 4 * i) = P i by omega]
      exact hp
    · have q0I : vp_in (nI (16 * b + (h + k) % 16)) 64 := vp_in_nI (by omega) (by omega)
      have q0c : (nI (16 * b + (h + k) % 16)).toNatClampNeg = 16 * b + (h + k) % 16 := nI_clamp (by omega)
      refine bl_slot hb h16 eh (i := k) (by omega) rfl rfl ⟨q0I, nm_r (e' := nI (4 * i + bl_tot (k + 1) P)) ?_ (nm_r (nI_1 k) (ih (k + 1) (by omega) (by omega)))⟩
      rw [q0c, eI k (by omega), nI_add, bl_tot_st ok (by omega), Nat.add_assoc]
theorem bl_xplace {post : Int32 → Prop} {L b c i : Nat} {P K : Nat → Nat} {w : Nat → bl_S} (hb : b < 4) (hL : L ≤ 60) (W : bl_XW w hd cnt gap kx gs) (hs : w b = (c, P, K)) (ok : bl_ok L c P K) (hi : i < c) (hp : post (nI (P i))) : wpX_placeOf post (fl, fg, hd, cnt, gap, kx, gs, lds, st, tf, po, rc, tk, hl) (nI b) (nI i) := by
  obtain ⟨h, h16, eh, ec, eg, eI⟩ := bl_Xat W hb hs
  have e : (4 : Int32) * nI i = nI (4 * i + bl_tot 0 P) := by
    show nI 4 * nI i = _
    rw [pk_mul, bl_tot0]; rfl
  exact nm_r e (Exists.intro (i + 2) (bl_xpl hb hL h16 eh (fun i hi => (eI i hi).1) ok hi hp (i + 2) 0 (by omega) (by omega)))
theorem bl_xwr70 {post : Int32 → Prop} {J : Int32 → Int32 → Prop} {a p r j : Nat} {x2 z : Int32} (ha : a < 2) (hp : p ≤ 60) (er : rc a = nI r) (hr : r ≤ 60) (hj : j < 16) (h1 : z ≠ 0 → r ≤ p → p ≤ r + 3 → post (nI j)) (h0 : z = 0 ∨ p < r ∨ r + 3 < p → J (nI p) (nI (j + 1))) : wX_withinReach_70 post J (nI a) x2 (nI p) (nI j) z fl fg hd cnt gap kx gs lds st tf po rc tk hl := by
  have haI : vp_in (nI a) 2 := vp_in_nI ha (by omega)
  have hac : (nI a).toNatClampNeg = a := nI_clamp (by omega)
  have e3 : rc (nI a).toNatClampNeg + 3 = nI (r + 3) := by rw [hac, er]; exact nI_add r 3
  refine br_c (fun z1 => nm_r (nI_1 j) (h0 (Or.inl z1))) (fun z1 => And.intro haI (pk_lt p r (fun z2 => nm_r (nI_1 j) (h0 (Or.inr (Or.inl z2)))) (fun z2 => And.intro haI (pk_lt (r + 3) p (fun z3 => nm_r (nI_1 j) (h0 (Or.inr (Or.inr z3)))) (fun z3 => h1 z1 z2 z3) e3)) rfl (by rw [hac]; exact er)))
theorem bl_xwr {post : Int32 → Prop} {L a b h c r v : Nat} {P K : Nat → Nat} (ha : a < 2) (hb : b < 4) (hL : L ≤ 60) (h16 : h < 16) (eh : hd b = nI h) (ec : cnt b = nI c) (eI : ∀ i, i < c → gap (16 * b + (h + i) % 16) = nI (bl_gp P i) ∧ kx (16 * b + (h + i) % 16) = nI (K i)) (ok : bl_ok L c P K) (er : rc a = nI r) (hr : r ≤ 60) (hv : v ≤ c) (v1 : ∀ j, j < v → ¬ bl_hit (tk a) r P K j) (v2 : v < c → bl_hit (tk a) r P K v) (p1 : v < c → post (nI v)) (p2 : v = c → post (-1)) : ∀ n j, c - j < n → j ≤ v → wX_withinReach_13 post (nI a) (nI b) fl fg hd cnt gap kx gs lds st tf po rc tk hl n (bl_fr P j) (nI j) := by
  have c16 := bl_c16 ok hL
  have hcl : (nI b).toNatClampNeg = b := nI_clamp (by omega)
  have haI : vp_in (nI a) 2 := vp_in_nI ha (by omega)
  have hac : (nI a).toNatClampNeg = a := nI_clamp (by omega)
  intro n
  induction n with
  | zero => intro j hn; omega
  | succ n ih =>
    intro j hn hj
    refine And.intro (vp_in_nI hb (by omega)) (pk_le c j (fun z => p2 (by omega)) (fun z => ?_) (by rw [hcl]; exact ec))
    have q0I : vp_in (nI (16 * b + (h + j) % 16)) 64 := vp_in_nI (by omega) (by omega)
    have q0c : (nI (16 * b + (h + j) % 16)).toNatClampNeg = 16 * b + (h + j) % 16 := nI_clamp (by omega)
    have hP := ok.1 j z
    have ihj : j < v → wX_withinReach_13 post (nI a) (nI b) fl fg hd cnt gap kx gs lds st tf po rc tk hl n (nI (P j)) (nI (j + 1)) := by
      intro hjv
      have := ih (j + 1) (by omega) (by omega)
      rw [bl_frS] at this
      exact this
    refine bl_slot hb h16 eh (i := j) (by omega) rfl rfl ⟨q0I, nm_r (e' := nI (P j)) (by rw [q0c, (eI j z).1]; exact bl_fr_st ok z) ⟨haI, q0I, ?_⟩⟩
    rw [hac, q0c, (eI j z).2]
    refine br_c (fun hh => ?_) (fun hh => ?_)
    · refine bl_xwr70 ha (by omega) er hr (by omega) (fun _ g1 g2 => ?_) (fun g => ihj ?_)
      · by_cases e : j = v
        · rw [e]; exact p1 (by omega)
        · exact absurd ⟨hh, g1, g2⟩ (v1 j (by omega))
      · by_cases e : j = v
        · have h3 := v2 (by omega)
          rw [← e] at h3
          have h4 := h3.2
          rcases g with g | g | g
          · exact absurd g (by decide)
          · omega
          · omega
        · omega
    · refine bl_xwr70 ha (by omega) er hr (by omega) (fun g _ _ => absurd rfl g) (fun g => ihj ?_)
      by_cases e : j = v
      · have h3 := v2 (by omega)
        rw [← e] at h3
        exact absurd h3.1 hh
      · omega
theorem bl_xreach {post : Int32 → Prop} {L a b c r v : Nat} {P K : Nat → Nat} {w : Nat → bl_S} (ha : a < 2) (hb : b < 4) (hL : L ≤ 60) (W : bl_XW w hd cnt gap kx gs) (hs : w b = (c, P, K)) (ok : bl_ok L c P K) (et : tf a = nI b) (er : rc a = nI r) (hr : r ≤ 60) (hv : v ≤ c) (v1 : ∀ j, j < v → ¬ bl_hit (tk a) r P K j) (v2 : v < c → bl_hit (tk a) r P K v) (p1 : v < c → post (nI v)) (p2 : v = c → post (-1)) : wpX_withinReach post (fl, fg, hd, cnt, gap, kx, gs, lds, st, tf, po, rc, tk, hl) (nI a) := by
  obtain ⟨h, h16, eh, ec, eg, eI⟩ := bl_Xat W hb hs
  have hac : (nI a).toNatClampNeg = a := nI_clamp (by omega)
  have K0 := bl_xwr (fl := fl) (fg := fg) (gs := gs) (lds := lds) (st := st) (tf := tf) (po := po) (hl := hl) (post := post) ha hb hL h16 eh ec eI ok er hr hv v1 v2 p1 p2 (c + 1) 0 (by omega) (by omega)
  rw [bl_fr0] at K0
  exact And.intro (vp_in_nI ha (by omega)) (nm_r (by rw [hac]; exact et) (Exists.intro (c + 1) K0))
end
end
section
/-! the reference's belts -/
theorem bl_sub4 {p q : Nat} (hp : p < 2 ^ 30) (hq : q < 2 ^ 30) : nI p - nI q ≤ 4 ↔ p ≤ q + 4 := by
  rw [Int32.le_iff_toInt_le, pk_sub_toInt hp hq, show (4 : Int32).toInt = 4 from by decide]
  omega
theorem bl_sub0 {p q : Nat} (hp : p < 2 ^ 30) (hq : q < 2 ^ 30) : nI p - nI q < 0 ↔ p < q := by
  rw [Int32.lt_iff_toInt_lt, pk_sub_toInt hp hq, show (0 : Int32).toInt = 0 from by decide]
  omega
theorem bl_sub3 {p q : Nat} (hp : p < 2 ^ 30) (hq : q < 2 ^ 30) : 3 < nI p - nI q ↔ q + 3 < p := by
  rw [Int32.lt_iff_toInt_lt, pk_sub_toInt hp hq, show (3 : Int32).toInt = 3 from by decide]
  omega
section
variable {fl fg : Int32} {cn pl ky lds st tf po rc tk hl : Nat → Int32}
theorem bl_ybad {post : Int32 → Prop} {b : Nat} (hb : b < 4) (hp : post 0) : wpY_bad post (fl, fg, cn, pl, ky, lds, st, tf, po, rc, tk, hl) (nI b) := br_f (nI_pos (by omega)) (br_t (nI_le (b := 3) (by omega) (by omega)) hp)
theorem bl_yroom {post : Int32 → Prop} {L b c : Nat} {P K : Nat → Nat} {w : Nat → bl_S} {x : Int32} (hb : b < 4) (hL : L ≤ 60) (h8 : 8 ≤ L) (W : bl_YW w cn pl ky) (hs : w b = (c, P, K)) (ok : bl_ok L c P K) (ex : x = nI b) (h1 : bl_room L c P → post 1) (h0 : ¬ bl_room L c P → post 0) : wpY_room post (nI L, fg, cn, pl, ky, lds, st, tf, po, rc, tk, hl) x := by
  subst ex
  obtain ⟨ec, eI⟩ := bl_Yat W hb hs
  have c16 := bl_c16 ok hL
  have hbI : vp_in (nI b) 4 := vp_in_nI hb (by omega)
  have hcl : (nI b).toNatClampNeg = b := nI_clamp (by omega)
  unfold wpY_room
  dsimp only
  refine bl_ybad hb (br_t rfl ⟨hbI, ?_⟩)
  rw [hcl, ec]
  cases c with
  | zero => exact br_t rfl (h1 (Or.inl rfl))
  | succ c =>
    have hP := ok.1 c (by omega)
    have e1 : nI b * 16 + nI (c + 1) - 1 = nI (16 * b + c) := by rw [bl_b16, bl_s1 (by omega)]; rfl
    have eL : nI L - 4 = nI (L - 4) := pk_sub (a := L) (b := 4) (by omega)
    rw [e1, eL, nI_clamp (n := 16 * b + c) (by omega), (eI c (by omega)).1]
    refine br_f (nI_ne0 (by omega) (by omega)) ⟨hbI, vp_in_nI (by omega) (by omega), pk_lt (L - 4) (P c) (fun z => h0 ?_) (fun z => h1 ?_)⟩
    · rw [bl_roomS]; omega
    · rw [bl_roomS]; omega
theorem bl_yapp {post : SY → Prop} {L b c k : Nat} {P K : Nat → Nat} {w : Nat → bl_S} {x y : Int32} (hb : b < 4) (hL : L ≤ 60) (O : bl_OK L w) (W : bl_YW w cn pl ky) (hs : w b = (c, P, K)) (hr : bl_room L c P) (ex : x = nI b) (ey : y = nI k) (H : ∀ cn' pl' ky' : Nat → Int32, bl_YW (bl_up b (c + 1, bl_ap c L P, bl_ap c k K) w) cn' pl' ky' → post (nI L, fg, cn', pl', ky', lds, st, tf, po, rc, tk, hl)) : wpY_start post (nI L, fg, cn, pl, ky, lds, st, tf, po, rc, tk, hl) x y := by
  subst ex ey
  have ok := bl_Oat O hb hs
  obtain ⟨ec, eI⟩ := bl_Yat W hb hs
  have c15 := bl_c15 ok hr hL
  have hbI : vp_in (nI b) 4 := vp_in_nI hb (by omega)
  have hcl : (nI b).toNatClampNeg = b := nI_clamp (by omega)
  have qI : vp_in (nI (16 * b + c)) 64 := vp_in_nI (by omega) (by omega)
  have qc : (nI (16 * b + c)).toNatClampNeg = 16 * b + c := nI_clamp (by omega)
  refine And.intro hbI (nm_r (e' := nI (16 * b + c)) (by rw [hcl, ec, bl_b16]) ⟨qI, nm_e ⟨qI, nm_e ⟨hbI, hbI, nm_e ?_⟩⟩⟩)
  rw [hcl, qc]
  refine H _ _ _ (bl_Yup W (bl_C O hL) ⟨?_, fun i hi => ?_⟩ (fun j hj => pk_un hj) (fun q hq => ⟨pk_un (by omega), pk_un (by omega)⟩))
  · rw [pk_us, ec]; exact nI_1 c
  · replace hi : i < c + 1 := hi
    show _ = nI (bl_ap c L P i) ∧ _ = nI (bl_ap c k K i)
    by_cases e : i = c
    · subst e
      rw [pk_us, pk_us, bl_ap_s, bl_ap_s]
      exact ⟨rfl, rfl⟩
    · rw [pk_un (by omega), pk_un (by omega), bl_ap_n e, bl_ap_n e]
      exact eI i (by omega)
theorem bl_yoff {post : Int32 → SY → Prop} {b c : Nat} {G M : Nat → Nat} {x3 : Int32} (hb : b < 4) (ec : cn b = nI c) (c16 : c ≤ 16) : ∀ (n k : Nat) (pl ky : Nat → Int32), c - k < n → k < c → (∀ j, j < k → pl (16 * b + j) = nI (G j) ∧ ky (16 * b + j) = nI (M j)) → (∀ j, k ≤ j → j + 1 < c → pl (16 * b + (j + 1)) = nI (G j) ∧ ky (16 * b + (j + 1)) = nI (M j)) → (∀ cn' pl' ky' : Nat → Int32, cn' b = nI (c - 1) → (∀ j, j < c - 1 → pl' (16 * b + j) = nI (G j) ∧ ky' (16 * b + j) = nI (M j)) → (∀ j, j ≠ b → cn' j = cn j) → (∀ q, q / 16 ≠ b → pl' q = pl q ∧ ky' q = ky q) → post x3 (fl, fg, cn', pl', ky', lds, st, tf, po, rc, tk, hl)) → wY_off_15 post (nI b) x3 fl fg n (nI k) cn pl ky lds st tf po rc tk hl := by
  intro n
  induction n with
  | zero => intro k pl ky hn; omega
  | succ n ih =>
    intro k pl ky hn hk h1 h2 H
    have hbI : vp_in (nI b) 4 := vp_in_nI hb (by omega)
    have hcl : (nI b).toNatClampNeg = b := nI_clamp (by omega)
    have e0 : nI b * 16 + nI k = nI (16 * b + k) := bl_b16 b k
    have e1 : nI (16 * b + k) + 1 = nI (16 * b + (k + 1)) := nI_1 _
    have q0c : (nI (16 * b + k)).toNatClampNeg = 16 * b + k := nI_clamp (by omega)
    have q1c : (nI (16 * b + (k + 1))).toNatClampNeg = 16 * b + (k + 1) := nI_clamp (by omega)
    have q0I : vp_in (nI (16 * b + k)) 64 := vp_in_nI (by omega) (by omega)
    refine And.intro hbI (pk_le (c - 1) k (fun z => And.intro hbI (And.intro hbI (nm_e ?_))) (fun z => ?_) (by rw [hcl, ec]; exact bl_s1 (by omega)))
    · rw [hcl]
      exact H _ _ _ (by rw [pk_us, ec]; exact bl_s1 (by omega)) (fun j hj => h1 j (by omega)) (fun j hj => pk_un hj) (fun q _ => ⟨rfl, rfl⟩)
    · have q1I : vp_in (nI (16 * b + (k + 1))) 64 := vp_in_nI (by omega) (by omega)
      rw [e0, e1]
      refine ⟨q1I, q0I, nm_e ⟨q1I, q0I, nm_e (nm_r (nI_1 k) ?_)⟩⟩
      rw [q0c, q1c]
      refine ih (k + 1) _ _ (by omega) (by omega) (fun j hj => ?_) (fun j h3 h4 => ?_) (fun cn' pl' ky' g1 g2 g3 g4 => H cn' pl' ky' g1 g2 g3 (fun q hq => ?_))
      · by_cases e : j = k
        · subst e
          rw [pk_us, pk_us]
          exact h2 j (Nat.le_refl _) (by omega)
        · rw [pk_un (by omega), pk_un (by omega)]
          exact h1 j (by omega)
      · rw [pk_un (by omega), pk_un (by omega)]
        exact h2 j (by omega) h4
      · rw [(g4 q hq).1, (g4 q hq).2, pk_un (by omega), pk_un (by omega)]
        exact ⟨rfl, rfl⟩
theorem bl_yrm {post : Int32 → SY → Prop} {L b c i : Nat} {P K : Nat → Nat} {w : Nat → bl_S} {x y : Int32} (hb : b < 4) (hL : L ≤ 60) (O : bl_OK L w) (W : bl_YW w cn pl ky) (hs : w b = (c, P, K)) (hi : i < c) (ex : x = nI b) (ey : y = nI i) (H : ∀ cn' pl' ky' : Nat → Int32, bl_YW (bl_up b (c - 1, bl_rm i P, bl_rm i K) w) cn' pl' ky' → post (nI (K i)) (fl, fg, cn', pl', ky', lds, st, tf, po, rc, tk, hl)) : wpY_off post (fl, fg, cn, pl, ky, lds, st, tf, po, rc, tk, hl) x y := by
  subst ex ey
  have ok := bl_Oat O hb hs
  obtain ⟨ec, eI⟩ := bl_Yat W hb hs
  have c16 := bl_c16 ok hL
  have e0 : nI b * 16 + nI i = nI (16 * b + i) := bl_b16 b i
  have q0c : (nI (16 * b + i)).toNatClampNeg = 16 * b + i := nI_clamp (by omega)
  unfold wpY_off
  dsimp only
  rw [e0]
  refine ⟨vp_in_nI (by omega) (by omega), nm_r (e' := nI (K i)) (by rw [q0c]; exact (eI i hi).2) (Exists.intro (c + 1) ?_)⟩
  refine bl_yoff (G := bl_rm i P) (M := bl_rm i K) hb ec c16 (c + 1) i pl ky (by omega) hi (fun j hj => ?_) (fun j h3 h4 => ?_) (fun cn' pl' ky' g1 g2 g3 g4 => H _ _ _ (bl_Yup W (bl_C O hL) ⟨g1, g2⟩ g3 g4))
  · rw [bl_rm_l hj, bl_rm_l hj]; exact eI j (by omega)
  · rw [bl_rm_g h3, bl_rm_g h3]; exact eI (j + 1) h4
theorem bl_ymoves {post : Int32 → Prop} {b i p q : Nat} (hb : b < 4) (hi : i < 16) (ep : pl (16 * b + i) = nI p) (eq : 0 < i → pl (16 * b + (i - 1)) = nI q) (hp : p ≤ 60) (hq : q ≤ 60) (h1 : p ≠ 0 → i = 0 ∨ q + 4 < p → post 1) (h0 : p = 0 ∨ (0 < i ∧ p ≤ q + 4) → post 0) : wpY_moves post (fl, fg, cn, pl, ky, lds, st, tf, po, rc, tk, hl) (nI b) (nI i) := by
  have qc : (nI (16 * b + i)).toNatClampNeg = 16 * b + i := nI_clamp (by omega)
  have qI : vp_in (nI (16 * b + i)) 64 := vp_in_nI (by omega) (by omega)
  refine nm_r (e' := nI (16 * b + i)) (bl_b16 b i) (And.intro qI ?_)
  rw [qc, ep]
  refine pk_eq p 0 (fun z => h0 (Or.inl z)) (fun z => pk_eq i 0 (fun z2 => h1 z (Or.inl z2)) (fun z2 => ?_))
  have e1 : nI (16 * b + i) - 1 = nI (16 * b + (i - 1)) := by
    rw [bl_s1 (by omega)]; exact congrArg nI (by omega)
  rw [e1, nI_clamp (n := 16 * b + (i - 1)) (by omega), eq (by omega)]
  refine ⟨qI, vp_in_nI (by omega) (by omega), ?_⟩
  rw [bl_sub4 (by omega) (by omega)]
  exact br_c (fun z3 => h0 (Or.inr ⟨by omega, z3⟩)) (fun z3 => h1 z (Or.inr (by omega)))
theorem bl_ymv {post : SY → Prop} {L b c f : Nat} {P K : Nat → Nat} (hb : b < 4) (hL : L ≤ 60) (ec : cn b = nI c) (ok : bl_ok L c P K) (hf : bl_fo c f P) : ∀ (n i : Nat) (pl : Nat → Int32), c - i < n → i ≤ c → (∀ j, j < i → pl (16 * b + j) = nI (bl_mv f P j)) → (∀ j, i ≤ j → j < c → pl (16 * b + j) = nI (P j)) → (∀ pl' : Nat → Int32, (∀ j, j < c → pl' (16 * b + j) = nI (bl_mv f P j)) → (∀ q, q / 16 ≠ b → pl' q = pl q) → post (fl, fg, cn, pl', ky, lds, st, tf, po, rc, tk, hl)) → wY_move_2 post (nI b) fl fg n (nI i) cn pl ky lds st tf po rc tk hl := by
  have c16 := bl_c16 ok hL
  have ok2 := bl_ok_mv ok hf
  intro n
  induction n with
  | zero => intro i pl hn; omega
  | succ n ih =>
    intro i pl hn hi h1 h2 H
    have hbI : vp_in (nI b) 4 := vp_in_nI hb (by omega)
    have hcl : (nI b).toNatClampNeg = b := nI_clamp (by omega)
    refine And.intro hbI (pk_le c i (fun z => H pl (fun j hj => h1 j (by omega)) (fun q _ => rfl)) (fun z => ?_) (by rw [hcl]; exact ec))
    have e0 : nI b * 16 + nI i = nI (16 * b + i) := bl_b16 b i
    have q0c : (nI (16 * b + i)).toNatClampNeg = 16 * b + i := nI_clamp (by omega)
    have q0I : vp_in (nI (16 * b + i)) 64 := vp_in_nI (by omega) (by omega)
    have hP := ok.1 i z
    have hq : bl_mv f P (i - 1) ≤ 60 := by
      have := (ok2.1 (i - 1) (by omega)).2.1
      omega
    refine bl_ymoves (p := P i) (q := bl_mv f P (i - 1)) hb (by omega) (h2 i (Nat.le_refl _) z) (fun hi0 => h1 (i - 1) (by omega)) (by omega) hq (fun z1 z2 => ?_) (fun z1 => ?_)
    · have hfi : f ≤ i := by
        refine Nat.le_of_not_lt fun hlt => ?_
        have h3 := hf.2.1 i hlt
        cases i with
        | zero => rw [bl_gp0] at h3; exact z1 h3
        | succ i =>
          rw [bl_gpS] at h3
          rcases z2 with z2 | z2
          · omega
          · rw [Nat.add_sub_cancel, bl_mv_l (by omega)] at z2; omega
      refine br_f (by decide) ?_
      rw [e0]
      refine ⟨q0I, q0I, nm_e (nm_r (nI_1 i) ?_)⟩
      rw [q0c, h2 i (Nat.le_refl _) z]
      refine ih (i + 1) _ (by omega) (by omega) (fun j hj => ?_) (fun j h3 h4 => ?_) (fun pl' g1 g2 => H pl' g1 (fun q hq => ?_))
      · by_cases e : j = i
        · subst e
          rw [pk_us, bl_s1 (by omega), bl_mv_g hfi]
        · rw [pk_un (by omega)]; exact h1 j (by omega)
      · rw [pk_un (by omega)]; exact h2 j (by omega) h4
      · rw [g2 q hq, pk_un (by omega)]
    · have hfi : i < f := by
        refine Nat.lt_of_not_le fun hle => ?_
        have h3 := bl_low' ok hf hle z
        rcases z1 with z1 | ⟨z1, z2⟩
        · omega
        · obtain ⟨d, rfl⟩ : ∃ d, i = d + 1 := ⟨i - 1, by omega⟩
          rw [Nat.add_sub_cancel] at z2
          by_cases e : d < f
          · have e2 : f = d + 1 := by omega
            have h5 := hf.2.2 (by omega)
            rw [e2, bl_gpS] at h5
            rw [bl_mv_l e] at z2
            omega
          · have h5 := ok.2 d z
            have h6 := bl_low' ok hf (j := d) (by omega) (by omega)
            rw [bl_mv_g (by omega)] at z2
            omega
      refine br_t rfl (nm_r (nI_1 i) ?_)
      refine ih (i + 1) pl (by omega) (by omega) (fun j hj => ?_) (fun j h3 h4 => h2 j (by omega) h4) H
      by_cases e : j = i
      · subst e
        rw [bl_mv_l hfi]; exact h2 j (Nat.le_refl _) z
      · exact h1 j (by omega)
theorem bl_ymove {post : SY → Prop} {L b c f : Nat} {P K : Nat → Nat} {w : Nat → bl_S} (hb : b < 4) (hL : L ≤ 60) (O : bl_OK L w) (W : bl_YW w cn pl ky) (hs : w b = (c, P, K)) (hf : bl_fo c f P) (H : ∀ pl' : Nat → Int32, bl_YW (bl_up b (c, bl_mv f P, K) w) cn pl' ky → post (fl, fg, cn, pl', ky, lds, st, tf, po, rc, tk, hl)) : wpY_move post (fl, fg, cn, pl, ky, lds, st, tf, po, rc, tk, hl) (nI b) := by
  obtain ⟨ec, eI⟩ := bl_Yat W hb hs
  refine Exists.intro (c + 1) (bl_ymv hb hL ec (bl_Oat O hb hs) hf (c + 1) 0 pl (by omega) (by omega) (fun j hj => absurd hj (Nat.not_lt_zero j)) (fun j _ h => (eI j h).1) (fun pl' g1 g2 => H pl' ?_))
  exact bl_Yup W (bl_C O hL) ⟨ec, fun i hi => ⟨g1 i hi, (eI i hi).2⟩⟩ (fun j _ => rfl) (fun q hq => ⟨g2 q hq, rfl⟩)
end
end
section
/-! the reference: how many move, an arm's work -/
theorem bl_mvc {L c f i : Nat} {P K : Nat → Nat} (hL : L ≤ 60) (ok : bl_ok L c P K) (hf : bl_fo c f P) (hi : i < c) (h0 : P i ≠ 0) : nI (P i) - bl_fr (bl_mv f P) i ≤ 4 ↔ i < f := by
  have hP := ok.1 i hi
  cases i with
  | zero =>
    have e : nI (P 0) - (-4) = nI (P 0 + 4) := by
      rw [← nI_add, Int32.sub_eq_add_neg]; rfl
    rw [bl_fr0, e]
    have h1 : ¬ nI (P 0 + 4) ≤ 4 := nI_ge (a := 4) (by omega) (by omega)
    refine ⟨fun h => absurd h h1, fun h => ?_⟩
    have h2 := hf.2.1 0 h
    rw [bl_gp0] at h2
    exact absurd h2 h0
  | succ i =>
    have ok2 := (bl_ok_mv ok hf).1 i (by omega)
    have hd := ok.2 i hi
    rw [bl_frS, bl_sub4 (by omega) (by omega)]
    by_cases e : i < f
    · rw [bl_mv_l e]
      by_cases e2 : i + 1 < f
      · have h2 := hf.2.1 _ e2
        rw [bl_gpS] at h2
        omega
      · have e3 : f = i + 1 := by omega
        have h2 := hf.2.2 (by omega)
        rw [e3, bl_gpS] at h2
        omega
    · have h2 := bl_low' ok hf (j := i) (by omega) (by omega)
      rw [bl_mv_g (by omega)]
      omega
section
variable {fl fg : Int32} {cn pl ky lds st tf po rc tk hl : Nat → Int32}
theorem bl_ymg {post : Int32 → Prop} {L b c f : Nat} {P K : Nat → Nat} (hb : b < 4) (hL : L ≤ 60) (ec : cn b = nI c) (eI : ∀ i, i < c → pl (16 * b + i) = nI (P i)) (ok : bl_ok L c P K) (hf : bl_fo c f P) (hp : post (nI (c - f))) : ∀ n i, c - i < n → i ≤ c → wY_moving_18 post (nI b) fl fg cn pl ky lds st tf po rc tk hl n (nI (i - f)) (bl_fr (bl_mv f P) i) (nI i) := by
  have c16 := bl_c16 ok hL
  have hcl : (nI b).toNatClampNeg = b := nI_clamp (by omega)
  intro n
  induction n with
  | zero => intro i hn; omega
  | succ n ih =>
    intro i hn hi
    refine And.intro (vp_in_nI hb (by omega)) (pk_le c i (fun z => ?_) (fun z => ?_) (by rw [hcl]; exact ec))
    · have e : i = c := by omega
      rw [e]; exact hp
    · have e0 : nI b * 16 + nI i = nI (16 * b + i) := bl_b16 b i
      have q0c : (nI (16 * b + i)).toNatClampNeg = 16 * b + i := nI_clamp (by omega)
      have hP := ok.1 i z
      have ih' := ih (i + 1) (by omega) (by omega)
      rw [bl_frS] at ih'
      rw [e0]
      refine ⟨vp_in_nI (by omega) (by omega), nm_r (e' := nI (P i)) (by rw [q0c]; exact eI i z) ?_⟩
      refine pk_le (P i) 0 (fun z2 => nm_r (nI_1 i) ?_) (fun z2 => ?_)
      · have hif : i < f := Nat.lt_of_not_le fun hle => by
          have h3 := bl_low' ok hf hle z
          omega
        rw [bl_mv_l hif, show i + 1 - f = i - f by omega] at ih'
        exact ih'
      · have hm := bl_mvc hL ok hf z (by omega)
        rw [hm]
        refine br_c (fun hif => nm_r (nI_1 i) ?_) (fun hif => nm_r (e' := nI (P i - 1)) (bl_s1 (by omega)) (nm_r (e' := nI (i + 1 - f)) ?_ (nm_r (nI_1 i) ?_)))
        · rw [bl_mv_l hif, show i + 1 - f = i - f by omega] at ih'
          exact ih'
        · rw [nI_1]; exact congrArg nI (by omega)
        · rw [bl_mv_g (by omega)] at ih'
          exact ih'
theorem bl_ymoving {post : Int32 → Prop} {L b c f : Nat} {P K : Nat → Nat} {w : Nat → bl_S} (hb : b < 4) (hL : L ≤ 60) (O : bl_OK L w) (W : bl_YW w cn pl ky) (hs : w b = (c, P, K)) (hf : bl_fo c f P) (hp : post (nI (c - f))) : wpY_moving post (fl, fg, cn, pl, ky, lds, st, tf, po, rc, tk, hl) (nI b) := by
  obtain ⟨ec, eI⟩ := bl_Yat W hb hs
  have K0 := bl_ymg (fl := fl) (fg := fg) (ky := ky) (lds := lds) (st := st) (tf := tf) (po := po) (rc := rc) (tk := tk) (hl := hl) hb hL ec (fun i hi => (eI i hi).1) (bl_Oat O hb hs) hf hp (c + 1) 0 (by omega) (by omega)
  rw [bl_fr0, Nat.zero_sub] at K0
  unfold wpY_moving
  dsimp only
  exact bl_ybad hb (br_t rfl (Exists.intro (c + 1) K0))
/-- the arm holds an item already: the rest of the loop does nothing -/
theorem bl_ywk2 {post : SY → Prop} {a b c : Nat} (ha : a < 2) (hb : b < 4) (ec : cn b = nI c) (c16 : c ≤ 16) (hn4 : ¬ hl a = -4) (H : post (fl, fg, cn, pl, ky, lds, st, tf, po, rc, tk, hl)) : ∀ n j, c - j < n → j ≤ 17 → wY_work_58 post (nI a) (nI b) n (nI j) fl fg cn pl ky lds st tf po rc tk hl := by
  have hcl : (nI b).toNatClampNeg = b := nI_clamp (by omega)
  have haI : vp_in (nI a) 2 := vp_in_nI ha (by omega)
  have hac : (nI a).toNatClampNeg = a := nI_clamp (by omega)
  intro n
  induction n with
  | zero => intro j hn; omega
  | succ n ih =>
    intro j hn hj
    refine And.intro (vp_in_nI hb (by omega)) (pk_le c j (fun z => H) (fun z => ?_) (by rw [hcl]; exact ec))
    have e0 : nI b * 16 + nI j = nI (16 * b + j) := bl_b16 b j
    have q0I : vp_in (nI (16 * b + j)) 64 := vp_in_nI (by omega) (by omega)
    have ih' := ih (j + 1) (by omega) (by omega)
    have hh : ¬ hl (nI a).toNatClampNeg = -4 := by rw [hac]; exact hn4
    rw [e0]
    exact ⟨q0I, haI, nm_e ⟨haI, q0I, br_c (fun _ => And.intro haI (br_f hh (nm_r (nI_1 j) ih'))) (fun _ => And.intro haI (br_f hh (nm_r (nI_1 j) ih')))⟩⟩
theorem bl_ywk117 {post : SY → Prop} {J : Int32 → Int32 → Int32 → (Nat → Int32) → (Nat → Int32) → (Nat → Int32) → (Nat → Int32) → (Nat → Int32) → (Nat → Int32) → (Nat → Int32) → (Nat → Int32) → (Nat → Int32) → (Nat → Int32) → Prop} {L a b c p r j : Nat} {P K : Nat → Nat} {w : Nat → bl_S} {z : Int32} (ha : a < 2) (hb : b < 4) (hL : L ≤ 60) (O : bl_OK L w) (W : bl_YW w cn pl ky) (hs : w b = (c, P, K)) (hj : j < c) (hp : p ≤ 60) (hr : r ≤ 60) (h4 : hl a = -4) (h1 : z ≠ 0 → r ≤ p → p ≤ r + 3 → ∀ cn' pl' ky' : Nat → Int32, bl_YW (bl_up b (c - 1, bl_rm j P, bl_rm j K) w) cn' pl' ky' → J (nI (j + 1)) fl fg cn' pl' ky' lds st tf po rc tk (upd hl a (nI (K j)))) (h0 : z = 0 ∨ p < r ∨ r + 3 < p → J (nI (j + 1)) fl fg cn pl ky lds st tf po rc tk hl) : wY_work_117 post J (nI a) (nI b) (nI j) (nI p - nI r) z fl fg cn pl ky lds st tf po rc tk hl := by
  have haI : vp_in (nI a) 2 := vp_in_nI ha (by omega)
  have hac : (nI a).toNatClampNeg = a := nI_clamp (by omega)
  unfold wY_work_117
  rw [hac, bl_sub0 (by omega) (by omega), bl_sub3 (by omega) (by omega)]
  refine ⟨haI, br_t h4 (br_c (fun z1 => nm_r (nI_1 j) (h0 (Or.inr (Or.inl z1)))) (fun z1 => br_c (fun z2 => nm_r (nI_1 j) (h0 (Or.inr (Or.inr z2)))) (fun z2 => br_c (fun z3 => nm_r (nI_1 j) (h0 (Or.inl z3))) (fun z3 => ?_))))⟩
  refine bl_yrm hb hL O W hs hj rfl rfl (fun cn' pl' ky' W' => ?_)
  exact And.intro haI (nm_e (nm_r (nI_1 j) (h1 z3 (by omega) (by omega) cn' pl' ky' W')))
theorem bl_ywk1 {post : SY → Prop} {L a b c r v : Nat} {P K : Nat → Nat} {w : Nat → bl_S} (ha : a < 2) (hb : b < 4) (hL : L ≤ 60) (O : bl_OK L w) (W : bl_YW w cn pl ky) (hs : w b = (c, P, K)) (er : rc a = nI r) (hr : r ≤ 60) (h4 : hl a = -4) (hv : v ≤ c) (v1 : ∀ j, j < v → ¬ bl_hit (tk a) r P K j) (v2 : v < c → bl_hit (tk a) r P K v) (p1 : v < c → ∀ cn' pl' ky' : Nat → Int32, bl_YW (bl_up b (c - 1, bl_rm v P, bl_rm v K) w) cn' pl' ky' → post (fl, fg, cn', pl', ky', lds, st, tf, po, rc, tk, upd hl a (nI (K v)))) (p2 : v = c → post (fl, fg, cn, pl, ky, lds, st, tf, po, rc, tk, hl)) : ∀ n j, c - j < n → j ≤ v → wY_work_58 post (nI a) (nI b) n (nI j) fl fg cn pl ky lds st tf po rc tk hl := by
  have ok := bl_Oat O hb hs
  obtain ⟨ec, eI⟩ := bl_Yat W hb hs
  have c16 := bl_c16 ok hL
  have hcl : (nI b).toNatClampNeg = b := nI_clamp (by omega)
  have haI : vp_in (nI a) 2 := vp_in_nI ha (by omega)
  have hac : (nI a).toNatClampNeg = a := nI_clamp (by omega)
  intro n
  induction n with
  | zero => intro j hn; omega
  | succ n ih =>
    intro j hn hj
    refine And.intro (vp_in_nI hb (by omega)) (pk_le c j (fun z => p2 (by omega)) (fun z => ?_) (by rw [hcl]; exact ec))
    have e0 : nI b * 16 + nI j = nI (16 * b + j) := bl_b16 b j
    have q0c : (nI (16 * b + j)).toNatClampNeg = 16 * b + j := nI_clamp (by omega)
    have q0I : vp_in (nI (16 * b + j)) 64 := vp_in_nI (by omega) (by omega)
    have hP := ok.1 j z
    have ih' : j < v → wY_work_58 post (nI a) (nI b) n (nI (j + 1)) fl fg cn pl ky lds st tf po rc tk hl := fun hjv => ih (j + 1) (by omega) (by omega)
    rw [e0]
    refine ⟨q0I, haI, nm_r (e' := nI (P j) - nI r) (by rw [q0c, hac, (eI j z).1, er]) ⟨haI, q0I, ?_⟩⟩
    rw [hac, q0c, (eI j z).2]
    refine br_c (fun hh => ?_) (fun hh => ?_)
    · refine bl_ywk117 ha hb hL O W hs z (by omega) hr h4 (fun _ g1 g2 cn' pl' ky' W' => ?_) (fun g => ih' ?_)
      · have e : j = v := by
          by_cases e : j = v
          · exact e
          · exact absurd ⟨hh, g1, g2⟩ (v1 j (by omega))
        subst e
        obtain ⟨ec', _⟩ := bl_Yat W' hb bl_up_s
        have h7 := hP.2.2
        refine bl_ywk2 ha hb ec' (by omega) ?_ (p1 z cn' pl' ky' W') n (j + 1) (by omega) (by omega)
        rw [pk_us]
        exact bl_neg (by omega) (by decide)
      · by_cases e : j = v
        · have h3 := v2 (by omega)
          rw [← e] at h3
          have h5 := h3.2
          rcases g with g | g | g
          · exact absurd g (by decide)
          · omega
          · omega
        · omega
    · refine bl_ywk117 ha hb hL O W hs z (by omega) hr h4 (fun g => absurd rfl g) (fun g => ih' ?_)
      by_cases e : j = v
      · have h3 := v2 (by omega)
        rw [← e] at h3
        exact absurd h3.1 hh
      · omega
end
end
section
/-! an item at the end passes on: the component -/
section
variable {fg : Int32} {hd cnt gap kx gs lds st tf po rc tk hl : Nat → Int32} {post : SX → Prop} {L b c : Nat} {P K : Nat → Nat} {w : Nat → bl_S}
theorem bl_xp_no (hb : b < 4) (hL : L ≤ 60) (W : bl_XW w hd cnt gap kx gs) (hs : w b = (c, P, K)) (ok : bl_ok L c P K) (hE : ¬ (0 < c ∧ P 0 = 0)) (hp : post (nI L, fg, hd, cnt, gap, kx, gs, lds, st, tf, po, rc, tk, hl)) : wpX_passOn post (nI L, fg, hd, cnt, gap, kx, gs, lds, st, tf, po, rc, tk, hl) (nI b) := by
  unfold wpX_passOn
  dsimp only
  exact bl_xend hb hL W hs ok (fun h1 h2 => absurd ⟨h1, h2⟩ hE) (fun _ => br_t rfl hp)
theorem bl_xp_cl (hb : b < 4) (hL : L ≤ 60) (W : bl_XW w hd cnt gap kx gs) (hs : w b = (c, P, K)) (ok : bl_ok L c P K) (c0 : 0 < c) (p0 : P 0 = 0) (el : lds b = -1) (hp : post (nI L, fg, hd, cnt, gap, kx, gs, lds, st, tf, po, rc, tk, hl)) : wpX_passOn post (nI L, fg, hd, cnt, gap, kx, gs, lds, st, tf, po, rc, tk, hl) (nI b) := by
  have hcl : (nI b).toNatClampNeg = b := nI_clamp (by omega)
  unfold wpX_passOn
  dsimp only
  exact bl_xend hb hL W hs ok (fun _ _ => br_f (by decide) ⟨vp_in_nI hb (by omega), nm_r (e' := -1) (by rw [hcl]; exact el) (br_f (by decide) (br_t (by decide) hp))⟩) (fun h => absurd h (by omega))
theorem bl_xp_op (hb : b < 4) (hL : L ≤ 60) (W : bl_XW w hd cnt gap kx gs) (hs : w b = (c, P, K)) (ok : bl_ok L c P K) (c0 : 0 < c) (p0 : P 0 = 0) (el : lds b = -2) (H : ∀ hd' cnt' gap' kx' gs' : Nat → Int32, bl_XW (bl_up b (c - 1, bl_rm 0 P, bl_rm 0 K) w) hd' cnt' gap' kx' gs' → post (nI L, fg + 1, hd', cnt', gap', kx', gs', lds, st, tf, po, rc, tk, hl)) : wpX_passOn post (nI L, fg, hd, cnt, gap, kx, gs, lds, st, tf, po, rc, tk, hl) (nI b) := by
  have hcl : (nI b).toNatClampNeg = b := nI_clamp (by omega)
  unfold wpX_passOn
  dsimp only
  refine bl_xend hb hL W hs ok (fun _ _ => br_f (by decide) ⟨vp_in_nI hb (by omega), nm_r (e' := -2) (by rw [hcl]; exact el) (br_t rfl ?_)⟩) (fun h => absurd h (by omega))
  exact bl_xrm hb hL W hs ok c0 rfl rfl (fun hd' cnt' gap' kx' gs' W' => nm_e (H hd' cnt' gap' kx' gs' W'))
theorem bl_xp_fu {t d : Nat} {Q M : Nat → Nat} (hb : b < 4) (hL : L ≤ 60) (h8 : 8 ≤ L) (W : bl_XW w hd cnt gap kx gs) (hs : w b = (c, P, K)) (ok : bl_ok L c P K) (c0 : 0 < c) (p0 : P 0 = 0) (el : lds b = nI t) (ht : t < 4) (hs2 : w t = (d, Q, M)) (ok2 : bl_ok L d Q M) (hr : ¬ bl_room L d Q) (hp : post (nI L, fg, hd, cnt, gap, kx, gs, lds, st, tf, po, rc, tk, hl)) : wpX_passOn post (nI L, fg, hd, cnt, gap, kx, gs, lds, st, tf, po, rc, tk, hl) (nI b) := by
  have hcl : (nI b).toNatClampNeg = b := nI_clamp (by omega)
  unfold wpX_passOn
  dsimp only
  refine bl_xend hb hL W hs ok (fun _ _ => br_f (by decide) ⟨vp_in_nI hb (by omega), nm_r (e' := nI t) (by rw [hcl]; exact el) (br_f (bl_neg (by omega) (by decide)) (br_f (nI_pos (by omega)) ?_))⟩) (fun h => absurd h (by omega))
  exact bl_xroom ht hL h8 W hs2 ok2 rfl (fun h => absurd h hr) (fun _ => br_t rfl hp)
theorem bl_xp_go {t d : Nat} {Q M : Nat → Nat} (hb : b < 4) (hL : L ≤ 60) (h8 : 8 ≤ L) (W : bl_XW w hd cnt gap kx gs) (hs : w b = (c, P, K)) (ok : bl_ok L c P K) (c0 : 0 < c) (p0 : P 0 = 0) (el : lds b = nI t) (ht : t < 4) (htb : t ≠ b) (hs2 : w t = (d, Q, M)) (ok2 : bl_ok L d Q M) (hr : bl_room L d Q) (H : ∀ hd' cnt' gap' kx' gs' : Nat → Int32, bl_XW (bl_up t (d + 1, bl_ap d L Q, bl_ap d (K 0) M) (bl_up b (c - 1, bl_rm 0 P, bl_rm 0 K) w)) hd' cnt' gap' kx' gs' → post (nI L, fg, hd', cnt', gap', kx', gs', lds, st, tf, po, rc, tk, hl)) : wpX_passOn post (nI L, fg, hd, cnt, gap, kx, gs, lds, st, tf, po, rc, tk, hl) (nI b) := by
  have hcl : (nI b).toNatClampNeg = b := nI_clamp (by omega)
  unfold wpX_passOn
  dsimp only
  refine bl_xend hb hL W hs ok (fun _ _ => br_f (by decide) ⟨vp_in_nI hb (by omega), nm_r (e' := nI t) (by rw [hcl]; exact el) (br_f (bl_neg (by omega) (by decide)) (br_f (nI_pos (by omega)) ?_))⟩) (fun h => absurd h (by omega))
  refine bl_xroom ht hL h8 W hs2 ok2 rfl (fun _ => br_f (by decide) ?_) (fun h => absurd hr h)
  refine bl_xrm hb hL W hs ok c0 rfl rfl (fun hd' cnt' gap' kx' gs' W' => ?_)
  exact bl_xapp ht hL W' ((bl_up_n htb).trans hs2) ok2 hr rfl rfl (fun cnt2 gap2 kx2 gs2 W2 => H hd' cnt2 gap2 kx2 gs2 W2)
end
/-! the same: the reference -/
section
variable {fg : Int32} {cn pl ky lds st tf po rc tk hl : Nat → Int32} {post : SY → Prop} {L b c : Nat} {P K : Nat → Nat} {w : Nat → bl_S}
theorem bl_yp_no (hb : b < 4) (hL : L ≤ 60) (O : bl_OK L w) (W : bl_YW w cn pl ky) (hs : w b = (c, P, K)) (hE : ¬ (0 < c ∧ P 0 = 0)) (hp : post (nI L, fg, cn, pl, ky, lds, st, tf, po, rc, tk, hl)) : wpY_end post (nI L, fg, cn, pl, ky, lds, st, tf, po, rc, tk, hl) (nI b) := by
  have ok := bl_Oat O hb hs
  obtain ⟨ec, eI⟩ := bl_Yat W hb hs
  have c16 := bl_c16 ok hL
  have hcl : (nI b).toNatClampNeg = b := nI_clamp (by omega)
  refine And.intro (vp_in_nI hb (by omega)) (pk_le c 0 (fun z => hp) (fun z => ?_) (by rw [hcl]; exact ec))
  have e0 : pl (16 * b) = nI (P 0) := (eI 0 z).1
  have hP := ok.1 0 z
  rw [bl_b160, nI_clamp (n := 16 * b) (by omega), e0]
  exact ⟨vp_in_nI (by omega) (by omega), br_f (nI_ne0 (by omega) (by omega)) hp⟩
theorem bl_yp_cl (hb : b < 4) (hL : L ≤ 60) (O : bl_OK L w) (W : bl_YW w cn pl ky) (hs : w b = (c, P, K)) (c0 : 0 < c) (p0 : P 0 = 0) (el : lds b = -1) (hp : post (nI L, fg, cn, pl, ky, lds, st, tf, po, rc, tk, hl)) : wpY_end post (nI L, fg, cn, pl, ky, lds, st, tf, po, rc, tk, hl) (nI b) := by
  have ok := bl_Oat O hb hs
  obtain ⟨ec, eI⟩ := bl_Yat W hb hs
  have c16 := bl_c16 ok hL
  have hcl : (nI b).toNatClampNeg = b := nI_clamp (by omega)
  have hbI : vp_in (nI b) 4 := vp_in_nI hb (by omega)
  refine And.intro hbI (br_f (by rw [hcl, ec]; exact nI_nle c0 (by omega)) ?_)
  have e0 : pl (16 * b) = 0 := by
    have := (eI 0 c0).1
    rw [p0] at this; exact this
  rw [bl_b160, nI_clamp (n := 16 * b) (by omega), e0]
  exact ⟨vp_in_nI (by omega) (by omega), br_t rfl ⟨hbI, nm_r (e' := -1) (by rw [hcl]; exact el) (br_f (by decide) (br_t (by decide) hp))⟩⟩
theorem bl_yp_op (hb : b < 4) (hL : L ≤ 60) (O : bl_OK L w) (W : bl_YW w cn pl ky) (hs : w b = (c, P, K)) (c0 : 0 < c) (p0 : P 0 = 0) (el : lds b = -2) (H : ∀ cn' pl' ky' : Nat → Int32, bl_YW (bl_up b (c - 1, bl_rm 0 P, bl_rm 0 K) w) cn' pl' ky' → post (nI L, fg + 1, cn', pl', ky', lds, st, tf, po, rc, tk, hl)) : wpY_end post (nI L, fg, cn, pl, ky, lds, st, tf, po, rc, tk, hl) (nI b) := by
  have ok := bl_Oat O hb hs
  obtain ⟨ec, eI⟩ := bl_Yat W hb hs
  have c16 := bl_c16 ok hL
  have hcl : (nI b).toNatClampNeg = b := nI_clamp (by omega)
  have hbI : vp_in (nI b) 4 := vp_in_nI hb (by omega)
  refine And.intro hbI (br_f (by rw [hcl, ec]; exact nI_nle c0 (by omega)) ?_)
  have e0 : pl (16 * b) = 0 := by
    have := (eI 0 c0).1
    rw [p0] at this; exact this
  rw [bl_b160, nI_clamp (n := 16 * b) (by omega), e0]
  refine ⟨vp_in_nI (by omega) (by omega), br_t rfl ⟨hbI, nm_r (e' := -2) (by rw [hcl]; exact el) (br_t rfl ?_)⟩⟩
  exact bl_yrm hb hL O W hs c0 rfl rfl (fun cn' pl' ky' W' => nm_e (H cn' pl' ky' W'))
theorem bl_yp_fu {t d : Nat} {Q M : Nat → Nat} (hb : b < 4) (hL : L ≤ 60) (h8 : 8 ≤ L) (O : bl_OK L w) (W : bl_YW w cn pl ky) (hs : w b = (c, P, K)) (c0 : 0 < c) (p0 : P 0 = 0) (el : lds b = nI t) (ht : t < 4) (hs2 : w t = (d, Q, M)) (hr : ¬ bl_room L d Q) (hp : post (nI L, fg, cn, pl, ky, lds, st, tf, po, rc, tk, hl)) : wpY_end post (nI L, fg, cn, pl, ky, lds, st, tf, po, rc, tk, hl) (nI b) := by
  have ok := bl_Oat O hb hs
  obtain ⟨ec, eI⟩ := bl_Yat W hb hs
  have c16 := bl_c16 ok hL
  have hcl : (nI b).toNatClampNeg = b := nI_clamp (by omega)
  have hbI : vp_in (nI b) 4 := vp_in_nI hb (by omega)
  refine And.intro hbI (br_f (by rw [hcl, ec]; exact nI_nle c0 (by omega)) ?_)
  have e0 : pl (16 * b) = 0 := by
    have := (eI 0 c0).1
    rw [p0] at this; exact this
  rw [bl_b160, nI_clamp (n := 16 * b) (by omega), e0]
  refine ⟨vp_in_nI (by omega) (by omega), br_t rfl ⟨hbI, nm_r (e' := nI t) (by rw [hcl]; exact el) (br_f (bl_neg (by omega) (by decide)) (br_f (nI_pos (by omega)) ?_))⟩⟩
  exact bl_yroom ht hL h8 W hs2 (bl_Oat O ht hs2) rfl (fun h => absurd h hr) (fun _ => br_t rfl hp)
theorem bl_yp_go {t d : Nat} {Q M : Nat → Nat} (hb : b < 4) (hL : L ≤ 60) (h8 : 8 ≤ L) (O : bl_OK L w) (O2 : bl_OK L (bl_up b (c - 1, bl_rm 0 P, bl_rm 0 K) w)) (W : bl_YW w cn pl ky) (hs : w b = (c, P, K)) (c0 : 0 < c) (p0 : P 0 = 0) (el : lds b = nI t) (ht : t < 4) (htb : t ≠ b) (hs2 : w t = (d, Q, M)) (hr : bl_room L d Q) (H : ∀ cn' pl' ky' : Nat → Int32, bl_YW (bl_up t (d + 1, bl_ap d L Q, bl_ap d (K 0) M) (bl_up b (c - 1, bl_rm 0 P, bl_rm 0 K) w)) cn' pl' ky' → post (nI L, fg, cn', pl', ky', lds, st, tf, po, rc, tk, hl)) : wpY_end post (nI L, fg, cn, pl, ky, lds, st, tf, po, rc, tk, hl) (nI b) := by
  have ok := bl_Oat O hb hs
  obtain ⟨ec, eI⟩ := bl_Yat W hb hs
  have c16 := bl_c16 ok hL
  have hcl : (nI b).toNatClampNeg = b := nI_clamp (by omega)
  have hbI : vp_in (nI b) 4 := vp_in_nI hb (by omega)
  refine And.intro hbI (br_f (by rw [hcl, ec]; exact nI_nle c0 (by omega)) ?_)
  have e0 : pl (16 * b) = 0 := by
    have := (eI 0 c0).1
    rw [p0] at this; exact this
  rw [bl_b160, nI_clamp (n := 16 * b) (by omega), e0]
  refine ⟨vp_in_nI (by omega) (by omega), br_t rfl ⟨hbI, nm_r (e' := nI t) (by rw [hcl]; exact el) (br_f (bl_neg (by omega) (by decide)) (br_f (nI_pos (by omega)) ?_))⟩⟩
  refine bl_yroom ht hL h8 W hs2 (bl_Oat O ht hs2) rfl (fun _ => br_f (by decide) ?_) (fun h => absurd hr h)
  refine bl_yrm hb hL O W hs c0 rfl rfl (fun cn' pl' ky' W' => ?_)
  exact bl_yapp ht hL O2 W' ((bl_up_n htb).trans hs2) hr rfl rfl (fun cn2 pl2 ky2 W2 => H cn2 pl2 ky2 W2)
end
end
section
/-! an arm's turn: the component -/
section
variable {fg : Int32} {hd cnt gap kx gs lds st tf po rc tk hl : Nat → Int32} {post : SX → Prop} {L a : Nat} {w : Nat → bl_S}
theorem bl_xm_fu {k t d : Nat} {Q M : Nat → Nat} (ha : a < 2) (hL : L ≤ 60) (h8 : 8 ≤ L) (W : bl_XW w hd cnt gap kx gs) (eh : hl a = nI k) (hk : k ≤ 7) (ep : po a = nI t) (ht : t < 4) (hs2 : w t = (d, Q, M)) (ok2 : bl_ok L d Q M) (hr : ¬ bl_room L d Q) (hp : post (nI L, fg, hd, cnt, gap, kx, gs, lds, st, tf, po, rc, tk, hl)) : wpX_moveArm post (nI L, fg, hd, cnt, gap, kx, gs, lds, st, tf, po, rc, tk, hl) (nI a) := by
  have hac : (nI a).toNatClampNeg = a := nI_clamp (by omega)
  have haI : vp_in (nI a) 2 := vp_in_nI ha (by omega)
  refine And.intro haI (br_f (by rw [hac, eh]; exact nI_pos (by omega)) (And.intro haI ?_))
  exact bl_xroom ht hL h8 W hs2 ok2 (by rw [hac]; exact ep) (fun h => absurd h hr) (fun _ => br_t rfl hp)
theorem bl_xm_go {k t d : Nat} {Q M : Nat → Nat} (ha : a < 2) (hL : L ≤ 60) (h8 : 8 ≤ L) (W : bl_XW w hd cnt gap kx gs) (eh : hl a = nI k) (hk : k ≤ 7) (ep : po a = nI t) (ht : t < 4) (hs2 : w t = (d, Q, M)) (ok2 : bl_ok L d Q M) (hr : bl_room L d Q) (H : ∀ cnt' gap' kx' gs' : Nat → Int32, bl_XW (bl_up t (d + 1, bl_ap d L Q, bl_ap d k M) w) hd cnt' gap' kx' gs' → post (nI L, fg, hd, cnt', gap', kx', gs', lds, st, tf, po, rc, tk, upd hl a (-4))) : wpX_moveArm post (nI L, fg, hd, cnt, gap, kx, gs, lds, st, tf, po, rc, tk, hl) (nI a) := by
  have hac : (nI a).toNatClampNeg = a := nI_clamp (by omega)
  have haI : vp_in (nI a) 2 := vp_in_nI ha (by omega)
  refine And.intro haI (br_f (by rw [hac, eh]; exact nI_pos (by omega)) (And.intro haI ?_))
  refine bl_xroom ht hL h8 W hs2 ok2 (by rw [hac]; exact ep) (fun _ => br_f (by decide) ⟨haI, haI, ?_⟩) (fun h => absurd hr h)
  refine bl_xapp ht hL W hs2 ok2 hr (by rw [hac]; exact ep) (by rw [hac]; exact eh) (fun cnt' gap' kx' gs' W' => And.intro haI (nm_e ?_))
  rw [hac]
  exact H cnt' gap' kx' gs' W'
theorem bl_xm_no {b c r : Nat} {P K : Nat → Nat} (ha : a < 2) (hb : b < 4) (hL : L ≤ 60) (W : bl_XW w hd cnt gap kx gs) (hs : w b = (c, P, K)) (ok : bl_ok L c P K) (eh : hl a = -4) (et : tf a = nI b) (er : rc a = nI r) (hr : r ≤ 60) (v1 : ∀ j, j < c → ¬ bl_hit (tk a) r P K j) (hp : post (nI L, fg, hd, cnt, gap, kx, gs, lds, st, tf, po, rc, tk, hl)) : wpX_moveArm post (nI L, fg, hd, cnt, gap, kx, gs, lds, st, tf, po, rc, tk, hl) (nI a) := by
  have hac : (nI a).toNatClampNeg = a := nI_clamp (by omega)
  have haI : vp_in (nI a) 2 := vp_in_nI ha (by omega)
  refine And.intro haI (br_t (by rw [hac, eh]; decide) ?_)
  exact bl_xreach ha hb hL W hs ok et er hr (Nat.le_refl c) v1 (fun h => absurd h (Nat.lt_irrefl _)) (fun h => absurd h (Nat.lt_irrefl _)) (fun _ => br_t (by decide) hp)
theorem bl_xm_tk {b c r v : Nat} {P K : Nat → Nat} (ha : a < 2) (hb : b < 4) (hL : L ≤ 60) (W : bl_XW w hd cnt gap kx gs) (hs : w b = (c, P, K)) (ok : bl_ok L c P K) (eh : hl a = -4) (et : tf a = nI b) (er : rc a = nI r) (hr : r ≤ 60) (hv : v < c) (v1 : ∀ j, j < v → ¬ bl_hit (tk a) r P K j) (v2 : bl_hit (tk a) r P K v) (H : ∀ hd' cnt' gap' kx' gs' : Nat → Int32, bl_XW (bl_up b (c - 1, bl_rm v P, bl_rm v K) w) hd' cnt' gap' kx' gs' → post (nI L, fg, hd', cnt', gap', kx', gs', lds, st, tf, po, rc, tk, upd hl a (nI (K v)))) : wpX_moveArm post (nI L, fg, hd, cnt, gap, kx, gs, lds, st, tf, po, rc, tk, hl) (nI a) := by
  have hac : (nI a).toNatClampNeg = a := nI_clamp (by omega)
  have haI : vp_in (nI a) 2 := vp_in_nI ha (by omega)
  have c16 := bl_c16 ok hL
  refine And.intro haI (br_t (by rw [hac, eh]; decide) ?_)
  refine bl_xreach ha hb hL W hs ok et er hr (Nat.le_of_lt hv) v1 (fun _ => v2) (fun _ => br_f (nI_pos (by omega)) ⟨haI, ?_⟩) (fun h => absurd h (by omega))
  refine bl_xrm hb hL W hs ok hv (by rw [hac]; exact et) rfl (fun hd' cnt' gap' kx' gs' W' => And.intro haI (nm_e ?_))
  rw [hac]
  exact H hd' cnt' gap' kx' gs' W'
end
/-! the same: the reference -/
section
variable {fg : Int32} {cn pl ky lds st tf po rc tk hl : Nat → Int32} {post : SY → Prop} {L a : Nat} {w : Nat → bl_S}
theorem bl_ym_fu {k t d : Nat} {Q M : Nat → Nat} (ha : a < 2) (hL : L ≤ 60) (h8 : 8 ≤ L) (O : bl_OK L w) (W : bl_YW w cn pl ky) (eh : hl a = nI k) (hk : k ≤ 7) (ep : po a = nI t) (ht : t < 4) (hs2 : w t = (d, Q, M)) (hr : ¬ bl_room L d Q) (hp : post (nI L, fg, cn, pl, ky, lds, st, tf, po, rc, tk, hl)) : wpY_work post (nI L, fg, cn, pl, ky, lds, st, tf, po, rc, tk, hl) (nI a) := by
  have hac : (nI a).toNatClampNeg = a := nI_clamp (by omega)
  have haI : vp_in (nI a) 2 := vp_in_nI ha (by omega)
  refine And.intro haI (br_f (by rw [hac, eh]; exact bl_neg (by omega) (by decide)) (And.intro haI ?_))
  exact bl_yroom ht hL h8 W hs2 (bl_Oat O ht hs2) (by rw [hac]; exact ep) (fun h => absurd h hr) (fun _ => br_t rfl hp)
theorem bl_ym_go {k t d : Nat} {Q M : Nat → Nat} (ha : a < 2) (hL : L ≤ 60) (h8 : 8 ≤ L) (O : bl_OK L w) (W : bl_YW w cn pl ky) (eh : hl a = nI k) (hk : k ≤ 7) (ep : po a = nI t) (ht : t < 4) (hs2 : w t = (d, Q, M)) (hr : bl_room L d Q) (H : ∀ cn' pl' ky' : Nat → Int32, bl_YW (bl_up t (d + 1, bl_ap d L Q, bl_ap d k M) w) cn' pl' ky' → post (nI L, fg, cn', pl', ky', lds, st, tf, po, rc, tk, upd hl a (-4))) : wpY_work post (nI L, fg, cn, pl, ky, lds, st, tf, po, rc, tk, hl) (nI a) := by
  have hac : (nI a).toNatClampNeg = a := nI_clamp (by omega)
  have haI : vp_in (nI a) 2 := vp_in_nI ha (by omega)
  refine And.intro haI (br_f (by rw [hac, eh]; exact bl_neg (by omega) (by decide)) (And.intro haI ?_))
  refine bl_yroom ht hL h8 W hs2 (bl_Oat O ht hs2) (by rw [hac]; exact ep) (fun _ => br_f (by decide) ⟨haI, haI, ?_⟩) (fun h => absurd hr h)
  refine bl_yapp ht hL O W hs2 hr (by rw [hac]; exact ep) (by rw [hac]; exact eh) (fun cn' pl' ky' W' => And.intro haI (nm_e ?_))
  rw [hac]
  exact H cn' pl' ky' W'
theorem bl_ym_re {b c r v : Nat} {P K : Nat → Nat} (ha : a < 2) (hb : b < 4) (hL : L ≤ 60) (O : bl_OK L w) (W : bl_YW w cn pl ky) (hs : w b = (c, P, K)) (eh : hl a = -4) (et : tf a = nI b) (er : rc a = nI r) (hr : r ≤ 60) (hv : v ≤ c) (v1 : ∀ j, j < v → ¬ bl_hit (tk a) r P K j) (v2 : v < c → bl_hit (tk a) r P K v) (p1 : v < c → ∀ cn' pl' ky' : Nat → Int32, bl_YW (bl_up b (c - 1, bl_rm v P, bl_rm v K) w) cn' pl' ky' → post (nI L, fg, cn', pl', ky', lds, st, tf, po, rc, tk, upd hl a (nI (K v)))) (p2 : v = c → post (nI L, fg, cn, pl, ky, lds, st, tf, po, rc, tk, hl)) : wpY_work post (nI L, fg, cn, pl, ky, lds, st, tf, po, rc, tk, hl) (nI a) := by
  have hac : (nI a).toNatClampNeg = a := nI_clamp (by omega)
  have haI : vp_in (nI a) 2 := vp_in_nI ha (by omega)
  refine And.intro haI (br_t (by rw [hac]; exact eh) (And.intro haI (nm_r (e' := nI b) (by rw [hac]; exact et) (Exists.intro (c + 1) ?_))))
  exact bl_ywk1 ha hb hL O W hs er hr eh hv v1 v2 p1 p2 (c + 1) 0 (by omega) (by omega)
end
end
section
/-! lockstep: one abstract state for both sides (the number gone, what the arms hold, the four belts) -/
abbrev bl_A : Type := Int32 × (Nat → Int32) × (Nat → bl_S)
def bl_RX (L : Nat) (lds st tf po rc tk : Nat → Int32) (A : bl_A) (u : SX) : Prop := ∃ hd cnt gap kx gs : Nat → Int32, u = (nI L, A.1, hd, cnt, gap, kx, gs, lds, st, tf, po, rc, tk, A.2.1) ∧ bl_XW A.2.2 hd cnt gap kx gs
def bl_RY (L : Nat) (lds st tf po rc tk : Nat → Int32) (A : bl_A) (v : SY) : Prop := ∃ cn pl ky : Nat → Int32, v = (nI L, A.1, cn, pl, ky, lds, st, tf, po, rc, tk, A.2.1) ∧ bl_YW A.2.2 cn pl ky
def bl_st (L : Nat) (lds tf po rc : Nat → Int32) : Prop := 8 ≤ L ∧ L ≤ 60 ∧ (∀ b, b < 4 → lds b = -1 ∨ lds b = -2 ∨ ∃ t, t < 4 ∧ t ≠ b ∧ lds b = nI t) ∧ (∀ a, a < 2 → (∃ t, t < 4 ∧ tf a = nI t) ∧ (∃ t, t < 4 ∧ po a = nI t) ∧ (∃ r, r ≤ 60 ∧ rc a = nI r))
def bl_hs (hl : Nat → Int32) : Prop := ∀ a, a < 2 → hl a = -4 ∨ ∃ k, k ≤ 7 ∧ hl a = nI k
def bl_dy (L : Nat) (A : bl_A) : Prop := bl_OK L A.2.2 ∧ bl_hs A.2.1
def bl_step (L : Nat) (lds st tf po rc tk : Nat → Int32) (F : (SX → Prop) → SX → Prop) (G : (SY → Prop) → SY → Prop) (A A' : bl_A) : Prop := (∀ (u : SX) (post : SX → Prop), bl_RX L lds st tf po rc tk A u → (∀ u', bl_RX L lds st tf po rc tk A' u' → post u') → F post u) ∧ (∀ (v : SY) (post : SY → Prop), bl_RY L lds st tf po rc tk A v → (∀ v', bl_RY L lds st tf po rc tk A' v' → post v') → G post v)
theorem bl_w3 (w : Nat → bl_S) (b : Nat) : ∃ (c : Nat) (P K : Nat → Nat), w b = (c, P, K) := ⟨_, _, _, rfl⟩
theorem bl_hsup {hl : Nat → Int32} {a : Nat} {x : Int32} (h : bl_hs hl) (hx : x = -4 ∨ ∃ k, k ≤ 7 ∧ x = nI k) : bl_hs (upd hl a x) := by
  intro d hd
  by_cases e : d = a
  · rw [e, pk_us]; exact hx
  · rw [pk_un e]; exact h d hd
section
variable {L : Nat} {lds st tf po rc tk : Nat → Int32}
theorem bl_pass {A : bl_A} {b : Nat} (S : bl_st L lds tf po rc) (D : bl_dy L A) (hb : b < 4) : ∃ A', bl_dy L A' ∧ bl_step L lds st tf po rc tk (fun post u => wpX_passOn post u (nI b)) (fun post v => wpY_end post v (nI b)) A A' := by
  obtain ⟨fg, hl, w⟩ := A
  obtain ⟨O, hh⟩ := D
  obtain ⟨h8, hL, hlds, _⟩ := S
  replace O : bl_OK L w := O
  obtain ⟨c, P, K, hs⟩ := bl_w3 w b
  have ok := bl_Oat O hb hs
  by_cases hE : 0 < c ∧ P 0 = 0
  · obtain ⟨c0, p0⟩ := hE
    have O2 : bl_OK L (bl_up b (c - 1, bl_rm 0 P, bl_rm 0 K) w) := bl_OKup O (bl_ok_rm ok)
    rcases hlds b hb with el | el | ⟨t, ht, htb, el⟩
    · refine ⟨(fg, hl, w), ⟨O, hh⟩, ?_, ?_⟩
      · rintro u post ⟨hd, cnt, gap, kx, gs, rfl, W⟩ H
        exact bl_xp_cl hb hL W hs ok c0 p0 el (H _ ⟨hd, cnt, gap, kx, gs, rfl, W⟩)
      · rintro v post ⟨cn, pl, ky, rfl, W⟩ H
        exact bl_yp_cl hb hL O W hs c0 p0 el (H _ ⟨cn, pl, ky, rfl, W⟩)
    · refine ⟨(fg + 1, hl, bl_up b (c - 1, bl_rm 0 P, bl_rm 0 K) w), ⟨O2, hh⟩, ?_, ?_⟩
      · rintro u post ⟨hd, cnt, gap, kx, gs, rfl, W⟩ H
        exact bl_xp_op hb hL W hs ok c0 p0 el (fun hd' cnt' gap' kx' gs' W' => H _ ⟨hd', cnt', gap', kx', gs', rfl, W'⟩)
      · rintro v post ⟨cn, pl, ky, rfl, W⟩ H
        exact bl_yp_op hb hL O W hs c0 p0 el (fun cn' pl' ky' W' => H _ ⟨cn', pl', ky', rfl, W'⟩)
    · obtain ⟨d, Q, M, hs2⟩ := bl_w3 w t
      have ok2 := bl_Oat O ht hs2
      by_cases hr : bl_room L d Q
      · refine ⟨(fg, hl, bl_up t (d + 1, bl_ap d L Q, bl_ap d (K 0) M) (bl_up b (c - 1, bl_rm 0 P, bl_rm 0 K) w)), ⟨bl_OKup O2 (bl_ok_ap ok2 hr (ok.1 0 c0).2.2), hh⟩, ?_, ?_⟩
        · rintro u post ⟨hd, cnt, gap, kx, gs, rfl, W⟩ H
          exact bl_xp_go hb hL h8 W hs ok c0 p0 el ht htb hs2 ok2 hr (fun hd' cnt' gap' kx' gs' W' => H _ ⟨hd', cnt', gap', kx', gs', rfl, W'⟩)
        · rintro v post ⟨cn, pl, ky, rfl, W⟩ H
          exact bl_yp_go hb hL h8 O O2 W hs c0 p0 el ht htb hs2 hr (fun cn' pl' ky' W' => H _ ⟨cn', pl', ky', rfl, W'⟩)
      · refine ⟨(fg, hl, w), ⟨O, hh⟩, ?_, ?_⟩
        · rintro u post ⟨hd, cnt, gap, kx, gs, rfl, W⟩ H
          exact bl_xp_fu hb hL h8 W hs ok c0 p0 el ht hs2 ok2 hr (H _ ⟨hd, cnt, gap, kx, gs, rfl, W⟩)
        · rintro v post ⟨cn, pl, ky, rfl, W⟩ H
          exact bl_yp_fu hb hL h8 O W hs c0 p0 el ht hs2 hr (H _ ⟨cn, pl, ky, rfl, W⟩)
  · refine ⟨(fg, hl, w), ⟨O, hh⟩, ?_, ?_⟩
    · rintro u post ⟨hd, cnt, gap, kx, gs, rfl, W⟩ H
      exact bl_xp_no hb hL W hs ok hE (H _ ⟨hd, cnt, gap, kx, gs, rfl, W⟩)
    · rintro v post ⟨cn, pl, ky, rfl, W⟩ H
      exact bl_yp_no hb hL O W hs hE (H _ ⟨cn, pl, ky, rfl, W⟩)
theorem bl_adv {A : bl_A} {b : Nat} (S : bl_st L lds tf po rc) (D : bl_dy L A) (hb : b < 4) : ∃ A', bl_dy L A' ∧ bl_step L lds st tf po rc tk (fun post u => wpX_advance post u (nI b)) (fun post v => wpY_move post v (nI b)) A A' := by
  obtain ⟨fg, hl, w⟩ := A
  obtain ⟨O, hh⟩ := D
  obtain ⟨h8, hL, _, _⟩ := S
  replace O : bl_OK L w := O
  obtain ⟨c, P, K, hs⟩ := bl_w3 w b
  have ok := bl_Oat O hb hs
  obtain ⟨f, hf⟩ := bl_fo_ex c P
  refine ⟨(fg, hl, bl_up b (c, bl_mv f P, K) w), ⟨bl_OKup O (bl_ok_mv ok hf), hh⟩, ?_, ?_⟩
  · rintro u post ⟨hd, cnt, gap, kx, gs, rfl, W⟩ H
    exact bl_xadv hb hL W hs ok hf (fun gap' gs' W' => H _ ⟨hd, cnt, gap', kx, gs', rfl, W'⟩)
  · rintro v post ⟨cn, pl, ky, rfl, W⟩ H
    exact bl_ymove hb hL O W hs hf (fun pl' W' => H _ ⟨cn, pl', ky, rfl, W'⟩)
theorem bl_arm {A : bl_A} {a : Nat} (S : bl_st L lds tf po rc) (D : bl_dy L A) (ha : a < 2) : ∃ A', bl_dy L A' ∧ bl_step L lds st tf po rc tk (fun post u => wpX_moveArm post u (nI a)) (fun post v => wpY_work post v (nI a)) A A' := by
  obtain ⟨fg, hl, w⟩ := A
  obtain ⟨O, hh⟩ := D
  obtain ⟨h8, hL, _, harm⟩ := S
  replace O : bl_OK L w := O
  replace hh : bl_hs hl := hh
  obtain ⟨⟨b, hb, et⟩, ⟨t, ht, ep⟩, ⟨r, hr, er⟩⟩ := harm a ha
  rcases hh a ha with eh | ⟨k, hk, eh⟩
  · obtain ⟨c, P, K, hs⟩ := bl_w3 w b
    have ok := bl_Oat O hb hs
    obtain ⟨v, hv, v1, v2⟩ := bl_find (bl_hit (tk a) r P K) c
    by_cases hvc : v < c
    · refine ⟨(fg, upd hl a (nI (K v)), bl_up b (c - 1, bl_rm v P, bl_rm v K) w), ⟨bl_OKup O (bl_ok_rm ok), bl_hsup hh (Or.inr ⟨K v, (ok.1 v hvc).2.2, rfl⟩)⟩, ?_, ?_⟩
      · rintro u post ⟨hd, cnt, gap, kx, gs, rfl, W⟩ H
        exact bl_xm_tk ha hb hL W hs ok eh et er hr hvc v1 (v2 hvc) (fun hd' cnt' gap' kx' gs' W' => H _ ⟨hd', cnt', gap', kx', gs', rfl, W'⟩)
      · rintro v' post ⟨cn, pl, ky, rfl, W⟩ H
        exact bl_ym_re ha hb hL O W hs eh et er hr hv v1 v2 (fun _ cn' pl' ky' W' => H _ ⟨cn', pl', ky', rfl, W'⟩) (fun h => absurd h (by omega))
    · have e : v = c := by omega
      subst e
      refine ⟨(fg, hl, w), ⟨O, hh⟩, ?_, ?_⟩
      · rintro u post ⟨hd, cnt, gap, kx, gs, rfl, W⟩ H
        exact bl_xm_no ha hb hL W hs ok eh et er hr v1 (H _ ⟨hd, cnt, gap, kx, gs, rfl, W⟩)
      · rintro v' post ⟨cn, pl, ky, rfl, W⟩ H
        exact bl_ym_re ha hb hL O W hs eh et er hr hv v1 v2 (fun h => absurd h hvc) (fun _ => H _ ⟨cn, pl, ky, rfl, W⟩)
  · obtain ⟨d, Q, M, hs2⟩ := bl_w3 w t
    have ok2 := bl_Oat O ht hs2
    by_cases hro : bl_room L d Q
    · refine ⟨(fg, upd hl a (-4), bl_up t (d + 1, bl_ap d L Q, bl_ap d k M) w), ⟨bl_OKup O (bl_ok_ap ok2 hro hk), bl_hsup hh (Or.inl rfl)⟩, ?_, ?_⟩
      · rintro u post ⟨hd, cnt, gap, kx, gs, rfl, W⟩ H
        exact bl_xm_go ha hL h8 W eh hk ep ht hs2 ok2 hro (fun cnt' gap' kx' gs' W' => H _ ⟨hd, cnt', gap', kx', gs', rfl, W'⟩)
      · rintro v' post ⟨cn, pl, ky, rfl, W⟩ H
        exact bl_ym_go ha hL h8 O W eh hk ep ht hs2 hro (fun cn' pl' ky' W' => H _ ⟨cn', pl', ky', rfl, W'⟩)
    · refine ⟨(fg, hl, w), ⟨O, hh⟩, ?_, ?_⟩
      · rintro u post ⟨hd, cnt, gap, kx, gs, rfl, W⟩ H
        exact bl_xm_fu ha hL h8 W eh hk ep ht hs2 ok2 hro (H _ ⟨hd, cnt, gap, kx, gs, rfl, W⟩)
      · rintro v' post ⟨cn, pl, ky, rfl, W⟩ H
        exact bl_ym_fu ha hL h8 O W eh hk ep ht hs2 hro (H _ ⟨cn, pl, ky, rfl, W⟩)
end
end
section
/-! ticks, in lockstep -/
section
variable {L : Nat} {lds st tf po rc tk : Nat → Int32}
theorem bl_arms (S : bl_st L lds tf po rc) : ∀ (d j : Nat) (A : bl_A), j + d = 2 → bl_dy L A → ∃ A' : bl_A, bl_dy L A' ∧ (∀ (post : SX → Prop) (n : Nat) (hd cnt gap kx gs : Nat → Int32), d < n → bl_XW A.2.2 hd cnt gap kx gs → (∀ hd' cnt' gap' kx' gs' : Nat → Int32, bl_XW A'.2.2 hd' cnt' gap' kx' gs' → post (nI L, A'.1, hd', cnt', gap', kx', gs', lds, st, tf, po, rc, tk, A'.2.1)) → wX_tickOnce_25 post n (nI j) (nI L) A.1 hd cnt gap kx gs lds st tf po rc tk A.2.1) ∧ (∀ (post : Int32 → SY → Prop) (J : Int32 → Int32 → Int32 → (Nat → Int32) → (Nat → Int32) → (Nat → Int32) → (Nat → Int32) → (Nat → Int32) → (Nat → Int32) → (Nat → Int32) → (Nat → Int32) → (Nat → Int32) → (Nat → Int32) → Prop) (x1 x2 x3 : Int32) (n : Nat) (cn pl ky : Nat → Int32), d < n → bl_YW A.2.2 cn pl ky → (∀ cn' pl' ky' : Nat → Int32, bl_YW A'.2.2 cn' pl' ky' → J (x3 + 1) (nI L) A'.1 cn' pl' ky' lds st tf po rc tk A'.2.1) → wY_tick_49 post J x1 x2 x3 n (nI j) (nI L) A.1 cn pl ky lds st tf po rc tk A.2.1) := by
  intro d
  induction d with
  | zero =>
    intro j A hj D
    have e : j = 2 := by omega
    subst e
    refine ⟨A, D, fun post n hd cnt gap kx gs hn W H => ?_, fun post J x1 x2 x3 n cn pl ky hn W H => ?_⟩
    · cases n with
      | zero => omega
      | succ n => exact br_t (nI_le (a := 2) (Nat.le_refl 2) (by omega)) (H hd cnt gap kx gs W)
    · cases n with
      | zero => omega
      | succ n => exact br_t (nI_le (a := 2) (Nat.le_refl 2) (by omega)) (nm_e (H cn pl ky W))
  | succ d ih =>
    intro j A hj D
    have hj2 : j < 2 := by omega
    have hjc : (nI j).toNatClampNeg = j := nI_clamp (by omega)
    have hjI : vp_in (nI j) 2 := vp_in_nI hj2 (by omega)
    have hge : ¬ (2 : Int32) ≤ nI j := nI_ge (b := 2) hj2 (by omega)
    by_cases hst : st j = 0
    · obtain ⟨A', D', hX, hY⟩ := ih (j + 1) A (by omega) D
      refine ⟨A', D', fun post n hd cnt gap kx gs hn W H => ?_, fun post J x1 x2 x3 n cn pl ky hn W H => ?_⟩
      · cases n with
        | zero => omega
        | succ n => exact br_f hge (And.intro hjI (br_t (by rw [hjc]; exact hst) (nm_r (nI_1 j) (hX post n hd cnt gap kx gs (by omega) W H))))
      · cases n with
        | zero => omega
        | succ n => exact br_f hge (And.intro hjI (br_t (by rw [hjc]; exact hst) (nm_r (nI_1 j) (hY post J x1 x2 x3 n cn pl ky (by omega) W H))))
    · obtain ⟨A1, D1, sX, sY⟩ := bl_arm (st := st) (tk := tk) S D hj2
      obtain ⟨A', D', hX, hY⟩ := ih (j + 1) A1 (by omega) D1
      refine ⟨A', D', fun post n hd cnt gap kx gs hn W H => ?_, fun post J x1 x2 x3 n cn pl ky hn W H => ?_⟩
      · cases n with
        | zero => omega
        | succ n =>
          refine br_f hge (And.intro hjI (br_f (by rw [hjc]; exact hst) (sX _ _ ⟨hd, cnt, gap, kx, gs, rfl, W⟩ ?_)))
          rintro u' ⟨hd', cnt', gap', kx', gs', rfl, W'⟩
          exact nm_r (nI_1 j) (hX post n hd' cnt' gap' kx' gs' (by omega) W' H)
      · cases n with
        | zero => omega
        | succ n =>
          refine br_f hge (And.intro hjI (br_f (by rw [hjc]; exact hst) (sY _ _ ⟨cn, pl, ky, rfl, W⟩ ?_)))
          rintro v' ⟨cn', pl', ky', rfl, W'⟩
          exact nm_r (nI_1 j) (hY post J x1 x2 x3 n cn' pl' ky' (by omega) W' H)
theorem bl_belts (S : bl_st L lds tf po rc) : ∀ (d j : Nat) (A : bl_A), j + d = 4 → bl_dy L A → ∃ A' : bl_A, bl_dy L A' ∧ (∀ (post : SX → Prop) (n : Nat) (hd cnt gap kx gs : Nat → Int32), d < n → bl_XW A.2.2 hd cnt gap kx gs → (∀ hd' cnt' gap' kx' gs' : Nat → Int32, bl_XW A'.2.2 hd' cnt' gap' kx' gs' → ∃ n25 : Nat, wX_tickOnce_25 post n25 0 (nI L) A'.1 hd' cnt' gap' kx' gs' lds st tf po rc tk A'.2.1) → wX_tickOnce_2 post n (nI j) (nI L) A.1 hd cnt gap kx gs lds st tf po rc tk A.2.1) ∧ (∀ (post : Int32 → SY → Prop) (J : Int32 → Int32 → Int32 → (Nat → Int32) → (Nat → Int32) → (Nat → Int32) → (Nat → Int32) → (Nat → Int32) → (Nat → Int32) → (Nat → Int32) → (Nat → Int32) → (Nat → Int32) → (Nat → Int32) → Prop) (x1 x2 x3 : Int32) (n : Nat) (cn pl ky : Nat → Int32), d < n → bl_YW A.2.2 cn pl ky → (∀ cn' pl' ky' : Nat → Int32, bl_YW A'.2.2 cn' pl' ky' → ∃ n49 : Nat, wY_tick_49 post J x1 x2 x3 n49 0 (nI L) A'.1 cn' pl' ky' lds st tf po rc tk A'.2.1) → wY_tick_22 post J x1 x2 x3 n (nI j) (nI L) A.1 cn pl ky lds st tf po rc tk A.2.1) := by
  intro d
  induction d with
  | zero =>
    intro j A hj D
    have e : j = 4 := by omega
    subst e
    refine ⟨A, D, fun post n hd cnt gap kx gs hn W H => ?_, fun post J x1 x2 x3 n cn pl ky hn W H => ?_⟩
    · cases n with
      | zero => omega
      | succ n => exact br_t (nI_le (a := 4) (Nat.le_refl 4) (by omega)) (H hd cnt gap kx gs W)
    · cases n with
      | zero => omega
      | succ n => exact br_t (nI_le (a := 4) (Nat.le_refl 4) (by omega)) (H cn pl ky W)
  | succ d ih =>
    intro j A hj D
    have hj4 : j < 4 := by omega
    have hge : ¬ (4 : Int32) ≤ nI j := nI_ge (b := 4) hj4 (by omega)
    obtain ⟨A1, D1, pX, pY⟩ := bl_pass (st := st) (tk := tk) S D hj4
    obtain ⟨A2, D2, aX, aY⟩ := bl_adv (st := st) (tk := tk) S D1 hj4
    obtain ⟨A', D', hX, hY⟩ := ih (j + 1) A2 (by omega) D2
    refine ⟨A', D', fun post n hd cnt gap kx gs hn W H => ?_, fun post J x1 x2 x3 n cn pl ky hn W H => ?_⟩
    · cases n with
      | zero => omega
      | succ n =>
        refine br_f hge (pX _ _ ⟨hd, cnt, gap, kx, gs, rfl, W⟩ ?_)
        rintro u1 ⟨hd1, cnt1, gap1, kx1, gs1, rfl, W1⟩
        refine aX _ _ ⟨hd1, cnt1, gap1, kx1, gs1, rfl, W1⟩ ?_
        rintro u2 ⟨hd2, cnt2, gap2, kx2, gs2, rfl, W2⟩
        exact nm_r (nI_1 j) (hX post n hd2 cnt2 gap2 kx2 gs2 (by omega) W2 H)
    · cases n with
      | zero => omega
      | succ n =>
        refine br_f hge (pY _ _ ⟨cn, pl, ky, rfl, W⟩ ?_)
        rintro u1 ⟨cn1, pl1, ky1, rfl, W1⟩
        refine aY _ _ ⟨cn1, pl1, ky1, rfl, W1⟩ ?_
        rintro u2 ⟨cn2, pl2, ky2, rfl, W2⟩
        exact nm_r (nI_1 j) (hY post J x1 x2 x3 n cn2 pl2 ky2 (by omega) W2 H)
theorem bl_once (S : bl_st L lds tf po rc) (A : bl_A) (D : bl_dy L A) : ∃ A' : bl_A, bl_dy L A' ∧ (∀ (post : SX → Prop) (hd cnt gap kx gs : Nat → Int32), bl_XW A.2.2 hd cnt gap kx gs → (∀ hd' cnt' gap' kx' gs' : Nat → Int32, bl_XW A'.2.2 hd' cnt' gap' kx' gs' → post (nI L, A'.1, hd', cnt', gap', kx', gs', lds, st, tf, po, rc, tk, A'.2.1)) → wpX_tickOnce post (nI L, A.1, hd, cnt, gap, kx, gs, lds, st, tf, po, rc, tk, A.2.1)) ∧ (∀ (post : Int32 → SY → Prop) (J : Int32 → Int32 → Int32 → (Nat → Int32) → (Nat → Int32) → (Nat → Int32) → (Nat → Int32) → (Nat → Int32) → (Nat → Int32) → (Nat → Int32) → (Nat → Int32) → (Nat → Int32) → (Nat → Int32) → Prop) (x1 x2 x3 : Int32) (cn pl ky : Nat → Int32), bl_YW A.2.2 cn pl ky → (∀ cn' pl' ky' : Nat → Int32, bl_YW A'.2.2 cn' pl' ky' → J (x3 + 1) (nI L) A'.1 cn' pl' ky' lds st tf po rc tk A'.2.1) → ∃ n22 : Nat, wY_tick_22 post J x1 x2 x3 n22 0 (nI L) A.1 cn pl ky lds st tf po rc tk A.2.1) := by
  obtain ⟨A1, D1, bX, bY⟩ := bl_belts (st := st) (tk := tk) S 4 0 A rfl D
  obtain ⟨A', D', hX, hY⟩ := bl_arms (st := st) (tk := tk) S 2 0 A1 rfl D1
  refine ⟨A', D', fun post hd cnt gap kx gs W H => ?_, fun post J x1 x2 x3 cn pl ky W H => ?_⟩
  · exact Exists.intro 5 (bX post 5 hd cnt gap kx gs (by omega) W (fun hd1 cnt1 gap1 kx1 gs1 W1 => ⟨3, hX post 3 hd1 cnt1 gap1 kx1 gs1 (by omega) W1 H⟩))
  · exact ⟨5, bY post J x1 x2 x3 5 cn pl ky (by omega) W (fun cn1 pl1 ky1 W1 => ⟨3, hY post J x1 x2 x3 3 cn1 pl1 ky1 (by omega) W1 H⟩)⟩
end
section
variable {fl fg : Int32} {cn pl ky lds st tf po rc tk hl : Nat → Int32}
theorem bl_idle {post : Int32 → SY → Prop} {m : Nat} {x1 x2 : Int32} (hm : ∀ i, i < 200 → (x1 ≤ nI i ↔ m ≤ i)) (H : post (fg - x2) (fl, fg, cn, pl, ky, lds, st, tf, po, rc, tk, hl)) : ∀ n j, m ≤ j → j ≤ 200 → 200 - j < n → wY_tick_7 post x1 x2 n (nI j) fl fg cn pl ky lds st tf po rc tk hl := by
  intro n
  induction n with
  | zero => intro j _ _ hn; omega
  | succ n ih =>
    intro j hmj hj hn
    exact pk_le 200 j (fun _ => H) (fun z => br_t ((hm j z).mpr hmj) (nm_r (nI_1 j) (ih (j + 1) (by omega) (by omega) (by omega))))
end
section
variable {L : Nat} {lds st tf po rc tk : Nat → Int32}
theorem bl_ticks (S : bl_st L lds tf po rc) {m : Nat} (hm2 : m ≤ 200) : ∀ (d j : Nat) (A : bl_A), j + d = m → bl_dy L A → ∃ A' : bl_A, bl_dy L A' ∧ (∀ (post : Int32 → SX → Prop) (x2 x3 : Int32) (n : Nat) (hd cnt gap kx gs : Nat → Int32), (∀ i, i ≤ 200 → (x2 ≤ nI i ↔ m ≤ i)) → d < n → bl_XW A.2.2 hd cnt gap kx gs → (∀ hd' cnt' gap' kx' gs' : Nat → Int32, bl_XW A'.2.2 hd' cnt' gap' kx' gs' → post (A'.1 - x3) (nI L, A'.1, hd', cnt', gap', kx', gs', lds, st, tf, po, rc, tk, A'.2.1)) → wX_tick_23 post x2 x3 n (nI j) (nI L) A.1 hd cnt gap kx gs lds st tf po rc tk A.2.1) ∧ (∀ (post : Int32 → SY → Prop) (x1 x2 : Int32) (n : Nat) (cn pl ky : Nat → Int32), (∀ i, i < 200 → (x1 ≤ nI i ↔ m ≤ i)) → 200 - j < n → bl_YW A.2.2 cn pl ky → (∀ cn' pl' ky' : Nat → Int32, bl_YW A'.2.2 cn' pl' ky' → post (A'.1 - x2) (nI L, A'.1, cn', pl', ky', lds, st, tf, po, rc, tk, A'.2.1)) → wY_tick_7 post x1 x2 n (nI j) (nI L) A.1 cn pl ky lds st tf po rc tk A.2.1) := by
  intro d
  induction d with
  | zero =>
    intro j A hj D
    refine ⟨A, D, fun post x2 x3 n hd cnt gap kx gs hm hn W H => ?_, fun post x1 x2 n cn pl ky hm hn W H => ?_⟩
    · cases n with
      | zero => omega
      | succ n => exact br_t ((hm j (by omega)).mpr (by omega)) (H hd cnt gap kx gs W)
    · exact bl_idle hm (H cn pl ky W) n j (by omega) (by omega) hn
  | succ d ih =>
    intro j A hj D
    obtain ⟨A1, D1, oX, oY⟩ := bl_once (st := st) (tk := tk) S A D
    obtain ⟨A', D', hX, hY⟩ := ih (j + 1) A1 (by omega) D1
    refine ⟨A', D', fun post x2 x3 n hd cnt gap kx gs hm hn W H => ?_, fun post x1 x2 n cn pl ky hm hn W H => ?_⟩
    · cases n with
      | zero => omega
      | succ n =>
        have hc : ¬ x2 ≤ nI j := fun h => by
          have := (hm j (by omega)).mp h
          omega
        refine br_f hc (oX _ hd cnt gap kx gs W (fun hd1 cnt1 gap1 kx1 gs1 W1 => ?_))
        exact nm_r (nI_1 j) (hX post x2 x3 n hd1 cnt1 gap1 kx1 gs1 hm (by omega) W1 H)
    · cases n with
      | zero => omega
      | succ n =>
        have hc : ¬ x1 ≤ nI j := fun h => by
          have := (hm j (by omega)).mp h
          omega
        have hc2 : ¬ (200 : Int32) ≤ nI j := nI_ge (b := 200) (by omega) (by omega)
        refine br_f hc2 (br_f hc (oY post (wY_tick_7 post x1 x2 n) x1 x2 (nI j) cn pl ky W (fun cn1 pl1 ky1 W1 => ?_)))
        rw [nI_1 j]
        exact hY post x1 x2 n cn1 pl1 ky1 hm (by omega) W1 H
end
theorem bl_m (x : Int32) : ∃ m, m ≤ 200 ∧ (∀ i, i < 200 → (x ≤ nI i ↔ m ≤ i)) ∧ (x ≤ 200 → ∀ i, i ≤ 200 → (x ≤ nI i ↔ m ≤ i)) ∧ (¬ x ≤ 200 → m = 200) := by
  by_cases h0 : x < 0
  · have h1 : ∀ i, i ≤ 200 → (x ≤ nI i ↔ 0 ≤ i) := fun i hi => ⟨fun _ => Nat.zero_le i, fun _ => Int32.le_trans (Int32.le_of_lt h0) (nI_pos' (by omega))⟩
    refine ⟨0, by omega, fun i hi => h1 i (by omega), fun _ => h1, fun h => absurd ?_ h⟩
    exact Int32.le_trans (Int32.le_of_lt h0) (by decide)
  · obtain ⟨j, hj, rfl⟩ := nI_of h0
    by_cases h2 : j ≤ 200
    · have h1 : ∀ i, i ≤ 200 → (nI j ≤ nI i ↔ j ≤ i) := fun i hi => nI_leI (by omega) (by omega)
      exact ⟨j, h2, fun i hi => h1 i (by omega), fun _ => h1, fun h => absurd (nI_le (b := 200) h2 (by omega)) h⟩
    · have h3 : ¬ nI j ≤ (200 : Int32) := nI_ge (a := 200) (by omega) hj
      refine ⟨200, by omega, fun i hi => ?_, fun h => absurd h h3, fun _ => rfl⟩
      rw [nI_leI hj (by omega)]
      omega
end
section
/-! the relation, and the constructors -/
def i_Rel (k : Nat) (u : SX) (v : SY) : Prop := ∃ (L : Nat) (lds st tf po rc tk : Nat → Int32) (A : bl_A), bl_st L lds tf po rc ∧ bl_dy L A ∧ bl_RX L lds st tf po rc tk A u ∧ bl_RY L lds st tf po rc tk A v
theorem i_up {k : Nat} {u : SX} {v : SY} (h : i_Rel k u v) : i_Rel (k + 5) u v := h
/-- the two states taken apart -/
theorem bl_el {k : Nat} {Z : SX → SY → Prop} (h : ∀ (L : Nat) (lds st tf po rc tk : Nat → Int32) (fg : Int32) (hl : Nat → Int32) (w : Nat → bl_S) (hd cnt gap kx gs cn pl ky : Nat → Int32), bl_st L lds tf po rc → bl_OK L w → bl_hs hl → bl_XW w hd cnt gap kx gs → bl_YW w cn pl ky → Z (nI L, fg, hd, cnt, gap, kx, gs, lds, st, tf, po, rc, tk, hl) (nI L, fg, cn, pl, ky, lds, st, tf, po, rc, tk, hl)) {u : SX} {v : SY} (I : i_Rel k u v) : Z u v := by
  obtain ⟨L, lds, st, tf, po, rc, tk, ⟨fg, hl, w⟩, S, ⟨O, hh⟩, ⟨hd, cnt, gap, kx, gs, eu, WX⟩, ⟨cn, pl, ky, ev, WY⟩⟩ := I
  rw [eu, ev]
  exact h L lds st tf po rc tk fg hl w hd cnt gap kx gs cn pl ky S O hh WX WY
theorem bl_mk {k L : Nat} {fg : Int32} {hd cnt gap kx gs cn pl ky lds st tf po rc tk hl : Nat → Int32} {w : Nat → bl_S} (S : bl_st L lds tf po rc) (O : bl_OK L w) (hh : bl_hs hl) (WX : bl_XW w hd cnt gap kx gs) (WY : bl_YW w cn pl ky) : i_Rel k (nI L, fg, hd, cnt, gap, kx, gs, lds, st, tf, po, rc, tk, hl) (nI L, fg, cn, pl, ky, lds, st, tf, po, rc, tk, hl) :=
  ⟨L, lds, st, tf, po, rc, tk, (fg, hl, w), S, ⟨O, hh⟩, ⟨hd, cnt, gap, kx, gs, rfl, WX⟩, ⟨cn, pl, ky, rfl, WY⟩⟩
section
variable {fl fg : Int32} {hd cnt gap kx gs lds st tf po rc tk hl : Nat → Int32}
theorem bl_xi_s {post : SX → Prop} {n j : Nat} (hj : j < 4) (H : wX_init_117 post fl fg n (nI (j + 1)) hd cnt gap kx gs (upd lds j (-1)) st tf po rc tk hl) : wX_init_117 post fl fg (n + 1) (nI j) hd cnt gap kx gs lds st tf po rc tk hl :=
  br_f (nI_ge (b := 4) hj (by omega)) (And.intro (vp_in_nI hj (by omega)) (nm_r (e' := upd lds j (-1)) (by rw [nI_clamp (by omega)]) (nm_r (nI_1 j) H)))
theorem bl_xi_h {post : SX → Prop} {n j : Nat} (hj : j < 2) (H : wX_init_137 post fl fg n (nI (j + 1)) hd cnt gap kx gs lds st tf po rc tk (upd hl j (-4))) : wX_init_137 post fl fg (n + 1) (nI j) hd cnt gap kx gs lds st tf po rc tk hl :=
  br_f (nI_ge (b := 2) hj (by omega)) (And.intro (vp_in_nI hj (by omega)) (nm_r (e' := upd hl j (-4)) (by rw [nI_clamp (by omega)]) (nm_r (nI_1 j) H)))
theorem bl_xi {post : SX → Prop} (H : post (fl, fg, hd, cnt, gap, kx, gs, upd (upd (upd (upd lds 0 (-1)) 1 (-1)) 2 (-1)) 3 (-1), st, tf, po, rc, tk, upd (upd hl 0 (-4)) 1 (-4))) : ∃ n : Nat, wX_init_117 post fl fg n 0 hd cnt gap kx gs lds st tf po rc tk hl :=
  ⟨5, bl_xi_s (j := 0) (by omega) (bl_xi_s (j := 1) (by omega) (bl_xi_s (j := 2) (by omega) (bl_xi_s (j := 3) (by omega) (br_t (nI_le (a := 4) (Nat.le_refl 4) (by omega)) ⟨3, bl_xi_h (j := 0) (by omega) (bl_xi_h (j := 1) (by omega) (br_t (nI_le (a := 2) (Nat.le_refl 2) (by omega)) H))⟩))))⟩
end
section
variable {fl fg : Int32} {cn pl ky lds st tf po rc tk hl : Nat → Int32}
theorem bl_yi_s {post : SY → Prop} {n j : Nat} (hj : j < 4) (H : wY_init_103 post fl fg n (nI (j + 1)) cn pl ky (upd lds j (-1)) st tf po rc tk hl) : wY_init_103 post fl fg (n + 1) (nI j) cn pl ky lds st tf po rc tk hl :=
  br_f (nI_ge (b := 4) hj (by omega)) (And.intro (vp_in_nI hj (by omega)) (nm_r (e' := upd lds j (-1)) (by rw [nI_clamp (by omega)]) (nm_r (nI_1 j) H)))
theorem bl_yi {post : SY → Prop} (H : post (fl, fg, cn, pl, ky, upd (upd (upd (upd lds 0 (-1)) 1 (-1)) 2 (-1)) 3 (-1), st, tf, po, rc, tk, upd (upd hl 0 (-4)) 1 (-4))) : ∃ n : Nat, wY_init_103 post fl fg n 0 cn pl ky lds st tf po rc tk hl :=
  ⟨5, bl_yi_s (j := 0) (by omega) (bl_yi_s (j := 1) (by omega) (bl_yi_s (j := 2) (by omega) (bl_yi_s (j := 3) (by omega) (br_t (nI_le (a := 4) (Nat.le_refl 4) (by omega)) (nm_e (nm_e H))))))⟩
end
def bl_z : Nat → Int32 := fun _ => 0
def bl_l0 : Nat → Int32 := upd (upd (upd (upd bl_z 0 (-1)) 1 (-1)) 2 (-1)) 3 (-1)
def bl_h0 : Nat → Int32 := upd (upd bl_z 0 (-4)) 1 (-4)
theorem bl_init (x : Int32) : ∃ L : Nat, 8 ≤ L ∧ L ≤ 60 ∧ (∀ post : SX → Prop, post (nI L, 0, bl_z, bl_z, bl_z, bl_z, bl_z, bl_l0, bl_z, bl_z, bl_z, bl_z, bl_z, bl_h0) → wpX_init post x) ∧ (∀ post : SY → Prop, post (nI L, 0, bl_z, bl_z, bl_z, bl_l0, bl_z, bl_z, bl_z, bl_z, bl_z, bl_h0) → wpY_init post x) := by
  by_cases h8 : 8 ≤ x
  · by_cases h60 : x ≤ 60
    · have h0 : ¬ x < 0 := fun h => by
        rw [Int32.lt_iff_toInt_lt] at h
        rw [Int32.le_iff_toInt_le] at h8
        have e1 : (8 : Int32).toInt = 8 := by decide
        have e2 : (0 : Int32).toInt = 0 := by decide
        omega
      obtain ⟨j, hj, rfl⟩ := nI_of2 (M := 60) (n := 60) (by decide) h0 h60
      have hj8 : 8 ≤ j := (nI_leI (a := 8) (by omega) (by omega)).mp h8
      exact ⟨j, hj8, hj, fun post H => br_t h8 (br_t h60 (bl_xi H)), fun post H => br_t h8 (br_t h60 (bl_yi H))⟩
    · exact ⟨60, by omega, by omega, fun post H => br_t h8 (br_f h60 (bl_xi H)), fun post H => br_t h8 (br_f h60 (bl_yi H))⟩
  · exact ⟨8, by omega, by omega, fun post H => br_f h8 (br_t (by decide) (bl_xi H)), fun post H => br_f h8 (br_t (by decide) (bl_yi H))⟩
theorem i_vc0 (k0 : Int32) : wpX_init (fun u => wpY_init (fun v => i_Rel 1 u v) k0) k0 := by
  obtain ⟨L, h8, hL, hX, hY⟩ := bl_init k0
  refine hX _ (hY _ (bl_mk (w := fun _ => (0, fun _ => 0, fun _ => 0)) ⟨h8, hL, fun b hb => Or.inl ?_, fun a _ => ⟨⟨0, by omega, rfl⟩, ⟨0, by omega, rfl⟩, ⟨0, by omega, rfl⟩⟩⟩ ?_ (fun a ha => Or.inl ?_) ?_ ?_))
  · rcases (show b = 0 ∨ b = 1 ∨ b = 2 ∨ b = 3 by omega) with e | e | e | e <;> subst e <;> rfl
  · exact fun b _ => ⟨fun i hi => absurd hi (Nat.not_lt_zero i), fun i hi => absurd hi (Nat.not_lt_zero _)⟩
  · rcases (show a = 0 ∨ a = 1 by omega) with e | e <;> subst e <;> rfl
  · exact fun b _ => ⟨0, by omega, rfl, rfl, rfl, fun i hi => absurd hi (Nat.not_lt_zero i)⟩
  · exact fun b _ => ⟨rfl, fun i hi => absurd hi (Nat.not_lt_zero i)⟩
end
section
/-! the calls -/
theorem bl_xbad1 {post : Int32 → Prop} {x : Int32} (h : x < 0 ∨ nI 4 ≤ x) (hp : post 1) : wpX_bad post x := by
  refine br_c (fun _ => hp) (fun h0 => br_f ?_ hp)
  rcases h with h | h
  · exact absurd h h0
  · exact Int32.not_lt.mpr h
section
variable {fl fg : Int32} {cn pl ky lds st tf po rc tk hl : Nat → Int32}
theorem bl_ybad1 {post : Int32 → Prop} {x : Int32} (h : x < 0 ∨ nI 4 ≤ x) (hp : post 1) : wpY_bad post (fl, fg, cn, pl, ky, lds, st, tf, po, rc, tk, hl) x := by
  refine br_c (fun _ => hp) (fun h0 => br_f ?_ hp)
  rcases h with h | h
  · exact absurd h h0
  · obtain ⟨j, hj, rfl⟩ := nI_of h0
    rw [nI_leI (by omega) hj] at h
    exact nI_ge (a := 3) (by omega) hj
end
theorem bl_ix (x : Int32) : (x < 0 ∨ nI 4 ≤ x) ∨ ∃ b, b < 4 ∧ x = nI b := by
  rcases pk_ix x (n := 4) (by omega) with h | h | h
  · exact Or.inl (Or.inl h)
  · exact Or.inl (Or.inr h)
  · exact Or.inr h
theorem i_vc_items {k : Nat} {u : SX} {v : SY} (I : i_Rel k u v) (hk : k + 5 ≤ 2561) (v1 : Int32) : wpX_items (fun r => wpY_items (fun r' => r' = r ∧ i_Rel (k + 5) u v) v v1) u v1 := by
  refine bl_el (Z := fun u v => wpX_items (fun r => wpY_items (fun r' => r' = r ∧ i_Rel (k + 5) u v) v v1) u v1) ?_ I
  intro L lds st tf po rc tk fg hl w hd cnt gap kx gs cn pl ky S O hh WX WY
  have I2 : i_Rel (k + 5) (nI L, fg, hd, cnt, gap, kx, gs, lds, st, tf, po, rc, tk, hl) (nI L, fg, cn, pl, ky, lds, st, tf, po, rc, tk, hl) := bl_mk S O hh WX WY
  unfold wpX_items wpY_items
  dsimp only
  rcases bl_ix v1 with h | ⟨b, hb, rfl⟩
  · exact bl_xbad1 h (br_f (by decide) (bl_ybad1 h (br_f (by decide) ⟨rfl, I2⟩)))
  · obtain ⟨c, P, K, hs⟩ := bl_w3 w b
    obtain ⟨h, h16, eh, ec, eg, eI⟩ := bl_Xat WX hb hs
    obtain ⟨ec', eI'⟩ := bl_Yat WY hb hs
    have hbI : vp_in (nI b) 4 := vp_in_nI hb (by omega)
    have hcl : (nI b).toNatClampNeg = b := nI_clamp (by omega)
    exact bl_xbad hb (br_t rfl ⟨hbI, bl_ybad hb (br_t rfl ⟨hbI, by rw [hcl, ec, ec'], I2⟩)⟩)
theorem i_vc_place {k : Nat} {u : SX} {v : SY} (I : i_Rel k u v) (hk : k + 5 ≤ 2561) (v1 : Int32) (v2 : Int32) : wpX_place (fun r => wpY_place (fun r' => r' = r ∧ i_Rel (k + 5) u v) v v1 v2) u v1 v2 := by
  refine bl_el (Z := fun u v => wpX_place (fun r => wpY_place (fun r' => r' = r ∧ i_Rel (k + 5) u v) v v1 v2) u v1 v2) ?_ I
  intro L lds st tf po rc tk fg hl w hd cnt gap kx gs cn pl ky S O hh WX WY
  have I2 : i_Rel (k + 5) (nI L, fg, hd, cnt, gap, kx, gs, lds, st, tf, po, rc, tk, hl) (nI L, fg, cn, pl, ky, lds, st, tf, po, rc, tk, hl) := bl_mk S O hh WX WY
  unfold wpX_place wpY_place
  dsimp only
  rcases bl_ix v1 with h | ⟨b, hb, rfl⟩
  · exact bl_xbad1 h (br_f (by decide) (bl_ybad1 h (br_f (by decide) ⟨rfl, I2⟩)))
  · obtain ⟨c, P, K, hs⟩ := bl_w3 w b
    have hL := S.2.1
    have ok := bl_Oat O hb hs
    have c16 := bl_c16 ok hL
    obtain ⟨h, h16, eh, ec, eg, eI⟩ := bl_Xat WX hb hs
    obtain ⟨ec', eI'⟩ := bl_Yat WY hb hs
    have hbI : vp_in (nI b) 4 := vp_in_nI hb (by omega)
    have hcl : (nI b).toNatClampNeg = b := nI_clamp (by omega)
    by_cases h0 : v2 < 0
    · exact bl_xbad hb (br_t rfl (br_t h0 (bl_ybad hb (br_t rfl (br_t h0 ⟨rfl, I2⟩)))))
    · obtain ⟨i, hi, rfl⟩ := nI_of h0
      refine bl_xbad hb (br_t rfl (br_f h0 ⟨hbI, pk_lt i c (fun z => ?_) (fun z => ?_) rfl (by rw [hcl]; exact ec)⟩))
      · have e0 : nI b * 16 + nI i = nI (16 * b + i) := bl_b16 b i
        refine bl_xplace hb hL WX hs ok z (bl_ybad hb (br_t rfl (br_f h0 ⟨hbI, pk_lt i c (fun _ => ?_) (fun z2 => absurd z (by omega)) rfl (by rw [hcl]; exact ec')⟩)))
        rw [e0]
        exact ⟨vp_in_nI (by omega) (by omega), by rw [nI_clamp (by omega)]; exact (eI' i z).1, I2⟩
      · exact bl_ybad hb (br_t rfl (br_f h0 ⟨hbI, pk_lt i c (fun z2 => absurd z (by omega)) (fun _ => ⟨rfl, I2⟩) rfl (by rw [hcl]; exact ec')⟩))
theorem i_vc_kind {k : Nat} {u : SX} {v : SY} (I : i_Rel k u v) (hk : k + 5 ≤ 2561) (v1 : Int32) (v2 : Int32) : wpX_kind (fun r => wpY_kind (fun r' => r' = r ∧ i_Rel (k + 5) u v) v v1 v2) u v1 v2 := by
  refine bl_el (Z := fun u v => wpX_kind (fun r => wpY_kind (fun r' => r' = r ∧ i_Rel (k + 5) u v) v v1 v2) u v1 v2) ?_ I
  intro L lds st tf po rc tk fg hl w hd cnt gap kx gs cn pl ky S O hh WX WY
  have I2 : i_Rel (k + 5) (nI L, fg, hd, cnt, gap, kx, gs, lds, st, tf, po, rc, tk, hl) (nI L, fg, cn, pl, ky, lds, st, tf, po, rc, tk, hl) := bl_mk S O hh WX WY
  unfold wpX_kind wpY_kind
  dsimp only
  rcases bl_ix v1 with h | ⟨b, hb, rfl⟩
  · exact bl_xbad1 h (br_f (by decide) (bl_ybad1 h (br_f (by decide) ⟨rfl, I2⟩)))
  · obtain ⟨c, P, K, hs⟩ := bl_w3 w b
    have hL := S.2.1
    have ok := bl_Oat O hb hs
    have c16 := bl_c16 ok hL
    obtain ⟨h, h16, eh, ec, eg, eI⟩ := bl_Xat WX hb hs
    obtain ⟨ec', eI'⟩ := bl_Yat WY hb hs
    have hbI : vp_in (nI b) 4 := vp_in_nI hb (by omega)
    have hcl : (nI b).toNatClampNeg = b := nI_clamp (by omega)
    by_cases h0 : v2 < 0
    · exact bl_xbad hb (br_t rfl (br_t h0 (bl_ybad hb (br_t rfl (br_t h0 ⟨rfl, I2⟩)))))
    · obtain ⟨i, hi, rfl⟩ := nI_of h0
      refine bl_xbad hb (br_t rfl (br_f h0 ⟨hbI, pk_lt i c (fun z => ?_) (fun z => ?_) rfl (by rw [hcl]; exact ec)⟩))
      · have e0 : nI b * 16 + nI i = nI (16 * b + i) := bl_b16 b i
        have q0c : (nI (16 * b + (h + i) % 16)).toNatClampNeg = 16 * b + (h + i) % 16 := nI_clamp (by omega)
        refine bl_slot hb h16 eh (i := i) (by omega) rfl rfl ⟨vp_in_nI (by omega) (by omega), bl_ybad hb (br_t rfl (br_f h0 ⟨hbI, pk_lt i c (fun _ => ?_) (fun z2 => absurd z (by omega)) rfl (by rw [hcl]; exact ec')⟩))⟩
        rw [e0]
        exact ⟨vp_in_nI (by omega) (by omega), by rw [nI_clamp (n := 16 * b + i) (by omega), q0c, (eI i z).2]; exact (eI' i z).2, I2⟩
      · exact bl_ybad hb (br_t rfl (br_f h0 ⟨hbI, pk_lt i c (fun z2 => absurd z (by omega)) (fun _ => ⟨rfl, I2⟩) rfl (by rw [hcl]; exact ec')⟩))
theorem i_vc_out {k : Nat} {u : SX} {v : SY} (I : i_Rel k u v) (hk : k + 5 ≤ 2561) : wpX_out (fun r => wpY_out (fun r' => r' = r ∧ i_Rel (k + 5) u v) v) u := by
  refine bl_el (Z := fun u v => wpX_out (fun r => wpY_out (fun r' => r' = r ∧ i_Rel (k + 5) u v) v) u) ?_ I
  intro L lds st tf po rc tk fg hl w hd cnt gap kx gs cn pl ky S O hh WX WY
  exact And.intro rfl (bl_mk S O hh WX WY)
theorem i_vc_held {k : Nat} {u : SX} {v : SY} (I : i_Rel k u v) (hk : k + 5 ≤ 2561) (v1 : Int32) : wpX_held (fun r => wpY_held (fun r' => r' = r ∧ i_Rel (k + 5) u v) v v1) u v1 := by
  refine bl_el (Z := fun u v => wpX_held (fun r => wpY_held (fun r' => r' = r ∧ i_Rel (k + 5) u v) v v1) u v1) ?_ I
  intro L lds st tf po rc tk fg hl w hd cnt gap kx gs cn pl ky S O hh WX WY
  have I2 : i_Rel (k + 5) (nI L, fg, hd, cnt, gap, kx, gs, lds, st, tf, po, rc, tk, hl) (nI L, fg, cn, pl, ky, lds, st, tf, po, rc, tk, hl) := bl_mk S O hh WX WY
  unfold wpX_held wpY_held
  dsimp only
  by_cases h0 : v1 < 0
  · exact br_t h0 (br_t h0 ⟨rfl, I2⟩)
  · by_cases h1 : v1 ≤ 1
    · obtain ⟨a, ha, rfl⟩ := nI_of2 (M := 1) (n := 1) (by decide) h0 h1
      have haI : vp_in (nI a) 2 := vp_in_nI (by omega) (by omega)
      exact br_f h0 (br_t h1 ⟨haI, br_f h0 (br_t h1 ⟨haI, rfl, I2⟩)⟩)
    · exact br_f h0 (br_f h1 (br_f h0 (br_f h1 ⟨rfl, I2⟩)))
theorem i_vc_room {k : Nat} {u : SX} {v : SY} (I : i_Rel k u v) (hk : k + 5 ≤ 2561) (v1 : Int32) : wpX_room (fun r => wpY_room (fun r' => r' = r ∧ i_Rel (k + 5) u v) v v1) u v1 := by
  refine bl_el (Z := fun u v => wpX_room (fun r => wpY_room (fun r' => r' = r ∧ i_Rel (k + 5) u v) v v1) u v1) ?_ I
  intro L lds st tf po rc tk fg hl w hd cnt gap kx gs cn pl ky S O hh WX WY
  have I2 : i_Rel (k + 5) (nI L, fg, hd, cnt, gap, kx, gs, lds, st, tf, po, rc, tk, hl) (nI L, fg, cn, pl, ky, lds, st, tf, po, rc, tk, hl) := bl_mk S O hh WX WY
  rcases bl_ix v1 with h | ⟨b, hb, rfl⟩
  · unfold wpX_room wpY_room
    dsimp only
    exact bl_xbad1 h (br_f (by decide) (bl_ybad1 h (br_f (by decide) ⟨rfl, I2⟩)))
  · obtain ⟨c, P, K, hs⟩ := bl_w3 w b
    have ok := bl_Oat O hb hs
    unfold wpX_room
    dsimp only
    refine bl_xbad hb (br_t rfl (bl_xroom hb S.2.1 S.1 WX hs ok rfl (fun hr => ⟨narrow_b1, ?_⟩) (fun hr => ⟨narrow_b0, ?_⟩)))
    · exact bl_yroom hb S.2.1 S.1 WY hs ok rfl (fun _ => ⟨rfl, I2⟩) (fun h => absurd hr h)
    · exact bl_yroom hb S.2.1 S.1 WY hs ok rfl (fun h => absurd h hr) (fun _ => ⟨rfl, I2⟩)
theorem i_vc_moving {k : Nat} {u : SX} {v : SY} (I : i_Rel k u v) (hk : k + 5 ≤ 2561) (v1 : Int32) : wpX_moving (fun r => wpY_moving (fun r' => r' = r ∧ i_Rel (k + 5) u v) v v1) u v1 := by
  refine bl_el (Z := fun u v => wpX_moving (fun r => wpY_moving (fun r' => r' = r ∧ i_Rel (k + 5) u v) v v1) u v1) ?_ I
  intro L lds st tf po rc tk fg hl w hd cnt gap kx gs cn pl ky S O hh WX WY
  have I2 : i_Rel (k + 5) (nI L, fg, hd, cnt, gap, kx, gs, lds, st, tf, po, rc, tk, hl) (nI L, fg, cn, pl, ky, lds, st, tf, po, rc, tk, hl) := bl_mk S O hh WX WY
  rcases bl_ix v1 with h | ⟨b, hb, rfl⟩
  · unfold wpX_moving wpY_moving
    dsimp only
    exact bl_xbad1 h (br_f (by decide) (bl_ybad1 h (br_f (by decide) ⟨rfl, I2⟩)))
  · obtain ⟨c, P, K, hs⟩ := bl_w3 w b
    have ok := bl_Oat O hb hs
    obtain ⟨f, hf⟩ := bl_fo_ex c P
    obtain ⟨h, h16, eh, ec, eg, eI⟩ := bl_Xat WX hb hs
    have hcl : (nI b).toNatClampNeg = b := nI_clamp (by omega)
    unfold wpX_moving
    dsimp only
    refine bl_xbad hb (br_t rfl ⟨vp_in_nI hb (by omega), bl_xfirst hb S.2.1 WX hs ok hf ?_⟩)
    refine bl_ymoving hb S.2.1 O WY hs hf ⟨?_, I2⟩
    rw [hcl, ec, pk_sub hf.1]
end
section
/-! the calls that change something -/
theorem i_vc_put {k : Nat} {u : SX} {v : SY} (I : i_Rel k u v) (hk : k + 5 ≤ 2561) (v1 : Int32) (v2 : Int32) : wpX_put (fun r u' => wpY_put (fun r' v' => r' = r ∧ i_Rel (k + 5) u' v') v v1 v2) u v1 v2 := by
  refine bl_el (Z := fun u v => wpX_put (fun r u' => wpY_put (fun r' v' => r' = r ∧ i_Rel (k + 5) u' v') v v1 v2) u v1 v2) ?_ I
  intro L lds st tf po rc tk fg hl w hd cnt gap kx gs cn pl ky S O hh WX WY
  have I2 : i_Rel (k + 5) (nI L, fg, hd, cnt, gap, kx, gs, lds, st, tf, po, rc, tk, hl) (nI L, fg, cn, pl, ky, lds, st, tf, po, rc, tk, hl) := bl_mk S O hh WX WY
  unfold wpX_put wpY_put
  dsimp only
  rcases bl_ix v1 with h | ⟨b, hb, rfl⟩
  · exact bl_xbad1 h (br_f (by decide) (bl_ybad1 h (br_f (by decide) ⟨rfl, I2⟩)))
  · obtain ⟨c, P, K, hs⟩ := bl_w3 w b
    have ok := bl_Oat O hb hs
    have hbI : vp_in (nI b) 4 := vp_in_nI hb (by omega)
    have hcl : (nI b).toNatClampNeg = b := nI_clamp (by omega)
    by_cases h0 : v2 < 0
    · exact bl_xbad hb (br_t rfl (br_t h0 (bl_ybad hb (br_t rfl (br_t h0 ⟨rfl, I2⟩)))))
    · by_cases h7 : v2 ≤ 7
      · obtain ⟨q, hq, rfl⟩ := nI_of2 (M := 7) (n := 7) (by decide) h0 h7
        refine bl_xbad hb (br_t rfl (br_f h0 (br_t h7 (bl_xroom hb S.2.1 S.1 WX hs ok rfl (fun hr => ?_) (fun hr => ?_)))))
        · refine br_f (by decide) (bl_xapp hb S.2.1 WX hs ok hr rfl rfl (fun cnt' gap' kx' gs' WX' => ⟨hbI, ?_⟩))
          refine bl_ybad hb (br_t rfl (br_f h0 (br_t h7 (bl_yroom hb S.2.1 S.1 WY hs ok rfl (fun _ => ?_) (fun h => absurd hr h)))))
          refine br_f (by decide) (bl_yapp hb S.2.1 O WY hs hr rfl rfl (fun cn' pl' ky' WY' => ⟨hbI, ?_, bl_mk S (bl_OKup O (bl_ok_ap ok hr hq)) hh WX' WY'⟩))
          obtain ⟨_, _, _, ec, _⟩ := bl_Xat WX' hb bl_up_s
          rw [hcl]
          exact ((bl_Yat WY' hb bl_up_s).1).trans ec.symm
        · refine br_t rfl ?_
          exact bl_ybad hb (br_t rfl (br_f h0 (br_t h7 (bl_yroom hb S.2.1 S.1 WY hs ok rfl (fun h => absurd h hr) (fun _ => br_t rfl ⟨rfl, I2⟩)))))
      · exact bl_xbad hb (br_t rfl (br_f h0 (br_f h7 (bl_ybad hb (br_t rfl (br_f h0 (br_f h7 ⟨rfl, I2⟩)))))))
theorem i_vc_take {k : Nat} {u : SX} {v : SY} (I : i_Rel k u v) (hk : k + 5 ≤ 2561) (v1 : Int32) : wpX_take (fun r u' => wpY_take (fun r' v' => r' = r ∧ i_Rel (k + 5) u' v') v v1) u v1 := by
  refine bl_el (Z := fun u v => wpX_take (fun r u' => wpY_take (fun r' v' => r' = r ∧ i_Rel (k + 5) u' v') v v1) u v1) ?_ I
  intro L lds st tf po rc tk fg hl w hd cnt gap kx gs cn pl ky S O hh WX WY
  have I2 : i_Rel (k + 5) (nI L, fg, hd, cnt, gap, kx, gs, lds, st, tf, po, rc, tk, hl) (nI L, fg, cn, pl, ky, lds, st, tf, po, rc, tk, hl) := bl_mk S O hh WX WY
  unfold wpX_take wpY_take
  dsimp only
  rcases bl_ix v1 with h | ⟨b, hb, rfl⟩
  · exact bl_xbad1 h (br_f (by decide) (bl_ybad1 h (br_f (by decide) ⟨rfl, I2⟩)))
  · obtain ⟨c, P, K, hs⟩ := bl_w3 w b
    have hL := S.2.1
    have ok := bl_Oat O hb hs
    have c16 := bl_c16 ok hL
    obtain ⟨ec', eI'⟩ := bl_Yat WY hb hs
    have hbI : vp_in (nI b) 4 := vp_in_nI hb (by omega)
    have hcl : (nI b).toNatClampNeg = b := nI_clamp (by omega)
    have h16I : vp_in (nI (16 * b)) 64 := vp_in_nI (by omega) (by omega)
    have h16c : (nI (16 * b)).toNatClampNeg = 16 * b := nI_clamp (by omega)
    refine bl_xbad hb (br_t rfl (bl_xend hb hL WX hs ok (fun c0 p0 => br_f (by decide) ?_) (fun hn => br_t rfl ?_)))
    · refine bl_xrm hb hL WX hs ok c0 rfl rfl (fun hd' cnt' gap' kx' gs' WX' => ?_)
      refine bl_ybad hb (br_t rfl ⟨hbI, br_f (by rw [hcl, ec']; exact nI_ne0 c0 (by omega)) ?_⟩)
      have e0 : pl (16 * b) = 0 := by
        have := (eI' 0 c0).1
        rw [p0] at this; exact this
      rw [bl_b160, h16c, e0]
      refine ⟨h16I, br_t (by decide) ?_⟩
      exact bl_yrm hb hL O WY hs c0 rfl rfl (fun cn' pl' ky' WY' => ⟨rfl, bl_mk S (bl_OKup O (bl_ok_rm ok)) hh WX' WY'⟩)
    · refine bl_ybad hb (br_t rfl ⟨hbI, pk_eq c 0 (fun _ => ⟨rfl, I2⟩) (fun z => ?_) (by rw [hcl]; exact ec')⟩)
      have c0 : 0 < c := by omega
      have hP := ok.1 0 c0
      have e0 : pl (16 * b) = nI (P 0) := (eI' 0 c0).1
      rw [bl_b160, h16c, e0]
      exact ⟨h16I, br_f (nI_nle (by omega) (by omega)) ⟨rfl, I2⟩⟩
theorem bl_lead3 {x : Int32} (h2 : ¬ x < -2) (h4 : ¬ 4 ≤ x) : x = -1 ∨ x = -2 ∨ ∃ t, t < 4 ∧ x = nI t := by
  by_cases h0 : x < 0
  · rw [Int32.lt_iff_toInt_lt, show (-2 : Int32).toInt = -2 from by decide] at h2
    rw [Int32.lt_iff_toInt_lt, show (0 : Int32).toInt = 0 from by decide] at h0
    by_cases e : x.toInt = -1
    · exact Or.inl (Int32.toInt_inj.mp (e.trans (show -1 = (-1 : Int32).toInt from by decide)))
    · have e2 : x.toInt = -2 := by omega
      exact Or.inr (Or.inl (Int32.toInt_inj.mp (e2.trans (show -2 = (-2 : Int32).toInt from by decide))))
  · obtain ⟨t, ht, rfl⟩ := nI_of h0
    refine Or.inr (Or.inr ⟨t, ?_, rfl⟩)
    refine Nat.lt_of_not_le fun hle => h4 ?_
    exact nI_le (a := 4) hle ht
theorem bl_4i3 {x : Int32} : 4 ≤ x ↔ 3 < x := by
  rw [Int32.le_iff_toInt_le, Int32.lt_iff_toInt_lt, show (4 : Int32).toInt = 4 from by decide, show (3 : Int32).toInt = 3 from by decide]
  omega
theorem i_vc_lead {k : Nat} {u : SX} {v : SY} (I : i_Rel k u v) (hk : k + 5 ≤ 2561) (v1 : Int32) (v2 : Int32) : wpX_lead (fun r u' => wpY_lead (fun r' v' => r' = r ∧ i_Rel (k + 5) u' v') v v1 v2) u v1 v2 := by
  refine bl_el (Z := fun u v => wpX_lead (fun r u' => wpY_lead (fun r' v' => r' = r ∧ i_Rel (k + 5) u' v') v v1 v2) u v1 v2) ?_ I
  intro L lds st tf po rc tk fg hl w hd cnt gap kx gs cn pl ky S O hh WX WY
  have I2 : i_Rel (k + 5) (nI L, fg, hd, cnt, gap, kx, gs, lds, st, tf, po, rc, tk, hl) (nI L, fg, cn, pl, ky, lds, st, tf, po, rc, tk, hl) := bl_mk S O hh WX WY
  unfold wpX_lead wpY_lead
  dsimp only
  rcases bl_ix v1 with h | ⟨b, hb, rfl⟩
  · exact bl_xbad1 h (br_f (by decide) (bl_ybad1 h (br_f (by decide) ⟨rfl, I2⟩)))
  · have hbI : vp_in (nI b) 4 := vp_in_nI hb (by omega)
    have hcl : (nI b).toNatClampNeg = b := nI_clamp (by omega)
    by_cases h2 : v2 < -2
    · exact bl_xbad hb (br_t rfl (br_t h2 (bl_ybad hb (br_t rfl (br_t h2 ⟨rfl, I2⟩)))))
    · by_cases h4 : 4 ≤ v2
      · exact bl_xbad hb (br_t rfl (br_f h2 (br_t h4 (bl_ybad hb (br_t rfl (br_f h2 (br_t (bl_4i3.mp h4) ⟨rfl, I2⟩)))))))
      · have h3 : ¬ 3 < v2 := fun h => h4 (bl_4i3.mpr h)
        by_cases he : v2 = nI b
        · exact bl_xbad hb (br_t rfl (br_f h2 (br_f h4 (br_t he (bl_ybad hb (br_t rfl (br_f h2 (br_f h3 (br_t he ⟨rfl, I2⟩)))))))))
        · refine bl_xbad hb (br_t rfl (br_f h2 (br_f h4 (br_f he ⟨hbI, nm_e ⟨hbI, nm_e ?_⟩⟩))))
          refine bl_ybad hb (br_t rfl (br_f h2 (br_f h3 (br_f he ⟨hbI, nm_e ⟨hbI, nm_e ⟨rfl, ?_⟩⟩⟩))))
          rw [hcl]
          refine bl_mk ⟨S.1, S.2.1, fun d hd4 => ?_, S.2.2.2⟩ O hh WX WY
          by_cases e : d = b
          · subst e
            rw [pk_us]
            rcases bl_lead3 h2 h4 with h | h | ⟨t, ht, h⟩
            · exact Or.inl h
            · exact Or.inr (Or.inl h)
            · exact Or.inr (Or.inr ⟨t, ht, fun e => he (by rw [h, e]), h⟩)
          · rw [pk_un e]; exact S.2.2.1 d hd4
theorem i_vc_arm {k : Nat} {u : SX} {v : SY} (I : i_Rel k u v) (hk : k + 5 ≤ 2561) (v1 : Int32) (v2 : Int32) (v3 : Int32) (v4 : Int32) : wpX_arm (fun r u' => wpY_arm (fun r' v' => r' = r ∧ i_Rel (k + 5) u' v') v v1 v2 v3 v4) u v1 v2 v3 v4 := by
  refine bl_el (Z := fun u v => wpX_arm (fun r u' => wpY_arm (fun r' v' => r' = r ∧ i_Rel (k + 5) u' v') v v1 v2 v3 v4) u v1 v2 v3 v4) ?_ I
  intro L lds st tf po rc tk fg hl w hd cnt gap kx gs cn pl ky S O hh WX WY
  have I2 : i_Rel (k + 5) (nI L, fg, hd, cnt, gap, kx, gs, lds, st, tf, po, rc, tk, hl) (nI L, fg, cn, pl, ky, lds, st, tf, po, rc, tk, hl) := bl_mk S O hh WX WY
  unfold wpX_arm wpY_arm
  dsimp only
  by_cases h0 : v1 < 0
  · exact br_t h0 (br_t h0 ⟨rfl, I2⟩)
  · by_cases h1 : 1 < v1
    · exact br_f h0 (br_t h1 (br_f h0 (br_t h1 ⟨rfl, I2⟩)))
    · by_cases h30 : v3 < 0
      · exact br_f h0 (br_f h1 (br_t h30 (br_f h0 (br_f h1 (br_t h30 ⟨rfl, I2⟩)))))
      · by_cases h60 : v3 ≤ 60
        · obtain ⟨a, ha, rfl⟩ := nI_of2 (M := 1) (n := 1) (by decide) h0 (Int32.not_lt.mp h1)
          obtain ⟨r, hr, rfl⟩ := nI_of2 (M := 60) (n := 60) (by decide) h30 h60
          have haI : vp_in (nI a) 2 := vp_in_nI (by omega) (by omega)
          have hac : (nI a).toNatClampNeg = a := nI_clamp (by omega)
          refine br_f h0 (br_f h1 (br_f h30 (br_t h60 ⟨haI, nm_e ⟨haI, nm_e ⟨haI, nm_e ⟨haI, nm_e ⟨haI, nm_e ?_⟩⟩⟩⟩⟩)))
          refine br_f h0 (br_f h1 (br_f h30 (br_t h60 ⟨haI, nm_e ⟨haI, nm_e ⟨haI, nm_e ⟨haI, nm_e ⟨haI, nm_e ⟨rfl, ?_⟩⟩⟩⟩⟩⟩)))
          rw [hac]
          refine bl_mk ⟨S.1, S.2.1, S.2.2.1, fun d hd2 => ?_⟩ O hh WX WY
          by_cases e : d = a
          · subst e
            rw [pk_us, pk_us, pk_us]
            exact ⟨pk_andE v2 2 (by decide), pk_andE _ 2 (by decide), ⟨r, hr, rfl⟩⟩
          · rw [pk_un e, pk_un e, pk_un e]; exact S.2.2.2 d hd2
        · exact br_f h0 (br_f h1 (br_f h30 (br_f h60 (br_f h0 (br_f h1 (br_f h30 (br_f h60 ⟨rfl, I2⟩)))))))
theorem i_vc_tick {k : Nat} {u : SX} {v : SY} (I : i_Rel k u v) (hk : k + 5 ≤ 2561) (v1 : Int32) : wpX_tick (fun r u' => wpY_tick (fun r' v' => r' = r ∧ i_Rel (k + 5) u' v') v v1) u v1 := by
  refine bl_el (Z := fun u v => wpX_tick (fun r u' => wpY_tick (fun r' v' => r' = r ∧ i_Rel (k + 5) u' v') v v1) u v1) ?_ I
  intro L lds st tf po rc tk fg hl w hd cnt gap kx gs cn pl ky S O hh WX WY
  obtain ⟨m, hm, m1, m2, m3⟩ := bl_m v1
  obtain ⟨A', D', hX, hY⟩ := bl_ticks (st := st) (tk := tk) S hm m 0 (fg, hl, w) (Nat.zero_add m) ⟨O, hh⟩
  have hfin : ∀ hd' cnt' gap' kx' gs' : Nat → Int32, bl_XW A'.2.2 hd' cnt' gap' kx' gs' → wpY_tick (fun r' v' => r' = A'.1 - fg ∧ i_Rel (k + 5) (nI L, A'.1, hd', cnt', gap', kx', gs', lds, st, tf, po, rc, tk, A'.2.1) v') (nI L, fg, cn, pl, ky, lds, st, tf, po, rc, tk, hl) v1 := by
    intro hd' cnt' gap' kx' gs' WX'
    refine Exists.intro 201 (hY _ v1 fg 201 cn pl ky m1 (by omega) WY (fun cn' pl' ky' WY' => ⟨rfl, ?_⟩))
    exact bl_mk S D'.1 D'.2 WX' WY'
  refine br_c (fun h => ?_) (fun h => ?_)
  · exact ⟨m + 1, hX _ v1 fg (m + 1) hd cnt gap kx gs (m2 h) (by omega) WX hfin⟩
  · have e := m3 h
    subst e
    exact ⟨201, hX _ 200 fg 201 hd cnt gap kx gs (fun i hi => nI_leI (a := 200) (by omega) (by omega)) (by omega) WX hfin⟩
end
