section
/-- the stored number of the abstract key j: o = 0 the first object (7 j), o > 0 the second one (behind its first letter) -/
def bv_e (o j : Nat) : Nat := if j = 0 then 0 else if o = 0 then 7 * j else 343 * o + j
theorem bv_e_0 (o : Nat) : bv_e o 0 = 0 := by simp [bv_e]
theorem bv_e_c {j : Nat} : bv_e 0 j = 7 * j := by
  unfold bv_e
  by_cases h : j = 0
  · rw [if_pos h]; omega
  · rw [if_neg h, if_pos rfl]
theorem bv_e_d {o j : Nat} (ho : 0 < o) (hj : 0 < j) : bv_e o j = 343 * o + j := by
  unfold bv_e
  rw [if_neg (by omega), if_neg (by omega)]
theorem bv_e_lt {o j : Nat} (ho : o ≤ 6) (hj : j ≤ 343) : bv_e o j ≤ 2401 := by
  unfold bv_e
  by_cases h : j = 0
  · rw [if_pos h]; omega
  · rw [if_neg h]
    by_cases h2 : o = 0
    · rw [if_pos h2]; omega
    · rw [if_neg h2]; omega
theorem bv_e_le {o i j : Nat} (hi : 0 < i) (hj : 0 < j) : bv_e o i ≤ bv_e o j ↔ i ≤ j := by
  by_cases h : o = 0
  · subst h; rw [bv_e_c, bv_e_c]; omega
  · rw [bv_e_d (by omega) hi, bv_e_d (by omega) hj]; omega
theorem bv_e_eq {o i j : Nat} : bv_e o i = bv_e o j ↔ i = j := by
  by_cases h : o = 0
  · subst h; rw [bv_e_c, bv_e_c]; omega
  · by_cases hi : i = 0
    · by_cases hj : j = 0
      · rw [hi, hj]; exact ⟨fun _ => rfl, fun _ => rfl⟩
      · rw [hi, bv_e_0, bv_e_d (by omega) (by omega)]; omega
    · by_cases hj : j = 0
      · rw [hj, bv_e_0, bv_e_d (by omega) (by omega)]; omega
      · rw [bv_e_d (by omega) (by omega), bv_e_d (by omega) (by omega)]; omega
theorem bv_le {o i j : Nat} (ho : o ≤ 6) (hi : 0 < i) (hi2 : i ≤ 343) (hj : 0 < j) (hj2 : j ≤ 343) : nI (bv_e o i) ≤ nI (bv_e o j) ↔ i ≤ j := by
  have h1 := bv_e_lt ho hi2
  have h2 := bv_e_lt ho hj2
  rw [nI_leI (by omega) (by omega)]
  exact bv_e_le hi hj
theorem bv_eq {o i j : Nat} (ho : o ≤ 6) (hi2 : i ≤ 343) (hj2 : j ≤ 343) : nI (bv_e o i) = nI (bv_e o j) ↔ i = j := by
  have h1 := bv_e_lt ho hi2
  have h2 := bv_e_lt ho hj2
  rw [nI_eq (by omega) (by omega)]
  exact bv_e_eq
theorem bv_eq0 {o i : Nat} (ho : o ≤ 6) (hi2 : i ≤ 343) : nI (bv_e o i) = 0 ↔ i = 0 := by
  have h := @bv_eq o i 0 ho hi2 (by omega)
  rw [bv_e_0, nI_0] at h
  exact h
/-- an array of abstract keys as stored -/
def bv_g (o : Nat) (f : Nat → Nat) : Nat → Int32 := fun i => nI (bv_e o (f i))
def bv_u {α : Type} (f : Nat → α) (k : Nat) (x : α) : Nat → α := fun j => if j = k then x else f j
theorem bv_us {α : Type} {f : Nat → α} {k : Nat} {x : α} : bv_u f k x k = x := by simp [bv_u]
theorem bv_un {α : Type} {f : Nat → α} {k j : Nat} {x : α} (h : j ≠ k) : bv_u f k x j = f j := by simp [bv_u, h]
theorem bv_g_upd (o : Nat) (f : Nat → Nat) (k x : Nat) : upd (bv_g o f) k (nI (bv_e o x)) = bv_g o (bv_u f k x) := by
  funext j
  unfold upd bv_g bv_u
  by_cases h : j = k
  · rw [if_pos h, if_pos h]
  · rw [if_neg h, if_neg h]
theorem bv_g_0 (o : Nat) : bv_g o (fun _ => 0) = (fun _ => 0) := by
  funext j
  unfold bv_g
  rw [bv_e_0]
  rfl
theorem bv_uc {f : Nat → Int32} {k j : Nat} {x y : Int32} (h : upd f k x j = y) : (j = k ∧ x = y) ∨ (j ≠ k ∧ f j = y) := by
  by_cases e : j = k
  · subst e
    rw [pk_us] at h
    exact Or.inl ⟨rfl, h⟩
  · rw [pk_un e] at h
    exact Or.inr ⟨e, h⟩
theorem bv_uu (f : Nat → Int32) (k : Nat) (x y : Int32) : upd (upd f k x) k y = upd f k y := by
  funext j
  by_cases e : j = k
  · subst e; rw [pk_us, pk_us]
  · rw [pk_un e, pk_un e, pk_un e]
/-- how many places below m are not 0 -/
def bv_c (f : Nat → Int32) : Nat → Nat
  | 0 => 0
  | m + 1 => bv_c f m + (if f m = 0 then 0 else 1)
theorem bv_c_s0 {f : Nat → Int32} {m : Nat} (h : f m = 0) : bv_c f (m + 1) = bv_c f m := by
  show bv_c f m + (if f m = 0 then 0 else 1) = bv_c f m
  rw [if_pos h, Nat.add_zero]
theorem bv_c_s1 {f : Nat → Int32} {m : Nat} (h : ¬ f m = 0) : bv_c f (m + 1) = bv_c f m + 1 := by
  show bv_c f m + (if f m = 0 then 0 else 1) = bv_c f m + 1
  rw [if_neg h]
theorem bv_c_le (f : Nat → Int32) (m : Nat) : bv_c f m ≤ m := by
  induction m with
  | zero => exact Nat.le_refl 0
  | succ m ih =>
    by_cases h : f m = 0
    · rw [bv_c_s0 h]; omega
    · rw [bv_c_s1 h]; omega
theorem bv_c_full {f : Nat → Int32} (m : Nat) (h : ∀ v, v < m → ¬ f v = 0) : bv_c f m = m := by
  induction m with
  | zero => rfl
  | succ m ih => rw [bv_c_s1 (h m (by omega)), ih (fun v hv => h v (by omega))]
theorem bv_c_out {f : Nat → Int32} {k : Nat} {x : Int32} (m : Nat) (h : m ≤ k) : bv_c (upd f k x) m = bv_c f m := by
  induction m with
  | zero => rfl
  | succ m ih =>
    have e : upd f k x m = f m := pk_un (by omega)
    by_cases h0 : f m = 0
    · rw [bv_c_s0 h0, bv_c_s0 (by rw [e]; exact h0), ih (by omega)]
    · rw [bv_c_s1 h0, bv_c_s1 (by rw [e]; exact h0), ih (by omega)]
theorem bv_c_set {f : Nat → Int32} {k : Nat} {x : Int32} (m : Nat) (hk : k < m) (h0 : f k = 0) (hx : ¬ x = 0) : bv_c (upd f k x) m = bv_c f m + 1 := by
  induction m with
  | zero => omega
  | succ m ih =>
    by_cases ek : k = m
    · subst ek
      rw [bv_c_s1 (by rw [pk_us]; exact hx), bv_c_s0 h0, bv_c_out k (Nat.le_refl k)]
    · have e : upd f k x m = f m := pk_un (by omega)
      by_cases hm : f m = 0
      · rw [bv_c_s0 hm, bv_c_s0 (by rw [e]; exact hm), ih (by omega)]
      · rw [bv_c_s1 hm, bv_c_s1 (by rw [e]; exact hm), ih (by omega)]
theorem bv_c_clr {f : Nat → Int32} {k : Nat} (m : Nat) (hk : k < m) (h0 : ¬ f k = 0) : bv_c (upd f k 0) m + 1 = bv_c f m := by
  induction m with
  | zero => omega
  | succ m ih =>
    by_cases ek : k = m
    · subst ek
      rw [bv_c_s0 (by rw [pk_us]), bv_c_s1 h0, bv_c_out k (Nat.le_refl k)]
    · have e : upd f k 0 m = f m := pk_un (by omega)
      have i := ih (by omega)
      by_cases hm : f m = 0
      · rw [bv_c_s0 hm, bv_c_s0 (by rw [e]; exact hm)]; exact i
      · rw [bv_c_s1 hm, bv_c_s1 (by rw [e]; exact hm)]; omega
theorem bv_c_pig (n : Nat) : ∀ (f : Nat → Int32) (h : Nat → Nat) (m : Nat), (∀ i, i < n → h i < m ∧ ¬ f (h i) = 0) → (∀ i j, i < n → j < n → h i = h j → i = j) → n ≤ bv_c f m := by
  induction n with
  | zero => intro f h m _ _; exact Nat.zero_le _
  | succ n ih =>
    intro f h m h1 h2
    obtain ⟨k1, k2⟩ := h1 n (by omega)
    have e := bv_c_clr m k1 k2
    have i := ih (upd f (h n) 0) h m (fun i hi => ?_) (fun i j hi hj => h2 i j (by omega) (by omega))
    · omega
    · refine ⟨(h1 i (by omega)).1, ?_⟩
      have ne : h i ≠ h n := fun z => by
        have := h2 i n (by omega) (by omega) z
        omega
      rw [pk_un ne]
      exact (h1 i (by omega)).2
/-- a pointer: none, or a used slot -/
def bv_T (a3 : Nat → Int32) (x : Int32) : Prop := x < 0 ∨ ∃ w, w < 24 ∧ x = nI w ∧ ¬ a3 w = 0
/-- the heads of the places D and the older ones of the used slots: used slots, no slot pointed to twice -/
def bv_H (D : Nat → Prop) (a2 a3 a7 : Nat → Int32) : Prop :=
  (∀ i, D i → ∃ v, v < 24 ∧ a2 i = nI v ∧ ¬ a3 v = 0) ∧
  (∀ v, v < 24 → ¬ a3 v = 0 → bv_T a3 (a7 v)) ∧
  (∀ i j, D i → D j → a2 i = a2 j → i = j) ∧
  (∀ u v w, u < 24 → v < 24 → ¬ a3 u = 0 → ¬ a3 v = 0 → w < 24 → a7 u = nI w → a7 v = nI w → u = v) ∧
  (∀ i u w, D i → u < 24 → ¬ a3 u = 0 → w < 24 → a2 i = nI w → a7 u = nI w → False)
/-- nothing points to w -/
def bv_O (D : Nat → Prop) (a2 a3 a7 : Nat → Int32) (w : Nat) : Prop :=
  (∀ i, D i → ¬ a2 i = nI w) ∧ (∀ u, u < 24 → ¬ a3 u = 0 → ¬ a7 u = nI w)
theorem bv_neg {y : Int32} {w : Nat} (hy : y < 0) (hw : w < 24) : ¬ y = nI w := by
  intro e
  rw [e] at hy
  exact nI_pos (by omega) hy
theorem bv_nn {a b : Nat} (ha : a < 24) (hb : b < 24) (h : nI a = nI b) : a = b := (nI_eq (by omega) (by omega)).mp h
theorem bv_used {a3 : Nat → Int32} {w v : Nat} (h : ¬ upd a3 w 0 v = 0) : v ≠ w ∧ ¬ a3 v = 0 := by
  have e : v ≠ w := by
    intro e
    subst e
    rw [pk_us] at h
    exact h rfl
  rw [pk_un e] at h
  exact ⟨e, h⟩
theorem bv_H_res {D D' : Nat → Prop} {a2 a2' a3 a7 : Nat → Int32} (h : bv_H D a2 a3 a7) (φ : Nat → Nat) (h1 : ∀ i, D' i → D (φ i) ∧ a2' i = a2 (φ i)) (h2 : ∀ i j, D' i → D' j → φ i = φ j → i = j) : bv_H D' a2' a3 a7 := by
  obtain ⟨p1, p2, p3, p4, p5⟩ := h
  refine ⟨fun i hi => ?_, p2, fun i j hi hj e => ?_, p4, fun i u w hi hu su hw e f => ?_⟩
  · rw [(h1 i hi).2]; exact p1 _ (h1 i hi).1
  · rw [(h1 i hi).2, (h1 j hj).2] at e
    exact h2 i j hi hj (p3 _ _ (h1 i hi).1 (h1 j hj).1 e)
  · rw [(h1 i hi).2] at e
    exact p5 _ u w (h1 i hi).1 hu su hw e f
theorem bv_O_res {D D' : Nat → Prop} {a2 a2' a3 a7 : Nat → Int32} {w : Nat} (h : bv_O D a2 a3 a7 w) (φ : Nat → Nat) (h1 : ∀ i, D' i → D (φ i) ∧ a2' i = a2 (φ i)) : bv_O D' a2' a3 a7 w := by
  refine ⟨fun i hi => ?_, h.2⟩
  rw [(h1 i hi).2]; exact h.1 _ (h1 i hi).1
/-- a head is taken away: what it pointed to is free of pointers -/
theorem bv_H_off {D : Nat → Prop} {a2 a3 a7 : Nat → Int32} {q v : Nat} (h : bv_H D a2 a3 a7) (hq : D q) (hv : v < 24) (e : a2 q = nI v) : bv_H (fun i => D i ∧ i ≠ q) a2 a3 a7 ∧ bv_O (fun i => D i ∧ i ≠ q) a2 a3 a7 v := by
  refine ⟨bv_H_res h (fun i => i) (fun i hi => ⟨hi.1, rfl⟩) (fun i j _ _ e => e), fun i hi f => ?_, fun u hu su f => ?_⟩
  · exact hi.2 (h.2.2.1 i q hi.1 hq (by rw [f, e]))
  · exact h.2.2.2.2 q u v hq hu su hv e f
theorem bv_H_cut {D : Nat → Prop} {a2 a3 a7 : Nat → Int32} {u : Nat} {y : Int32} (h : bv_H D a2 a3 a7) (hy : y < 0) : bv_H D a2 a3 (upd a7 u y) := by
  obtain ⟨p1, p2, p3, p4, p5⟩ := h
  refine ⟨p1, fun v hv sv => ?_, p3, fun a b w ha hb sa sb hw e f => ?_, fun i a w hi ha sa hw e f => ?_⟩
  · by_cases e : v = u
    · subst e; rw [pk_us]; exact Or.inl hy
    · rw [pk_un e]; exact p2 v hv sv
  · rcases bv_uc e with ⟨_, z⟩ | ⟨_, z⟩
    · exact absurd z (bv_neg hy hw)
    · rcases bv_uc f with ⟨_, z2⟩ | ⟨_, z2⟩
      · exact absurd z2 (bv_neg hy hw)
      · exact p4 a b w ha hb sa sb hw z z2
  · rcases bv_uc f with ⟨_, z⟩ | ⟨_, z⟩
    · exact absurd z (bv_neg hy hw)
    · exact p5 i a w hi ha sa hw e z
theorem bv_O_cut {D : Nat → Prop} {a2 a3 a7 : Nat → Int32} {u w : Nat} {y : Int32} (h : bv_H D a2 a3 a7) (hy : y < 0) (hu : u < 24) (su : ¬ a3 u = 0) (hw : w < 24) (e : a7 u = nI w) : bv_O D a2 a3 (upd a7 u y) w := by
  obtain ⟨p1, p2, p3, p4, p5⟩ := h
  refine ⟨fun i hi f => p5 i u w hi hu su hw f e, fun a ha sa f => ?_⟩
  rcases bv_uc f with ⟨_, z⟩ | ⟨ne, z⟩
  · exact absurd z (bv_neg hy hw)
  · exact ne (p4 a u w ha hu sa su hw z e)
theorem bv_H_clr {D : Nat → Prop} {a2 a3 a7 : Nat → Int32} {w : Nat} (h : bv_H D a2 a3 a7) (ho : bv_O D a2 a3 a7 w) : bv_H D a2 (upd a3 w 0) a7 := by
  obtain ⟨p1, p2, p3, p4, p5⟩ := h
  refine ⟨fun i hi => ?_, fun v hv sv => ?_, p3, fun a b x ha hb sa sb hw e f => p4 a b x ha hb (bv_used sa).2 (bv_used sb).2 hw e f, fun i a x hi ha sa hw e f => p5 i a x hi ha (bv_used sa).2 hw e f⟩
  · obtain ⟨v, hv, e, sv⟩ := p1 i hi
    have ne : v ≠ w := fun z => ho.1 i hi (by rw [e, z])
    exact ⟨v, hv, e, by rw [pk_un ne]; exact sv⟩
  · have s := bv_used sv
    rcases p2 v hv s.2 with z | ⟨x, hx, e, sx⟩
    · exact Or.inl z
    · have ne : x ≠ w := fun z => ho.2 v hv s.2 (by rw [e, z])
      exact Or.inr ⟨x, hx, e, by rw [pk_un ne]; exact sx⟩
/-- behind a cleared slot: the next one is used and free of pointers -/
theorem bv_O_clr {D : Nat → Prop} {a2 a3 a7 : Nat → Int32} {w x : Nat} (h : bv_H D a2 a3 a7) (ho : bv_O D a2 a3 a7 w) (hw : w < 24) (sw : ¬ a3 w = 0) (hx : x < 24) (e : a7 w = nI x) : bv_O D a2 (upd a3 w 0) a7 x ∧ ¬ upd a3 w 0 x = 0 := by
  obtain ⟨p1, p2, p3, p4, p5⟩ := h
  refine ⟨⟨fun i hi f => p5 i w x hi hw sw hx f e, fun a ha sa f => ?_⟩, ?_⟩
  · exact (bv_used sa).1 (p4 a w x ha hw (bv_used sa).2 sw hx f e)
  · have ne : x ≠ w := fun z => ho.2 w hw sw (by rw [e, z])
    rw [pk_un ne]
    rcases p2 w hw sw with z | ⟨y, hy, f, sy⟩
    · exact absurd e (bv_neg z hx)
    · have := bv_nn hx hy (by rw [← e, f])
      subst this
      exact sy
theorem bv_H_hd {D D' : Nat → Prop} {a2 a3 a7 : Nat → Int32} {q x : Nat} (h : bv_H D a2 a3 a7) (ho : bv_O D a2 a3 a7 x) (hx : x < 24) (sx : ¬ a3 x = 0) (hD : ∀ i, D' i → i ≠ q → D i) : bv_H D' (upd a2 q (nI x)) a3 a7 := by
  obtain ⟨p1, p2, p3, p4, p5⟩ := h
  refine ⟨fun i hi => ?_, p2, fun i j hi hj e => ?_, p4, fun i u w hi hu su hw e f => ?_⟩
  · by_cases e : i = q
    · subst e; rw [pk_us]; exact ⟨x, hx, rfl, sx⟩
    · rw [pk_un e]; exact p1 i (hD i hi e)
  · by_cases ei : i = q
    · by_cases ej : j = q
      · rw [ei, ej]
      · subst ei
        rw [pk_us, pk_un ej] at e
        exact absurd e.symm (ho.1 j (hD j hj ej))
    · by_cases ej : j = q
      · subst ej
        rw [pk_us, pk_un ei] at e
        exact absurd e (ho.1 i (hD i hi ei))
      · rw [pk_un ei, pk_un ej] at e
        exact p3 i j (hD i hi ei) (hD j hj ej) e
  · rcases bv_uc e with ⟨_, z⟩ | ⟨ne, z⟩
    · have := bv_nn hx hw z
      subst this
      exact ho.2 u hu su f
    · exact p5 i u w (hD i hi ne) hu su hw z f
theorem bv_H_lnk {D : Nat → Prop} {a2 a3 a7 : Nat → Int32} {u x : Nat} (h : bv_H D a2 a3 a7) (ho : bv_O D a2 a3 a7 x) (hx : x < 24) (sx : ¬ a3 x = 0) : bv_H D a2 a3 (upd a7 u (nI x)) := by
  obtain ⟨p1, p2, p3, p4, p5⟩ := h
  refine ⟨p1, fun v hv sv => ?_, p3, fun a b w ha hb sa sb hw e f => ?_, fun i a w hi ha sa hw e f => ?_⟩
  · by_cases e : v = u
    · subst e; rw [pk_us]; exact Or.inr ⟨x, hx, rfl, sx⟩
    · rw [pk_un e]; exact p2 v hv sv
  · rcases bv_uc e with ⟨ea, z⟩ | ⟨ea, z⟩
    · have := bv_nn hx hw z
      subst this
      rcases bv_uc f with ⟨eb, _⟩ | ⟨_, z2⟩
      · rw [ea, eb]
      · exact absurd z2 (ho.2 b hb sb)
    · rcases bv_uc f with ⟨_, z2⟩ | ⟨_, z2⟩
      · have := bv_nn hx hw z2
        subst this
        exact absurd z (ho.2 a ha sa)
      · exact p4 a b w ha hb sa sb hw z z2
  · rcases bv_uc f with ⟨_, z⟩ | ⟨_, z⟩
    · have := bv_nn hx hw z
      subst this
      exact ho.1 i hi e
    · exact p5 i a w hi ha sa hw e z
/-- a slot that isn't used: nothing points to it -/
theorem bv_O_free {D : Nat → Prop} {a2 a3 a7 : Nat → Int32} {v : Nat} (h : bv_H D a2 a3 a7) (hv : v < 24) (e0 : a3 v = 0) : bv_O D a2 a3 a7 v := by
  refine ⟨fun i hi f => ?_, fun u hu su f => ?_⟩
  · obtain ⟨w, hw, e, sw⟩ := h.1 i hi
    have := bv_nn hv hw (by rw [← f, e])
    subst this
    exact sw e0
  · rcases h.2.1 u hu su with z | ⟨w, hw, e, sw⟩
    · exact bv_neg z hv f
    · have := bv_nn hv hw (by rw [← f, e])
      subst this
      exact sw e0
theorem bv_used1 {a3 : Nat → Int32} {w v : Nat} (h : ¬ upd a3 w 1 v = 0) : v = w ∨ (v ≠ w ∧ ¬ a3 v = 0) := by
  by_cases e : v = w
  · exact Or.inl e
  · rw [pk_un e] at h
    exact Or.inr ⟨e, h⟩
theorem bv_use1 {a3 : Nat → Int32} {w v : Nat} (h : ¬ a3 v = 0) : ¬ upd a3 w 1 v = 0 := by
  by_cases e : v = w
  · subst e; rw [pk_us]; decide
  · rw [pk_un e]; exact h
theorem bv_H_new {D : Nat → Prop} {a2 a3 a7 : Nat → Int32} {v : Nat} (h : bv_H D a2 a3 a7) : bv_H D a2 (upd a3 v 1) (upd a7 v (-1)) := by
  obtain ⟨p1, p2, p3, p4, p5⟩ := bv_H_cut (u := v) h (y := -1) (by decide)
  have m1 : (-1 : Int32) < 0 := by decide
  refine ⟨fun i hi => ?_, fun u hu su => ?_, p3, fun a b w ha hb sa sb hw e f => ?_, fun i a w hi ha sa hw e f => ?_⟩
  · obtain ⟨w, hw, e, sw⟩ := p1 i hi
    exact ⟨w, hw, e, bv_use1 sw⟩
  · rcases bv_used1 su with z | ⟨ne, z⟩
    · subst z; rw [pk_us]; exact Or.inl m1
    · rcases p2 u hu z with y | ⟨w, hw, e, sw⟩
      · exact Or.inl y
      · exact Or.inr ⟨w, hw, e, bv_use1 sw⟩
  · rcases bv_used1 sa with z | ⟨na, za⟩
    · subst z; rw [pk_us] at e; exact absurd e (bv_neg m1 hw)
    · rcases bv_used1 sb with z | ⟨nb, zb⟩
      · subst z; rw [pk_us] at f; exact absurd f (bv_neg m1 hw)
      · exact p4 a b w ha hb za zb hw e f
  · rcases bv_used1 sa with z | ⟨na, za⟩
    · subst z; rw [pk_us] at f; exact absurd f (bv_neg m1 hw)
    · exact p5 i a w hi ha za hw e f
theorem bv_O_new {D : Nat → Prop} {a2 a3 a7 : Nat → Int32} {v w : Nat} (hw : w < 24) (h : bv_O D a2 a3 a7 w) : bv_O D a2 (upd a3 v 1) (upd a7 v (-1)) w := by
  refine ⟨h.1, fun u hu su f => ?_⟩
  rcases bv_used1 su with z | ⟨ne, z⟩
  · subst z; rw [pk_us] at f; exact absurd f (bv_neg (by decide) hw)
  · rw [pk_un ne] at f
    exact h.2 u hu z f
theorem bv_O_lnk {D : Nat → Prop} {a2 a3 a7 : Nat → Int32} {u w x : Nat} (hw : w < 24) (hx : x < 24) (ne : x ≠ w) (h : bv_O D a2 a3 a7 w) : bv_O D a2 a3 (upd a7 u (nI x)) w := by
  refine ⟨h.1, fun a ha sa f => ?_⟩
  rcases bv_uc f with ⟨_, z⟩ | ⟨_, z⟩
  · exact ne (bv_nn hx hw z)
  · exact h.2 a ha sa z
theorem bv_H_n {n : Nat} {a2 a3 a7 : Nat → Int32} (h : bv_H (fun i => i < n) a2 a3 a7) : n ≤ bv_c a3 24 := by
  refine bv_c_pig n a3 (fun i => (a2 i).toNatClampNeg) 24 (fun i hi => ?_) (fun i j hi hj e => ?_)
  · obtain ⟨v, hv, e, sv⟩ := h.1 i hi
    have c : (a2 i).toNatClampNeg = v := pk_cl v e
    show (a2 i).toNatClampNeg < 24 ∧ ¬ a3 (a2 i).toNatClampNeg = 0
    rw [c]
    exact ⟨hv, sv⟩
  · obtain ⟨v, hv, ev, sv⟩ := h.1 i hi
    obtain ⟨w, hw, ew, sw⟩ := h.1 j hj
    have c : (a2 i).toNatClampNeg = v := pk_cl v ev
    have d : (a2 j).toNatClampNeg = w := pk_cl w ew
    have e' : (a2 i).toNatClampNeg = (a2 j).toNatClampNeg := e
    refine h.2.2.1 i j hi hj ?_
    rw [ev, ew]
    rw [c, d] at e'
    rw [e']
/-- the keys of the places below n -/
def bv_K (n : Nat) (ks : Nat → Nat) : Prop := ∀ i, i < n → 49 ≤ ks i ∧ ks i < 343
/-- the directory and its versions -/
def bv_Q (n th : Nat) (ks : Nat → Nat) (a2 a3 a7 : Nat → Int32) : Prop := th = bv_c a3 24 ∧ bv_K n ks ∧ bv_H (fun i => i < n) a2 a3 a7
theorem bv_Q_n {n th : Nat} {ks : Nat → Nat} {a2 a3 a7 : Nat → Int32} (h : bv_Q n th ks a2 a3 a7) : n ≤ th ∧ th ≤ 24 := by
  obtain ⟨h1, h2, h3⟩ := h
  have a := bv_H_n h3
  have b := bv_c_le a3 24
  omega
end
section
theorem bv_slot (a3 a4 : Nat → Int32) (x : Int32) : ∃ r : Int32, (r = -1 ∨ ∃ v, v < 24 ∧ r = nI v ∧ ¬ a3 v = 0) ∧ ∀ (post : Int32 → Prop) (ty bu ke md th : Int32) (a1 a2 a5 a6 a7 a8 a9 a10 : Nat → Int32), post r → wpX_slotOf post (ty, bu, ke, md, th, a1, a2, a3, a4, a5, a6, a7, a8, a9, a10) x := by
  have main : ∀ m i, i + m = 24 → ∃ r : Int32, (r = -1 ∨ ∃ v, v < 24 ∧ r = nI v ∧ ¬ a3 v = 0) ∧ ∀ (post : Int32 → Prop) (ty bu ke md th : Int32) (a1 a2 a5 a6 a7 a8 a9 a10 : Nat → Int32), post r → wX_slotOf_2 post x ty bu ke md th a1 a2 a3 a4 a5 a6 a7 a8 a9 a10 (m + 1) (nI i) := by
    intro m
    induction m with
    | zero =>
      intro i hi
      refine ⟨-1, Or.inl rfl, fun post ty bu ke md th a1 a2 a5 a6 a7 a8 a9 a10 hp => ?_⟩
      exact pk_le 24 i (fun _ => hp) (fun z => absurd z (by omega))
    | succ m ih =>
      intro i hi
      obtain ⟨r, hr, hw⟩ := ih (i + 1) (by omega)
      by_cases h3 : a3 i = 0
      · refine ⟨r, hr, fun post ty bu ke md th a1 a2 a5 a6 a7 a8 a9 a10 hp => ?_⟩
        exact pk_le 24 i (fun z => absurd z (by omega)) (fun _ => ⟨pk_in i 24 (by omega), br_t (by rw [nI_clamp (by omega)]; exact h3) (nm_r (nI_1 i) (hw post ty bu ke md th a1 a2 a5 a6 a7 a8 a9 a10 hp))⟩)
      · by_cases h4 : a4 i = x
        · refine ⟨nI i, Or.inr ⟨i, by omega, rfl, h3⟩, fun post ty bu ke md th a1 a2 a5 a6 a7 a8 a9 a10 hp => ?_⟩
          exact pk_le 24 i (fun z => absurd z (by omega)) (fun _ => ⟨pk_in i 24 (by omega), br_f (by rw [nI_clamp (by omega)]; exact h3) ⟨pk_in i 24 (by omega), br_t (by rw [nI_clamp (by omega)]; exact h4) hp⟩⟩)
        · refine ⟨r, hr, fun post ty bu ke md th a1 a2 a5 a6 a7 a8 a9 a10 hp => ?_⟩
          exact pk_le 24 i (fun z => absurd z (by omega)) (fun _ => ⟨pk_in i 24 (by omega), br_f (by rw [nI_clamp (by omega)]; exact h3) ⟨pk_in i 24 (by omega), br_f (by rw [nI_clamp (by omega)]; exact h4) (nm_r (nI_1 i) (hw post ty bu ke md th a1 a2 a5 a6 a7 a8 a9 a10 hp))⟩⟩)
  obtain ⟨r, hr, hw⟩ := main 24 0 rfl
  exact ⟨r, hr, fun post ty bu ke md th a1 a2 a5 a6 a7 a8 a9 a10 hp => ⟨25, hw post ty bu ke md th a1 a2 a5 a6 a7 a8 a9 a10 hp⟩⟩
theorem bv_freeV {a3 : Nat → Int32} (h : bv_c a3 24 < 24) : ∃ v, v < 24 ∧ a3 v = 0 ∧ ∀ (post : Int32 → Prop) (ty bu ke md th : Int32) (a1 a2 a4 a5 a6 a7 a8 a9 a10 : Nat → Int32), post (nI v) → wpX_freeVersion post (ty, bu, ke, md, th, a1, a2, a3, a4, a5, a6, a7, a8, a9, a10) := by
  have main : ∀ m i, i + m = 23 → (∀ w, w < i → ¬ a3 w = 0) → ∃ v, v < 24 ∧ a3 v = 0 ∧ ∀ (post : Int32 → Prop) (ty bu ke md th : Int32) (a1 a2 a4 a5 a6 a7 a8 a9 a10 : Nat → Int32), post (nI v) → wX_freeVersion_2 post ty bu ke md th a1 a2 a3 a4 a5 a6 a7 a8 a9 a10 (m + 1) (nI i) := by
    intro m
    induction m with
    | zero =>
      intro i hi hu
      have e : i = 23 := by omega
      subst e
      have h0 : a3 23 = 0 := by
        by_cases z : a3 23 = 0
        · exact z
        · have := bv_c_full (f := a3) 24 (fun v hv => by
            by_cases e : v = 23
            · rw [e]; exact z
            · exact hu v (by omega))
          omega
      exact ⟨23, by omega, h0, fun post ty bu ke md th a1 a2 a4 a5 a6 a7 a8 a9 a10 hp => pk_le 23 23 (fun _ => hp) (fun z => absurd z (by omega))⟩
    | succ m ih =>
      intro i hi hu
      by_cases h3 : a3 i = 0
      · refine ⟨i, by omega, h3, fun post ty bu ke md th a1 a2 a4 a5 a6 a7 a8 a9 a10 hp => ?_⟩
        exact pk_le 23 i (fun z => absurd z (by omega)) (fun _ => ⟨pk_in i 24 (by omega), br_t (by rw [nI_clamp (by omega)]; exact h3) hp⟩)
      · obtain ⟨v, hv, h0, hw⟩ := ih (i + 1) (by omega) (lt_s hu h3)
        refine ⟨v, hv, h0, fun post ty bu ke md th a1 a2 a4 a5 a6 a7 a8 a9 a10 hp => ?_⟩
        exact pk_le 23 i (fun z => absurd z (by omega)) (fun _ => ⟨pk_in i 24 (by omega), br_f (by rw [nI_clamp (by omega)]; exact h3) (nm_r (nI_1 i) (hw post ty bu ke md th a1 a2 a4 a5 a6 a7 a8 a9 a10 hp))⟩)
  obtain ⟨v, hv, h0, hw⟩ := main 23 0 rfl (fun w hw => absurd hw (by omega))
  exact ⟨v, hv, h0, fun post ty bu ke md th a1 a2 a4 a5 a6 a7 a8 a9 a10 hp => ⟨24, hw post ty bu ke md th a1 a2 a4 a5 a6 a7 a8 a9 a10 hp⟩⟩
/-- the search: where it ends is the same in all objects whose keys stand to x as ks to t -/
theorem bv_seek {n : Nat} (hn : n ≤ 24) (t : Nat) (ks : Nat → Nat) : ∃ q, q ≤ n ∧ ∀ (post : Int32 → Prop) (x ty bu md th : Int32) (a1 a2 a3 a4 a5 a6 a7 a8 a9 a10 : Nat → Int32), (∀ i, i < n → (x ≤ a1 i ↔ t ≤ ks i)) → post (nI q) → wpX_seek post (ty, bu, nI n, md, th, a1, a2, a3, a4, a5, a6, a7, a8, a9, a10) x := by
  have main : ∀ m l h, h ≤ l + m → l ≤ h → h ≤ n → ∃ q, q ≤ n ∧ ∀ (post : Int32 → Prop) (x ty bu md th : Int32) (a1 a2 a3 a4 a5 a6 a7 a8 a9 a10 : Nat → Int32), (∀ i, i < n → (x ≤ a1 i ↔ t ≤ ks i)) → post (nI q) → wX_seek_7 post x ty bu (nI n) md th a1 a2 a3 a4 a5 a6 a7 a8 a9 a10 (m + 1) (nI l) (nI h) := by
    intro m
    induction m with
    | zero =>
      intro l h h1 h2 h3
      exact ⟨l, by omega, fun post x ty bu md th a1 a2 a3 a4 a5 a6 a7 a8 a9 a10 hx hp => pk_le h l (fun _ => hp) (fun z => absurd z (by omega))⟩
    | succ m ih =>
      intro l h h1 h2 h3
      by_cases hl : h ≤ l
      · exact ⟨l, by omega, fun post x ty bu md th a1 a2 a3 a4 a5 a6 a7 a8 a9 a10 hx hp => pk_le h l (fun _ => hp) (fun z => absurd z (by omega))⟩
      · have ed : (nI l + nI h) / 2 = nI ((l + h) / 2) := by
          rw [nI_add]
          exact pk_div (d := 2) (by omega) (by omega) (by omega)
        have b1 : l ≤ (l + h) / 2 := by omega
        have b2 : (l + h) / 2 < h := by omega
        generalize (l + h) / 2 = c at ed b1 b2
        by_cases ht : t ≤ ks c
        · obtain ⟨q, hq, hw⟩ := ih l c (by omega) b1 (by omega)
          refine ⟨q, hq, fun post x ty bu md th a1 a2 a3 a4 a5 a6 a7 a8 a9 a10 hx hp => ?_⟩
          exact pk_le h l (fun z => absurd z (by omega)) (fun _ => ⟨by decide, nm_r ed ⟨pk_in c 24 (by omega), br_t (by rw [nI_clamp (by omega)]; exact (hx c (by omega)).mpr ht) (hw post x ty bu md th a1 a2 a3 a4 a5 a6 a7 a8 a9 a10 hx hp)⟩⟩)
        · obtain ⟨q, hq, hw⟩ := ih (c + 1) h (by omega) (by omega) (by omega)
          refine ⟨q, hq, fun post x ty bu md th a1 a2 a3 a4 a5 a6 a7 a8 a9 a10 hx hp => ?_⟩
          exact pk_le h l (fun z => absurd z (by omega)) (fun _ => ⟨by decide, nm_r ed ⟨pk_in c 24 (by omega), br_f (by rw [nI_clamp (by omega)]; exact fun z => ht ((hx c (by omega)).mp z)) (nm_r (nI_1 c) (hw post x ty bu md th a1 a2 a3 a4 a5 a6 a7 a8 a9 a10 hx hp))⟩⟩)
  obtain ⟨q, hq, hw⟩ := main n 0 n (by omega) (by omega) (by omega)
  exact ⟨q, hq, fun post x ty bu md th a1 a2 a3 a4 a5 a6 a7 a8 a9 a10 hx hp => ⟨n + 1, hw post x ty bu md th a1 a2 a3 a4 a5 a6 a7 a8 a9 a10 hx hp⟩⟩
theorem bv_ge {o n k : Nat} {ks : Nat → Nat} (ho : o ≤ 6) (hK : bv_K n ks) (k1 : 0 < k) (k2 : k ≤ 343) : ∀ i, i < n → (nI (bv_e o k) ≤ bv_g o ks i ↔ k ≤ ks i) := by
  intro i hi
  have h := hK i hi
  exact bv_le ho k1 k2 (by omega) (by omega)
theorem bv_place {n : Nat} {ks : Nat → Nat} (hn : n ≤ 24) (hK : bv_K n ks) {k : Nat} (k1 : 49 ≤ k) (k2 : k < 343) : ∃ r : Int32, (r = -1 ∨ ∃ i, i < n ∧ r = nI i) ∧ ∀ (o : Nat), o ≤ 6 → ∀ (post : Int32 → Prop) (ty bu md th : Int32) (a2 a3 a4 a5 a6 a7 a8 a9 a10 : Nat → Int32), post r → wpX_placeOf post (ty, bu, nI n, md, th, bv_g o ks, a2, a3, a4, a5, a6, a7, a8, a9, a10) (nI (bv_e o k)) := by
  obtain ⟨q, hq, hw⟩ := bv_seek hn k ks
  by_cases h1 : n ≤ q
  · refine ⟨-1, Or.inl rfl, fun o ho post ty bu md th a2 a3 a4 a5 a6 a7 a8 a9 a10 hp => ?_⟩
    unfold wpX_placeOf
    dsimp only
    refine hw _ _ _ _ _ _ _ _ _ _ _ _ _ _ _ _ (bv_ge ho hK (by omega) (by omega)) ?_
    exact pk_le n q (fun _ => hp) (fun z => absurd z (by omega))
  · have b := hK q (by omega)
    by_cases h2 : ks q = k
    · refine ⟨nI q, Or.inr ⟨q, by omega, rfl⟩, fun o ho post ty bu md th a2 a3 a4 a5 a6 a7 a8 a9 a10 hp => ?_⟩
      unfold wpX_placeOf
      dsimp only
      refine hw _ _ _ _ _ _ _ _ _ _ _ _ _ _ _ _ (bv_ge ho hK (by omega) (by omega)) ?_
      refine pk_le n q (fun z => absurd z (by omega)) (fun _ => ⟨pk_in q 24 (by omega), br_t ?_ hp⟩)
      rw [nI_clamp (by omega)]
      exact (bv_eq ho (by omega) (by omega)).mpr h2
    · refine ⟨-1, Or.inl rfl, fun o ho post ty bu md th a2 a3 a4 a5 a6 a7 a8 a9 a10 hp => ?_⟩
      unfold wpX_placeOf
      dsimp only
      refine hw _ _ _ _ _ _ _ _ _ _ _ _ _ _ _ _ (bv_ge ho hK (by omega) (by omega)) ?_
      refine pk_le n q (fun z => absurd z (by omega)) (fun _ => ⟨pk_in q 24 (by omega), br_f ?_ hp⟩)
      rw [nI_clamp (by omega)]
      exact fun z => h2 ((bv_eq ho (by omega) (by omega)).mp z)
theorem bv_pres {n : Nat} {a2 a3 a7 : Nat → Int32} (hn : n ≤ 24) (hH : bv_H (fun i => i < n) a2 a3 a7) (a6 : Nat → Int32) {r : Int32} (hr : r = -1 ∨ ∃ i, i < n ∧ r = nI i) : ∃ b : Int32, (b = 0 ∨ b = 1) ∧ (¬ b = 0 → ∃ i v, i < n ∧ r = nI i ∧ v < 24 ∧ a2 i = nI v ∧ ¬ a3 v = 0) ∧ ∀ (post : Int32 → Prop) (ty bu ke md th : Int32) (a1 b3 a4 a5 b7 a8 a9 a10 : Nat → Int32), post b → wpX_isPresent post (ty, bu, ke, md, th, a1, a2, b3, a4, a5, a6, b7, a8, a9, a10) r := by
  rcases hr with hr | ⟨i, hi, hr⟩
  · subst hr
    refine ⟨0, Or.inl rfl, fun z => absurd rfl z, fun post ty bu ke md th a1 b3 a4 a5 b7 a8 a9 a10 hp => ?_⟩
    exact br_t (by decide) hp
  · subst hr
    obtain ⟨v, hv, e, sv⟩ := hH.1 i hi
    by_cases h6 : a6 v = 0
    · refine ⟨1, Or.inr rfl, fun _ => ⟨i, v, hi, rfl, hv, e, sv⟩, fun post ty bu ke md th a1 b3 a4 a5 b7 a8 a9 a10 hp => ?_⟩
      refine br_f (nI_pos (by omega)) ⟨pk_in i 24 (by omega), ?_⟩
      rw [nI_clamp (show i < 2 ^ 31 by omega), e, nI_clamp (show v < 2 ^ 31 by omega)]
      exact ⟨pk_in v 24 hv, br_t h6 hp⟩
    · refine ⟨0, Or.inl rfl, fun z => absurd rfl z, fun post ty bu ke md th a1 b3 a4 a5 b7 a8 a9 a10 hp => ?_⟩
      refine br_f (nI_pos (by omega)) ⟨pk_in i 24 (by omega), ?_⟩
      rw [nI_clamp (show i < 2 ^ 31 by omega), e, nI_clamp (show v < 2 ^ 31 by omega)]
      exact ⟨pk_in v 24 hv, br_f h6 hp⟩
/-- a picture of an object: keys, made, there, abstract keys, newest, used, number, contents, marker, older, abstract keys of uploads, parts, values -/
abbrev bv_P : Type := Nat × Int32 × Nat × (Nat → Nat) × (Nat → Int32) × (Nat → Int32) × (Nat → Int32) × (Nat → Int32) × (Nat → Int32) × (Nat → Int32) × (Nat → Nat) × (Nat → Int32) × (Nat → Int32)
def bv_S (o : Nat) (ty bu : Int32) (p : bv_P) : St1 := match p with
  | (n, md, th, ks, a2, a3, a4, a5, a6, a7, us, a9, a10) => (ty, bu, nI n, md, nI th, bv_g o ks, a2, a3, a4, a5, a6, a7, bv_g o us, a9, a10)
def bv_U (us : Nat → Nat) : Prop := ∀ i, i < 3 → us i = 0 ∨ (49 ≤ us i ∧ us i < 343)
def bv_J (p : bv_P) : Prop := match p with
  | (n, md, th, ks, a2, a3, a4, a5, a6, a7, us, a9, a10) => bv_Q n th ks a2 a3 a7 ∧ bv_U us
theorem bv_get {p : bv_P} (hJ : bv_J p) {k : Nat} (k1 : 49 ≤ k) (k2 : k < 343) : ∃ r : Int32, ∀ (o : Nat), o ≤ 6 → ∀ (ty : Int32) (post : Int32 → Prop), post r → wpX_get post (bv_S o ty (nI (bv_e o k)) p) := by
  obtain ⟨n, md, th, ks, a2, a3, a4, a5, a6, a7, us, a9, a10⟩ := p
  obtain ⟨hQ, hU⟩ := hJ
  have hn := bv_Q_n hQ
  obtain ⟨q1, hK, hH⟩ := hQ
  obtain ⟨r, hr, hw⟩ := bv_place (by omega) hK k1 k2
  obtain ⟨b, hb, hb2, hv⟩ := bv_pres (by omega) hH a6 hr
  by_cases h0 : b = 0
  · refine ⟨0, fun o ho ty post hp => ?_⟩
    unfold wpX_get bv_S
    dsimp only
    refine hw o ho _ _ _ _ _ _ _ _ _ _ _ _ _ _ ?_
    refine hv _ _ _ _ _ _ _ _ _ _ _ _ _ _ ?_
    exact br_t h0 hp
  · obtain ⟨i, v, hi, er, hv24, e, sv⟩ := hb2 h0
    refine ⟨a5 v, fun o ho ty post hp => ?_⟩
    unfold wpX_get bv_S
    dsimp only
    refine hw o ho _ _ _ _ _ _ _ _ _ _ _ _ _ _ ?_
    refine hv _ _ _ _ _ _ _ _ _ _ _ _ _ _ ?_
    refine br_f h0 ?_
    rw [er]
    refine ⟨pk_in i 24 (by omega), ?_⟩
    rw [nI_clamp (show i < 2 ^ 31 by omega), e, nI_clamp (show v < 2 ^ 31 by omega)]
    exact ⟨pk_in v 24 hv24, hp⟩
theorem bv_present {p : bv_P} (hJ : bv_J p) {k : Nat} (k1 : 49 ≤ k) (k2 : k < 343) : ∃ r : Int32, ∀ (o : Nat), o ≤ 6 → ∀ (ty : Int32) (post : Int32 → Prop), post r → wpX_present post (bv_S o ty (nI (bv_e o k)) p) := by
  obtain ⟨n, md, th, ks, a2, a3, a4, a5, a6, a7, us, a9, a10⟩ := p
  obtain ⟨hQ, hU⟩ := hJ
  have hn := bv_Q_n hQ
  obtain ⟨q1, hK, hH⟩ := hQ
  obtain ⟨r, hr, hw⟩ := bv_place (by omega) hK k1 k2
  obtain ⟨b, hb, hb2, hv⟩ := bv_pres (by omega) hH a6 hr
  refine ⟨b, fun o ho ty post hp => ?_⟩
  unfold wpX_present bv_S
  dsimp only
  refine hw o ho _ _ _ _ _ _ _ _ _ _ _ _ _ _ ?_
  refine hv _ _ _ _ _ _ _ _ _ _ _ _ _ _ ?_
  refine ⟨?_, hp⟩
  rcases hb with hb | hb
  · rw [hb]; rfl
  · rw [hb]; rfl
theorem bv_ver30 {a3 a7 : Nat → Int32} (hT : ∀ v, v < 24 → ¬ a3 v = 0 → bv_T a3 (a7 v)) (a4 : Nat → Int32) {j : Nat} (hj : j < 2 ^ 31) : ∀ m i (x : Int32), i + m = j → bv_T a3 x → ∃ r : Int32, ∀ (post : Int32 → Prop) (ty bu ke md th : Int32) (a1 a2 a5 a6 a8 a9 a10 : Nat → Int32), post r → wX_versionAt_30 post (nI j) ty bu ke md th a1 a2 a3 a4 a5 a6 a7 a8 a9 a10 (m + 1) x (nI i) := by
  have tail : ∀ x : Int32, bv_T a3 x → ∃ r : Int32, ∀ (post : Int32 → Prop) (ty bu ke md th : Int32) (a1 a2 a5 a6 a8 a9 a10 : Nat → Int32), post r → wX_versionAt_53 post x ty bu ke md th a1 a2 a3 a4 a5 a6 a7 a8 a9 a10 := by
    intro x hx
    rcases hx with hx | ⟨w, hw, e, sw⟩
    · refine ⟨-7, fun post ty bu ke md th a1 a2 a5 a6 a8 a9 a10 hp => br_f (fun z => ?_) hp⟩
      exact absurd hx (Int32.not_lt.mpr z)
    · refine ⟨a4 w, fun post ty bu ke md th a1 a2 a5 a6 a8 a9 a10 hp => ?_⟩
      subst e
      refine br_t (nI_pos' (by omega)) ⟨pk_in w 24 hw, ?_⟩
      rw [nI_clamp (by omega)]
      exact hp
  intro m
  induction m with
  | zero =>
    intro i x hi hx
    obtain ⟨r, hr⟩ := tail x hx
    exact ⟨r, fun post ty bu ke md th a1 a2 a5 a6 a8 a9 a10 hp => pk_le j i (fun _ => hr post ty bu ke md th a1 a2 a5 a6 a8 a9 a10 hp) (fun z => absurd z (by omega))⟩
  | succ m ih =>
    intro i x hi hx
    have hx' := hx
    rcases hx with h | ⟨w, hw, e, sw⟩
    · obtain ⟨r, hr⟩ := tail x hx'
      exact ⟨r, fun post ty bu ke md th a1 a2 a5 a6 a8 a9 a10 hp => pk_le j i (fun z => absurd z (by omega)) (fun _ => br_t h (hr post ty bu ke md th a1 a2 a5 a6 a8 a9 a10 hp))⟩
    · subst e
      obtain ⟨r, hr⟩ := ih (i + 1) (a7 w) (by omega) (hT w hw sw)
      exact ⟨r, fun post ty bu ke md th a1 a2 a5 a6 a8 a9 a10 hp => pk_le j i (fun z => absurd z (by omega)) (fun _ => br_f (nI_pos (by omega)) ⟨pk_in w 24 hw, nm_r (by rw [nI_clamp (by omega)]) (nm_r (nI_1 i) (hr post ty bu ke md th a1 a2 a5 a6 a8 a9 a10 hp))⟩)⟩
theorem bv_versionAt {p : bv_P} (hJ : bv_J p) {k : Nat} (k1 : 49 ≤ k) (k2 : k < 343) {j : Nat} (hj : j < 2 ^ 31) : ∃ r : Int32, ∀ (o : Nat), o ≤ 6 → ∀ (ty : Int32) (post : Int32 → Prop), post r → wpX_versionAt post (bv_S o ty (nI (bv_e o k)) p) (nI j) := by
  obtain ⟨n, md, th, ks, a2, a3, a4, a5, a6, a7, us, a9, a10⟩ := p
  obtain ⟨hQ, hU⟩ := hJ
  have hn := bv_Q_n hQ
  obtain ⟨q1, hK, hH⟩ := hQ
  obtain ⟨r, hr, hw⟩ := bv_place (by omega) hK k1 k2
  rcases hr with hr | ⟨i, hi, hr⟩
  · refine ⟨-7, fun o ho ty post hp => ?_⟩
    unfold wpX_versionAt bv_S
    dsimp only
    refine hw o ho _ _ _ _ _ _ _ _ _ _ _ _ _ _ ?_
    exact br_t (by rw [hr]; decide) hp
  · obtain ⟨v, hv, e, sv⟩ := hH.1 i hi
    obtain ⟨r2, hr2⟩ := bv_ver30 hH.2.1 a4 hj j 0 (nI v) (by omega) (Or.inr ⟨v, hv, rfl, sv⟩)
    refine ⟨r2, fun o ho ty post hp => ?_⟩
    unfold wpX_versionAt bv_S
    dsimp only
    refine hw o ho _ _ _ _ _ _ _ _ _ _ _ _ _ _ ?_
    rw [hr]
    exact br_f (nI_pos (by omega)) (br_t (nI_pos' hj) ⟨pk_in i 24 (by omega), nm_r (by rw [nI_clamp (by omega), e]) ⟨j + 1, hr2 post ty _ _ _ _ _ _ _ _ _ _ _ hp⟩⟩)
theorem bv_content {p : bv_P} (x : Int32) : ∃ r : Int32, ∀ (o : Nat) (ty bu : Int32) (post : Int32 → Prop), post r → wpX_content post (bv_S o ty bu p) x := by
  obtain ⟨n, md, th, ks, a2, a3, a4, a5, a6, a7, us, a9, a10⟩ := p
  obtain ⟨r, hr, hw⟩ := bv_slot a3 a4 x
  rcases hr with hr | ⟨v, hv, hr, sv⟩
  · refine ⟨0, fun o ty bu post hp => ?_⟩
    unfold wpX_content bv_S
    dsimp only
    refine hw _ _ _ _ _ _ _ _ _ _ _ _ _ _ ?_
    exact br_t (by rw [hr]; decide) hp
  · by_cases h6 : a6 v = 0
    · refine ⟨a5 v, fun o ty bu post hp => ?_⟩
      unfold wpX_content bv_S
      dsimp only
      refine hw _ _ _ _ _ _ _ _ _ _ _ _ _ _ ?_
      rw [hr]
      refine br_f (nI_pos (by omega)) ⟨pk_in v 24 hv, ?_⟩
      rw [nI_clamp (show v < 2 ^ 31 by omega)]
      exact br_t h6 ⟨pk_in v 24 hv, hp⟩
    · refine ⟨0, fun o ty bu post hp => ?_⟩
      unfold wpX_content bv_S
      dsimp only
      refine hw _ _ _ _ _ _ _ _ _ _ _ _ _ _ ?_
      rw [hr]
      refine br_f (nI_pos (by omega)) ⟨pk_in v 24 hv, ?_⟩
      rw [nI_clamp (show v < 2 ^ 31 by omega)]
      exact br_f h6 hp
end
section
/-- the places from q on below i hold what stood one further -/
def bv_dr {α : Type} (a : Nat → α) (q i : Nat) : Nat → α := fun j => if q ≤ j ∧ j < i then a (j + 1) else a j
theorem bv_dr_0 {α : Type} (a : Nat → α) (q : Nat) : bv_dr a q q = a := by
  funext j
  unfold bv_dr
  rw [if_neg (by omega)]
theorem bv_dr_s {α : Type} (a : Nat → α) {q i : Nat} (h : q ≤ i) : bv_u (bv_dr a q i) i (bv_dr a q i (i + 1)) = bv_dr a q (i + 1) := by
  funext j
  unfold bv_u bv_dr
  by_cases e : j = i
  · subst e
    rw [if_pos rfl, if_neg (by omega), if_pos (by omega)]
  · rw [if_neg e]
    by_cases c : q ≤ j ∧ j < i
    · rw [if_pos c, if_pos (by omega)]
    · rw [if_neg c, if_neg (by omega)]
theorem bv_dr_g (o : Nat) (a : Nat → Nat) {q i : Nat} (h : q ≤ i) : upd (bv_g o (bv_dr a q i)) i (bv_g o (bv_dr a q i) (i + 1)) = bv_g o (bv_dr a q (i + 1)) :=
  (bv_g_upd o _ i _).trans (congrArg (bv_g o) (bv_dr_s a h))
theorem bv_dr_u (a : Nat → Int32) {q i : Nat} (h : q ≤ i) : upd (bv_dr a q i) i (bv_dr a q i (i + 1)) = bv_dr a q (i + 1) := bv_dr_s a h
theorem bv_dk12 {post : St1 → Prop} {ty bu md th : Int32} {n q o : Nat} (hn : n ≤ 23) {ks : Nat → Nat} {a2 a3 a4 a5 a6 a7 a8 a9 a10 : Nat → Int32} (hp : post (ty, bu, nI n, md, th, bv_g o (bv_dr ks q n), bv_dr a2 q n, a3, a4, a5, a6, a7, a8, a9, a10)) : ∀ m i, q ≤ i → i + m = n → wX_dropKey_12 post ty bu (nI n) md th (m + 1) (nI i) (bv_g o (bv_dr ks q i)) (bv_dr a2 q i) a3 a4 a5 a6 a7 a8 a9 a10 := by
  intro m
  induction m with
  | zero =>
    intro i h1 h2
    have e : i = n := by omega
    subst e
    exact pk_le i i (fun _ => hp) (fun z => absurd z (by omega))
  | succ m ih =>
    intro i h1 h2
    have c1 : (nI i + 1).toNatClampNeg = i + 1 := by rw [nI_1, nI_clamp (by omega)]
    have c0 : (nI i).toNatClampNeg = i := nI_clamp (by omega)
    exact pk_le n i (fun z => absurd z (by omega)) (fun _ => ⟨pk_in (i + 1) 24 (by omega) (nI_1 i), pk_in i 24 (by omega), nm_r (by rw [c1, c0]; exact bv_dr_g o ks h1) ⟨pk_in (i + 1) 24 (by omega) (nI_1 i), pk_in i 24 (by omega), nm_r (by rw [c1, c0]; exact bv_dr_u a2 h1) (nm_r (nI_1 i) (ih (i + 1) (by omega) (by omega)))⟩⟩)
theorem bv_drop {post : St1 → Prop} {ty bu md th : Int32} {n q o : Nat} (hn : n ≤ 23) (hq : q ≤ n) {ks : Nat → Nat} {a2 a3 a4 a5 a6 a7 a8 a9 a10 : Nat → Int32} (hp : post (ty, bu, nI n, md, th, bv_g o (bv_dr ks q n), bv_dr a2 q n, a3, a4, a5, a6, a7, a8, a9, a10)) : wpX_dropKey post (ty, bu, nI (n + 1), md, th, bv_g o ks, a2, a3, a4, a5, a6, a7, a8, a9, a10) (nI q) := by
  have h := bv_dk12 hn hp (n - q) q (Nat.le_refl q) (by omega)
  rw [bv_dr_0, bv_dr_0] at h
  unfold wpX_dropKey
  dsimp only
  exact nm_r (nI_pred n) ⟨n - q + 1, h⟩
theorem bv_dr_K {n q : Nat} {ks : Nat → Nat} (h : bv_K (n + 1) ks) (hq : q ≤ n) : bv_K n (bv_dr ks q n) := by
  intro i hi
  unfold bv_dr
  by_cases c : q ≤ i ∧ i < n
  · rw [if_pos c]; exact h _ (by omega)
  · rw [if_neg c]; exact h _ (by omega)
theorem bv_dr_H {n q : Nat} {a2 a3 a7 : Nat → Int32} (h : bv_H (fun i => i < n + 1 ∧ i ≠ q) a2 a3 a7) : bv_H (fun i => i < n) (bv_dr a2 q n) a3 a7 := by
  refine bv_H_res h (fun i => if q ≤ i then i + 1 else i) (fun i hi => ?_) (fun i j hi hj e => ?_)
  · show ((if q ≤ i then i + 1 else i) < n + 1 ∧ (if q ≤ i then i + 1 else i) ≠ q) ∧ bv_dr a2 q n i = a2 (if q ≤ i then i + 1 else i)
    have hi' : i < n := hi
    unfold bv_dr
    by_cases c : q ≤ i
    · rw [if_pos c, if_pos ⟨c, hi'⟩]
      exact ⟨⟨by omega, by omega⟩, rfl⟩
    · rw [if_neg c, if_neg (fun z => c z.1)]
      exact ⟨⟨by omega, by omega⟩, rfl⟩
  · have e' : (if q ≤ i then i + 1 else i) = (if q ≤ j then j + 1 else j) := e
    by_cases c : q ≤ i
    · rw [if_pos c] at e'
      by_cases d : q ≤ j
      · rw [if_pos d] at e'; omega
      · rw [if_neg d] at e'; omega
    · rw [if_neg c] at e'
      by_cases d : q ≤ j
      · rw [if_pos d] at e'; omega
      · rw [if_neg d] at e'; omega
theorem bv_un88 {n th q v : Nat} {ks : Nat → Nat} {a2 a3 a7 : Nat → Int32} (hn : n ≤ 24) (hq : q < n) (hv : v < 24) (sv : ¬ a3 v = 0) (hc : th = bv_c a3 24) (hK : bv_K n ks) (hH : bv_H (fun i => i < n ∧ i ≠ q) a2 (upd a3 v 0) a7) (hq2 : a2 q < 0 ∨ bv_H (fun i => i < n) a2 (upd a3 v 0) a7) :
    ∃ (n' th' : Nat) (ks' : Nat → Nat) (a2' a3' : Nat → Int32), bv_Q n' th' ks' a2' a3' a7 ∧ n ≤ n' + 1 ∧ ∀ (o : Nat) (post : Int32 → St1 → Prop) (ty bu md : Int32) (a4 a5 a6 a8 a9 a10 : Nat → Int32), post 1 (ty, bu, nI n', md, nI th', bv_g o ks', a2', a3', a4, a5, a6, a7, a8, a9, a10) → wX_unchain_88 post (nI q) (nI v) ty bu (nI n) md (nI th) (bv_g o ks) a2 a3 a4 a5 a6 a7 a8 a9 a10 := by
  have e1 := bv_c_clr 24 hv sv
  have e2 : nI th - 1 = nI (bv_c (upd a3 v 0) 24) := by
    rw [hc, ← e1, nI_pred]
  rcases hq2 with hq2 | hq2
  · obtain ⟨n0, rfl⟩ : ∃ n0, n = n0 + 1 := ⟨n - 1, by omega⟩
    refine ⟨n0, bv_c (upd a3 v 0) 24, bv_dr ks q n0, bv_dr a2 q n0, upd a3 v 0, ⟨rfl, bv_dr_K hK (by omega), bv_dr_H hH⟩, by omega, ?_⟩
    intro o post ty bu md a4 a5 a6 a8 a9 a10 hp
    unfold wX_unchain_88
    refine ⟨pk_in v 24 hv, nm_r (by rw [nI_clamp (by omega)]) (nm_r e2 ⟨pk_in q 24 (by omega), br_f ?_ ?_⟩)⟩
    · rw [nI_clamp (by omega)]
      exact fun z => absurd hq2 (Int32.not_lt.mpr z)
    · exact bv_drop (by omega) (by omega) hp
  · refine ⟨n, bv_c (upd a3 v 0) 24, ks, a2, upd a3 v 0, ⟨rfl, hK, hq2⟩, by omega, ?_⟩
    intro o post ty bu md a4 a5 a6 a8 a9 a10 hp
    unfold wX_unchain_88
    obtain ⟨w, hw, e, sw⟩ := hq2.1 q hq
    refine ⟨pk_in v 24 hv, nm_r (by rw [nI_clamp (by omega)]) (nm_r e2 ⟨pk_in q 24 (by omega), br_t ?_ hp⟩)⟩
    rw [nI_clamp (by omega), e]
    exact nI_pos' (by omega)
theorem bv_un49 {n th q v : Nat} {ks : Nat → Nat} {a2 a3 a7 : Nat → Int32} (hQ : bv_Q n th ks a2 a3 a7) (hq : q < n) (hv : v < 24) (sv : ¬ a3 v = 0) (x3 x4 : Int32) (hx : (x3 = -1 ∧ x4 = a2 q) ∨ ∃ u, u < 24 ∧ x3 = nI u ∧ ¬ a3 u = 0 ∧ u ≠ v ∧ a7 u = x4) :
    ∃ (r : Int32) (n' th' : Nat) (ks' : Nat → Nat) (a2' a3' a7' : Nat → Int32), bv_Q n' th' ks' a2' a3' a7' ∧ n ≤ n' + 1 ∧ (r = 0 → ¬ a3' v = 0) ∧ ∀ (o : Nat) (post : Int32 → St1 → Prop) (ty bu md : Int32) (a4 a5 a6 a8 a9 a10 : Nat → Int32), post r (ty, bu, nI n', md, nI th', bv_g o ks', a2', a3', a4, a5, a6, a7', a8, a9, a10) → wX_unchain_49 post (nI q) (nI v) x3 x4 ty bu (nI n) md (nI th) (bv_g o ks) a2 a3 a4 a5 a6 a7 a8 a9 a10 := by
  have hn := bv_Q_n hQ
  have hQ' := hQ
  obtain ⟨hc, hK, hH⟩ := hQ
  by_cases h4 : x4 = nI v
  · rcases hx with ⟨e3, e4⟩ | ⟨u, hu, e3, su, nu, e4⟩
    · have eq2 : a2 q = nI v := by rw [← e4, h4]
      obtain ⟨k1, k2⟩ := bv_H_off hH hq hv eq2
      have k3 := bv_H_clr k1 k2
      have k4 : bv_H (fun i => i < n ∧ i ≠ q) (upd a2 q (a7 v)) (upd a3 v 0) a7 := bv_H_res k3 (fun i => i) (fun i hi => ⟨hi, pk_un hi.2⟩) (fun i j _ _ e => e)
      have k5 : upd a2 q (a7 v) q < 0 ∨ bv_H (fun i => i < n) (upd a2 q (a7 v)) (upd a3 v 0) a7 := by
        rcases hH.2.1 v hv sv with z | ⟨x, hx, e, sx⟩
        · rw [pk_us]; exact Or.inl z
        · obtain ⟨o1, o2⟩ := bv_O_clr k1 k2 hv sv hx e
          rw [e]
          exact Or.inr (bv_H_hd k3 o1 hx o2 (fun i hi ne => ⟨hi, ne⟩))
      obtain ⟨n', th', ks', a2', a3', hQ2, hn2, hw⟩ := bv_un88 (by omega) hq hv sv hc hK k4 k5
      refine ⟨1, n', th', ks', a2', a3', a7, hQ2, hn2, fun z => absurd z (by decide), fun o post ty bu md a4 a5 a6 a8 a9 a10 hp => ?_⟩
      unfold wX_unchain_49
      rw [e3]
      exact br_t h4 (br_t (by decide) ⟨pk_in v 24 hv, pk_in q 24 (by omega), nm_r (by rw [nI_clamp (by omega), nI_clamp (by omega)]) (hw o post ty bu md a4 a5 a6 a8 a9 a10 hp)⟩)
    · have e7 : a7 u = nI v := by rw [e4, h4]
      have k5 : bv_H (fun i => i < n) a2 (upd a3 v 0) (upd a7 u (a7 v)) := by
        rcases hH.2.1 v hv sv with z | ⟨x, hx, e, sx⟩
        · exact bv_H_clr (bv_H_cut hH z) (bv_O_cut hH z hu su hv e7)
        · have m1 : (-1 : Int32) < 0 := by decide
          have k1 := bv_H_cut (u := u) hH m1
          have k2 := bv_O_cut hH m1 hu su hv e7
          have e' : upd a7 u (-1) v = nI x := by rw [pk_un (Ne.symm nu)]; exact e
          obtain ⟨o1, o2⟩ := bv_O_clr k1 k2 hv sv hx e'
          have k3 := bv_H_lnk (u := u) (bv_H_clr k1 k2) o1 hx o2
          rw [bv_uu] at k3
          rw [e]
          exact k3
      have k4 : bv_H (fun i => i < n ∧ i ≠ q) a2 (upd a3 v 0) (upd a7 u (a7 v)) := bv_H_res k5 (fun i => i) (fun i hi => ⟨hi.1, rfl⟩) (fun i j _ _ e => e)
      obtain ⟨n', th', ks', a2', a3', hQ2, hn2, hw⟩ := bv_un88 (by omega) hq hv sv hc hK k4 (Or.inr k5)
      refine ⟨1, n', th', ks', a2', a3', upd a7 u (a7 v), hQ2, hn2, fun z => absurd z (by decide), fun o post ty bu md a4 a5 a6 a8 a9 a10 hp => ?_⟩
      unfold wX_unchain_49
      rw [e3]
      exact br_t h4 (br_f (nI_pos (by omega)) ⟨pk_in v 24 hv, pk_in u 24 hu, nm_r (by rw [nI_clamp (by omega), nI_clamp (by omega)]) (hw o post ty bu md a4 a5 a6 a8 a9 a10 hp)⟩)
  · refine ⟨0, n, th, ks, a2, a3, a7, hQ', by omega, fun _ => sv, fun o post ty bu md a4 a5 a6 a8 a9 a10 hp => ?_⟩
    unfold wX_unchain_49
    exact br_f h4 hp
theorem bv_unchain {n th q v : Nat} {ks : Nat → Nat} {a2 a3 a7 : Nat → Int32} (hQ : bv_Q n th ks a2 a3 a7) (hq : q < n) (hv : v < 24) (sv : ¬ a3 v = 0) :
    ∃ (r : Int32) (n' th' : Nat) (ks' : Nat → Nat) (a2' a3' a7' : Nat → Int32), bv_Q n' th' ks' a2' a3' a7' ∧ n ≤ n' + 1 ∧ (r = 0 → ¬ a3' v = 0) ∧ ∀ (o : Nat) (post : Int32 → St1 → Prop) (ty bu md : Int32) (a4 a5 a6 a8 a9 a10 : Nat → Int32), post r (ty, bu, nI n', md, nI th', bv_g o ks', a2', a3', a4, a5, a6, a7', a8, a9, a10) → wpX_unchain post (ty, bu, nI n, md, nI th, bv_g o ks, a2, a3, a4, a5, a6, a7, a8, a9, a10) (nI q) (nI v) := by
  have hn := bv_Q_n hQ
  have main : ∀ m i (x3 x4 : Int32), i + m = 24 → bv_T a3 x4 → ((x3 = -1 ∧ x4 = a2 q) ∨ ∃ u, u < 24 ∧ x3 = nI u ∧ ¬ a3 u = 0 ∧ u ≠ v ∧ a7 u = x4) → ∃ (r : Int32) (n' th' : Nat) (ks' : Nat → Nat) (a2' a3' a7' : Nat → Int32), bv_Q n' th' ks' a2' a3' a7' ∧ n ≤ n' + 1 ∧ (r = 0 → ¬ a3' v = 0) ∧ ∀ (o : Nat) (post : Int32 → St1 → Prop) (ty bu md : Int32) (a4 a5 a6 a8 a9 a10 : Nat → Int32), post r (ty, bu, nI n', md, nI th', bv_g o ks', a2', a3', a4, a5, a6, a7', a8, a9, a10) → wX_unchain_13 post (nI q) (nI v) ty bu (nI n) md (nI th) (bv_g o ks) a2 a3 a4 a5 a6 a7 a8 a9 a10 (m + 1) x3 x4 (nI i) := by
    intro m
    induction m with
    | zero =>
      intro i x3 x4 hi hT hx
      obtain ⟨r, n', th', ks', a2', a3', a7', h1, h2, h3, hw⟩ := bv_un49 hQ hq hv sv x3 x4 hx
      exact ⟨r, n', th', ks', a2', a3', a7', h1, h2, h3, fun o post ty bu md a4 a5 a6 a8 a9 a10 hp => pk_le 24 i (fun _ => hw o post ty bu md a4 a5 a6 a8 a9 a10 hp) (fun z => absurd z (by omega))⟩
    | succ m ih =>
      intro i x3 x4 hi hT hx
      rcases hT with hT | ⟨w, hw24, e, sw⟩
      · obtain ⟨r, n', th', ks', a2', a3', a7', h1, h2, h3, hw⟩ := bv_un49 hQ hq hv sv x3 x4 hx
        exact ⟨r, n', th', ks', a2', a3', a7', h1, h2, h3, fun o post ty bu md a4 a5 a6 a8 a9 a10 hp => pk_le 24 i (fun z => absurd z (by omega)) (fun _ => br_t hT (hw o post ty bu md a4 a5 a6 a8 a9 a10 hp))⟩
      · subst e
        by_cases ev : w = v
        · obtain ⟨r, n', th', ks', a2', a3', a7', h1, h2, h3, hw⟩ := bv_un49 hQ hq hv sv x3 (nI w) hx
          exact ⟨r, n', th', ks', a2', a3', a7', h1, h2, h3, fun o post ty bu md a4 a5 a6 a8 a9 a10 hp => pk_le 24 i (fun z => absurd z (by omega)) (fun _ => br_f (nI_pos (by omega)) (br_t (by rw [ev]) (hw o post ty bu md a4 a5 a6 a8 a9 a10 hp)))⟩
        · obtain ⟨r, n', th', ks', a2', a3', a7', h1, h2, h3, hw⟩ := ih (i + 1) (nI w) (a7 w) (by omega) (hQ.2.2.2.1 w hw24 sw) (Or.inr ⟨w, hw24, rfl, sw, ev, rfl⟩)
          exact ⟨r, n', th', ks', a2', a3', a7', h1, h2, h3, fun o post ty bu md a4 a5 a6 a8 a9 a10 hp => pk_le 24 i (fun z => absurd z (by omega)) (fun _ => br_f (nI_pos (by omega)) (br_f (fun z => ev (bv_nn hw24 hv z)) ⟨pk_in w 24 hw24, nm_r (by rw [nI_clamp (by omega)]) (nm_r (nI_1 i) (hw o post ty bu md a4 a5 a6 a8 a9 a10 hp))⟩))⟩
  obtain ⟨w, hw24, e, sw⟩ := hQ.2.2.1 q hq
  obtain ⟨r, n', th', ks', a2', a3', a7', h1, h2, h3, hw⟩ := main 24 0 (-1) (a2 q) rfl (Or.inr ⟨w, hw24, e, sw⟩) (Or.inl ⟨rfl, rfl⟩)
  refine ⟨r, n', th', ks', a2', a3', a7', h1, h2, h3, fun o post ty bu md a4 a5 a6 a8 a9 a10 hp => ?_⟩
  exact ⟨pk_in q 24 (by omega), nm_r (by rw [nI_clamp (by omega)]) ⟨25, hw o post ty bu md a4 a5 a6 a8 a9 a10 hp⟩⟩
/-- behind the cut: slots are freed one by one; each is used and nothing points to it -/
theorem bv_cut60 {D : Nat → Prop} {a2 a7 : Nat → Int32} : ∀ m i th (cn x5 : Int32) (a3 : Nat → Int32), i + m = 24 → th = bv_c a3 24 → bv_H D a2 a3 a7 → (x5 < 0 ∨ ∃ w, w < 24 ∧ x5 = nI w ∧ ¬ a3 w = 0 ∧ bv_O D a2 a3 a7 w) →
    ∃ (r : Int32) (th' : Nat) (a3' : Nat → Int32), th' = bv_c a3' 24 ∧ bv_H D a2 a3' a7 ∧ ∀ (post : Int32 → St1 → Prop) (ty bu ke md : Int32) (a1 a4 a5 a6 a8 a9 a10 : Nat → Int32), post r (ty, bu, ke, md, nI th', a1, a2, a3', a4, a5, a6, a7, a8, a9, a10) → wX_cutChain_60 post ty bu ke md (m + 1) cn x5 (nI i) (nI th) a1 a2 a3 a4 a5 a6 a7 a8 a9 a10 := by
  intro m
  induction m with
  | zero =>
    intro i th cn x5 a3 hi hc hH hx
    exact ⟨cn, th, a3, hc, hH, fun post ty bu ke md a1 a4 a5 a6 a8 a9 a10 hp => pk_le 24 i (fun _ => hp) (fun z => absurd z (by omega))⟩
  | succ m ih =>
    intro i th cn x5 a3 hi hc hH hx
    rcases hx with hx | ⟨w, hw, e, sw, ho⟩
    · exact ⟨cn, th, a3, hc, hH, fun post ty bu ke md a1 a4 a5 a6 a8 a9 a10 hp => pk_le 24 i (fun z => absurd z (by omega)) (fun _ => br_t hx hp)⟩
    · subst e
      have e1 := bv_c_clr 24 hw sw
      have e2 : nI th - 1 = nI (bv_c (upd a3 w 0) 24) := by
        rw [hc, ← e1, nI_pred]
      have nx : a7 w < 0 ∨ ∃ x, x < 24 ∧ a7 w = nI x ∧ ¬ upd a3 w 0 x = 0 ∧ bv_O D a2 (upd a3 w 0) a7 x := by
        rcases hH.2.1 w hw sw with z | ⟨x, hx, e, sx⟩
        · exact Or.inl z
        · obtain ⟨o1, o2⟩ := bv_O_clr hH ho hw sw hx e
          exact Or.inr ⟨x, hx, e, o2, o1⟩
      obtain ⟨r, th', a3', h1, h2, hk⟩ := ih (i + 1) (bv_c (upd a3 w 0) 24) (cn + 1) (a7 w) (upd a3 w 0) (by omega) rfl (bv_H_clr hH ho) nx
      refine ⟨r, th', a3', h1, h2, fun post ty bu ke md a1 a4 a5 a6 a8 a9 a10 hp => pk_le 24 i (fun z => absurd z (by omega)) (fun _ => br_f (nI_pos (by omega)) ⟨pk_in w 24 hw, nm_r (by rw [nI_clamp (by omega)]) (nm_r e2 (nm_e ⟨pk_in w 24 hw, nm_r (by rw [nI_clamp (by omega)]) (nm_r (nI_1 i) (hk post ty bu ke md a1 a4 a5 a6 a8 a9 a10 hp))⟩))⟩)⟩
theorem bv_cut33 {D : Nat → Prop} {a2 a3 a7 : Nat → Int32} {th : Nat} (hc : th = bv_c a3 24) (hH : bv_H D a2 a3 a7) (x3 : Int32) (hx : bv_T a3 x3) :
    ∃ (r : Int32) (th' : Nat) (a3' a7' : Nat → Int32), th' = bv_c a3' 24 ∧ bv_H D a2 a3' a7' ∧ ∀ (post : Int32 → St1 → Prop) (ty bu ke md : Int32) (a1 a4 a5 a6 a8 a9 a10 : Nat → Int32), post r (ty, bu, ke, md, nI th', a1, a2, a3', a4, a5, a6, a7', a8, a9, a10) → wX_cutChain_33 post x3 ty bu ke md (nI th) a1 a2 a3 a4 a5 a6 a7 a8 a9 a10 := by
  rcases hx with hx | ⟨v, hv, e, sv⟩
  · refine ⟨0, th, a3, a7, hc, hH, fun post ty bu ke md a1 a4 a5 a6 a8 a9 a10 hp => ?_⟩
    unfold wX_cutChain_33
    exact br_f (fun z => absurd hx (Int32.not_lt.mpr z)) hp
  · subst e
    have m1 : (-1 : Int32) < 0 := by decide
    have nx : a7 v < 0 ∨ ∃ w, w < 24 ∧ a7 v = nI w ∧ ¬ a3 w = 0 ∧ bv_O D a2 a3 (upd a7 v (-1)) w := by
      rcases hH.2.1 v hv sv with z | ⟨w, hw, e, sw⟩
      · exact Or.inl z
      · exact Or.inr ⟨w, hw, e, sw, bv_O_cut hH m1 hv sv hw e⟩
    obtain ⟨r, th', a3', h1, h2, hk⟩ := bv_cut60 24 0 th 0 (a7 v) a3 rfl hc (bv_H_cut (u := v) hH m1) nx
    refine ⟨r, th', a3', upd a7 v (-1), h1, h2, fun post ty bu ke md a1 a4 a5 a6 a8 a9 a10 hp => ?_⟩
    unfold wX_cutChain_33
    exact br_t (nI_pos' (by omega)) ⟨pk_in v 24 hv, nm_r (by rw [nI_clamp (by omega)]) ⟨pk_in v 24 hv, nm_r (by rw [nI_clamp (by omega)]) ⟨25, hk post ty bu ke md a1 a4 a5 a6 a8 a9 a10 hp⟩⟩⟩
theorem bv_cut10 {D : Nat → Prop} {a2 a3 a7 : Nat → Int32} {th s : Nat} (hs : s < 2 ^ 31) (hc : th = bv_c a3 24) (hH : bv_H D a2 a3 a7) : ∀ m i (x3 : Int32), i + m = s → bv_T a3 x3 →
    ∃ (r : Int32) (th' : Nat) (a3' a7' : Nat → Int32), th' = bv_c a3' 24 ∧ bv_H D a2 a3' a7' ∧ ∀ (post : Int32 → St1 → Prop) (ty bu ke md : Int32) (a1 a4 a5 a6 a8 a9 a10 : Nat → Int32), post r (ty, bu, ke, md, nI th', a1, a2, a3', a4, a5, a6, a7', a8, a9, a10) → wX_cutChain_10 post (nI s) ty bu ke md (nI th) a1 a2 a3 a4 a5 a6 a7 a8 a9 a10 (m + 1) x3 (nI i) := by
  intro m
  induction m with
  | zero =>
    intro i x3 hi hx
    obtain ⟨r, th', a3', a7', h1, h2, hk⟩ := bv_cut33 hc hH x3 hx
    exact ⟨r, th', a3', a7', h1, h2, fun post ty bu ke md a1 a4 a5 a6 a8 a9 a10 hp => pk_le s i (fun _ => hk post ty bu ke md a1 a4 a5 a6 a8 a9 a10 hp) (fun z => absurd z (by omega))⟩
  | succ m ih =>
    intro i x3 hi hx
    have hx' := hx
    rcases hx with hx | ⟨w, hw, e, sw⟩
    · obtain ⟨r, th', a3', a7', h1, h2, hk⟩ := bv_cut33 hc hH x3 hx'
      exact ⟨r, th', a3', a7', h1, h2, fun post ty bu ke md a1 a4 a5 a6 a8 a9 a10 hp => pk_le s i (fun z => absurd z (by omega)) (fun _ => br_t hx (hk post ty bu ke md a1 a4 a5 a6 a8 a9 a10 hp))⟩
    · subst e
      obtain ⟨r, th', a3', a7', h1, h2, hk⟩ := ih (i + 1) (a7 w) (by omega) (hH.2.1 w hw sw)
      exact ⟨r, th', a3', a7', h1, h2, fun post ty bu ke md a1 a4 a5 a6 a8 a9 a10 hp => pk_le s i (fun z => absurd z (by omega)) (fun _ => br_f (nI_pos (by omega)) ⟨pk_in w 24 hw, nm_r (by rw [nI_clamp (by omega)]) (nm_r (nI_1 i) (hk post ty bu ke md a1 a4 a5 a6 a8 a9 a10 hp))⟩)⟩
theorem bv_cutChain {n q s th : Nat} {a2 a3 a7 : Nat → Int32} (hn : n ≤ 24) (hq : q < n) (hs : s < 2 ^ 31) (hs1 : 1 ≤ s) (hc : th = bv_c a3 24) (hH : bv_H (fun i => i < n) a2 a3 a7) :
    ∃ (r : Int32) (th' : Nat) (a3' a7' : Nat → Int32), th' = bv_c a3' 24 ∧ bv_H (fun i => i < n) a2 a3' a7' ∧ ∀ (post : Int32 → St1 → Prop) (ty bu ke md : Int32) (a1 a4 a5 a6 a8 a9 a10 : Nat → Int32), post r (ty, bu, ke, md, nI th', a1, a2, a3', a4, a5, a6, a7', a8, a9, a10) → wpX_cutChain post (ty, bu, ke, md, nI th, a1, a2, a3, a4, a5, a6, a7, a8, a9, a10) (nI q) (nI s) := by
  obtain ⟨v, hv, e, sv⟩ := hH.1 q hq
  obtain ⟨r, th', a3', a7', h1, h2, hk⟩ := bv_cut10 hs hc hH (s - 1) 1 (a2 q) (by omega) (Or.inr ⟨v, hv, e, sv⟩)
  refine ⟨r, th', a3', a7', h1, h2, fun post ty bu ke md a1 a4 a5 a6 a8 a9 a10 hp => ?_⟩
  exact ⟨pk_in q 24 (by omega), nm_r (by rw [nI_clamp (by omega)]) ⟨s - 1 + 1, hk post ty bu ke md a1 a4 a5 a6 a8 a9 a10 hp⟩⟩
theorem bv_exp33 (a6 : Nat → Int32) {s : Nat} (hs : s < 2 ^ 31) (hs1 : 1 ≤ s) : ∀ j n th (ks : Nat → Nat) (a2 a3 a7 : Nat → Int32) (r0 : Int32), j ≤ n → bv_Q n th ks a2 a3 a7 →
    ∃ (r : Int32) (n' th' : Nat) (ks' : Nat → Nat) (a2' a3' a7' : Nat → Int32), bv_Q n' th' ks' a2' a3' a7' ∧ ∀ (o : Nat) (post : Int32 → St1 → Prop) (ty bu md : Int32) (a4 a5 a8 a9 a10 : Nat → Int32), post r (ty, bu, nI n', md, nI th', bv_g o ks', a2', a3', a4, a5, a6, a7', a8, a9, a10) → wX_expire_33 post (nI s) (j + 1) r0 (nI j + (-1)) ty bu (nI n) md (nI th) (bv_g o ks) a2 a3 a4 a5 a6 a7 a8 a9 a10 := by
  intro j
  induction j with
  | zero =>
    intro n th ks a2 a3 a7 r0 hj hQ
    refine ⟨r0, n, th, ks, a2, a3, a7, hQ, fun o post ty bu md a4 a5 a8 a9 a10 hp => ?_⟩
    exact br_t (by decide) hp
  | succ j ih =>
    intro n th ks a2 a3 a7 r0 hj hQ
    have hn := bv_Q_n hQ
    obtain ⟨hc, hK, hH⟩ := hQ
    obtain ⟨r1, th1, b3, b7, hc1, hH1, hk1⟩ := bv_cutChain (q := j) (by omega) (by omega) hs hs1 hc hH
    obtain ⟨v, hv, e, sv⟩ := hH1.1 j (by omega)
    have cj : (nI j).toNatClampNeg = j := nI_clamp (by omega)
    have cv : (nI v).toNatClampNeg = v := nI_clamp (by omega)
    by_cases h6 : a6 v = 0
    · obtain ⟨r, n', th', ks', a2', a3', a7', hQ', hk⟩ := ih n th1 ks a2 b3 b7 (r0 + r1) (by omega) ⟨hc1, hK, hH1⟩
      refine ⟨r, n', th', ks', a2', a3', a7', hQ', fun o post ty bu md a4 a5 a8 a9 a10 hp => ?_⟩
      rw [pk_m1]
      refine br_f (nI_pos (by omega)) ?_
      refine hk1 _ _ _ _ _ _ _ _ _ _ _ _ ?_
      dsimp only
      refine nm_e ⟨pk_in j 24 (by omega), nm_r (by rw [cj, e]) ⟨pk_in v 24 hv, br_t (by rw [cv]; exact h6) (nm_e ?_)⟩⟩
      exact hk o post ty bu md a4 a5 a8 a9 a10 hp
    · by_cases h7 : 0 ≤ b7 v
      · obtain ⟨r, n', th', ks', a2', a3', a7', hQ', hk⟩ := ih n th1 ks a2 b3 b7 (r0 + r1) (by omega) ⟨hc1, hK, hH1⟩
        refine ⟨r, n', th', ks', a2', a3', a7', hQ', fun o post ty bu md a4 a5 a8 a9 a10 hp => ?_⟩
        rw [pk_m1]
        refine br_f (nI_pos (by omega)) ?_
        refine hk1 _ _ _ _ _ _ _ _ _ _ _ _ ?_
        dsimp only
        refine nm_e ⟨pk_in j 24 (by omega), nm_r (by rw [cj, e]) ⟨pk_in v 24 hv, br_f (by rw [cv]; exact h6) ⟨pk_in v 24 hv, br_t (by rw [cv]; exact h7) (nm_e ?_)⟩⟩⟩
        exact hk o post ty bu md a4 a5 a8 a9 a10 hp
      · obtain ⟨r2, n2, th2, ks2, c2, c3, c7, hQ2, hn2, _, hk2⟩ := bv_unchain (q := j) (v := v) (⟨hc1, hK, hH1⟩ : bv_Q n th1 ks a2 b3 b7) (by omega) hv sv
        obtain ⟨r, n', th', ks', a2', a3', a7', hQ', hk⟩ := ih n2 th2 ks2 c2 c3 c7 (r0 + r1 + 1) (by omega) hQ2
        refine ⟨r, n', th', ks', a2', a3', a7', hQ', fun o post ty bu md a4 a5 a8 a9 a10 hp => ?_⟩
        rw [pk_m1]
        refine br_f (nI_pos (by omega)) ?_
        refine hk1 _ _ _ _ _ _ _ _ _ _ _ _ ?_
        dsimp only
        refine nm_e ⟨pk_in j 24 (by omega), nm_r (by rw [cj, e]) ⟨pk_in v 24 hv, br_f (by rw [cv]; exact h6) ⟨pk_in v 24 hv, br_f (by rw [cv]; exact h7) ?_⟩⟩⟩
        refine hk2 o _ _ _ _ _ _ _ _ _ _ ?_
        dsimp only
        refine nm_e (nm_e ?_)
        exact hk o post ty bu md a4 a5 a8 a9 a10 hp
theorem bv_expire {p : bv_P} (hJ : bv_J p) {j : Nat} (hj : j < 4) : ∃ (r : Int32) (p' : bv_P), bv_J p' ∧ ∀ (o : Nat) (ty bu : Int32) (post : Int32 → St1 → Prop), post r (bv_S o ty bu p') → wpX_expire post (bv_S o ty bu p) (nI j) := by
  obtain ⟨n, md, th, ks, a2, a3, a4, a5, a6, a7, us, a9, a10⟩ := p
  obtain ⟨hQ, hU⟩ := hJ
  obtain ⟨r, n', th', ks', a2', a3', a7', hQ', hk⟩ := bv_exp33 a6 (s := j + 1) (by omega) (by omega) n n th ks a2 a3 a7 0 (Nat.le_refl n) hQ
  refine ⟨r, (n', md, th', ks', a2', a3', a4, a5, a6, a7', us, a9, a10), ⟨hQ', hU⟩, fun o ty bu post hp => ?_⟩
  refine br_t (nI_pos' (by omega)) (br_t (nI_le (b := 24) (by omega) (by decide)) ?_)
  rw [nI_1]
  exact nm_r (Int32.sub_eq_add_neg _ _) ⟨n + 1, hk o post ty bu md a4 a5 _ a9 a10 hp⟩
theorem bv_des18 {v : Nat} (hv : v < 24) : ∀ m i n th (ks : Nat → Nat) (a2 a3 a7 : Nat → Int32) (g : Int32), i + m = 24 → bv_Q n th ks a2 a3 a7 → (g = 0 → ¬ a3 v = 0) →
    ∃ (n' th' : Nat) (ks' : Nat → Nat) (a2' a3' a7' : Nat → Int32), bv_Q n' th' ks' a2' a3' a7' ∧ ∀ (o : Nat) (post : Int32 → St1 → Prop) (ty bu md : Int32) (a4 a5 a6 a8 a9 a10 : Nat → Int32), post (nI th') (ty, bu, nI n', md, nI th', bv_g o ks', a2', a3', a4, a5, a6, a7', a8, a9, a10) → wX_destroy_18 post (nI v) (m + 1) g (nI i) ty bu (nI n) md (nI th) (bv_g o ks) a2 a3 a4 a5 a6 a7 a8 a9 a10 := by
  intro m
  induction m with
  | zero =>
    intro i n th ks a2 a3 a7 g hi hQ hg
    have hn := bv_Q_n hQ
    exact ⟨n, th, ks, a2, a3, a7, hQ, fun o post ty bu md a4 a5 a6 a8 a9 a10 hp => pk_le n i (fun _ => hp) (fun z => absurd z (by omega))⟩
  | succ m ih =>
    intro i n th ks a2 a3 a7 g hi hQ hg
    have hn := bv_Q_n hQ
    by_cases h1 : n ≤ i
    · exact ⟨n, th, ks, a2, a3, a7, hQ, fun o post ty bu md a4 a5 a6 a8 a9 a10 hp => pk_le n i (fun _ => hp) (fun z => absurd z (by omega))⟩
    · by_cases h2 : g = 0
      · obtain ⟨r, n2, th2, ks2, c2, c3, c7, hQ2, hn2, hr2, hk2⟩ := bv_unchain (q := i) (v := v) hQ (by omega) hv (hg h2)
        obtain ⟨n', th', ks', a2', a3', a7', hQ', hk⟩ := ih (i + 1) n2 th2 ks2 c2 c3 c7 r (by omega) hQ2 hr2
        refine ⟨n', th', ks', a2', a3', a7', hQ', fun o post ty bu md a4 a5 a6 a8 a9 a10 hp => pk_le n i (fun z => absurd z (by omega)) (fun _ => br_t h2 ?_)⟩
        refine hk2 o _ _ _ _ _ _ _ _ _ _ ?_
        dsimp only
        refine nm_r (nI_1 i) ?_
        exact hk o post ty bu md a4 a5 a6 a8 a9 a10 hp
      · exact ⟨n, th, ks, a2, a3, a7, hQ, fun o post ty bu md a4 a5 a6 a8 a9 a10 hp => pk_le n i (fun z => absurd z (by omega)) (fun _ => br_f h2 hp)⟩
theorem bv_destroy {p : bv_P} (hJ : bv_J p) (x : Int32) : ∃ (r : Int32) (p' : bv_P), bv_J p' ∧ ∀ (o : Nat) (ty bu : Int32) (post : Int32 → St1 → Prop), post r (bv_S o ty bu p') → wpX_destroy post (bv_S o ty bu p) x := by
  obtain ⟨n, md, th, ks, a2, a3, a4, a5, a6, a7, us, a9, a10⟩ := p
  have hJ' := hJ
  obtain ⟨hQ, hU⟩ := hJ
  obtain ⟨r, hr, hw⟩ := bv_slot a3 a4 x
  rcases hr with hr | ⟨v, hv, hr, sv⟩
  · refine ⟨-4, (n, md, th, ks, a2, a3, a4, a5, a6, a7, us, a9, a10), hJ', fun o ty bu post hp => ?_⟩
    unfold wpX_destroy bv_S
    dsimp only
    refine hw _ _ _ _ _ _ _ _ _ _ _ _ _ _ ?_
    exact br_f (by rw [hr]; decide) hp
  · obtain ⟨n', th', ks', a2', a3', a7', hQ', hk⟩ := bv_des18 hv 24 0 n th ks a2 a3 a7 0 rfl hQ (fun _ => sv)
    refine ⟨nI th', (n', md, th', ks', a2', a3', a4, a5, a6, a7', us, a9, a10), ⟨hQ', hU⟩, fun o ty bu post hp => ?_⟩
    unfold wpX_destroy bv_S
    dsimp only
    refine hw _ _ _ _ _ _ _ _ _ _ _ _ _ _ ?_
    rw [hr]
    exact br_t (nI_pos' (by omega)) ⟨25, hk o post ty bu md a4 a5 a6 _ a9 a10 hp⟩
end
section
/-- the places above i up to n hold what stood one below -/
def bv_sh {α : Type} (a : Nat → α) (i n : Nat) : Nat → α := fun j => if i < j ∧ j ≤ n then a (j - 1) else a j
theorem bv_sh_0 {α : Type} (a : Nat → α) (n : Nat) : bv_sh a n n = a := by
  funext j
  unfold bv_sh
  rw [if_neg (by omega)]
theorem bv_sh_s {α : Type} (a : Nat → α) {i n : Nat} (h : i + 1 ≤ n) : bv_u (bv_sh a (i + 1) n) (i + 1) (bv_sh a (i + 1) n i) = bv_sh a i n := by
  funext j
  unfold bv_u bv_sh
  by_cases e : j = i + 1
  · subst e
    rw [if_pos rfl, if_neg (by omega), if_pos (by omega)]
    rfl
  · rw [if_neg e]
    by_cases c : i + 1 < j ∧ j ≤ n
    · rw [if_pos c, if_pos (by omega)]
    · rw [if_neg c, if_neg (by omega)]
theorem bv_sh_g (o : Nat) (a : Nat → Nat) {i n : Nat} (h : i + 1 ≤ n) : upd (bv_g o (bv_sh a (i + 1) n)) (i + 1) (bv_g o (bv_sh a (i + 1) n) i) = bv_g o (bv_sh a i n) :=
  (bv_g_upd o _ (i + 1) _).trans (congrArg (bv_g o) (bv_sh_s a h))
theorem bv_sh_u (a : Nat → Int32) {i n : Nat} (h : i + 1 ≤ n) : upd (bv_sh a (i + 1) n) (i + 1) (bv_sh a (i + 1) n i) = bv_sh a i n := bv_sh_s a h
theorem bv_av111 {post : Int32 → St1 → Prop} {ty bu md th : Int32} {n q o k v : Nat} (hn : n ≤ 23) (hq : q ≤ n) (hv : v < 24) {ks : Nat → Nat} {a2 a3 a4 a5 a6 a7 a8 a9 a10 : Nat → Int32} (hp : post (a4 v) (ty, bu, nI (n + 1), md, th, bv_g o (bv_u (bv_sh ks q n) q k), upd (bv_sh a2 q n) q (nI v), a3, a4, a5, a6, upd a7 v (-1), a8, a9, a10)) : ∀ m i, q + m = i → i ≤ n → wX_addVersion_111 post (nI (bv_e o k)) (nI v) (nI q) ty bu (nI n) md th (m + 1) (nI i) (bv_g o (bv_sh ks i n)) (bv_sh a2 i n) a3 a4 a5 a6 a7 a8 a9 a10 := by
  intro m
  have cq : (nI q).toNatClampNeg = q := nI_clamp (by omega)
  have cv : (nI v).toNatClampNeg = v := nI_clamp (by omega)
  induction m with
  | zero =>
    intro i h1 h2
    have e : i = q := by omega
    subst e
    have e1 : upd (bv_g o (bv_sh ks i n)) (nI i).toNatClampNeg (nI (bv_e o k)) = bv_g o (bv_u (bv_sh ks i n) i k) := by
      rw [cq]
      exact bv_g_upd o _ i k
    refine pk_le i i (fun _ => ⟨pk_in i 24 (by omega), nm_r e1 (nm_r (nI_1 n) ⟨pk_in v 24 hv, nm_r (by rw [cv]) ?_⟩)⟩) (fun z => absurd z (by omega))
    unfold wX_addVersion_182
    refine ⟨pk_in i 24 (by omega), nm_r (by rw [cq]) ⟨pk_in v 24 hv, ?_⟩⟩
    rw [cv]
    exact hp
  | succ m ih =>
    intro i h1 h2
    obtain ⟨i0, rfl⟩ : ∃ i0, i = i0 + 1 := ⟨i - 1, by omega⟩
    have c1 : (nI (i0 + 1) - 1).toNatClampNeg = i0 := by rw [nI_pred, nI_clamp (by omega)]
    have c0 : (nI (i0 + 1)).toNatClampNeg = i0 + 1 := nI_clamp (by omega)
    exact pk_le (i0 + 1) q (fun z => absurd z (by omega)) (fun _ => ⟨pk_in i0 24 (by omega) (nI_pred i0), pk_in (i0 + 1) 24 (by omega), nm_r (by rw [c1, c0]; exact bv_sh_g o ks h2) ⟨pk_in i0 24 (by omega) (nI_pred i0), pk_in (i0 + 1) 24 (by omega), nm_r (by rw [c1, c0]; exact bv_sh_u a2 h2) (nm_r (pk_m1 i0) (ih i0 (by omega) (by omega)))⟩⟩)
theorem bv_sh_K {n q k : Nat} {ks : Nat → Nat} (h : bv_K n ks) (hq : q ≤ n) (k1 : 49 ≤ k) (k2 : k < 343) : bv_K (n + 1) (bv_u (bv_sh ks q n) q k) := by
  intro i hi
  by_cases e : i = q
  · subst e; rw [bv_us]; exact ⟨k1, k2⟩
  · rw [bv_un e]
    unfold bv_sh
    by_cases c : q < i ∧ i ≤ n
    · rw [if_pos c]; exact h _ (by omega)
    · rw [if_neg c]; exact h _ (by omega)
theorem bv_sh_i {n q i : Nat} {a2 : Nat → Int32} (h : i < n + 1 ∧ i ≠ q) (hq : q ≤ n) : (if q < i then i - 1 else i) < n ∧ bv_sh a2 q n i = a2 (if q < i then i - 1 else i) := by
  unfold bv_sh
  by_cases c : q < i
  · rw [if_pos c, if_pos ⟨c, by omega⟩]
    exact ⟨by omega, rfl⟩
  · rw [if_neg c, if_neg (fun z => c z.1)]
    exact ⟨by omega, rfl⟩
theorem bv_sh_H {n q v : Nat} {a2 a3 a7 : Nat → Int32} (h : bv_H (fun i => i < n) a2 a3 a7) (ho : bv_O (fun i => i < n) a2 a3 a7 v) (hv : v < 24) (sv : ¬ a3 v = 0) (hq : q ≤ n) : bv_H (fun i => i < n + 1) (upd (bv_sh a2 q n) q (nI v)) a3 a7 := by
  have k1 : bv_H (fun i => i < n + 1 ∧ i ≠ q) (bv_sh a2 q n) a3 a7 := by
    refine bv_H_res h (fun i => if q < i then i - 1 else i) (fun i hi => bv_sh_i hi hq) (fun i j hi hj e => ?_)
    have e' : (if q < i then i - 1 else i) = (if q < j then j - 1 else j) := e
    have hi2 := hi.2
    have hj2 := hj.2
    by_cases c : q < i
    · rw [if_pos c] at e'
      by_cases d : q < j
      · rw [if_pos d] at e'; omega
      · rw [if_neg d] at e'; omega
    · rw [if_neg c] at e'
      by_cases d : q < j
      · rw [if_pos d] at e'; omega
      · rw [if_neg d] at e'; omega
  have k2 : bv_O (fun i => i < n + 1 ∧ i ≠ q) (bv_sh a2 q n) a3 a7 v := bv_O_res ho (fun i => if q < i then i - 1 else i) (fun i hi => bv_sh_i hi hq)
  exact bv_H_hd k1 k2 hv sv (fun i hi ne => ⟨hi, ne⟩)
/-- a version in front of the chain of the place q -/
theorem bv_H_front {n q v : Nat} {a2 a3 a7 : Nat → Int32} (h : bv_H (fun i => i < n) a2 a3 a7) (hq : q < n) (hv : v < 24) (ev : a3 v = 0) : bv_H (fun i => i < n) (upd a2 q (nI v)) (upd a3 v 1) (upd a7 v (a2 q)) := by
  obtain ⟨t, ht, e, st⟩ := h.1 q hq
  obtain ⟨k1, k2⟩ := bv_H_off h hq ht e
  have k3 := bv_H_new (v := v) k1
  have k4 := bv_O_new (v := v) ht k2
  have k5 := bv_O_new (v := v) hv (bv_O_free k1 hv ev)
  have k6 := bv_H_lnk (u := v) k3 k4 ht (bv_use1 st)
  have k7 := bv_O_lnk (u := v) hv ht (fun z => st (by rw [z]; exact ev)) k5
  rw [bv_uu] at k6 k7
  rw [e]
  exact bv_H_hd k6 k7 hv (by rw [pk_us]; decide) (fun i hi ne => ⟨hi, ne⟩)
theorem bv_add {n th : Nat} (md : Int32) {ks : Nat → Nat} {a2 a3 a7 : Nat → Int32} (a4 a5 a6 : Nat → Int32) (hQ : bv_Q n th ks a2 a3 a7) (ht : th < 24) {k : Nat} (k1 : 49 ≤ k) (k2 : k < 343) (ct mk : Int32) :
    ∃ (r : Int32) (n' : Nat) (md' : Int32) (th' : Nat) (ks' : Nat → Nat) (a2' a3' a4' a5' a6' a7' : Nat → Int32), bv_Q n' th' ks' a2' a3' a7' ∧ ∀ (o : Nat), o ≤ 6 → ∀ (post : Int32 → St1 → Prop) (ty bu : Int32) (a8 a9 a10 : Nat → Int32), post r (ty, bu, nI n', md', nI th', bv_g o ks', a2', a3', a4', a5', a6', a7', a8, a9, a10) → wpX_addVersion post (ty, bu, nI n, md, nI th, bv_g o ks, a2, a3, a4, a5, a6, a7, a8, a9, a10) (nI (bv_e o k)) ct mk := by
  have hn := bv_Q_n hQ
  obtain ⟨hc, hK, hH⟩ := hQ
  obtain ⟨v, hv, ev, hw⟩ := bv_freeV (a3 := a3) (by omega)
  have cv : (nI v).toNatClampNeg = v := nI_clamp (by omega)
  have hc' : th + 1 = bv_c (upd a3 v 1) 24 := by rw [bv_c_set 24 hv ev (by decide), hc]
  have sv : ¬ upd a3 v 1 v = 0 := by rw [pk_us]; decide
  obtain ⟨q, hq, hs⟩ := bv_seek (n := n) (by omega) k ks
  have cq : (nI q).toNatClampNeg = q := nI_clamp (by omega)
  have hHn := bv_sh_H (q := q) (bv_H_new (v := v) hH) (bv_O_new (v := v) hv (bv_O_free hH hv ev)) hv sv hq
  by_cases h1 : n ≤ q
  · refine ⟨upd a4 v md v, n + 1, md + 1, th + 1, bv_u (bv_sh ks q n) q k, upd (bv_sh a2 q n) q (nI v), upd a3 v 1, upd a4 v md, upd a5 v ct, upd a6 v (vp_nar .boolean mk), upd a7 v (-1), ⟨hc', bv_sh_K hK hq k1 k2, hHn⟩, fun o ho post ty bu a8 a9 a10 hp => ?_⟩
    unfold wpX_addVersion
    dsimp only
    refine hw _ _ _ _ _ _ _ _ _ _ _ _ _ _ _ ?_
    rw [cv]
    refine ⟨pk_in v 24 hv, nm_e ⟨pk_in v 24 hv, nm_e ⟨pk_in v 24 hv, nm_e ⟨pk_in v 24 hv, nm_e (nm_e (nm_r (nI_1 th) ?_))⟩⟩⟩⟩
    refine hs _ _ _ _ _ _ _ _ _ _ _ _ _ _ _ _ (bv_ge ho hK (by omega) (by omega)) ?_
    refine pk_le n q (fun _ => ⟨n - q + 1, ?_⟩) (fun z => absurd z (by omega))
    have h := bv_av111 (o := o) (k := k) (by omega) hq hv hp (n - q) n (by omega) (Nat.le_refl n)
    rw [bv_sh_0, bv_sh_0] at h
    exact h
  · have b := hK q (by omega)
    by_cases h2 : ks q = k
    · refine ⟨upd a4 v md v, n, md + 1, th + 1, ks, upd a2 q (nI v), upd a3 v 1, upd a4 v md, upd a5 v ct, upd a6 v (vp_nar .boolean mk), upd a7 v (a2 q), ⟨hc', hK, bv_H_front hH (by omega) hv ev⟩, fun o ho post ty bu a8 a9 a10 hp => ?_⟩
      unfold wpX_addVersion
      dsimp only
      refine hw _ _ _ _ _ _ _ _ _ _ _ _ _ _ _ ?_
      rw [cv]
      refine ⟨pk_in v 24 hv, nm_e ⟨pk_in v 24 hv, nm_e ⟨pk_in v 24 hv, nm_e ⟨pk_in v 24 hv, nm_e (nm_e (nm_r (nI_1 th) ?_))⟩⟩⟩⟩
      refine hs _ _ _ _ _ _ _ _ _ _ _ _ _ _ _ _ (bv_ge ho hK (by omega) (by omega)) ?_
      refine pk_le n q (fun z => absurd z (by omega)) (fun _ => ⟨pk_in q 24 (by omega), ?_⟩)
      rw [cq]
      refine br_t ((bv_eq ho (by omega) (by omega)).mpr h2) ⟨pk_in q 24 (by omega), pk_in v 24 hv, nm_e ?_⟩
      unfold wX_addVersion_182
      refine ⟨pk_in q 24 (by omega), nm_r (by rw [cq]) ⟨pk_in v 24 hv, ?_⟩⟩
      rw [cv]
      exact hp
    · refine ⟨upd a4 v md v, n + 1, md + 1, th + 1, bv_u (bv_sh ks q n) q k, upd (bv_sh a2 q n) q (nI v), upd a3 v 1, upd a4 v md, upd a5 v ct, upd a6 v (vp_nar .boolean mk), upd a7 v (-1), ⟨hc', bv_sh_K hK hq k1 k2, hHn⟩, fun o ho post ty bu a8 a9 a10 hp => ?_⟩
      unfold wpX_addVersion
      dsimp only
      refine hw _ _ _ _ _ _ _ _ _ _ _ _ _ _ _ ?_
      rw [cv]
      refine ⟨pk_in v 24 hv, nm_e ⟨pk_in v 24 hv, nm_e ⟨pk_in v 24 hv, nm_e ⟨pk_in v 24 hv, nm_e (nm_e (nm_r (nI_1 th) ?_))⟩⟩⟩⟩
      refine hs _ _ _ _ _ _ _ _ _ _ _ _ _ _ _ _ (bv_ge ho hK (by omega) (by omega)) ?_
      refine pk_le n q (fun z => absurd z (by omega)) (fun _ => ⟨pk_in q 24 (by omega), ?_⟩)
      rw [cq]
      refine br_f (fun z => h2 ((bv_eq ho (by omega) (by omega)).mp z)) ⟨n - q + 1, ?_⟩
      have h := bv_av111 (o := o) (k := k) (by omega) hq hv hp (n - q) n (by omega) (Nat.le_refl n)
      rw [bv_sh_0, bv_sh_0] at h
      exact h
theorem bv_put {p : bv_P} (hJ : bv_J p) {k : Nat} (k1 : 49 ≤ k) (k2 : k < 343) (ct : Int32) : ∃ (r : Int32) (p' : bv_P), bv_J p' ∧ ∀ (o : Nat), o ≤ 6 → ∀ (ty : Int32), ¬ ty = 0 → ∀ (post : Int32 → St1 → Prop), post r (bv_S o ty (nI (bv_e o k)) p') → wpX_put post (bv_S o ty (nI (bv_e o k)) p) ct := by
  obtain ⟨n, md, th, ks, a2, a3, a4, a5, a6, a7, us, a9, a10⟩ := p
  have hJ' := hJ
  obtain ⟨hQ, hU⟩ := hJ
  have hn := bv_Q_n hQ
  by_cases ht : th < 24
  · obtain ⟨r, n', md', th', ks', a2', a3', a4', a5', a6', a7', hQ', hw⟩ := bv_add md a4 a5 a6 hQ ht k1 k2 ct 0
    refine ⟨r, (n', md', th', ks', a2', a3', a4', a5', a6', a7', us, a9, a10), ⟨hQ', hU⟩, fun o ho ty hty post hp => ?_⟩
    unfold wpX_put bv_S
    dsimp only
    refine br_f hty (pk_lt th 24 (fun _ => ?_) (fun z => absurd z (by omega)))
    exact hw o ho _ _ _ _ _ _ hp
  · refine ⟨-2, (n, md, th, ks, a2, a3, a4, a5, a6, a7, us, a9, a10), hJ', fun o ho ty hty post hp => ?_⟩
    unfold wpX_put bv_S
    dsimp only
    exact br_f hty (pk_lt th 24 (fun z => absurd z (by omega)) (fun _ => hp))
theorem bv_remove {p : bv_P} (hJ : bv_J p) {k : Nat} (k1 : 49 ≤ k) (k2 : k < 343) : ∃ (r : Int32) (p' : bv_P), bv_J p' ∧ ∀ (o : Nat), o ≤ 6 → ∀ (ty : Int32), ¬ ty = 0 → ∀ (post : Int32 → St1 → Prop), post r (bv_S o ty (nI (bv_e o k)) p') → wpX_remove post (bv_S o ty (nI (bv_e o k)) p) := by
  obtain ⟨n, md, th, ks, a2, a3, a4, a5, a6, a7, us, a9, a10⟩ := p
  have hJ' := hJ
  obtain ⟨hQ, hU⟩ := hJ
  have hn := bv_Q_n hQ
  obtain ⟨r0, hr0, hw0⟩ := bv_place (by omega) hQ.2.1 k1 k2
  obtain ⟨b, hb, hb2, hv⟩ := bv_pres (by omega) hQ.2.2 a6 hr0
  by_cases h0 : b = 0
  · refine ⟨-3, (n, md, th, ks, a2, a3, a4, a5, a6, a7, us, a9, a10), hJ', fun o ho ty hty post hp => ?_⟩
    unfold wpX_remove bv_S
    dsimp only
    refine hw0 o ho _ _ _ _ _ _ _ _ _ _ _ _ _ _ ?_
    refine br_f hty ?_
    refine hv _ _ _ _ _ _ _ _ _ _ _ _ _ _ ?_
    exact br_t h0 hp
  · by_cases ht : th < 24
    · obtain ⟨r, n', md', th', ks', a2', a3', a4', a5', a6', a7', hQ', hw⟩ := bv_add md a4 a5 a6 hQ ht k1 k2 0 1
      refine ⟨r, (n', md', th', ks', a2', a3', a4', a5', a6', a7', us, a9, a10), ⟨hQ', hU⟩, fun o ho ty hty post hp => ?_⟩
      unfold wpX_remove bv_S
      dsimp only
      refine hw0 o ho _ _ _ _ _ _ _ _ _ _ _ _ _ _ ?_
      refine br_f hty ?_
      refine hv _ _ _ _ _ _ _ _ _ _ _ _ _ _ ?_
      refine br_f h0 (pk_lt th 24 (fun _ => ?_) (fun z => absurd z (by omega)))
      exact hw o ho _ _ _ _ _ _ hp
    · refine ⟨-2, (n, md, th, ks, a2, a3, a4, a5, a6, a7, us, a9, a10), hJ', fun o ho ty hty post hp => ?_⟩
      unfold wpX_remove bv_S
      dsimp only
      refine hw0 o ho _ _ _ _ _ _ _ _ _ _ _ _ _ _ ?_
      refine br_f hty ?_
      refine hv _ _ _ _ _ _ _ _ _ _ _ _ _ _ ?_
      exact br_f h0 (pk_lt th 24 (fun z => absurd z (by omega)) (fun _ => hp))
end
section
theorem bv_g_clr (o : Nat) (f : Nat → Nat) (k : Nat) : upd (bv_g o f) k 0 = bv_g o (bv_u f k 0) := by
  have h := bv_g_upd o f k 0
  rw [bv_e_0] at h
  exact h
theorem bv_U_set {us : Nat → Nat} (h : bv_U us) {j k : Nat} (k1 : 49 ≤ k) (k2 : k < 343) : bv_U (bv_u us j k) := by
  intro i hi
  by_cases e : i = j
  · subst e; rw [bv_us]; exact Or.inr ⟨k1, k2⟩
  · rw [bv_un e]; exact h i hi
theorem bv_U_clr {us : Nat → Nat} (h : bv_U us) {j : Nat} : bv_U (bv_u us j 0) := by
  intro i hi
  by_cases e : i = j
  · subst e; rw [bv_us]; exact Or.inl rfl
  · rw [bv_un e]; exact h i hi
theorem bv_U_le {us : Nat → Nat} (h : bv_U us) {i : Nat} (hi : i < 3) : us i ≤ 343 := by
  rcases h i hi with z | z <;> omega
theorem bv_bits (x : Int32) : ∃ r : Int32, ∀ (post : Int32 → Prop), post r → wpX_bits post () x := by
  have main : ∀ m i (c : Int32), i + m = 8 → ∃ r : Int32, ∀ (post : Int32 → Prop), post r → wX_bits_4 post x (m + 1) c (nI i) := by
    intro m
    induction m with
    | zero =>
      intro i c hi
      exact ⟨c, fun post hp => pk_le 8 i (fun _ => hp) (fun z => absurd z (by omega))⟩
    | succ m ih =>
      intro i c hi
      obtain ⟨r, hr⟩ := ih (i + 1) (c + ((x >>> (nI i &&& 31)) &&& 1)) (by omega)
      exact ⟨r, fun post hp => pk_le 8 i (fun z => absurd z (by omega)) (fun _ => nm_e (nm_r (nI_1 i) (hr post hp)))⟩
  obtain ⟨r, hr⟩ := main 8 0 0 rfl
  exact ⟨r, fun post hp => ⟨9, hr post hp⟩⟩
theorem bv_noUp {us : Nat → Nat} (hU : bv_U us) {j : Nat} (hj : j < 4) : ∃ b : Int32, (b = 0 → j < 3 ∧ ¬ us j = 0) ∧ ∀ (o : Nat), o ≤ 6 → ∀ (post : Int32 → Prop) (ty bu ke md th : Int32) (a1 a2 a3 a4 a5 a6 a7 a9 a10 : Nat → Int32), post b → wpX_noUpload post (ty, bu, ke, md, th, a1, a2, a3, a4, a5, a6, a7, bv_g o us, a9, a10) (nI j) := by
  have cj : (nI j).toNatClampNeg = j := nI_clamp (by omega)
  by_cases h3 : 2 < j
  · refine ⟨1, fun z => absurd z (by decide), fun o ho post ty bu ke md th a1 a2 a3 a4 a5 a6 a7 a9 a10 hp => ?_⟩
    exact br_f (nI_pos (by omega)) (pk_lt 2 j (fun _ => hp) (fun z => absurd z (by omega)))
  · have hu := bv_U_le hU (i := j) (by omega)
    by_cases h0 : us j = 0
    · refine ⟨1, fun z => absurd z (by decide), fun o ho post ty bu ke md th a1 a2 a3 a4 a5 a6 a7 a9 a10 hp => ?_⟩
      exact br_f (nI_pos (by omega)) (pk_lt 2 j (fun z => absurd z (by omega)) (fun _ => ⟨pk_in j 3 (by omega), br_t (by rw [cj]; exact (bv_eq0 ho hu).mpr h0) hp⟩))
    · refine ⟨0, fun _ => ⟨by omega, h0⟩, fun o ho post ty bu ke md th a1 a2 a3 a4 a5 a6 a7 a9 a10 hp => ?_⟩
      exact br_f (nI_pos (by omega)) (pk_lt 2 j (fun z => absurd z (by omega)) (fun _ => ⟨pk_in j 3 (by omega), br_f (by rw [cj]; exact fun z => h0 ((bv_eq0 ho hu).mp z)) hp⟩))
theorem bv_begin {p : bv_P} (hJ : bv_J p) {k : Nat} (k1 : 49 ≤ k) (k2 : k < 343) : ∃ (r : Int32) (p' : bv_P), bv_J p' ∧ ∀ (o : Nat), o ≤ 6 → ∀ (ty : Int32), ¬ ty = 0 → ∀ (post : Int32 → St1 → Prop), post r (bv_S o ty (nI (bv_e o k)) p') → wpX_begin post (bv_S o ty (nI (bv_e o k)) p) := by
  obtain ⟨n, md, th, ks, a2, a3, a4, a5, a6, a7, us, a9, a10⟩ := p
  obtain ⟨hQ, hU⟩ := hJ
  have main : ∀ m i, i + m = 3 → ∃ (r : Int32) (us' : Nat → Nat) (a9' : Nat → Int32), bv_U us' ∧ ∀ (o : Nat), o ≤ 6 → ∀ (post : Int32 → St1 → Prop) (ty : Int32), post r (ty, nI (bv_e o k), nI n, md, nI th, bv_g o ks, a2, a3, a4, a5, a6, a7, bv_g o us', a9', a10) → wX_begin_12 post ty (nI (bv_e o k)) (nI n) md (nI th) (bv_g o ks) a2 a3 a4 a5 a6 a7 (bv_g o us) a9 a10 (m + 1) (nI i) := by
    intro m
    induction m with
    | zero =>
      intro i hi
      have e : i = 3 := by omega
      subst e
      exact ⟨-2, us, a9, hU, fun o ho post ty hp => pk_le 3 3 (fun _ => br_t rfl hp) (fun z => absurd z (by omega))⟩
    | succ m ih =>
      intro i hi
      have ci : (nI i).toNatClampNeg = i := nI_clamp (by omega)
      have hu := bv_U_le hU (i := i) (by omega)
      by_cases h0 : us i = 0
      · refine ⟨nI i, bv_u us i k, upd a9 i 0, bv_U_set hU k1 k2, fun o ho post ty hp => pk_le 3 i (fun z => absurd z (by omega)) (fun _ => ⟨pk_in i 3 (by omega), br_t (by rw [ci]; exact (bv_eq0 ho hu).mpr h0) ?_⟩)⟩
        have e1 : upd (bv_g o us) (nI i).toNatClampNeg (nI (bv_e o k)) = bv_g o (bv_u us i k) := by
          rw [ci]
          exact bv_g_upd o _ i k
        exact pk_eq i 3 (fun z => absurd z (by omega)) (fun _ => ⟨pk_in i 3 (by omega), nm_r e1 ⟨pk_in i 3 (by omega), nm_r (by rw [ci]) hp⟩⟩)
      · obtain ⟨r, us', a9', h1, hw⟩ := ih (i + 1) (by omega)
        exact ⟨r, us', a9', h1, fun o ho post ty hp => pk_le 3 i (fun z => absurd z (by omega)) (fun _ => ⟨pk_in i 3 (by omega), br_f (by rw [ci]; exact fun z => h0 ((bv_eq0 ho hu).mp z)) (nm_r (nI_1 i) (hw o ho post ty hp))⟩)⟩
  obtain ⟨r, us', a9', h1, hw⟩ := main 3 0 rfl
  exact ⟨r, (n, md, th, ks, a2, a3, a4, a5, a6, a7, us', a9', a10), ⟨hQ, h1⟩, fun o ho ty hty post hp => br_f hty ⟨4, hw o ho post ty hp⟩⟩
theorem bv_ix {j q : Nat} : nI j * 8 + nI q = nI (j * 8 + q) := by
  show nI j * nI 8 + nI q = nI (j * 8 + q)
  rw [pk_mul, nI_add]
theorem bv_part {p : bv_P} (hJ : bv_J p) {j q : Nat} (hj : j < 4) (hq : q < 8) (x : Int32) : ∃ (r : Int32) (p' : bv_P), bv_J p' ∧ ∀ (o : Nat), o ≤ 6 → ∀ (ty bu : Int32) (post : Int32 → St1 → Prop), post r (bv_S o ty bu p') → wpX_part post (bv_S o ty bu p) (nI j) (nI q) x := by
  obtain ⟨n, md, th, ks, a2, a3, a4, a5, a6, a7, us, a9, a10⟩ := p
  have hJ' := hJ
  obtain ⟨hQ, hU⟩ := hJ
  have cj : (nI j).toNatClampNeg = j := nI_clamp (by omega)
  obtain ⟨b, hb, hw⟩ := bv_noUp hU hj
  by_cases h0 : b = 0
  · obtain ⟨hj3, hu⟩ := hb h0
    obtain ⟨r, hr⟩ := bv_bits (upd a9 j (a9 j ||| ((1 : Int32) <<< (nI q &&& 31))) j)
    refine ⟨r, (n, md, th, ks, a2, a3, a4, a5, a6, a7, us, upd a9 j (a9 j ||| ((1 : Int32) <<< (nI q &&& 31))), upd a10 (j * 8 + q) x), ⟨hQ, hU⟩, fun o ho ty bu post hp => ?_⟩
    unfold wpX_part bv_S
    dsimp only
    refine hw o ho _ _ _ _ _ _ _ _ _ _ _ _ _ _ _ ?_
    refine br_t h0 (br_f (nI_pos (by omega)) (br_t (nI_le (b := 7) (by omega) (by decide)) ⟨pk_in j 3 hj3, pk_in j 3 hj3, nm_r (by rw [cj]) ⟨pk_in (j * 8 + q) 24 (by omega) bv_ix, nm_r (by rw [bv_ix, nI_clamp (show j * 8 + q < 2 ^ 31 by omega)]) ⟨pk_in j 3 hj3, ?_⟩⟩⟩))
    rw [cj]
    exact hr _ hp
  · refine ⟨-5, (n, md, th, ks, a2, a3, a4, a5, a6, a7, us, a9, a10), hJ', fun o ho ty bu post hp => ?_⟩
    unfold wpX_part bv_S
    dsimp only
    refine hw o ho _ _ _ _ _ _ _ _ _ _ _ _ _ _ _ ?_
    exact br_f h0 hp
theorem bv_abort {p : bv_P} (hJ : bv_J p) {j : Nat} (hj : j < 4) : ∃ (r : Int32) (p' : bv_P), bv_J p' ∧ ∀ (o : Nat), o ≤ 6 → ∀ (ty bu : Int32) (post : Int32 → St1 → Prop), post r (bv_S o ty bu p') → wpX_abort post (bv_S o ty bu p) (nI j) := by
  obtain ⟨n, md, th, ks, a2, a3, a4, a5, a6, a7, us, a9, a10⟩ := p
  have hJ' := hJ
  obtain ⟨hQ, hU⟩ := hJ
  have cj : (nI j).toNatClampNeg = j := nI_clamp (by omega)
  obtain ⟨b, hb, hw⟩ := bv_noUp hU hj
  by_cases h0 : b = 0
  · obtain ⟨hj3, hu⟩ := hb h0
    obtain ⟨r, hr⟩ := bv_bits (a9 j)
    refine ⟨r, (n, md, th, ks, a2, a3, a4, a5, a6, a7, bv_u us j 0, a9, a10), ⟨hQ, bv_U_clr hU⟩, fun o ho ty bu post hp => ?_⟩
    unfold wpX_abort bv_S
    dsimp only
    refine hw o ho _ _ _ _ _ _ _ _ _ _ _ _ _ _ _ ?_
    have e1 : upd (bv_g o us) (nI j).toNatClampNeg 0 = bv_g o (bv_u us j 0) := by
      rw [cj]
      exact bv_g_clr o us j
    refine br_t h0 ⟨pk_in j 3 hj3, nm_r e1 ⟨pk_in j 3 hj3, ?_⟩⟩
    rw [cj]
    exact hr _ hp
  · refine ⟨-5, (n, md, th, ks, a2, a3, a4, a5, a6, a7, us, a9, a10), hJ', fun o ho ty bu post hp => ?_⟩
    unfold wpX_abort bv_S
    dsimp only
    refine hw o ho _ _ _ _ _ _ _ _ _ _ _ _ _ _ _ ?_
    exact br_f h0 hp
theorem bv_cmp55 {n th : Nat} (md : Int32) {ks us : Nat → Nat} {a2 a3 a7 : Nat → Int32} (a4 a5 a6 a10 : Nat → Int32) (hQ : bv_Q n th ks a2 a3 a7) (ht : th < 24) {j : Nat} (hj : j < 3) (u1 : 49 ≤ us j) (u2 : us j < 343) (x3 : Int32) : ∀ m i (c : Int32), i + m = 8 →
    ∃ (r : Int32) (n' : Nat) (md' : Int32) (th' : Nat) (ks' : Nat → Nat) (a2' a3' a4' a5' a6' a7' : Nat → Int32), bv_Q n' th' ks' a2' a3' a7' ∧ ∀ (o : Nat), o ≤ 6 → ∀ (post : Int32 → St1 → Prop) (ty bu : Int32) (a9 : Nat → Int32), post r (ty, bu, nI n', md', nI th', bv_g o ks', a2', a3', a4', a5', a6', a7', bv_g o (bv_u us j 0), a9, a10) → wX_complete_55 post (nI j) x3 ty bu (nI n) md (nI th) (bv_g o ks) a2 a3 a4 a5 a6 a7 (bv_g o us) a9 a10 (m + 1) c (nI i) := by
  have cj : (nI j).toNatClampNeg = j := nI_clamp (by omega)
  intro m
  induction m with
  | zero =>
    intro i c hi
    obtain ⟨r, n', md', th', ks', a2', a3', a4', a5', a6', a7', hQ', hw⟩ := bv_add md a4 a5 a6 hQ ht u1 u2 c 0
    refine ⟨r, n', md', th', ks', a2', a3', a4', a5', a6', a7', hQ', fun o ho post ty bu a9 hp => ?_⟩
    have e1 : upd (bv_g o us) (nI j).toNatClampNeg 0 = bv_g o (bv_u us j 0) := by
      rw [cj]
      exact bv_g_clr o us j
    have e0 : bv_g o us (nI j).toNatClampNeg = nI (bv_e o (us j)) := by
      rw [cj]
      rfl
    exact pk_le 8 i (fun _ => ⟨pk_in j 3 hj, nm_r e0 ⟨pk_in j 3 hj, nm_r e1 (hw o ho _ _ _ _ _ _ hp)⟩⟩) (fun z => absurd z (by omega))
  | succ m ih =>
    intro i c hi
    by_cases h1 : ((x3 >>> (nI i &&& 31)) &&& 1) = 1
    · obtain ⟨r, n', md', th', ks', a2', a3', a4', a5', a6', a7', hQ', hw⟩ := ih (i + 1) (c * 31 + a10 (j * 8 + i)) (by omega)
      exact ⟨r, n', md', th', ks', a2', a3', a4', a5', a6', a7', hQ', fun o ho post ty bu a9 hp => pk_le 8 i (fun z => absurd z (by omega)) (fun _ => br_t h1 ⟨pk_in (j * 8 + i) 24 (by omega) bv_ix, nm_r (by rw [bv_ix, nI_clamp (show j * 8 + i < 2 ^ 31 by omega)]) (nm_r (nI_1 i) (hw o ho post ty bu a9 hp))⟩)⟩
    · obtain ⟨r, n', md', th', ks', a2', a3', a4', a5', a6', a7', hQ', hw⟩ := ih (i + 1) c (by omega)
      exact ⟨r, n', md', th', ks', a2', a3', a4', a5', a6', a7', hQ', fun o ho post ty bu a9 hp => pk_le 8 i (fun z => absurd z (by omega)) (fun _ => br_f h1 (nm_r (nI_1 i) (hw o ho post ty bu a9 hp)))⟩
theorem bv_complete {p : bv_P} (hJ : bv_J p) {j : Nat} (hj : j < 4) (x : Int32) : ∃ (r : Int32) (p' : bv_P), bv_J p' ∧ ∀ (o : Nat), o ≤ 6 → ∀ (ty bu : Int32) (post : Int32 → St1 → Prop), post r (bv_S o ty bu p') → wpX_complete post (bv_S o ty bu p) (nI j) x := by
  obtain ⟨n, md, th, ks, a2, a3, a4, a5, a6, a7, us, a9, a10⟩ := p
  have hJ' := hJ
  obtain ⟨hQ, hU⟩ := hJ
  have hn := bv_Q_n hQ
  have cj : (nI j).toNatClampNeg = j := nI_clamp (by omega)
  obtain ⟨b, hb, hw⟩ := bv_noUp hU hj
  by_cases h0 : b = 0
  · obtain ⟨hj3, hu⟩ := hb h0
    have hu2 : 49 ≤ us j ∧ us j < 343 := by
      rcases hU j hj3 with z | z
      · exact absurd z hu
      · exact z
    by_cases h1 : x &&& 255 = 0
    · refine ⟨-6, (n, md, th, ks, a2, a3, a4, a5, a6, a7, us, a9, a10), hJ', fun o ho ty bu post hp => ?_⟩
      unfold wpX_complete bv_S
      dsimp only
      refine hw o ho _ _ _ _ _ _ _ _ _ _ _ _ _ _ _ ?_
      exact br_t h0 (nm_e (br_t h1 hp))
    · by_cases h2 : ((x &&& 255) &&& (a9 j ^^^ (-1))) = 0
      · by_cases ht : th < 24
        · obtain ⟨r, n', md', th', ks', a2', a3', a4', a5', a6', a7', hQ', hk⟩ := bv_cmp55 md a4 a5 a6 a10 hQ ht hj3 hu2.1 hu2.2 (x &&& 255) 8 0 0 rfl
          refine ⟨r, (n', md', th', ks', a2', a3', a4', a5', a6', a7', bv_u us j 0, a9, a10), ⟨hQ', bv_U_clr hU⟩, fun o ho ty bu post hp => ?_⟩
          unfold wpX_complete bv_S
          dsimp only
          refine hw o ho _ _ _ _ _ _ _ _ _ _ _ _ _ _ _ ?_
          exact br_t h0 (nm_e (br_f h1 ⟨pk_in j 3 hj3, br_t (by rw [cj]; exact h2) (pk_lt th 24 (fun _ => ⟨9, hk o ho post ty bu a9 hp⟩) (fun z => absurd z (by omega)))⟩))
        · refine ⟨-2, (n, md, th, ks, a2, a3, a4, a5, a6, a7, us, a9, a10), hJ', fun o ho ty bu post hp => ?_⟩
          unfold wpX_complete bv_S
          dsimp only
          refine hw o ho _ _ _ _ _ _ _ _ _ _ _ _ _ _ _ ?_
          exact br_t h0 (nm_e (br_f h1 ⟨pk_in j 3 hj3, br_t (by rw [cj]; exact h2) (pk_lt th 24 (fun z => absurd z (by omega)) (fun _ => hp))⟩))
      · refine ⟨-6, (n, md, th, ks, a2, a3, a4, a5, a6, a7, us, a9, a10), hJ', fun o ho ty bu post hp => ?_⟩
        unfold wpX_complete bv_S
        dsimp only
        refine hw o ho _ _ _ _ _ _ _ _ _ _ _ _ _ _ _ ?_
        exact br_t h0 (nm_e (br_f h1 ⟨pk_in j 3 hj3, br_f (by rw [cj]; exact h2) hp⟩))
  · refine ⟨-5, (n, md, th, ks, a2, a3, a4, a5, a6, a7, us, a9, a10), hJ', fun o ho ty bu post hp => ?_⟩
    unfold wpX_complete bv_S
    dsimp only
    refine hw o ho _ _ _ _ _ _ _ _ _ _ _ _ _ _ _ ?_
    exact br_f h0 hp
theorem bv_call {p : bv_P} (hJ : bv_J p) {k kd : Nat} (k1 : 49 ≤ k) (k2 : k < 343) (hk : kd < 16) (x : Int32) : ∃ (r : Int32) (p' : bv_P), bv_J p' ∧ ∀ (o : Nat), o ≤ 6 → ∀ (ty : Int32), ¬ ty = 0 → ∀ (post : Int32 → St1 → Prop), post r (bv_S o ty (nI (bv_e o k)) p') → wpL_call post (bv_S o ty (nI (bv_e o k)) p) (nI kd) x := by
  obtain ⟨n, md, th, ks, a2, a3, a4, a5, a6, a7, us, a9, a10⟩ := p
  obtain ⟨j, hj, ej⟩ := pk_andE (x >>> ((11 : Int32) &&& 31)) (m := 3) 2 (by decide)
  obtain ⟨q, hq, eq⟩ := pk_andE (x >>> ((13 : Int32) &&& 31)) (m := 7) 3 (by decide)
  by_cases c7 : 7 ≤ kd
  · by_cases c9 : 9 ≤ kd
    · by_cases c11 : 11 ≤ kd
      · by_cases e11 : kd = 11
        · obtain ⟨r, ⟨n', md', th', ks', a2', a3', a4', a5', a6', a7', us', a9', a10'⟩, hJ', hw⟩ := bv_begin hJ k1 k2
          refine ⟨r, (n', md', th', ks', a2', a3', a4', a5', a6', a7', us', a9', a10'), hJ', fun o ho ty hty post hp => ?_⟩
          unfold wpL_call bv_S
          dsimp only
          refine pk_le 7 kd (fun _ => pk_le 9 kd (fun _ => pk_le 11 kd (fun _ => pk_eq kd 11 (fun _ => ?_) (fun z => absurd e11 z)) (fun z => absurd z (by omega))) (fun z => absurd z (by omega))) (fun z => absurd z (by omega))
          exact hw o ho ty hty _ hp
        · by_cases e12 : kd = 12
          · obtain ⟨r, ⟨n', md', th', ks', a2', a3', a4', a5', a6', a7', us', a9', a10'⟩, hJ', hw⟩ := bv_part hJ hj hq (x >>> ((16 : Int32) &&& 31))
            refine ⟨r, (n', md', th', ks', a2', a3', a4', a5', a6', a7', us', a9', a10'), hJ', fun o ho ty hty post hp => ?_⟩
            unfold wpL_call bv_S
            dsimp only
            refine pk_le 7 kd (fun _ => pk_le 9 kd (fun _ => pk_le 11 kd (fun _ => pk_eq kd 11 (fun z => absurd z e11) (fun _ => pk_eq kd 12 (fun _ => ?_) (fun z => absurd e12 z))) (fun z => absurd z (by omega))) (fun z => absurd z (by omega))) (fun z => absurd z (by omega))
            rw [ej, eq]
            exact hw o ho ty _ _ hp
          · by_cases e13 : kd = 13
            · obtain ⟨r, ⟨n', md', th', ks', a2', a3', a4', a5', a6', a7', us', a9', a10'⟩, hJ', hw⟩ := bv_complete hJ hj (x >>> ((13 : Int32) &&& 31))
              refine ⟨r, (n', md', th', ks', a2', a3', a4', a5', a6', a7', us', a9', a10'), hJ', fun o ho ty hty post hp => ?_⟩
              unfold wpL_call bv_S
              dsimp only
              refine pk_le 7 kd (fun _ => pk_le 9 kd (fun _ => pk_le 11 kd (fun _ => pk_eq kd 11 (fun z => absurd z e11) (fun _ => pk_eq kd 12 (fun z => absurd z e12) (fun _ => pk_eq kd 13 (fun _ => ?_) (fun z => absurd e13 z)))) (fun z => absurd z (by omega))) (fun z => absurd z (by omega))) (fun z => absurd z (by omega))
              rw [ej]
              exact hw o ho ty _ _ hp
            · by_cases e14 : kd = 14
              · obtain ⟨r, ⟨n', md', th', ks', a2', a3', a4', a5', a6', a7', us', a9', a10'⟩, hJ', hw⟩ := bv_expire hJ hj
                refine ⟨r, (n', md', th', ks', a2', a3', a4', a5', a6', a7', us', a9', a10'), hJ', fun o ho ty hty post hp => ?_⟩
                unfold wpL_call bv_S
                dsimp only
                refine pk_le 7 kd (fun _ => pk_le 9 kd (fun _ => pk_le 11 kd (fun _ => pk_eq kd 11 (fun z => absurd z e11) (fun _ => pk_eq kd 12 (fun z => absurd z e12) (fun _ => pk_eq kd 13 (fun z => absurd z e13) (fun _ => pk_eq kd 14 (fun _ => ?_) (fun z => absurd e14 z))))) (fun z => absurd z (by omega))) (fun z => absurd z (by omega))) (fun z => absurd z (by omega))
                rw [ej]
                exact hw o ty _ _ hp
              · obtain ⟨r, ⟨n', md', th', ks', a2', a3', a4', a5', a6', a7', us', a9', a10'⟩, hJ', hw⟩ := bv_abort hJ hj
                refine ⟨r, (n', md', th', ks', a2', a3', a4', a5', a6', a7', us', a9', a10'), hJ', fun o ho ty hty post hp => ?_⟩
                unfold wpL_call bv_S
                dsimp only
                refine pk_le 7 kd (fun _ => pk_le 9 kd (fun _ => pk_le 11 kd (fun _ => pk_eq kd 11 (fun z => absurd z e11) (fun _ => pk_eq kd 12 (fun z => absurd z e12) (fun _ => pk_eq kd 13 (fun z => absurd z e13) (fun _ => pk_eq kd 14 (fun z => absurd z e14) (fun _ => ?_))))) (fun z => absurd z (by omega))) (fun z => absurd z (by omega))) (fun z => absurd z (by omega))
                rw [ej]
                exact hw o ho ty _ _ hp
      · obtain ⟨r, ⟨n', md', th', ks', a2', a3', a4', a5', a6', a7', us', a9', a10'⟩, hJ', hw⟩ := bv_destroy hJ ((x >>> ((11 : Int32) &&& 31)) &&& 31)
        refine ⟨r, (n', md', th', ks', a2', a3', a4', a5', a6', a7', us', a9', a10'), hJ', fun o ho ty hty post hp => ?_⟩
        unfold wpL_call bv_S
        dsimp only
        refine pk_le 7 kd (fun _ => pk_le 9 kd (fun _ => pk_le 11 kd (fun z => absurd z (by omega)) (fun _ => ?_)) (fun z => absurd z (by omega))) (fun z => absurd z (by omega))
        exact hw o ty _ _ hp
    · obtain ⟨r, ⟨n', md', th', ks', a2', a3', a4', a5', a6', a7', us', a9', a10'⟩, hJ', hw⟩ := bv_remove hJ k1 k2
      refine ⟨r, (n', md', th', ks', a2', a3', a4', a5', a6', a7', us', a9', a10'), hJ', fun o ho ty hty post hp => ?_⟩
      unfold wpL_call bv_S
      dsimp only
      refine pk_le 7 kd (fun _ => pk_le 9 kd (fun z => absurd z (by omega)) (fun _ => ?_)) (fun z => absurd z (by omega))
      exact hw o ho ty hty _ hp
  · obtain ⟨r, ⟨n', md', th', ks', a2', a3', a4', a5', a6', a7', us', a9', a10'⟩, hJ', hw⟩ := bv_put hJ k1 k2 (x >>> ((11 : Int32) &&& 31))
    refine ⟨r, (n', md', th', ks', a2', a3', a4', a5', a6', a7', us', a9', a10'), hJ', fun o ho ty hty post hp => ?_⟩
    unfold wpL_call bv_S
    dsimp only
    refine pk_le 7 kd (fun z => absurd z (by omega)) (fun _ => ?_)
    exact hw o ho ty hty _ hp
end
section
/-- what a digit counts at a place -/
def bv_w (p : Nat) : Nat := if p = 0 then 343 else if p = 1 then 49 else if p = 2 then 7 else 1
/-- the second object's keys have one letter more -/
def bv_f (o : Nat) : Nat := if o = 0 then 0 else 1
theorem bv_f_le (o : Nat) : bv_f o ≤ 1 := by
  unfold bv_f
  by_cases h : o = 0
  · rw [if_pos h]; omega
  · rw [if_neg h]; omega
theorem bv_f_d {o : Nat} (h : ¬ o = 0) : bv_f o = 1 := by
  unfold bv_f
  rw [if_neg h]
theorem bv_w_b (p : Nat) : 1 ≤ bv_w p ∧ bv_w p ≤ 343 := by
  unfold bv_w
  by_cases h : p = 0
  · rw [if_pos h]; omega
  · rw [if_neg h]
    by_cases h1 : p = 1
    · rw [if_pos h1]; omega
    · rw [if_neg h1]
      by_cases h2 : p = 2
      · rw [if_pos h2]; omega
      · rw [if_neg h2]; omega
theorem bv_w_3 {p : Nat} (h : 3 ≤ p) : bv_w p = 1 := by
  unfold bv_w
  rw [if_neg (by omega), if_neg (by omega), if_neg (by omega)]
theorem bv_unit {post : Int32 → Prop} {p : Nat} (hp : p < 2 ^ 31) (h : post (nI (bv_w p))) : wpX_unit post () (nI p) := by
  unfold wpX_unit
  by_cases h3 : 2 < p
  · rw [bv_w_3 (by omega)] at h
    exact br_f (nI_pos hp) (pk_lt 2 p (fun _ => h) (fun z => absurd z (by omega)))
  · have c : p = 0 ∨ p = 1 ∨ p = 2 := by omega
    rcases c with c | c | c
    · subst c
      exact br_f (by decide) (br_f (by decide) (br_t rfl h))
    · subst c
      exact br_f (by decide) (br_f (by decide) (br_f (by decide) (br_t rfl h)))
    · subst c
      exact br_f (by decide) (br_f (by decide) (br_f (by decide) (br_f (by decide) (br_t rfl h))))
theorem bv_dig {post : Int32 → Prop} {K p : Nat} (hK : K < 2 ^ 31) (hp : p < 2 ^ 31) (h : post (nI (K / bv_w p % 7))) : wpX_digitAt post () (nI K) (nI p) := by
  have b := bv_w_b p
  have hd : K / bv_w p ≤ K := Nat.div_le_self K (bv_w p)
  unfold wpX_digitAt
  refine bv_unit hp ⟨nI_ne0 (by omega) (by omega), by decide, ?_⟩
  rw [pk_div hK (by omega) (by omega)]
  have e : nI (K / bv_w p) - nI (K / bv_w p) / 7 * 7 = nI (K / bv_w p % 7) := pk_rem (d := 7) (by omega) (by omega) (by omega)
  rw [e]
  exact h
theorem bv_3 {P : Nat → Prop} (h0 : P 0) (h1 : P 1) (h2 : P 2) {p : Nat} (hp : p ≤ 2) : P p := by
  have c : p = 0 ∨ p = 1 ∨ p = 2 := by omega
  rcases c with c | c | c
  · rw [c]; exact h0
  · rw [c]; exact h1
  · rw [c]; exact h2
theorem bv_w0 : bv_w 0 = 343 := rfl
theorem bv_w1 : bv_w 1 = 49 := rfl
theorem bv_w2 : bv_w 2 = 7 := rfl
theorem bv_w3 : bv_w 3 = 1 := rfl
theorem bv_dig_e {o k p : Nat} (k1 : 49 ≤ k) (hp : p ≤ 2) : bv_e o k / bv_w (p + bv_f o) % 7 = k / bv_w (p + 1) % 7 := by
  by_cases h : o = 0
  · subst h
    rw [bv_e_c]
    refine bv_3 (P := fun p => 7 * k / bv_w (p + bv_f 0) % 7 = k / bv_w (p + 1) % 7) ?_ ?_ ?_ hp
    · show 7 * k / 343 % 7 = k / 49 % 7
      omega
    · show 7 * k / 49 % 7 = k / 7 % 7
      omega
    · show 7 * k / 7 % 7 = k / 1 % 7
      omega
  · rw [bv_e_d (by omega) (by omega), bv_f_d h]
    refine bv_3 (P := fun p => (343 * o + k) / bv_w (p + 1) % 7 = k / bv_w (p + 1) % 7) ?_ ?_ ?_ hp
    · show (343 * o + k) / 49 % 7 = k / 49 % 7
      omega
    · show (343 * o + k) / 7 % 7 = k / 7 % 7
      omega
    · show (343 * o + k) / 1 % 7 = k / 1 % 7
      omega
theorem bv_cut_e {o k p : Nat} (k1 : 49 ≤ k) (hp : p ≤ 2) : bv_e o k - bv_e o k % bv_w (p + bv_f o) = bv_e o (k - k % bv_w (p + 1)) := by
  by_cases h : o = 0
  · subst h
    rw [bv_e_c, bv_e_c]
    refine bv_3 (P := fun p => 7 * k - 7 * k % bv_w (p + bv_f 0) = 7 * (k - k % bv_w (p + 1))) ?_ ?_ ?_ hp
    · show 7 * k - 7 * k % 343 = 7 * (k - k % 49)
      omega
    · show 7 * k - 7 * k % 49 = 7 * (k - k % 7)
      omega
    · show 7 * k - 7 * k % 7 = 7 * (k - k % 1)
      omega
  · rw [bv_f_d h]
    refine bv_3 (P := fun p => bv_e o k - bv_e o k % bv_w (p + 1) = bv_e o (k - k % bv_w (p + 1))) ?_ ?_ ?_ hp
    · show bv_e o k - bv_e o k % 49 = bv_e o (k - k % 49)
      rw [bv_e_d (by omega) (by omega), bv_e_d (by omega) (by omega)]
      omega
    · show bv_e o k - bv_e o k % 7 = bv_e o (k - k % 7)
      rw [bv_e_d (by omega) (by omega), bv_e_d (by omega) (by omega)]
      omega
    · show bv_e o k - bv_e o k % 1 = bv_e o (k - k % 1)
      rw [bv_e_d (by omega) (by omega), bv_e_d (by omega) (by omega)]
      omega
theorem bv_beh_e {o w p : Nat} (w1 : 0 < w) (hp : p ≤ 2) : bv_e o w + bv_w (p + bv_f o) = bv_e o (w + bv_w (p + 1)) := by
  by_cases h : o = 0
  · subst h
    rw [bv_e_c, bv_e_c]
    refine bv_3 (P := fun p => 7 * w + bv_w (p + bv_f 0) = 7 * (w + bv_w (p + 1))) ?_ ?_ ?_ hp
    · show 7 * w + 343 = 7 * (w + 49)
      omega
    · show 7 * w + 49 = 7 * (w + 7)
      omega
    · show 7 * w + 7 = 7 * (w + 1)
      omega
  · rw [bv_f_d h, bv_e_d (by omega) w1, bv_e_d (by omega) (by omega)]
    omega
theorem bv_cut_b {k p : Nat} (k1 : 49 ≤ k) (k2 : k < 343) (hp : p ≤ 2) : 49 ≤ k - k % bv_w (p + 1) ∧ k - k % bv_w (p + 1) < 343 ∧ k - k % bv_w (p + 1) + bv_w (p + 1) ≤ 343 := by
  refine bv_3 (P := fun p => 49 ≤ k - k % bv_w (p + 1) ∧ k - k % bv_w (p + 1) < 343 ∧ k - k % bv_w (p + 1) + bv_w (p + 1) ≤ 343) ?_ ?_ ?_ hp
  · show 49 ≤ k - k % 49 ∧ k - k % 49 < 343 ∧ k - k % 49 + 49 ≤ 343
    omega
  · show 49 ≤ k - k % 7 ∧ k - k % 7 < 343 ∧ k - k % 7 + 7 ≤ 343
    omega
  · show 49 ≤ k - k % 1 ∧ k - k % 1 < 343 ∧ k - k % 1 + 1 ≤ 343
    omega
/-- the folder of a key: none in both objects, or the same place behind the letters -/
theorem bv_fold {k : Nat} (k1 : 49 ≤ k) (k2 : k < 343) {t : Nat} (ht : t ≤ 3) :
    (∀ (o : Nat), o ≤ 6 → ∀ (post : Int32 → Prop) (bu ke md th : Int32) (a1 a2 a3 a4 a5 a6 a7 a8 a9 a10 : Nat → Int32), post (-1) → wpX_folderPlace post (nI (t + bv_f o), bu, ke, md, th, a1, a2, a3, a4, a5, a6, a7, a8, a9, a10) (nI (bv_e o k))) ∨
    (∃ p, p ≤ 2 ∧ ∀ (o : Nat), o ≤ 6 → ∀ (post : Int32 → Prop) (bu ke md th : Int32) (a1 a2 a3 a4 a5 a6 a7 a8 a9 a10 : Nat → Int32), post (nI (p + bv_f o)) → wpX_folderPlace post (nI (t + bv_f o), bu, ke, md, th, a1, a2, a3, a4, a5, a6, a7, a8, a9, a10) (nI (bv_e o k))) := by
  have main : ∀ m i, i + m = 3 →
      (∀ (o : Nat), o ≤ 6 → ∀ (post : Int32 → Prop) (ty bu ke md th : Int32) (a1 a2 a3 a4 a5 a6 a7 a8 a9 a10 : Nat → Int32), post (-1) → wX_folderPlace_5 post (nI (bv_e o k)) ty bu ke md th a1 a2 a3 a4 a5 a6 a7 a8 a9 a10 (m + 2) (nI (i + bv_f o))) ∨
      (∃ p, p ≤ 2 ∧ ∀ (o : Nat), o ≤ 6 → ∀ (post : Int32 → Prop) (ty bu ke md th : Int32) (a1 a2 a3 a4 a5 a6 a7 a8 a9 a10 : Nat → Int32), post (nI (p + bv_f o)) → wX_folderPlace_5 post (nI (bv_e o k)) ty bu ke md th a1 a2 a3 a4 a5 a6 a7 a8 a9 a10 (m + 2) (nI (i + bv_f o))) := by
    intro m
    induction m with
    | zero =>
      intro i hi
      have ei : i = 3 := by omega
      subst ei
      refine Or.inl (fun o ho post ty bu ke md th a1 a2 a3 a4 a5 a6 a7 a8 a9 a10 hp => ?_)
      have hb := bv_e_lt (o := o) (j := k) ho (by omega)
      by_cases h : o = 0
      · subst h
        refine pk_le 4 3 (fun z => absurd z (by omega)) (fun _ => ?_)
        refine bv_dig (p := 3) (by omega) (by omega) ?_
        have e : bv_e 0 k / bv_w 3 % 7 = 0 := by
          rw [bv_e_c, bv_w3]
          omega
        rw [e]
        exact br_f (by decide) (nm_r (nI_1 3) (pk_le 4 4 (fun _ => hp) (fun z => absurd z (by omega))))
      · rw [bv_f_d h]
        exact pk_le 4 4 (fun _ => hp) (fun z => absurd z (by omega))
    | succ m ih =>
      intro i hi
      by_cases h6 : k / bv_w (i + 1) % 7 = 6
      · refine Or.inr ⟨i, by omega, fun o ho post ty bu ke md th a1 a2 a3 a4 a5 a6 a7 a8 a9 a10 hp => ?_⟩
        have hb := bv_e_lt (o := o) (j := k) ho (by omega)
        have hf := bv_f_le o
        refine pk_le 4 (i + bv_f o) (fun z => absurd z (by omega)) (fun _ => ?_)
        refine bv_dig (by omega) (by omega) ?_
        rw [bv_dig_e k1 (by omega), h6]
        exact br_t rfl hp
      · have st : ∀ (o : Nat), o ≤ 6 → ∀ (post : Int32 → Prop) (ty bu ke md th : Int32) (a1 a2 a3 a4 a5 a6 a7 a8 a9 a10 : Nat → Int32), wX_folderPlace_5 post (nI (bv_e o k)) ty bu ke md th a1 a2 a3 a4 a5 a6 a7 a8 a9 a10 (m + 2) (nI (i + 1 + bv_f o)) → wX_folderPlace_5 post (nI (bv_e o k)) ty bu ke md th a1 a2 a3 a4 a5 a6 a7 a8 a9 a10 (m + 1 + 2) (nI (i + bv_f o)) := by
          intro o ho post ty bu ke md th a1 a2 a3 a4 a5 a6 a7 a8 a9 a10 hw
          have hb := bv_e_lt (o := o) (j := k) ho (by omega)
          have hf := bv_f_le o
          refine pk_le 4 (i + bv_f o) (fun z => absurd z (by omega)) (fun _ => ?_)
          refine bv_dig (by omega) (by omega) ?_
          rw [bv_dig_e k1 (by omega)]
          have hm : k / bv_w (i + 1) % 7 < 7 := Nat.mod_lt _ (by omega)
          refine pk_eq (k / bv_w (i + 1) % 7) 6 (fun z => absurd z h6) (fun _ => nm_r (nI_1 (i + bv_f o)) ?_)
          rw [show i + bv_f o + 1 = i + 1 + bv_f o by omega]
          exact hw
        rcases ih (i + 1) (by omega) with h | ⟨p, hp2, h⟩
        · exact Or.inl (fun o ho post ty bu ke md th a1 a2 a3 a4 a5 a6 a7 a8 a9 a10 hp => st o ho post ty bu ke md th a1 a2 a3 a4 a5 a6 a7 a8 a9 a10 (h o ho post ty bu ke md th a1 a2 a3 a4 a5 a6 a7 a8 a9 a10 hp))
        · exact Or.inr ⟨p, hp2, fun o ho post ty bu ke md th a1 a2 a3 a4 a5 a6 a7 a8 a9 a10 hp => st o ho post ty bu ke md th a1 a2 a3 a4 a5 a6 a7 a8 a9 a10 (h o ho post ty bu ke md th a1 a2 a3 a4 a5 a6 a7 a8 a9 a10 hp)⟩
  rcases main (3 - t) t (by omega) with h | ⟨p, hp2, h⟩
  · exact Or.inl (fun o ho post bu ke md th a1 a2 a3 a4 a5 a6 a7 a8 a9 a10 hp => ⟨3 - t + 2, h o ho post _ bu ke md th a1 a2 a3 a4 a5 a6 a7 a8 a9 a10 hp⟩)
  · exact Or.inr ⟨p, hp2, fun o ho post bu ke md th a1 a2 a3 a4 a5 a6 a7 a8 a9 a10 hp => ⟨3 - t + 2, h o ho post _ bu ke md th a1 a2 a3 a4 a5 a6 a7 a8 a9 a10 hp⟩⟩
/-- what a listing sees: the buffer stands to the keys as s, the end as e -/
def bv_V (o : Nat) (ty bu : Int32) (s e : Nat) : Prop :=
  (∀ j, 49 ≤ j → j < 343 → (bu ≤ nI (bv_e o j) ↔ s ≤ j)) ∧
  ∃ en : Int32, (∀ j, 49 ≤ j → j < 343 → (en ≤ nI (bv_e o j) ↔ e ≤ j)) ∧ ∀ (post : Int32 → Prop) (ke md th : Int32) (a1 a2 a3 a4 a5 a6 a7 a8 a9 a10 : Nat → Int32), post en → wpX_endOfBuffer post (ty, bu, ke, md, th, a1, a2, a3, a4, a5, a6, a7, a8, a9, a10)
theorem bv_next {n : Nat} {ks : Nat → Nat} {a2 a3 a7 : Nat → Int32} (hn : n ≤ 24) (hK : bv_K n ks) (hH : bv_H (fun i => i < n) a2 a3 a7) (a6 : Nat → Int32) (e : Nat) {f : Nat} (hf : f ≤ n) :
    ∃ r : Int32, (r = -1 ∨ ∃ i, i < n ∧ r = nI i) ∧ ∀ (o : Nat) (ty bu : Int32) (s : Nat), bv_V o ty bu s e → ∀ (post : Int32 → Prop) (md th : Int32) (b3 a4 a5 b7 a8 a9 a10 : Nat → Int32), post r → wpX_nextListed post (ty, bu, nI n, md, th, bv_g o ks, a2, b3, a4, a5, a6, b7, a8, a9, a10) (nI f) := by
  have main : ∀ m i, i + m = n → ∃ r : Int32, (r = -1 ∨ ∃ i, i < n ∧ r = nI i) ∧ ∀ (o : Nat) (en : Int32), (∀ j, 49 ≤ j → j < 343 → (en ≤ nI (bv_e o j) ↔ e ≤ j)) → ∀ (post : Int32 → Prop) (ty bu md th : Int32) (b3 a4 a5 b7 a8 a9 a10 : Nat → Int32), post r → wX_nextListed_7 post en ty bu (nI n) md th (bv_g o ks) a2 b3 a4 a5 a6 b7 a8 a9 a10 (m + 1) (nI i) := by
    intro m
    induction m with
    | zero =>
      intro i hi
      exact ⟨-1, Or.inl rfl, fun o en hen post ty bu md th b3 a4 a5 b7 a8 a9 a10 hp => pk_le n i (fun _ => hp) (fun z => absurd z (by omega))⟩
    | succ m ih =>
      intro i hi
      have ci : (nI i).toNatClampNeg = i := nI_clamp (by omega)
      have hk := hK i (by omega)
      obtain ⟨v, hv, ev, sv⟩ := hH.1 i (by omega)
      have cv : (nI v).toNatClampNeg = v := nI_clamp (by omega)
      by_cases h1 : e ≤ ks i
      · refine ⟨-1, Or.inl rfl, fun o en hen post ty bu md th b3 a4 a5 b7 a8 a9 a10 hp => pk_le n i (fun z => absurd z (by omega)) (fun _ => ⟨pk_in i 24 (by omega), br_t ?_ hp⟩)⟩
        rw [ci]
        exact (hen _ hk.1 hk.2).mpr h1
      · by_cases h6 : a6 v = 0
        · refine ⟨nI i, Or.inr ⟨i, by omega, rfl⟩, fun o en hen post ty bu md th b3 a4 a5 b7 a8 a9 a10 hp => pk_le n i (fun z => absurd z (by omega)) (fun _ => ⟨pk_in i 24 (by omega), br_f ?_ ⟨pk_in i 24 (by omega), ?_⟩⟩)⟩
          · rw [ci]
            exact fun z => h1 ((hen _ hk.1 hk.2).mp z)
          · rw [ci, ev, cv]
            exact ⟨pk_in v 24 hv, br_t h6 hp⟩
        · obtain ⟨r, hr, hw⟩ := ih (i + 1) (by omega)
          refine ⟨r, hr, fun o en hen post ty bu md th b3 a4 a5 b7 a8 a9 a10 hp => pk_le n i (fun z => absurd z (by omega)) (fun _ => ⟨pk_in i 24 (by omega), br_f ?_ ⟨pk_in i 24 (by omega), ?_⟩⟩)⟩
          · rw [ci]
            exact fun z => h1 ((hen _ hk.1 hk.2).mp z)
          · rw [ci, ev, cv]
            exact ⟨pk_in v 24 hv, br_f h6 (nm_r (nI_1 i) (hw o en hen post ty bu md th b3 a4 a5 b7 a8 a9 a10 hp))⟩
  obtain ⟨r, hr, hw⟩ := main (n - f) f (by omega)
  refine ⟨r, hr, fun o ty bu s hV post md th b3 a4 a5 b7 a8 a9 a10 hp => ?_⟩
  obtain ⟨_, en, hen, he⟩ := hV
  unfold wpX_nextListed
  dsimp only
  refine he _ _ _ _ _ _ _ _ _ _ _ _ _ _ ?_
  exact ⟨n - f + 1, hw o en hen post ty bu md th b3 a4 a5 b7 a8 a9 a10 hp⟩
end
section
theorem bv_fe_n1 {post : Int32 → Prop} {J23 : Int32 → Int32 → Int32 → Prop} {x1 x2 : Int32} {n o a c i : Nat} (hn : n ≤ 24) (ha : a < n) {ty bu md th : Int32} {ks : Nat → Nat} {a2 a3 a4 a5 a6 a7 a8 a9 a10 : Nat → Int32} (hc : nI c = x1) (hp : post (nI (bv_e o (ks a)))) :
    wX_findEntry_54 post J23 x1 x2 (nI c) (nI a) (nI i) (-1) ty bu (nI n) md th (bv_g o ks) a2 a3 a4 a5 a6 a7 a8 a9 a10 := by
  unfold wX_findEntry_54
  refine br_f (by decide) ⟨pk_in a 24 (by omega), ?_⟩
  unfold wX_findEntry_92
  refine br_t hc ?_
  rw [nI_clamp (by omega)]
  exact hp
theorem bv_fe_n2 {post : Int32 → Prop} {J23 : Int32 → Int32 → Int32 → Prop} {x1 x2 : Int32} {n o a c i : Nat} (hn : n ≤ 24) (ha : a < n) {ty bu md th : Int32} {ks : Nat → Nat} {a2 a3 a4 a5 a6 a7 a8 a9 a10 : Nat → Int32} (hc : ¬ nI c = x1)
    (hp : wpX_nextListed (fun r_15 => ∀ x6_16 : Int32, x6_16 = nI i + 1 → J23 (nI (c + 1)) r_15 x6_16) (ty, bu, nI n, md, th, bv_g o ks, a2, a3, a4, a5, a6, a7, a8, a9, a10) (nI (a + 1))) :
    wX_findEntry_54 post J23 x1 x2 (nI c) (nI a) (nI i) (-1) ty bu (nI n) md th (bv_g o ks) a2 a3 a4 a5 a6 a7 a8 a9 a10 := by
  unfold wX_findEntry_54
  refine br_f (by decide) ⟨pk_in a 24 (by omega), ?_⟩
  unfold wX_findEntry_92
  refine br_f hc (nm_r (nI_1 c) (nm_r (nI_1 a) (br_t (by decide) ?_)))
  unfold wX_findEntry_134
  exact hp
theorem bv_fe_z {o k p : Nat} (ho : o ≤ 6) (k1 : 49 ≤ k) (k2 : k < 343) (hp : p ≤ 2) : nI (bv_e o k) - (nI (bv_e o k) - nI (bv_e o k) / nI (bv_w (p + bv_f o)) * nI (bv_w (p + bv_f o))) = nI (bv_e o (k - k % bv_w (p + 1))) := by
  have hb := bv_e_lt (o := o) (j := k) ho (by omega)
  have b := bv_w_b (p + bv_f o)
  rw [pk_rem (by omega) (by omega) (by omega), pk_sub (Nat.mod_le _ _), bv_cut_e k1 hp]
theorem bv_fe_p1 {post : Int32 → Prop} {J23 : Int32 → Int32 → Int32 → Prop} {x1 x2 : Int32} {n o a c i p : Nat} (ho : o ≤ 6) (hn : n ≤ 24) (ha : a < n) (hp2 : p ≤ 2) {ty bu md th : Int32} {ks : Nat → Nat} (hK : bv_K n ks) {a2 a3 a4 a5 a6 a7 a8 a9 a10 : Nat → Int32} (hc : nI c = x1) (hp : post (nI (bv_e o (ks a - ks a % bv_w (p + 1))))) :
    wX_findEntry_54 post J23 x1 x2 (nI c) (nI a) (nI i) (nI (p + bv_f o)) ty bu (nI n) md th (bv_g o ks) a2 a3 a4 a5 a6 a7 a8 a9 a10 := by
  have hf := bv_f_le o
  have hk := hK a ha
  have b := bv_w_b (p + bv_f o)
  have ca : (nI a).toNatClampNeg = a := nI_clamp (by omega)
  unfold wX_findEntry_54
  refine br_t (nI_pos' (by omega)) ⟨pk_in a 24 (by omega), pk_in a 24 (by omega), ?_⟩
  refine bv_unit (by omega) ⟨nI_ne0 (by omega) (by omega), ?_⟩
  unfold wX_findEntry_92
  refine br_t hc ?_
  rw [ca]
  have e : bv_g o ks a - (bv_g o ks a - bv_g o ks a / nI (bv_w (p + bv_f o)) * nI (bv_w (p + bv_f o))) = nI (bv_e o (ks a - ks a % bv_w (p + 1))) := bv_fe_z ho hk.1 hk.2 hp2
  rw [e]
  exact hp
theorem bv_fe_p2 {post : Int32 → Prop} {J23 : Int32 → Int32 → Int32 → Prop} {x1 x2 : Int32} {n o a c i p q : Nat} (ho : o ≤ 6) (hn : n ≤ 24) (ha : a < n) (hp2 : p ≤ 2) {ty bu md th : Int32} {ks : Nat → Nat} (hK : bv_K n ks) {a2 a3 a4 a5 a6 a7 a8 a9 a10 : Nat → Int32} (hc : ¬ nI c = x1)
    (hs : ∀ (post : Int32 → Prop) (x ty bu md th : Int32) (a1 a2 a3 a4 a5 a6 a7 a8 a9 a10 : Nat → Int32), (∀ i, i < n → (x ≤ a1 i ↔ ks a - ks a % bv_w (p + 1) + bv_w (p + 1) ≤ ks i)) → post (nI q) → wpX_seek post (ty, bu, nI n, md, th, a1, a2, a3, a4, a5, a6, a7, a8, a9, a10) x)
    (hp : wpX_nextListed (fun r_15 => ∀ x6_16 : Int32, x6_16 = nI i + 1 → J23 (nI (c + 1)) r_15 x6_16) (ty, bu, nI n, md, th, bv_g o ks, a2, a3, a4, a5, a6, a7, a8, a9, a10) (nI q)) :
    wX_findEntry_54 post J23 x1 x2 (nI c) (nI a) (nI i) (nI (p + bv_f o)) ty bu (nI n) md th (bv_g o ks) a2 a3 a4 a5 a6 a7 a8 a9 a10 := by
  have hf := bv_f_le o
  have hk := hK a ha
  have b := bv_w_b (p + bv_f o)
  have b2 := bv_w_b (p + 1)
  have hb := bv_cut_b hk.1 hk.2 hp2
  have ca : (nI a).toNatClampNeg = a := nI_clamp (by omega)
  unfold wX_findEntry_54
  refine br_t (nI_pos' (by omega)) ⟨pk_in a 24 (by omega), pk_in a 24 (by omega), ?_⟩
  refine bv_unit (by omega) ⟨nI_ne0 (by omega) (by omega), ?_⟩
  have e : bv_g o ks a - (bv_g o ks a - bv_g o ks a / nI (bv_w (p + bv_f o)) * nI (bv_w (p + bv_f o))) = nI (bv_e o (ks a - ks a % bv_w (p + 1))) := bv_fe_z ho hk.1 hk.2 hp2
  rw [ca, e]
  unfold wX_findEntry_92
  refine br_f hc (nm_r (nI_1 c) (nm_r (nI_1 a) (br_f (nI_pos (by omega)) ?_)))
  refine bv_unit (by omega) ?_
  have e2 : nI (bv_e o (ks a - ks a % bv_w (p + 1))) + nI (bv_w (p + bv_f o)) = nI (bv_e o (ks a - ks a % bv_w (p + 1) + bv_w (p + 1))) := by
    rw [nI_add, bv_beh_e (by omega) hp2]
  refine nm_r e2 ?_
  refine hs _ _ _ _ _ _ _ _ _ _ _ _ _ _ _ _ (bv_ge ho hK (by omega) (by omega)) ?_
  unfold wX_findEntry_134
  exact hp
/-- an object, a listing and its letters as a listing needs them -/
def bv_L (o : Nat) (ty bu x2 : Int32) (s e t : Nat) : Prop := o ≤ 6 ∧ bv_V o ty bu s e ∧ (x2 = 0 ∨ ty = nI (t + bv_f o))
theorem bv_find23 {n : Nat} {ks : Nat → Nat} {a2 a3 a7 : Nat → Int32} (hn : n ≤ 24) (hK : bv_K n ks) (hH : bv_H (fun i => i < n) a2 a3 a7) (a6 : Nat → Int32) (x1 x2 : Int32) (s e : Nat) {t : Nat} (ht : t ≤ 3) : ∀ m i c (r : Int32), i + m = 24 → c ≤ i → (r = -1 ∨ ∃ a, a < n ∧ r = nI a) →
    (∃ c', c' ≤ 24 ∧ ∀ (o : Nat) (ty bu : Int32), bv_L o ty bu x2 s e t → ∀ (post : Int32 → Prop) (md th : Int32) (b3 a4 a5 b7 a8 a9 a10 : Nat → Int32), post ((-1) - nI c') → wX_findEntry_23 post x1 x2 ty bu (nI n) md th (bv_g o ks) a2 b3 a4 a5 a6 b7 a8 a9 a10 (m + 1) (nI c) r (nI i)) ∨
    (∃ w, 49 ≤ w ∧ w < 343 ∧ ¬ x1 < 0 ∧ ∀ (o : Nat) (ty bu : Int32), bv_L o ty bu x2 s e t → ∀ (post : Int32 → Prop) (md th : Int32) (b3 a4 a5 b7 a8 a9 a10 : Nat → Int32), post (nI (bv_e o w)) → wX_findEntry_23 post x1 x2 ty bu (nI n) md th (bv_g o ks) a2 b3 a4 a5 a6 b7 a8 a9 a10 (m + 1) (nI c) r (nI i)) := by
  intro m
  induction m with
  | zero =>
    intro i c r hi hc hr
    exact Or.inl ⟨c, by omega, fun o ty bu hL post md th b3 a4 a5 b7 a8 a9 a10 hp => pk_le 24 i (fun _ => hp) (fun z => absurd z (by omega))⟩
  | succ m ih =>
    intro i c r hi hc hr
    rcases hr with hr | ⟨a, ha, hr⟩
    · subst hr
      exact Or.inl ⟨c, by omega, fun o ty bu hL post md th b3 a4 a5 b7 a8 a9 a10 hp => pk_le 24 i (fun z => absurd z (by omega)) (fun _ => br_t (by decide) hp)⟩
    · subst hr
      have hk := hK a ha
      have ca : (nI a).toNatClampNeg = a := nI_clamp (by omega)
      have go : (∀ (o : Nat) (ty bu : Int32), bv_L o ty bu x2 s e t → ∀ (post : Int32 → Prop) (md th : Int32) (b3 a4 a5 b7 a8 a9 a10 : Nat → Int32), wX_findEntry_54 post (wX_findEntry_23 post x1 x2 ty bu (nI n) md th (bv_g o ks) a2 b3 a4 a5 a6 b7 a8 a9 a10 (m + 1)) x1 x2 (nI c) (nI a) (nI i) (-1) ty bu (nI n) md th (bv_g o ks) a2 b3 a4 a5 a6 b7 a8 a9 a10 → wX_findEntry_23 post x1 x2 ty bu (nI n) md th (bv_g o ks) a2 b3 a4 a5 a6 b7 a8 a9 a10 (m + 1 + 1) (nI c) (nI a) (nI i)) ∨
          (∃ p, p ≤ 2 ∧ ∀ (o : Nat) (ty bu : Int32), bv_L o ty bu x2 s e t → ∀ (post : Int32 → Prop) (md th : Int32) (b3 a4 a5 b7 a8 a9 a10 : Nat → Int32), wX_findEntry_54 post (wX_findEntry_23 post x1 x2 ty bu (nI n) md th (bv_g o ks) a2 b3 a4 a5 a6 b7 a8 a9 a10 (m + 1)) x1 x2 (nI c) (nI a) (nI i) (nI (p + bv_f o)) ty bu (nI n) md th (bv_g o ks) a2 b3 a4 a5 a6 b7 a8 a9 a10 → wX_findEntry_23 post x1 x2 ty bu (nI n) md th (bv_g o ks) a2 b3 a4 a5 a6 b7 a8 a9 a10 (m + 1 + 1) (nI c) (nI a) (nI i)) := by
        by_cases h2 : x2 = 0
        · exact Or.inl (fun o ty bu hL post md th b3 a4 a5 b7 a8 a9 a10 hp => pk_le 24 i (fun z => absurd z (by omega)) (fun _ => br_f (nI_pos (by omega)) (br_t h2 hp)))
        · rcases bv_fold hk.1 hk.2 ht with hF | ⟨p, hp2, hF⟩
          · refine Or.inl (fun o ty bu hL post md th b3 a4 a5 b7 a8 a9 a10 hp => pk_le 24 i (fun z => absurd z (by omega)) (fun _ => br_f (nI_pos (by omega)) (br_f h2 ⟨pk_in a 24 (by omega), ?_⟩)))
            obtain ⟨ho, hV, hy⟩ := hL
            have ety : ty = nI (t + bv_f o) := by
              rcases hy with z | z
              · exact absurd z h2
              · exact z
            rw [ca]
            subst ety
            exact hF o ho _ _ _ _ _ _ _ _ _ _ _ _ _ _ _ hp
          · refine Or.inr ⟨p, hp2, fun o ty bu hL post md th b3 a4 a5 b7 a8 a9 a10 hp => pk_le 24 i (fun z => absurd z (by omega)) (fun _ => br_f (nI_pos (by omega)) (br_f h2 ⟨pk_in a 24 (by omega), ?_⟩))⟩
            obtain ⟨ho, hV, hy⟩ := hL
            have ety : ty = nI (t + bv_f o) := by
              rcases hy with z | z
              · exact absurd z h2
              · exact z
            rw [ca]
            subst ety
            exact hF o ho _ _ _ _ _ _ _ _ _ _ _ _ _ _ _ hp
      rcases go with go | ⟨p, hp2, go⟩
      · by_cases hx : nI c = x1
        · refine Or.inr ⟨ks a, hk.1, hk.2, by rw [← hx]; exact nI_pos (by omega), fun o ty bu hL post md th b3 a4 a5 b7 a8 a9 a10 hp => ?_⟩
          exact go o ty bu hL post md th b3 a4 a5 b7 a8 a9 a10 (bv_fe_n1 hn ha hx hp)
        · obtain ⟨r', hr', hN⟩ := bv_next hn hK hH a6 e (f := a + 1) (by omega)
          rcases ih (i + 1) (c + 1) r' (by omega) (by omega) hr' with ⟨c', hc', hw⟩ | ⟨w, w1, w2, w3, hw⟩
          · refine Or.inl ⟨c', hc', fun o ty bu hL post md th b3 a4 a5 b7 a8 a9 a10 hp => ?_⟩
            exact go o ty bu hL post md th b3 a4 a5 b7 a8 a9 a10 (bv_fe_n2 hn ha hx (hN o ty bu s hL.2.1 _ _ _ _ _ _ _ _ _ _ (nm_r (nI_1 i) (hw o ty bu hL post md th b3 a4 a5 b7 a8 a9 a10 hp))))
          · refine Or.inr ⟨w, w1, w2, w3, fun o ty bu hL post md th b3 a4 a5 b7 a8 a9 a10 hp => ?_⟩
            exact go o ty bu hL post md th b3 a4 a5 b7 a8 a9 a10 (bv_fe_n2 hn ha hx (hN o ty bu s hL.2.1 _ _ _ _ _ _ _ _ _ _ (nm_r (nI_1 i) (hw o ty bu hL post md th b3 a4 a5 b7 a8 a9 a10 hp))))
      · have hb := bv_cut_b hk.1 hk.2 hp2
        by_cases hx : nI c = x1
        · refine Or.inr ⟨ks a - ks a % bv_w (p + 1), hb.1, hb.2.1, by rw [← hx]; exact nI_pos (by omega), fun o ty bu hL post md th b3 a4 a5 b7 a8 a9 a10 hp => ?_⟩
          exact go o ty bu hL post md th b3 a4 a5 b7 a8 a9 a10 (bv_fe_p1 hL.1 hn ha hp2 hK hx hp)
        · obtain ⟨q, hq, hs⟩ := bv_seek hn (ks a - ks a % bv_w (p + 1) + bv_w (p + 1)) ks
          obtain ⟨r', hr', hN⟩ := bv_next hn hK hH a6 e hq
          rcases ih (i + 1) (c + 1) r' (by omega) (by omega) hr' with ⟨c', hc', hw⟩ | ⟨w, w1, w2, w3, hw⟩
          · refine Or.inl ⟨c', hc', fun o ty bu hL post md th b3 a4 a5 b7 a8 a9 a10 hp => ?_⟩
            exact go o ty bu hL post md th b3 a4 a5 b7 a8 a9 a10 (bv_fe_p2 hL.1 hn ha hp2 hK hx hs (hN o ty bu s hL.2.1 _ _ _ _ _ _ _ _ _ _ (nm_r (nI_1 i) (hw o ty bu hL post md th b3 a4 a5 b7 a8 a9 a10 hp))))
          · refine Or.inr ⟨w, w1, w2, w3, fun o ty bu hL post md th b3 a4 a5 b7 a8 a9 a10 hp => ?_⟩
            exact go o ty bu hL post md th b3 a4 a5 b7 a8 a9 a10 (bv_fe_p2 hL.1 hn ha hp2 hK hx hs (hN o ty bu s hL.2.1 _ _ _ _ _ _ _ _ _ _ (nm_r (nI_1 i) (hw o ty bu hL post md th b3 a4 a5 b7 a8 a9 a10 hp))))
theorem bv_find {p : bv_P} (hJ : bv_J p) (x1 x2 : Int32) (s e : Nat) {t : Nat} (ht : t ≤ 3) :
    (∃ c', c' ≤ 24 ∧ ∀ (o : Nat) (ty bu : Int32), bv_L o ty bu x2 s e t → ∀ (post : Int32 → Prop), post ((-1) - nI c') → wpX_findEntry post (bv_S o ty bu p) x1 x2) ∨
    (∃ w, 49 ≤ w ∧ w < 343 ∧ ¬ x1 < 0 ∧ ∀ (o : Nat) (ty bu : Int32), bv_L o ty bu x2 s e t → ∀ (post : Int32 → Prop), post (nI (bv_e o w)) → wpX_findEntry post (bv_S o ty bu p) x1 x2) := by
  obtain ⟨n, md, th, ks, a2, a3, a4, a5, a6, a7, us, a9, a10⟩ := p
  obtain ⟨hQ, hU⟩ := hJ
  have hn := bv_Q_n hQ
  obtain ⟨q1, hK, hH⟩ := hQ
  obtain ⟨q, hq, hs⟩ := bv_seek (n := n) (by omega) s ks
  obtain ⟨r, hr, hN⟩ := bv_next (by omega) hK hH a6 e hq
  have go : ∀ (o : Nat) (ty bu : Int32), bv_L o ty bu x2 s e t → ∀ (post : Int32 → Prop), wX_findEntry_23 post x1 x2 ty bu (nI n) md (nI th) (bv_g o ks) a2 a3 a4 a5 a6 a7 (bv_g o us) a9 a10 (24 + 1) (nI 0) r (nI 0) → wpX_findEntry post (bv_S o ty bu (n, md, th, ks, a2, a3, a4, a5, a6, a7, us, a9, a10)) x1 x2 := by
    intro o ty bu hL post hp
    unfold wpX_findEntry bv_S
    dsimp only
    refine hs _ _ _ _ _ _ _ _ _ _ _ _ _ _ _ _ (fun i hi => hL.2.1.1 (ks i) (hK i hi).1 (hK i hi).2) ?_
    refine hN o ty bu s hL.2.1 _ _ _ _ _ _ _ _ _ _ ?_
    exact ⟨25, hp⟩
  rcases bv_find23 (by omega) hK hH a6 x1 x2 s e ht 24 0 0 r rfl (by omega) hr with ⟨c', hc', hw⟩ | ⟨w, w1, w2, w3, hw⟩
  · exact Or.inl ⟨c', hc', fun o ty bu hL post hp => go o ty bu hL post (hw o ty bu hL post _ _ _ _ _ _ _ _ _ hp)⟩
  · exact Or.inr ⟨w, w1, w2, w3, fun o ty bu hL post hp => go o ty bu hL post (hw o ty bu hL post _ _ _ _ _ _ _ _ _ hp)⟩
theorem bv_list {p : bv_P} (hJ : bv_J p) (x2 : Int32) (s e : Nat) {t : Nat} (ht : t ≤ 3) : ∃ r : Int32, ∀ (o : Nat) (ty bu : Int32), bv_L o ty bu x2 s e t → ∀ (post : Int32 → Prop), post r → wpX_list post (bv_S o ty bu p) x2 := by
  rcases bv_find hJ (-1) x2 s e ht with ⟨c', hc', hw⟩ | ⟨w, w1, w2, w3, hw⟩
  · obtain ⟨n, md, th, ks, a2, a3, a4, a5, a6, a7, us, a9, a10⟩ := p
    refine ⟨(-1) - ((-1) - nI c'), fun o ty bu hL post hp => ?_⟩
    unfold wpX_list
    exact hw o ty bu hL _ hp
  · exact absurd (by decide) w3
/-- the letters of an entry, as entry() writes them -/
def bv_y (K : Nat) : Nat := (((0 * 7 + K / bv_w 3 % 7) * 7 + K / bv_w 2 % 7) * 7 + K / bv_w 1 % 7) * 7 + K / bv_w 0 % 7
theorem bv_y_d {o w : Nat} (o1 : 0 < o) (o2 : o ≤ 6) (w1 : 49 ≤ w) (w2 : w < 343) : bv_y (bv_e o w) = o + 7 * bv_y (bv_e 0 w) := by
  unfold bv_y
  rw [bv_e_c, bv_e_d o1 (by omega), bv_w0, bv_w1, bv_w2, bv_w3]
  have c1 : (343 * o + w) / 1 % 7 = w % 7 := by omega
  have c2 : (343 * o + w) / 7 % 7 = w / 7 % 7 := by omega
  have c3 : (343 * o + w) / 49 % 7 = w / 49 % 7 := by omega
  have c4 : (343 * o + w) / 343 % 7 = o := by omega
  have d1 : 7 * w / 1 % 7 = 0 := by omega
  have d2 : 7 * w / 7 % 7 = w % 7 := by omega
  have d3 : 7 * w / 49 % 7 = w / 7 % 7 := by omega
  have d4 : 7 * w / 343 % 7 = w / 49 % 7 := by omega
  rw [c1, c2, c3, c4, d1, d2, d3, d4]
  omega
theorem bv_y_lt {K : Nat} : bv_y K ≤ 2400 := by
  unfold bv_y
  rw [bv_w0, bv_w1, bv_w2, bv_w3]
  omega
theorem bv_ent27 {post : Int32 → Prop} {K : Nat} (hK : K < 2 ^ 31) {ty bu ke md th : Int32} {a1 a2 a3 a4 a5 a6 a7 a8 a9 a10 : Nat → Int32} (hp : post (nI (bv_y K))) : ∃ fu, wX_entry_27 post (nI K) ty bu ke md th a1 a2 a3 a4 a5 a6 a7 a8 a9 a10 fu 0 3 := by
  have st : ∀ f i c, i < 4 → wX_entry_27 post (nI K) ty bu ke md th a1 a2 a3 a4 a5 a6 a7 a8 a9 a10 f (nI (c * 7 + K / bv_w i % 7)) (nI i + (-1)) → wX_entry_27 post (nI K) ty bu ke md th a1 a2 a3 a4 a5 a6 a7 a8 a9 a10 (f + 1) (nI c) (nI i) := by
    intro f i c hi hw
    refine br_f (nI_pos (by omega)) ?_
    refine bv_dig hK (by omega) ?_
    have e : nI c * 7 + nI (K / bv_w i % 7) = nI (c * 7 + K / bv_w i % 7) := by
      show nI c * nI 7 + nI (K / bv_w i % 7) = nI (c * 7 + K / bv_w i % 7)
      rw [pk_mul, nI_add]
    exact nm_r e (nm_e hw)
  have h0 : wX_entry_27 post (nI K) ty bu ke md th a1 a2 a3 a4 a5 a6 a7 a8 a9 a10 1 (nI (bv_y K)) (nI 0 + (-1)) := br_t (by decide) hp
  have h1 := st 1 0 _ (by omega) h0
  have h2 := st 2 1 _ (by omega) (by rw [show nI 1 + (-1) = nI 0 from pk_m1 0]; exact h1)
  have h3 := st 3 2 _ (by omega) (by rw [show nI 2 + (-1) = nI 1 from pk_m1 1]; exact h2)
  have h4 := st 4 3 0 (by omega) (by rw [show nI 3 + (-1) = nI 2 from pk_m1 2]; exact h3)
  exact ⟨5, h4⟩
theorem bv_neg1 : ∀ c, c < 25 → ¬ (0 : Int32) ≤ (-1) - nI c := by decide +kernel
theorem bv_entry {p : bv_P} (hJ : bv_J p) (x2 : Int32) (s e : Nat) {t : Nat} (ht : t ≤ 3) {j : Nat} (hj : j < 2 ^ 31) :
    (∀ (o : Nat) (ty bu : Int32), bv_L o ty bu x2 s e t → ∀ (post : Int32 → Prop), post (-7) → wpX_entry post (bv_S o ty bu p) (nI j) x2) ∨
    (∃ w, 49 ≤ w ∧ w < 343 ∧ ∀ (o : Nat) (ty bu : Int32), bv_L o ty bu x2 s e t → ∀ (post : Int32 → Prop), post (nI (bv_y (bv_e o w))) → wpX_entry post (bv_S o ty bu p) (nI j) x2) := by
  rcases bv_find hJ (nI j) x2 s e ht with ⟨c', hc', hw⟩ | ⟨w, w1, w2, w3, hw⟩
  · obtain ⟨n, md, th, ks, a2, a3, a4, a5, a6, a7, us, a9, a10⟩ := p
    refine Or.inl (fun o ty bu hL post hp => ?_)
    refine br_t (nI_pos' hj) ?_
    exact hw o ty bu hL _ (br_f (bv_neg1 c' (by omega)) hp)
  · obtain ⟨n, md, th, ks, a2, a3, a4, a5, a6, a7, us, a9, a10⟩ := p
    refine Or.inr ⟨w, w1, w2, fun o ty bu hL post hp => ?_⟩
    have hb := bv_e_lt (o := o) (j := w) hL.1 (by omega)
    refine br_t (nI_pos' hj) ?_
    exact hw o ty bu hL _ (br_t (nI_pos' (by omega)) (bv_ent27 (by omega) hp))
end
section
theorem bv_type {post : Int32 → St1 → Prop} {t b l : Nat} (ht : t ≤ 3) (hl : l ≤ 5) {ke md th : Int32} {a1 a2 a3 a4 a5 a6 a7 a8 a9 a10 : Nat → Int32} (hp : post (nI (t + 1)) (nI (t + 1), nI (b + (l + 1) * bv_w t), ke, md, th, a1, a2, a3, a4, a5, a6, a7, a8, a9, a10)) : wpX_type post (nI t, nI b, ke, md, th, a1, a2, a3, a4, a5, a6, a7, a8, a9, a10) (nI l) := by
  unfold wpX_type
  dsimp only
  refine br_f (nI_pos (by omega)) (br_t (nI_le (b := 5) hl (by decide)) (pk_lt t 4 (fun _ => ?_) (fun z => absurd z (by omega))))
  refine bv_unit (by omega) (nm_r ?_ (nm_r (nI_1 t) hp))
  rw [nI_1, pk_mul, nI_add]
theorem bv_typeBad {post : Int32 → St1 → Prop} {ty bu : Int32} {l : Nat} (hl : 5 < l) (hl2 : l < 8) {ke md th : Int32} {a1 a2 a3 a4 a5 a6 a7 a8 a9 a10 : Nat → Int32} (hp : post (-1) (ty, bu, ke, md, th, a1, a2, a3, a4, a5, a6, a7, a8, a9, a10)) : wpX_type post (ty, bu, ke, md, th, a1, a2, a3, a4, a5, a6, a7, a8, a9, a10) (nI l) := by
  unfold wpX_type
  dsimp only
  exact br_f (nI_pos (by omega)) (pk_le l 5 (fun z => absurd z (by omega)) (fun _ => hp))
theorem bv_erase {post : St1 → Prop} {ty bu ke md th : Int32} {a1 a2 a3 a4 a5 a6 a7 a8 a9 a10 : Nat → Int32} (hp : post (0, 0, ke, md, th, a1, a2, a3, a4, a5, a6, a7, a8, a9, a10)) : wpX_erase post (ty, bu, ke, md, th, a1, a2, a3, a4, a5, a6, a7, a8, a9, a10) := hp
/-- the buffer as a number, its first letters given -/
def bv_b (o k : Nat) : Nat := if o = 0 then 7 * k else 343 * o + k
theorem bv_b_e {o k : Nat} (hk : 0 < k) : bv_b o k = bv_e o k := by
  unfold bv_b
  by_cases h : o = 0
  · subst h; rw [if_pos rfl, bv_e_c]
  · rw [if_neg h, bv_e_d (by omega) hk]
theorem bv_b_w {o k l i : Nat} (hi : i ≤ 2) : bv_b o k + (l + 1) * bv_w (i + bv_f o) = bv_b o (k + (l + 1) * bv_w (i + 1)) := by
  unfold bv_b
  by_cases h : o = 0
  · subst h
    rw [if_pos rfl, if_pos rfl]
    refine bv_3 (P := fun i => 7 * k + (l + 1) * bv_w (i + bv_f 0) = 7 * (k + (l + 1) * bv_w (i + 1))) ?_ ?_ ?_ hi
    · show 7 * k + (l + 1) * 343 = 7 * (k + (l + 1) * 49)
      omega
    · show 7 * k + (l + 1) * 49 = 7 * (k + (l + 1) * 7)
      omega
    · show 7 * k + (l + 1) * 7 = 7 * (k + (l + 1) * 1)
      omega
  · rw [if_neg h, if_neg h, bv_f_d h]
    omega
theorem bv_w_step {k l i : Nat} (hi : i ≤ 2) (hl : l ≤ 5) (hk : k + bv_w i ≤ 343) : k + (l + 1) * bv_w (i + 1) + bv_w (i + 1) ≤ 343 ∧ (i = 0 → 49 ≤ k + (l + 1) * bv_w (i + 1)) := by
  refine bv_3 (P := fun i => k + bv_w i ≤ 343 → k + (l + 1) * bv_w (i + 1) + bv_w (i + 1) ≤ 343 ∧ (i = 0 → 49 ≤ k + (l + 1) * bv_w (i + 1))) ?_ ?_ ?_ hi hk
  · show k + 343 ≤ 343 → k + (l + 1) * 49 + 49 ≤ 343 ∧ (0 = 0 → 49 ≤ k + (l + 1) * 49)
    omega
  · show k + 49 ≤ 343 → k + (l + 1) * 7 + 7 ≤ 343 ∧ (1 = 0 → 49 ≤ k + (l + 1) * 7)
    omega
  · show k + 7 ≤ 343 → k + (l + 1) * 1 + 1 ≤ 343 ∧ (2 = 0 → 49 ≤ k + (l + 1) * 1)
    omega
theorem bv_key25 (x : Int32) {nn : Nat} (n1 : 1 ≤ nn) (n3 : nn ≤ 3) : ∀ m i j k, i + m = 3 → (i ≤ nn → j = i) → (nn ≤ i → j = nn) → k + bv_w j ≤ 343 → (1 ≤ j → 49 ≤ k) →
    ∃ k', 49 ≤ k' ∧ k' < 343 ∧ ∀ (o : Nat), o ≤ 6 → ∀ (post : St1 → Prop) (ke md th : Int32) (a1 a2 a3 a4 a5 a6 a7 a8 a9 a10 : Nat → Int32), post (nI (nn + bv_f o), nI (bv_e o k'), ke, md, th, a1, a2, a3, a4, a5, a6, a7, a8, a9, a10) → wL_key_25 post x (nI nn) (m + 1) (nI i) (nI (j + bv_f o)) (nI (bv_b o k)) ke md th a1 a2 a3 a4 a5 a6 a7 a8 a9 a10 := by
  intro m
  induction m with
  | zero =>
    intro i j k hi h1 h2 h3 h4
    have ej := h2 (by omega)
    have b := bv_w_b j
    have hk := h4 (by omega)
    refine ⟨k, hk, by omega, fun o ho post ke md th a1 a2 a3 a4 a5 a6 a7 a8 a9 a10 hp => ?_⟩
    rw [bv_b_e (by omega), ej]
    exact pk_le 3 i (fun _ => hp) (fun z => absurd z (by omega))
  | succ m ih =>
    intro i j k hi h1 h2 h3 h4
    obtain ⟨l0, hl0, el0⟩ := pk_andE (x >>> ((2 + (3 * nI i)) &&& 31)) (m := 7) 3 (by decide)
    have el : ((x >>> ((2 + (3 * nI i)) &&& 31)) &&& 7) - ((x >>> ((2 + (3 * nI i)) &&& 31)) &&& 7) / 6 * 6 = nI (l0 % 6) := by
      rw [el0]
      exact pk_rem (d := 6) (by omega) (by omega) (by omega)
    have hl : l0 % 6 ≤ 5 := by omega
    generalize l0 % 6 = l at el hl
    by_cases hn : nn ≤ i
    · obtain ⟨k', q1, q2, hw⟩ := ih (i + 1) j k (by omega) (fun z => absurd z (by omega)) (fun _ => h2 hn) h3 h4
      exact ⟨k', q1, q2, fun o ho post ke md th a1 a2 a3 a4 a5 a6 a7 a8 a9 a10 hp => pk_le 3 i (fun z => absurd z (by omega)) (fun _ => ⟨by decide, nm_r el (pk_le nn i (fun _ => nm_r (nI_1 i) (hw o ho post ke md th a1 a2 a3 a4 a5 a6 a7 a8 a9 a10 hp)) (fun z => absurd z (by omega)))⟩)⟩
    · have ej := h1 (by omega)
      subst ej
      have hs := bv_w_step (l := l) (by omega) hl h3
      obtain ⟨k', q1, q2, hw⟩ := ih (j + 1) (j + 1) (k + (l + 1) * bv_w (j + 1)) (by omega) (fun _ => rfl) (fun z => by omega) hs.1 (fun _ => by
        by_cases z : j = 0
        · exact hs.2 z
        · have := h4 (by omega)
          omega)
      refine ⟨k', q1, q2, fun o ho post ke md th a1 a2 a3 a4 a5 a6 a7 a8 a9 a10 hp => pk_le 3 j (fun z => absurd z (by omega)) (fun _ => ⟨by decide, nm_r el (pk_le nn j (fun z => absurd z (by omega)) (fun _ => ?_))⟩)⟩
      have hf := bv_f_le o
      refine bv_type (by omega) hl ?_
      dsimp only
      refine nm_r (nI_1 j) ?_
      rw [bv_b_w (by omega), show j + bv_f o + 1 = j + 1 + bv_f o by omega]
      exact hw o ho post ke md th a1 a2 a3 a4 a5 a6 a7 a8 a9 a10 hp
theorem bv_key (x : Int32) : ∃ k nn, 49 ≤ k ∧ k < 343 ∧ 1 ≤ nn ∧ nn ≤ 3 ∧
    (∀ (post : St1 → Prop) (ty bu ke md th : Int32) (a1 a2 a3 a4 a5 a6 a7 a8 a9 a10 : Nat → Int32), post (nI (nn + bv_f 0), nI (bv_e 0 k), ke, md, th, a1, a2, a3, a4, a5, a6, a7, a8, a9, a10) → wpL_key post (ty, bu, ke, md, th, a1, a2, a3, a4, a5, a6, a7, a8, a9, a10) (-1) x) ∧
    (∀ (g : Nat), g ≤ 5 → ∀ (post : St1 → Prop) (ty bu ke md th : Int32) (a1 a2 a3 a4 a5 a6 a7 a8 a9 a10 : Nat → Int32), post (nI (nn + bv_f (g + 1)), nI (bv_e (g + 1) k), ke, md, th, a1, a2, a3, a4, a5, a6, a7, a8, a9, a10) → wpL_key post (ty, bu, ke, md, th, a1, a2, a3, a4, a5, a6, a7, a8, a9, a10) (nI g) x) := by
  obtain ⟨j, hj, ej⟩ := pk_andE x (m := 3) 2 (by decide)
  have en : 1 + ((x &&& 3) - (x &&& 3) / 3 * 3) = nI (1 + j % 3) := by
    rw [ej]
    have e : nI j - nI j / 3 * 3 = nI (j % 3) := pk_rem (d := 3) (by omega) (by omega) (by omega)
    rw [e]
    exact nI_add 1 (j % 3)
  obtain ⟨k, k1, k2, hw⟩ := bv_key25 x (nn := 1 + j % 3) (by omega) (by omega) 3 0 0 0 (by omega) (fun _ => rfl) (fun z => absurd z (by omega)) (by rw [bv_w0]; omega) (fun z => absurd z (by omega))
  refine ⟨k, 1 + j % 3, k1, k2, by omega, by omega, ?_, ?_⟩
  · intro post ty bu ke md th a1 a2 a3 a4 a5 a6 a7 a8 a9 a10 hp
    unfold wpL_key
    dsimp only
    refine ⟨by decide, nm_r en (bv_erase ?_)⟩
    dsimp only
    exact br_t (by decide) ⟨4, hw 0 (by omega) post ke md th a1 a2 a3 a4 a5 a6 a7 a8 a9 a10 hp⟩
  · intro g hg post ty bu ke md th a1 a2 a3 a4 a5 a6 a7 a8 a9 a10 hp
    unfold wpL_key
    dsimp only
    refine ⟨by decide, nm_r en (bv_erase ?_)⟩
    dsimp only
    refine br_f (nI_pos (by omega)) ?_
    refine bv_type (t := 0) (b := 0) (by omega) hg ?_
    dsimp only
    have h := hw (g + 1) (by omega) post ke md th a1 a2 a3 a4 a5 a6 a7 a8 a9 a10 hp
    have eb : bv_b (g + 1) 0 = 0 + (g + 1) * bv_w 0 := by
      unfold bv_b
      rw [if_neg (by omega), bv_w0]
      omega
    rw [eb, bv_f_d (by omega)] at h
    exact ⟨4, h⟩
/-! what the listings see -/
theorem bv_V_0 {o : Nat} (ho : o ≤ 6) : bv_V o 0 0 0 343 := by
  refine ⟨fun j h1 h2 => ?_, 2401, fun j h1 h2 => ?_, fun post ke md th a1 a2 a3 a4 a5 a6 a7 a8 a9 a10 hp => br_t rfl hp⟩
  · have hb := bv_e_lt (o := o) (j := j) ho (by omega)
    exact ⟨fun _ => by omega, fun _ => nI_pos' (by omega)⟩
  · have hb := bv_e_lt (o := o) (j := j) ho (by omega)
    have hc : ¬ 2401 ≤ bv_e o j := by
      have := bv_e_le (o := o) (i := 343) (j := j) (by omega) (by omega)
      by_cases h : o = 0
      · subst h; rw [bv_e_c]; omega
      · rw [bv_e_d (by omega) (by omega)]; omega
    have hi : (2401 : Int32) ≤ nI (bv_e o j) ↔ 2401 ≤ bv_e o j := nI_leI (a := 2401) (by omega) (by omega)
    exact ⟨fun z => absurd (hi.mp z) hc, fun z => absurd z (by omega)⟩
theorem bv_V_t {o T B s e : Nat} (ho : o ≤ 6) (hT : T ≤ 3) (hB : B ≤ 10000) (h1 : ∀ j, 49 ≤ j → j < 343 → (B ≤ bv_e o j ↔ s ≤ j)) (h2 : ∀ j, 49 ≤ j → j < 343 → (B + bv_w T ≤ bv_e o j ↔ e ≤ j)) : bv_V o (nI (T + 1)) (nI B) s e := by
  have b := bv_w_b T
  refine ⟨fun j k1 k2 => ?_, nI (B + bv_w T), fun j k1 k2 => ?_, fun post ke md th a1 a2 a3 a4 a5 a6 a7 a8 a9 a10 hp => ?_⟩
  · have hb := bv_e_lt (o := o) (j := j) ho (by omega)
    exact (nI_leI (by omega) (by omega)).trans (h1 j k1 k2)
  · have hb := bv_e_lt (o := o) (j := j) ho (by omega)
    exact (nI_leI (by omega) (by omega)).trans (h2 j k1 k2)
  · refine br_f (nI_ne0 (by omega) (by omega)) ?_
    rw [nI_pred]
    refine bv_unit (by omega) ?_
    rw [nI_add]
    exact hp
theorem bv_L_e {o : Nat} (ho : o ≤ 6) : bv_L o 0 0 0 0 343 0 := ⟨ho, bv_V_0 ho, Or.inl rfl⟩
theorem bv_L_c0 (x2 : Int32) : bv_L 0 0 0 x2 0 343 0 := ⟨by omega, bv_V_0 (by omega), Or.inr rfl⟩
theorem bv_L_d0 {g : Nat} (hg : g ≤ 5) (x2 : Int32) : bv_L (g + 1) (nI (0 + 1)) (nI (0 + (g + 1) * bv_w 0)) x2 0 343 0 := by
  refine ⟨by omega, bv_V_t (by omega) (by omega) (by rw [bv_w0]; omega) (fun j h1 h2 => ?_) (fun j h1 h2 => ?_), Or.inr (by rw [bv_f_d (by omega)])⟩
  · rw [bv_w0, bv_e_d (by omega) (by omega)]; omega
  · rw [bv_w0, bv_e_d (by omega) (by omega)]; omega
theorem bv_L_c1 {l : Nat} (hl : l ≤ 5) (x2 : Int32) : bv_L 0 (nI (0 + 1)) (nI (0 + (l + 1) * bv_w 0)) x2 ((l + 1) * 49) ((l + 2) * 49) 1 := by
  refine ⟨by omega, bv_V_t (by omega) (by omega) (by rw [bv_w0]; omega) (fun j h1 h2 => ?_) (fun j h1 h2 => ?_), Or.inr rfl⟩
  · rw [bv_w0, bv_e_c]; omega
  · rw [bv_w0, bv_e_c]; omega
theorem bv_L_d1 {g l : Nat} (hg : g ≤ 5) (hl : l ≤ 5) (x2 : Int32) : bv_L (g + 1) (nI (0 + 1 + 1)) (nI (0 + (g + 1) * bv_w 0 + (l + 1) * bv_w (0 + 1))) x2 ((l + 1) * 49) ((l + 2) * 49) 1 := by
  refine ⟨by omega, bv_V_t (by omega) (by omega) (by rw [bv_w0, bv_w1]; omega) (fun j h1 h2 => ?_) (fun j h1 h2 => ?_), Or.inr (by rw [bv_f_d (by omega)])⟩
  · rw [bv_w0, bv_w1, bv_e_d (by omega) (by omega)]; omega
  · rw [bv_w0, bv_w1, bv_e_d (by omega) (by omega)]; omega
end
section
theorem bv_ent2 {p : bv_P} (hJ : bv_J p) (x2 : Int32) {s e t g i : Nat} (ht : t ≤ 3) (hg : g ≤ 5) (hi : i < 2 ^ 31) {tc bc td bd : Int32} (hc : bv_L 0 tc bc x2 s e t) (hd : bv_L (g + 1) td bd x2 s e t) :
    ∃ rc rd : Int32, (0 ≤ rc → rd = (nI g + 1) + (7 * rc)) ∧ (¬ 0 ≤ rc → rd = rc) ∧ (∀ (post : Int32 → Prop), post rc → wpX_entry post (bv_S 0 tc bc p) (nI i) x2) ∧ (∀ (post : Int32 → Prop), post rd → wpX_entry post (bv_S (g + 1) td bd p) (nI i) x2) := by
  rcases bv_entry hJ x2 s e ht hi with h | ⟨w, w1, w2, h⟩
  · exact ⟨-7, -7, fun z => absurd z (by decide), fun _ => rfl, fun post hp => h 0 tc bc hc post hp, fun post hp => h (g + 1) td bd hd post hp⟩
  · refine ⟨nI (bv_y (bv_e 0 w)), nI (bv_y (bv_e (g + 1) w)), fun _ => ?_, fun z => absurd (nI_pos' ?_) z, fun post hp => h 0 tc bc hc post hp, fun post hp => h (g + 1) td bd hd post hp⟩
    · rw [bv_y_d (by omega) (by omega) w1 w2, nI_1]
      show nI (g + 1 + 7 * bv_y (bv_e 0 w)) = nI (g + 1) + nI 7 * nI (bv_y (bv_e 0 w))
      rw [pk_mul, nI_add]
    · have := bv_y_lt (K := bv_e 0 w)
      omega
theorem bv_law255 {post : Int32 → Prop} {L : Nat} {xs : Nat → Int32} {J38 : Int32 → Int32 → Int32 → Int32 → Int32 → Int32 → (Nat → Int32) → (Nat → Int32) → (Nat → Int32) → (Nat → Int32) → (Nat → Int32) → (Nat → Int32) → (Nat → Int32) → (Nat → Int32) → (Nat → Int32) → (Nat → Int32) → Int32 → Int32 → Int32 → Int32 → Int32 → (Nat → Int32) → (Nat → Int32) → (Nat → Int32) → (Nat → Int32) → (Nat → Int32) → (Nat → Int32) → (Nat → Int32) → (Nat → Int32) → (Nat → Int32) → (Nat → Int32) → Prop} {x4 : Int32} {kc kk s e t g : Nat} (ht : t ≤ 3) (hg : g ≤ 5) {tc bc td bd : Int32} {n th : Nat} {md : Int32} {ks us : Nat → Nat} {a2 a3 a4 a5 a6 a7 a9 a10 : Nat → Int32} (hJ : bv_J (n, md, th, ks, a2, a3, a4, a5, a6, a7, us, a9, a10)) (hc : ∀ x2, bv_L 0 tc bc x2 s e t) (hd : ∀ x2, bv_L (g + 1) td bd x2 s e t) (hp : J38 (x4 + 2) tc bc (nI n) md (nI th) (bv_g 0 ks) a2 a3 a4 a5 a6 a7 (bv_g 0 us) a9 a10 td bd (nI n) md (nI th) (bv_g (g + 1) ks) a2 a3 a4 a5 a6 a7 (bv_g (g + 1) us) a9 a10) :
    ∀ m i, i + m = 8 → wL_law_255 post L xs J38 (nI g) x4 kc kk tc bc (nI n) md (nI th) (bv_g 0 ks) a2 a3 a4 a5 a6 a7 (bv_g 0 us) a9 a10 td bd (nI n) md (nI th) (bv_g (g + 1) ks) a2 a3 a4 a5 a6 a7 (bv_g (g + 1) us) a9 a10 (m + 1) (nI i) := by
  intro m
  induction m with
  | zero =>
    intro i hi
    exact pk_le 8 i (fun _ => nm_e hp) (fun z => absurd z (by omega))
  | succ m ih =>
    intro i hi
    obtain ⟨c0, d0, p0, q0, hc0, hd0⟩ := bv_ent2 hJ 0 ht hg (i := i) (by omega) (hc 0) (hd 0)
    obtain ⟨c1, d1, p1, q1, hc1, hd1⟩ := bv_ent2 hJ 1 ht hg (i := i) (by omega) (hc 1) (hd 1)
    dsimp only [bv_S] at hc0 hd0 hc1 hd1
    have K : ∀ z0, d0 = z0 → wL_law_306 post L xs J38 (wL_law_255 post L xs J38 (nI g) x4 kc kk tc bc (nI n) md (nI th) (bv_g 0 ks) a2 a3 a4 a5 a6 a7 (bv_g 0 us) a9 a10 td bd (nI n) md (nI th) (bv_g (g + 1) ks) a2 a3 a4 a5 a6 a7 (bv_g (g + 1) us) a9 a10 (m + 1)) (nI g) x4 (nI i) c1 z0 d0 kc kk tc bc (nI n) md (nI th) (bv_g 0 ks) a2 a3 a4 a5 a6 a7 (bv_g 0 us) a9 a10 td bd (nI n) md (nI th) (bv_g (g + 1) ks) a2 a3 a4 a5 a6 a7 (bv_g (g + 1) us) a9 a10 := by
      intro z0 hz
      unfold wL_law_306
      refine br_t hz (hd1 _ ?_)
      exact br_c (fun h => br_t (p1 h) (nm_r (nI_1 i) (ih (i + 1) (by omega)))) (fun h => br_t (q1 h) (nm_r (nI_1 i) (ih (i + 1) (by omega))))
    refine pk_le 8 i (fun z => absurd z (by omega)) (fun _ => hc0 _ (hc1 _ (hd0 _ ?_)))
    exact br_c (fun h => K _ (p0 h)) (fun h => K _ (q0 h))
theorem bv_law216 {post : Int32 → Prop} {L : Nat} {xs : Nat → Int32} {J38 : Int32 → Int32 → Int32 → Int32 → Int32 → Int32 → (Nat → Int32) → (Nat → Int32) → (Nat → Int32) → (Nat → Int32) → (Nat → Int32) → (Nat → Int32) → (Nat → Int32) → (Nat → Int32) → (Nat → Int32) → (Nat → Int32) → Int32 → Int32 → Int32 → Int32 → Int32 → (Nat → Int32) → (Nat → Int32) → (Nat → Int32) → (Nat → Int32) → (Nat → Int32) → (Nat → Int32) → (Nat → Int32) → (Nat → Int32) → (Nat → Int32) → (Nat → Int32) → Prop} {x4 : Int32} {kc kk s e t g : Nat} (ht : t ≤ 3) (hg : g ≤ 5) {tc bc td bd : Int32} {n th : Nat} {md : Int32} {ks us : Nat → Nat} {a2 a3 a4 a5 a6 a7 a9 a10 : Nat → Int32} (hJ : bv_J (n, md, th, ks, a2, a3, a4, a5, a6, a7, us, a9, a10)) (hc : ∀ x2, bv_L 0 tc bc x2 s e t) (hd : ∀ x2, bv_L (g + 1) td bd x2 s e t) (hp : J38 (x4 + 2) tc bc (nI n) md (nI th) (bv_g 0 ks) a2 a3 a4 a5 a6 a7 (bv_g 0 us) a9 a10 td bd (nI n) md (nI th) (bv_g (g + 1) ks) a2 a3 a4 a5 a6 a7 (bv_g (g + 1) us) a9 a10) :
    wL_law_216 post L xs J38 (nI g) x4 kc kk tc bc (nI n) md (nI th) (bv_g 0 ks) a2 a3 a4 a5 a6 a7 (bv_g 0 us) a9 a10 td bd (nI n) md (nI th) (bv_g (g + 1) ks) a2 a3 a4 a5 a6 a7 (bv_g (g + 1) us) a9 a10 := by
  obtain ⟨r0, h0⟩ := bv_list hJ 0 s e ht
  obtain ⟨r1, h1⟩ := bv_list hJ 1 s e ht
  dsimp only [bv_S] at h0 h1
  unfold wL_law_216
  refine h0 0 tc bc (hc 0) _ ?_
  refine h1 0 tc bc (hc 1) _ ?_
  refine h0 (g + 1) td bd (hd 0) _ ?_
  refine br_t rfl ?_
  refine h1 (g + 1) td bd (hd 1) _ ?_
  refine br_t rfl ?_
  exact ⟨9, bv_law255 ht hg hJ hc hd hp 8 0 rfl⟩
theorem bv_law358 {post : Int32 → Prop} (h1 : post 1) {L : Nat} {xs : Nat → Int32} {kc kk g : Nat} {tc bc td bd : Int32} {n th : Nat} {md : Int32} {ks us : Nat → Nat} {a2 a3 a4 a5 a6 a7 a9 a10 : Nat → Int32} :
    ∀ m i, i + m = 32 → wL_law_358 post L xs kc kk tc bc (nI n) md (nI th) (bv_g 0 ks) a2 a3 a4 a5 a6 a7 (bv_g 0 us) a9 a10 td bd (nI n) md (nI th) (bv_g (g + 1) ks) a2 a3 a4 a5 a6 a7 (bv_g (g + 1) us) a9 a10 (m + 1) (nI i) := by
  intro m
  induction m with
  | zero =>
    intro i hi
    exact pk_le 32 i (fun _ => h1) (fun z => absurd z (by omega))
  | succ m ih =>
    intro i hi
    obtain ⟨r, hr⟩ := bv_content (p := (n, md, th, ks, a2, a3, a4, a5, a6, a7, us, a9, a10)) (nI i)
    dsimp only [bv_S] at hr
    refine pk_le 32 i (fun z => absurd z (by omega)) (fun _ => hr 0 tc bc _ (hr (g + 1) td bd _ ?_))
    exact br_t rfl (nm_r (nI_1 i) (ih (i + 1) (by omega)))
theorem bv_law38 {post : Int32 → Prop} (h1 : post 1) {L : Nat} (hL : L ≤ 260) {xs : Nat → Int32} {kc kk g : Nat} (hg : g ≤ 5) : ∀ m k, L ≤ k + m → k ≤ 300 → ∀ (tc bc td bd : Int32) (n th : Nat) (md : Int32) (ks us : Nat → Nat) (a2 a3 a4 a5 a6 a7 a9 a10 : Nat → Int32), bv_J (n, md, th, ks, a2, a3, a4, a5, a6, a7, us, a9, a10) →
    wL_law_38 post L xs (nI g) kc kk (m + 1) (nI k) tc bc (nI n) md (nI th) (bv_g 0 ks) a2 a3 a4 a5 a6 a7 (bv_g 0 us) a9 a10 td bd (nI n) md (nI th) (bv_g (g + 1) ks) a2 a3 a4 a5 a6 a7 (bv_g (g + 1) us) a9 a10 := by
  intro m
  induction m with
  | zero =>
    intro k hk hk2 tc bc td bd n th md ks us a2 a3 a4 a5 a6 a7 a9 a10 hJ
    exact pk_le L (k + 1) (fun _ => ⟨33, bv_law358 h1 32 0 rfl⟩) (fun z => absurd z (by omega)) rfl (nI_1 k)
  | succ m ih =>
    intro k hk hk2 tc bc td bd n th md ks us a2 a3 a4 a5 a6 a7 a9 a10 hJ
    by_cases hx : L ≤ k + 1
    · exact pk_le L (k + 1) (fun _ => ⟨33, bv_law358 h1 32 0 rfl⟩) (fun z => absurd z (by omega)) rfl (nI_1 k)
    · have ck : (nI k).toNatClampNeg = k := nI_clamp (by omega)
      have ck1 : (nI k + 1).toNatClampNeg = k + 1 := by rw [nI_1, nI_clamp (by omega)]
      obtain ⟨kd, hkd, ekd⟩ := pk_andE (xs (nI k).toNatClampNeg) (m := 15) 4 (by decide)
      obtain ⟨l, hl, el⟩ := pk_andE (xs (k + 1) >>> ((2 : Int32) &&& 31)) (m := 7) 3 (by decide)
      obtain ⟨y, nn, y1, y2, n1, n3, hkc, hkd2⟩ := bv_key (xs (k + 1))
      obtain ⟨rc, ⟨n', md', th', ks', a2', a3', a4', a5', a6', a7', us', a9', a10'⟩, hJ', hcall⟩ := bv_call hJ y1 y2 hkd (xs (k + 1))
      obtain ⟨rg, hget⟩ := bv_get hJ' y1 y2
      obtain ⟨rp, hpre⟩ := bv_present hJ' y1 y2
      obtain ⟨v0, hv0⟩ := bv_versionAt hJ' y1 y2 (j := 0) (by omega)
      obtain ⟨v1, hv1⟩ := bv_versionAt hJ' y1 y2 (j := 1) (by omega)
      obtain ⟨rl, hli⟩ := bv_list hJ' 0 0 343 (t := 0) (by omega)
      dsimp only [bv_S] at hcall hget hpre hv0 hv1 hli
      have tn : ∀ o : Nat, ¬ nI (nn + bv_f o) = 0 := fun o => nI_ne0 (by omega) (by have := bv_f_le o; omega)
      have e2 : nI k + 2 = nI (k + 2) := nI_add k 2
      have nx : ∀ (tc bc td bd : Int32), wL_law_38 post L xs (nI g) kc kk (m + 1) (nI k + 2) tc bc (nI n') md' (nI th') (bv_g 0 ks') a2' a3' a4' a5' a6' a7' (bv_g 0 us') a9' a10' td bd (nI n') md' (nI th') (bv_g (g + 1) ks') a2' a3' a4' a5' a6' a7' (bv_g (g + 1) us') a9' a10' := by
        intro tc bc td bd
        rw [e2]
        exact ih (k + 2) (by omega) (by omega) tc bc td bd n' th' md' ks' us' a2' a3' a4' a5' a6' a7' a9' a10' hJ'
      refine pk_le L (k + 1) (fun z => absurd z (by omega)) (fun _ => ⟨pk_in k L (by omega), nm_r ekd ⟨pk_in (k + 1) L (by omega) (nI_1 k), nm_r (by rw [ck1]) ?_⟩⟩) rfl (nI_1 k)
      refine hkc _ _ _ _ _ _ _ _ _ _ _ _ _ _ _ _ ?_
      dsimp only
      refine hkd2 g hg _ _ _ _ _ _ _ _ _ _ _ _ _ _ _ _ ?_
      dsimp only
      refine hcall 0 (by omega) _ (tn 0) _ ?_
      dsimp only
      refine hcall (g + 1) (by omega) _ (tn (g + 1)) _ ?_
      dsimp only
      refine br_t rfl ?_
      refine hget 0 (by omega) _ _ ?_
      refine hget (g + 1) (by omega) _ _ ?_
      refine br_t rfl ?_
      refine hpre 0 (by omega) _ _ ?_
      refine hpre (g + 1) (by omega) _ _ ?_
      refine br_t rfl ?_
      refine hv0 0 (by omega) _ _ ?_
      refine hv0 (g + 1) (by omega) _ _ ?_
      refine br_t rfl ?_
      refine hv1 0 (by omega) _ _ ?_
      refine hv1 (g + 1) (by omega) _ _ ?_
      refine br_t rfl ?_
      refine bv_erase ?_
      dsimp only
      refine bv_erase ?_
      dsimp only
      refine hli 0 0 0 (bv_L_e (by omega)) _ ?_
      refine hli (g + 1) 0 0 (bv_L_e (by omega)) _ ?_
      refine br_t rfl ?_
      refine bv_type (t := 0) (b := 0) (by omega) hg ?_
      dsimp only
      refine nm_r el (br_c (fun _ => ?_) (fun _ => ?_))
      · exact bv_law216 (by omega) hg hJ' bv_L_c0 (bv_L_d0 hg) (nx _ _ _ _)
      · by_cases h5 : l ≤ 5
        · refine bv_type (t := 0) (b := 0) (by omega) h5 ?_
          dsimp only
          refine bv_type (by omega) h5 ?_
          dsimp only
          exact bv_law216 (by omega) hg hJ' (bv_L_c1 h5) (bv_L_d1 hg h5) (nx _ _ _ _)
        · refine bv_typeBad (by omega) (by omega) ?_
          dsimp only
          refine bv_typeBad (by omega) (by omega) ?_
          dsimp only
          exact bv_law216 (by omega) hg hJ' bv_L_c0 (bv_L_d0 hg) (nx _ _ _ _)
end
section
theorem bv_init {post : St1 → Prop} {ty bu ke md th : Int32} (hp : post (0, bu, ke, md, th, (fun _ => 0), (fun _ => 0), (fun _ => 0), (fun _ => 0), (fun _ => 0), (fun _ => 0), (fun _ => 0), (fun _ => 0), (fun _ => 0), (fun _ => 0))) : wpX_init post 10 198 (ty, bu, ke, md, th) := by
  unfold wpX_init
  dsimp only
  exact ⟨by omega, by omega, by omega, by omega, by omega, by omega, by omega, by omega, by omega, by omega, by omega, by omega, by omega, by omega, by omega, by omega, by omega, by omega, by omega, by omega, hp⟩
theorem bv_J0 : bv_J (0, 0, 0, (fun _ => 0), (fun _ => 0), (fun _ => 0), (fun _ => 0), (fun _ => 0), (fun _ => 0), (fun _ => 0), (fun _ => 0), (fun _ => 0), (fun _ => 0)) := by
  refine ⟨⟨rfl, fun i hi => absurd hi (by omega), fun i hi => absurd hi (Nat.not_lt_zero i), fun v _ z => absurd rfl z, fun i j hi => absurd hi (Nat.not_lt_zero i), fun u v w _ _ z => absurd rfl z, fun i u w hi => absurd hi (Nat.not_lt_zero i)⟩, fun i _ => Or.inl rfl⟩
theorem bv_top {post : Int32 → Prop} (h1 : post 1) {L : Nat} (hL : L ≤ 260) {xs : Nat → Int32} {kc kk g : Nat} (hg : g ≤ 5) : ∃ fu, wL_law_38 post L xs (nI g) kc kk fu 1 0 0 0 0 0 (fun _ => 0) (fun _ => 0) (fun _ => 0) (fun _ => 0) (fun _ => 0) (fun _ => 0) (fun _ => 0) (fun _ => 0) (fun _ => 0) (fun _ => 0) 0 0 0 0 0 (fun _ => 0) (fun _ => 0) (fun _ => 0) (fun _ => 0) (fun _ => 0) (fun _ => 0) (fun _ => 0) (fun _ => 0) (fun _ => 0) (fun _ => 0) := by
  have h := bv_law38 h1 hL (xs := xs) (kc := kc) (kk := kk) hg L 1 (by omega) (by omega) 0 0 0 0 _ _ _ _ _ _ _ _ _ _ _ _ _ bv_J0
  rw [bv_g_0, bv_g_0] at h
  exact ⟨L + 1, h⟩
theorem i_vc (xs : Nat → Int32) (L : Nat) (hL : L ≤ 260) : wpL_law (fun r => r = 1) L xs := by
  unfold wpL_law
  refine ⟨10, 198, by omega, by omega, bv_init ?_⟩
  dsimp only
  refine ⟨by omega, by omega, 10, 198, by omega, by omega, bv_init ?_⟩
  dsimp only
  refine pk_le L 0 (fun _ => ?_) (fun z => ⟨pk_in 0 L z, by decide, ?_⟩)
  · exact bv_top (post := fun r => r = 1) (g := 2) rfl hL (by omega)
  · obtain ⟨j, hj, ej⟩ := pk_andE (xs (0 : Int32).toNatClampNeg) (m := 2147483647) 31 (by decide)
    have e : ((xs (0 : Int32).toNatClampNeg) &&& 2147483647) - ((xs (0 : Int32).toNatClampNeg) &&& 2147483647) / 6 * 6 = nI (j % 6) := by
      rw [ej]
      exact pk_rem (d := 6) hj (by omega) (by omega)
    exact nm_r e (bv_top (post := fun r => r = 1) (g := j % 6) rfl hL (by omega))
end
