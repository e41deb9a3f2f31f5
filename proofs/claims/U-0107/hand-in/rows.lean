section
/-! ints by toInt -/
theorem qa_le {x y : Int32} {A B : Prop} (a b : Int) (f : a ≤ b → A) (g : b < a → B) (hx : x.toInt = a := by rfl) (hy : y.toInt = b := by rfl) : (x ≤ y → A) ∧ (¬ x ≤ y → B) := by
  subst hx
  subst hy
  exact ⟨fun h => f (Int32.le_iff_toInt_le.mp h), fun h => g (Int.not_le.mp (fun e => h (Int32.le_iff_toInt_le.mpr e)))⟩
theorem qa_lt {x y : Int32} {A B : Prop} (a b : Int) (f : a < b → A) (g : b ≤ a → B) (hx : x.toInt = a := by rfl) (hy : y.toInt = b := by rfl) : (x < y → A) ∧ (¬ x < y → B) := by
  subst hx
  subst hy
  exact ⟨fun h => f (Int32.lt_iff_toInt_lt.mp h), fun h => g (Int.not_lt.mp (fun e => h (Int32.lt_iff_toInt_lt.mpr e)))⟩
theorem qa_eq {x y : Int32} {A B : Prop} (a b : Int) (f : a = b → A) (g : a ≠ b → B) (hx : x.toInt = a := by rfl) (hy : y.toInt = b := by rfl) : (x = y → A) ∧ (¬ x = y → B) := by
  subst hx
  subst hy
  exact ⟨fun h => f (congrArg Int32.toInt h), fun h => g (fun e => h (Int32.toInt_inj.mp e))⟩
theorem qa_0 : (0 : Int32).toInt = 0 := by decide
theorem qa_1 : (1 : Int32).toInt = 1 := by decide
theorem qa_m1 : (-1 : Int32).toInt = -1 := by decide
theorem qa_F : (2147483647 : Int32).toInt = 2147483647 := by decide
theorem qa_s {x : Int32} (h : x.toInt < 2147483647) : (x + 1).toInt = x.toInt + 1 := by
  have a := x.le_toInt
  have e := Jvm.Kit.i32_add (x := x) (y := 1) (by rw [qa_1]; omega) (by rw [qa_1]; omega)
  rw [e, qa_1]
theorem qa_p {x : Int32} (h : -2147483648 < x.toInt) : (x + (-1)).toInt = x.toInt - 1 := by
  have a := x.toInt_lt
  have e := Jvm.Kit.i32_add (x := x) (y := -1) (by rw [qa_m1]; omega) (by rw [qa_m1]; omega)
  rw [e, qa_m1]
  omega
theorem qa_m {x : Int32} (h : -2147483648 < x.toInt) : (x - 1).toInt = x.toInt - 1 := by
  have a := x.toInt_lt
  have e := Jvm.Kit.i32_sub (x := x) (y := 1) (by rw [qa_1]; omega) (by rw [qa_1]; omega)
  rw [e, qa_1]
theorem qa_add {x y : Int32} (h1 : -2147483648 ≤ x.toInt + y.toInt) (h2 : x.toInt + y.toInt < 2147483648) : (x + y).toInt = x.toInt + y.toInt :=
  Jvm.Kit.i32_add (by omega) (by omega)
theorem qa_sub {x y : Int32} (h1 : -2147483648 ≤ x.toInt - y.toInt) (h2 : x.toInt - y.toInt < 2147483648) : (x - y).toInt = x.toInt - y.toInt :=
  Jvm.Kit.i32_sub (by omega) (by omega)
theorem qa_cl {x : Int32} {i : Nat} (h : x.toInt = (i : Int)) : x.toNatClampNeg = i := by
  have e : x.toNatClampNeg = x.toInt.toNat := rfl
  rw [e, h]
  exact Int.toNat_natCast i
theorem qa_in {x : Int32} {n : Nat} (h0 : 0 ≤ x.toInt) (h : x.toInt < (n : Int)) : vp_in x n := vp_in_iff.mpr ⟨h0, h⟩
theorem qa_toI {x y : Int32} (h : x.toInt = y.toInt) : x = y := Int32.toInt_inj.mp h
/-! sums -/
def qs_S (h : Nat → Nat) : Nat → Nat
  | 0 => 0
  | n + 1 => qs_S h n + h n
theorem qs_0 (h : Nat → Nat) : qs_S h 0 = 0 := rfl
theorem qs_s (h : Nat → Nat) (n : Nat) : qs_S h (n + 1) = qs_S h n + h n := rfl
theorem qs_congr {h h' : Nat → Nat} : ∀ {n : Nat}, (∀ j, j < n → h j = h' j) → qs_S h n = qs_S h' n
  | 0, _ => rfl
  | n + 1, e => by
    rw [qs_s, qs_s, qs_congr (n := n) (fun j hj => e j (by omega)), e n (by omega)]
theorem qs_le {h h' : Nat → Nat} : ∀ {n : Nat}, (∀ j, j < n → h j ≤ h' j) → qs_S h n ≤ qs_S h' n
  | 0, _ => Nat.le_refl _
  | n + 1, e => by
    have a := qs_le (n := n) (fun j hj => e j (by omega))
    have b := e n (by omega)
    rw [qs_s, qs_s]
    omega
theorem qs_upd {h h' : Nat → Nat} : ∀ {n i : Nat}, i < n → (∀ j, j < n → j ≠ i → h' j = h j) → qs_S h' n + h i = qs_S h n + h' i
  | 0, _, hi, _ => absurd hi (Nat.not_lt_zero _)
  | n + 1, i, hi, e => by
    rw [qs_s, qs_s]
    by_cases z : i = n
    · subst z
      have a := qs_congr (h := h') (h' := h) (n := i) (fun j hj => e j (by omega) (by omega))
      omega
    · have a := qs_upd (h := h) (h' := h') (n := n) (i := i) (by omega) (fun j hj hn => e j (by omega) hn)
      have b := e n (by omega) (by omega)
      omega
theorem qs_mono {h : Nat → Nat} {m : Nat} : ∀ {n : Nat}, m ≤ n → qs_S h m ≤ qs_S h n
  | 0, e => by
    have z : m = 0 := by omega
    subst z
    exact Nat.le_refl _
  | n + 1, e => by
    by_cases z : m = n + 1
    · subst z
      exact Nat.le_refl _
    · have a := qs_mono (h := h) (m := m) (n := n) (by omega)
      rw [qs_s]
      omega
theorem qs_add {h h' : Nat → Nat} : ∀ {n : Nat}, qs_S (fun j => h j + h' j) n = qs_S h n + qs_S h' n
  | 0 => rfl
  | n + 1 => by
    rw [qs_s, qs_s, qs_s, qs_add (n := n)]
    omega
theorem qs_z {h : Nat → Nat} : ∀ {n : Nat}, (∀ j, j < n → h j = 0) → qs_S h n = 0
  | 0, _ => rfl
  | n + 1, e => by
    rw [qs_s, qs_z (n := n) (fun j hj => e j (by omega)), e n (by omega)]
theorem qs_zi {h : Nat → Nat} : ∀ {n : Nat}, qs_S h n = 0 → ∀ j, j < n → h j = 0
  | 0, _, _, hj => absurd hj (Nat.not_lt_zero _)
  | n + 1, e, j, hj => by
    rw [qs_s] at e
    by_cases z : j = n
    · subst z
      omega
    · exact qs_zi (n := n) (by omega) j (by omega)
theorem qs_one : ∀ {n : Nat}, qs_S (fun _ => 1) n = n
  | 0 => rfl
  | n + 1 => by rw [qs_s, qs_one (n := n)]
theorem qs_swap {h : Nat → Nat → Nat} {m : Nat} : ∀ {n : Nat}, qs_S (fun i => qs_S (fun j => h i j) m) n = qs_S (fun j => qs_S (fun i => h i j) n) m
  | 0 => by
    rw [qs_0]
    exact (qs_z (fun j _ => rfl)).symm
  | n + 1 => by
    rw [qs_s, qs_swap (n := n), ← qs_add]
    rfl
/-! rows: slot, value, from, to, since, until -/
abbrev qr_T : Type := Int × Int × Int × Int × Int × Int
def qr_R (sl va fr tw si un : Nat → Int32) (j : Nat) : qr_T := ((sl j).toInt, (va j).toInt, (fr j).toInt, (tw j).toInt, (si j).toInt, (un j).toInt)
def qr_u (R : Nat → qr_T) (i : Nat) (r : qr_T) : Nat → qr_T := fun j => if j = i then r else R j
theorem qr_us {R : Nat → qr_T} {i : Nat} {r : qr_T} : qr_u R i r i = r := if_pos rfl
theorem qr_un {R : Nat → qr_T} {i j : Nat} {r : qr_T} (h : j ≠ i) : qr_u R i r j = R j := if_neg h
theorem qr_upd {sl va fr tw si un : Nat → Int32} {i : Nat} {a b c d e f : Int32} : qr_R (upd sl i a) (upd va i b) (upd fr i c) (upd tw i d) (upd si i e) (upd un i f) = qr_u (qr_R sl va fr tw si un) i (a.toInt, b.toInt, c.toInt, d.toInt, e.toInt, f.toInt) := by
  funext j
  unfold qr_R qr_u upd
  by_cases z : j = i
  · rw [if_pos z, if_pos z, if_pos z, if_pos z, if_pos z, if_pos z, if_pos z]
  · rw [if_neg z, if_neg z, if_neg z, if_neg z, if_neg z, if_neg z, if_neg z]
theorem qr_updU {sl va fr tw si un : Nat → Int32} {i : Nat} {f : Int32} : qr_R sl va fr tw si (upd un i f) = qr_u (qr_R sl va fr tw si un) i ((sl i).toInt, (va i).toInt, (fr i).toInt, (tw i).toInt, (si i).toInt, f.toInt) := by
  funext j
  unfold qr_R qr_u upd
  by_cases z : j = i
  · subst z
    rw [if_pos rfl, if_pos rfl]
  · rw [if_neg z, if_neg z]
theorem qm_drop {R : Nat → qr_T} {i : Nat} (f : qr_T → Nat) : ∀ {n : Nat}, i < n + 1 → qs_S (fun j => f (qr_u R i (R n) j)) n + f (R i) = qs_S (fun j => f (R j)) (n + 1) := by
  intro n hi
  rw [qs_s]
  by_cases z : i = n
  · subst z
    rw [qs_congr (h := fun j => f (qr_u R i (R i) j)) (h' := fun j => f (R j)) (n := i) (fun j hj => by (try dsimp only); rw [qr_un (by omega)])]
  · have a := qs_upd (h := fun j => f (R j)) (h' := fun j => f (qr_u R i (R n) j)) (n := n) (i := i) (by omega) (fun j _ hn => by (try dsimp only); rw [qr_un hn])
    (try dsimp only at a)
    rw [qr_us] at a
    exact a
theorem qm_set {R : Nat → qr_T} {i n : Nat} {r : qr_T} (f : qr_T → Nat) (hi : i < n) : qs_S (fun j => f (qr_u R i r j)) n + f (R i) = qs_S (fun j => f (R j)) n + f r := by
  have a := qs_upd (h := fun j => f (R j)) (h' := fun j => f (qr_u R i r j)) (n := n) (i := i) hi (fun j _ hn => by (try dsimp only); rw [qr_un hn])
  (try dsimp only at a)
  rw [qr_us] at a
  exact a
theorem qm_add {R : Nat → qr_T} {n : Nat} {r : qr_T} (f : qr_T → Nat) : qs_S (fun j => f (qr_u R n r j)) (n + 1) = qs_S (fun j => f (R j)) n + f r := by
  rw [qs_s, qr_us]
  rw [qs_congr (h := fun j => f (qr_u R n r j)) (h' := fun j => f (R j)) (n := n) (fun j hj => by (try dsimp only); rw [qr_un (by omega)])]
end
section
/-! the link between rows and the reference's function g -/
def ql_ind (s v t : Int) (r : qr_T) : Nat := if r.1 = s ∧ r.2.2.1 ≤ v ∧ v < r.2.2.2.1 ∧ r.2.2.2.2.1 ≤ t ∧ t < r.2.2.2.2.2 then 1 else 0
def ql_wt (s v t : Int) (r : qr_T) : Nat := if r.1 = s ∧ r.2.2.1 ≤ v ∧ v < r.2.2.2.1 ∧ r.2.2.2.2.1 ≤ t ∧ t < r.2.2.2.2.2 then (r.2.1 + 1).toNat else 0
def ql_sl (ke b k : Int) : Int := if b = 0 then k else ke + k
abbrev ql_G : Type := Int → Int → Int → Int → Int
def ql_Link (ke ho no : Int) (R : Nat → qr_T) (n : Nat) (g : ql_G) : Prop :=
  ∀ b k v t : Int, (b = 0 ∨ b = 1) → 0 ≤ k → k < ke → 0 ≤ v → v < ho → 0 ≤ t → t ≤ no →
    qs_S (fun j => ql_ind (ql_sl ke b k) v t (R j)) n ≤ 1 ∧ ((qs_S (fun j => ql_wt (ql_sl ke b k) v t (R j)) n : Nat) : Int) = g b k v t + 1
theorem ql_iw {s v w t t' : Int} {r : qr_T} (h : ql_ind s w t r = ql_ind s v t' r) : ql_wt s w t r = ql_wt s v t' r := by
  unfold ql_ind at h
  unfold ql_wt
  split at h
  · rename_i a
    split at h
    · rename_i b
      rw [if_pos a, if_pos b]
    · exact absurd h (by decide)
  · rename_i a
    split at h
    · exact absurd h (by decide)
    · rename_i b
      rw [if_neg a, if_neg b]
theorem ql_i0w {s v t : Int} {r : qr_T} (h : ql_ind s v t r = 0) : ql_wt s v t r = 0 := by
  unfold ql_ind at h
  unfold ql_wt
  split at h
  · exact absurd h (by decide)
  · rename_i a
    rw [if_neg a]
theorem ql_S0w {s v t : Int} {R : Nat → qr_T} {n : Nat} (h : qs_S (fun j => ql_ind s v t (R j)) n = 0) : qs_S (fun j => ql_wt s v t (R j)) n = 0 :=
  qs_z (fun j hj => ql_i0w (qs_zi h j hj))
theorem ql_i1 {s v t : Int} {r : qr_T} (h : r.1 = s ∧ r.2.2.1 ≤ v ∧ v < r.2.2.2.1 ∧ r.2.2.2.2.1 ≤ t ∧ t < r.2.2.2.2.2) : ql_ind s v t r = 1 := if_pos h
theorem ql_i0 {s v t : Int} {r : qr_T} (h : ¬ (r.1 = s ∧ r.2.2.1 ≤ v ∧ v < r.2.2.2.1 ∧ r.2.2.2.2.1 ≤ t ∧ t < r.2.2.2.2.2)) : ql_ind s v t r = 0 := if_neg h
theorem ql_w1 {s v t : Int} {r : qr_T} (h : r.1 = s ∧ r.2.2.1 ≤ v ∧ v < r.2.2.2.1 ∧ r.2.2.2.2.1 ≤ t ∧ t < r.2.2.2.2.2) : ql_wt s v t r = (r.2.1 + 1).toNat := if_pos h
theorem ql_w0 {s v t : Int} {r : qr_T} (h : ¬ (r.1 = s ∧ r.2.2.1 ≤ v ∧ v < r.2.2.2.1 ∧ r.2.2.2.2.1 ≤ t ∧ t < r.2.2.2.2.2)) : ql_wt s v t r = 0 := if_neg h
theorem ql_ic {s v t w x : Int} {r : qr_T} (h : (r.1 = s ∧ r.2.2.1 ≤ v ∧ v < r.2.2.2.1 ∧ r.2.2.2.2.1 ≤ t ∧ t < r.2.2.2.2.2) ↔ (r.1 = s ∧ r.2.2.1 ≤ w ∧ w < r.2.2.2.1 ∧ r.2.2.2.2.1 ≤ x ∧ x < r.2.2.2.2.2)) : ql_ind s v t r = ql_ind s w x r := by
  by_cases z : r.1 = s ∧ r.2.2.1 ≤ v ∧ v < r.2.2.2.1 ∧ r.2.2.2.2.1 ≤ t ∧ t < r.2.2.2.2.2
  · rw [ql_i1 z, ql_i1 (h.mp z)]
  · rw [ql_i0 z, ql_i0 (fun e => z (h.mpr e))]
/-- the relation's row, as the reference says it -/
def ql_row (ke : Nat) (g : ql_G) (rel k v t : Int) : Int :=
  if rel = 0 then g 0 k v t
  else if rel = 1 then g 1 k v t
  else if rel = 3 then (if g 0 k v t = -1 then -1 else ((qs_S (fun c => if g 1 (c : Int) v t = k then 1 else 0) ke : Nat) : Int))
  else if g 1 k v t = -1 then -1
  else if rel = 2 then g 0 (g 1 k v t) v t
  else if g 0 (g 1 k v t) v t = -1 then g 1 k v t else -1
/-! windows -/
def qw_W (ho no lo hi tl th v t : Int) : Prop := (0 ≤ lo ∧ lo ≤ v ∧ v < hi ∧ hi ≤ ho) ∧ (0 ≤ tl ∧ tl ≤ t ∧ t < th ∧ th ≤ no + 1)
def qw_N (lo hi tl th lo' hi' tl' th' : Int) : Prop := (lo ≤ lo' ∧ hi' ≤ hi) ∧ (tl ≤ tl' ∧ th' ≤ th)
def qw_C (P : Int → Int → Int) (lo hi tl th v t : Int) : Prop := (∀ w, lo ≤ w → w < hi → P w t = P v t) ∧ (∀ s, tl ≤ s → s < th → P v s = P v t)
theorem qw_NC {P : Int → Int → Int} {lo hi tl th lo' hi' tl' th' v t : Int} (n : qw_N lo hi tl th lo' hi' tl' th') (c : qw_C P lo hi tl th v t) : qw_C P lo' hi' tl' th' v t := by
  obtain ⟨⟨n1, n2⟩, n3, n4⟩ := n
  exact ⟨fun w a b => c.1 w (by omega) (by omega), fun s a b => c.2 s (by omega) (by omega)⟩
theorem qw_NN {lo hi tl th lo' hi' tl' th' lo2 hi2 tl2 th2 : Int} (n : qw_N lo hi tl th lo' hi' tl' th') (m : qw_N lo' hi' tl' th' lo2 hi2 tl2 th2) : qw_N lo hi tl th lo2 hi2 tl2 th2 := by
  obtain ⟨⟨n1, n2⟩, n3, n4⟩ := n
  obtain ⟨⟨m1, m2⟩, m3, m4⟩ := m
  exact ⟨⟨by omega, by omega⟩, by omega, by omega⟩
theorem qw_N0 {lo hi tl th : Int} : qw_N lo hi tl th lo hi tl th := ⟨⟨by omega, by omega⟩, by omega, by omega⟩
/-- what a look leaves for the rows seen so far -/
def qw_L (R : Nat → qr_T) (s v t lo hi tl th : Int) (i : Nat) : Prop := ∀ j, j < i → (∀ w, lo ≤ w → w < hi → ql_ind s w t (R j) = ql_ind s v t (R j)) ∧ (∀ x, tl ≤ x → x < th → ql_ind s v x (R j) = ql_ind s v t (R j))
theorem qw_Ls {R : Nat → qr_T} {s v t lo hi tl th lo' hi' tl' th' : Int} {i : Nat} (n : qw_N lo hi tl th lo' hi' tl' th') (h : qw_L R s v t lo hi tl th i)
    (a : ∀ w, lo' ≤ w → w < hi' → ql_ind s w t (R i) = ql_ind s v t (R i)) (b : ∀ x, tl' ≤ x → x < th' → ql_ind s v x (R i) = ql_ind s v t (R i)) : qw_L R s v t lo' hi' tl' th' (i + 1) := by
  intro j hj
  obtain ⟨⟨n1, n2⟩, n3, n4⟩ := n
  by_cases z : j = i
  · subst z
    exact ⟨a, b⟩
  · have c := h j (by omega)
    exact ⟨fun w x y => c.1 w (by omega) (by omega), fun w x y => c.2 w (by omega) (by omega)⟩
theorem qw_LC {R : Nat → qr_T} {ke ho no b k v t lo hi tl th : Int} {n : Nat} {g : ql_G} (L : ql_Link ke ho no R n g) (hb : b = 0 ∨ b = 1) (hk0 : 0 ≤ k) (hk : k < ke) (w : qw_W ho no lo hi tl th v t)
    (h : qw_L R (ql_sl ke b k) v t lo hi tl th n) : qw_C (fun v t => g b k v t) lo hi tl th v t := by
  obtain ⟨⟨w1, w2, w3, w4⟩, w5, w6, w7, w8⟩ := w
  have e0 := (L b k v t hb hk0 hk (by omega) (by omega) (by omega) (by omega)).2
  constructor
  · intro x a c
    have e1 := (L b k x t hb hk0 hk (by omega) (by omega) (by omega) (by omega)).2
    have e2 := qs_congr (h := fun j => ql_wt (ql_sl ke b k) x t (R j)) (h' := fun j => ql_wt (ql_sl ke b k) v t (R j)) (n := n) (fun j hj => ql_iw ((h j hj).1 x a c))
    rw [e2, e0] at e1
    show g b k x t = g b k v t
    omega
  · intro x a c
    have e1 := (L b k v x hb hk0 hk (by omega) (by omega) (by omega) (by omega)).2
    have e2 := qs_congr (h := fun j => ql_wt (ql_sl ke b k) v x (R j)) (h' := fun j => ql_wt (ql_sl ke b k) v t (R j)) (n := n) (fun j hj => ql_iw ((h j hj).2 x a c))
    rw [e2, e0] at e1
    show g b k v x = g b k v t
    omega
/-- one more row: the value so far -/
theorem qw_v1 {R : Nat → qr_T} {s v t x : Int} {i n : Nat} (hi : i < n) (h1 : qs_S (fun j => ql_ind s v t (R j)) n ≤ 1)
    (m : (R i).1 = s ∧ (R i).2.2.1 ≤ v ∧ v < (R i).2.2.2.1 ∧ (R i).2.2.2.2.1 ≤ t ∧ t < (R i).2.2.2.2.2) (hx : x = (R i).2.1) (h0 : 0 ≤ x) : x + 1 = ((qs_S (fun j => ql_wt s v t (R j)) (i + 1) : Nat) : Int) := by
  have a := qs_mono (h := fun j => ql_ind s v t (R j)) (m := i + 1) (n := n) (by omega)
  rw [qs_s, ql_i1 m] at a
  have b := ql_S0w (s := s) (v := v) (t := t) (R := R) (n := i) (by omega)
  rw [qs_s, b, ql_w1 m, ← hx]
  omega
theorem qw_v0 {R : Nat → qr_T} {s v t x : Int} {i : Nat} (m : ¬ ((R i).1 = s ∧ (R i).2.2.1 ≤ v ∧ v < (R i).2.2.2.1 ∧ (R i).2.2.2.2.1 ≤ t ∧ t < (R i).2.2.2.2.2)) (h : x + 1 = ((qs_S (fun j => ql_wt s v t (R j)) i : Nat) : Int)) : x + 1 = ((qs_S (fun j => ql_wt s v t (R j)) (i + 1) : Nat) : Int) := by
  rw [qs_s, ql_w0 m]
  exact h
end
section
section
variable {fe ke ho ca no kp pe pf pt ro fo lo hi tl th : Int32} {sl va fr tw si un : Nat → Int32}
def qw_I (lo0 hi0 tl0 th0 lo hi tl th v t : Int) : Prop := (lo0 ≤ lo ∧ lo ≤ v ∧ v < hi ∧ hi ≤ hi0) ∧ (tl0 ≤ tl ∧ tl ≤ t ∧ t < th ∧ th ≤ th0)
theorem qw_IN {lo0 hi0 tl0 th0 lo hi tl th v t : Int} (h : qw_I lo0 hi0 tl0 th0 lo hi tl th v t) : qw_N lo0 hi0 tl0 th0 lo hi tl th := by
  obtain ⟨⟨a, b, c, d⟩, e, f, g, i⟩ := h
  exact ⟨⟨a, d⟩, e, i⟩
theorem qx_gr {post : Int32 → Prop} {a b : Int32} (H : ∀ r : Int32, a.toInt ≤ r.toInt → b.toInt ≤ r.toInt → (r.toInt = a.toInt ∨ r.toInt = b.toInt) → post r) : wpX_greater post (fe, ke, ho, ca, no, kp, pe, pf, pt, ro, fo, lo, hi, tl, th, sl, va, fr, tw, si, un) a b := by
  unfold wpX_greater
  exact qa_le _ _ (fun h => H b h (by omega) (Or.inr rfl)) (fun h => H a (by omega) (by omega) (Or.inl rfl))
theorem qx_ls {post : Int32 → Prop} {a b : Int32} (H : ∀ r : Int32, r.toInt ≤ a.toInt → r.toInt ≤ b.toInt → (r.toInt = a.toInt ∨ r.toInt = b.toInt) → post r) : wpX_lesser post (fe, ke, ho, ca, no, kp, pe, pf, pt, ro, fo, lo, hi, tl, th, sl, va, fr, tw, si, un) a b := by
  unfold wpX_lesser
  exact qa_le _ _ (fun h => H b h (by omega) (Or.inr rfl)) (fun h => H a (by omega) (by omega) (Or.inl rfl))
theorem qx_vE {post : SX → Prop} {e v : Int32} (h1 : lo.toInt ≤ v.toInt) (h2 : v.toInt < hi.toInt)
    (H : ∀ lo' hi' : Int32, lo.toInt ≤ lo'.toInt → lo'.toInt ≤ v.toInt → v.toInt < hi'.toInt → hi'.toInt ≤ hi.toInt → (e.toInt ≤ lo'.toInt ∨ hi'.toInt ≤ e.toInt) → post (fe, ke, ho, ca, no, kp, pe, pf, pt, ro, fo, lo', hi', tl, th, sl, va, fr, tw, si, un)) : wpX_validEdge post (fe, ke, ho, ca, no, kp, pe, pf, pt, ro, fo, lo, hi, tl, th, sl, va, fr, tw, si, un) e v := by
  unfold wpX_validEdge
  refine qa_lt _ _ (fun a => ?_) (fun a => ?_)
  · refine qx_ls (fun r b1 b2 b3 => H lo r (by omega) (by omega) (by omega) (by omega) (by omega))
  · refine qx_gr (fun r b1 b2 b3 => H r hi (by omega) (by omega) (by omega) (by omega) (by omega))
theorem qx_tE {post : SX → Prop} {e v : Int32} (h1 : tl.toInt ≤ v.toInt) (h2 : v.toInt < th.toInt)
    (H : ∀ tl' th' : Int32, tl.toInt ≤ tl'.toInt → tl'.toInt ≤ v.toInt → v.toInt < th'.toInt → th'.toInt ≤ th.toInt → (e.toInt ≤ tl'.toInt ∨ th'.toInt ≤ e.toInt) → post (fe, ke, ho, ca, no, kp, pe, pf, pt, ro, fo, lo, hi, tl', th', sl, va, fr, tw, si, un)) : wpX_timeEdge post (fe, ke, ho, ca, no, kp, pe, pf, pt, ro, fo, lo, hi, tl, th, sl, va, fr, tw, si, un) e v := by
  unfold wpX_timeEdge
  refine qa_lt _ _ (fun a => ?_) (fun a => ?_)
  · refine qx_ls (fun r b1 b2 b3 => H tl r (by omega) (by omega) (by omega) (by omega) (by omega))
  · refine qx_gr (fun r b1 b2 b3 => H r th (by omega) (by omega) (by omega) (by omega) (by omega))
/-- an edge that the window doesn't cross -/
def qw_E (e lo hi : Int) : Prop := e ≤ lo ∨ hi ≤ e
theorem qx_143 {post : Int32 → SX → Prop} {J : Int32 → Int32 → Int32 → Int32 → Int32 → Int32 → Int32 → Int32 → Int32 → Int32 → Int32 → Int32 → Int32 → Int32 → Int32 → Int32 → Int32 → (Nat → Int32) → (Nat → Int32) → (Nat → Int32) → (Nat → Int32) → (Nat → Int32) → (Nat → Int32) → Prop} {v t s x6 x7 x8 : Int32} {i : Nat} (hi' : x7.toInt = (i : Int)) (hi9 : i < 96) (h1 : tl.toInt ≤ t.toInt) (h2 : t.toInt < th.toInt)
    (H : ∀ tl' th' : Int32, tl.toInt ≤ tl'.toInt → tl'.toInt ≤ t.toInt → t.toInt < th'.toInt → th'.toInt ≤ th.toInt → (x8.toInt ≠ 0 → qw_E (si i).toInt tl'.toInt th'.toInt ∧ qw_E (un i).toInt tl'.toInt th'.toInt) → J x6 (x7 + 1) fe ke ho ca no kp pe pf pt ro fo lo hi tl' th' sl va fr tw si un) : wX_look_143 post J v t s x6 x7 x8 fe ke ho ca no kp pe pf pt ro fo lo hi tl th sl va fr tw si un := by
  have hc : x7.toNatClampNeg = i := qa_cl hi'
  have hin : vp_in x7 96 := qa_in (by omega) (by omega)
  unfold wX_look_143
  rw [hc]
  refine qa_eq _ 0 (fun a => nm_e (H tl th (by omega) (by omega) (by omega) (by omega) (fun z => absurd a z))) (fun a => ⟨hin, ?_⟩)
  refine qx_tE h1 h2 (fun tl1 th1 a1 a2 a3 a4 a5 => ?_)
  refine ⟨hin, ?_⟩
  refine qx_tE a2 a3 (fun tl2 th2 b1 b2 b3 b4 b5 => ?_)
  refine nm_e (H tl2 th2 (by omega) (by omega) (by omega) (by omega) (fun _ => ⟨?_, b5⟩))
  unfold qw_E
  omega
theorem qx_114 {post : Int32 → SX → Prop} {J : Int32 → Int32 → Int32 → Int32 → Int32 → Int32 → Int32 → Int32 → Int32 → Int32 → Int32 → Int32 → Int32 → Int32 → Int32 → Int32 → Int32 → (Nat → Int32) → (Nat → Int32) → (Nat → Int32) → (Nat → Int32) → (Nat → Int32) → (Nat → Int32) → Prop} {v t s x6 x7 x8 x9 : Int32} {i : Nat} (hi' : x7.toInt = (i : Int)) (hi9 : i < 96) (h1 : tl.toInt ≤ t.toInt) (h2 : t.toInt < th.toInt) (h3 : lo.toInt ≤ v.toInt) (h4 : v.toInt < hi.toInt)
    (H : ∀ lo' hi' tl' th' : Int32, qw_I lo.toInt hi.toInt tl.toInt th.toInt lo'.toInt hi'.toInt tl'.toInt th'.toInt v.toInt t.toInt →
      (x9.toInt ≠ 0 → qw_E (fr i).toInt lo'.toInt hi'.toInt ∧ qw_E (tw i).toInt lo'.toInt hi'.toInt) →
      (x8.toInt ≠ 0 → qw_E (si i).toInt tl'.toInt th'.toInt ∧ qw_E (un i).toInt tl'.toInt th'.toInt) → J x6 (x7 + 1) fe ke ho ca no kp pe pf pt ro fo lo' hi' tl' th' sl va fr tw si un) : wX_look_114 post J v t s x6 x7 x8 x9 fe ke ho ca no kp pe pf pt ro fo lo hi tl th sl va fr tw si un := by
  have hc : x7.toNatClampNeg = i := qa_cl hi'
  have hin : vp_in x7 96 := qa_in (by omega) (by omega)
  unfold wX_look_114
  rw [hc]
  refine qa_eq _ 0 (fun a => ?_) (fun a => ⟨hin, ?_⟩)
  · refine qx_143 hi' hi9 h1 h2 (fun tl1 th1 a1 a2 a3 a4 a5 => H lo hi tl1 th1 ⟨⟨by omega, by omega, by omega, by omega⟩, by omega, by omega, by omega, by omega⟩ (fun z => absurd a z) a5)
  · refine qx_vE h3 h4 (fun lo1 hi1 a1 a2 a3 a4 a5 => ?_)
    refine ⟨hin, ?_⟩
    refine qx_vE a2 a3 (fun lo2 hi2 b1 b2 b3 b4 b5 => ?_)
    refine qx_143 hi' hi9 h1 h2 (fun tl1 th1 c1 c2 c3 c4 c5 => H lo2 hi2 tl1 th1 ⟨⟨by omega, by omega, by omega, by omega⟩, by omega, by omega, by omega, by omega⟩ (fun _ => ⟨?_, b5⟩) c5)
    unfold qw_E
    omega
theorem qx_93 {post : Int32 → SX → Prop} {J : Int32 → Int32 → Int32 → Int32 → Int32 → Int32 → Int32 → Int32 → Int32 → Int32 → Int32 → Int32 → Int32 → Int32 → Int32 → Int32 → Int32 → (Nat → Int32) → (Nat → Int32) → (Nat → Int32) → (Nat → Int32) → (Nat → Int32) → (Nat → Int32) → Prop} {v t s x6 x7 x8 x9 : Int32} {i : Nat} (hi' : x7.toInt = (i : Int)) (hi9 : i < 96) (h1 : tl.toInt ≤ t.toInt) (h2 : t.toInt < th.toInt) (h3 : lo.toInt ≤ v.toInt) (h4 : v.toInt < hi.toInt)
    (H : ∀ x6' lo' hi' tl' th' : Int32, qw_I lo.toInt hi.toInt tl.toInt th.toInt lo'.toInt hi'.toInt tl'.toInt th'.toInt v.toInt t.toInt →
      (x8.toInt ≠ 0 → x9.toInt ≠ 0 → x6' = va i) → ((x8.toInt = 0 ∨ x9.toInt = 0) → x6' = x6) →
      (x9.toInt ≠ 0 → qw_E (fr i).toInt lo'.toInt hi'.toInt ∧ qw_E (tw i).toInt lo'.toInt hi'.toInt) →
      (x8.toInt ≠ 0 → qw_E (si i).toInt tl'.toInt th'.toInt ∧ qw_E (un i).toInt tl'.toInt th'.toInt) → J x6' (x7 + 1) fe ke ho ca no kp pe pf pt ro fo lo' hi' tl' th' sl va fr tw si un) : wX_look_93 post J v t s x6 x7 x8 x9 fe ke ho ca no kp pe pf pt ro fo lo hi tl th sl va fr tw si un := by
  have hc : x7.toNatClampNeg = i := qa_cl hi'
  have hin : vp_in x7 96 := qa_in (by omega) (by omega)
  unfold wX_look_93
  rw [hc]
  refine qa_eq _ 0 (fun a => ?_) (fun a => ?_)
  · exact qx_114 hi' hi9 h1 h2 h3 h4 (fun lo1 hi1 tl1 th1 w e1 e2 => H x6 lo1 hi1 tl1 th1 w (fun z => absurd a z) (fun _ => rfl) e1 e2)
  · refine qa_eq _ 0 (fun b => ?_) (fun b => ⟨hin, nm_e ?_⟩)
    · exact qx_114 hi' hi9 h1 h2 h3 h4 (fun lo1 hi1 tl1 th1 w e1 e2 => H x6 lo1 hi1 tl1 th1 w (fun _ z => absurd b z) (fun _ => rfl) e1 e2)
    · exact qx_114 hi' hi9 h1 h2 h3 h4 (fun lo1 hi1 tl1 th1 w e1 e2 => H (va i) lo1 hi1 tl1 th1 w (fun _ _ => rfl) (fun z => z.elim (fun z => absurd z a) (fun z => absurd z b)) e1 e2)
theorem qx_62 {post : Int32 → SX → Prop} {J : Int32 → Int32 → Int32 → Int32 → Int32 → Int32 → Int32 → Int32 → Int32 → Int32 → Int32 → Int32 → Int32 → Int32 → Int32 → Int32 → Int32 → (Nat → Int32) → (Nat → Int32) → (Nat → Int32) → (Nat → Int32) → (Nat → Int32) → (Nat → Int32) → Prop} {v t s x6 x7 x8 : Int32} {i : Nat} (hi' : x7.toInt = (i : Int)) (hi9 : i < 96) (h1 : tl.toInt ≤ t.toInt) (h2 : t.toInt < th.toInt) (h3 : lo.toInt ≤ v.toInt) (h4 : v.toInt < hi.toInt)
    (H : ∀ x6' lo' hi' tl' th' : Int32, qw_I lo.toInt hi.toInt tl.toInt th.toInt lo'.toInt hi'.toInt tl'.toInt th'.toInt v.toInt t.toInt →
      (x8.toInt ≠ 0 → (si i).toInt ≤ t.toInt ∧ t.toInt < (un i).toInt → x6' = va i) → ((x8.toInt = 0 ∨ ¬ ((si i).toInt ≤ t.toInt ∧ t.toInt < (un i).toInt)) → x6' = x6) →
      ((si i).toInt ≤ t.toInt ∧ t.toInt < (un i).toInt → qw_E (fr i).toInt lo'.toInt hi'.toInt ∧ qw_E (tw i).toInt lo'.toInt hi'.toInt) →
      (x8.toInt ≠ 0 → qw_E (si i).toInt tl'.toInt th'.toInt ∧ qw_E (un i).toInt tl'.toInt th'.toInt) → J x6' (x7 + 1) fe ke ho ca no kp pe pf pt ro fo lo' hi' tl' th' sl va fr tw si un) : wX_look_62 post J v t s x6 x7 x8 fe ke ho ca no kp pe pf pt ro fo lo hi tl th sl va fr tw si un := by
  have hc : x7.toNatClampNeg = i := qa_cl hi'
  have hin : vp_in x7 96 := qa_in (by omega) (by omega)
  unfold wX_look_62 wX_look_92
  rw [hc]
  refine ⟨hin, qa_lt _ _ (fun a => ?_) (fun a => ⟨hin, qa_le _ _ (fun b => ?_) (fun b => ?_)⟩)⟩
  · exact qx_93 hi' hi9 h1 h2 h3 h4 (fun x6' lo1 hi1 tl1 th1 w e1 e2 e3 e4 => H x6' lo1 hi1 tl1 th1 w (fun _ z => absurd z (by omega)) (fun _ => e2 (Or.inr qa_0)) (fun z => absurd z (by omega)) e4)
  · exact qx_93 hi' hi9 h1 h2 h3 h4 (fun x6' lo1 hi1 tl1 th1 w e1 e2 e3 e4 => H x6' lo1 hi1 tl1 th1 w (fun _ z => absurd z (by omega)) (fun _ => e2 (Or.inr qa_0)) (fun z => absurd z (by omega)) e4)
  · exact qx_93 hi' hi9 h1 h2 h3 h4 (fun x6' lo1 hi1 tl1 th1 w e1 e2 e3 e4 => H x6' lo1 hi1 tl1 th1 w (fun z _ => e1 z (by decide)) (fun z => e2 (z.elim Or.inl (fun y => absurd ⟨a, b⟩ y))) (fun _ => e3 (by decide)) e4)
theorem qw_r1 {s' s a b c d v t w lo hi : Int} (e : c ≤ t ∧ t < d → qw_E a lo hi ∧ qw_E b lo hi) (h1 : lo ≤ v) (h2 : v < hi) (h3 : lo ≤ w) (h4 : w < hi) : (s' = s ∧ a ≤ w ∧ w < b ∧ c ≤ t ∧ t < d) ↔ (s' = s ∧ a ≤ v ∧ v < b ∧ c ≤ t ∧ t < d) := by
  unfold qw_E at e
  constructor
  · rintro ⟨y1, y2, y3, y4, y5⟩
    have z := e ⟨y4, y5⟩
    exact ⟨y1, by omega, by omega, y4, y5⟩
  · rintro ⟨y1, y2, y3, y4, y5⟩
    have z := e ⟨y4, y5⟩
    exact ⟨y1, by omega, by omega, y4, y5⟩
theorem qw_r2 {s' s a b c d v t w lo hi : Int} (e : a ≤ v ∧ v < b → qw_E c lo hi ∧ qw_E d lo hi) (h1 : lo ≤ t) (h2 : t < hi) (h3 : lo ≤ w) (h4 : w < hi) : (s' = s ∧ a ≤ v ∧ v < b ∧ c ≤ w ∧ w < d) ↔ (s' = s ∧ a ≤ v ∧ v < b ∧ c ≤ t ∧ t < d) := by
  unfold qw_E at e
  constructor
  · rintro ⟨y1, y2, y3, y4, y5⟩
    have z := e ⟨y2, y3⟩
    exact ⟨y1, y2, y3, by omega, by omega⟩
  · rintro ⟨y1, y2, y3, y4, y5⟩
    have z := e ⟨y2, y3⟩
    exact ⟨y1, y2, y3, by omega, by omega⟩
theorem qx_l14 {post : Int32 → SX → Prop} {v t s : Int32} {N : Nat} {lo0 hi0 tl0 th0 : Int} (hN : ro.toInt = (N : Int)) (hN9 : N ≤ 96) (hv0 : ∀ j, j < N → 0 ≤ (va j).toInt)
    (h1 : qs_S (fun j => ql_ind s.toInt v.toInt t.toInt (qr_R sl va fr tw si un j)) N ≤ 1)
    (H : ∀ r lo' hi' tl' th' : Int32, r.toInt + 1 = ((qs_S (fun j => ql_wt s.toInt v.toInt t.toInt (qr_R sl va fr tw si un j)) N : Nat) : Int) → qw_I lo0 hi0 tl0 th0 lo'.toInt hi'.toInt tl'.toInt th'.toInt v.toInt t.toInt →
      qw_L (qr_R sl va fr tw si un) s.toInt v.toInt t.toInt lo'.toInt hi'.toInt tl'.toInt th'.toInt N → post r (fe, ke, ho, ca, no, kp, pe, pf, pt, ro, fo, lo', hi', tl', th', sl, va, fr, tw, si, un)) :
    ∀ (n i : Nat) (x6 x7 lo hi tl th : Int32), x7.toInt = (i : Int) → i ≤ N → N < i + n → x6.toInt + 1 = ((qs_S (fun j => ql_wt s.toInt v.toInt t.toInt (qr_R sl va fr tw si un j)) i : Nat) : Int) →
      qw_I lo0 hi0 tl0 th0 lo.toInt hi.toInt tl.toInt th.toInt v.toInt t.toInt → qw_L (qr_R sl va fr tw si un) s.toInt v.toInt t.toInt lo.toInt hi.toInt tl.toInt th.toInt i → wX_look_14 post v t s n x6 x7 fe ke ho ca no kp pe pf pt ro fo lo hi tl th sl va fr tw si un := by
  intro n
  induction n with
  | zero => intro i x6 x7 lo hi tl th e1 e2 e3; omega
  | succ n ih =>
    intro i x6 x7 lo hi tl th e1 e2 e3 e4 e5 e6
    have hc : x7.toNatClampNeg = i := qa_cl e1
    unfold wX_look_14
    rw [hc]
    refine qa_le _ _ (fun a => ?_) (fun a => ?_)
    · have z : i = N := by omega
      subst z
      exact H x6 lo hi tl th e4 e5 e6
    · have hin : vp_in x7 96 := qa_in (by omega) (by omega)
      have hs : (x7 + 1).toInt = ((i + 1 : Nat) : Int) := by
        rw [qa_s (by omega)]
        omega
      refine ⟨hin, qa_eq _ _ (fun b => ⟨hin, ?_⟩) (fun b => nm_e ?_)⟩
      · have K : ∀ (x8 x6' lo' hi' tl' th' : Int32), (x8.toInt = 0 ∨ x8.toInt = 1) → (x8.toInt ≠ 0 ↔ (fr i).toInt ≤ v.toInt ∧ v.toInt < (tw i).toInt) → qw_I lo.toInt hi.toInt tl.toInt th.toInt lo'.toInt hi'.toInt tl'.toInt th'.toInt v.toInt t.toInt →
            (x8.toInt ≠ 0 → (si i).toInt ≤ t.toInt ∧ t.toInt < (un i).toInt → x6' = va i) → ((x8.toInt = 0 ∨ ¬ ((si i).toInt ≤ t.toInt ∧ t.toInt < (un i).toInt)) → x6' = x6) →
            ((si i).toInt ≤ t.toInt ∧ t.toInt < (un i).toInt → qw_E (fr i).toInt lo'.toInt hi'.toInt ∧ qw_E (tw i).toInt lo'.toInt hi'.toInt) →
            (x8.toInt ≠ 0 → qw_E (si i).toInt tl'.toInt th'.toInt ∧ qw_E (un i).toInt tl'.toInt th'.toInt) → wX_look_14 post v t s n x6' (x7 + 1) fe ke ho ca no kp pe pf pt ro fo lo' hi' tl' th' sl va fr tw si un := by
          intro x8 x6' lo' hi' tl' th' f0 f1 f2 f3 f4 f5 f6
          have w := f2
          obtain ⟨⟨w1, w2, w3, w4⟩, w5, w6, w7, w8⟩ := w
          have w' := e5
          obtain ⟨⟨u1, u2, u3, u4⟩, u5, u6, u7, u8⟩ := w'
          refine ih (i + 1) x6' (x7 + 1) lo' hi' tl' th' hs (by omega) (by omega) ?_ ⟨⟨by omega, by omega, by omega, by omega⟩, by omega, by omega, by omega, by omega⟩ (qw_Ls (qw_IN f2) e6 ?_ ?_)
          · by_cases m : ((fr i).toInt ≤ v.toInt ∧ v.toInt < (tw i).toInt) ∧ ((si i).toInt ≤ t.toInt ∧ t.toInt < (un i).toInt)
            · refine qw_v1 (n := N) (by omega) h1 ⟨b, m.1.1, m.1.2, m.2.1, m.2.2⟩ ?_ ?_
              · rw [f3 (f1.mpr m.1) m.2]
                rfl
              · rw [f3 (f1.mpr m.1) m.2]
                exact hv0 i (by omega)
            · refine qw_v0 (fun z => m ⟨⟨z.2.1, z.2.2.1⟩, z.2.2.2.1, z.2.2.2.2⟩) ?_
              rw [f4 ?_]
              · exact e4
              · by_cases y : x8.toInt = 0
                · exact Or.inl y
                · exact Or.inr (fun q => m ⟨f1.mp y, q⟩)
          · intro w a1 a2
            exact ql_ic (qw_r1 f5 w2 w3 a1 a2)
          · intro w a1 a2
            exact ql_ic (qw_r2 (fun q => f6 (f1.mpr q)) w6 w7 a1 a2)
        have u := e5
        obtain ⟨⟨u1, u2, u3, u4⟩, u5, u6, u7, u8⟩ := u
        refine qa_lt _ _ (fun c => ?_) (fun c => ⟨hin, qa_le _ _ (fun d => ?_) (fun d => ?_)⟩)
        · unfold wX_look_61
          exact qx_62 e1 (by omega) u6 u7 u2 u3 (fun x6' lo' hi' tl' th' g1 g2 g3 g4 g5 => K 0 x6' lo' hi' tl' th' (Or.inl qa_0) ⟨fun z => absurd qa_0 z, fun z => by omega⟩ g1 g2 g3 g4 g5)
        · unfold wX_look_61
          exact qx_62 e1 (by omega) u6 u7 u2 u3 (fun x6' lo' hi' tl' th' g1 g2 g3 g4 g5 => K 0 x6' lo' hi' tl' th' (Or.inl qa_0) ⟨fun z => absurd qa_0 z, fun z => by omega⟩ g1 g2 g3 g4 g5)
        · exact qx_62 e1 (by omega) u6 u7 u2 u3 (fun x6' lo' hi' tl' th' g1 g2 g3 g4 g5 => K 1 x6' lo' hi' tl' th' (Or.inr qa_1) ⟨fun _ => ⟨c, d⟩, fun _ => by decide⟩ g1 g2 g3 g4 g5)
      · refine ih (i + 1) x6 (x7 + 1) lo hi tl th hs (by omega) (by omega) (qw_v0 (fun z => b z.1) e4) e5 (qw_Ls qw_N0 e6 ?_ ?_)
        · intro w _ _
          rw [ql_i0 (fun z => b z.1), ql_i0 (fun z => b z.1)]
        · intro w _ _
          rw [ql_i0 (fun z => b z.1), ql_i0 (fun z => b z.1)]
end
end
section
section
variable {fe ke ho ca no kp pe pf pt ro fo lo hi tl th : Int32} {sl va fr tw si un : Nat → Int32} {g : ql_G}
/-- what a query asks of the component's state -/
def qx_Q (ke ho no ro : Int32) (sl va fr tw si un : Nat → Int32) (g : ql_G) : Prop :=
  (2 ≤ ke.toInt ∧ ke.toInt ≤ 6) ∧ (8 ≤ ho.toInt ∧ ho.toInt ≤ 32) ∧ (0 ≤ no.toInt ∧ no.toInt ≤ 32) ∧ (0 ≤ ro.toInt ∧ ro.toInt ≤ 96) ∧
  (∀ j, j < ro.toInt.toNat → 0 ≤ (va j).toInt) ∧ ql_Link ke.toInt ho.toInt no.toInt (qr_R sl va fr tw si un) ro.toInt.toNat g ∧
  (∀ k v t : Int, g 1 k v t = -1 ∨ (0 ≤ g 1 k v t ∧ g 1 k v t < ke.toInt))
theorem qa_slot {b k ke : Int32} (hb : b.toInt = 0 ∨ b.toInt = 1) (h1 : 0 ≤ k.toInt) (h2 : k.toInt ≤ 6) (h3 : 0 ≤ ke.toInt) (h4 : ke.toInt ≤ 6) : ((b * ke) + k).toInt = ql_sl ke.toInt b.toInt k.toInt := by
  unfold ql_sl
  rcases hb with h | h
  · have e : b = 0 := qa_toI (by rw [h, qa_0])
    subst e
    rw [if_pos qa_0, Int32.zero_mul, Int32.zero_add]
  · have e : b = 1 := qa_toI (by rw [h, qa_1])
    subst e
    rw [if_neg (by decide), Int32.one_mul, qa_add (by omega) (by omega)]
theorem qx_look (Q : qx_Q ke ho no ro sl va fr tw si un g) {post : Int32 → SX → Prop} {b k v t : Int32} (hb : b.toInt = 0 ∨ b.toInt = 1) (hk0 : 0 ≤ k.toInt) (hk : k.toInt < ke.toInt)
    (w : qw_W ho.toInt no.toInt lo.toInt hi.toInt tl.toInt th.toInt v.toInt t.toInt)
    (H : ∀ r lo' hi' tl' th' : Int32, r.toInt = g b.toInt k.toInt v.toInt t.toInt → qw_W ho.toInt no.toInt lo'.toInt hi'.toInt tl'.toInt th'.toInt v.toInt t.toInt → qw_N lo.toInt hi.toInt tl.toInt th.toInt lo'.toInt hi'.toInt tl'.toInt th'.toInt →
      qw_C (fun v t => g b.toInt k.toInt v t) lo'.toInt hi'.toInt tl'.toInt th'.toInt v.toInt t.toInt → post r (fe, ke, ho, ca, no, kp, pe, pf, pt, ro, fo, lo', hi', tl', th', sl, va, fr, tw, si, un)) : wpX_look post (fe, ke, ho, ca, no, kp, pe, pf, pt, ro, fo, lo, hi, tl, th, sl, va, fr, tw, si, un) b k v t := by
  obtain ⟨⟨q1, q2⟩, ⟨q3, q4⟩, ⟨q5, q6⟩, ⟨q7, q8⟩, q9, q10, q11⟩ := Q
  have w0 := w
  obtain ⟨⟨w1, w2, w3, w4⟩, w5, w6, w7, w8⟩ := w0
  have es : ((b * ke) + k).toInt = ql_sl ke.toInt b.toInt k.toInt := qa_slot hb hk0 (by omega) (by omega) (by omega)
  have l := q10 b.toInt k.toInt v.toInt t.toInt hb hk0 hk (by omega) (by omega) (by omega) (by omega)
  unfold wpX_look wpX_slotOf
  refine ⟨97, ?_⟩
  refine qx_l14 (N := ro.toInt.toNat) (lo0 := lo.toInt) (hi0 := hi.toInt) (tl0 := tl.toInt) (th0 := th.toInt) (by omega) (by omega) q9 (by rw [es]; exact l.1) ?_ 97 0 (-1) 0 lo hi tl th qa_0 (by omega) (by omega) (by rw [qa_m1]; rfl) ⟨⟨by omega, by omega, by omega, by omega⟩, by omega, by omega, by omega, by omega⟩ (fun j hj => absurd hj (Nat.not_lt_zero _))
  intro r lo' hi' tl' th' e1 e2 e3
  rw [es] at e1 e3
  have w' := e2
  obtain ⟨⟨u1, u2, u3, u4⟩, u5, u6, u7, u8⟩ := w'
  have W' : qw_W ho.toInt no.toInt lo'.toInt hi'.toInt tl'.toInt th'.toInt v.toInt t.toInt := ⟨⟨by omega, by omega, by omega, by omega⟩, by omega, by omega, by omega, by omega⟩
  exact H r lo' hi' tl' th' (by rw [l.2] at e1; omega) W' (qw_IN e2) (qw_LC q10 hb hk0 hk W' e3)
def ql_join (g : ql_G) (k v t : Int) : Int := if g 1 k v t = -1 then -1 else g 0 (g 1 k v t) v t
def ql_orph (g : ql_G) (k v t : Int) : Int := if g 1 k v t = -1 then -1 else if g 0 (g 1 k v t) v t = -1 then g 1 k v t else -1
def ql_cnt (ke : Nat) (g : ql_G) (k v t : Int) : Int := if g 0 k v t = -1 then -1 else ((qs_S (fun c => if g 1 (c : Int) v t = k then 1 else 0) ke : Nat) : Int)
theorem ql_row0 {ke : Nat} {k v t : Int} : ql_row ke g 0 k v t = g 0 k v t := by
  unfold ql_row
  rw [if_pos rfl]
theorem ql_row1 {ke : Nat} {k v t : Int} : ql_row ke g 1 k v t = g 1 k v t := by
  unfold ql_row
  rw [if_neg (by decide), if_pos rfl]
theorem ql_row2 {ke : Nat} {k v t : Int} : ql_row ke g 2 k v t = ql_join g k v t := by
  unfold ql_row ql_join
  rw [if_neg (by decide), if_neg (by decide), if_neg (by decide), if_pos rfl]
theorem ql_row3 {ke : Nat} {k v t : Int} : ql_row ke g 3 k v t = ql_cnt ke g k v t := by
  unfold ql_row ql_cnt
  rw [if_neg (by decide), if_neg (by decide), if_pos rfl]
theorem ql_row4 {ke : Nat} {k v t : Int} : ql_row ke g 4 k v t = ql_orph g k v t := by
  unfold ql_row ql_orph
  rw [if_neg (by decide), if_neg (by decide), if_neg (by decide), if_neg (c := (4 : Int) = 2) (by decide)]
theorem qc_join1 {k lo hi tl th v t : Int} (c : qw_C (fun v t => g 1 k v t) lo hi tl th v t) (h : g 1 k v t = -1) : qw_C (fun v t => ql_join g k v t) lo hi tl th v t := by
  constructor
  · intro w a b
    have e : g 1 k w t = g 1 k v t := c.1 w a b
    show ql_join g k w t = ql_join g k v t
    unfold ql_join
    rw [e, if_pos h, if_pos h]
  · intro w a b
    have e : g 1 k v w = g 1 k v t := c.2 w a b
    show ql_join g k v w = ql_join g k v t
    unfold ql_join
    rw [e, if_pos h, if_pos h]
theorem qc_join2 {k lo hi tl th v t p : Int} (c : qw_C (fun v t => g 1 k v t) lo hi tl th v t) (hp : p = g 1 k v t) (h : ¬ g 1 k v t = -1) (d : qw_C (fun v t => g 0 p v t) lo hi tl th v t) : qw_C (fun v t => ql_join g k v t) lo hi tl th v t := by
  subst hp
  constructor
  · intro w a b
    have e : g 1 k w t = g 1 k v t := c.1 w a b
    show ql_join g k w t = ql_join g k v t
    unfold ql_join
    rw [e, if_neg h, if_neg h]
    exact d.1 w a b
  · intro w a b
    have e : g 1 k v w = g 1 k v t := c.2 w a b
    show ql_join g k v w = ql_join g k v t
    unfold ql_join
    rw [e, if_neg h, if_neg h]
    exact d.2 w a b
theorem qc_orph1 {k lo hi tl th v t : Int} (c : qw_C (fun v t => g 1 k v t) lo hi tl th v t) (h : g 1 k v t = -1) : qw_C (fun v t => ql_orph g k v t) lo hi tl th v t := by
  constructor
  · intro w a b
    have e : g 1 k w t = g 1 k v t := c.1 w a b
    show ql_orph g k w t = ql_orph g k v t
    unfold ql_orph
    rw [e, if_pos h, if_pos h]
  · intro w a b
    have e : g 1 k v w = g 1 k v t := c.2 w a b
    show ql_orph g k v w = ql_orph g k v t
    unfold ql_orph
    rw [e, if_pos h, if_pos h]
theorem qc_orph2 {k lo hi tl th v t p : Int} (c : qw_C (fun v t => g 1 k v t) lo hi tl th v t) (hp : p = g 1 k v t) (h : ¬ g 1 k v t = -1) (d : qw_C (fun v t => g 0 p v t) lo hi tl th v t) : qw_C (fun v t => ql_orph g k v t) lo hi tl th v t := by
  subst hp
  constructor
  · intro w a b
    have e : g 1 k w t = g 1 k v t := c.1 w a b
    have e2 : g 0 (g 1 k v t) w t = g 0 (g 1 k v t) v t := d.1 w a b
    show ql_orph g k w t = ql_orph g k v t
    unfold ql_orph
    rw [e, if_neg h, if_neg h, e2]
  · intro w a b
    have e : g 1 k v w = g 1 k v t := c.2 w a b
    have e2 : g 0 (g 1 k v t) v w = g 0 (g 1 k v t) v t := d.2 w a b
    show ql_orph g k v w = ql_orph g k v t
    unfold ql_orph
    rw [e, if_neg h, if_neg h, e2]
theorem qc_cnt {ke : Nat} {k lo hi tl th v t : Int} (c : qw_C (fun v t => g 0 k v t) lo hi tl th v t) (d : g 0 k v t = -1 ∨ ∀ c : Nat, c < ke → qw_C (fun v t => g 1 (c : Int) v t) lo hi tl th v t) : qw_C (fun v t => ql_cnt ke g k v t) lo hi tl th v t := by
  constructor
  · intro w a b
    have e : g 0 k w t = g 0 k v t := c.1 w a b
    show ql_cnt ke g k w t = ql_cnt ke g k v t
    unfold ql_cnt
    rw [e]
    rcases d with h | h
    · rw [if_pos h, if_pos h]
    · rw [qs_congr (h := fun c => if g 1 (c : Int) w t = k then 1 else 0) (h' := fun c => if g 1 (c : Int) v t = k then 1 else 0) (fun j hj => by
        have e2 : g 1 (j : Int) w t = g 1 (j : Int) v t := (h j hj).1 w a b
        (try dsimp only)
        rw [e2])]
  · intro w a b
    have e : g 0 k v w = g 0 k v t := c.2 w a b
    show ql_cnt ke g k v w = ql_cnt ke g k v t
    unfold ql_cnt
    rw [e]
    rcases d with h | h
    · rw [if_pos h, if_pos h]
    · rw [qs_congr (h := fun c => if g 1 (c : Int) v w = k then 1 else 0) (h' := fun c => if g 1 (c : Int) v t = k then 1 else 0) (fun j hj => by
        have e2 : g 1 (j : Int) v w = g 1 (j : Int) v t := (h j hj).2 w a b
        (try dsimp only)
        rw [e2])]
theorem qx_join (Q : qx_Q ke ho no ro sl va fr tw si un g) {post : Int32 → SX → Prop} {k v t : Int32} (hk0 : 0 ≤ k.toInt) (hk : k.toInt < ke.toInt)
    (w : qw_W ho.toInt no.toInt lo.toInt hi.toInt tl.toInt th.toInt v.toInt t.toInt)
    (H : ∀ r lo' hi' tl' th' : Int32, r.toInt = ql_join g k.toInt v.toInt t.toInt → qw_W ho.toInt no.toInt lo'.toInt hi'.toInt tl'.toInt th'.toInt v.toInt t.toInt →
      qw_C (fun v t => ql_join g k.toInt v t) lo'.toInt hi'.toInt tl'.toInt th'.toInt v.toInt t.toInt → post r (fe, ke, ho, ca, no, kp, pe, pf, pt, ro, fo, lo', hi', tl', th', sl, va, fr, tw, si, un)) : wpX_lookJoin post (fe, ke, ho, ca, no, kp, pe, pf, pt, ro, fo, lo, hi, tl, th, sl, va, fr, tw, si, un) k v t := by
  unfold wpX_lookJoin
  refine qx_look Q (Or.inr qa_1) hk0 hk w (fun r lo1 hi1 tl1 th1 e1 e2 e3 e4 => ?_)
  rw [qa_1] at e1 e4
  refine qa_eq _ (-1) (fun a => ?_) (fun a => ?_) rfl qa_m1
  · refine H (-1) lo1 hi1 tl1 th1 ?_ e2 (qc_join1 e4 (by rw [← e1, a]))
    unfold ql_join
    rw [if_pos (by rw [← e1, a]), qa_m1]
  · have hr := Q.2.2.2.2.2.2 k.toInt v.toInt t.toInt
    rw [← e1] at hr
    refine qx_look Q (Or.inl qa_0) (by omega) (by omega) e2 (fun r2 lo2 hi2 tl2 th2 f1 f2 f3 f4 => ?_)
    rw [qa_0] at f1 f4
    refine H r2 lo2 hi2 tl2 th2 ?_ f2 (qc_join2 (qw_NC f3 e4) e1 (by rw [← e1]; exact a) f4)
    unfold ql_join
    rw [if_neg (by rw [← e1]; exact a), ← e1]
    exact f1
theorem qx_orph (Q : qx_Q ke ho no ro sl va fr tw si un g) {post : Int32 → SX → Prop} {k v t : Int32} (hk0 : 0 ≤ k.toInt) (hk : k.toInt < ke.toInt)
    (w : qw_W ho.toInt no.toInt lo.toInt hi.toInt tl.toInt th.toInt v.toInt t.toInt)
    (H : ∀ r lo' hi' tl' th' : Int32, r.toInt = ql_orph g k.toInt v.toInt t.toInt → qw_W ho.toInt no.toInt lo'.toInt hi'.toInt tl'.toInt th'.toInt v.toInt t.toInt →
      qw_C (fun v t => ql_orph g k.toInt v t) lo'.toInt hi'.toInt tl'.toInt th'.toInt v.toInt t.toInt → post r (fe, ke, ho, ca, no, kp, pe, pf, pt, ro, fo, lo', hi', tl', th', sl, va, fr, tw, si, un)) : wpX_lookOrphan post (fe, ke, ho, ca, no, kp, pe, pf, pt, ro, fo, lo, hi, tl, th, sl, va, fr, tw, si, un) k v t := by
  unfold wpX_lookOrphan
  refine qx_look Q (Or.inr qa_1) hk0 hk w (fun r lo1 hi1 tl1 th1 e1 e2 e3 e4 => ?_)
  rw [qa_1] at e1 e4
  refine qa_eq _ (-1) (fun a => ?_) (fun a => ?_) rfl qa_m1
  · refine H (-1) lo1 hi1 tl1 th1 ?_ e2 (qc_orph1 e4 (by rw [← e1, a]))
    unfold ql_orph
    rw [if_pos (by rw [← e1, a]), qa_m1]
  · have hr := Q.2.2.2.2.2.2 k.toInt v.toInt t.toInt
    rw [← e1] at hr
    refine qx_look Q (Or.inl qa_0) (by omega) (by omega) e2 (fun r2 lo2 hi2 tl2 th2 f1 f2 f3 f4 => ?_)
    rw [qa_0] at f1 f4
    have C := qc_orph2 (qw_NC f3 e4) e1 (by rw [← e1]; exact a) f4
    refine qa_eq _ (-1) (fun b => ?_) (fun b => ?_) rfl qa_m1
    · refine H r lo2 hi2 tl2 th2 ?_ f2 C
      unfold ql_orph
      rw [if_neg (by rw [← e1]; exact a), ← e1, if_pos (by rw [← f1, b])]
    · refine H (-1) lo2 hi2 tl2 th2 ?_ f2 C
      unfold ql_orph
      rw [if_neg (by rw [← e1]; exact a), ← e1, if_neg (by rw [← f1]; exact b), qa_m1]
theorem qs_b {h : Nat → Nat} {n : Nat} (e : ∀ j, j < n → h j ≤ 1) : qs_S h n ≤ n := by
  have a := qs_le (h := h) (h' := fun _ => 1) (n := n) e
  rw [qs_one] at a
  exact a
theorem qx_cl (Q : qx_Q ke ho no ro sl va fr tw si un g) {post : Int32 → SX → Prop} {k v t : Int32} {kN : Nat} (hkN : ke.toInt = (kN : Int)) {lo0 hi0 tl0 th0 : Int}
    (H : ∀ r lo' hi' tl' th' : Int32, r.toInt = ((qs_S (fun c => if g 1 (c : Int) v.toInt t.toInt = k.toInt then 1 else 0) kN : Nat) : Int) → qw_W ho.toInt no.toInt lo'.toInt hi'.toInt tl'.toInt th'.toInt v.toInt t.toInt → qw_N lo0 hi0 tl0 th0 lo'.toInt hi'.toInt tl'.toInt th'.toInt →
      (∀ c : Nat, c < kN → qw_C (fun v t => g 1 (c : Int) v t) lo'.toInt hi'.toInt tl'.toInt th'.toInt v.toInt t.toInt) → post r (fe, ke, ho, ca, no, kp, pe, pf, pt, ro, fo, lo', hi', tl', th', sl, va, fr, tw, si, un)) :
    ∀ (n c : Nat) (x4 x5 lo hi tl th : Int32), x5.toInt = (c : Int) → c ≤ kN → kN < c + n → x4.toInt = ((qs_S (fun c => if g 1 (c : Int) v.toInt t.toInt = k.toInt then 1 else 0) c : Nat) : Int) →
      qw_W ho.toInt no.toInt lo.toInt hi.toInt tl.toInt th.toInt v.toInt t.toInt → qw_N lo0 hi0 tl0 th0 lo.toInt hi.toInt tl.toInt th.toInt →
      (∀ d : Nat, d < c → qw_C (fun v t => g 1 (d : Int) v t) lo.toInt hi.toInt tl.toInt th.toInt v.toInt t.toInt) → wX_lookCount_20 post k v t n x4 x5 fe ke ho ca no kp pe pf pt ro fo lo hi tl th sl va fr tw si un := by
  intro n
  induction n with
  | zero => intro c x4 x5 lo hi tl th e1 e2 e3; omega
  | succ n ih =>
    intro c x4 x5 lo hi tl th e1 e2 e3 e4 e5 e6 e7
    have q := Q.1
    have hb : qs_S (fun c => if g 1 (c : Int) v.toInt t.toInt = k.toInt then 1 else 0) c ≤ c := qs_b (fun j _ => by (try dsimp only); split <;> omega)
    unfold wX_lookCount_20
    refine qa_le _ _ (fun a => ?_) (fun a => ?_)
    · have z : c = kN := by omega
      subst z
      exact H x4 lo hi tl th e4 e5 e6 e7
    · refine qx_look Q (Or.inr qa_1) (by omega) (by omega) e5 (fun r lo1 hi1 tl1 th1 f1 f2 f3 f4 => ?_)
      rw [qa_1, e1] at f1 f4
      have h5 : (x5 + 1).toInt = ((c + 1 : Nat) : Int) := by
        rw [qa_s (by omega)]
        omega
      have h7 : ∀ d : Nat, d < c + 1 → qw_C (fun v t => g 1 (d : Int) v t) lo1.toInt hi1.toInt tl1.toInt th1.toInt v.toInt t.toInt := by
        intro d hd
        by_cases z : d = c
        · subst z
          exact f4
        · exact qw_NC f3 (e7 d (by omega))
      refine qa_eq _ _ (fun b => nm_e (nm_e ?_)) (fun b => nm_e ?_)
      · refine ih (c + 1) (x4 + 1) (x5 + 1) lo1 hi1 tl1 th1 h5 (by omega) (by omega) ?_ f2 (qw_NN e6 f3) h7
        rw [qs_s, qa_s (by omega), if_pos (by rw [← f1, b])]
        omega
      · refine ih (c + 1) x4 (x5 + 1) lo1 hi1 tl1 th1 h5 (by omega) (by omega) ?_ f2 (qw_NN e6 f3) h7
        rw [qs_s, if_neg (by rw [← f1]; exact b)]
        omega
theorem qx_cnt (Q : qx_Q ke ho no ro sl va fr tw si un g) {post : Int32 → SX → Prop} {k v t : Int32} (hk0 : 0 ≤ k.toInt) (hk : k.toInt < ke.toInt)
    (w : qw_W ho.toInt no.toInt lo.toInt hi.toInt tl.toInt th.toInt v.toInt t.toInt)
    (H : ∀ r lo' hi' tl' th' : Int32, r.toInt = ql_cnt ke.toInt.toNat g k.toInt v.toInt t.toInt → qw_W ho.toInt no.toInt lo'.toInt hi'.toInt tl'.toInt th'.toInt v.toInt t.toInt →
      qw_C (fun v t => ql_cnt ke.toInt.toNat g k.toInt v t) lo'.toInt hi'.toInt tl'.toInt th'.toInt v.toInt t.toInt → post r (fe, ke, ho, ca, no, kp, pe, pf, pt, ro, fo, lo', hi', tl', th', sl, va, fr, tw, si, un)) : wpX_lookCount post (fe, ke, ho, ca, no, kp, pe, pf, pt, ro, fo, lo, hi, tl, th, sl, va, fr, tw, si, un) k v t := by
  have q := Q.1
  unfold wpX_lookCount
  refine qx_look Q (Or.inl qa_0) hk0 hk w (fun r lo1 hi1 tl1 th1 e1 e2 e3 e4 => ?_)
  rw [qa_0] at e1 e4
  refine qa_eq _ (-1) (fun a => ?_) (fun a => ⟨8, ?_⟩) rfl qa_m1
  · refine H (-1) lo1 hi1 tl1 th1 ?_ e2 (qc_cnt e4 (Or.inl (by rw [← e1, a])))
    unfold ql_cnt
    rw [if_pos (by rw [← e1, a]), qa_m1]
  · refine qx_cl Q (kN := ke.toInt.toNat) (by omega) (lo0 := lo1.toInt) (hi0 := hi1.toInt) (tl0 := tl1.toInt) (th0 := th1.toInt) (fun r2 lo2 hi2 tl2 th2 f1 f2 f3 f4 => ?_) 8 0 0 0 lo1 hi1 tl1 th1 qa_0 (by omega) (by omega) qa_0 e2 qw_N0 (fun d hd => absurd hd (Nat.not_lt_zero _))
    refine H r2 lo2 hi2 tl2 th2 ?_ f2 (qc_cnt (qw_NC f3 e4) (Or.inr f4))
    unfold ql_cnt
    rw [if_neg (by rw [← e1]; exact a)]
    exact f1
theorem qx_probe (Q : qx_Q ke ho no ro sl va fr tw si un g) {post : SX → Prop} {rel k v t : Int32} (hr0 : 0 ≤ rel.toInt) (hr : rel.toInt ≤ 4) (hk0 : 0 ≤ k.toInt) (hk : k.toInt < ke.toInt) (hv0 : 0 ≤ v.toInt) (hv : v.toInt < ho.toInt) (ht0 : 0 ≤ t.toInt) (ht : t.toInt ≤ no.toInt)
    (H : ∀ fo' lo' hi' tl' th' : Int32, fo'.toInt = ql_row ke.toInt.toNat g rel.toInt k.toInt v.toInt t.toInt → qw_W ho.toInt no.toInt lo'.toInt hi'.toInt tl'.toInt th'.toInt v.toInt t.toInt →
      qw_C (fun v t => ql_row ke.toInt.toNat g rel.toInt k.toInt v t) lo'.toInt hi'.toInt tl'.toInt th'.toInt v.toInt t.toInt → post (fe, ke, ho, ca, no, kp, pe, pf, pt, ro, fo', lo', hi', tl', th', sl, va, fr, tw, si, un)) : wpX_probe post (fe, ke, ho, ca, no, kp, pe, pf, pt, ro, fo, lo, hi, tl, th, sl, va, fr, tw, si, un) rel k v t := by
  have q := Q.2.2.1
  have hth : (no + 1).toInt = no.toInt + 1 := qa_s (by omega)
  have w : qw_W ho.toInt no.toInt (0 : Int32).toInt ho.toInt (0 : Int32).toInt (no + 1).toInt v.toInt t.toInt := by
    rw [hth, qa_0]
    exact ⟨⟨by omega, by omega, by omega, by omega⟩, by omega, by omega, by omega, by omega⟩
  unfold wpX_probe
  refine nm_e ?_
  refine qa_eq _ 2 (fun a => ?_) (fun a => ?_)
  · rw [a] at H
    refine qx_join Q hk0 hk w (fun r lo' hi' tl' th' e1 e2 e3 => H r lo' hi' tl' th' (by rw [ql_row2]; exact e1) e2 ?_)
    rw [show (fun v t => ql_row ke.toInt.toNat g 2 k.toInt v t) = (fun v t => ql_join g k.toInt v t) from funext fun v => funext fun t => ql_row2]
    exact e3
  refine qa_eq _ 3 (fun b => ?_) (fun b => ?_)
  · rw [b] at H
    refine qx_cnt Q hk0 hk w (fun r lo' hi' tl' th' e1 e2 e3 => H r lo' hi' tl' th' (by rw [ql_row3]; exact e1) e2 ?_)
    rw [show (fun v t => ql_row ke.toInt.toNat g 3 k.toInt v t) = (fun v t => ql_cnt ke.toInt.toNat g k.toInt v t) from funext fun v => funext fun t => ql_row3]
    exact e3
  refine qa_eq _ 4 (fun c => ?_) (fun c => ?_)
  · rw [c] at H
    refine qx_orph Q hk0 hk w (fun r lo' hi' tl' th' e1 e2 e3 => H r lo' hi' tl' th' (by rw [ql_row4]; exact e1) e2 ?_)
    rw [show (fun v t => ql_row ke.toInt.toNat g 4 k.toInt v t) = (fun v t => ql_orph g k.toInt v t) from funext fun v => funext fun t => ql_row4]
    exact e3
  have hb : rel.toInt = 0 ∨ rel.toInt = 1 := by omega
  refine qx_look Q hb hk0 hk w (fun r lo' hi' tl' th' e1 e2 _ e3 => ?_)
  rcases hb with z | z
  · rw [z] at H e1 e3
    refine H r lo' hi' tl' th' (by rw [ql_row0]; exact e1) e2 ?_
    rw [show (fun v t => ql_row ke.toInt.toNat g 0 k.toInt v t) = (fun v t => g 0 k.toInt v t) from funext fun v => funext fun t => ql_row0]
    exact e3
  · rw [z] at H e1 e3
    refine H r lo' hi' tl' th' (by rw [ql_row1]; exact e1) e2 ?_
    rw [show (fun v t => ql_row ke.toInt.toNat g 1 k.toInt v t) = (fun v t => g 1 k.toInt v t) from funext fun v => funext fun t => ql_row1]
    exact e3
end
end
section
/-! pure specs of the queries -/
def qz_St (f : Int → Int) (v s : Int) : Prop := 0 ≤ s ∧ s ≤ v ∧ (∀ w, s ≤ w → w ≤ v → f w = f v) ∧ (s = 0 ∨ f (s - 1) ≠ f v)
def qz_En (f : Int → Int) (v m e : Int) : Prop := v < e ∧ e ≤ m ∧ (∀ w, v ≤ w → w < e → f w = f v) ∧ (e = m ∨ f e ≠ f v)
def qz_Nx (f : Int → Int) (v m r : Int) : Prop := (r = -1 ∧ ∀ w, v ≤ w → w < m → f w = -1) ∨ (v ≤ r ∧ r < m ∧ f r ≠ -1 ∧ ∀ w, v ≤ w → w < r → f w = -1)
theorem qz_StU {f : Int → Int} {v s r : Int} (a : qz_St f v s) (b : qz_St f v r) : s = r := by
  obtain ⟨a1, a2, a3, a4⟩ := a
  obtain ⟨b1, b2, b3, b4⟩ := b
  rcases Int.lt_trichotomy s r with h | h | h
  · rcases b4 with z | z
    · omega
    · exact absurd (a3 (r - 1) (by omega) (by omega)) z
  · exact h
  · rcases a4 with z | z
    · omega
    · exact absurd (b3 (s - 1) (by omega) (by omega)) z
theorem qz_EnU {f : Int → Int} {v m s r : Int} (a : qz_En f v m s) (b : qz_En f v m r) : s = r := by
  obtain ⟨a1, a2, a3, a4⟩ := a
  obtain ⟨b1, b2, b3, b4⟩ := b
  rcases Int.lt_trichotomy s r with h | h | h
  · rcases a4 with z | z
    · omega
    · exact absurd (b3 s (by omega) (by omega)) z
  · exact h
  · rcases b4 with z | z
    · omega
    · exact absurd (a3 r (by omega) (by omega)) z
theorem qz_NxU {f : Int → Int} {v m s r : Int} (a : qz_Nx f v m s) (b : qz_Nx f v m r) : s = r := by
  rcases a with ⟨a1, a2⟩ | ⟨a1, a2, a3, a4⟩
  · rcases b with ⟨b1, b2⟩ | ⟨b1, b2, b3, b4⟩
    · omega
    · exact absurd (a2 r b1 b2) b3
  · rcases b with ⟨b1, b2⟩ | ⟨b1, b2, b3, b4⟩
    · exact absurd (b2 s a1 a2) a3
    · rcases Int.lt_trichotomy s r with h | h | h
      · exact absurd (b4 s a1 h) a3
      · exact h
      · exact absurd (a4 r b1 h) b3
/-- does a period begin at j -/
def qz_h (f : Int → Int) (j : Nat) : Nat := if f (j : Int) = -1 then 0 else if j = 0 then 1 else if f ((j : Int) - 1) = f (j : Int) then 0 else 1
theorem qz_hb (f : Int → Int) (j : Nat) : qz_h f j ≤ 1 := by
  unfold qz_h
  split
  · omega
  · split
    · omega
    · split <;> omega
theorem qz_chunk {f : Int → Int} {a : Nat} : ∀ {m : Nat}, (∀ w : Int, (a : Int) ≤ w → w < (a : Int) + (m : Int) + 1 → f w = f (a : Int)) → qs_S (qz_h f) (a + m + 1) = qs_S (qz_h f) a + qz_h f a
  | 0, _ => rfl
  | m + 1, h => by
    have e := qz_chunk (f := f) (a := a) (m := m) (fun w p q => h w p (by omega))
    show qs_S (qz_h f) (a + m + 1) + qz_h f (a + m + 1) = _
    have z : qz_h f (a + m + 1) = 0 := by
      have e1 := h ((a + m + 1 : Nat) : Int) (by omega) (by omega)
      have e2 := h (((a + m + 1 : Nat) : Int) - 1) (by omega) (by omega)
      unfold qz_h
      split
      · rfl
      · rw [if_neg (by omega), if_pos (by rw [e1, e2])]
    rw [z, e, Nat.add_zero]
/-- is there a row at a + j -/
def qz_c (f : Int → Int) (a : Int) (j : Nat) : Nat := if f (a + (j : Int)) = -1 then 0 else 1
theorem qz_cb (f : Int → Int) (a : Int) (j : Nat) : qz_c f a j ≤ 1 := by
  unfold qz_c
  split <;> omega
theorem qz_cc {f : Int → Int} {p : Int} {a : Nat} {x : Nat} : ∀ {m : Nat}, (∀ j : Nat, a ≤ j → j < a + m → qz_c f p j = x) → qs_S (qz_c f p) (a + m) = qs_S (qz_c f p) a + m * x
  | 0, _ => by
    rw [Nat.zero_mul]
    rfl
  | m + 1, h => by
    have e := qz_cc (f := f) (p := p) (a := a) (m := m) (x := x) (fun j u v => h j u (by omega))
    show qs_S (qz_c f p) (a + m) + qz_c f p (a + m) = _
    rw [h (a + m) (by omega) (by omega), e, Nat.succ_mul]
    omega
end
section
section
variable {fe ke ho ca no kp pe pf pt ro fo lo hi tl th : Int32} {sl va fr tw si un : Nat → Int32} {g : ql_G}
def qz_f (ke : Int32) (g : ql_G) (rel k t : Int32) : Int → Int := fun w => ql_row ke.toInt.toNat g rel.toInt k.toInt w t.toInt
def qz_t (ke : Int32) (g : ql_G) (rel k v : Int32) : Int → Int := fun s => ql_row ke.toInt.toNat g rel.toInt k.toInt v.toInt s
def qx_G (ke no rel k t : Int32) : Prop := (0 ≤ rel.toInt ∧ rel.toInt ≤ 4) ∧ (0 ≤ k.toInt ∧ k.toInt < ke.toInt) ∧ (0 ≤ t.toInt ∧ t.toInt ≤ no.toInt)
theorem qx_pv (Q : qx_Q ke ho no ro sl va fr tw si un g) {post : SX → Prop} {rel k v t : Int32} (hg : qx_G ke no rel k t) (hv0 : 0 ≤ v.toInt) (hv : v.toInt < ho.toInt)
    (H : ∀ fo' lo' hi' tl' th' : Int32, fo'.toInt = qz_f ke g rel k t v.toInt → (0 ≤ lo'.toInt ∧ lo'.toInt ≤ v.toInt) → (v.toInt < hi'.toInt ∧ hi'.toInt ≤ ho.toInt) →
      (∀ w, lo'.toInt ≤ w → w < hi'.toInt → qz_f ke g rel k t w = qz_f ke g rel k t v.toInt) → post (fe, ke, ho, ca, no, kp, pe, pf, pt, ro, fo', lo', hi', tl', th', sl, va, fr, tw, si, un)) : wpX_probe post (fe, ke, ho, ca, no, kp, pe, pf, pt, ro, fo, lo, hi, tl, th, sl, va, fr, tw, si, un) rel k v t := by
  obtain ⟨⟨a, b⟩, ⟨c, d⟩, e, f⟩ := hg
  refine qx_probe Q a b c d hv0 hv e f (fun fo' lo' hi' tl' th' e1 e2 e3 => ?_)
  obtain ⟨⟨w1, w2, w3, w4⟩, w5, w6, w7, w8⟩ := e2
  exact H fo' lo' hi' tl' th' e1 ⟨w1, w2⟩ ⟨w3, w4⟩ e3.1
theorem qx_pt (Q : qx_Q ke ho no ro sl va fr tw si un g) {post : SX → Prop} {rel k v t : Int32} (hg : qx_G ke no rel k t) (hv0 : 0 ≤ v.toInt) (hv : v.toInt < ho.toInt)
    (H : ∀ fo' lo' hi' tl' th' : Int32, fo'.toInt = qz_t ke g rel k v t.toInt → (0 ≤ tl'.toInt ∧ tl'.toInt ≤ t.toInt) → (t.toInt < th'.toInt ∧ th'.toInt ≤ no.toInt + 1) →
      (∀ w, tl'.toInt ≤ w → w < th'.toInt → qz_t ke g rel k v w = qz_t ke g rel k v t.toInt) → post (fe, ke, ho, ca, no, kp, pe, pf, pt, ro, fo', lo', hi', tl', th', sl, va, fr, tw, si, un)) : wpX_probe post (fe, ke, ho, ca, no, kp, pe, pf, pt, ro, fo, lo, hi, tl, th, sl, va, fr, tw, si, un) rel k v t := by
  obtain ⟨⟨a, b⟩, ⟨c, d⟩, e, f⟩ := hg
  refine qx_probe Q a b c d hv0 hv e f (fun fo' lo' hi' tl' th' e1 e2 e3 => ?_)
  obtain ⟨⟨w1, w2, w3, w4⟩, w5, w6, w7, w8⟩ := e2
  exact H fo' lo' hi' tl' th' e1 ⟨w5, w6⟩ ⟨w7, w8⟩ e3.2
theorem qx_start (Q : qx_Q ke ho no ro sl va fr tw si un g) {post : Int32 → SX → Prop} {rel k v t x : Int32} (hg : qx_G ke no rel k t) (hv0 : 0 ≤ v.toInt) (hv : v.toInt < ho.toInt) (hx : x.toInt = qz_f ke g rel k t v.toInt)
    (H : ∀ r fo' lo' hi' tl' th' : Int32, qz_St (qz_f ke g rel k t) v.toInt r.toInt → post r (fe, ke, ho, ca, no, kp, pe, pf, pt, ro, fo', lo', hi', tl', th', sl, va, fr, tw, si, un)) :
    ∀ (n : Nat) (s z fo lo hi tl th : Int32), 0 ≤ s.toInt → s.toInt ≤ v.toInt → (∀ w, s.toInt ≤ w → w ≤ v.toInt → qz_f ke g rel k t w = qz_f ke g rel k t v.toInt) → 0 ≤ z.toInt → z.toInt + s.toInt < ho.toInt → s.toInt < (n : Int) → wX_start_54 post rel k t x n s z fe ke ho ca no kp pe pf pt ro fo lo hi tl th sl va fr tw si un := by
  intro n
  induction n with
  | zero => intro s z fo lo hi tl th e1 e2 e3 e4 e5 e6; omega
  | succ n ih =>
    intro s z fo lo hi tl th e1 e2 e3 e4 e5 e6
    have q := Q.2.1
    unfold wX_start_54
    refine qa_le ho.toInt z.toInt (fun a => by omega) (fun a => ?_)
    refine qa_le _ 0 (fun b => ?_) (fun b => ?_)
    · exact H s fo lo hi tl th ⟨e1, e2, e3, Or.inl (by omega)⟩
    · have hs : (s - 1).toInt = s.toInt - 1 := qa_m (by omega)
      refine qx_pv Q hg (by omega) (by omega) (fun fo' lo' hi' tl' th' f1 f2 f3 f4 => ?_)
      rw [hs] at f1 f2 f3 f4
      refine qa_eq _ _ (fun c => nm_e ?_) (fun c => ?_)
      · refine ih lo' (z + 1) fo' lo' hi' tl' th' (by omega) (by omega) (fun w p r => ?_) (by rw [qa_s (by omega)]; omega) (by rw [qa_s (by omega)]; omega) (by omega)
        by_cases y : s.toInt ≤ w
        · exact e3 w y r
        · rw [f4 w p (by omega), ← f1, c, hx]
      · exact H s fo' lo' hi' tl' th' ⟨e1, e2, e3, Or.inr (by rw [← f1, ← hx]; exact c)⟩
theorem qx_end (Q : qx_Q ke ho no ro sl va fr tw si un g) {post : Int32 → SX → Prop} {rel k v t x : Int32} (hg : qx_G ke no rel k t) (hv0 : 0 ≤ v.toInt) (hv : v.toInt < ho.toInt) (hx : x.toInt = qz_f ke g rel k t v.toInt)
    (H : ∀ r fo' lo' hi' tl' th' : Int32, qz_En (qz_f ke g rel k t) v.toInt ho.toInt r.toInt → post r (fe, ke, ho, ca, no, kp, pe, pf, pt, ro, fo', lo', hi', tl', th', sl, va, fr, tw, si, un)) :
    ∀ (n : Nat) (s z fo lo hi tl th : Int32), v.toInt < s.toInt → s.toInt ≤ ho.toInt → (∀ w, v.toInt ≤ w → w < s.toInt → qz_f ke g rel k t w = qz_f ke g rel k t v.toInt) → 0 ≤ z.toInt → z.toInt < s.toInt → ho.toInt - s.toInt < (n : Int) → wX_end_54 post rel k t x n s z fe ke ho ca no kp pe pf pt ro fo lo hi tl th sl va fr tw si un := by
  intro n
  induction n with
  | zero => intro s z fo lo hi tl th e1 e2 e3 e4 e5 e6; omega
  | succ n ih =>
    intro s z fo lo hi tl th e1 e2 e3 e4 e5 e6
    have q := Q.2.1
    unfold wX_end_54
    refine qa_le ho.toInt z.toInt (fun a => by omega) (fun a => ?_)
    refine qa_le _ _ (fun b => ?_) (fun b => ?_)
    · exact H s fo lo hi tl th ⟨e1, e2, e3, Or.inl (by omega)⟩
    · refine qx_pv Q hg (by omega) (by omega) (fun fo' lo' hi' tl' th' f1 f2 f3 f4 => ?_)
      refine qa_eq _ _ (fun c => nm_e ?_) (fun c => ?_)
      · refine ih hi' (z + 1) fo' lo' hi' tl' th' (by omega) (by omega) (fun w p r => ?_) (by rw [qa_s (by omega)]; omega) (by rw [qa_s (by omega)]; omega) (by omega)
        by_cases y : w < s.toInt
        · exact e3 w p y
        · rw [f4 w (by omega) r, ← f1, c, hx]
      · exact H s fo' lo' hi' tl' th' ⟨e1, e2, e3, Or.inr (by rw [← f1, ← hx]; exact c)⟩
theorem qx_first6 (Q : qx_Q ke ho no ro sl va fr tw si un g) {post : Int32 → SX → Prop} {rel k v t : Int32} (hg : qx_G ke no rel k t) (hv0 : 0 ≤ v.toInt)
    (H : ∀ r fo' lo' hi' tl' th' : Int32, qz_Nx (qz_f ke g rel k t) v.toInt ho.toInt r.toInt → post r (fe, ke, ho, ca, no, kp, pe, pf, pt, ro, fo', lo', hi', tl', th', sl, va, fr, tw, si, un)) :
    ∀ (n : Nat) (s z fo lo hi tl th : Int32), v.toInt ≤ s.toInt → s.toInt ≤ ho.toInt → (∀ w, v.toInt ≤ w → w < s.toInt → qz_f ke g rel k t w = -1) → 0 ≤ z.toInt → z.toInt ≤ s.toInt → ho.toInt - s.toInt < (n : Int) → wX_firstRow_6 post rel k t n s z fe ke ho ca no kp pe pf pt ro fo lo hi tl th sl va fr tw si un := by
  intro n
  induction n with
  | zero => intro s z fo lo hi tl th e1 e2 e3 e4 e5 e6; omega
  | succ n ih =>
    intro s z fo lo hi tl th e1 e2 e3 e4 e5 e6
    have q := Q.2.1
    unfold wX_firstRow_6
    refine qa_le _ _ (fun a => ?_) (fun a => ?_)
    · exact H (-1) fo lo hi tl th (Or.inl ⟨qa_m1, fun w p r => e3 w p (by omega)⟩)
    refine qa_le _ _ (fun b => ?_) (fun b => ?_)
    · exact H (-1) fo lo hi tl th (Or.inl ⟨qa_m1, fun w p r => e3 w p (by omega)⟩)
    · refine qx_pv Q hg (by omega) (by omega) (fun fo' lo' hi' tl' th' f1 f2 f3 f4 => ?_)
      refine qa_eq _ (-1) (fun c => nm_e ?_) (fun c => ?_) rfl qa_m1
      · refine ih hi' (z + 1) fo' lo' hi' tl' th' (by omega) (by omega) (fun w p r => ?_) (by rw [qa_s (by omega)]; omega) (by rw [qa_s (by omega)]; omega) (by omega)
        by_cases y : w < s.toInt
        · exact e3 w p y
        · rw [f4 w (by omega) r, ← f1, c]
      · exact H s fo' lo' hi' tl' th' (Or.inr ⟨e1, by omega, by rw [← f1]; exact c, e3⟩)
theorem qx_first (Q : qx_Q ke ho no ro sl va fr tw si un g) {post : Int32 → SX → Prop} {rel k v t : Int32} (hg : qx_G ke no rel k t) (hv0 : 0 ≤ v.toInt) (hv : v.toInt < ho.toInt)
    (H : ∀ r fo' lo' hi' tl' th' : Int32, qz_Nx (qz_f ke g rel k t) v.toInt ho.toInt r.toInt → post r (fe, ke, ho, ca, no, kp, pe, pf, pt, ro, fo', lo', hi', tl', th', sl, va, fr, tw, si, un)) : wpX_firstRow post (fe, ke, ho, ca, no, kp, pe, pf, pt, ro, fo, lo, hi, tl, th, sl, va, fr, tw, si, un) rel k v t := by
  have q := Q.2.1
  unfold wpX_firstRow
  exact ⟨33, qx_first6 Q hg hv0 H 33 v 0 fo lo hi tl th (by omega) (by omega) (fun w a b => by omega) (by decide) (by rw [qa_0]; omega) (by omega)⟩
theorem qx_since (Q : qx_Q ke ho no ro sl va fr tw si un g) {post : Int32 → SX → Prop} {rel k v t x : Int32} (hg : qx_G ke no rel k t) (hv0 : 0 ≤ v.toInt) (hv : v.toInt < ho.toInt) (hx : x.toInt = qz_t ke g rel k v t.toInt)
    (H : ∀ r fo' lo' hi' tl' th' : Int32, qz_St (qz_t ke g rel k v) t.toInt r.toInt → post r (fe, ke, ho, ca, no, kp, pe, pf, pt, ro, fo', lo', hi', tl', th', sl, va, fr, tw, si, un)) :
    ∀ (n : Nat) (s z fo lo hi tl th : Int32), 0 ≤ s.toInt → s.toInt ≤ t.toInt → (∀ w, s.toInt ≤ w → w ≤ t.toInt → qz_t ke g rel k v w = qz_t ke g rel k v t.toInt) → 0 ≤ z.toInt → z.toInt + s.toInt ≤ t.toInt → s.toInt < (n : Int) → wX_since_46 post rel k v t x n s z fe ke ho ca no kp pe pf pt ro fo lo hi tl th sl va fr tw si un := by
  intro n
  induction n with
  | zero => intro s z fo lo hi tl th e1 e2 e3 e4 e5 e6; omega
  | succ n ih =>
    intro s z fo lo hi tl th e1 e2 e3 e4 e5 e6
    have q := Q.2.2.1
    have hg' := hg
    obtain ⟨⟨g1, g2⟩, ⟨g3, g4⟩, g5, g6⟩ := hg'
    unfold wX_since_46
    refine qa_le _ _ (fun a => ?_) (fun a => ?_)
    · exact H s fo lo hi tl th ⟨e1, e2, e3, Or.inl (by omega)⟩
    refine qa_le _ 0 (fun b => ?_) (fun b => ?_)
    · exact H s fo lo hi tl th ⟨e1, e2, e3, Or.inl (by omega)⟩
    · have hs : (s - 1).toInt = s.toInt - 1 := qa_m (by omega)
      refine qx_pt Q ⟨⟨g1, g2⟩, ⟨g3, g4⟩, by omega, by omega⟩ hv0 hv (fun fo' lo' hi' tl' th' f1 f2 f3 f4 => ?_)
      rw [hs] at f1 f2 f3 f4
      refine qa_eq _ _ (fun c => nm_e ?_) (fun c => ?_)
      · refine ih tl' (z + 1) fo' lo' hi' tl' th' (by omega) (by omega) (fun w p r => ?_) (by rw [qa_s (by omega)]; omega) (by rw [qa_s (by omega)]; omega) (by omega)
        by_cases y : s.toInt ≤ w
        · exact e3 w y r
        · rw [f4 w p (by omega), ← f1, c, hx]
      · exact H s fo' lo' hi' tl' th' ⟨e1, e2, e3, Or.inr (by rw [← f1, ← hx]; exact c)⟩
theorem qx_until (Q : qx_Q ke ho no ro sl va fr tw si un g) {post : Int32 → SX → Prop} {rel k v t x : Int32} (hg : qx_G ke no rel k t) (hv0 : 0 ≤ v.toInt) (hv : v.toInt < ho.toInt) (hx : x.toInt = qz_t ke g rel k v t.toInt)
    (H : ∀ r fo' lo' hi' tl' th' : Int32, qz_En (qz_t ke g rel k v) t.toInt (no.toInt + 1) r.toInt → post r (fe, ke, ho, ca, no, kp, pe, pf, pt, ro, fo', lo', hi', tl', th', sl, va, fr, tw, si, un)) :
    ∀ (n : Nat) (s z fo lo hi tl th : Int32), t.toInt < s.toInt → s.toInt ≤ no.toInt + 1 → (∀ w, t.toInt ≤ w → w < s.toInt → qz_t ke g rel k v w = qz_t ke g rel k v t.toInt) → 0 ≤ z.toInt → z.toInt < s.toInt → no.toInt + 1 - s.toInt < (n : Int) → wX_until_46 post rel k v x n s z fe ke ho ca no kp pe pf pt ro fo lo hi tl th sl va fr tw si un := by
  intro n
  induction n with
  | zero => intro s z fo lo hi tl th e1 e2 e3 e4 e5 e6; omega
  | succ n ih =>
    intro s z fo lo hi tl th e1 e2 e3 e4 e5 e6
    have q := Q.2.2.1
    have hg' := hg
    obtain ⟨⟨g1, g2⟩, ⟨g3, g4⟩, g5, g6⟩ := hg'
    unfold wX_until_46
    refine qa_lt no.toInt z.toInt (fun a => by omega) (fun a => ?_)
    refine qa_lt _ _ (fun b => ?_) (fun b => ?_)
    · exact H s fo lo hi tl th ⟨e1, e2, e3, Or.inl (by omega)⟩
    · refine qx_pt Q ⟨⟨g1, g2⟩, ⟨g3, g4⟩, by omega, by omega⟩ hv0 hv (fun fo' lo' hi' tl' th' f1 f2 f3 f4 => ?_)
      refine qa_eq _ _ (fun c => nm_e ?_) (fun c => ?_)
      · refine ih th' (z + 1) fo' lo' hi' tl' th' (by omega) (by omega) (fun w p r => ?_) (by rw [qa_s (by omega)]; omega) (by rw [qa_s (by omega)]; omega) (by omega)
        by_cases y : w < s.toInt
        · exact e3 w p y
        · rw [f4 w (by omega) r, ← f1, c, hx]
      · exact H s fo' lo' hi' tl' th' ⟨e1, e2, e3, Or.inr (by rw [← f1, ← hx]; exact c)⟩
theorem qx_periods (Q : qx_Q ke ho no ro sl va fr tw si un g) {post : Int32 → SX → Prop} {rel k t : Int32} (hg : qx_G ke no rel k t)
    (H : ∀ r fo' lo' hi' tl' th' : Int32, r.toInt = ((qs_S (qz_h (qz_f ke g rel k t)) ho.toInt.toNat : Nat) : Int) → post r (fe, ke, ho, ca, no, kp, pe, pf, pt, ro, fo', lo', hi', tl', th', sl, va, fr, tw, si, un)) :
    ∀ (n i : Nat) (x la s z fo lo hi tl th : Int32), s.toInt = (i : Int) → s.toInt ≤ ho.toInt → x.toInt = ((qs_S (qz_h (qz_f ke g rel k t)) i : Nat) : Int) → (i = 0 → la.toInt = -1) → (i ≠ 0 → la.toInt = qz_f ke g rel k t ((i : Int) - 1)) → 0 ≤ z.toInt → z.toInt ≤ s.toInt → ho.toInt - s.toInt < (n : Int) → wX_periods_25 post rel k t n x la s z fe ke ho ca no kp pe pf pt ro fo lo hi tl th sl va fr tw si un := by
  intro n
  induction n with
  | zero => intro i x la s z fo lo hi tl th e1 e2 e3 e4 e5 e6 e7 e8; omega
  | succ n ih =>
    intro i x la s z fo lo hi tl th e1 e2 e3 e4 e5 e6 e7 e8
    have q := Q.2.1
    have fin : ho.toInt ≤ s.toInt → i = ho.toInt.toNat := fun h => by omega
    unfold wX_periods_25
    refine qa_le _ _ (fun a => ?_) (fun a => ?_)
    · exact H x fo lo hi tl th (by rw [e3, fin (by omega)])
    refine qa_le _ _ (fun b => ?_) (fun b => ?_)
    · exact H x fo lo hi tl th (by rw [e3, fin (by omega)])
    · have hb : qs_S (qz_h (qz_f ke g rel k t)) i ≤ i := qs_b (fun j _ => qz_hb _ j)
      refine qx_pv Q hg (by omega) (by omega) (fun fo' lo' hi' tl' th' f1 f2 f3 f4 => ?_)
      rw [e1] at f1 f4
      obtain ⟨m, hm⟩ : ∃ m : Nat, hi'.toInt = ((i + m + 1 : Nat) : Int) := ⟨(hi'.toInt - s.toInt - 1).toNat, by omega⟩
      have ch := qz_chunk (f := qz_f ke g rel k t) (a := i) (m := m) (fun w p r => f4 w (by omega) (by omega))
      have la' : fo'.toInt = qz_f ke g rel k t (((i + m + 1 : Nat) : Int) - 1) := by
        rw [f4 _ (by omega) (by omega)]
        exact f1
      have K : ∀ y : Int32, y.toInt = ((qs_S (qz_h (qz_f ke g rel k t)) (i + m + 1) : Nat) : Int) → wX_periods_72 post (wX_periods_25 post rel k t n) rel k t y z fe ke ho ca no kp pe pf pt ro fo' lo' hi' tl' th' sl va fr tw si un := by
        intro y hy
        unfold wX_periods_72
        refine nm_e ?_
        exact ih (i + m + 1) y fo' hi' (z + 1) fo' lo' hi' tl' th' hm (by omega) hy (fun h => by omega) (fun _ => la') (by rw [qa_s (by omega)]; omega) (by rw [qa_s (by omega)]; omega) (by omega)
      refine qa_eq _ (-1) (fun c => ?_) (fun c => ?_) rfl qa_m1
      · refine K x ?_
        rw [ch, e3]
        unfold qz_h
        rw [if_pos (by rw [← f1, c])]
        rfl
      · refine qa_eq _ _ (fun d => ?_) (fun d => nm_e ?_)
        · refine K x ?_
          have i0 : i ≠ 0 := fun h => c (by rw [d, e4 h])
          rw [ch, e3]
          have hz : qz_h (qz_f ke g rel k t) i = 0 := by
            unfold qz_h
            rw [if_neg (by rw [← f1]; exact c), if_neg i0, if_pos (by rw [← e5 i0, ← f1, d])]
          rw [hz]
          rfl
        · refine K (x + 1) ?_
          have hz : qz_h (qz_f ke g rel k t) i = 1 := by
            unfold qz_h
            rw [if_neg (by rw [← f1]; exact c)]
            by_cases i0 : i = 0
            · rw [if_pos i0]
            · rw [if_neg i0, if_neg (by rw [← e5 i0, ← f1]; exact fun h => d h.symm)]
          rw [ch, hz, qa_s (by omega), e3]
          omega
theorem qx_dur (Q : qx_Q ke ho no ro sl va fr tw si un g) {post : Int32 → SX → Prop} {rel k t : Int32} (hg : qx_G ke no rel k t) (hp0 : 0 ≤ pf.toInt) (hp1 : pf.toInt < pt.toInt) (hp2 : pt.toInt ≤ ho.toInt)
    (H : ∀ r fo' lo' hi' tl' th' : Int32, r.toInt = ((qs_S (qz_c (qz_f ke g rel k t) pf.toInt) (pt.toInt - pf.toInt).toNat : Nat) : Int) → post r (fe, ke, ho, ca, no, kp, pe, pf, pt, ro, fo', lo', hi', tl', th', sl, va, fr, tw, si, un)) :
    ∀ (n i : Nat) (x s z fo lo hi tl th : Int32), s.toInt = pf.toInt + (i : Int) → s.toInt ≤ pt.toInt → x.toInt = ((qs_S (qz_c (qz_f ke g rel k t) pf.toInt) i : Nat) : Int) → 0 ≤ z.toInt → z.toInt ≤ (i : Int) → pt.toInt - s.toInt < (n : Int) → wX_duration_25 post rel k t n x s z fe ke ho ca no kp pe pf pt ro fo lo hi tl th sl va fr tw si un := by
  intro n
  induction n with
  | zero => intro i x s z fo lo hi tl th e1 e2 e3 e4 e5 e6; omega
  | succ n ih =>
    intro i x s z fo lo hi tl th e1 e2 e3 e4 e5 e6
    have q := Q.2.1
    have fin : pt.toInt ≤ s.toInt → i = (pt.toInt - pf.toInt).toNat := fun h => by omega
    unfold wX_duration_25
    refine qa_le _ _ (fun a => ?_) (fun a => ?_)
    · exact H x fo lo hi tl th (by rw [e3, fin (by omega)])
    refine qa_le _ _ (fun b => ?_) (fun b => ?_)
    · exact H x fo lo hi tl th (by rw [e3, fin (by omega)])
    · have hb : qs_S (qz_c (qz_f ke g rel k t) pf.toInt) i ≤ i := qs_b (fun j _ => qz_cb _ _ j)
      refine qx_pv Q hg (by omega) (by omega) (fun fo' lo' hi' tl' th' f1 f2 f3 f4 => ?_)
      refine qx_ls (fun y g1 g2 g3 => ?_)
      obtain ⟨m, hm⟩ : ∃ m : Nat, y.toInt = pf.toInt + ((i + m : Nat) : Int) := ⟨(y.toInt - s.toInt).toNat, by omega⟩
      have hc : ∀ j : Nat, i ≤ j → j < i + m → qz_f ke g rel k t (pf.toInt + (j : Int)) = fo'.toInt := by
        intro j p r
        rw [f4 _ (by omega) (by omega), f1]
      refine qa_eq _ (-1) (fun c => nm_e ?_) (fun c => nm_e (nm_e ?_)) rfl qa_m1
      · refine ih (i + m) x y (z + 1) fo' lo' hi' tl' th' hm (by omega) ?_ (by rw [qa_s (by omega)]; omega) (by rw [qa_s (by omega)]; omega) (by omega)
        rw [qz_cc (x := 0) (fun j p r => by unfold qz_c; rw [if_pos (by rw [hc j p r, c])])]
        rw [e3]
        omega
      · have hy : (y - s).toInt = (m : Int) := by
          rw [qa_sub (by omega) (by omega)]
          omega
        refine ih (i + m) (x + (y - s)) y (z + 1) fo' lo' hi' tl' th' hm (by omega) ?_ (by rw [qa_s (by omega)]; omega) (by rw [qa_s (by omega)]; omega) (by omega)
        rw [qz_cc (x := 1) (fun j p r => by unfold qz_c; rw [if_neg (by rw [hc j p r]; exact c)])]
        rw [qa_add (by omega) (by omega), e3, hy]
        omega
end
end
section
def qy_bs (sT sB sK sV sF sE : Nat → Int32) (b k v t : Int) : Nat → Int
  | 0 => -1
  | n + 1 => if (sT n).toInt ≤ t ∧ (sB n).toInt = b ∧ (sK n).toInt = k ∧ (sF n).toInt ≤ v ∧ v < (sE n).toInt then (sV n).toInt else qy_bs sT sB sK sV sF sE b k v t n
theorem qy_bs1 {sT sB sK sV sF sE : Nat → Int32} {b k v t : Int} {n : Nat} (h : (sT n).toInt ≤ t ∧ (sB n).toInt = b ∧ (sK n).toInt = k ∧ (sF n).toInt ≤ v ∧ v < (sE n).toInt) : qy_bs sT sB sK sV sF sE b k v t (n + 1) = (sV n).toInt := if_pos h
theorem qy_bs0 {sT sB sK sV sF sE : Nat → Int32} {b k v t : Int} {n : Nat} (h : ¬ ((sT n).toInt ≤ t ∧ (sB n).toInt = b ∧ (sK n).toInt = k ∧ (sF n).toInt ≤ v ∧ v < (sE n).toInt)) : qy_bs sT sB sK sV sF sE b k v t (n + 1) = qy_bs sT sB sK sV sF sE b k v t n := if_neg h
def qy_g (sT sB sK sV sF sE : Nat → Int32) (c : Nat) : ql_G := fun b k v t => qy_bs sT sB sK sV sF sE b k v t c
section
variable {ke ho ca no pf pt co : Int32} {sT sB sK sV sF sE : Nat → Int32} {c : Nat} {g : ql_G}
/-- what a query asks of the reference's state -/
def qy_K (ke ho no co : Int32) (c : Nat) : Prop := (co.toInt = (c : Int) ∧ c ≤ 32) ∧ (2 ≤ ke.toInt ∧ ke.toInt ≤ 6) ∧ (8 ≤ ho.toInt ∧ ho.toInt ≤ 32) ∧ (0 ≤ no.toInt ∧ no.toInt ≤ 32)
theorem qy_b6 {post : Int32 → Prop} {b k v t : Int32} (hc : co.toInt = (c : Int)) (hc32 : c ≤ 32) (H : ∀ r : Int32, r.toInt = qy_bs sT sB sK sV sF sE b.toInt k.toInt v.toInt t.toInt c → post r) :
    ∀ (n i : Nat) (x5 x6 : Int32), x6.toInt = (i : Int) → i ≤ c → c < i + n → x5.toInt = qy_bs sT sB sK sV sF sE b.toInt k.toInt v.toInt t.toInt i → wY_base_6 post b k v t ke ho ca no pf pt co sT sB sK sV sF sE n x5 x6 := by
  intro n
  induction n with
  | zero => intro i x5 x6 e1 e2 e3; omega
  | succ n ih =>
    intro i x5 x6 e1 e2 e3 e4
    have hcl : x6.toNatClampNeg = i := qa_cl e1
    unfold wY_base_6
    rw [hcl]
    refine qa_le _ _ (fun a => ?_) (fun a => ?_)
    · have z : i = c := by omega
      subst z
      exact H x5 e4
    · have hin : vp_in x6 32 := qa_in (by omega) (by omega)
      have hs : (x6 + 1).toInt = ((i + 1 : Nat) : Int) := by
        rw [qa_s (by omega)]
        omega
      have K : ¬ ((sT i).toInt ≤ t.toInt ∧ (sB i).toInt = b.toInt ∧ (sK i).toInt = k.toInt ∧ (sF i).toInt ≤ v.toInt ∧ v.toInt < (sE i).toInt) → wY_base_6 post b k v t ke ho ca no pf pt co sT sB sK sV sF sE n x5 (x6 + 1) := fun h => ih (i + 1) x5 (x6 + 1) hs (by omega) (by omega) (by rw [qy_bs0 h]; exact e4)
      refine ⟨hin, qa_lt t.toInt (sT i).toInt (fun d => nm_e (K (fun h => by omega))) (fun d => ⟨hin, ?_⟩)⟩
      refine qa_eq _ _ (fun e => ⟨hin, ?_⟩) (fun e => nm_e (K (fun h => e h.2.1)))
      refine qa_eq _ _ (fun f => ⟨hin, ?_⟩) (fun f => nm_e (K (fun h => f h.2.2.1)))
      refine qa_lt v.toInt (sF i).toInt (fun p => nm_e (K (fun h => by omega))) (fun p => ⟨hin, ?_⟩)
      refine qa_le (sE i).toInt v.toInt (fun q => nm_e (K (fun h => by omega))) (fun q => ⟨hin, nm_e (nm_e ?_)⟩)
      exact ih (i + 1) (sV i) (x6 + 1) hs (by omega) (by omega) (by rw [qy_bs1 ⟨d, e, f, p, q⟩])
theorem qy_base {post : Int32 → Prop} {b k v t : Int32} (Y : qy_K ke ho no co c) (H : ∀ r : Int32, r.toInt = qy_g sT sB sK sV sF sE c b.toInt k.toInt v.toInt t.toInt → post r) : wpY_base post (ke, ho, ca, no, pf, pt, co, sT, sB, sK, sV, sF, sE) b k v t := by
  obtain ⟨⟨y1, y2⟩, y3⟩ := Y
  unfold wpY_base
  exact ⟨33, qy_b6 y1 y2 H 33 0 (-1) 0 qa_0 (by omega) (by omega) qa_m1⟩
theorem qy_r45 {post : Int32 → Prop} {k v t : Int32} {kN : Nat} (Y : qy_K ke ho no co c) (hk : ke.toInt = (kN : Int))
    (H : ∀ r : Int32, r.toInt = ((qs_S (fun j => if qy_g sT sB sK sV sF sE c 1 (j : Int) v.toInt t.toInt = k.toInt then 1 else 0) kN : Nat) : Int) → post r) :
    ∀ (n i : Nat) (x5 x6 : Int32), x6.toInt = (i : Int) → i ≤ kN → kN < i + n → x5.toInt = ((qs_S (fun j => if qy_g sT sB sK sV sF sE c 1 (j : Int) v.toInt t.toInt = k.toInt then 1 else 0) i : Nat) : Int) → wY_row_45 post k v t ke ho ca no pf pt co sT sB sK sV sF sE n x5 x6 := by
  intro n
  induction n with
  | zero => intro i x5 x6 e1 e2 e3; omega
  | succ n ih =>
    intro i x5 x6 e1 e2 e3 e4
    have q := Y.2.1
    have hb : qs_S (fun j => if qy_g sT sB sK sV sF sE c 1 (j : Int) v.toInt t.toInt = k.toInt then 1 else 0) i ≤ i := qs_b (fun j _ => by (try dsimp only); split <;> omega)
    unfold wY_row_45
    refine qa_le _ _ (fun a => ?_) (fun a => ?_)
    · have z : i = kN := by omega
      subst z
      exact H x5 e4
    · have hs : (x6 + 1).toInt = ((i + 1 : Nat) : Int) := by
        rw [qa_s (by omega)]
        omega
      refine qy_base Y (fun r f1 => ?_)
      rw [qa_1, e1] at f1
      refine qa_eq _ _ (fun d => nm_e (nm_e ?_)) (fun d => nm_e ?_)
      · refine ih (i + 1) (x5 + 1) (x6 + 1) hs (by omega) (by omega) ?_
        rw [qs_s, qa_s (by omega), if_pos (by rw [← f1, d])]
        omega
      · refine ih (i + 1) x5 (x6 + 1) hs (by omega) (by omega) ?_
        rw [qs_s, if_neg (by rw [← f1]; exact d)]
        omega
theorem qy_row {post : Int32 → Prop} {rel k v t : Int32} (Y : qy_K ke ho no co c) (hr0 : 0 ≤ rel.toInt) (hr : rel.toInt ≤ 4)
    (H : ∀ r : Int32, r.toInt = ql_row ke.toInt.toNat (qy_g sT sB sK sV sF sE c) rel.toInt k.toInt v.toInt t.toInt → post r) : wpY_row post (ke, ho, ca, no, pf, pt, co, sT, sB, sK, sV, sF, sE) rel k v t := by
  have q := Y.2.1
  unfold wpY_row wY_row_9
  refine qa_eq _ 0 (fun a => ?_) (fun a => ?_)
  · refine qy_base Y (fun r f1 => H r ?_)
    rw [a] at f1 ⊢
    rw [ql_row0]
    exact f1
  refine qa_eq _ 1 (fun b => ?_) (fun b => ?_)
  · refine qy_base Y (fun r f1 => H r ?_)
    rw [b] at f1 ⊢
    rw [ql_row1]
    exact f1
  refine qa_eq _ 3 (fun d => ?_) (fun d => ?_)
  · rw [d, ql_row3] at H
    unfold ql_cnt at H
    refine qy_base Y (fun r f1 => ?_)
    rw [qa_0] at f1
    refine qa_eq _ (-1) (fun e => H (-1) ?_) (fun e => ⟨8, ?_⟩) rfl qa_m1
    · rw [if_pos (by rw [← f1, e]), qa_m1]
    · refine qy_r45 Y (kN := ke.toInt.toNat) (by omega) (fun r2 f2 => H r2 ?_) 8 0 0 0 qa_0 (by omega) (by omega) qa_0
      rw [if_neg (by rw [← f1]; exact e)]
      exact f2
  · refine qy_base Y (fun r f1 => ?_)
    rw [qa_1] at f1
    refine qa_eq _ (-1) (fun e => H (-1) ?_) (fun e => ?_) rfl qa_m1
    · unfold ql_row
      rw [if_neg a, if_neg b, if_neg d, if_pos (by rw [← f1, e]), qa_m1]
    · refine qy_base Y (fun r2 f2 => ?_)
      rw [qa_0, f1] at f2
      refine qa_eq _ 2 (fun m => H r2 ?_) (fun m => ?_)
      · unfold ql_row
        rw [if_neg a, if_neg b, if_neg d, if_neg (by rw [← f1]; exact e), if_pos m]
        exact f2
      · refine qa_eq _ (-1) (fun l => H r ?_) (fun l => H (-1) ?_) rfl qa_m1
        · unfold ql_row
          rw [if_neg a, if_neg b, if_neg d, if_neg (by rw [← f1]; exact e), if_neg m, if_pos (by rw [← f2, l])]
          exact f1
        · unfold ql_row
          rw [if_neg a, if_neg b, if_neg d, if_neg (by rw [← f1]; exact e), if_neg m, if_neg (by rw [← f2]; exact l), qa_m1]
theorem qy_c9 {post : Int32 → Prop} {rel k t : Int32} (Y : qy_K ke ho no co c) (hr0 : 0 ≤ rel.toInt) (hr : rel.toInt ≤ 4) (hp0 : 0 ≤ pf.toInt) (hp1 : pf.toInt < pt.toInt) (hp2 : pt.toInt ≤ ho.toInt)
    (H : ∀ r : Int32, r.toInt = ((qs_S (qz_c (qz_f ke (qy_g sT sB sK sV sF sE c) rel k t) pf.toInt) (pt.toInt - pf.toInt).toNat : Nat) : Int) → post r) :
    ∀ (n i : Nat) (x4 x5 : Int32), x5.toInt = pf.toInt + (i : Int) → x5.toInt ≤ pt.toInt → pt.toInt - x5.toInt < (n : Int) → x4.toInt = ((qs_S (qz_c (qz_f ke (qy_g sT sB sK sV sF sE c) rel k t) pf.toInt) i : Nat) : Int) → wY_covered_9 post rel k t ke ho ca no pf pt co sT sB sK sV sF sE n x4 x5 := by
  intro n
  induction n with
  | zero => intro i x4 x5 e1 e2 e3; omega
  | succ n ih =>
    intro i x4 x5 e1 e2 e3 e4
    have q := Y.2.2.1
    have hb : qs_S (qz_c (qz_f ke (qy_g sT sB sK sV sF sE c) rel k t) pf.toInt) i ≤ i := qs_b (fun j _ => qz_cb _ _ j)
    unfold wY_covered_9
    refine qa_le _ _ (fun a => ?_) (fun a => ?_)
    · have z : i = (pt.toInt - pf.toInt).toNat := by omega
      exact H x4 (by rw [e4, z])
    · have hs : (x5 + 1).toInt = pf.toInt + ((i + 1 : Nat) : Int) := by
        rw [qa_s (by omega)]
        omega
      refine qy_row Y hr0 hr (fun r f1 => ?_)
      rw [e1] at f1
      refine qa_eq _ (-1) (fun d => nm_e ?_) (fun d => nm_e (nm_e ?_)) rfl qa_m1
      · refine ih (i + 1) x4 (x5 + 1) hs (by omega) (by omega) ?_
        have hz : qz_c (qz_f ke (qy_g sT sB sK sV sF sE c) rel k t) pf.toInt i = 0 := if_pos (by unfold qz_f; rw [← f1, d])
        rw [qs_s, hz]
        omega
      · refine ih (i + 1) (x4 + 1) (x5 + 1) hs (by omega) (by omega) ?_
        have hz : qz_c (qz_f ke (qy_g sT sB sK sV sF sE c) rel k t) pf.toInt i = 1 := if_neg (by unfold qz_f; rw [← f1]; exact d)
        rw [qs_s, hz, qa_s (by omega)]
        omega
theorem qy_cov {post : Int32 → Prop} {rel k t : Int32} (Y : qy_K ke ho no co c) (hr0 : 0 ≤ rel.toInt) (hr : rel.toInt ≤ 4) (hp0 : 0 ≤ pf.toInt) (hp1 : pf.toInt < pt.toInt) (hp2 : pt.toInt ≤ ho.toInt)
    (H : ∀ r : Int32, r.toInt = ((qs_S (qz_c (qz_f ke (qy_g sT sB sK sV sF sE c) rel k t) pf.toInt) (pt.toInt - pf.toInt).toNat : Nat) : Int) → post r) : wpY_covered post (ke, ho, ca, no, pf, pt, co, sT, sB, sK, sV, sF, sE) rel k t := by
  have q := Y.2.2.1
  unfold wpY_covered
  exact ⟨33, qy_c9 Y hr0 hr hp0 hp1 hp2 H 33 0 0 pf (by omega) (by omega) (by omega) qa_0⟩
theorem qy_p4 {post : Int32 → Prop} (Y : qy_K ke ho no co c) (H : ∀ r : Int32, r.toInt = ((qs_S (fun j => if (sT j).toInt = no.toInt then 1 else 0) c : Nat) : Int) → post r) :
    ∀ (n i : Nat) (x1 x2 : Int32), x2.toInt = (i : Int) → i ≤ c → c < i + n → x1.toInt = ((qs_S (fun j => if (sT j).toInt = no.toInt then 1 else 0) i : Nat) : Int) → wY_pending_4 post ke ho ca no pf pt co sT sB sK sV sF sE n x1 x2 := by
  intro n
  induction n with
  | zero => intro i x5 x6 e1 e2 e3; omega
  | succ n ih =>
    intro i x1 x2 e1 e2 e3 e4
    have y := Y.1
    have hb : qs_S (fun j => if (sT j).toInt = no.toInt then 1 else 0) i ≤ i := qs_b (fun j _ => by (try dsimp only); split <;> omega)
    have hcl : x2.toNatClampNeg = i := qa_cl e1
    unfold wY_pending_4
    rw [hcl]
    refine qa_le _ _ (fun a => ?_) (fun a => ?_)
    · have z : i = c := by omega
      subst z
      exact H x1 e4
    · have hin : vp_in x2 32 := qa_in (by omega) (by omega)
      have hs : (x2 + 1).toInt = ((i + 1 : Nat) : Int) := by
        rw [qa_s (by omega)]
        omega
      refine ⟨hin, qa_eq _ _ (fun d => nm_e (nm_e ?_)) (fun d => nm_e ?_)⟩
      · refine ih (i + 1) (x1 + 1) (x2 + 1) hs (by omega) (by omega) ?_
        rw [qs_s, qa_s (by omega), if_pos d]
        omega
      · refine ih (i + 1) x1 (x2 + 1) hs (by omega) (by omega) ?_
        rw [qs_s, if_neg d]
        omega
theorem qy_pend {post : Int32 → Prop} (Y : qy_K ke ho no co c) (H : ∀ r : Int32, r.toInt = ((qs_S (fun j => if (sT j).toInt = no.toInt then 1 else 0) c : Nat) : Int) → post r) : wpY_pending post (ke, ho, ca, no, pf, pt, co, sT, sB, sK, sV, sF, sE) := by
  have y := Y.1
  unfold wpY_pending
  exact ⟨33, qy_p4 Y H 33 0 0 0 qa_0 (by omega) (by omega) qa_0⟩
end
end
section
section
variable {ke ho ca no pf pt co : Int32} {sT sB sK sV sF sE : Nat → Int32} {c : Nat}
theorem qy_start {post : Int32 → Prop} {rel k v t x : Int32} (Y : qy_K ke ho no co c) (hr0 : 0 ≤ rel.toInt) (hr : rel.toInt ≤ 4) (hv0 : 0 ≤ v.toInt) (hv : v.toInt < ho.toInt) (hx : x.toInt = qz_f ke (qy_g sT sB sK sV sF sE c) rel k t v.toInt)
    (H : ∀ r : Int32, qz_St (qz_f ke (qy_g sT sB sK sV sF sE c) rel k t) v.toInt r.toInt → post r) :
    ∀ (n : Nat) (s w : Int32), 0 ≤ s.toInt → s.toInt ≤ w.toInt → w.toInt ≤ v.toInt → v.toInt - w.toInt < (n : Int) → (∀ y, s.toInt ≤ y → y < w.toInt → qz_f ke (qy_g sT sB sK sV sF sE c) rel k t y = x.toInt) → (s.toInt = 0 ∨ qz_f ke (qy_g sT sB sK sV sF sE c) rel k t (s.toInt - 1) ≠ x.toInt) → wY_start_40 post rel k v t x ke ho ca no pf pt co sT sB sK sV sF sE n s w := by
  intro n
  induction n with
  | zero => intro s w e1 e2 e3 e4; omega
  | succ n ih =>
    intro s w e1 e2 e3 e4 e5 e6
    have q := Y.2.2.1
    unfold wY_start_40
    refine qa_le _ _ (fun a => ?_) (fun a => ?_)
    · refine H s ⟨e1, by omega, fun y p r => ?_, ?_⟩
      · by_cases z : y = v.toInt
        · rw [z]
        · rw [e5 y p (by omega), hx]
      · rw [← hx]
        exact e6
    · have hs : (w + 1).toInt = w.toInt + 1 := qa_s (by omega)
      refine qy_row Y hr0 hr (fun r f1 => ?_)
      refine qa_eq _ _ (fun d => nm_e ?_) (fun d => nm_e (nm_e ?_))
      · refine ih s (w + 1) e1 (by omega) (by omega) (by omega) (fun y p r' => ?_) e6
        by_cases z : y = w.toInt
        · rw [z, ← d, f1]
          rfl
        · exact e5 y p (by omega)
      · refine ih (w + 1) (w + 1) (by omega) (by omega) (by omega) (by omega) (fun y p r' => by omega) (Or.inr ?_)
        rw [hs, show w.toInt + 1 - 1 = w.toInt by omega]
        rw [f1] at d
        exact d
theorem qy_end {post : Int32 → Prop} {rel k v t x : Int32} (Y : qy_K ke ho no co c) (hr0 : 0 ≤ rel.toInt) (hr : rel.toInt ≤ 4) (hv0 : 0 ≤ v.toInt) (hv : v.toInt < ho.toInt) (hx : x.toInt = qz_f ke (qy_g sT sB sK sV sF sE c) rel k t v.toInt)
    (H : ∀ r : Int32, qz_En (qz_f ke (qy_g sT sB sK sV sF sE c) rel k t) v.toInt ho.toInt r.toInt → post r) :
    ∀ (n : Nat) (w : Int32), v.toInt < w.toInt → w.toInt ≤ ho.toInt → ho.toInt - w.toInt < (n : Int) → (∀ y, v.toInt ≤ y → y < w.toInt → qz_f ke (qy_g sT sB sK sV sF sE c) rel k t y = qz_f ke (qy_g sT sB sK sV sF sE c) rel k t v.toInt) → wY_end_39 post rel k t x ke ho ca no pf pt co sT sB sK sV sF sE n w := by
  intro n
  induction n with
  | zero => intro w e1 e2 e3; omega
  | succ n ih =>
    intro w e1 e2 e3 e4
    have q := Y.2.2.1
    unfold wY_end_39
    refine qa_le _ _ (fun a => ?_) (fun a => ?_)
    · exact H ho ⟨by omega, by omega, fun y p r => e4 y p (by omega), Or.inl rfl⟩
    · have hs : (w + 1).toInt = w.toInt + 1 := qa_s (by omega)
      refine qy_row Y hr0 hr (fun r f1 => ?_)
      refine qa_eq _ _ (fun d => nm_e ?_) (fun d => ?_)
      · refine ih (w + 1) (by omega) (by omega) (by omega) (fun y p r' => ?_)
        by_cases z : y = w.toInt
        · rw [z, ← hx, ← d, f1]
          rfl
        · exact e4 y p (by omega)
      · refine H w ⟨e1, e2, e4, Or.inr ?_⟩
        rw [← hx]
        rw [f1] at d
        exact d
theorem qy_next {post : Int32 → Prop} {rel k v t : Int32} (Y : qy_K ke ho no co c) (hr0 : 0 ≤ rel.toInt) (hr : rel.toInt ≤ 4) (hv0 : 0 ≤ v.toInt)
    (H : ∀ r : Int32, qz_Nx (qz_f ke (qy_g sT sB sK sV sF sE c) rel k t) v.toInt ho.toInt r.toInt → post r) :
    ∀ (n : Nat) (w : Int32), v.toInt ≤ w.toInt → w.toInt ≤ ho.toInt → ho.toInt - w.toInt < (n : Int) → (∀ y, v.toInt ≤ y → y < w.toInt → qz_f ke (qy_g sT sB sK sV sF sE c) rel k t y = -1) → wY_next_18 post rel k t ke ho ca no pf pt co sT sB sK sV sF sE n w := by
  intro n
  induction n with
  | zero => intro w e1 e2 e3; omega
  | succ n ih =>
    intro w e1 e2 e3 e4
    have q := Y.2.2.1
    unfold wY_next_18
    refine qa_le _ _ (fun a => ?_) (fun a => ?_)
    · exact H (-1) (Or.inl ⟨qa_m1, fun y p r => e4 y p (by omega)⟩)
    · have hs : (w + 1).toInt = w.toInt + 1 := qa_s (by omega)
      refine qy_row Y hr0 hr (fun r f1 => ?_)
      refine qa_eq _ (-1) (fun d => nm_e ?_) (fun d => ?_) rfl qa_m1
      · refine ih (w + 1) (by omega) (by omega) (by omega) (fun y p r' => ?_)
        by_cases z : y = w.toInt
        · rw [z, ← d, f1]
          rfl
        · exact e4 y p (by omega)
      · refine H w (Or.inr ⟨e1, by omega, ?_, e4⟩)
        rw [f1] at d
        exact d
theorem qy_since {post : Int32 → Prop} {rel k v t x : Int32} (Y : qy_K ke ho no co c) (hr0 : 0 ≤ rel.toInt) (hr : rel.toInt ≤ 4) (ht0 : 0 ≤ t.toInt) (ht : t.toInt ≤ no.toInt) (hx : x.toInt = qz_t ke (qy_g sT sB sK sV sF sE c) rel k v t.toInt)
    (H : ∀ r : Int32, qz_St (qz_t ke (qy_g sT sB sK sV sF sE c) rel k v) t.toInt r.toInt → post r) :
    ∀ (n : Nat) (s w : Int32), 0 ≤ s.toInt → s.toInt ≤ w.toInt → w.toInt ≤ t.toInt → t.toInt - w.toInt < (n : Int) → (∀ y, s.toInt ≤ y → y < w.toInt → qz_t ke (qy_g sT sB sK sV sF sE c) rel k v y = x.toInt) → (s.toInt = 0 ∨ qz_t ke (qy_g sT sB sK sV sF sE c) rel k v (s.toInt - 1) ≠ x.toInt) → wY_since_32 post rel k v t x ke ho ca no pf pt co sT sB sK sV sF sE n s w := by
  intro n
  induction n with
  | zero => intro s w e1 e2 e3 e4; omega
  | succ n ih =>
    intro s w e1 e2 e3 e4 e5 e6
    have q := Y.2.2.2
    unfold wY_since_32
    refine qa_le _ _ (fun a => ?_) (fun a => ?_)
    · refine H s ⟨e1, by omega, fun y p r => ?_, ?_⟩
      · by_cases z : y = t.toInt
        · rw [z]
        · rw [e5 y p (by omega), hx]
      · rw [← hx]
        exact e6
    · have hs : (w + 1).toInt = w.toInt + 1 := qa_s (by omega)
      refine qy_row Y hr0 hr (fun r f1 => ?_)
      refine qa_eq _ _ (fun d => nm_e ?_) (fun d => nm_e (nm_e ?_))
      · refine ih s (w + 1) e1 (by omega) (by omega) (by omega) (fun y p r' => ?_) e6
        by_cases z : y = w.toInt
        · rw [z, ← d, f1]
          rfl
        · exact e5 y p (by omega)
      · refine ih (w + 1) (w + 1) (by omega) (by omega) (by omega) (by omega) (fun y p r' => by omega) (Or.inr ?_)
        rw [hs, show w.toInt + 1 - 1 = w.toInt by omega]
        rw [f1] at d
        exact d
theorem qy_until {post : Int32 → Prop} {rel k v t x : Int32} (Y : qy_K ke ho no co c) (hr0 : 0 ≤ rel.toInt) (hr : rel.toInt ≤ 4) (ht0 : 0 ≤ t.toInt) (ht : t.toInt ≤ no.toInt) (hx : x.toInt = qz_t ke (qy_g sT sB sK sV sF sE c) rel k v t.toInt)
    (H : ∀ r : Int32, qz_En (qz_t ke (qy_g sT sB sK sV sF sE c) rel k v) t.toInt (no.toInt + 1) r.toInt → post r) :
    ∀ (n : Nat) (w : Int32), t.toInt < w.toInt → w.toInt ≤ no.toInt + 1 → no.toInt + 1 - w.toInt < (n : Int) → (∀ y, t.toInt ≤ y → y < w.toInt → qz_t ke (qy_g sT sB sK sV sF sE c) rel k v y = qz_t ke (qy_g sT sB sK sV sF sE c) rel k v t.toInt) → wY_until_32 post rel k v x ke ho ca no pf pt co sT sB sK sV sF sE n w := by
  intro n
  induction n with
  | zero => intro w e1 e2 e3; omega
  | succ n ih =>
    intro w e1 e2 e3 e4
    have q := Y.2.2.2
    unfold wY_until_32
    refine qa_lt _ _ (fun a => ?_) (fun a => ?_)
    · have hn : (no + 1).toInt = no.toInt + 1 := qa_s (by omega)
      exact H (no + 1) ⟨by omega, by omega, fun y p r => e4 y p (by omega), Or.inl hn⟩
    · have hs : (w + 1).toInt = w.toInt + 1 := qa_s (by omega)
      refine qy_row Y hr0 hr (fun r f1 => ?_)
      refine qa_eq _ _ (fun d => nm_e ?_) (fun d => ?_)
      · refine ih (w + 1) (by omega) (by omega) (by omega) (fun y p r' => ?_)
        by_cases z : y = w.toInt
        · rw [z, ← hx, ← d, f1]
          rfl
        · exact e4 y p (by omega)
      · refine H w ⟨e1, e2, e4, Or.inr ?_⟩
        rw [← hx]
        rw [f1] at d
        exact d
theorem qy_periods {post : Int32 → Prop} {rel k t : Int32} (Y : qy_K ke ho no co c) (hr0 : 0 ≤ rel.toInt) (hr : rel.toInt ≤ 4)
    (H : ∀ r : Int32, r.toInt = ((qs_S (qz_h (qz_f ke (qy_g sT sB sK sV sF sE c) rel k t)) ho.toInt.toNat : Nat) : Int) → post r) :
    ∀ (n i : Nat) (x w : Int32), w.toInt = (i : Int) → w.toInt ≤ ho.toInt → ho.toInt - w.toInt < (n : Int) → x.toInt = ((qs_S (qz_h (qz_f ke (qy_g sT sB sK sV sF sE c) rel k t)) i : Nat) : Int) → wY_periods_20 post rel k t ke ho ca no pf pt co sT sB sK sV sF sE n x w := by
  intro n
  induction n with
  | zero => intro i x w e1 e2 e3; omega
  | succ n ih =>
    intro i x w e1 e2 e3 e4
    have q := Y.2.2.1
    have hb : qs_S (qz_h (qz_f ke (qy_g sT sB sK sV sF sE c) rel k t)) i ≤ i := qs_b (fun j _ => qz_hb _ j)
    unfold wY_periods_20
    refine qa_le _ _ (fun a => ?_) (fun a => ?_)
    · have z : i = ho.toInt.toNat := by omega
      exact H x (by rw [e4, z])
    · have hs : (w + 1).toInt = ((i + 1 : Nat) : Int) := by
        rw [qa_s (by omega)]
        omega
      have K0 : qz_h (qz_f ke (qy_g sT sB sK sV sF sE c) rel k t) i = 0 → wY_periods_20 post rel k t ke ho ca no pf pt co sT sB sK sV sF sE n x (w + 1) := fun h => ih (i + 1) x (w + 1) hs (by omega) (by omega) (by rw [qs_s, h]; omega)
      have K1 : qz_h (qz_f ke (qy_g sT sB sK sV sF sE c) rel k t) i = 1 → wY_periods_20 post rel k t ke ho ca no pf pt co sT sB sK sV sF sE n (x + 1) (w + 1) := fun h => ih (i + 1) (x + 1) (w + 1) hs (by omega) (by omega) (by rw [qs_s, h, qa_s (by omega)]; omega)
      refine qy_row Y hr0 hr (fun r f1 => ?_)
      rw [e1] at f1
      have f2 : r.toInt = qz_f ke (qy_g sT sB sK sV sF sE c) rel k t (i : Int) := f1
      refine qa_eq _ (-1) (fun d => nm_e (K0 ?_)) (fun d => ?_) rfl qa_m1
      · unfold qz_h
        rw [if_pos (by rw [← f2, d])]
      · refine qa_eq _ 0 (fun e => nm_e (nm_e (K1 ?_))) (fun e => ?_)
        · unfold qz_h
          rw [if_neg (by rw [← f2]; exact d), if_pos (by omega)]
        · have hm : (w - 1).toInt = (i : Int) - 1 := by
            rw [qa_m (by omega)]
            omega
          refine qy_row Y hr0 hr (fun r3 f3 => ?_)
          rw [hm] at f3
          have f4 : r3.toInt = qz_f ke (qy_g sT sB sK sV sF sE c) rel k t ((i : Int) - 1) := f3
          refine qa_eq _ _ (fun l => nm_e (K0 ?_)) (fun l => nm_e (nm_e (K1 ?_)))
          · unfold qz_h
            rw [if_neg (by rw [← f2]; exact d), if_neg (by omega), if_pos (by rw [← f2, ← f4]; exact l)]
          · unfold qz_h
            rw [if_neg (by rw [← f2]; exact d), if_neg (by omega), if_neg (by rw [← f2, ← f4]; exact l)]
/-- some child row dangles -/
def qy_D (ke ho no : Int32) (g : ql_G) : Prop := ∃ k v : Int, (0 ≤ k ∧ k < ke.toInt) ∧ (0 ≤ v ∧ v < ho.toInt) ∧ ql_row ke.toInt.toNat g 4 k v no.toInt ≠ -1
theorem qy_c22 {post : Int32 → SY → Prop} {J : Int32 → Prop} {x1 : Int32} (Y : qy_K ke ho no co c)
    (hD : ∀ v : Int, 0 ≤ v → v < ho.toInt → ql_row ke.toInt.toNat (qy_g sT sB sK sV sF sE c) 4 x1.toInt v no.toInt ≠ -1 → post (-7) (ke, ho, ca, no, pf, pt, co, sT, sB, sK, sV, sF, sE))
    (hJ : (∀ v : Int, 0 ≤ v → v < ho.toInt → ql_row ke.toInt.toNat (qy_g sT sB sK sV sF sE c) 4 x1.toInt v no.toInt = -1) → J (x1 + 1)) :
    ∀ (n : Nat) (w : Int32), 0 ≤ w.toInt → w.toInt ≤ ho.toInt → ho.toInt - w.toInt < (n : Int) → (∀ v : Int, 0 ≤ v → v < w.toInt → ql_row ke.toInt.toNat (qy_g sT sB sK sV sF sE c) 4 x1.toInt v no.toInt = -1) → wY_commit_22 post J x1 ke ho ca no pf pt co sT sB sK sV sF sE n w := by
  intro n
  induction n with
  | zero => intro w e1 e2 e3; omega
  | succ n ih =>
    intro w e1 e2 e3 e4
    have q := Y.2.2.1
    unfold wY_commit_22
    refine qa_le ho.toInt w.toInt (fun a => nm_e (hJ (fun v p r => e4 v p (by omega)))) (fun a => ?_)
    have hs : (w + 1).toInt = w.toInt + 1 := qa_s (by omega)
    refine qy_row Y (by decide) (by decide) (fun r f1 => ?_)
    have f2 : r.toInt = ql_row ke.toInt.toNat (qy_g sT sB sK sV sF sE c) 4 x1.toInt w.toInt no.toInt := f1
    refine qa_eq _ (-1) (fun d => nm_e ?_) (fun d => ?_) rfl qa_m1
    · refine ih (w + 1) (by omega) (by omega) (by omega) (fun y p r' => ?_)
      by_cases z : y = w.toInt
      · rw [z, ← f2, d]
      · exact e4 y p (by omega)
    · exact hD w.toInt e1 (by omega) (by rw [← f2]; exact d)
theorem qy_c12 {post : Int32 → SY → Prop} (Y : qy_K ke ho no co c)
    (hD : qy_D ke ho no (qy_g sT sB sK sV sF sE c) → post (-7) (ke, ho, ca, no, pf, pt, co, sT, sB, sK, sV, sF, sE)) (hN : ¬ qy_D ke ho no (qy_g sT sB sK sV sF sE c) → post 0 (ke, ho, ca, no + 1, pf, pt, co, sT, sB, sK, sV, sF, sE)) :
    ∀ (n : Nat) (x1 : Int32), 0 ≤ x1.toInt → x1.toInt ≤ ke.toInt → ke.toInt - x1.toInt < (n : Int) → (∀ k v : Int, 0 ≤ k → k < x1.toInt → 0 ≤ v → v < ho.toInt → ql_row ke.toInt.toNat (qy_g sT sB sK sV sF sE c) 4 k v no.toInt = -1) → wY_commit_12 post ke ho ca no pf pt co sT sB sK sV sF sE n x1 := by
  intro n
  induction n with
  | zero => intro w e1 e2 e3; omega
  | succ n ih =>
    intro w e1 e2 e3 e4
    have q := Y.2.1
    have q2 := Y.2.2.1
    unfold wY_commit_12
    refine qa_le _ _ (fun a => nm_e (hN ?_)) (fun a => ⟨33, ?_⟩)
    · rintro ⟨k, v, ⟨k1, k2⟩, ⟨v1, v2⟩, h⟩
      exact h (e4 k v k1 (by omega) v1 v2)
    · refine qy_c22 Y (fun v p r h => hD ⟨w.toInt, v, ⟨e1, by omega⟩, ⟨p, r⟩, h⟩) (fun h => ?_) 33 0 (by decide) (by rw [qa_0]; omega) (by rw [qa_0]; omega) (fun v p r => by rw [qa_0] at r; omega)
      have hs : (w + 1).toInt = w.toInt + 1 := qa_s (by omega)
      refine ih (w + 1) (by omega) (by omega) (by omega) (fun k v p r p' r' => ?_)
      by_cases z : k = w.toInt
      · rw [z]
        exact h v p' r'
      · exact e4 k v p (by omega) p' r'
end
end
section
/-! storing: sums over rows -/
abbrev qc_to (s pf pt : Int) (r : qr_T) : Prop := r.1 = s ∧ r.2.2.2.2.2 = 2147483647 ∧ r.2.2.1 < pt ∧ pf < r.2.2.2.1
def qc_sL (f : qr_T → Nat) (no pf : Int) (r : qr_T) : Nat := if r.2.2.1 < pf then f (r.1, r.2.1, r.2.2.1, pf, no, 2147483647) else 0
def qc_sR (f : qr_T → Nat) (no pt : Int) (r : qr_T) : Nat := if pt < r.2.2.2.1 then f (r.1, r.2.1, pt, r.2.2.2.1, no, 2147483647) else 0
def qc_sM (f : qr_T → Nat) (no : Int) (r : qr_T) : Nat := if r.2.2.2.2.1 = no then 0 else f (r.1, r.2.1, r.2.2.1, r.2.2.2.1, r.2.2.2.2.1, no)
def qc_sp (f : qr_T → Nat) (no pf pt : Int) (r : qr_T) : Nat := qc_sM f no r + qc_sL f no pf r + qc_sR f no pt r
def qc_G (f : qr_T → Nat) (s no pf pt : Int) (r : qr_T) : Nat := if qc_to s pf pt r then qc_sp f no pf pt r else f r
def qc_L (s pf pt : Int) (r : qr_T) : Nat := if qc_to s pf pt r ∧ r.2.2.1 < pf then 1 else 0
def qc_R (s pf pt : Int) (r : qr_T) : Nat := if qc_to s pf pt r ∧ pt < r.2.2.2.1 then 1 else 0
def qb_G (f : qr_T → Nat) (no : Int) (r : qr_T) : Nat := if r.2.2.2.2.1 = no then 0 else if r.2.2.2.2.2 = no then f (r.1, r.2.1, r.2.2.1, r.2.2.2.1, r.2.2.2.2.1, 2147483647) else f r
theorem qc_step {a b : Nat → Nat} {n i : Nat} (hi : i < n) : qs_S (fun j => if j < i then a j else b j) n + a i = qs_S (fun j => if j < i + 1 then a j else b j) n + b i := by
  have e := qs_upd (h := fun j => if j < i + 1 then a j else b j) (h' := fun j => if j < i then a j else b j) (n := n) (i := i) hi (fun j _ hn => by
    (try dsimp only)
    by_cases z : j < i
    · rw [if_pos z, if_pos (by omega)]
    · rw [if_neg z, if_neg (by omega)])
  (try dsimp only at e)
  rw [if_pos (by omega), if_neg (by omega)] at e
  exact e
theorem qc_at0 {a b : Nat → Nat} {n : Nat} : qs_S (fun j => if j < 0 then a j else b j) n = qs_S b n :=
  qs_congr (fun j _ => if_neg (Nat.not_lt_zero _))
theorem qc_atn {a b : Nat → Nat} {n : Nat} : qs_S (fun j => if j < n then a j else b j) n = qs_S a n :=
  qs_congr (fun j hj => if_pos hj)
/-- the room that a carve needs -/
def qc_B (s pf pt : Int) (R : Nat → qr_T) (n i : Nat) : Nat := qs_S (fun j => if j < i then 1 else 1 + (qc_L s pf pt (R j) + qc_R s pf pt (R j))) n
theorem qc_Bs {s pf pt : Int} {R : Nat → qr_T} {n i : Nat} (hi : i < n) : qc_B s pf pt R n i = qc_B s pf pt R n (i + 1) + (qc_L s pf pt (R i) + qc_R s pf pt (R i)) := by
  have e := qc_step (a := fun _ => 1) (b := fun j => 1 + (qc_L s pf pt (R j) + qc_R s pf pt (R j))) (n := n) (i := i) hi
  unfold qc_B
  (try dsimp only at e)
  omega
theorem qc_Ble {s pf pt : Int} {R : Nat → qr_T} {n i : Nat} (hL : qs_S (fun j => qc_L s pf pt (R j)) n ≤ 1) (hR : qs_S (fun j => qc_R s pf pt (R j)) n ≤ 1) : qc_B s pf pt R n i ≤ n + 2 := by
  have e : qc_B s pf pt R n i ≤ qs_S (fun j => 1 + (qc_L s pf pt (R j) + qc_R s pf pt (R j))) n := by
    unfold qc_B
    refine qs_le (fun j _ => ?_)
    (try dsimp only)
    split <;> omega
  have e1 := qs_add (h := fun _ => 1) (h' := fun j => qc_L s pf pt (R j) + qc_R s pf pt (R j)) (n := n)
  have e2 := qs_add (h := fun j => qc_L s pf pt (R j)) (h' := fun j => qc_R s pf pt (R j)) (n := n)
  have e3 := qs_one (n := n)
  (try dsimp only at e1 e2)
  omega
theorem qc_Bn {s pf pt : Int} {R : Nat → qr_T} {n : Nat} : qc_B s pf pt R n n = n := by
  unfold qc_B
  rw [qc_atn (a := fun _ => 1) (b := fun j => 1 + (qc_L s pf pt (R j) + qc_R s pf pt (R j)))]
  exact qs_one
/-! widths -/
theorem qv_w {a b p A : Int} (hA1 : a ≤ A) (hA2 : p ≤ A) (hA3 : A = a ∨ A = p) : ∀ (m : Nat) (B : Int), B ≤ b → B ≤ p + (m : Int) → (B = b ∨ B = p + (m : Int)) →
    (A ≤ B → ((qs_S (fun j => if a ≤ p + (j : Int) ∧ p + (j : Int) < b then 1 else 0) m : Nat) : Int) = B - A) ∧ (B < A → qs_S (fun j => if a ≤ p + (j : Int) ∧ p + (j : Int) < b then 1 else 0) m = 0) := by
  intro m
  induction m with
  | zero =>
    intro B h1 h2 h3
    rw [qs_0]
    exact ⟨fun h => by omega, fun h => rfl⟩
  | succ m ih =>
    intro B h1 h2 h3
    rw [qs_s]
    by_cases z : b ≤ p + (m : Int)
    · have e := ih B h1 (by omega) (by omega)
      rw [if_neg (by omega), Nat.add_zero]
      exact e
    · have e := ih (p + (m : Int)) (by omega) (by omega) (Or.inr rfl)
      by_cases y : a ≤ p + (m : Int)
      · rw [if_pos ⟨y, by omega⟩]
        have e1 := e.1 (by omega)
        exact ⟨fun h => by omega, fun h => by omega⟩
      · rw [if_neg (by omega), Nat.add_zero]
        have e2 := e.2 (by omega)
        rw [e2]
        exact ⟨fun h => by omega, fun _ => rfl⟩
abbrev ql_Row (ho no : Int) (r : qr_T) : Prop := (0 ≤ r.2.2.1 ∧ r.2.2.1 < r.2.2.2.1 ∧ r.2.2.2.1 ≤ ho) ∧ (0 ≤ r.2.2.2.2.1 ∧ r.2.2.2.2.1 ≤ no) ∧ (r.2.2.2.2.2 = 2147483647 ∨ (r.2.2.2.2.1 < r.2.2.2.2.2 ∧ r.2.2.2.2.2 ≤ no)) ∧ 0 ≤ r.2.1
theorem qv_t {ho no s pf pt A B : Int} {m : Nat} {r : qr_T} (hr : ql_Row ho no r) (hno : no < 2147483647) (hm : pt = pf + (m : Int)) (t : qc_to s pf pt r) (hA1 : r.2.2.1 ≤ A) (hA2 : pf ≤ A) (hA3 : A = r.2.2.1 ∨ A = pf) (hB1 : B ≤ r.2.2.2.1) (hB2 : B ≤ pt) (hB3 : B = r.2.2.2.1 ∨ B = pt) :
    ((qs_S (fun j => ql_ind s (pf + (j : Int)) no r) m : Nat) : Int) = B - A := by
  obtain ⟨⟨r1, r2, r3⟩, ⟨r4, r5⟩, r6, r7⟩ := hr
  obtain ⟨t1, t2, t3, t4⟩ := t
  have e := (qv_w (b := r.2.2.2.1) hA1 hA2 hA3 m B hB1 (by omega) (by omega)).1 (by omega)
  rw [← e]
  congr 1
  refine qs_congr (fun j _ => ?_)
  (try dsimp only)
  unfold ql_ind
  by_cases z : r.2.2.1 ≤ pf + (j : Int) ∧ pf + (j : Int) < r.2.2.2.1
  · rw [if_pos z, if_pos ⟨t1, z.1, z.2, by omega, by omega⟩]
  · rw [if_neg z, if_neg (fun h => z ⟨h.2.1, h.2.2.1⟩)]
theorem qv_n {ho no s pf pt : Int} {m : Nat} {r : qr_T} (hr : ql_Row ho no r) (hm : pt = pf + (m : Int)) (t : ¬ qc_to s pf pt r) :
    qs_S (fun j => ql_ind s (pf + (j : Int)) no r) m = 0 := by
  obtain ⟨⟨r1, r2, r3⟩, ⟨r4, r5⟩, r6, r7⟩ := hr
  refine qs_z (fun j hj => ql_i0 ?_)
  rintro ⟨h1, h2, h3, h4, h5⟩
  exact t ⟨h1, by omega, by omega, by omega⟩
theorem qs_b32 {h : Nat → Nat} : ∀ {n : Nat}, (∀ j, j < n → h j ≤ 32) → qs_S h n ≤ 32 * n
  | 0, _ => Nat.zero_le _
  | n + 1, e => by
    have a := qs_b32 (n := n) (fun j hj => e j (by omega))
    have b := e n (by omega)
    rw [qs_s]
    omega
theorem ql_ib {s v t : Int} {r : qr_T} : ql_ind s v t r ≤ 1 := by
  unfold ql_ind
  split <;> omega
theorem ql_w0i {s v t : Int} {R : Nat → qr_T} {n : Nat} (hv : ∀ j, j < n → 0 ≤ (R j).2.1) (h : qs_S (fun j => ql_wt s v t (R j)) n = 0) : qs_S (fun j => ql_ind s v t (R j)) n = 0 := by
  refine qs_z (fun j hj => ?_)
  have e := qs_zi h j hj
  have p := hv j hj
  (try dsimp only at e ⊢)
  unfold ql_wt at e
  unfold ql_ind
  split at e
  · omega
  · rename_i z
    rw [if_neg z]
/-- the cover by rows is the count of instants -/
theorem qv_cov {ke ho no b k pf : Int} {R : Nat → qr_T} {N m : Nat} {g : ql_G} (hv : ∀ j, j < N → 0 ≤ (R j).2.1) (L : ql_Link ke ho no R N g) (hb : b = 0 ∨ b = 1) (hk0 : 0 ≤ k) (hk : k < ke) (hp : 0 ≤ pf) (hm : pf + (m : Int) ≤ ho) (hn : 0 ≤ no) :
    qs_S (fun i => qs_S (fun j => ql_ind (ql_sl ke b k) (pf + (j : Int)) no (R i)) m) N = qs_S (qz_c (fun w => g b k w no) pf) m := by
  rw [qs_swap (h := fun i j => ql_ind (ql_sl ke b k) (pf + (j : Int)) no (R i))]
  refine qs_congr (fun j hj => ?_)
  have l := L b k (pf + (j : Int)) no hb hk0 hk (by omega) (by omega) hn (by omega)
  (try dsimp only)
  unfold qz_c
  by_cases z : g b k (pf + (j : Int)) no = -1
  · rw [if_pos z]
    refine ql_w0i hv ?_
    have l2 := l.2
    omega
  · rw [if_neg z]
    by_cases y : qs_S (fun i => ql_ind (ql_sl ke b k) (pf + (j : Int)) no (R i)) N = 0
    · have e := ql_S0w y
      have l2 := l.2
      omega
    · have l1 := l.1
      omega
end
section
section
variable {fe ke ho ca no kp pe pf pt ro fo lo hi tl th : Int32} {sl va fr tw si un : Nat → Int32} {g : ql_G}
theorem qx_touch {post : Int32 → Prop} {x s : Int32} {i : Nat} (hx : x.toInt = (i : Int)) (hi' : i < 96) (H1 : qc_to s.toInt pf.toInt pt.toInt (qr_R sl va fr tw si un i) → post 1) (H0 : ¬ qc_to s.toInt pf.toInt pt.toInt (qr_R sl va fr tw si un i) → post 0) : wpX_touched post (fe, ke, ho, ca, no, kp, pe, pf, pt, ro, fo, lo, hi, tl, th, sl, va, fr, tw, si, un) x s := by
  have hc : x.toNatClampNeg = i := qa_cl hx
  have hin : vp_in x 96 := qa_in (by omega) (by omega)
  unfold wpX_touched
  rw [hc]
  refine ⟨hin, qa_eq _ _ (fun a => ⟨hin, ?_⟩) (fun a => H0 (fun h => a h.1))⟩
  refine qa_eq _ 2147483647 (fun b => ⟨hin, ?_⟩) (fun b => H0 (fun h => b h.2.1)) rfl qa_F
  refine qa_le _ _ (fun c => H0 (fun h => absurd h.2.2.1 (Int.not_lt.mpr c))) (fun c => ⟨hin, ?_⟩)
  exact qa_le _ _ (fun d => H0 (fun h => absurd h.2.2.2 (Int.not_lt.mpr d))) (fun d => H1 ⟨a, b, c, d⟩)
theorem qx_cov4 {post : Int32 → Prop} {s : Int32} {N m : Nat} (hN : ro.toInt = (N : Int)) (hN9 : N ≤ 96) (hm : pt.toInt = pf.toInt + (m : Int)) (hm32 : m ≤ 32) (hno : no.toInt < 2147483647)
    (hr : ∀ j, j < N → ql_Row ho.toInt no.toInt (qr_R sl va fr tw si un j))
    (H : ∀ r : Int32, r.toInt = ((qs_S (fun i => qs_S (fun j => ql_ind s.toInt (pf.toInt + (j : Int)) no.toInt (qr_R sl va fr tw si un i)) m) N : Nat) : Int) → post r) :
    ∀ (n i : Nat) (x2 x3 : Int32), x3.toInt = (i : Int) → i ≤ N → N < i + n → x2.toInt = ((qs_S (fun i => qs_S (fun j => ql_ind s.toInt (pf.toInt + (j : Int)) no.toInt (qr_R sl va fr tw si un i)) m) i : Nat) : Int) → wX_covered_4 post s fe ke ho ca no kp pe pf pt ro fo lo hi tl th sl va fr tw si un n x2 x3 := by
  intro n
  induction n with
  | zero => intro i x2 x3 e1 e2 e3; omega
  | succ n ih =>
    intro i x2 x3 e1 e2 e3 e4
    have hc : x3.toNatClampNeg = i := qa_cl e1
    have hb : qs_S (fun i => qs_S (fun j => ql_ind s.toInt (pf.toInt + (j : Int)) no.toInt (qr_R sl va fr tw si un i)) m) i ≤ 32 * i := by
      refine qs_b32 (fun j _ => ?_)
      have z := qs_b (h := fun j_1 => ql_ind s.toInt (pf.toInt + (j_1 : Int)) no.toInt (qr_R sl va fr tw si un j)) (n := m) (fun _ _ => ql_ib)
      (try dsimp only)
      omega
    unfold wX_covered_4
    rw [hc]
    refine qa_le _ _ (fun a => ?_) (fun a => ?_)
    · have z : i = N := by omega
      subst z
      exact H x2 e4
    · have hin : vp_in x3 96 := qa_in (by omega) (by omega)
      have hs : (x3 + 1).toInt = ((i + 1 : Nat) : Int) := by
        rw [qa_s (by omega)]
        omega
      refine qx_touch e1 (by omega) (fun t => ?_) (fun t => ?_)
      · refine br_f (by decide) ⟨hin, ?_⟩
        refine qx_gr (fun A a1 a2 a3 => ⟨hin, ?_⟩)
        refine qx_ls (fun B b1 b2 b3 => ?_)
        have e := qv_t (hr i (by omega)) hno hm t a1 a2 a3 b1 b2 b3
        have y := qs_b (h := fun j => ql_ind s.toInt (pf.toInt + (j : Int)) no.toInt (qr_R sl va fr tw si un i)) (n := m) (fun _ _ => ql_ib)
        have hBA : (B - A).toInt = B.toInt - A.toInt := by
          have k1 := B.le_toInt
          have k2 := A.toInt_lt
          exact qa_sub (by omega) (by omega)
        refine nm_e (nm_e ?_)
        refine ih (i + 1) (x2 + (B - A)) (x3 + 1) hs (by omega) (by omega) ?_
        rw [qs_s, qa_add (by omega) (by omega), hBA, e4]
        omega
      · refine br_t rfl (nm_e ?_)
        refine ih (i + 1) x2 (x3 + 1) hs (by omega) (by omega) ?_
        have e := qv_n (hr i (by omega)) hm t
        rw [qs_s, e]
        exact e4
theorem qx_add {post : SX → Prop} {s v a b : Int32} {n : Nat} (hn : ro.toInt = (n : Int)) (hn9 : n < 96)
    (H : ∀ sl' va' fr' tw' si' un' : Nat → Int32, qr_R sl' va' fr' tw' si' un' = qr_u (qr_R sl va fr tw si un) n (s.toInt, v.toInt, a.toInt, b.toInt, no.toInt, 2147483647) → post (fe, ke, ho, ca, no, kp, pe, pf, pt, ro + 1, fo, lo, hi, tl, th, sl', va', fr', tw', si', un')) : wpX_addRow post (fe, ke, ho, ca, no, kp, pe, pf, pt, ro, fo, lo, hi, tl, th, sl, va, fr, tw, si, un) s v a b := by
  have hc : ro.toNatClampNeg = n := qa_cl hn
  have hin : vp_in ro 96 := qa_in (by omega) (by omega)
  unfold wpX_addRow
  dsimp only
  rw [hc]
  refine qa_lt ro.toInt 96 (fun _ => ?_) (fun z => by omega)
  refine ⟨hin, nm_e ⟨hin, nm_e ⟨hin, nm_e ⟨hin, nm_e ⟨hin, nm_e ⟨hin, nm_e (nm_e ?_)⟩⟩⟩⟩⟩⟩
  refine H _ _ _ _ _ _ ?_
  rw [qr_upd, qa_F]
theorem qx_drop {post : SX → Prop} {x : Int32} {i n : Nat} (hn : ro.toInt = ((n + 1 : Nat) : Int)) (hn9 : n < 96) (hx : x.toInt = (i : Int)) (hi' : i < n + 1)
    (H : ∀ sl' va' fr' tw' si' un' : Nat → Int32, qr_R sl' va' fr' tw' si' un' = qr_u (qr_R sl va fr tw si un) i (qr_R sl va fr tw si un n) → post (fe, ke, ho, ca, no, kp, pe, pf, pt, ro - 1, fo, lo, hi, tl, th, sl', va', fr', tw', si', un')) : wpX_dropRow post (fe, ke, ho, ca, no, kp, pe, pf, pt, ro, fo, lo, hi, tl, th, sl, va, fr, tw, si, un) x := by
  have hr : (ro - 1).toInt = (n : Int) := by
    rw [qa_m (by omega)]
    omega
  have hc : (ro - 1).toNatClampNeg = n := qa_cl hr
  have hcx : x.toNatClampNeg = i := qa_cl hx
  have hin : vp_in (ro - 1) 96 := qa_in (by omega) (by omega)
  have hix : vp_in x 96 := qa_in (by omega) (by omega)
  unfold wpX_dropRow
  refine nm_e ?_
  rw [hc, hcx]
  refine ⟨hin, hix, nm_e ⟨hin, hix, nm_e ⟨hin, hix, nm_e ⟨hin, hix, nm_e ⟨hin, hix, nm_e ⟨hin, hix, nm_e ?_⟩⟩⟩⟩⟩⟩
  refine H _ _ _ _ _ _ ?_
  rw [qr_upd]
  rfl
/-- rows grown at the end -/
def qx_Gr (R R' : Nat → qr_T) (n n' : Nat) (F : (qr_T → Nat) → Nat) : Prop := (∀ j, j < n → R' j = R j) ∧ n ≤ n' ∧ ∀ f : qr_T → Nat, qs_S (fun j => f (R' j)) n' = qs_S (fun j => f (R j)) n + F f
theorem qx_82 {post : SX → Prop} {s v b : Int32} {n : Nat} (hn : ro.toInt = (n : Int)) (hn9 : n + (if pt.toInt < b.toInt then 1 else 0) ≤ 96)
    (H : ∀ (ro' : Int32) (sl' va' fr' tw' si' un' : Nat → Int32) (n' : Nat), ro'.toInt = (n' : Int) → n' ≤ n + (if pt.toInt < b.toInt then 1 else 0) →
      qx_Gr (qr_R sl va fr tw si un) (qr_R sl' va' fr' tw' si' un') n n' (fun f => if pt.toInt < b.toInt then f (s.toInt, v.toInt, pt.toInt, b.toInt, no.toInt, 2147483647) else 0) → post (fe, ke, ho, ca, no, kp, pe, pf, pt, ro', fo, lo, hi, tl, th, sl', va', fr', tw', si', un')) : wX_split_82 post s v b fe ke ho ca no kp pe pf pt ro fo lo hi tl th sl va fr tw si un := by
  unfold wX_split_82
  refine qa_le _ _ (fun z => ?_) (fun z => ?_)
  · refine H ro sl va fr tw si un n hn (by omega) ⟨fun j _ => rfl, by omega, fun f => ?_⟩
    (try dsimp only)
    rw [if_neg (by omega)]
    rfl
  · rw [if_pos z] at hn9
    refine qx_add hn (by omega) (fun sl' va' fr' tw' si' un' e => ?_)
    refine H (ro + 1) sl' va' fr' tw' si' un' (n + 1) (by rw [qa_s (by omega)]; omega) (by rw [if_pos z]; omega) ⟨fun j hj => by rw [e, qr_un (by omega)], by omega, fun f => ?_⟩
    rw [e]
    (try dsimp only)
    rw [if_pos z]
    exact qm_add f
theorem qx_61 {post : SX → Prop} {s v a b : Int32} {n : Nat} (hn : ro.toInt = (n : Int)) (hn9 : n + (if a.toInt < pf.toInt then 1 else 0) + (if pt.toInt < b.toInt then 1 else 0) ≤ 96)
    (H : ∀ (ro' : Int32) (sl' va' fr' tw' si' un' : Nat → Int32) (n' : Nat), ro'.toInt = (n' : Int) → n' ≤ n + (if a.toInt < pf.toInt then 1 else 0) + (if pt.toInt < b.toInt then 1 else 0) →
      qx_Gr (qr_R sl va fr tw si un) (qr_R sl' va' fr' tw' si' un') n n' (fun f => (if a.toInt < pf.toInt then f (s.toInt, v.toInt, a.toInt, pf.toInt, no.toInt, 2147483647) else 0) + (if pt.toInt < b.toInt then f (s.toInt, v.toInt, pt.toInt, b.toInt, no.toInt, 2147483647) else 0)) →
      post (fe, ke, ho, ca, no, kp, pe, pf, pt, ro', fo, lo, hi, tl, th, sl', va', fr', tw', si', un')) : wX_split_61 post s v a b fe ke ho ca no kp pe pf pt ro fo lo hi tl th sl va fr tw si un := by
  unfold wX_split_61
  refine qa_le _ _ (fun z => ?_) (fun z => ?_)
  · rw [if_neg (by omega)] at hn9
    refine qx_82 hn (by omega) (fun ro' sl' va' fr' tw' si' un' n' e1 e2 e3 => ?_)
    refine H ro' sl' va' fr' tw' si' un' n' e1 (by rw [if_neg (by omega)]; omega) ⟨e3.1, e3.2.1, fun f => ?_⟩
    have e := e3.2.2 f
    (try dsimp only at e ⊢)
    rw [e, if_neg (c := a.toInt < pf.toInt) (by omega), Nat.zero_add]
  · rw [if_pos z] at hn9
    refine qx_add hn (by omega) (fun sl1 va1 fr1 tw1 si1 un1 e => ?_)
    refine qx_82 (n := n + 1) (by rw [qa_s (by omega)]; omega) (by omega) (fun ro' sl' va' fr' tw' si' un' n' e1 e2 e3 => ?_)
    refine H ro' sl' va' fr' tw' si' un' n' e1 (by rw [if_pos z]; omega) ⟨fun j hj => by rw [e3.1 j (by omega), e, qr_un (by omega)], by have y := e3.2.1; omega, fun f => ?_⟩
    have y := e3.2.2 f
    rw [e] at y
    have y2 := qm_add (R := qr_R sl va fr tw si un) (n := n) (r := (s.toInt, v.toInt, a.toInt, pf.toInt, no.toInt, 2147483647)) f
    (try dsimp only at y ⊢)
    rw [y, y2, if_pos (c := a.toInt < pf.toInt) z, Nat.add_assoc]
theorem qx_split {post : SX → Prop} {x : Int32} {i n : Nat} (hn : ro.toInt = (n : Int)) (hx : x.toInt = (i : Int)) (hi' : i < n) (hn9 : n + (if (fr i).toInt < pf.toInt then 1 else 0) + (if pt.toInt < (tw i).toInt then 1 else 0) ≤ 96)
    (H : ∀ (ro' : Int32) (sl' va' fr' tw' si' un' : Nat → Int32) (n' : Nat), ro'.toInt = (n' : Int) → n' ≤ n + (if (fr i).toInt < pf.toInt then 1 else 0) + (if pt.toInt < (tw i).toInt then 1 else 0) → i ≤ n' → (∀ j, j < i → qr_R sl' va' fr' tw' si' un' j = qr_R sl va fr tw si un j) →
      (∀ f : qr_T → Nat, qs_S (fun j => f (qr_R sl' va' fr' tw' si' un' j)) n' + f (qr_R sl va fr tw si un i) = qs_S (fun j => f (qr_R sl va fr tw si un j)) n + qc_sp f no.toInt pf.toInt pt.toInt (qr_R sl va fr tw si un i)) →
      post (fe, ke, ho, ca, no, kp, pe, pf, pt, ro', fo, lo, hi, tl, th, sl', va', fr', tw', si', un')) : wpX_split post (fe, ke, ho, ca, no, kp, pe, pf, pt, ro, fo, lo, hi, tl, th, sl, va, fr, tw, si, un) x := by
  have hcx : x.toNatClampNeg = i := qa_cl hx
  have hix : vp_in x 96 := qa_in (by omega) (by omega)
  unfold wpX_split
  rw [hcx]
  refine ⟨hix, nm_e ⟨hix, nm_e ⟨hix, nm_e ⟨hix, nm_e ⟨hix, ?_⟩⟩⟩⟩⟩
  refine qa_eq _ _ (fun z => ?_) (fun z => ⟨hix, nm_e ?_⟩)
  · obtain ⟨m, rfl⟩ : ∃ m, n = m + 1 := ⟨n - 1, by omega⟩
    refine qx_drop hn (by omega) hx hi' (fun sl1 va1 fr1 tw1 si1 un1 e => ?_)
    refine qx_61 (n := m) (by rw [qa_m (by omega)]; omega) (by omega) (fun ro' sl' va' fr' tw' si' un' n' e1 e2 e3 => ?_)
    refine H ro' sl' va' fr' tw' si' un' n' e1 (by omega) (by have y := e3.2.1; omega) (fun j hj => by rw [e3.1 j (by omega), e, qr_un (by omega)]) (fun f => ?_)
    have y := e3.2.2 f
    rw [e] at y
    have y2 := qm_drop (R := qr_R sl va fr tw si un) (i := i) (n := m) f hi'
    have y3 : qc_sM f no.toInt (qr_R sl va fr tw si un i) = 0 := if_pos z
    unfold qc_sp
    rw [y3, y, ← y2]
    show _ + ((if (fr i).toInt < pf.toInt then f ((sl i).toInt, (va i).toInt, (fr i).toInt, pf.toInt, no.toInt, 2147483647) else 0) + (if pt.toInt < (tw i).toInt then f ((sl i).toInt, (va i).toInt, pt.toInt, (tw i).toInt, no.toInt, 2147483647) else 0)) + _ = _ + (0 + (if (fr i).toInt < pf.toInt then f ((sl i).toInt, (va i).toInt, (fr i).toInt, pf.toInt, no.toInt, 2147483647) else 0) + (if pt.toInt < (tw i).toInt then f ((sl i).toInt, (va i).toInt, pt.toInt, (tw i).toInt, no.toInt, 2147483647) else 0))
    omega
  · refine qx_61 (n := n) hn (by omega) (fun ro' sl' va' fr' tw' si' un' n' e1 e2 e3 => ?_)
    refine H ro' sl' va' fr' tw' si' un' n' e1 (by omega) (by have y := e3.2.1; omega) (fun j hj => by rw [e3.1 j (by omega), qr_updU, qr_un (by omega)]) (fun f => ?_)
    have y := e3.2.2 f
    rw [qr_updU] at y
    have y2 := qm_set (R := qr_R sl va fr tw si un) (i := i) (n := n) (r := ((sl i).toInt, (va i).toInt, (fr i).toInt, (tw i).toInt, (si i).toInt, no.toInt)) f hi'
    have y3 : qc_sM f no.toInt (qr_R sl va fr tw si un i) = f ((sl i).toInt, (va i).toInt, (fr i).toInt, (tw i).toInt, (si i).toInt, no.toInt) := if_neg z
    unfold qc_sp
    rw [y3, y]
    show _ + ((if (fr i).toInt < pf.toInt then f ((sl i).toInt, (va i).toInt, (fr i).toInt, pf.toInt, no.toInt, 2147483647) else 0) + (if pt.toInt < (tw i).toInt then f ((sl i).toInt, (va i).toInt, pt.toInt, (tw i).toInt, no.toInt, 2147483647) else 0)) + _ = _ + (_ + (if (fr i).toInt < pf.toInt then f ((sl i).toInt, (va i).toInt, (fr i).toInt, pf.toInt, no.toInt, 2147483647) else 0) + (if pt.toInt < (tw i).toInt then f ((sl i).toInt, (va i).toInt, pt.toInt, (tw i).toInt, no.toInt, 2147483647) else 0))
    omega
end
end
section
section
variable {fe ke ho ca no kp pe pf pt ro fo lo hi tl th : Int32} {sl va fr tw si un : Nat → Int32} {g : ql_G}
theorem qx_carve7 {post : SX → Prop} {s : Int32} {R0 : Nat → qr_T} {n0 : Nat} (hn0 : n0 + 2 ≤ 96) (hL : qs_S (fun j => qc_L s.toInt pf.toInt pt.toInt (R0 j)) n0 ≤ 1) (hR : qs_S (fun j => qc_R s.toInt pf.toInt pt.toInt (R0 j)) n0 ≤ 1)
    (H : ∀ (ro' : Int32) (sl' va' fr' tw' si' un' : Nat → Int32) (n' : Nat), ro'.toInt = (n' : Int) → n' ≤ n0 + 2 → (∀ f : qr_T → Nat, qs_S (fun j => f (qr_R sl' va' fr' tw' si' un' j)) n' = qs_S (fun j => qc_G f s.toInt no.toInt pf.toInt pt.toInt (R0 j)) n0) → post (fe, ke, ho, ca, no, kp, pe, pf, pt, ro', fo, lo, hi, tl, th, sl', va', fr', tw', si', un')) :
    ∀ (n i m : Nat) (x2 ro : Int32) (sl va fr tw si un : Nat → Int32), x2.toInt = (i : Int) - 1 → i ≤ n0 → i < n → ro.toInt = (m : Int) → i ≤ m → m ≤ qc_B s.toInt pf.toInt pt.toInt R0 n0 i → (∀ j, j < i → qr_R sl va fr tw si un j = R0 j) →
      (∀ f : qr_T → Nat, qs_S (fun j => f (qr_R sl va fr tw si un j)) m = qs_S (fun j => if j < i then f (R0 j) else qc_G f s.toInt no.toInt pf.toInt pt.toInt (R0 j)) n0) → wX_carve_7 post s n x2 fe ke ho ca no kp pe pf pt ro fo lo hi tl th sl va fr tw si un := by
  intro n
  induction n with
  | zero => intro i m x2 ro sl va fr tw si un e1 e2 e3; omega
  | succ n ih =>
    intro i m x2 ro sl va fr tw si un e1 e2 e3 e4 e5 e6 e7 e8
    have hB := qc_Ble (i := i) hL hR
    unfold wX_carve_7
    refine qa_lt _ 0 (fun a => ?_) (fun a => ?_)
    · have z : i = 0 := by omega
      subst z
      refine H ro sl va fr tw si un m e4 (by omega) (fun f => ?_)
      rw [e8 f, qc_at0 (a := fun j => f (R0 j)) (b := fun j => qc_G f s.toInt no.toInt pf.toInt pt.toInt (R0 j))]
    · obtain ⟨d, rfl⟩ : ∃ d, i = d + 1 := ⟨i - 1, by omega⟩
      have hB' := qc_Ble (i := d) hL hR
      have hx : x2.toInt = (d : Int) := by omega
      have hd : qr_R sl va fr tw si un d = R0 d := e7 d (by omega)
      have hp : ∀ y : Int32, y = x2 + (-1) → y.toInt = (d : Int) - 1 := fun y ey => by
        rw [ey, qa_p (by omega)]
        omega
      have bs := qc_Bs (s := s.toInt) (pf := pf.toInt) (pt := pt.toInt) (R := R0) (n := n0) (i := d) (by omega)
      refine qx_touch hx (by omega) (fun t => ?_) (fun t => ?_)
      · refine br_f (by decide) ?_
        have l1 : qc_L s.toInt pf.toInt pt.toInt (R0 d) = if (fr d).toInt < pf.toInt then 1 else 0 := by
          rw [← hd]
          unfold qc_L
          by_cases z : (fr d).toInt < pf.toInt
          · rw [if_pos z, if_pos ⟨t, z⟩]
          · rw [if_neg z, if_neg (fun h => z h.2)]
        have l2 : qc_R s.toInt pf.toInt pt.toInt (R0 d) = if pt.toInt < (tw d).toInt then 1 else 0 := by
          rw [← hd]
          unfold qc_R
          by_cases z : pt.toInt < (tw d).toInt
          · rw [if_pos z, if_pos ⟨t, z⟩]
          · rw [if_neg z, if_neg (fun h => z h.2)]
        refine qx_split e4 hx (by omega) (by rw [← l1, ← l2]; omega) (fun ro' sl' va' fr' tw' si' un' n' f1 f2 f3 f4 f5 y ey => ?_)
        rw [← l1, ← l2] at f2
        refine ih d n' y ro' sl' va' fr' tw' si' un' (hp y ey) (by omega) (by omega) f1 f3 (by omega) (fun j hj => by rw [f4 j hj, e7 j (by omega)]) (fun f => ?_)
        have y1 := f5 f
        have y2 := e8 f
        have y3 := qc_step (a := fun j => f (R0 j)) (b := fun j => qc_G f s.toInt no.toInt pf.toInt pt.toInt (R0 j)) (n := n0) (i := d) (by omega)
        have y4 : qc_G f s.toInt no.toInt pf.toInt pt.toInt (R0 d) = qc_sp f no.toInt pf.toInt pt.toInt (R0 d) := by
          rw [hd] at t
          exact if_pos t
        rw [hd] at y1
        (try dsimp only at y3)
        rw [y4] at y3
        omega
      · refine br_t rfl (fun y ey => ?_)
        refine ih d m y ro sl va fr tw si un (hp y ey) (by omega) (by omega) e4 (by omega) (by omega) (fun j hj => e7 j (by omega)) (fun f => ?_)
        have y2 := e8 f
        have y3 := qc_step (a := fun j => f (R0 j)) (b := fun j => qc_G f s.toInt no.toInt pf.toInt pt.toInt (R0 j)) (n := n0) (i := d) (by omega)
        have y4 : qc_G f s.toInt no.toInt pf.toInt pt.toInt (R0 d) = f (R0 d) := by
          rw [hd] at t
          exact if_neg t
        (try dsimp only at y3)
        rw [y4] at y3
        omega
theorem qx_carve {post : SX → Prop} {s : Int32} {n0 : Nat} (hr : ro.toInt = (n0 : Int)) (hn0 : n0 + 2 ≤ 96) (hL : qs_S (fun j => qc_L s.toInt pf.toInt pt.toInt (qr_R sl va fr tw si un j)) n0 ≤ 1) (hR : qs_S (fun j => qc_R s.toInt pf.toInt pt.toInt (qr_R sl va fr tw si un j)) n0 ≤ 1)
    (H : ∀ (ro' : Int32) (sl' va' fr' tw' si' un' : Nat → Int32) (n' : Nat), ro'.toInt = (n' : Int) → n' ≤ n0 + 2 → (∀ f : qr_T → Nat, qs_S (fun j => f (qr_R sl' va' fr' tw' si' un' j)) n' = qs_S (fun j => qc_G f s.toInt no.toInt pf.toInt pt.toInt (qr_R sl va fr tw si un j)) n0) → post (fe, ke, ho, ca, no, kp, pe, pf, pt, ro', fo, lo, hi, tl, th, sl', va', fr', tw', si', un')) : wpX_carve post (fe, ke, ho, ca, no, kp, pe, pf, pt, ro, fo, lo, hi, tl, th, sl, va, fr, tw, si, un) s := by
  unfold wpX_carve
  refine nm_e ⟨97, ?_⟩
  refine qx_carve7 hn0 hL hR H 97 n0 n0 (ro - 1) ro sl va fr tw si un (by rw [qa_m (by omega)]; omega) (by omega) (by omega) hr (by omega) (by rw [qc_Bn]; omega) (fun j _ => rfl) (fun f => ?_)
  rw [qc_atn (a := fun j => f (qr_R sl va fr tw si un j)) (b := fun j => qc_G f s.toInt no.toInt pf.toInt pt.toInt (qr_R sl va fr tw si un j))]
theorem qx_rb17 {post : Int32 → SX → Prop} {R0 : Nat → qr_T} {n0 : Nat} (hn0 : n0 ≤ 96)
    (H : ∀ (ro' : Int32) (sl' va' fr' tw' si' un' : Nat → Int32) (n' : Nat), ro'.toInt = (n' : Int) → (∀ f : qr_T → Nat, qs_S (fun j => f (qr_R sl' va' fr' tw' si' un' j)) n' = qs_S (fun j => qb_G f no.toInt (R0 j)) n0) → post 0 (fe, ke, ho, ca, no, kp - pe, 0, pf, pt, ro', fo, lo, hi, tl, th, sl', va', fr', tw', si', un')) :
    ∀ (n i m : Nat) (x2 ro : Int32) (sl va fr tw si un : Nat → Int32), x2.toInt = (i : Int) - 1 → i ≤ n0 → i < n → ro.toInt = (m : Int) → i ≤ m → m ≤ n0 → (∀ j, j < i → qr_R sl va fr tw si un j = R0 j) →
      (∀ f : qr_T → Nat, qs_S (fun j => f (qr_R sl va fr tw si un j)) m = qs_S (fun j => if j < i then f (R0 j) else qb_G f no.toInt (R0 j)) n0) → wX_rollback_17 post n x2 fe ke ho ca no kp pe pf pt ro fo lo hi tl th sl va fr tw si un := by
  intro n
  induction n with
  | zero => intro i m x2 ro sl va fr tw si un e1 e2 e3; omega
  | succ n ih =>
    intro i m x2 ro sl va fr tw si un e1 e2 e3 e4 e5 e6 e7 e8
    unfold wX_rollback_17
    refine qa_lt _ 0 (fun a => nm_e ?_) (fun a => ?_)
    · have z : i = 0 := by omega
      subst z
      refine H ro sl va fr tw si un m e4 (fun f => ?_)
      rw [e8 f, qc_at0 (a := fun j => f (R0 j)) (b := fun j => qb_G f no.toInt (R0 j))]
    · obtain ⟨d, rfl⟩ : ∃ d, i = d + 1 := ⟨i - 1, by omega⟩
      have hx : x2.toInt = (d : Int) := by omega
      have hcx : x2.toNatClampNeg = d := qa_cl hx
      have hix : vp_in x2 96 := qa_in (by omega) (by omega)
      have hd : qr_R sl va fr tw si un d = R0 d := e7 d (by omega)
      have hp : ∀ y : Int32, y = x2 + (-1) → y.toInt = (d : Int) - 1 := fun y ey => by
        rw [ey, qa_p (by omega)]
        omega
      have st := fun f : qr_T → Nat => qc_step (a := fun j => f (R0 j)) (b := fun j => qb_G f no.toInt (R0 j)) (n := n0) (i := d) (by omega)
      rw [hcx]
      refine ⟨hix, qa_eq _ _ (fun b => ?_) (fun b => ⟨hix, qa_eq _ _ (fun c => ⟨hix, nm_e (fun y ey => ?_)⟩) (fun c y ey => ?_)⟩)⟩
      · obtain ⟨m, rfl⟩ : ∃ q, m = q + 1 := ⟨m - 1, by omega⟩
        refine qx_drop e4 (by omega) hx (by omega) (fun sl' va' fr' tw' si' un' e y ey => ?_)
        refine ih d m y (ro - 1) sl' va' fr' tw' si' un' (hp y ey) (by omega) (by omega) (by rw [qa_m (by omega)]; omega) (by omega) (by omega) (fun j hj => by rw [e, qr_un (by omega), e7 j (by omega)]) (fun f => ?_)
        have y1 := qm_drop (R := qr_R sl va fr tw si un) (i := d) (n := m) f (by omega)
        have y2 := e8 f
        have y3 := st f
        have y4 : qb_G f no.toInt (R0 d) = 0 := by
          rw [← hd]
          exact if_pos b
        rw [← e, hd] at y1
        (try dsimp only at y3)
        rw [y4] at y3
        omega
      · refine ih d m y ro sl va fr tw si (upd un d 2147483647) (hp y ey) (by omega) (by omega) e4 (by omega) (by omega) (fun j hj => by rw [qr_updU, qr_un (by omega), e7 j (by omega)]) (fun f => ?_)
        have y1 := qm_set (R := qr_R sl va fr tw si un) (i := d) (n := m) (r := ((sl d).toInt, (va d).toInt, (fr d).toInt, (tw d).toInt, (si d).toInt, (2147483647 : Int32).toInt)) f (by omega)
        have y2 := e8 f
        have y3 := st f
        have y4 : qb_G f no.toInt (R0 d) = f ((sl d).toInt, (va d).toInt, (fr d).toInt, (tw d).toInt, (si d).toInt, (2147483647 : Int32).toInt) := by
          rw [← hd, qa_F]
          exact (if_neg b).trans (if_pos c)
        rw [← qr_updU, hd] at y1
        (try dsimp only at y3)
        rw [y4] at y3
        omega
      · refine ih d m y ro sl va fr tw si un (hp y ey) (by omega) (by omega) e4 (by omega) (by omega) (fun j hj => e7 j (by omega)) (fun f => ?_)
        have y2 := e8 f
        have y3 := st f
        have y4 : qb_G f no.toInt (R0 d) = f (R0 d) := by
          rw [← hd]
          exact (if_neg b).trans (if_neg c)
        (try dsimp only at y3)
        rw [y4] at y3
        omega
end
end
section
/-! what the storing calls keep -/
def qf_w (h : Int → Nat) (s v t : Int) (r : qr_T) : Nat := if r.1 = s ∧ r.2.2.1 ≤ v ∧ v < r.2.2.2.1 ∧ r.2.2.2.2.1 ≤ t ∧ t < r.2.2.2.2.2 then h r.2.1 else 0
theorem qf_i (s v t : Int) : ql_ind s v t = qf_w (fun _ => 1) s v t := rfl
theorem qf_wt (s v t : Int) : ql_wt s v t = qf_w (fun x => (x + 1).toNat) s v t := rfl
def qf_c (no : Int) (r : qr_T) : Nat := if r.2.2.2.2.1 < no then 1 else 0
def qf_r (ho no : Int) (r : qr_T) : Nat := if ql_Row ho no r then 0 else 1
theorem qf_r0 {ho no : Int} {r : qr_T} (h : ql_Row ho no r) : qf_r ho no r = 0 := if_pos h
theorem qf_ri {ho no : Int} {r : qr_T} (h : qf_r ho no r = 0) : ql_Row ho no r := by
  unfold qf_r at h
  split at h
  · assumption
  · exact absurd h (by decide)
theorem qf_1 {h : Int → Nat} {s v t a b c d e u : Int} (z : a = s ∧ c ≤ v ∧ v < d ∧ e ≤ t ∧ t < u) : qf_w h s v t (a, b, c, d, e, u) = h b := if_pos z
theorem qf_0 {h : Int → Nat} {s v t a b c d e u : Int} (z : ¬ (a = s ∧ c ≤ v ∧ v < d ∧ e ≤ t ∧ t < u)) : qf_w h s v t (a, b, c, d, e, u) = 0 := if_neg z
theorem qg_1 {h : Int → Nat} {s' v t s ho no pf pt : Int} {r : qr_T} (hr : ql_Row ho no r) (hno : no < 2147483647) (hp : pf < pt) (ht : t ≤ no) (hc : t < no ∨ s' ≠ s ∨ v < pf ∨ pt ≤ v) : qc_G (qf_w h s' v t) s no pf pt r = qf_w h s' v t r := by
  obtain ⟨a, b, c, d, e, u⟩ := r
  obtain ⟨⟨r1, r2, r3⟩, ⟨r4, r5⟩, r6, r7⟩ := hr
  (try dsimp only at r1 r2 r3 r4 r5 r6 r7)
  unfold qc_G
  by_cases z : qc_to s pf pt (a, b, c, d, e, u)
  · rw [if_pos z]
    obtain ⟨z1, z2, z3, z4⟩ := z
    (try dsimp only at z1 z2 z3 z4)
    unfold qc_sp qc_sM qc_sL qc_sR
    (try dsimp only)
    by_cases y : a = s' ∧ c ≤ v ∧ v < d ∧ e ≤ t ∧ t < u
    · rw [qf_1 y]
      by_cases x : t < no
      · rw [if_neg (by omega), qf_1 ⟨y.1, y.2.1, y.2.2.1, y.2.2.2.1, x⟩, qf_0 (by omega), qf_0 (by omega)]
        split <;> split <;> omega
      · rw [qf_0 (u := no) (by omega)]
        by_cases w : v < pf
        · rw [if_pos (c := c < pf) (by omega), qf_1 (d := pf) ⟨y.1, y.2.1, w, by omega, by omega⟩, qf_0 (c := pt) (by omega)]
          split <;> split <;> omega
        · rw [if_pos (c := pt < d) (by omega), qf_1 (c := pt) ⟨y.1, by omega, y.2.2.1, by omega, by omega⟩, qf_0 (d := pf) (by omega)]
          split <;> split <;> omega
    · rw [qf_0 y, qf_0 (u := no) (by omega), qf_0 (d := pf) (by omega), qf_0 (c := pt) (by omega)]
      split <;> split <;> split <;> omega
  · rw [if_neg z]
theorem qg_0 {h : Int → Nat} {v s ho no pf pt : Int} {r : qr_T} (hr : ql_Row ho no r) (hp1 : pf ≤ v) (hp2 : v < pt) : qc_G (qf_w h s v no) s no pf pt r = 0 := by
  obtain ⟨a, b, c, d, e, u⟩ := r
  obtain ⟨⟨r1, r2, r3⟩, ⟨r4, r5⟩, r6, r7⟩ := hr
  (try dsimp only at r1 r2 r3 r4 r5 r6 r7)
  unfold qc_G
  by_cases z : qc_to s pf pt (a, b, c, d, e, u)
  · rw [if_pos z]
    unfold qc_sp qc_sM qc_sL qc_sR
    (try dsimp only)
    rw [qf_0 (u := no) (by omega), qf_0 (d := pf) (by omega), qf_0 (c := pt) (by omega)]
    split <;> split <;> split <;> omega
  · rw [if_neg z]
    refine qf_0 (fun y => z ⟨y.1, ?_, ?_, ?_⟩)
    · show u = 2147483647
      omega
    · show c < pt
      omega
    · show pf < d
      omega
theorem qg_c {s ho no pf pt : Int} {r : qr_T} (hr : ql_Row ho no r) : qc_G (qf_c no) s no pf pt r = qf_c no r := by
  obtain ⟨a, b, c, d, e, u⟩ := r
  obtain ⟨⟨r1, r2, r3⟩, ⟨r4, r5⟩, r6, r7⟩ := hr
  (try dsimp only at r1 r2 r3 r4 r5 r6 r7)
  unfold qc_G
  by_cases z : qc_to s pf pt (a, b, c, d, e, u)
  · rw [if_pos z]
    unfold qc_sp qc_sM qc_sL qc_sR qf_c
    (try dsimp only)
    rw [if_neg (c := no < no) (by omega)]
    by_cases y : e = no
    · rw [if_pos y, if_neg (c := e < no) (by omega)]
      split <;> split <;> omega
    · rw [if_neg y, if_pos (c := e < no) (by omega)]
      split <;> split <;> omega
  · rw [if_neg z]
theorem qg_r {s ho no pf pt : Int} {r : qr_T} (hr : ql_Row ho no r) (hp0 : 0 ≤ pf) (hp : pf < pt) (hp2 : pt ≤ ho) (hn : 0 ≤ no) : qc_G (qf_r ho no) s no pf pt r = 0 := by
  unfold qc_G
  by_cases z : qc_to s pf pt r
  · rw [if_pos z]
    obtain ⟨a, b, c, d, e, u⟩ := r
    obtain ⟨⟨r1, r2, r3⟩, ⟨r4, r5⟩, r6, r7⟩ := hr
    obtain ⟨z1, z2, z3, z4⟩ := z
    (try dsimp only at r1 r2 r3 r4 r5 r6 r7 z1 z2 z3 z4)
    unfold qc_sp qc_sM qc_sL qc_sR
    (try dsimp only)
    have y1 : (if e = no then 0 else qf_r ho no (a, b, c, d, e, no)) = 0 := by
      split
      · rfl
      · exact qf_r0 ⟨⟨r1, r2, r3⟩, ⟨r4, r5⟩, Or.inr ⟨by show e < no; omega, Int.le_refl _⟩, r7⟩
    have y2 : (if c < pf then qf_r ho no (a, b, c, pf, no, 2147483647) else 0) = 0 := by
      split
      · exact qf_r0 ⟨⟨r1, by assumption, by show pf ≤ ho; omega⟩, ⟨hn, Int.le_refl _⟩, Or.inl rfl, r7⟩
      · rfl
    have y3 : (if pt < d then qf_r ho no (a, b, pt, d, no, 2147483647) else 0) = 0 := by
      split
      · exact qf_r0 ⟨⟨by show 0 ≤ pt; omega, by assumption, r3⟩, ⟨hn, Int.le_refl _⟩, Or.inl rfl, r7⟩
      · rfl
    rw [y1, y2, y3]
  · rw [if_neg z]
    exact qf_r0 hr
theorem ql_slI {ke b k b' k' : Int} (hb : b = 0 ∨ b = 1) (hb' : b' = 0 ∨ b' = 1) (h1 : 0 ≤ k) (h2 : k < ke) (h3 : 0 ≤ k') (h4 : k' < ke) (h : ql_sl ke b k = ql_sl ke b' k') : b = b' ∧ k = k' := by
  unfold ql_sl at h
  rcases hb with z | z <;> rcases hb' with y | y <;> subst z <;> subst y
  · rw [if_pos rfl, if_pos rfl] at h
    exact ⟨rfl, h⟩
  · rw [if_pos rfl, if_neg (by decide)] at h
    omega
  · rw [if_neg (by decide), if_pos rfl] at h
    omega
  · rw [if_neg (by decide), if_neg (by decide)] at h
    exact ⟨rfl, by omega⟩
/-- what a statement adds -/
def qp_X (s V no pf pt : Int) (f : qr_T → Nat) : Nat := if V = -1 then 0 else f (s, V, pf, pt, no, 2147483647)
theorem qp_link {ke ho no b0 k0 V pf pt : Int} {R R' : Nat → qr_T} {n n' : Nat} {g g' : ql_G} (hno : no < 2147483647) (hb0 : b0 = 0 ∨ b0 = 1) (hk0 : 0 ≤ k0) (hk1 : k0 < ke) (hV : -1 ≤ V) (hp0 : 0 ≤ pf) (hp1 : pf < pt) (hp2 : pt ≤ ho)
    (hr : ∀ j, j < n → ql_Row ho no (R j)) (L : ql_Link ke ho no R n g)
    (hS : ∀ f : qr_T → Nat, qs_S (fun j => f (R' j)) n' = qs_S (fun j => qc_G f (ql_sl ke b0 k0) no pf pt (R j)) n + qp_X (ql_sl ke b0 k0) V no pf pt f)
    (h1 : ∀ b k v t, no ≤ t → b0 = b → k0 = k → pf ≤ v → v < pt → g' b k v t = V) (h0 : ∀ b k v t, ¬ (no ≤ t ∧ b0 = b ∧ k0 = k ∧ pf ≤ v ∧ v < pt) → g' b k v t = g b k v t) : ql_Link ke ho no R' n' g' := by
  intro b k v t hb hk hk' hv hv' ht ht'
  rw [hS (ql_ind (ql_sl ke b k) v t), hS (ql_wt (ql_sl ke b k) v t), qf_i, qf_wt]
  by_cases c : no ≤ t ∧ b0 = b ∧ k0 = k ∧ pf ≤ v ∧ v < pt
  · obtain ⟨c1, c2, c3, c4, c5⟩ := c
    have et : t = no := by omega
    subst c2 c3 et
    rw [qs_z (fun j hj => qg_0 (hr j hj) c4 c5), qs_z (fun j hj => qg_0 (hr j hj) c4 c5), h1 b0 k0 v t c1 rfl rfl c4 c5]
    unfold qp_X
    by_cases z : V = -1
    · rw [if_pos z, if_pos z, z]
      exact ⟨by omega, by omega⟩
    · rw [if_neg z, if_neg z, qf_1 ⟨rfl, c4, c5, by omega, by omega⟩, qf_1 ⟨rfl, c4, c5, by omega, by omega⟩]
      exact ⟨by omega, by omega⟩
  · have l := L b k v t hb hk hk' hv hv' ht ht'
    rw [qf_i, qf_wt] at l
    have hc : t < no ∨ ql_sl ke b k ≠ ql_sl ke b0 k0 ∨ v < pf ∨ pt ≤ v := by
      by_cases z : ql_sl ke b k = ql_sl ke b0 k0
      · have y := ql_slI hb hb0 hk hk' hk0 hk1 z
        obtain ⟨y1, y2⟩ := y
        by_cases x : t < no
        · exact Or.inl x
        · by_cases w : v < pf
          · exact Or.inr (Or.inr (Or.inl w))
          · by_cases u : pt ≤ v
            · exact Or.inr (Or.inr (Or.inr u))
            · exact absurd ⟨by omega, y1.symm, y2.symm, by omega, by omega⟩ c
      · exact Or.inr (Or.inl z)
    have e : ∀ h : Int → Nat, qs_S (fun j => qc_G (qf_w h (ql_sl ke b k) v t) (ql_sl ke b0 k0) no pf pt (R j)) n = qs_S (fun j => qf_w h (ql_sl ke b k) v t (R j)) n := fun h => qs_congr (fun j hj => qg_1 (hr j hj) hno hp1 ht' hc)
    have x : ∀ h : Int → Nat, qp_X (ql_sl ke b0 k0) V no pf pt (qf_w h (ql_sl ke b k) v t) = 0 := by
      intro h
      unfold qp_X
      split
      · rfl
      · refine qf_0 ?_
        rintro ⟨d1, d2, d3, d4, d5⟩
        rcases hc with z | z | z | z
        · omega
        · exact z d1.symm
        · omega
        · omega
    rw [e, e, x, x, h0 b k v t c]
    exact l
theorem qp_rows {ke ho no s V pf pt : Int} {R R' : Nat → qr_T} {n n' : Nat} (hV : -1 ≤ V) (hp0 : 0 ≤ pf) (hp1 : pf < pt) (hp2 : pt ≤ ho) (hn : 0 ≤ no)
    (hr : ∀ j, j < n → ql_Row ho no (R j))
    (hS : ∀ f : qr_T → Nat, qs_S (fun j => f (R' j)) n' = qs_S (fun j => qc_G f s no pf pt (R j)) n + qp_X s V no pf pt f) : ∀ j, j < n' → ql_Row ho no (R' j) := by
  have e := hS (qf_r ho no)
  rw [qs_z (fun j hj => qg_r (hr j hj) hp0 hp1 hp2 hn)] at e
  have x : qp_X s V no pf pt (qf_r ho no) = 0 := by
    unfold qp_X
    split
    · rfl
    · exact qf_r0 ⟨⟨hp0, hp1, hp2⟩, ⟨hn, Int.le_refl _⟩, Or.inl rfl, by show 0 ≤ V; omega⟩
  rw [x] at e
  exact fun j hj => qf_ri (qs_zi e j hj)
theorem qp_cnt {ho no s V pf pt : Int} {R R' : Nat → qr_T} {n n' : Nat} (hr : ∀ j, j < n → ql_Row ho no (R j))
    (hS : ∀ f : qr_T → Nat, qs_S (fun j => f (R' j)) n' = qs_S (fun j => qc_G f s no pf pt (R j)) n + qp_X s V no pf pt f) : qs_S (fun j => qf_c no (R' j)) n' = qs_S (fun j => qf_c no (R j)) n := by
  have e := hS (qf_c no)
  have x : qp_X s V no pf pt (qf_c no) = 0 := by
    unfold qp_X
    split
    · rfl
    · exact if_neg (by show ¬ no < no; omega)
  rw [x, qs_congr (h' := fun j => qf_c no (R j)) (fun j hj => qg_c (hr j hj))] at e
  exact e
/-! room for a carve -/
theorem qp_L {ke ho no b k pf pt : Int} {R : Nat → qr_T} {n : Nat} {g : ql_G} (hno : no < 2147483647) (hb : b = 0 ∨ b = 1) (hk0 : 0 ≤ k) (hk1 : k < ke) (hp0 : 0 ≤ pf) (hp1 : pf < pt) (hp2 : pt ≤ ho) (hn : 0 ≤ no)
    (hr : ∀ j, j < n → ql_Row ho no (R j)) (L : ql_Link ke ho no R n g) : qs_S (fun j => qc_L (ql_sl ke b k) pf pt (R j)) n ≤ 1 := by
  by_cases z : pf = 0
  · rw [qs_z (fun j hj => ?_)]
    · omega
    · obtain ⟨⟨r1, r2, r3⟩, ⟨r4, r5⟩, r6, r7⟩ := hr j hj
      exact if_neg (fun h => by have y := h.2; omega)
  · refine Nat.le_trans (qs_le (fun j hj => ?_)) (L b k (pf - 1) no hb hk0 hk1 (by omega) (by omega) hn (by omega)).1
    obtain ⟨⟨r1, r2, r3⟩, ⟨r4, r5⟩, r6, r7⟩ := hr j hj
    (try dsimp only)
    unfold qc_L
    split
    · rename_i h
      obtain ⟨⟨h1, h2, h3, h4⟩, h5⟩ := h
      rw [ql_i1 ⟨h1, by omega, by omega, by omega, by omega⟩]
      omega
    · omega
theorem qp_R {ke ho no b k pf pt : Int} {R : Nat → qr_T} {n : Nat} {g : ql_G} (hno : no < 2147483647) (hb : b = 0 ∨ b = 1) (hk0 : 0 ≤ k) (hk1 : k < ke) (hp0 : 0 ≤ pf) (hp1 : pf < pt) (hp2 : pt ≤ ho) (hn : 0 ≤ no)
    (hr : ∀ j, j < n → ql_Row ho no (R j)) (L : ql_Link ke ho no R n g) : qs_S (fun j => qc_R (ql_sl ke b k) pf pt (R j)) n ≤ 1 := by
  by_cases z : pt = ho
  · rw [qs_z (fun j hj => ?_)]
    · omega
    · obtain ⟨⟨r1, r2, r3⟩, ⟨r4, r5⟩, r6, r7⟩ := hr j hj
      exact if_neg (fun h => by have y := h.2; omega)
  · refine Nat.le_trans (qs_le (fun j hj => ?_)) (L b k pt no hb hk0 hk1 (by omega) (by omega) hn (by omega)).1
    obtain ⟨⟨r1, r2, r3⟩, ⟨r4, r5⟩, r6, r7⟩ := hr j hj
    (try dsimp only)
    unfold qc_R
    split
    · rename_i h
      obtain ⟨⟨h1, h2, h3, h4⟩, h5⟩ := h
      rw [ql_i1 ⟨h1, by omega, by omega, by omega, by omega⟩]
      omega
    · omega
/-- no row of the slot meets the period: a carve changes nothing -/
theorem qp_none {ke ho no b k pf pt : Int} {R : Nat → qr_T} {n : Nat} {g : ql_G} (hno : no < 2147483647) (hb : b = 0 ∨ b = 1) (hk0 : 0 ≤ k) (hk1 : k < ke) (hp0 : 0 ≤ pf) (hp1 : pf < pt) (hp2 : pt ≤ ho) (hn : 0 ≤ no)
    (hr : ∀ j, j < n → ql_Row ho no (R j)) (L : ql_Link ke ho no R n g) (hz : ∀ v, pf ≤ v → v < pt → g b k v no = -1) (f : qr_T → Nat) : qs_S (fun j => qc_G f (ql_sl ke b k) no pf pt (R j)) n = qs_S (fun j => f (R j)) n := by
  refine qs_congr (fun j hj => if_neg ?_)
  rintro ⟨h1, h2, h3, h4⟩
  obtain ⟨⟨r1, r2, r3⟩, ⟨r4, r5⟩, r6, r7⟩ := hr j hj
  obtain ⟨v, v1, v2, v3, v4⟩ : ∃ v : Int, pf ≤ v ∧ v < pt ∧ (R j).2.2.1 ≤ v ∧ v < (R j).2.2.2.1 := by
    by_cases z : pf ≤ (R j).2.2.1
    · exact ⟨(R j).2.2.1, z, h3, by omega, r2⟩
    · exact ⟨pf, by omega, hp1, by omega, h4⟩
  have l := (L b k v no hb hk0 hk1 (by omega) (by omega) hn (by omega)).2
  rw [hz v v1 v2] at l
  have l0 : qs_S (fun j => ql_wt (ql_sl ke b k) v no (R j)) n = 0 := by omega
  have e := qs_zi l0 j hj
  (try dsimp only at e)
  rw [ql_w1 ⟨h1, v3, v4, r5, by omega⟩] at e
  omega
end
section
/-! a new statement, a rollback, a commit: the reference's function -/
theorem qy_bsc {sT sB sK sV sF sE sT' sB' sK' sV' sF' sE' : Nat → Int32} {b k v t : Int} : ∀ {n : Nat}, (∀ j, j < n → sT' j = sT j ∧ sB' j = sB j ∧ sK' j = sK j ∧ sV' j = sV j ∧ sF' j = sF j ∧ sE' j = sE j) → qy_bs sT' sB' sK' sV' sF' sE' b k v t n = qy_bs sT sB sK sV sF sE b k v t n
  | 0, _ => rfl
  | n + 1, h => by
    have e := qy_bsc (b := b) (k := k) (v := v) (t := t) (n := n) (fun j hj => h j (by omega))
    obtain ⟨h1, h2, h3, h4, h5, h6⟩ := h n (by omega)
    show (if (sT' n).toInt ≤ t ∧ (sB' n).toInt = b ∧ (sK' n).toInt = k ∧ (sF' n).toInt ≤ v ∧ v < (sE' n).toInt then (sV' n).toInt else qy_bs sT' sB' sK' sV' sF' sE' b k v t n) = (if (sT n).toInt ≤ t ∧ (sB n).toInt = b ∧ (sK n).toInt = k ∧ (sF n).toInt ≤ v ∧ v < (sE n).toInt then (sV n).toInt else qy_bs sT sB sK sV sF sE b k v t n)
    rw [h1, h2, h3, h4, h5, h6, e]
theorem qu_s {f : Nat → Int32} {k : Nat} {x : Int32} : upd f k x k = x := if_pos rfl
theorem qu_n {f : Nat → Int32} {k j : Nat} {x : Int32} (h : j ≠ k) : upd f k x j = f j := if_neg h
theorem qy_new1 {sT sB sK sV sF sE : Nat → Int32} {c : Nat} {xT xB xK xV xF xE : Int32} {b k v t : Int} (h : xT.toInt ≤ t ∧ xB.toInt = b ∧ xK.toInt = k ∧ xF.toInt ≤ v ∧ v < xE.toInt) :
    qy_g (upd sT c xT) (upd sB c xB) (upd sK c xK) (upd sV c xV) (upd sF c xF) (upd sE c xE) (c + 1) b k v t = xV.toInt := by
  unfold qy_g
  rw [qy_bs1 (by rw [qu_s, qu_s, qu_s, qu_s, qu_s]; exact h), qu_s]
theorem qy_new0 {sT sB sK sV sF sE : Nat → Int32} {c : Nat} {xT xB xK xV xF xE : Int32} {b k v t : Int} (h : ¬ (xT.toInt ≤ t ∧ xB.toInt = b ∧ xK.toInt = k ∧ xF.toInt ≤ v ∧ v < xE.toInt)) :
    qy_g (upd sT c xT) (upd sB c xB) (upd sK c xK) (upd sV c xV) (upd sF c xF) (upd sE c xE) (c + 1) b k v t = qy_g sT sB sK sV sF sE c b k v t := by
  unfold qy_g
  rw [qy_bs0 (by rw [qu_s, qu_s, qu_s, qu_s, qu_s]; exact h)]
  exact qy_bsc (fun j hj => ⟨qu_n (by omega), qu_n (by omega), qu_n (by omega), qu_n (by omega), qu_n (by omega), qu_n (by omega)⟩)
/-- the statements: q of them closed, p of them pending -/
def qi_St (ke no : Int) (sT sB sV : Nat → Int32) (q p : Nat) : Prop := ∀ i, i < q + p → (0 ≤ (sT i).toInt ∧ (i < q → (sT i).toInt < no) ∧ (q ≤ i → (sT i).toInt = no)) ∧ (-1 ≤ (sV i).toInt ∧ ((sB i).toInt = 1 → (sV i).toInt < ke))
theorem qi_rng {ke no : Int} {sT sB sK sV sF sE : Nat → Int32} {q p : Nat} {k v t : Int} (h : qi_St ke no sT sB sV q p) (hk : 0 < ke) : ∀ {n : Nat}, n ≤ q + p → qy_bs sT sB sK sV sF sE 1 k v t n = -1 ∨ (0 ≤ qy_bs sT sB sK sV sF sE 1 k v t n ∧ qy_bs sT sB sK sV sF sE 1 k v t n < ke)
  | 0, _ => Or.inl rfl
  | n + 1, hn => by
    by_cases z : (sT n).toInt ≤ t ∧ (sB n).toInt = 1 ∧ (sK n).toInt = k ∧ (sF n).toInt ≤ v ∧ v < (sE n).toInt
    · rw [qy_bs1 z]
      have e := (h n (by omega)).2
      have e1 := e.1
      have e2 := e.2 z.2.1
      omega
    · rw [qy_bs0 z]
      exact qi_rng h hk (by omega)
theorem qi_pend {ke no : Int} {sT sB sV : Nat → Int32} {q p : Nat} (h : qi_St ke no sT sB sV q p) : ∀ {m : Nat}, m ≤ p → qs_S (fun j => if (sT j).toInt = no then 1 else 0) (q + m) = m
  | 0, _ => qs_z (fun j hj => by
      have e := (h j (by omega)).1.2.1 (by omega)
      (try dsimp only)
      rw [if_neg (by omega)])
  | m + 1, hm => by
    show qs_S (fun j => if (sT j).toInt = no then 1 else 0) (q + m) + (if (sT (q + m)).toInt = no then 1 else 0) = m + 1
    rw [qi_pend h (m := m) (by omega), if_pos ((h (q + m) (by omega)).1.2.2 (by omega))]
/-- before the pending time its statements don't count -/
theorem qi_back {ke no : Int} {sT sB sK sV sF sE : Nat → Int32} {q p : Nat} {b k v t : Int} (h : qi_St ke no sT sB sV q p) (ht : t < no) : ∀ {m : Nat}, m ≤ p → qy_bs sT sB sK sV sF sE b k v t (q + m) = qy_bs sT sB sK sV sF sE b k v t q
  | 0, _ => rfl
  | m + 1, hm => by
    have e := (h (q + m) (by omega)).1.2.2 (by omega)
    show qy_bs sT sB sK sV sF sE b k v t (q + m + 1) = _
    rw [qy_bs0 (fun z => by have y := z.1; omega)]
    exact qi_back h ht (by omega)
/-- two times that no statement tells apart -/
theorem qi_tt {sT sB sK sV sF sE : Nat → Int32} {b k v t t' : Int} : ∀ {n : Nat}, (∀ j, j < n → ((sT j).toInt ≤ t ↔ (sT j).toInt ≤ t')) → qy_bs sT sB sK sV sF sE b k v t n = qy_bs sT sB sK sV sF sE b k v t' n
  | 0, _ => rfl
  | n + 1, h => by
    have e := qi_tt (b := b) (k := k) (v := v) (sB := sB) (sK := sK) (sV := sV) (sF := sF) (sE := sE) (n := n) (fun j hj => h j (by omega))
    have e1 := h n (by omega)
    by_cases z : (sT n).toInt ≤ t ∧ (sB n).toInt = b ∧ (sK n).toInt = k ∧ (sF n).toInt ≤ v ∧ v < (sE n).toInt
    · rw [qy_bs1 z, qy_bs1 ⟨e1.mp z.1, z.2⟩]
    · rw [qy_bs0 z, qy_bs0 (fun y => z ⟨e1.mpr y.1, y.2⟩)]
      exact e
theorem qb_1 {h : Int → Nat} {s v t ho no : Int} {r : qr_T} (hr : ql_Row ho no r) (hno : no < 2147483647) (ht : t < no) : qb_G (qf_w h s v t) no r = qf_w h s v t r := by
  obtain ⟨a, b, c, d, e, u⟩ := r
  obtain ⟨⟨r1, r2, r3⟩, ⟨r4, r5⟩, r6, r7⟩ := hr
  (try dsimp only at r1 r2 r3 r4 r5 r6 r7)
  unfold qb_G
  (try dsimp only)
  by_cases z : e = no
  · rw [if_pos z, qf_0 (by omega)]
  · rw [if_neg z]
    by_cases y : u = no
    · rw [if_pos y]
      by_cases x : a = s ∧ c ≤ v ∧ v < d ∧ e ≤ t ∧ t < u
      · rw [qf_1 x, qf_1 ⟨x.1, x.2.1, x.2.2.1, x.2.2.2.1, by omega⟩]
      · rw [qf_0 x, qf_0 (by omega)]
    · rw [if_neg y]
theorem qb_2 {h : Int → Nat} {s v ho no : Int} {r : qr_T} (hr : ql_Row ho no r) (hno : no < 2147483647) : qb_G (qf_w h s v no) no r = qf_w h s v (no - 1) r := by
  obtain ⟨a, b, c, d, e, u⟩ := r
  obtain ⟨⟨r1, r2, r3⟩, ⟨r4, r5⟩, r6, r7⟩ := hr
  (try dsimp only at r1 r2 r3 r4 r5 r6 r7)
  unfold qb_G
  (try dsimp only)
  by_cases z : e = no
  · rw [if_pos z, qf_0 (by omega)]
  · rw [if_neg z]
    by_cases y : u = no
    · rw [if_pos y]
      by_cases x : a = s ∧ c ≤ v ∧ v < d ∧ e ≤ no - 1 ∧ no - 1 < u
      · rw [qf_1 x, qf_1 ⟨x.1, x.2.1, x.2.2.1, by omega, by omega⟩]
      · rw [qf_0 x, qf_0 (by omega)]
    · rw [if_neg y]
      by_cases x : a = s ∧ c ≤ v ∧ v < d ∧ e ≤ no - 1 ∧ no - 1 < u
      · rw [qf_1 x, qf_1 ⟨x.1, x.2.1, x.2.2.1, by omega, by omega⟩]
      · rw [qf_0 x, qf_0 (by omega)]
theorem qb_r {ho no : Int} {r : qr_T} (hr : ql_Row ho no r) : qb_G (qf_r ho no) no r = 0 := by
  obtain ⟨⟨r1, r2, r3⟩, ⟨r4, r5⟩, r6, r7⟩ := hr
  unfold qb_G
  split
  · rfl
  · split
    · exact qf_r0 ⟨⟨r1, r2, r3⟩, ⟨r4, r5⟩, Or.inl rfl, r7⟩
    · exact qf_r0 ⟨⟨r1, r2, r3⟩, ⟨r4, r5⟩, r6, r7⟩
theorem qb_n {ho no : Int} {r : qr_T} (hr : ql_Row ho no r) : qb_G (fun _ => 1) no r = qf_c no r := by
  obtain ⟨⟨r1, r2, r3⟩, ⟨r4, r5⟩, r6, r7⟩ := hr
  unfold qb_G qf_c
  by_cases z : r.2.2.2.2.1 = no
  · rw [if_pos z, if_neg (by omega)]
  · rw [if_neg z, if_pos (c := r.2.2.2.2.1 < no) (by omega)]
    split <;> rfl
theorem qb_link {ke ho no : Int} {R R' : Nat → qr_T} {n n' q p : Nat} {sT sB sK sV sF sE : Nat → Int32} (hno : no < 2147483647) (hno0 : 0 ≤ no) (hst : qi_St ke no sT sB sV q p)
    (hr : ∀ j, j < n → ql_Row ho no (R j)) (L : ql_Link ke ho no R n (qy_g sT sB sK sV sF sE (q + p)))
    (hS : ∀ f : qr_T → Nat, qs_S (fun j => f (R' j)) n' = qs_S (fun j => qb_G f no (R j)) n) : ql_Link ke ho no R' n' (qy_g sT sB sK sV sF sE q) := by
  intro b k v t hb hk hk' hv hv' ht ht'
  rw [hS (ql_ind (ql_sl ke b k) v t), hS (ql_wt (ql_sl ke b k) v t), qf_i, qf_wt]
  by_cases c : t < no
  · have l := L b k v t hb hk hk' hv hv' ht ht'
    rw [qf_i, qf_wt] at l
    have e : ∀ h : Int → Nat, qs_S (fun j => qb_G (qf_w h (ql_sl ke b k) v t) no (R j)) n = qs_S (fun j => qf_w h (ql_sl ke b k) v t (R j)) n := fun h => qs_congr (fun j hj => qb_1 (hr j hj) hno c)
    have eg : qy_g sT sB sK sV sF sE (q + p) b k v t = qy_g sT sB sK sV sF sE q b k v t := qi_back hst c (Nat.le_refl _)
    rw [e, e, ← eg]
    exact l
  · have et : t = no := by omega
    subst et
    by_cases z : t = 0
    · have q0 : q = 0 := by
        by_cases y : q = 0
        · exact y
        · have x := (hst 0 (by omega)).1
          have x1 := x.1
          have x2 := x.2.1 (by omega)
          omega
      have e : ∀ h : Int → Nat, qs_S (fun j => qb_G (qf_w h (ql_sl ke b k) v t) t (R j)) n = 0 := fun h => qs_z (fun j hj => by
        obtain ⟨⟨r1, r2, r3⟩, ⟨r4, r5⟩, r6, r7⟩ := hr j hj
        exact if_pos (by omega))
      rw [e, e, q0]
      exact ⟨by omega, rfl⟩
    · have l := L b k v (t - 1) hb hk hk' hv hv' (by omega) (by omega)
      rw [qf_i, qf_wt] at l
      have e : ∀ h : Int → Nat, qs_S (fun j => qb_G (qf_w h (ql_sl ke b k) v t) t (R j)) n = qs_S (fun j => qf_w h (ql_sl ke b k) v (t - 1) (R j)) n := fun h => qs_congr (fun j hj => qb_2 (hr j hj) hno)
      have eg : qy_g sT sB sK sV sF sE (q + p) b k v (t - 1) = qy_g sT sB sK sV sF sE q b k v (t - 1) := qi_back hst (by omega) (Nat.le_refl _)
      have eh : qy_g sT sB sK sV sF sE q b k v (t - 1) = qy_g sT sB sK sV sF sE q b k v t := qi_tt (fun j hj => by
        have x := (hst j (by omega)).1.2.1 hj
        omega)
      rw [e, e, ← eh, ← eg]
      exact l
theorem qb_rows {ho no : Int} {R R' : Nat → qr_T} {n n' : Nat} (hr : ∀ j, j < n → ql_Row ho no (R j))
    (hS : ∀ f : qr_T → Nat, qs_S (fun j => f (R' j)) n' = qs_S (fun j => qb_G f no (R j)) n) : ∀ j, j < n' → ql_Row ho no (R' j) := by
  have e := hS (qf_r ho no)
  rw [qs_z (fun j hj => qb_r (hr j hj))] at e
  exact fun j hj => qf_ri (qs_zi e j hj)
theorem qb_cnt {ho no : Int} {R R' : Nat → qr_T} {n n' : Nat} (hr : ∀ j, j < n → ql_Row ho no (R j))
    (hS : ∀ f : qr_T → Nat, qs_S (fun j => f (R' j)) n' = qs_S (fun j => qb_G f no (R j)) n) : n' = qs_S (fun j => qf_c no (R j)) n := by
  have e := hS (fun _ => 1)
  rw [qs_one, qs_congr (h' := fun j => qf_c no (R j)) (fun j hj => qb_n (hr j hj))] at e
  exact e
theorem qf_cb {no : Int} {r : qr_T} : qf_c no r ≤ 1 := by
  unfold qf_c
  split <;> omega
theorem qk_link {ke ho no : Int} {R : Nat → qr_T} {n q p : Nat} {sT sB sK sV sF sE : Nat → Int32} (hno : no < 2147483646) (hno0 : 0 ≤ no) (hst : qi_St ke no sT sB sV q p)
    (hr : ∀ j, j < n → ql_Row ho no (R j)) (L : ql_Link ke ho no R n (qy_g sT sB sK sV sF sE (q + p))) : ql_Link ke ho (no + 1) R n (qy_g sT sB sK sV sF sE (q + p)) := by
  intro b k v t hb hk hk' hv hv' ht ht'
  by_cases z : t ≤ no
  · exact L b k v t hb hk hk' hv hv' ht z
  · have et : t = no + 1 := by omega
    have l := L b k v no hb hk hk' hv hv' hno0 (Int.le_refl _)
    have e : ∀ j, j < n → ql_ind (ql_sl ke b k) v t (R j) = ql_ind (ql_sl ke b k) v no (R j) := by
      intro j hj
      obtain ⟨⟨r1, r2, r3⟩, ⟨r4, r5⟩, r6, r7⟩ := hr j hj
      refine ql_ic ⟨fun h => ⟨h.1, h.2.1, h.2.2.1, ?_, ?_⟩, fun h => ⟨h.1, h.2.1, h.2.2.1, ?_, ?_⟩⟩
      · omega
      · have y := h.2.2.2.2
        omega
      · omega
      · have y := h.2.2.2.2
        omega
    have eg : qy_g sT sB sK sV sF sE (q + p) b k v t = qy_g sT sB sK sV sF sE (q + p) b k v no := qi_tt (fun j hj => by
      have x := (hst j hj).1
      by_cases y : j < q
      · have x2 := x.2.1 y
        omega
      · have x3 := x.2.2 (by omega)
        omega)
    rw [qs_congr (h' := fun j => ql_ind (ql_sl ke b k) v no (R j)) e, qs_congr (h := fun j => ql_wt (ql_sl ke b k) v t (R j)) (h' := fun j => ql_wt (ql_sl ke b k) v no (R j)) (fun j hj => ql_iw (e j hj)), eg]
    exact l
theorem qk_rows {ho no : Int} {R : Nat → qr_T} {n : Nat} (hr : ∀ j, j < n → ql_Row ho no (R j)) : ∀ j, j < n → ql_Row ho (no + 1) (R j) := by
  intro j hj
  obtain ⟨⟨r1, r2, r3⟩, ⟨r4, r5⟩, r6, r7⟩ := hr j hj
  refine ⟨⟨r1, r2, r3⟩, ⟨r4, by omega⟩, ?_, r7⟩
  rcases r6 with z | z
  · exact Or.inl z
  · exact Or.inr ⟨z.1, by omega⟩
end
section
def qi_Inv (ke ho ca no kp pe pf pt ro : Int32) (sl va fr tw si un sT sB sK sV sF sE : Nat → Int32) : Prop := ∃ q p n : Nat,
  ((2 ≤ ke.toInt ∧ ke.toInt ≤ 6) ∧ (8 ≤ ho.toInt ∧ ho.toInt ≤ 32) ∧ (8 ≤ ca.toInt ∧ ca.toInt ≤ 32)) ∧
  ((0 ≤ no.toInt ∧ no.toInt ≤ (q : Int)) ∧ (kp.toInt = ((q + p : Nat) : Int) ∧ kp.toInt ≤ ca.toInt) ∧ pe.toInt = (p : Int)) ∧
  (0 ≤ pf.toInt ∧ pf.toInt < pt.toInt ∧ pt.toInt ≤ ho.toInt) ∧
  (ro.toInt = (n : Int) ∧ n ≤ 3 * (q + p) ∧ qs_S (fun j => qf_c no.toInt (qr_R sl va fr tw si un j)) n ≤ 3 * q) ∧
  qi_St ke.toInt no.toInt sT sB sV q p ∧ (∀ j, j < n → ql_Row ho.toInt no.toInt (qr_R sl va fr tw si un j)) ∧ ql_Link ke.toInt ho.toInt no.toInt (qr_R sl va fr tw si un) n (qy_g sT sB sK sV sF sE (q + p))
/-- the relation: the reference's fields are the component's, and the rows answer as the statements do -/
def i_Rel (_ : Nat) (u : SX) (v : SY) : Prop := match u with
  | (fe, ke, ho, ca, no, kp, pe, pf, pt, ro, fo, lo, hi, tl, th, sl, va, fr, tw, si, un) => match v with
    | (ke2, ho2, ca2, no2, pf2, pt2, co, sT, sB, sK, sV, sF, sE) => (ke2 = ke ∧ ho2 = ho ∧ ca2 = ca ∧ no2 = no ∧ pf2 = pf ∧ pt2 = pt ∧ co = kp) ∧ qi_Inv ke ho ca no kp pe pf pt ro sl va fr tw si un sT sB sK sV sF sE
theorem qi_in {k : Nat} {fe ke ho ca no kp pe pf pt ro fo lo hi tl th : Int32} {sl va fr tw si un sT sB sK sV sF sE : Nat → Int32} (h : qi_Inv ke ho ca no kp pe pf pt ro sl va fr tw si un sT sB sK sV sF sE) : i_Rel k (fe, ke, ho, ca, no, kp, pe, pf, pt, ro, fo, lo, hi, tl, th, sl, va, fr, tw, si, un) (ke, ho, ca, no, pf, pt, kp, sT, sB, sK, sV, sF, sE) :=
  ⟨⟨rfl, rfl, rfl, rfl, rfl, rfl, rfl⟩, h⟩
theorem qi_el {k : Nat} {P : SX → SY → Prop} {u : SX} {v : SY} (h : ∀ (fe ke ho ca no kp pe pf pt ro fo lo hi tl th : Int32) (sl va fr tw si un sT sB sK sV sF sE : Nat → Int32), qi_Inv ke ho ca no kp pe pf pt ro sl va fr tw si un sT sB sK sV sF sE → P (fe, ke, ho, ca, no, kp, pe, pf, pt, ro, fo, lo, hi, tl, th, sl, va, fr, tw, si, un) (ke, ho, ca, no, pf, pt, kp, sT, sB, sK, sV, sF, sE)) (I : i_Rel k u v) : P u v := by
  obtain ⟨fe, ke, ho, ca, no, kp, pe, pf, pt, ro, fo, lo, hi, tl, th, sl, va, fr, tw, si, un⟩ := u
  obtain ⟨ke2, ho2, ca2, no2, pf2, pt2, co, sT, sB, sK, sV, sF, sE⟩ := v
  obtain ⟨⟨e1, e2, e3, e4, e5, e6, e7⟩, I⟩ := I
  subst e1
  subst e2
  subst e3
  subst e4
  subst e5
  subst e6
  subst e7
  exact h _ _ _ _ _ _ _ _ _ _ _ _ _ _ _ _ _ _ _ _ _ _ _ _ _ _ _ I
theorem i_up {k : Nat} {u : SX} {v : SY} (h : i_Rel k u v) : i_Rel (k + 5) u v := h
section
variable {fe ke ho ca no kp pe pf pt ro fo lo hi tl th co : Int32} {sl va fr tw si un sT sB sK sV sF sE : Nat → Int32} {g : ql_G} {c : Nat}
theorem qi_QK (I : qi_Inv ke ho ca no kp pe pf pt ro sl va fr tw si un sT sB sK sV sF sE) : ∃ c : Nat, qx_Q ke ho no ro sl va fr tw si un (qy_g sT sB sK sV sF sE c) ∧ qy_K ke ho no kp c ∧ (0 ≤ pf.toInt ∧ pf.toInt < pt.toInt ∧ pt.toInt ≤ ho.toInt) := by
  obtain ⟨q, p, n, ⟨⟨a1, a2⟩, ⟨a3, a4⟩, a5, a6⟩, ⟨⟨b1, b2⟩, ⟨b3, b4⟩, b5⟩, c1, ⟨d1, d2, d3⟩, e1, e2, e3⟩ := I
  have hn : ro.toInt.toNat = n := by omega
  refine ⟨q + p, ⟨⟨a1, a2⟩, ⟨a3, a4⟩, ⟨b1, by omega⟩, ⟨by omega, by omega⟩, ?_, ?_, ?_⟩, ⟨⟨b3, by omega⟩, ⟨a1, a2⟩, ⟨a3, a4⟩, b1, by omega⟩, c1⟩
  · rw [hn]
    intro j hj
    exact (e2 j hj).2.2.2
  · rw [hn]
    exact e3
  · intro k v t
    exact qi_rng e1 (by omega) (Nat.le_refl _)
theorem qx_bq {post : Int32 → Prop} {rel k t : Int32} (h0 : qx_G ke no rel k t → post 0) (h1 : ¬ qx_G ke no rel k t → post 1) : wpX_badQuery post (fe, ke, ho, ca, no, kp, pe, pf, pt, ro, fo, lo, hi, tl, th, sl, va, fr, tw, si, un) rel k t := by
  unfold wpX_badQuery wpX_badKey
  refine qa_lt rel.toInt 0 (fun a => h1 (fun h => by have y := h.1; omega)) (fun a => ?_)
  refine qa_lt 4 rel.toInt (fun b => h1 (fun h => by have y := h.1; omega)) (fun b => ?_)
  refine qa_lt k.toInt 0 (fun d => br_f (by decide) (h1 (fun h => by have y := h.2.1; omega))) (fun d => ?_)
  refine qa_lt k.toInt ke.toInt (fun e => br_t rfl ?_) (fun e => br_f (by decide) (h1 (fun h => by have y := h.2.1; omega)))
  refine qa_lt t.toInt 0 (fun f => h1 (fun h => by have y := h.2.2; omega)) (fun f => ?_)
  exact qa_le t.toInt no.toInt (fun i => h0 ⟨⟨a, b⟩, ⟨d, e⟩, f, i⟩) (fun i => h1 (fun h => by have y := h.2.2; omega))
theorem qx_guard {A B : Prop} {rel k v t : Int32} (hg : qx_G ke no rel k t → 0 ≤ v.toInt → v.toInt < ho.toInt → A) (hb : ¬ (qx_G ke no rel k t ∧ 0 ≤ v.toInt ∧ v.toInt < ho.toInt) → B) :
    wpX_badQuery (fun r_1 => ((r_1 = 0 → wpX_badInstant (fun r_2 => ((r_2 = 0 → A) ∧ (¬ r_2 = 0 → B))) (fe, ke, ho, ca, no, kp, pe, pf, pt, ro, fo, lo, hi, tl, th, sl, va, fr, tw, si, un) v) ∧ (¬ r_1 = 0 → B))) (fe, ke, ho, ca, no, kp, pe, pf, pt, ro, fo, lo, hi, tl, th, sl, va, fr, tw, si, un) rel k t := by
  refine qx_bq (fun h => br_t rfl ?_) (fun h => br_f (by decide) (hb (fun z => h z.1)))
  unfold wpX_badInstant
  refine qa_lt v.toInt 0 (fun a => br_f (by decide) (hb (fun z => by have y := z.2; omega))) (fun a => ?_)
  exact qa_lt v.toInt ho.toInt (fun b => br_t rfl (hg h a b)) (fun b => br_f (by decide) (hb (fun z => by have y := z.2; omega)))
theorem qy_guard {A B : Prop} {rel k v t : Int32} (hg : qx_G ke no rel k t → 0 ≤ v.toInt → v.toInt < ho.toInt → A) (hb : ¬ (qx_G ke no rel k t ∧ 0 ≤ v.toInt ∧ v.toInt < ho.toInt) → B) :
    wpY_badQuery (fun r_1 => ((r_1 = 0 → A) ∧ (¬ r_1 = 0 → B))) (ke, ho, ca, no, pf, pt, co, sT, sB, sK, sV, sF, sE) rel k v t := by
  unfold wpY_badQuery
  refine qa_lt rel.toInt 0 (fun a => br_f (by decide) (hb (fun z => by have y := z.1.1; omega))) (fun a => ?_)
  refine qa_lt 4 rel.toInt (fun b => br_f (by decide) (hb (fun z => by have y := z.1.1; omega))) (fun b => ?_)
  refine qa_lt k.toInt 0 (fun d => br_f (by decide) (hb (fun z => by have y := z.1.2.1; omega))) (fun d => ?_)
  refine qa_le ke.toInt k.toInt (fun e => br_f (by decide) (hb (fun z => by have y := z.1.2.1; omega))) (fun e => ?_)
  refine qa_lt v.toInt 0 (fun f => br_f (by decide) (hb (fun z => by have y := z.2; omega))) (fun f => ?_)
  refine qa_le ho.toInt v.toInt (fun i => br_f (by decide) (hb (fun z => by have y := z.2; omega))) (fun i => ?_)
  refine qa_lt t.toInt 0 (fun j => br_f (by decide) (hb (fun z => by have y := z.1.2.2; omega))) (fun j => ?_)
  exact qa_le t.toInt no.toInt (fun l => br_t rfl (hg ⟨⟨a, b⟩, ⟨d, e⟩, j, l⟩ f i)) (fun l => br_f (by decide) (hb (fun z => by have y := z.1.2.2; omega)))
def qi_ok (ke b k v : Int) : Prop := (b = 0 ∨ b = 1) ∧ (0 ≤ k ∧ k < ke) ∧ 0 ≤ v ∧ (b = 0 → v ≤ 999) ∧ (b = 1 → v < ke)
theorem qx_r28 {post : Int32 → Prop} {k v z : Int32} (h0 : (0 ≤ k.toInt ∧ k.toInt < ke.toInt) → 0 ≤ v.toInt → v.toInt ≤ z.toInt → kp.toInt < ca.toInt → post 0) (h3 : (0 ≤ k.toInt ∧ k.toInt < ke.toInt) → 0 ≤ v.toInt → v.toInt ≤ z.toInt → ca.toInt ≤ kp.toInt → post (-3))
    (h2 : ¬ ((0 ≤ k.toInt ∧ k.toInt < ke.toInt) ∧ 0 ≤ v.toInt ∧ v.toInt ≤ z.toInt) → post (-2)) : wX_refusal_28 post k v z fe ke ho ca no kp pe pf pt ro fo lo hi tl th sl va fr tw si un := by
  unfold wX_refusal_28 wpX_badKey
  refine qa_lt k.toInt 0 (fun a => br_f (by decide) (h2 (fun h => by have y := h.1; omega))) (fun a => ?_)
  refine qa_lt k.toInt ke.toInt (fun b => br_t rfl ?_) (fun b => br_f (by decide) (h2 (fun h => by have y := h.1; omega)))
  refine qa_lt v.toInt 0 (fun d => h2 (fun h => by have y := h.2; omega)) (fun d => ?_)
  refine qa_le v.toInt z.toInt (fun e => ?_) (fun e => h2 (fun h => by have y := h.2; omega))
  exact qa_lt kp.toInt ca.toInt (fun f => h0 ⟨a, b⟩ d e f) (fun f => h3 ⟨a, b⟩ d e f)
theorem qx_ref {post : Int32 → Prop} {b k v : Int32} (hk2 : 2 ≤ ke.toInt) (hk6 : ke.toInt ≤ 6) (h0 : qi_ok ke.toInt b.toInt k.toInt v.toInt → kp.toInt < ca.toInt → post 0) (h3 : qi_ok ke.toInt b.toInt k.toInt v.toInt → ca.toInt ≤ kp.toInt → post (-3)) (h2 : ¬ qi_ok ke.toInt b.toInt k.toInt v.toInt → post (-2)) : wpX_refusal post (fe, ke, ho, ca, no, kp, pe, pf, pt, ro, fo, lo, hi, tl, th, sl, va, fr, tw, si, un) b k v := by
  have e9 : (999 : Int32).toInt = 999 := by decide
  have ek : (ke - 1).toInt = ke.toInt - 1 := qa_m (by omega)
  unfold wpX_refusal wX_refusal_12
  refine qa_eq b.toInt 0 (fun a => ?_) (fun a => ?_)
  · refine br_t (qa_toI (by rw [a, qa_0])) ?_
    refine qx_r28 (fun p q r s => h0 ⟨Or.inl a, p, q, fun _ => by omega, fun z => by omega⟩ s) (fun p q r s => h3 ⟨Or.inl a, p, q, fun _ => by omega, fun z => by omega⟩ s) (fun n => h2 (fun z => n ⟨z.2.1, z.2.2.1, ?_⟩))
    have y := z.2.2.2.1 a
    omega
  · refine qa_eq b.toInt 1 (fun d => ?_) (fun d => h2 (fun z => z.1.elim a d))
    refine br_f (fun z => a (by rw [z, qa_0])) ?_
    refine qx_r28 (fun p q r s => h0 ⟨Or.inr d, p, q, fun z => by omega, fun z => by omega⟩ s) (fun p q r s => h3 ⟨Or.inr d, p, q, fun z => by omega, fun z => by omega⟩ s) (fun n => h2 (fun z => n ⟨z.2.1, z.2.2.1, ?_⟩))
    have y := z.2.2.2.2 d
    omega
theorem qy_ref {post : Int32 → Prop} {b k v : Int32} (h0 : qi_ok ke.toInt b.toInt k.toInt v.toInt → co.toInt < ca.toInt → post 0) (h3 : qi_ok ke.toInt b.toInt k.toInt v.toInt → ca.toInt ≤ co.toInt → post (-3)) (h2 : ¬ qi_ok ke.toInt b.toInt k.toInt v.toInt → post (-2)) : wpY_refuse post (ke, ho, ca, no, pf, pt, co, sT, sB, sK, sV, sF, sE) b k v := by
  have e9 : (999 : Int32).toInt = 999 := by decide
  unfold wpY_refuse wY_refuse_12 wY_refuse_48 wY_refuse_64
  refine qa_eq b.toInt 0 (fun a => ?_) (fun a => ?_)
  · refine qa_lt k.toInt 0 (fun d => h2 (fun z => by have y := z.2.1; omega)) (fun d => ?_)
    refine qa_lt k.toInt ke.toInt (fun e => ?_) (fun e => h2 (fun z => by have y := z.2.1; omega))
    refine qa_le 0 v.toInt (fun f => ?_) (fun f => h2 (fun z => by have y := z.2.2.1; omega))
    refine br_t (qa_toI (by rw [a, qa_0])) ?_
    refine qa_le v.toInt 999 (fun i => ?_) (fun i => h2 (fun z => by have y := z.2.2.2.1 a; omega))
    refine br_f (fun z => by rw [z, qa_1] at a; omega) ?_
    have ok : qi_ok ke.toInt b.toInt k.toInt v.toInt := ⟨Or.inl a, ⟨d, e⟩, f, fun _ => i, fun z => by omega⟩
    exact qa_lt co.toInt ca.toInt (fun j => h0 ok j) (fun j => h3 ok j)
  · refine qa_eq b.toInt 1 (fun a1 => ?_) (fun d => h2 (fun z => z.1.elim a d))
    refine qa_lt k.toInt 0 (fun d => h2 (fun z => by have y := z.2.1; omega)) (fun d => ?_)
    refine qa_lt k.toInt ke.toInt (fun e => ?_) (fun e => h2 (fun z => by have y := z.2.1; omega))
    refine qa_le 0 v.toInt (fun f => ?_) (fun f => h2 (fun z => by have y := z.2.2.1; omega))
    refine br_f (fun z => a (by rw [z, qa_0])) ?_
    refine br_t (qa_toI (by rw [a1, qa_1])) ?_
    refine qa_lt v.toInt ke.toInt (fun i => ?_) (fun i => h2 (fun z => by have y := z.2.2.2.2 a1; omega))
    have ok : qi_ok ke.toInt b.toInt k.toInt v.toInt := ⟨Or.inr a1, ⟨d, e⟩, f, fun z => by omega, fun _ => i⟩
    exact qa_lt co.toInt ca.toInt (fun j => h0 ok j) (fun j => h3 ok j)
theorem qy_keep {post : Int32 → SY → Prop} {b k v : Int32} (hc : co.toInt = (c : Int)) (hc32 : c < 32) (H : post 0 (ke, ho, ca, no, pf, pt, co + 1, upd sT c no, upd sB c b, upd sK c k, upd sV c v, upd sF c pf, upd sE c pt)) : wpY_keep post (ke, ho, ca, no, pf, pt, co, sT, sB, sK, sV, sF, sE) b k v := by
  have hcl : co.toNatClampNeg = c := qa_cl hc
  have hin : vp_in co 32 := qa_in (by omega) (by omega)
  unfold wpY_keep
  dsimp only
  rw [hcl]
  refine qa_lt co.toInt 32 (fun _ => ?_) (fun z => by omega)
  exact ⟨hin, nm_e ⟨hin, nm_e ⟨hin, nm_e ⟨hin, nm_e ⟨hin, nm_e ⟨hin, nm_e (nm_e H)⟩⟩⟩⟩⟩⟩
theorem qz_f01 {rel k t : Int32} (hb : rel.toInt = 0 ∨ rel.toInt = 1) : qz_f ke g rel k t = fun w => g rel.toInt k.toInt w t.toInt := by
  funext w
  unfold qz_f
  rcases hb with z | z
  · rw [z, ql_row0]
  · rw [z, ql_row1]
theorem qx_cov {post : Int32 → Prop} {b k : Int32} {n : Nat} (hN : ro.toInt = (n : Int)) (hN9 : n ≤ 96) (hno0 : 0 ≤ no.toInt) (hno : no.toInt ≤ 32) (hho : ho.toInt ≤ 32) (hke0 : 2 ≤ ke.toInt) (hke : ke.toInt ≤ 6) (hp : 0 ≤ pf.toInt ∧ pf.toInt < pt.toInt ∧ pt.toInt ≤ ho.toInt)
    (hb : b.toInt = 0 ∨ b.toInt = 1) (hk : 0 ≤ k.toInt ∧ k.toInt < ke.toInt)
    (hr : ∀ j, j < n → ql_Row ho.toInt no.toInt (qr_R sl va fr tw si un j)) (L : ql_Link ke.toInt ho.toInt no.toInt (qr_R sl va fr tw si un) n g)
    (H : ∀ r : Int32, r.toInt = ((qs_S (qz_c (qz_f ke g b k no) pf.toInt) (pt.toInt - pf.toInt).toNat : Nat) : Int) → post r) : wpX_covered post (fe, ke, ho, ca, no, kp, pe, pf, pt, ro, fo, lo, hi, tl, th, sl, va, fr, tw, si, un) (b * ke + k) := by
  have es : ((b * ke) + k).toInt = ql_sl ke.toInt b.toInt k.toInt := qa_slot hb hk.1 (by omega) (by omega) (by omega)
  have hm : pt.toInt = pf.toInt + ((pt.toInt - pf.toInt).toNat : Int) := by omega
  unfold wpX_covered
  refine ⟨97, qx_cov4 hN hN9 hm (by omega) (by omega) hr (fun r e => H r ?_) 97 0 0 0 qa_0 (by omega) (by omega) qa_0⟩
  rw [es] at e
  rw [e, qz_f01 hb, qv_cov (fun j hj => (hr j hj).2.2.2) L hb hk.1 hk.2 hp.1 (by omega) hno0]
/-- the new state after a statement -/
theorem qi_stmt {b k V ro' : Int32} {sl' va' fr' tw' si' un' : Nat → Int32} {q p n n' : Nat}
    (ha : (2 ≤ ke.toInt ∧ ke.toInt ≤ 6) ∧ (8 ≤ ho.toInt ∧ ho.toInt ≤ 32) ∧ (8 ≤ ca.toInt ∧ ca.toInt ≤ 32))
    (hb : (0 ≤ no.toInt ∧ no.toInt ≤ (q : Int)) ∧ (kp.toInt = ((q + p : Nat) : Int) ∧ kp.toInt ≤ ca.toInt) ∧ pe.toInt = (p : Int))
    (hp : 0 ≤ pf.toInt ∧ pf.toInt < pt.toInt ∧ pt.toInt ≤ ho.toInt)
    (hd : ro.toInt = (n : Int) ∧ n ≤ 3 * (q + p) ∧ qs_S (fun j => qf_c no.toInt (qr_R sl va fr tw si un j)) n ≤ 3 * q)
    (hst : qi_St ke.toInt no.toInt sT sB sV q p) (hr : ∀ j, j < n → ql_Row ho.toInt no.toInt (qr_R sl va fr tw si un j)) (L : ql_Link ke.toInt ho.toInt no.toInt (qr_R sl va fr tw si un) n (qy_g sT sB sK sV sF sE (q + p)))
    (hB : b.toInt = 0 ∨ b.toInt = 1) (hk : 0 ≤ k.toInt ∧ k.toInt < ke.toInt) (hV : -1 ≤ V.toInt) (hV1 : b.toInt = 1 → V.toInt < ke.toInt) (hroom : kp.toInt < ca.toInt)
    (hro : ro'.toInt = (n' : Int)) (hn' : n' ≤ n + 3)
    (hS : ∀ f : qr_T → Nat, qs_S (fun j => f (qr_R sl' va' fr' tw' si' un' j)) n' = qs_S (fun j => qc_G f (ql_sl ke.toInt b.toInt k.toInt) no.toInt pf.toInt pt.toInt (qr_R sl va fr tw si un j)) n + qp_X (ql_sl ke.toInt b.toInt k.toInt) V.toInt no.toInt pf.toInt pt.toInt f) :
    qi_Inv ke ho ca no (kp + 1) (pe + 1) pf pt ro' sl' va' fr' tw' si' un' (upd sT (q + p) no) (upd sB (q + p) b) (upd sK (q + p) k) (upd sV (q + p) V) (upd sF (q + p) pf) (upd sE (q + p) pt) := by
  obtain ⟨⟨a1, a2⟩, ⟨a3, a4⟩, a5, a6⟩ := ha
  obtain ⟨⟨b1, b2⟩, ⟨b3, b4⟩, b5⟩ := hb
  obtain ⟨c1, c2, c3⟩ := hp
  obtain ⟨d1, d2, d3⟩ := hd
  have hno : no.toInt < 2147483647 := by omega
  refine ⟨q, p + 1, n', ⟨⟨a1, a2⟩, ⟨a3, a4⟩, a5, a6⟩, ⟨⟨b1, b2⟩, ⟨?_, ?_⟩, ?_⟩, ⟨c1, c2, c3⟩, ⟨hro, by omega, ?_⟩, ?_, ?_, ?_⟩
  · rw [qa_s (by omega)]
    omega
  · rw [qa_s (by omega)]
    omega
  · rw [qa_s (by omega)]
    omega
  · rw [qp_cnt hr hS]
    exact d3
  · intro i hi
    by_cases z : i = q + p
    · subst z
      rw [qu_s, qu_s, qu_s]
      exact ⟨⟨b1, fun y => by omega, fun _ => rfl⟩, hV, hV1⟩
    · rw [qu_n z, qu_n z, qu_n z]
      exact hst i (by omega)
  · exact qp_rows (ke := ke.toInt) hV c1 c2 c3 b1 hr hS
  · refine qp_link hno hB hk.1 hk.2 hV c1 c2 c3 hr L hS ?_ ?_
    · intro b' k' v t h1 h2 h3 h4 h5
      exact qy_new1 ⟨h1, h2, h3, h4, h5⟩
    · intro b' k' v t h
      exact qy_new0 h
end
end
section
theorem i_vc_at {k : Nat} {u : SX} {v : SY} (I : i_Rel k u v) (hk : k + 5 ≤ 2563) (v1 : Int32) (v2 : Int32) (v3 : Int32) (v4 : Int32) : wpX_at (fun r u' => wpY_at (fun r' => r' = r ∧ i_Rel (k + 5) u' v) v v1 v2 v3 v4) u v1 v2 v3 v4 := by
  refine qi_el (P := fun u v => wpX_at (fun r u' => wpY_at (fun r' => r' = r ∧ i_Rel (k + 5) u' v) v v1 v2 v3 v4) u v1 v2 v3 v4) ?_ I
  intro fe ke ho ca no kp pe pf pt ro fo lo hi tl th sl va fr tw si un sT sB sK sV sF sE I
  obtain ⟨c, Q, K, hp⟩ := qi_QK I
  have fin : ∀ fo' lo' hi' tl' th' : Int32, i_Rel (k + 5) (fe, ke, ho, ca, no, kp, pe, pf, pt, ro, fo', lo', hi', tl', th', sl, va, fr, tw, si, un) (ke, ho, ca, no, pf, pt, kp, sT, sB, sK, sV, sF, sE) := fun _ _ _ _ _ => qi_in I
  have hho := Q.2.1
  unfold wpX_at
  refine qx_guard (fun g1 g2 g3 => ?_) (fun hb => ?_)
  · refine qx_pv Q g1 g2 g3 (fun fo' lo' hi' tl' th' f1 f2 f3 f4 => ?_)
    unfold wpY_at
    refine qy_guard (fun _ _ _ => ?_) (fun hb => absurd ⟨g1, g2, g3⟩ hb)
    exact qy_row K g1.1.1 g1.1.2 (fun r' e => ⟨qa_toI (e.trans f1.symm), fin _ _ _ _ _⟩)
  · unfold wpY_at
    exact qy_guard (fun a b c => absurd ⟨a, b, c⟩ hb) (fun _ => ⟨rfl, fin _ _ _ _ _⟩)
theorem i_vc_start {k : Nat} {u : SX} {v : SY} (I : i_Rel k u v) (hk : k + 5 ≤ 2563) (v1 : Int32) (v2 : Int32) (v3 : Int32) (v4 : Int32) : wpX_start (fun r u' => wpY_start (fun r' => r' = r ∧ i_Rel (k + 5) u' v) v v1 v2 v3 v4) u v1 v2 v3 v4 := by
  refine qi_el (P := fun u v => wpX_start (fun r u' => wpY_start (fun r' => r' = r ∧ i_Rel (k + 5) u' v) v v1 v2 v3 v4) u v1 v2 v3 v4) ?_ I
  intro fe ke ho ca no kp pe pf pt ro fo lo hi tl th sl va fr tw si un sT sB sK sV sF sE I
  obtain ⟨c, Q, K, hp⟩ := qi_QK I
  have fin : ∀ fo' lo' hi' tl' th' : Int32, i_Rel (k + 5) (fe, ke, ho, ca, no, kp, pe, pf, pt, ro, fo', lo', hi', tl', th', sl, va, fr, tw, si, un) (ke, ho, ca, no, pf, pt, kp, sT, sB, sK, sV, sF, sE) := fun _ _ _ _ _ => qi_in I
  have hho := Q.2.1
  unfold wpX_start
  refine qx_guard (fun g1 g2 g3 => ?_) (fun hb => ?_)
  · refine qx_pv Q g1 g2 g3 (fun fo' lo' hi' tl' th' f1 f2 f3 f4 => ?_)
    refine qa_eq _ (-1) (fun a => ?_) (fun a => ⟨33, ?_⟩) rfl qa_m1
    · unfold wpY_start
      refine qy_guard (fun _ _ _ => ?_) (fun hb => absurd ⟨g1, g2, g3⟩ hb)
      refine qy_row K g1.1.1 g1.1.2 (fun r' e => ?_)
      exact br_t (qa_toI ((e.trans f1.symm).trans (a.trans qa_m1.symm))) ⟨rfl, fin _ _ _ _ _⟩
    · refine qx_start Q g1 g2 g3 f1 (fun r fo2 lo2 hi2 tl2 th2 sp => ?_) 33 lo' 0 fo' lo' hi' tl' th' f2.1 f2.2 (fun w p q => f4 w p (by omega)) (by decide) (by rw [qa_0]; omega) (by omega)
      unfold wpY_start
      refine qy_guard (fun _ _ _ => ?_) (fun hb => absurd ⟨g1, g2, g3⟩ hb)
      refine qy_row K g1.1.1 g1.1.2 (fun r' e => ?_)
      refine br_f (fun z => a (by rw [f1, ← qa_m1, ← z]; exact e.symm)) ⟨33, ?_⟩
      exact qy_start K g1.1.1 g1.1.2 g2 g3 e (fun r2 sp2 => ⟨qa_toI (qz_StU sp2 sp), fin _ _ _ _ _⟩) 33 0 0 (by decide) (by omega) (by rw [qa_0]; omega) (by rw [qa_0]; omega) (fun y p q => by omega) (Or.inl qa_0)
  · unfold wpY_start
    exact qy_guard (fun a b c => absurd ⟨a, b, c⟩ hb) (fun _ => ⟨rfl, fin _ _ _ _ _⟩)
theorem i_vc_end {k : Nat} {u : SX} {v : SY} (I : i_Rel k u v) (hk : k + 5 ≤ 2563) (v1 : Int32) (v2 : Int32) (v3 : Int32) (v4 : Int32) : wpX_end (fun r u' => wpY_end (fun r' => r' = r ∧ i_Rel (k + 5) u' v) v v1 v2 v3 v4) u v1 v2 v3 v4 := by
  refine qi_el (P := fun u v => wpX_end (fun r u' => wpY_end (fun r' => r' = r ∧ i_Rel (k + 5) u' v) v v1 v2 v3 v4) u v1 v2 v3 v4) ?_ I
  intro fe ke ho ca no kp pe pf pt ro fo lo hi tl th sl va fr tw si un sT sB sK sV sF sE I
  obtain ⟨c, Q, K, hp⟩ := qi_QK I
  have fin : ∀ fo' lo' hi' tl' th' : Int32, i_Rel (k + 5) (fe, ke, ho, ca, no, kp, pe, pf, pt, ro, fo', lo', hi', tl', th', sl, va, fr, tw, si, un) (ke, ho, ca, no, pf, pt, kp, sT, sB, sK, sV, sF, sE) := fun _ _ _ _ _ => qi_in I
  have hho := Q.2.1
  unfold wpX_end
  refine qx_guard (fun g1 g2 g3 => ?_) (fun hb => ?_)
  · refine qx_pv Q g1 g2 g3 (fun fo' lo' hi' tl' th' f1 f2 f3 f4 => ?_)
    refine qa_eq _ (-1) (fun a => ?_) (fun a => ⟨33, ?_⟩) rfl qa_m1
    · unfold wpY_end
      refine qy_guard (fun _ _ _ => ?_) (fun hb => absurd ⟨g1, g2, g3⟩ hb)
      refine qy_row K g1.1.1 g1.1.2 (fun r' e => ?_)
      exact br_t (qa_toI ((e.trans f1.symm).trans (a.trans qa_m1.symm))) ⟨rfl, fin _ _ _ _ _⟩
    · refine qx_end Q g1 g2 g3 f1 (fun r fo2 lo2 hi2 tl2 th2 sp => ?_) 33 hi' 0 fo' lo' hi' tl' th' f3.1 f3.2 (fun w p q => f4 w (by omega) q) (by decide) (by rw [qa_0]; omega) (by omega)
      unfold wpY_end
      refine qy_guard (fun _ _ _ => ?_) (fun hb => absurd ⟨g1, g2, g3⟩ hb)
      refine qy_row K g1.1.1 g1.1.2 (fun r' e => ?_)
      refine br_f (fun z => a (by rw [f1, ← qa_m1, ← z]; exact e.symm)) (fun y ey => ⟨33, ?_⟩)
      have hy : y.toInt = v3.toInt + 1 := by
        rw [ey]
        exact qa_s (by omega)
      clear ey
      refine qy_end K g1.1.1 g1.1.2 g2 g3 e (fun r2 sp2 => ⟨qa_toI (qz_EnU sp2 sp), fin _ _ _ _ _⟩) 33 y (by omega) (by omega) (by omega) (fun w p q => ?_)
      rw [show w = v3.toInt by omega]
  · unfold wpY_end
    exact qy_guard (fun a b c => absurd ⟨a, b, c⟩ hb) (fun _ => ⟨rfl, fin _ _ _ _ _⟩)
theorem i_vc_next {k : Nat} {u : SX} {v : SY} (I : i_Rel k u v) (hk : k + 5 ≤ 2563) (v1 : Int32) (v2 : Int32) (v3 : Int32) (v4 : Int32) : wpX_next (fun r u' => wpY_next (fun r' => r' = r ∧ i_Rel (k + 5) u' v) v v1 v2 v3 v4) u v1 v2 v3 v4 := by
  refine qi_el (P := fun u v => wpX_next (fun r u' => wpY_next (fun r' => r' = r ∧ i_Rel (k + 5) u' v) v v1 v2 v3 v4) u v1 v2 v3 v4) ?_ I
  intro fe ke ho ca no kp pe pf pt ro fo lo hi tl th sl va fr tw si un sT sB sK sV sF sE I
  obtain ⟨c, Q, K, hp⟩ := qi_QK I
  have fin : ∀ fo' lo' hi' tl' th' : Int32, i_Rel (k + 5) (fe, ke, ho, ca, no, kp, pe, pf, pt, ro, fo', lo', hi', tl', th', sl, va, fr, tw, si, un) (ke, ho, ca, no, pf, pt, kp, sT, sB, sK, sV, sF, sE) := fun _ _ _ _ _ => qi_in I
  have hho := Q.2.1
  unfold wpX_next
  refine qx_guard (fun g1 g2 g3 => ?_) (fun hb => ?_)
  · refine qx_first Q g1 g2 g3 (fun r fo2 lo2 hi2 tl2 th2 sp => ?_)
    unfold wpY_next
    refine qy_guard (fun _ _ _ => ⟨33, ?_⟩) (fun hb => absurd ⟨g1, g2, g3⟩ hb)
    exact qy_next K g1.1.1 g1.1.2 g2 (fun r2 sp2 => ⟨qa_toI (qz_NxU sp2 sp), fin _ _ _ _ _⟩) 33 v3 (by omega) (by omega) (by omega) (fun y p q => by omega)
  · unfold wpY_next
    exact qy_guard (fun a b c => absurd ⟨a, b, c⟩ hb) (fun _ => ⟨rfl, fin _ _ _ _ _⟩)
theorem i_vc_since {k : Nat} {u : SX} {v : SY} (I : i_Rel k u v) (hk : k + 5 ≤ 2563) (v1 : Int32) (v2 : Int32) (v3 : Int32) (v4 : Int32) : wpX_since (fun r u' => wpY_since (fun r' => r' = r ∧ i_Rel (k + 5) u' v) v v1 v2 v3 v4) u v1 v2 v3 v4 := by
  refine qi_el (P := fun u v => wpX_since (fun r u' => wpY_since (fun r' => r' = r ∧ i_Rel (k + 5) u' v) v v1 v2 v3 v4) u v1 v2 v3 v4) ?_ I
  intro fe ke ho ca no kp pe pf pt ro fo lo hi tl th sl va fr tw si un sT sB sK sV sF sE I
  obtain ⟨c, Q, K, hp⟩ := qi_QK I
  have fin : ∀ fo' lo' hi' tl' th' : Int32, i_Rel (k + 5) (fe, ke, ho, ca, no, kp, pe, pf, pt, ro, fo', lo', hi', tl', th', sl, va, fr, tw, si, un) (ke, ho, ca, no, pf, pt, kp, sT, sB, sK, sV, sF, sE) := fun _ _ _ _ _ => qi_in I
  have hho := Q.2.1
  have hno := Q.2.2.1
  unfold wpX_since
  refine qx_guard (fun g1 g2 g3 => ?_) (fun hb => ?_)
  · have g4 := g1.2.2
    refine qx_pt Q g1 g2 g3 (fun fo' lo' hi' tl' th' f1 f2 f3 f4 => ?_)
    refine ⟨34, ?_⟩
    refine qx_since Q g1 g2 g3 f1 (fun r fo2 lo2 hi2 tl2 th2 sp => ?_) 34 tl' 0 fo' lo' hi' tl' th' f2.1 f2.2 (fun w p q => f4 w p (by omega)) (by decide) (by rw [qa_0]; omega) (by omega)
    unfold wpY_since
    refine qy_guard (fun _ _ _ => ?_) (fun hb => absurd ⟨g1, g2, g3⟩ hb)
    refine qy_row K g1.1.1 g1.1.2 (fun r' e => ⟨34, ?_⟩)
    exact qy_since K g1.1.1 g1.1.2 g4.1 g4.2 e (fun r2 sp2 => ⟨qa_toI (qz_StU sp2 sp), fin _ _ _ _ _⟩) 34 0 0 (by decide) (by omega) (by rw [qa_0]; omega) (by rw [qa_0]; omega) (fun y p q => by omega) (Or.inl qa_0)
  · unfold wpY_since
    exact qy_guard (fun a b c => absurd ⟨a, b, c⟩ hb) (fun _ => ⟨rfl, fin _ _ _ _ _⟩)
theorem i_vc_until {k : Nat} {u : SX} {v : SY} (I : i_Rel k u v) (hk : k + 5 ≤ 2563) (v1 : Int32) (v2 : Int32) (v3 : Int32) (v4 : Int32) : wpX_until (fun r u' => wpY_until (fun r' => r' = r ∧ i_Rel (k + 5) u' v) v v1 v2 v3 v4) u v1 v2 v3 v4 := by
  refine qi_el (P := fun u v => wpX_until (fun r u' => wpY_until (fun r' => r' = r ∧ i_Rel (k + 5) u' v) v v1 v2 v3 v4) u v1 v2 v3 v4) ?_ I
  intro fe ke ho ca no kp pe pf pt ro fo lo hi tl th sl va fr tw si un sT sB sK sV sF sE I
  obtain ⟨c, Q, K, hp⟩ := qi_QK I
  have fin : ∀ fo' lo' hi' tl' th' : Int32, i_Rel (k + 5) (fe, ke, ho, ca, no, kp, pe, pf, pt, ro, fo', lo', hi', tl', th', sl, va, fr, tw, si, un) (ke, ho, ca, no, pf, pt, kp, sT, sB, sK, sV, sF, sE) := fun _ _ _ _ _ => qi_in I
  have hho := Q.2.1
  have hno := Q.2.2.1
  unfold wpX_until
  refine qx_guard (fun g1 g2 g3 => ?_) (fun hb => ?_)
  · have g4 := g1.2.2
    refine qx_pt Q g1 g2 g3 (fun fo' lo' hi' tl' th' f1 f2 f3 f4 => ?_)
    refine ⟨34, ?_⟩
    refine qx_until Q g1 g2 g3 f1 (fun r fo2 lo2 hi2 tl2 th2 sp => ?_) 34 th' 0 fo' lo' hi' tl' th' f3.1 f3.2 (fun w p q => f4 w (by omega) q) (by decide) (by rw [qa_0]; omega) (by omega)
    unfold wpY_until
    refine qy_guard (fun _ _ _ => ?_) (fun hb => absurd ⟨g1, g2, g3⟩ hb)
    refine qy_row K g1.1.1 g1.1.2 (fun r' e y ey => ⟨34, ?_⟩)
    have hy : y.toInt = v4.toInt + 1 := by
      rw [ey]
      exact qa_s (by omega)
    clear ey
    refine qy_until K g1.1.1 g1.1.2 g4.1 g4.2 e (fun r2 sp2 => ⟨qa_toI (qz_EnU sp2 sp), fin _ _ _ _ _⟩) 34 y (by omega) (by omega) (by omega) (fun w p q => ?_)
    rw [show w = v4.toInt by omega]
  · unfold wpY_until
    exact qy_guard (fun a b c => absurd ⟨a, b, c⟩ hb) (fun _ => ⟨rfl, fin _ _ _ _ _⟩)
theorem i_vc_periods {k : Nat} {u : SX} {v : SY} (I : i_Rel k u v) (hk : k + 5 ≤ 2563) (v1 : Int32) (v2 : Int32) (v3 : Int32) : wpX_periods (fun r u' => wpY_periods (fun r' => r' = r ∧ i_Rel (k + 5) u' v) v v1 v2 v3) u v1 v2 v3 := by
  refine qi_el (P := fun u v => wpX_periods (fun r u' => wpY_periods (fun r' => r' = r ∧ i_Rel (k + 5) u' v) v v1 v2 v3) u v1 v2 v3) ?_ I
  intro fe ke ho ca no kp pe pf pt ro fo lo hi tl th sl va fr tw si un sT sB sK sV sF sE I
  obtain ⟨c, Q, K, hp⟩ := qi_QK I
  have fin : ∀ fo' lo' hi' tl' th' : Int32, i_Rel (k + 5) (fe, ke, ho, ca, no, kp, pe, pf, pt, ro, fo', lo', hi', tl', th', sl, va, fr, tw, si, un) (ke, ho, ca, no, pf, pt, kp, sT, sB, sK, sV, sF, sE) := fun _ _ _ _ _ => qi_in I
  have hho := Q.2.1
  have h0 : (0 : Int32).toInt < ho.toInt := by
    rw [qa_0]
    omega
  unfold wpX_periods
  refine qx_bq (fun g1 => br_t rfl ⟨33, ?_⟩) (fun hb => br_f (by decide) ?_)
  · refine qx_periods Q g1 (fun r fo2 lo2 hi2 tl2 th2 sp => ?_) 33 0 0 (-1) 0 0 fo lo hi tl th qa_0 (by rw [qa_0]; omega) qa_0 (fun _ => qa_m1) (fun h => absurd rfl h) (by decide) (by decide) (by rw [qa_0]; omega)
    unfold wpY_periods
    refine qy_guard (fun _ _ _ => ⟨33, ?_⟩) (fun hb => absurd ⟨g1, by decide, h0⟩ hb)
    exact qy_periods K g1.1.1 g1.1.2 (fun r2 sp2 => ⟨qa_toI (sp2.trans sp.symm), fin _ _ _ _ _⟩) 33 0 0 0 qa_0 (by rw [qa_0]; omega) (by rw [qa_0]; omega) qa_0
  · unfold wpY_periods
    exact qy_guard (fun a _ _ => absurd a hb) (fun _ => ⟨rfl, fin _ _ _ _ _⟩)
theorem i_vc_duration {k : Nat} {u : SX} {v : SY} (I : i_Rel k u v) (hk : k + 5 ≤ 2563) (v1 : Int32) (v2 : Int32) (v3 : Int32) : wpX_duration (fun r u' => wpY_duration (fun r' => r' = r ∧ i_Rel (k + 5) u' v) v v1 v2 v3) u v1 v2 v3 := by
  refine qi_el (P := fun u v => wpX_duration (fun r u' => wpY_duration (fun r' => r' = r ∧ i_Rel (k + 5) u' v) v v1 v2 v3) u v1 v2 v3) ?_ I
  intro fe ke ho ca no kp pe pf pt ro fo lo hi tl th sl va fr tw si un sT sB sK sV sF sE I
  obtain ⟨c, Q, K, hp⟩ := qi_QK I
  have fin : ∀ fo' lo' hi' tl' th' : Int32, i_Rel (k + 5) (fe, ke, ho, ca, no, kp, pe, pf, pt, ro, fo', lo', hi', tl', th', sl, va, fr, tw, si, un) (ke, ho, ca, no, pf, pt, kp, sT, sB, sK, sV, sF, sE) := fun _ _ _ _ _ => qi_in I
  have hho := Q.2.1
  have h0 : (0 : Int32).toInt < ho.toInt := by
    rw [qa_0]
    omega
  unfold wpX_duration
  refine qx_bq (fun g1 => br_t rfl ⟨33, ?_⟩) (fun hb => br_f (by decide) ?_)
  · refine qx_dur Q g1 hp.1 hp.2.1 hp.2.2 (fun r fo2 lo2 hi2 tl2 th2 sp => ?_) 33 0 0 pf 0 fo lo hi tl th (by omega) (by omega) qa_0 (by decide) (by decide) (by omega)
    unfold wpY_duration
    refine qy_guard (fun _ _ _ => ?_) (fun hb => absurd ⟨g1, by decide, h0⟩ hb)
    exact qy_cov K g1.1.1 g1.1.2 hp.1 hp.2.1 hp.2.2 (fun r2 sp2 => ⟨qa_toI (sp2.trans sp.symm), fin _ _ _ _ _⟩)
  · unfold wpY_duration
    exact qy_guard (fun a _ _ => absurd a hb) (fun _ => ⟨rfl, fin _ _ _ _ _⟩)
end
section
def qi_cl (p a b r : Int32) : Prop := (a ≤ p ∧ p ≤ b ∧ r = p) ∨ (a ≤ p ∧ ¬ p ≤ b ∧ r = b) ∨ (¬ a ≤ p ∧ r = a)
theorem qx_clamp {fe ke ho ca no kp pe pf pt ro fo lo hi tl th : Int32} {sl va fr tw si un : Nat → Int32} {post : Int32 → Prop} {p a b : Int32} (H : ∀ r : Int32, qi_cl p a b r → post r) : wpX_clamp post (fe, ke, ho, ca, no, kp, pe, pf, pt, ro, fo, lo, hi, tl, th, sl, va, fr, tw, si, un) p a b := by
  unfold wpX_clamp
  exact ⟨fun h => ⟨fun h2 => H p (Or.inl ⟨h, h2, rfl⟩), fun h2 => H b (Or.inr (Or.inl ⟨h, h2, rfl⟩))⟩, fun h => H a (Or.inr (Or.inr ⟨h, rfl⟩))⟩
theorem qy_clamp {P : Int32 → Prop} {p a b r : Int32} (h : qi_cl p a b r) (H : P r) : (a ≤ p → ((p ≤ b → P p) ∧ (¬ p ≤ b → P b))) ∧ (¬ a ≤ p → P a) := by
  rcases h with ⟨h1, h2, h3⟩ | ⟨h1, h2, h3⟩ | ⟨h1, h3⟩
  · subst h3
    exact br_t h1 (br_t h2 H)
  · subst h3
    exact br_t h1 (br_f h2 H)
  · subst h3
    exact br_f h1 H
theorem qi_clr {p a b r : Int32} (h : qi_cl p a b r) (hab : a.toInt ≤ b.toInt) : a.toInt ≤ r.toInt ∧ r.toInt ≤ b.toInt := by
  rcases h with ⟨h1, h2, h3⟩ | ⟨h1, h2, h3⟩ | ⟨h1, h3⟩
  · subst h3
    exact ⟨Int32.le_iff_toInt_le.mp h1, Int32.le_iff_toInt_le.mp h2⟩
  · subst h3
    exact ⟨hab, Int.le_refl _⟩
  · subst h3
    exact ⟨Int.le_refl _, hab⟩
theorem qi_0 {ke ho ca : Int32} (h1 : 2 ≤ ke.toInt ∧ ke.toInt ≤ 6) (h2 : 8 ≤ ho.toInt ∧ ho.toInt ≤ 32) (h3 : 8 ≤ ca.toInt ∧ ca.toInt ≤ 32) : qi_Inv ke ho ca 0 0 0 0 ho 0 (fun _ => 0) (fun _ => 0) (fun _ => 0) (fun _ => 0) (fun _ => 0) (fun _ => 0) (fun _ => 0) (fun _ => 0) (fun _ => 0) (fun _ => 0) (fun _ => 0) (fun _ => 0) := by
  refine ⟨0, 0, 0, ⟨h1, h2, h3⟩, ⟨⟨by decide, by decide⟩, ⟨by decide, by rw [qa_0]; omega⟩, by decide⟩, ⟨by decide, by rw [qa_0]; omega, Int.le_refl _⟩, ⟨by decide, by omega, by rw [qs_0]; omega⟩, ?_, ?_, ?_⟩
  · intro i hi
    omega
  · intro j hj
    omega
  · intro b k v t _ _ _ _ _ _ _
    exact ⟨by rw [qs_0]; omega, rfl⟩
theorem i_vc0 (k0 : Int32) (k1 : Int32) (k2 : Int32) : wpX_init (fun u => wpY_init (fun v => i_Rel 3 u v) k0 k1 k2) k0 k1 k2 := by
  unfold wpX_init
  refine qx_clamp (fun r1 c1 => ?_)
  refine qx_clamp (fun r2 c2 => ?_)
  refine qx_clamp (fun r3 c3 => ?_)
  have d1 := qi_clr c1 (by decide)
  have d2 := qi_clr c2 (by decide)
  have d3 := qi_clr c3 (by decide)
  have I : qi_Inv r1 r2 r3 0 0 0 0 r2 0 (fun _ => 0) (fun _ => 0) (fun _ => 0) (fun _ => 0) (fun _ => 0) (fun _ => 0) (fun _ => 0) (fun _ => 0) (fun _ => 0) (fun _ => 0) (fun _ => 0) (fun _ => 0) := qi_0 d1 d2 d3
  unfold wpY_init
  refine qy_clamp (P := fun z => wY_init_74 _ k1 k2 z 0 0 0 0 0 0 0 (fun _ => 0) (fun _ => 0) (fun _ => 0) (fun _ => 0) (fun _ => 0) (fun _ => 0)) c1 ?_
  show wY_init_74 _ k1 k2 r1 0 0 0 0 0 0 0 (fun _ => 0) (fun _ => 0) (fun _ => 0) (fun _ => 0) (fun _ => 0) (fun _ => 0)
  unfold wY_init_74
  refine qy_clamp (P := fun z => wY_init_101 _ k2 z r1 0 0 0 0 0 0 (fun _ => 0) (fun _ => 0) (fun _ => 0) (fun _ => 0) (fun _ => 0) (fun _ => 0)) c2 ?_
  show wY_init_101 _ k2 r2 r1 0 0 0 0 0 0 (fun _ => 0) (fun _ => 0) (fun _ => 0) (fun _ => 0) (fun _ => 0) (fun _ => 0)
  unfold wY_init_101
  refine qy_clamp (P := fun z => wY_init_128 _ z r1 r2 0 0 0 0 0 (fun _ => 0) (fun _ => 0) (fun _ => 0) (fun _ => 0) (fun _ => 0) (fun _ => 0)) c3 ?_
  show wY_init_128 _ r3 r1 r2 0 0 0 0 0 (fun _ => 0) (fun _ => 0) (fun _ => 0) (fun _ => 0) (fun _ => 0) (fun _ => 0)
  unfold wY_init_128
  exact qi_in I
theorem i_vc_period {k : Nat} {u : SX} {v : SY} (I : i_Rel k u v) (hk : k + 5 ≤ 2563) (v1 : Int32) (v2 : Int32) : wpX_period (fun r u' => wpY_period (fun r' v' => r' = r ∧ i_Rel (k + 5) u' v') v v1 v2) u v1 v2 := by
  refine qi_el (P := fun u v => wpX_period (fun r u' => wpY_period (fun r' v' => r' = r ∧ i_Rel (k + 5) u' v') v v1 v2) u v1 v2) ?_ I
  intro fe ke ho ca no kp pe pf pt ro fo lo hi tl th sl va fr tw si un sT sB sK sV sF sE I
  unfold wpX_period wpY_period
  by_cases a : v1 < 0
  · exact br_t a (br_t a ⟨rfl, qi_in I⟩)
  by_cases b : ho < v2
  · exact br_f a (br_t b (br_f a (br_t b ⟨rfl, qi_in I⟩)))
  by_cases c : v1 < v2
  · refine br_f a (br_f b (br_t c (br_f a (br_f b (br_t c ⟨rfl, qi_in ?_⟩)))))
    obtain ⟨q, p, n, i1, i2, i3, i4, i5⟩ := I
    rw [Int32.lt_iff_toInt_lt, qa_0] at a
    rw [Int32.lt_iff_toInt_lt] at b c
    exact ⟨q, p, n, i1, i2, ⟨by omega, c, by omega⟩, i4, i5⟩
  · exact br_f a (br_f b (br_f c (br_f a (br_f b (br_f c ⟨rfl, qi_in I⟩)))))
theorem qi_pe {ke ho ca no kp pe pf pt ro : Int32} {sl va fr tw si un sT sB sK sV sF sE : Nat → Int32} (I : qi_Inv ke ho ca no kp pe pf pt ro sl va fr tw si un sT sB sK sV sF sE) : ∃ c : Nat, qy_K ke ho no kp c ∧ ((qs_S (fun j => if (sT j).toInt = no.toInt then 1 else 0) c : Nat) : Int) = pe.toInt := by
  obtain ⟨q, p, n, ⟨⟨a1, a2⟩, ⟨a3, a4⟩, a5, a6⟩, ⟨⟨b1, b2⟩, ⟨b3, b4⟩, b5⟩, c1, ⟨d1, d2, d3⟩, e1, e2, e3⟩ := I
  refine ⟨q + p, ⟨⟨b3, by omega⟩, ⟨a1, a2⟩, ⟨a3, a4⟩, b1, by omega⟩, ?_⟩
  rw [qi_pend e1 (Nat.le_refl _), b5]
theorem i_vc_info {k : Nat} {u : SX} {v : SY} (I : i_Rel k u v) (hk : k + 5 ≤ 2563) (v1 : Int32) : wpX_info (fun r => wpY_info (fun r' => r' = r ∧ i_Rel (k + 5) u v) v v1) u v1 := by
  refine qi_el (P := fun u v => wpX_info (fun r => wpY_info (fun r' => r' = r ∧ i_Rel (k + 5) u v) v v1) u v1) ?_ I
  intro fe ke ho ca no kp pe pf pt ro fo lo hi tl th sl va fr tw si un sT sB sK sV sF sE I
  have fin : i_Rel (k + 5) (fe, ke, ho, ca, no, kp, pe, pf, pt, ro, fo, lo, hi, tl, th, sl, va, fr, tw, si, un) (ke, ho, ca, no, pf, pt, kp, sT, sB, sK, sV, sF, sE) := qi_in I
  have bad : (v1.toInt < 0 ∨ 6 < v1.toInt) → wpY_info (fun r' => r' = (-2) ∧ i_Rel (k + 5) (fe, ke, ho, ca, no, kp, pe, pf, pt, ro, fo, lo, hi, tl, th, sl, va, fr, tw, si, un) (ke, ho, ca, no, pf, pt, kp, sT, sB, sK, sV, sF, sE)) (ke, ho, ca, no, pf, pt, kp, sT, sB, sK, sV, sF, sE) v1 := by
    intro h
    unfold wpY_info
    refine qa_eq v1.toInt 0 (fun z => by omega) (fun _ => ?_)
    refine qa_eq v1.toInt 1 (fun z => by omega) (fun _ => ?_)
    refine qa_eq v1.toInt 2 (fun z => by omega) (fun _ => ?_)
    refine qa_eq v1.toInt 3 (fun z => by omega) (fun _ => ?_)
    refine qa_eq v1.toInt 4 (fun z => by omega) (fun _ => ?_)
    refine qa_eq v1.toInt 5 (fun z => by omega) (fun _ => ?_)
    exact qa_eq v1.toInt 6 (fun z => by omega) (fun _ => ⟨rfl, fin⟩)
  unfold wpX_info
  refine qa_lt v1.toInt 0 (fun a => bad (Or.inl a)) (fun _ => ?_)
  refine qa_lt 6 v1.toInt (fun a => bad (Or.inr a)) (fun _ => ?_)
  clear bad
  unfold wpY_info
  refine br_c (fun a0 => br_t a0 ⟨rfl, fin⟩) (fun a0 => ?_)
  refine br_c (fun a1 => br_f a0 (br_t a1 ?_)) (fun a1 => ?_)
  · obtain ⟨c, K, e⟩ := qi_pe I
    exact qy_pend K (fun r f => ⟨qa_toI (f.trans e), fin⟩)
  refine br_c (fun a2 => br_f a0 (br_f a1 (br_t a2 ⟨rfl, fin⟩))) (fun a2 => ?_)
  refine br_c (fun a3 => br_f a0 (br_f a1 (br_f a2 (br_t a3 ⟨rfl, fin⟩)))) (fun a3 => ?_)
  refine br_c (fun a4 => br_f a0 (br_f a1 (br_f a2 (br_f a3 (br_t a4 ⟨rfl, fin⟩))))) (fun a4 => ?_)
  refine br_c (fun a5 => br_f a0 (br_f a1 (br_f a2 (br_f a3 (br_f a4 (br_t a5 ⟨rfl, fin⟩)))))) (fun a5 => ?_)
  exact br_c (fun a6 => br_f a0 (br_f a1 (br_f a2 (br_f a3 (br_f a4 (br_f a5 (br_t a6 ⟨rfl, fin⟩))))))) (fun a6 => trivial)
end
section
section
variable {fe ke ho ca no kp pe pf pt ro fo lo hi tl th : Int32} {sl va fr tw si un : Nat → Int32} {g : ql_G}
theorem qx_c12 (Q : qx_Q ke ho no ro sl va fr tw si un g) {post : Int32 → SX → Prop}
    (hD : qy_D ke ho no g → ∀ fo' lo' hi' tl' th' : Int32, post (-7) (fe, ke, ho, ca, no, kp, pe, pf, pt, ro, fo', lo', hi', tl', th', sl, va, fr, tw, si, un))
    (hN : ¬ qy_D ke ho no g → ∀ fo' lo' hi' tl' th' : Int32, post 0 (fe, ke, ho, ca, no + 1, kp, 0, pf, pt, ro, fo', lo', hi', tl', th', sl, va, fr, tw, si, un)) :
    ∀ (n : Nat) (x1 fo lo hi tl th : Int32), 0 ≤ x1.toInt → x1.toInt ≤ ke.toInt → ke.toInt - x1.toInt < (n : Int) → (∀ k v : Int, 0 ≤ k → k < x1.toInt → 0 ≤ v → v < ho.toInt → ql_row ke.toInt.toNat g 4 k v no.toInt = -1) → wX_commit_12 post n x1 fe ke ho ca no kp pe pf pt ro fo lo hi tl th sl va fr tw si un := by
  intro n
  induction n with
  | zero => intro x1 fo lo hi tl th e1 e2 e3; omega
  | succ n ih =>
    intro x1 fo lo hi tl th e1 e2 e3 e4
    have q := Q.1
    have q2 := Q.2.1
    have q3 := Q.2.2.1
    unfold wX_commit_12
    refine qa_le ke.toInt x1.toInt (fun a => nm_e (hN ?_ fo lo hi tl th)) (fun a => ?_)
    · rintro ⟨k, v, ⟨k1, k2⟩, ⟨v1, v2⟩, h⟩
      exact h (e4 k v k1 (by omega) v1 v2)
    · refine qx_first Q ⟨⟨by decide, by decide⟩, ⟨e1, a⟩, q3.1, Int.le_refl _⟩ (by decide) (by rw [qa_0]; omega) (fun r fo' lo' hi' tl' th' sp => ?_)
      rw [qa_0] at sp
      refine qa_eq r.toInt (-1) (fun b => ?_) (fun b => ?_) rfl qa_m1
      · intro y ey
        have hy : y.toInt = x1.toInt + 1 := by
          rw [ey]
          exact qa_s (by omega)
        clear ey
        refine ih y fo' lo' hi' tl' th' (by omega) (by omega) (by omega) (fun k v p1 p2 p3 p4 => ?_)
        by_cases z : k = x1.toInt
        · rcases sp with s | s
          · rw [z]
            exact s.2 v p3 p4
          · have s1 := s.1
            omega
        · exact e4 k v p1 (by omega) p3 p4
      · refine hD ?_ fo' lo' hi' tl' th'
        rcases sp with s | s
        · exact absurd s.1 b
        · exact ⟨x1.toInt, r.toInt, ⟨e1, a⟩, ⟨s.1, s.2.1⟩, s.2.2.1⟩
end
theorem i_vc_commit {k : Nat} {u : SX} {v : SY} (I : i_Rel k u v) (hk : k + 5 ≤ 2563) : wpX_commit (fun r u' => wpY_commit (fun r' v' => r' = r ∧ i_Rel (k + 5) u' v') v) u := by
  refine qi_el (P := fun u v => wpX_commit (fun r u' => wpY_commit (fun r' v' => r' = r ∧ i_Rel (k + 5) u' v') v) u) ?_ I
  intro fe ke ho ca no kp pe pf pt ro fo lo hi tl th sl va fr tw si un sT sB sK sV sF sE I
  obtain ⟨cc, KK, ep⟩ := qi_pe I
  obtain ⟨c, Q, K, hp⟩ := qi_QK I
  have q := Q.1
  have Y : ∀ post : Int32 → SY → Prop, (pe = 0 → post (-6) (ke, ho, ca, no, pf, pt, kp, sT, sB, sK, sV, sF, sE)) → (¬ pe = 0 → qy_D ke ho no (qy_g sT sB sK sV sF sE c) → post (-7) (ke, ho, ca, no, pf, pt, kp, sT, sB, sK, sV, sF, sE)) → (¬ pe = 0 → ¬ qy_D ke ho no (qy_g sT sB sK sV sF sE c) → post 0 (ke, ho, ca, no + 1, pf, pt, kp, sT, sB, sK, sV, sF, sE)) → wpY_commit post (ke, ho, ca, no, pf, pt, kp, sT, sB, sK, sV, sF, sE) := by
    intro post h6 h7 h0
    unfold wpY_commit
    refine qy_pend KK (fun r e => ?_)
    have er : r = pe := qa_toI (e.trans ep)
    subst er
    refine br_c h6 (fun a => ⟨8, ?_⟩)
    exact qy_c12 K (h7 a) (h0 a) 8 0 (by decide) (by rw [qa_0]; omega) (by rw [qa_0]; omega) (fun k v p1 p2 => by rw [qa_0] at p2; omega)
  unfold wpX_commit
  refine br_c (fun a => ?_) (fun a => ⟨8, ?_⟩)
  · exact Y _ (fun _ => ⟨rfl, qi_in I⟩) (fun z => absurd a z) (fun z => absurd a z)
  · refine qx_c12 Q (fun d fo' lo' hi' tl' th' => ?_) (fun d fo' lo' hi' tl' th' => ?_) 8 0 fo lo hi tl th (by decide) (by rw [qa_0]; omega) (by rw [qa_0]; omega) (fun k v p1 p2 => by rw [qa_0] at p2; omega)
    · exact Y _ (fun z => absurd z a) (fun _ _ => ⟨rfl, qi_in I⟩) (fun _ z => absurd d z)
    · refine Y _ (fun z => absurd z a) (fun _ z => absurd z d) (fun _ _ => ⟨rfl, qi_in ?_⟩)
      obtain ⟨q, p, n, ⟨⟨a1, a2⟩, ⟨a3, a4⟩, a5, a6⟩, ⟨⟨b1, b2⟩, ⟨b3, b4⟩, b5⟩, c1, ⟨d1, d2, d3⟩, e1, e2, e3⟩ := I
      have hn : (no + 1).toInt = no.toInt + 1 := qa_s (by omega)
      have p0 : p ≠ 0 := fun z => a (qa_toI (by rw [b5, z, qa_0]; rfl))
      refine ⟨q + p, 0, n, ⟨⟨a1, a2⟩, ⟨a3, a4⟩, a5, a6⟩, ⟨⟨by omega, by omega⟩, ⟨b3, b4⟩, qa_0⟩, c1, ⟨d1, by omega, ?_⟩, ?_, ?_, ?_⟩
      · have x := qs_b (h := fun j => qf_c (no + 1).toInt (qr_R sl va fr tw si un j)) (n := n) (fun _ _ => qf_cb)
        omega
      · intro i hi
        rw [hn]
        have x := e1 i hi
        refine ⟨⟨x.1.1, fun _ => ?_, fun z => by omega⟩, x.2⟩
        by_cases y : i < q
        · have w := x.1.2.1 y
          omega
        · have w := x.1.2.2 (by omega)
          omega
      · rw [hn]
        exact qk_rows e2
      · rw [hn]
        exact qk_link (q := q) (p := p) (by omega) b1 e1 e2 e3
theorem i_vc_rollback {k : Nat} {u : SX} {v : SY} (I : i_Rel k u v) (hk : k + 5 ≤ 2563) : wpX_rollback (fun r u' => wpY_rollback (fun r' v' => r' = r ∧ i_Rel (k + 5) u' v') v) u := by
  refine qi_el (P := fun u v => wpX_rollback (fun r u' => wpY_rollback (fun r' v' => r' = r ∧ i_Rel (k + 5) u' v') v) u) ?_ I
  intro fe ke ho ca no kp pe pf pt ro fo lo hi tl th sl va fr tw si un sT sB sK sV sF sE I
  obtain ⟨cc, KK, ep⟩ := qi_pe I
  have Y : ∀ post : Int32 → SY → Prop, (pe = 0 → post (-6) (ke, ho, ca, no, pf, pt, kp, sT, sB, sK, sV, sF, sE)) → (¬ pe = 0 → post 0 (ke, ho, ca, no, pf, pt, kp - pe, sT, sB, sK, sV, sF, sE)) → wpY_rollback post (ke, ho, ca, no, pf, pt, kp, sT, sB, sK, sV, sF, sE) := by
    intro post h6 h0
    unfold wpY_rollback
    refine qy_pend KK (fun r e => ?_)
    have er : r = pe := qa_toI (e.trans ep)
    subst er
    exact br_c h6 (fun a => nm_e (h0 a))
  unfold wpX_rollback
  refine br_c (fun a => Y _ (fun _ => ⟨rfl, qi_in I⟩) (fun z => absurd a z)) (fun a y ey => ⟨98, ?_⟩)
  obtain ⟨q, p, n, ⟨⟨a1, a2⟩, ⟨a3, a4⟩, a5, a6⟩, ⟨⟨b1, b2⟩, ⟨b3, b4⟩, b5⟩, c1, ⟨d1, d2, d3⟩, e1, e2, e3⟩ := I
  have hy : y.toInt = (n : Int) - 1 := by
    rw [ey, qa_m (by omega), d1]
  clear ey
  refine qx_rb17 (R0 := qr_R sl va fr tw si un) (n0 := n) (by omega) (fun ro' sl' va' fr' tw' si' un' n' f1 f2 => ?_) 98 n n y ro sl va fr tw si un hy (by omega) (by omega) d1 (by omega) (by omega) (fun _ _ => rfl) (fun f => ?_)
  · refine Y _ (fun z => absurd z a) (fun _ => ⟨rfl, qi_in ?_⟩)
    have hc := qb_cnt e2 f2
    have hk2 : (kp - pe).toInt = (q : Int) := by
      rw [qa_sub (by omega) (by omega)]
      omega
    refine ⟨q, 0, n', ⟨⟨a1, a2⟩, ⟨a3, a4⟩, a5, a6⟩, ⟨⟨b1, b2⟩, ⟨by omega, by omega⟩, qa_0⟩, c1, ⟨f1, by omega, ?_⟩, ?_, qb_rows e2 f2, ?_⟩
    · have x := qs_b (h := fun j => qf_c no.toInt (qr_R sl' va' fr' tw' si' un' j)) (n := n') (fun _ _ => qf_cb)
      omega
    · intro i hi
      have x := e1 i (by omega)
      exact ⟨⟨x.1.1, fun z => x.1.2.1 (by omega), fun z => by omega⟩, x.2⟩
    · exact qb_link (by omega) b1 e1 e2 e3 f2
  · rw [qc_atn (a := fun j => f (qr_R sl va fr tw si un j)) (b := fun j => qb_G f no.toInt (qr_R sl va fr tw si un j))]
end
section
theorem qi_cz {f : Int → Int} {a : Int} {m : Nat} (h : qs_S (qz_c f a) m = 0) : ∀ v, a ≤ v → v < a + (m : Int) → f v = -1 := by
  intro v h1 h2
  have e := qs_zi h (v - a).toNat (by omega)
  have hv : a + ((v - a).toNat : Int) = v := by omega
  unfold qz_c at e
  rw [hv] at e
  split at e
  · assumption
  · exact absurd e (by decide)
theorem i_vc_insert {k : Nat} {u : SX} {v : SY} (I : i_Rel k u v) (hk : k + 5 ≤ 2563) (v1 : Int32) (v2 : Int32) (v3 : Int32) : wpX_insert (fun r u' => wpY_insert (fun r' v' => r' = r ∧ i_Rel (k + 5) u' v') v v1 v2 v3) u v1 v2 v3 := by
  refine qi_el (P := fun u v => wpX_insert (fun r u' => wpY_insert (fun r' v' => r' = r ∧ i_Rel (k + 5) u' v') v v1 v2 v3) u v1 v2 v3) ?_ I
  intro fe ke ho ca no kp pe pf pt ro fo lo hi tl th sl va fr tw si un sT sB sK sV sF sE I
  have fin : i_Rel (k + 5) (fe, ke, ho, ca, no, kp, pe, pf, pt, ro, fo, lo, hi, tl, th, sl, va, fr, tw, si, un) (ke, ho, ca, no, pf, pt, kp, sT, sB, sK, sV, sF, sE) := qi_in I
  obtain ⟨q, p, n, ha, hb, hp, hd, e1, e2, e3⟩ := I
  obtain ⟨⟨a1, a2⟩, ⟨a3, a4⟩, a5, a6⟩ := id ha
  obtain ⟨⟨b1, b2⟩, ⟨b3, b4⟩, b5⟩ := id hb
  obtain ⟨c1, c2, c3⟩ := id hp
  obtain ⟨d1, d2, d3⟩ := id hd
  have K : qy_K ke ho no kp (q + p) := ⟨⟨b3, by omega⟩, ⟨a1, a2⟩, ⟨a3, a4⟩, b1, by omega⟩
  unfold wpX_insert
  refine qx_ref a1 a2 (fun ok rm => br_t rfl ?_) (fun ok rm => br_f (by decide) ?_) (fun ok => br_f (by decide) ?_)
  · have ob := ok.1
    have okk := ok.2.1
    unfold wpX_slotOf
    refine qx_cov d1 (by omega) b1 (by omega) a4 a1 a2 hp ob okk e2 e3 (fun r er => ?_)
    have Y : ∀ post : Int32 → SY → Prop, (¬ r ≤ 0 → post (-4) (ke, ho, ca, no, pf, pt, kp, sT, sB, sK, sV, sF, sE)) → (r ≤ 0 → post 0 (ke, ho, ca, no, pf, pt, kp + 1, upd sT (q + p) no, upd sB (q + p) v1, upd sK (q + p) v2, upd sV (q + p) v3, upd sF (q + p) pf, upd sE (q + p) pt)) → wpY_insert post (ke, ho, ca, no, pf, pt, kp, sT, sB, sK, sV, sF, sE) v1 v2 v3 := by
      intro post h4 h0
      unfold wpY_insert
      refine qy_ref (fun _ _ => br_t rfl ?_) (fun _ z => absurd rm (by omega)) (fun z => absurd ok z)
      refine qy_cov K (by omega) (by omega) c1 c2 c3 (fun r' er' => ?_)
      have ee : r' = r := qa_toI (er'.trans er.symm)
      subst ee
      exact br_c (fun h => qy_keep b3 (by omega) (h0 h)) (fun h => h4 h)
    refine br_c (fun h => ?_) (fun h => Y _ (fun _ => ⟨rfl, fin⟩) (fun z => absurd z h))
    refine qx_add d1 (by omega) (fun sl' va' fr' tw' si' un' e => ?_)
    unfold wpX_countStatement
    refine nm_e (nm_e ?_)
    refine Y _ (fun z => absurd h z) (fun _ => ⟨rfl, qi_in ?_⟩)
    refine qi_stmt (n' := n + 1) ha hb hp hd e1 e2 e3 ob okk (by have y := ok.2.2.1; omega) ok.2.2.2.2 rm (by rw [qa_s (by omega)]; omega) (by omega) (fun f => ?_)
    have h' := Int32.le_iff_toInt_le.mp h
    rw [qa_0, er] at h'
    have hz : qs_S (qz_c (qz_f ke (qy_g sT sB sK sV sF sE (q + p)) v1 v2 no) pf.toInt) (pt.toInt - pf.toInt).toNat = 0 := by omega
    rw [qz_f01 ob] at hz
    have hz' := qi_cz hz
    rw [e, qm_add f, qp_none (by omega) ob okk.1 okk.2 c1 c2 c3 b1 e2 e3 (fun v p1 p2 => hz' v p1 (by omega)) f]
    have y := ok.2.2.1
    unfold qp_X
    rw [if_neg (by omega), qa_slot ob okk.1 (by omega) (by omega) (by omega)]
  · unfold wpY_insert
    exact qy_ref (fun _ z => absurd rm (by omega)) (fun _ _ => br_f (by decide) ⟨rfl, fin⟩) (fun z => absurd ok z)
  · unfold wpY_insert
    exact qy_ref (fun z _ => absurd z ok) (fun z _ => absurd z ok) (fun _ => br_f (by decide) ⟨rfl, fin⟩)
theorem i_vc_update {k : Nat} {u : SX} {v : SY} (I : i_Rel k u v) (hk : k + 5 ≤ 2563) (v1 : Int32) (v2 : Int32) (v3 : Int32) : wpX_update (fun r u' => wpY_update (fun r' v' => r' = r ∧ i_Rel (k + 5) u' v') v v1 v2 v3) u v1 v2 v3 := by
  refine qi_el (P := fun u v => wpX_update (fun r u' => wpY_update (fun r' v' => r' = r ∧ i_Rel (k + 5) u' v') v v1 v2 v3) u v1 v2 v3) ?_ I
  intro fe ke ho ca no kp pe pf pt ro fo lo hi tl th sl va fr tw si un sT sB sK sV sF sE I
  have fin : i_Rel (k + 5) (fe, ke, ho, ca, no, kp, pe, pf, pt, ro, fo, lo, hi, tl, th, sl, va, fr, tw, si, un) (ke, ho, ca, no, pf, pt, kp, sT, sB, sK, sV, sF, sE) := qi_in I
  obtain ⟨q, p, n, ha, hb, hp, hd, e1, e2, e3⟩ := I
  obtain ⟨⟨a1, a2⟩, ⟨a3, a4⟩, a5, a6⟩ := id ha
  obtain ⟨⟨b1, b2⟩, ⟨b3, b4⟩, b5⟩ := id hb
  obtain ⟨c1, c2, c3⟩ := id hp
  obtain ⟨d1, d2, d3⟩ := id hd
  have K : qy_K ke ho no kp (q + p) := ⟨⟨b3, by omega⟩, ⟨a1, a2⟩, ⟨a3, a4⟩, b1, by omega⟩
  unfold wpX_update
  refine qx_ref a1 a2 (fun ok rm => br_t rfl ?_) (fun ok rm => br_f (by decide) ?_) (fun ok => br_f (by decide) ?_)
  · have ob := ok.1
    have okk := ok.2.1
    have es : ((v1 * ke) + v2).toInt = ql_sl ke.toInt v1.toInt v2.toInt := qa_slot ob okk.1 (by omega) (by omega) (by omega)
    unfold wpX_slotOf
    refine qx_cov d1 (by omega) b1 (by omega) a4 a1 a2 hp ob okk e2 e3 (fun r er => ?_)
    have Y : ∀ post : Int32 → SY → Prop, (¬ (pt - pf) ≤ r → post (-5) (ke, ho, ca, no, pf, pt, kp, sT, sB, sK, sV, sF, sE)) → ((pt - pf) ≤ r → post 0 (ke, ho, ca, no, pf, pt, kp + 1, upd sT (q + p) no, upd sB (q + p) v1, upd sK (q + p) v2, upd sV (q + p) v3, upd sF (q + p) pf, upd sE (q + p) pt)) → wpY_update post (ke, ho, ca, no, pf, pt, kp, sT, sB, sK, sV, sF, sE) v1 v2 v3 := by
      intro post h4 h0
      unfold wpY_update
      refine qy_ref (fun _ _ => br_t rfl ?_) (fun _ z => absurd rm (by omega)) (fun z => absurd ok z)
      refine qy_cov K (by omega) (by omega) c1 c2 c3 (fun r' er' => ?_)
      have ee : r' = r := qa_toI (er'.trans er.symm)
      subst ee
      exact br_c (fun h => qy_keep b3 (by omega) (h0 h)) (fun h => h4 h)
    refine br_c (fun h => ?_) (fun h => Y _ (fun _ => ⟨rfl, fin⟩) (fun z => absurd z h))
    refine qx_carve d1 (by omega) (by rw [es]; exact qp_L (by omega) ob okk.1 okk.2 c1 c2 c3 b1 e2 e3) (by rw [es]; exact qp_R (by omega) ob okk.1 okk.2 c1 c2 c3 b1 e2 e3) (fun ro1 sl1 va1 fr1 tw1 si1 un1 n1 f1 f2 f3 => ?_)
    refine qx_add f1 (by omega) (fun sl' va' fr' tw' si' un' e => ?_)
    unfold wpX_countStatement
    refine nm_e (nm_e ?_)
    refine Y _ (fun z => absurd h z) (fun _ => ⟨rfl, qi_in ?_⟩)
    refine qi_stmt (n' := n1 + 1) ha hb hp hd e1 e2 e3 ob okk (by have y := ok.2.2.1; omega) ok.2.2.2.2 rm (by rw [qa_s (by omega)]; omega) (by omega) (fun f => ?_)
    rw [e, qm_add f, f3 f, es]
    have y := ok.2.2.1
    unfold qp_X
    rw [if_neg (by omega)]
  · unfold wpY_update
    exact qy_ref (fun _ z => absurd rm (by omega)) (fun _ _ => br_f (by decide) ⟨rfl, fin⟩) (fun z => absurd ok z)
  · unfold wpY_update
    exact qy_ref (fun z _ => absurd z ok) (fun z _ => absurd z ok) (fun _ => br_f (by decide) ⟨rfl, fin⟩)
theorem i_vc_remove {k : Nat} {u : SX} {v : SY} (I : i_Rel k u v) (hk : k + 5 ≤ 2563) (v1 : Int32) (v2 : Int32) : wpX_remove (fun r u' => wpY_remove (fun r' v' => r' = r ∧ i_Rel (k + 5) u' v') v v1 v2) u v1 v2 := by
  refine qi_el (P := fun u v => wpX_remove (fun r u' => wpY_remove (fun r' v' => r' = r ∧ i_Rel (k + 5) u' v') v v1 v2) u v1 v2) ?_ I
  intro fe ke ho ca no kp pe pf pt ro fo lo hi tl th sl va fr tw si un sT sB sK sV sF sE I
  have fin : i_Rel (k + 5) (fe, ke, ho, ca, no, kp, pe, pf, pt, ro, fo, lo, hi, tl, th, sl, va, fr, tw, si, un) (ke, ho, ca, no, pf, pt, kp, sT, sB, sK, sV, sF, sE) := qi_in I
  obtain ⟨q, p, n, ha, hb, hp, hd, e1, e2, e3⟩ := I
  obtain ⟨⟨a1, a2⟩, ⟨a3, a4⟩, a5, a6⟩ := id ha
  obtain ⟨⟨b1, b2⟩, ⟨b3, b4⟩, b5⟩ := id hb
  obtain ⟨c1, c2, c3⟩ := id hp
  obtain ⟨d1, d2, d3⟩ := id hd
  have K : qy_K ke ho no kp (q + p) := ⟨⟨b3, by omega⟩, ⟨a1, a2⟩, ⟨a3, a4⟩, b1, by omega⟩
  unfold wpX_remove
  refine qx_ref a1 a2 (fun ok rm => br_t rfl ?_) (fun ok rm => br_f (by decide) ?_) (fun ok => br_f (by decide) ?_)
  · have ob := ok.1
    have okk := ok.2.1
    have es : ((v1 * ke) + v2).toInt = ql_sl ke.toInt v1.toInt v2.toInt := qa_slot ob okk.1 (by omega) (by omega) (by omega)
    unfold wpX_slotOf
    refine qx_cov d1 (by omega) b1 (by omega) a4 a1 a2 hp ob okk e2 e3 (fun r er => ?_)
    have Y : ∀ post : Int32 → SY → Prop, (r = 0 → post (-5) (ke, ho, ca, no, pf, pt, kp, sT, sB, sK, sV, sF, sE)) → (¬ r = 0 → post 0 (ke, ho, ca, no, pf, pt, kp + 1, upd sT (q + p) no, upd sB (q + p) v1, upd sK (q + p) v2, upd sV (q + p) (-1), upd sF (q + p) pf, upd sE (q + p) pt)) → wpY_remove post (ke, ho, ca, no, pf, pt, kp, sT, sB, sK, sV, sF, sE) v1 v2 := by
      intro post h4 h0
      unfold wpY_remove
      refine qy_ref (fun _ _ => br_t rfl ?_) (fun _ z => absurd rm (by omega)) (fun z => absurd ok z)
      refine qy_cov K (by omega) (by omega) c1 c2 c3 (fun r' er' => ?_)
      have ee : r' = r := qa_toI (er'.trans er.symm)
      subst ee
      exact br_c (fun h => h4 h) (fun h => qy_keep b3 (by omega) (h0 h))
    refine br_c (fun h => Y _ (fun _ => ⟨rfl, fin⟩) (fun z => absurd h z)) (fun h => ?_)
    refine qx_carve d1 (by omega) (by rw [es]; exact qp_L (by omega) ob okk.1 okk.2 c1 c2 c3 b1 e2 e3) (by rw [es]; exact qp_R (by omega) ob okk.1 okk.2 c1 c2 c3 b1 e2 e3) (fun ro1 sl1 va1 fr1 tw1 si1 un1 n1 f1 f2 f3 => ?_)
    unfold wpX_countStatement
    refine nm_e (nm_e ?_)
    refine Y _ (fun z => absurd z h) (fun _ => ⟨rfl, qi_in ?_⟩)
    refine qi_stmt (n' := n1) ha hb hp hd e1 e2 e3 ob okk (by rw [qa_m1]; omega) (fun _ => by rw [qa_m1]; omega) rm f1 (by omega) (fun f => ?_)
    rw [f3 f, es]
    unfold qp_X
    rw [if_pos qa_m1]
    rfl
  · unfold wpY_remove
    exact qy_ref (fun _ z => absurd rm (by omega)) (fun _ _ => br_f (by decide) ⟨rfl, fin⟩) (fun z => absurd ok z)
  · unfold wpY_remove
    exact qy_ref (fun z _ => absurd z ok) (fun z _ => absurd z ok) (fun _ => br_f (by decide) ⟨rfl, fin⟩)
end
