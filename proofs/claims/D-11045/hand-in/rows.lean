section
/-- an int by its value -/
def od_e (x : Int) : Int32 := Int32.ofInt x
theorem od_t {a : Int} (h1 : -2147483648 ≤ a) (h2 : a < 2147483648) : (od_e a).toInt = a := Int32.toInt_ofInt_of_le (by omega) (by omega)
theorem od_add (a b : Int) : od_e a + od_e b = od_e (a + b) := (Int32.ofInt_add a b).symm
theorem od_sub (a b : Int) : od_e a - od_e b = od_e (a - b) := (Int32.ofInt_sub a b).symm
theorem od_mul (a b : Int) : od_e a * od_e b = od_e (a * b) := (Int32.ofInt_mul a b).symm
theorem od_neg (a : Int) : -od_e a = od_e (-a) := (Int32.ofInt_neg a).symm
theorem od_n (n : Nat) : nI n = od_e (n : Int) := Int32.ofInt_eq_ofNat.symm
theorem od_m1 : (-1 : Int32) = od_e (-1) := by decide
theorem od_m6 : (-6 : Int32) = od_e (-6) := by decide
theorem od_m9 : (-9 : Int32) = od_e (-9) := by decide
theorem od_m12 : (-12 : Int32) = od_e (-12) := by decide
theorem od_m99 : (-99 : Int32) = od_e (-99) := by decide
theorem od_le {x y : Int32} {A B : Prop} (a b : Int) (f : a ≤ b → A) (g : b < a → B) (hx : x = od_e a := by rfl) (hy : y = od_e b := by rfl) (ha : -2147483648 ≤ a ∧ a < 2147483648 := by omega) (hb : -2147483648 ≤ b ∧ b < 2147483648 := by omega) : (x ≤ y → A) ∧ (¬ x ≤ y → B) := by
  subst hx hy
  rw [Int32.le_iff_toInt_le, od_t ha.1 ha.2, od_t hb.1 hb.2]
  exact ⟨f, fun z => g (by omega)⟩
theorem od_lt {x y : Int32} {A B : Prop} (a b : Int) (f : a < b → A) (g : b ≤ a → B) (hx : x = od_e a := by rfl) (hy : y = od_e b := by rfl) (ha : -2147483648 ≤ a ∧ a < 2147483648 := by omega) (hb : -2147483648 ≤ b ∧ b < 2147483648 := by omega) : (x < y → A) ∧ (¬ x < y → B) := by
  subst hx hy
  rw [Int32.lt_iff_toInt_lt, od_t ha.1 ha.2, od_t hb.1 hb.2]
  exact ⟨f, fun z => g (by omega)⟩
theorem od_eqI {a b : Int} (ha : -2147483648 ≤ a ∧ a < 2147483648) (hb : -2147483648 ≤ b ∧ b < 2147483648) : od_e a = od_e b ↔ a = b := by
  constructor
  · intro h
    have t := congrArg Int32.toInt h
    rw [od_t ha.1 ha.2, od_t hb.1 hb.2] at t
    exact t
  · intro h
    rw [h]
theorem od_eq {x y : Int32} {A B : Prop} (a b : Int) (f : a = b → A) (g : a ≠ b → B) (hx : x = od_e a := by rfl) (hy : y = od_e b := by rfl) (ha : -2147483648 ≤ a ∧ a < 2147483648 := by omega) (hb : -2147483648 ≤ b ∧ b < 2147483648 := by omega) : (x = y → A) ∧ (¬ x = y → B) := by
  subst hx hy
  rw [od_eqI ha hb]
  exact ⟨f, g⟩
theorem od_i0 (n : Nat) : (3 : Int32) * nI n = nI (3 * n) := pk_mul 3 n
theorem od_i1 (n : Nat) : (3 : Int32) * nI n + 1 = nI (3 * n + 1) := by rw [od_i0, nI_1]
theorem od_i2 (n : Nat) : (3 : Int32) * nI n + 2 = nI (3 * n + 2) := by
  rw [od_i0]
  exact nI_add (3 * n) 2
/-- all of a list, by place -/
def od_all {α : Type} (P : α → Prop) (l : List α) : Prop := ∀ (k : Nat) (r : α), l[k]? = some r → P r
theorem od_all_nil {α : Type} {P : α → Prop} : od_all P [] := fun k r h => by simp at h
theorem od_all_cons {α : Type} {P : α → Prop} {x : α} {l : List α} : od_all P (x :: l) ↔ P x ∧ od_all P l := by
  constructor
  · intro h
    exact ⟨h 0 x rfl, fun k r hk => h (k + 1) r (by simpa using hk)⟩
  · intro h k r hk
    cases k with
    | zero =>
      have e : x = r := by simpa using hk
      rw [← e]
      exact h.1
    | succ k => exact h.2 k r (by simpa using hk)
theorem od_all_app {α : Type} {P : α → Prop} {x : α} {l : List α} : od_all P (l ++ [x]) ↔ od_all P l ∧ P x := by
  induction l with
  | nil =>
    show od_all P [x] ↔ _
    rw [od_all_cons]
    exact ⟨fun h => ⟨od_all_nil, h.1⟩, fun h => ⟨h.2, od_all_nil⟩⟩
  | cons y l ih =>
    show od_all P (y :: (l ++ [x])) ↔ _
    rw [od_all_cons, od_all_cons, ih, and_assoc]
theorem od_all_set {α : Type} {P : α → Prop} {l : List α} {k : Nat} {r v : α} (hk : l[k]? = some r) (hv : P v) (h : od_all P l) : od_all P (l.set k v) := by
  intro j q hj
  have hl : k < l.length := (List.getElem?_eq_some_iff.mp hk).1
  by_cases e : k = j
  · subst e
    rw [List.getElem?_set_self hl] at hj
    cases hj
    exact hv
  · rw [List.getElem?_set_ne e] at hj
    exact h j q hj
theorem od_all_unset {α : Type} {P : α → Prop} {l : List α} {k : Nat} {r v : α} (hk : l[k]? = some r) (hr : P v → P r) (h : od_all P (l.set k v)) : od_all P l := by
  intro j q hj
  have hl : k < l.length := (List.getElem?_eq_some_iff.mp hk).1
  by_cases e : k = j
  · subst e
    rw [hk] at hj
    cases hj
    exact hr (h k v (List.getElem?_set_self hl))
  · exact h j q (by rw [List.getElem?_set_ne e]; exact hj)
theorem od_get {α : Type} {l : List α} {i : Nat} (h : i < l.length) : ∃ r, l[i]? = some r := ⟨l[i], List.getElem?_eq_getElem h⟩
theorem od_len {α : Type} {l : List α} {i : Nat} {r : α} (h : l[i]? = some r) : i < l.length := (List.getElem?_eq_some_iff.mp h).1
theorem od_last {α : Type} {l : List α} {x r : α} (h : (l ++ [x])[l.length]? = some r) : x = r := by
  rw [List.getElem?_append_right (Nat.le_refl _), Nat.sub_self] at h
  simpa using h
theorem od_notlast {α : Type} {l : List α} {x r : α} {k : Nat} (h : (l ++ [x])[k]? = some r) (e : k ≠ l.length) : k < l.length ∧ l[k]? = some r := by
  have t := od_len h
  rw [List.length_append, List.length_singleton] at t
  have hl : k < l.length := by omega
  rw [List.getElem?_append_left hl] at h
  exact ⟨hl, h⟩
/-- all that stand ahead of a place -/
def od_to {α : Type} (P : α → Prop) (l : List α) (i : Nat) : Prop := ∀ (k : Nat) (r : α), k < i → l[k]? = some r → P r
theorem od_to_0 {α : Type} {P : α → Prop} {l : List α} : od_to P l 0 := fun k r h => absurd h (by omega)
theorem od_to_s {α : Type} {P : α → Prop} {l : List α} {i : Nat} {r : α} (hi : l[i]? = some r) : od_to P l (i + 1) ↔ od_to P l i ∧ P r := by
  constructor
  · intro h
    exact ⟨fun k q hk hq => h k q (by omega) hq, h i r (by omega) hi⟩
  · intro h k q hk hq
    by_cases e : k = i
    · subst e
      rw [hi] at hq
      cases hq
      exact h.2
    · exact h.1 k q (by omega) hq
theorem od_to_all {α : Type} {P : α → Prop} {l : List α} : od_to P l l.length ↔ od_all P l :=
  ⟨fun h k r hk => h k r (od_len hk) hk, fun h k r _ hk => h k r hk⟩
/-- a condition a x + b y + c z ≤ d, and one without z -/
abbrev od_Row : Type := Int × Int × Int × Int
abbrev od_Few : Type := Int × Int × Int
/-- the arrays factor and bound hold the conditions R -/
def od_R (R : List od_Row) (a4 a5 : Nat → Int32) : Prop := ∀ (k : Nat) (r : od_Row), R[k]? = some r → a4 (3 * k) = od_e r.1 ∧ a4 (3 * k + 1) = od_e r.2.1 ∧ a4 (3 * k + 2) = od_e r.2.2.1 ∧ a5 k = od_e r.2.2.2
theorem od_R_nil {a4 a5 : Nat → Int32} : od_R [] a4 a5 := fun k r h => by simp at h
theorem od_R_put {R : List od_Row} {a4 a5 : Nat → Int32} (h : od_R R a4 a5) (a b c d : Int) :
    od_R (R ++ [(a, b, c, d)]) (upd (upd (upd a4 (3 * R.length) (od_e a)) (3 * R.length + 1) (od_e b)) (3 * R.length + 2) (od_e c)) (upd a5 R.length (od_e d)) := by
  intro k r hk
  by_cases e : k = R.length
  · subst e
    have e2 := od_last hk
    subst e2
    refine ⟨?_, ?_, pk_us, pk_us⟩
    · rw [pk_un (by omega), pk_un (by omega), pk_us]
    · rw [pk_un (by omega), pk_us]
  · obtain ⟨hl, hk2⟩ := od_notlast hk e
    obtain ⟨h1, h2, h3, h4⟩ := h k r hk2
    refine ⟨?_, ?_, ?_, ?_⟩
    · rw [pk_un (by omega), pk_un (by omega), pk_un (by omega)]
      exact h1
    · rw [pk_un (by omega), pk_un (by omega), pk_un (by omega)]
      exact h2
    · rw [pk_un (by omega), pk_un (by omega), pk_un (by omega)]
      exact h3
    · rw [pk_un e]
      exact h4
/-- the arrays fewFactor and fewBound hold the conditions F -/
def od_F (F : List od_Few) (a6 a7 : Nat → Int32) : Prop := ∀ (k : Nat) (r : od_Few), F[k]? = some r → a6 (3 * k) = od_e r.1 ∧ a6 (3 * k + 1) = od_e r.2.1 ∧ a7 k = od_e r.2.2
theorem od_F_nil {a6 a7 : Nat → Int32} : od_F [] a6 a7 := fun k r h => by simp at h
theorem od_F_app {F : List od_Few} {a6 a7 : Nat → Int32} (h : od_F F a6 a7) (a b d : Int) :
    od_F (F ++ [(a, b, d)]) (upd (upd a6 (3 * F.length) (od_e a)) (3 * F.length + 1) (od_e b)) (upd a7 F.length (od_e d)) := by
  intro k r hk
  by_cases e : k = F.length
  · subst e
    have e2 := od_last hk
    subst e2
    refine ⟨?_, pk_us, pk_us⟩
    rw [pk_un (by omega), pk_us]
  · obtain ⟨hl, hk2⟩ := od_notlast hk e
    obtain ⟨h1, h2, h3⟩ := h k r hk2
    refine ⟨?_, ?_, ?_⟩
    · rw [pk_un (by omega), pk_un (by omega)]
      exact h1
    · rw [pk_un (by omega), pk_un (by omega)]
      exact h2
    · rw [pk_un e]
      exact h3
theorem od_F_set {F : List od_Few} {a6 a7 : Nat → Int32} {i : Nat} {r : od_Few} (h : od_F F a6 a7) (hi : F[i]? = some r) (d : Int) :
    od_F (F.set i (r.1, r.2.1, d)) a6 (upd a7 i (od_e d)) := by
  intro k q hk
  by_cases e : i = k
  · subst e
    rw [List.getElem?_set_self (od_len hi)] at hk
    cases hk
    obtain ⟨h1, h2, h3⟩ := h i r hi
    exact ⟨h1, h2, pk_us⟩
  · rw [List.getElem?_set_ne e] at hk
    obtain ⟨h1, h2, h3⟩ := h k q hk
    refine ⟨h1, h2, ?_⟩
    rw [pk_un (fun z => e z.symm)]
    exact h3
/-- small factors and bounds -/
def od_okF (F : List od_Few) : Prop := od_all (fun r => (-1 ≤ r.1 ∧ r.1 ≤ 1) ∧ (-1 ≤ r.2.1 ∧ r.2.1 ≤ 1) ∧ (-1000 ≤ r.2.2 ∧ r.2.2 ≤ 1000)) F
/-- (x, y) meets F -/
def od_sF (F : List od_Few) (x y : Int) : Prop := od_all (fun r => r.1 * x + r.2.1 * y ≤ r.2.2) F
theorem od_sF_app {F : List od_Few} {a b d x y : Int} : od_sF (F ++ [(a, b, d)]) x y ↔ od_sF F x y ∧ a * x + b * y ≤ d := od_all_app
theorem od_sF_set {F : List od_Few} {k : Nat} {r : od_Few} {a b d e x y : Int} (hk : F[k]? = some r) (h1 : r.1 = a) (h2 : r.2.1 = b) (h3 : e ≤ d) (h4 : e ≤ r.2.2) (h5 : e = d ∨ e = r.2.2) :
    od_sF (F.set k (r.1, r.2.1, e)) x y ↔ od_sF F x y ∧ a * x + b * y ≤ d := by
  subst h1 h2
  constructor
  · intro h
    have hv : r.1 * x + r.2.1 * y ≤ e := h k (r.1, r.2.1, e) (List.getElem?_set_self (od_len hk))
    refine ⟨od_all_unset (P := fun r : od_Few => r.1 * x + r.2.1 * y ≤ r.2.2) hk (fun _ => ?_) h, by omega⟩
    show r.1 * x + r.2.1 * y ≤ r.2.2
    omega
  · intro h
    have hr : r.1 * x + r.2.1 * y ≤ r.2.2 := h.1 k r hk
    have h6 := h.2
    refine od_all_set (P := fun r : od_Few => r.1 * x + r.2.1 * y ≤ r.2.2) hk ?_ h.1
    show r.1 * x + r.2.1 * y ≤ e
    omega
end
section
/-- put: one condition more -/
theorem od_put {post : St2 → Prop} {hd fw wo : Int32} {a1 a2 a3 a4 a5 a6 a7 a8 : Nat → Int32} {R : List od_Row} {n : Nat} (hl : R.length = n) (hn : n < 25) (hR : od_R R a4 a5) (a b c d : Int)
    (H : ∀ a4' a5', od_R (R ++ [(a, b, c, d)]) a4' a5' → post (hd, nI (n + 1), fw, wo, a1, a2, a3, a4', a5', a6, a7, a8))
    {p0 p1 p2 p3 : Int32} (e0 : p0 = od_e a) (e1 : p1 = od_e b) (e2 : p2 = od_e c) (e3 : p3 = od_e d) :
    wpX_put post (hd, nI n, fw, wo, a1, a2, a3, a4, a5, a6, a7, a8) p0 p1 p2 p3 := by
  subst e0 e1 e2 e3 hl
  exact ⟨pk_in (3 * R.length) 75 (by omega) (od_i0 _), nm_r (e' := upd a4 (3 * R.length) (od_e a)) (by rw [od_i0, nI_clamp (by omega)])
    ⟨pk_in (3 * R.length + 1) 75 (by omega) (od_i1 _), nm_r (e' := upd (upd a4 (3 * R.length) (od_e a)) (3 * R.length + 1) (od_e b)) (by rw [od_i1, nI_clamp (by omega)])
    ⟨pk_in (3 * R.length + 2) 75 (by omega) (od_i2 _), nm_r (e' := upd (upd (upd a4 (3 * R.length) (od_e a)) (3 * R.length + 1) (od_e b)) (3 * R.length + 2) (od_e c)) (by rw [od_i2, nI_clamp (by omega)])
    ⟨pk_in R.length 25 hn, nm_r (e' := upd a5 R.length (od_e d)) (by rw [nI_clamp (by omega)]) (nm_r (nI_1 _) (H _ _ (od_R_put hR a b c d)))⟩⟩⟩⟩
theorem od_amt {post : Int32 → Prop} (a : Int) (ha : -1 ≤ a ∧ a ≤ 1) (H : post (nI a.natAbs)) : wpX_amount post () (od_e a) := by
  refine od_le 0 a (fun z => ?_) (fun z => ?_)
  · rw [od_n, show ((a.natAbs : Nat) : Int) = a by omega] at H
    exact H
  · rw [od_n, show ((a.natAbs : Nat) : Int) = -a by omega] at H
    rw [od_neg]
    exact H
theorem od_gcd {post : Int32 → Prop} (m n : Nat) (hm : m ≤ 1) (hn : n ≤ 1) (h : 1 ≤ m + n) (H : post 1) : ∃ fu, wX_divisorOf_13 post fu (nI m) (nI n) 0 := by
  have h1 : m = 0 ∨ m = 1 := by omega
  have h2 : n = 0 ∨ n = 1 := by omega
  have key : wX_divisorOf_13 post 1 (nI 0) (nI 1) 1 := br_f (by decide) (br_t (by decide) H)
  rcases h1 with rfl | rfl
  · have e : n = 1 := by omega
    subst e
    exact ⟨1, br_f (by decide) (br_t (by decide) H)⟩
  · rcases h2 with rfl | rfl
    · exact ⟨2, br_f (by decide) (br_f (by decide) ⟨by decide, nm_r (e' := nI 0) (by decide) (nm_r (e' := 1) (by decide) key)⟩)⟩
    · exact ⟨2, br_f (by decide) (br_f (by decide) ⟨by decide, nm_r (e' := nI 0) (by decide) (nm_r (e' := 1) (by decide) key)⟩)⟩
/-- factors of at most 1: their divisor is 1 -/
theorem od_dv {post : Int32 → Prop} (a b : Int) (ha : -1 ≤ a ∧ a ≤ 1) (hb : -1 ≤ b ∧ b ≤ 1) (h : ¬ (a = 0 ∧ b = 0)) (H : post 1) : wpX_divisorOf post () (od_e a) (od_e b) :=
  od_amt a ha (od_amt b hb (od_gcd a.natAbs b.natAbs (by omega) (by omega) (by omega) H))
theorem od_floor {post : Int32 → Prop} {x y : Int32} (hy : y = 1) (H : post x) : wpX_floorDivide post () x y := by
  subst hy
  refine ⟨by decide, nm_r (e' := x) Int32.div_one ⟨by decide, br_t ?_ H⟩⟩
  rw [Int32.div_one, Int32.mul_one, Int32.sub_self]
  decide
/-- putFew behind the division -/
theorem od_pf48 {post : Int32 → St2 → Prop} {hd rs wo : Int32} {a1 a2 a3 a4 a5 a6 a7 a8 : Nat → Int32} {F : List od_Few} (hF : od_F F a6 a7) (hok : od_okF F) (hlen : F.length < 160)
    (a b d : Int) (ha : -1 ≤ a ∧ a ≤ 1) (hb : -1 ≤ b ∧ b ≤ 1) (hdd : -1000 ≤ d ∧ d ≤ 1000)
    (H1 : ∀ F' a6' a7', od_F F' a6' a7' → od_okF F' → F'.length ≤ F.length + 1 → (∀ x y, od_sF F' x y ↔ od_sF F x y ∧ a * x + b * y ≤ d) → post 1 (hd, rs, nI F'.length, wo, a1, a2, a3, a4, a5, a6', a7', a8)) :
    ∃ fu, wX_putFew_48 post (od_e a) (od_e b) (od_e d) hd rs (nI F.length) wo a1 a2 a3 a4 a5 a6 a7 a8 fu 0 := by
  refine pk_loop (σ := Unit) (fun n i _ => wX_putFew_48 post (od_e a) (od_e b) (od_e d) hd rs (nI F.length) wo a1 a2 a3 a4 a5 a6 a7 a8 n (nI i)) (fun _ _ => True) F.length 0 () (by omega) trivial ?_ ?_
  · intro n _ _
    refine pk_le F.length F.length (fun _ => ?_) (fun z => absurd z (by omega))
    refine ⟨pk_in (3 * F.length) 480 (by omega) (od_i0 _), nm_r (e' := upd a6 (3 * F.length) (od_e a)) (by rw [od_i0, nI_clamp (by omega)])
      ⟨pk_in (3 * F.length + 1) 480 (by omega) (od_i1 _), nm_r (e' := upd (upd a6 (3 * F.length) (od_e a)) (3 * F.length + 1) (od_e b)) (by rw [od_i1, nI_clamp (by omega)])
      ⟨pk_in F.length 160 hlen, nm_r (e' := upd a7 F.length (od_e d)) (by rw [nI_clamp (by omega)]) (nm_r (nI_1 _) ?_)⟩⟩⟩
    have t := H1 (F ++ [(a, b, d)]) _ _ (od_F_app hF a b d) (od_all_app.mpr ⟨hok, ha, hb, hdd⟩) (by simp) (fun x y => od_sF_app)
    rw [List.length_append, List.length_singleton] at t
    exact t
  · intro n i _ hi _ hw
    obtain ⟨r, hr⟩ := od_get hi
    obtain ⟨f1, f2, f3⟩ := hF i r hr
    obtain ⟨o1, o2, o3⟩ := hok i r hr
    have g1 : a6 (3 * nI i).toNatClampNeg = od_e r.1 := by rw [od_i0, nI_clamp (by omega)]; exact f1
    have g2 : a6 (3 * nI i + 1).toNatClampNeg = od_e r.2.1 := by rw [od_i1, nI_clamp (by omega)]; exact f2
    have g3 : a7 (nI i).toNatClampNeg = od_e r.2.2 := by rw [nI_clamp (by omega)]; exact f3
    have key : ∀ e : Int, e ≤ d → e ≤ r.2.2 → (e = d ∨ e = r.2.2) → r.1 = a → r.2.1 = b → post 1 (hd, rs, nI F.length, wo, a1, a2, a3, a4, a5, a6, upd a7 i (od_e e), a8) := by
      intro e e1 e2 e3 e4 e5
      have t := H1 (F.set i (r.1, r.2.1, e)) _ _ (od_F_set hF hr e) (od_all_set hr ⟨o1, o2, by show -1000 ≤ e ∧ e ≤ 1000; omega⟩ hok) (by rw [List.length_set]; omega) (fun x y => od_sF_set hr e4 e5 e1 e2 e3)
      rw [List.length_set] at t
      exact t
    refine pk_le F.length i (fun z => absurd z (by omega)) (fun _ => ⟨pk_in (3 * i) 480 (by omega) (od_i0 i), od_eq r.1 a (fun z1 => ?_) (fun _ => nm_r (nI_1 i) (hw () trivial)) g1⟩)
    refine ⟨pk_in (3 * i + 1) 480 (by omega) (od_i1 i), od_eq r.2.1 b (fun z2 => ?_) (fun _ => nm_r (nI_1 i) (hw () trivial)) g2⟩
    refine ⟨pk_in i 160 (by omega), od_le r.2.2 d (fun z3 => ?_) (fun z3 => ?_) g3⟩
    · exact ⟨pk_in i 160 (by omega), pk_in i 160 (by omega), nm_r (e' := upd a7 i (od_e r.2.2)) (by rw [nI_clamp (by omega), f3]) (key r.2.2 z3 (by omega) (by omega) z1 z2)⟩
    · exact ⟨pk_in i 160 (by omega), nm_r (e' := upd a7 i (od_e d)) (by rw [nI_clamp (by omega)]) (key d (by omega) (by omega) (by omega) z1 z2)⟩
theorem od_pf18 {post : Int32 → St2 → Prop} {hd rs wo : Int32} {a1 a2 a3 a4 a5 a6 a7 a8 : Nat → Int32} {F : List od_Few} (hF : od_F F a6 a7) (hok : od_okF F) (hlen : F.length < 160)
    (a b d : Int) (ha : -1 ≤ a ∧ a ≤ 1) (hb : -1 ≤ b ∧ b ≤ 1) (hdd : -1000 ≤ d ∧ d ≤ 1000) (hab : ¬ (a = 0 ∧ b = 0))
    (H1 : ∀ F' a6' a7', od_F F' a6' a7' → od_okF F' → F'.length ≤ F.length + 1 → (∀ x y, od_sF F' x y ↔ od_sF F x y ∧ a * x + b * y ≤ d) → post 1 (hd, rs, nI F'.length, wo, a1, a2, a3, a4, a5, a6', a7', a8)) :
    wX_putFew_18 post (od_e a) (od_e b) (od_e d) hd rs (nI F.length) wo a1 a2 a3 a4 a5 a6 a7 a8 :=
  od_dv a b ha hb hab ⟨by decide, nm_r (e' := od_e a) Int32.div_one ⟨by decide, nm_r (e' := od_e b) Int32.div_one (od_floor rfl (od_pf48 hF hok hlen a b d ha hb hdd H1))⟩⟩
/-- putFew: the pairs that meet what is held then are those that did and meet a x + b y ≤ d; false: there are none -/
theorem od_pf {post : Int32 → St2 → Prop} {hd rs wo : Int32} {a1 a2 a3 a4 a5 a6 a7 a8 : Nat → Int32} {F : List od_Few} (hF : od_F F a6 a7) (hok : od_okF F) (hlen : F.length < 160)
    (a b d : Int) (ha : -1 ≤ a ∧ a ≤ 1) (hb : -1 ≤ b ∧ b ≤ 1) (hdd : -1000 ≤ d ∧ d ≤ 1000)
    (H0 : (∀ x y : Int, ¬ a * x + b * y ≤ d) → post 0 (hd, rs, nI F.length, wo, a1, a2, a3, a4, a5, a6, a7, a8))
    (H1 : ∀ F' a6' a7', od_F F' a6' a7' → od_okF F' → F'.length ≤ F.length + 1 → (∀ x y, od_sF F' x y ↔ od_sF F x y ∧ a * x + b * y ≤ d) → post 1 (hd, rs, nI F'.length, wo, a1, a2, a3, a4, a5, a6', a7', a8))
    {p0 p1 p2 : Int32} (e0 : p0 = od_e a) (e1 : p1 = od_e b) (e2 : p2 = od_e d) :
    wpX_putFew post (hd, rs, nI F.length, wo, a1, a2, a3, a4, a5, a6, a7, a8) p0 p1 p2 := by
  subst e0 e1 e2
  refine od_eq a 0 (fun za => od_eq b 0 (fun zb => od_lt d 0 (fun zd => H0 (fun x y => ?_)) (fun zd => ?_)) (fun zb => ?_)) (fun za => ?_)
  · subst za zb
    omega
  · refine H1 F a6 a7 hF hok (by omega) (fun x y => ⟨fun h => ⟨h, ?_⟩, fun h => h.1⟩)
    subst za zb
    omega
  · exact od_pf18 hF hok hlen a b d ha hb hdd (fun z => zb z.2) H1
  · exact od_pf18 hF hok hlen a b d ha hb hdd (fun z => za z.1) H1
end
section
/-- the conditions worked with: factors of at most 1, bounded; an upper one on z has no x and no y -/
def od_okR (R : List od_Row) : Prop := od_all (fun r => (-1 ≤ r.1 ∧ r.1 ≤ 1) ∧ (-1 ≤ r.2.1 ∧ r.2.1 ≤ 1) ∧ (-1 ≤ r.2.2.1 ∧ r.2.2.1 ≤ 1) ∧ (-200 ≤ r.2.2.2 ∧ r.2.2.2 ≤ 200) ∧ (r.2.2.1 = 1 → r.1 = 0 ∧ r.2.1 = 0)) R
/-- a lower one q with each upper one -/
def od_up (q : od_Row) (x y : Int) (r : od_Row) : Prop := r.2.2.1 = 1 → (q.1 + r.1) * x + (q.2.1 + r.2.1) * y ≤ q.2.2.2 + r.2.2.2
/-- what makeFew keeps of the condition r -/
def od_row (R : List od_Row) (x y : Int) (r : od_Row) : Prop := (r.2.2.1 = 0 → r.1 * x + r.2.1 * y ≤ r.2.2.2) ∧ (r.2.2.1 = -1 → od_all (od_up r x y) R)
theorem od_rd {R : List od_Row} {a4 a5 : Nat → Int32} {k : Nat} {r : od_Row} (hR : od_R R a4 a5) (hk : R[k]? = some r) (hl : R.length ≤ 25) :
    a4 (3 * nI k).toNatClampNeg = od_e r.1 ∧ a4 (3 * nI k + 1).toNatClampNeg = od_e r.2.1 ∧ a4 (3 * nI k + 2).toNatClampNeg = od_e r.2.2.1 ∧ a5 (nI k).toNatClampNeg = od_e r.2.2.2 := by
  have h := od_len hk
  rw [od_i2, od_i1, od_i0, nI_clamp (n := 3 * k) (by omega), nI_clamp (n := 3 * k + 1) (by omega), nI_clamp (n := 3 * k + 2) (by omega), nI_clamp (n := k) (by omega)]
  exact hR k r hk
theorem od_pu {post : Int32 → St2 → Prop} {hd wo : Int32} {a1 a2 a3 a4 a5 a6 a7 a8 : Nat → Int32} {R : List od_Row} {F : List od_Few} (hR : od_R R a4 a5) (hkR : od_okR R) (hlR : R.length ≤ 10)
    (hF : od_F F a6 a7) (hok : od_okF F) (hlen : F.length + R.length < 160) {q : od_Row} {l : Nat} (hq : R[l]? = some q)
    (H0 : (∀ x y, ¬ od_all (od_up q x y) R) → ∀ fw a6' a7', post 0 (hd, nI R.length, fw, wo, a1, a2, a3, a4, a5, a6', a7', a8))
    (H1 : ∀ F' a6' a7', od_F F' a6' a7' → od_okF F' → F'.length ≤ F.length + R.length → (∀ x y, od_sF F' x y ↔ od_sF F x y ∧ od_all (od_up q x y) R) → post 1 (hd, nI R.length, nI F'.length, wo, a1, a2, a3, a4, a5, a6', a7', a8))
    {g nw : Int32} (eg : g = od_e 1) (en : nw = 1) :
    wpX_pairUp post (hd, nI R.length, nI F.length, wo, a1, a2, a3, a4, a5, a6, a7, a8) (nI l) g nw := by
  subst eg en
  obtain ⟨q1, q2, q3, q4⟩ := od_rd hR hq (by omega)
  have hl := od_len hq
  refine pk_loop (σ := Int32 × (Nat → Int32) × (Nat → Int32)) (fun n i s => wX_pairUp_3 post (nI l) (od_e 1) 1 n (nI i) hd (nI R.length) s.1 wo a1 a2 a3 a4 a5 s.2.1 s.2.2 a8)
    (fun i s => ∃ F' : List od_Few, s.1 = nI F'.length ∧ od_F F' s.2.1 s.2.2 ∧ od_okF F' ∧ F'.length ≤ F.length + i ∧ ∀ x y, od_sF F' x y ↔ od_sF F x y ∧ od_to (od_up q x y) R i)
    R.length 0 (nI F.length, a6, a7) (by omega) ⟨F, rfl, hF, hok, by omega, fun x y => ⟨fun h => ⟨h, od_to_0⟩, fun h => h.1⟩⟩ ?_ ?_
  · rintro n ⟨fw, b6, b7⟩ ⟨F', e, h1, h2, h3, h4⟩
    dsimp only at e h1
    subst e
    refine pk_le R.length R.length (fun _ => H1 F' b6 b7 h1 h2 h3 (fun x y => ?_)) (fun z => absurd z (by omega))
    rw [h4 x y, od_to_all]
  · rintro n i ⟨fw, b6, b7⟩ hi ⟨F', e, h1, h2, h3, h4⟩ hw
    dsimp only at e h1
    subst e
    obtain ⟨r, hr⟩ := od_get hi
    obtain ⟨r1, r2, r3, r4⟩ := od_rd hR hr (by omega)
    obtain ⟨o1, o2, o3, o4, o5⟩ := hkR i r hr
    obtain ⟨k1, k2, k3, k4, k5⟩ := hkR l q hq
    by_cases z : r.2.2.1 ≤ 0
    · refine pk_le R.length i (fun z => absurd z (by omega)) (fun _ => ⟨pk_in (3 * i + 2) 75 (by omega) (od_i2 i), nm_r (e' := od_e r.2.2.1) r3 (od_le r.2.2.1 0 (fun _ => nm_r (nI_1 i) (hw (nI F'.length, b6, b7) ⟨F', rfl, h1, h2, by omega, fun x y => ?_⟩)) (fun z' => absurd z (by omega)))⟩)
      rw [h4 x y, od_to_s hr]
      exact ⟨fun h => ⟨h.1, h.2, fun c => absurd c (by omega)⟩, fun h => ⟨h.1, h.2.1⟩⟩
    · have c1 : r.2.2.1 = 1 := by omega
      obtain ⟨z1, z2⟩ := o5 c1
      refine pk_le R.length i (fun z => absurd z (by omega)) (fun _ => ⟨pk_in (3 * i + 2) 75 (by omega) (od_i2 i), nm_r (e' := od_e 1) (r3.trans (by rw [c1])) (br_f (by decide) ?_)⟩)
      refine ⟨pk_in (3 * l) 75 (by omega) (od_i0 l), pk_in (3 * i) 75 (by omega) (od_i0 i), nm_r (e' := od_e (q.1 + r.1)) (by rw [q1, r1, od_mul, od_mul, od_add, Int.one_mul, Int.one_mul])
        ⟨pk_in (3 * l + 1) 75 (by omega) (od_i1 l), pk_in (3 * i + 1) 75 (by omega) (od_i1 i), nm_r (e' := od_e (q.2.1 + r.2.1)) (by rw [q2, r2, od_mul, od_mul, od_add, Int.one_mul, Int.one_mul])
        ⟨pk_in l 25 (by omega), pk_in i 25 (by omega), br_f (by decide) ?_⟩⟩⟩
      refine nm_r (e' := od_e (q.2.2.2 + r.2.2.2)) (by rw [q4, r4, show (od_e 1 - 1 : Int32) = od_e 0 from by decide, od_mul, od_mul, od_mul, od_add, od_sub]; exact congrArg od_e (by omega)) ?_
      refine od_pf h1 h2 (by omega) (q.1 + r.1) (q.2.1 + r.2.1) (q.2.2.2 + r.2.2.2) (by omega) (by omega) (by omega) (fun g0 => ?_) (fun F2 c6 c7 g1 g2 g3 g4 => ?_) rfl rfl rfl
      · exact br_t rfl (H0 (fun x y h => g0 x y (h i r hr c1)) _ _ _)
      · refine br_f (by decide) (nm_r (nI_1 i) (hw (nI F2.length, c6, c7) ⟨F2, rfl, g1, g2, by omega, fun x y => ?_⟩))
        rw [g4 x y, h4 x y, od_to_s hr]
        exact ⟨fun h => ⟨h.1.1, h.1.2, fun _ => h.2⟩, fun h => ⟨⟨h.1, h.2.1⟩, h.2.2 c1⟩⟩
theorem od_mf {post : Int32 → St2 → Prop} {hd fw wo : Int32} {a1 a2 a3 a4 a5 a6 a7 a8 : Nat → Int32} {R : List od_Row} (hR : od_R R a4 a5) (hkR : od_okR R) (hlR : R.length ≤ 10)
    (H0 : (∀ x y, ¬ od_all (od_row R x y) R) → ∀ fw a6' a7', post 0 (hd, nI R.length, fw, wo, a1, a2, a3, a4, a5, a6', a7', a8))
    (H1 : ∀ F a6' a7', od_F F a6' a7' → od_okF F → F.length < 160 → (∀ x y, od_sF F x y ↔ od_all (od_row R x y) R) → post 1 (hd, nI R.length, nI F.length, wo, a1, a2, a3, a4, a5, a6', a7', a8)) :
    wpX_makeFew post (hd, nI R.length, fw, wo, a1, a2, a3, a4, a5, a6, a7, a8) 1 := by
  refine pk_loop (σ := Int32 × Int32 × (Nat → Int32) × (Nat → Int32)) (fun n i s => wX_makeFew_9 post 1 n s.1 (nI i) hd (nI R.length) s.2.1 wo a1 a2 a3 a4 a5 s.2.2.1 s.2.2.2 a8)
    (fun i s => (s.1 = 0 ∧ ∀ x y, ¬ od_all (od_row R x y) R) ∨ (s.1 = 1 ∧ ∃ F : List od_Few, s.2.1 = nI F.length ∧ od_F F s.2.2.1 s.2.2.2 ∧ od_okF F ∧ F.length ≤ 11 * i ∧ ∀ x y, od_sF F x y ↔ od_to (od_row R x y) R i))
    R.length 0 (1, nI 0, a6, a7) (by omega) (Or.inr ⟨rfl, [], rfl, od_F_nil, od_all_nil, by simp, fun x y => ⟨fun _ => od_to_0, fun _ => od_all_nil⟩⟩) ?_ ?_
  · rintro n ⟨s1, fw, b6, b7⟩ (⟨e1, h⟩ | ⟨e1, F, e, h1, h2, h3, h4⟩)
    · dsimp only at e1
      subst e1
      exact pk_le R.length R.length (fun _ => ⟨narrow_b0, H0 h fw b6 b7⟩) (fun z => absurd z (by omega))
    · dsimp only at e1 e h1
      subst e1 e
      refine pk_le R.length R.length (fun _ => ⟨narrow_b1, H1 F b6 b7 h1 h2 (by omega) (fun x y => ?_)⟩) (fun z => absurd z (by omega))
      rw [h4 x y, od_to_all]
  · rintro n i ⟨s1, fw, b6, b7⟩ hi (⟨e1, h⟩ | ⟨e1, F, e, h1, h2, h3, h4⟩) hw
    · dsimp only at e1
      subst e1
      exact pk_le R.length i (fun z => absurd z (by omega)) (fun _ => br_t rfl ⟨narrow_b0, H0 h fw b6 b7⟩)
    · dsimp only at e1 e h1
      subst e1 e
      obtain ⟨r, hr⟩ := od_get hi
      obtain ⟨r1, r2, r3, r4⟩ := od_rd hR hr (by omega)
      obtain ⟨o1, o2, o3, o4, o5⟩ := hkR i r hr
      refine pk_le R.length i (fun z => absurd z (by omega)) (fun _ => br_f (show ¬ (1 : Int32) = 0 by decide) ⟨pk_in (3 * i + 2) 75 (by omega) (od_i2 i), nm_r (e' := od_e r.2.2.1) r3 (od_eq r.2.2.1 0 (fun z => ?_) (fun z => od_le 0 r.2.2.1 (fun z2 => ?_) (fun z2 => ?_)))⟩)
      · refine ⟨pk_in (3 * i) 75 (by omega) (od_i0 i), pk_in (3 * i + 1) 75 (by omega) (od_i1 i), pk_in i 25 (by omega), ?_⟩
        refine od_pf h1 h2 (by omega) r.1 r.2.1 r.2.2.2 o1 o2 (by omega) (fun g0 => ?_) (fun F2 c6 c7 g1 g2 g3 g4 => ?_) r1 r2 r4
        · exact nm_r (nI_1 i) (hw (0, nI F.length, b6, b7) (Or.inl ⟨rfl, fun x y h => g0 x y ((h i r hr).1 z)⟩))
        · refine nm_r (nI_1 i) (hw (1, nI F2.length, c6, c7) (Or.inr ⟨rfl, F2, rfl, g1, g2, by omega, fun x y => ?_⟩))
          rw [g4 x y, h4 x y, od_to_s hr]
          exact ⟨fun h => ⟨h.1, fun _ => h.2, fun c => absurd c (by omega)⟩, fun h => ⟨h.1, h.2.1 z⟩⟩
      · refine nm_r (nI_1 i) (hw (1, nI F.length, b6, b7) (Or.inr ⟨rfl, F, rfl, h1, h2, by omega, fun x y => ?_⟩))
        rw [h4 x y, od_to_s hr]
        exact ⟨fun h => ⟨h, fun c => absurd c z, fun c => absurd c (by omega)⟩, fun h => h.1⟩
      · have c1 : r.2.2.1 = -1 := by omega
        refine od_pu hR hkR hlR h1 h2 (by omega) hr (fun g0 fw' c6 c7 => ?_) (fun F2 c6 c7 g1 g2 g3 g4 => ?_) (by rw [c1]; decide) rfl
        · exact nm_r (nI_1 i) (hw (0, fw', c6, c7) (Or.inl ⟨rfl, fun x y h => g0 x y ((h i r hr).2 c1)⟩))
        · refine nm_r (nI_1 i) (hw (1, nI F2.length, c6, c7) (Or.inr ⟨rfl, F2, rfl, g1, g2, by omega, fun x y => ?_⟩))
          rw [g4 x y, h4 x y, od_to_s hr]
          exact ⟨fun h => ⟨h.1, fun c => absurd c z, fun _ => h.2⟩, fun h => ⟨h.1, h.2.2 c1⟩⟩
theorem od_ex {post : Int32 → Prop} {hd fw wo : Int32} {a1 a2 a3 a4 a5 a6 a7 a8 : Nat → Int32} {R : List od_Row} (hR : od_R R a4 a5) (hkR : od_okR R) (hlR : R.length ≤ 10) (H : post 1) :
    wpX_isExact post (hd, nI R.length, fw, wo, a1, a2, a3, a4, a5, a6, a7, a8) := by
  refine pk_loop (σ := Unit) (fun n i _ => wX_isExact_6 post hd (nI R.length) fw wo a1 a2 a3 a4 a5 a6 a7 a8 n 1 1 (nI i)) (fun _ _ => True) R.length 0 () (by omega) trivial ?_ ?_
  · intro n _ _
    exact pk_le R.length R.length (fun _ => br_t rfl H) (fun z => absurd z (by omega))
  · intro n i _ hi _ hw
    obtain ⟨r, hr⟩ := od_get hi
    obtain ⟨r1, r2, r3, r4⟩ := od_rd hR hr (by omega)
    obtain ⟨o1, o2, o3, o4, o5⟩ := hkR i r hr
    exact pk_le R.length i (fun z => absurd z (by omega)) (fun _ => ⟨pk_in (3 * i + 2) 75 (by omega) (od_i2 i), nm_r (e' := od_e r.2.2.1) r3 (od_le (-r.2.2.1) 1 (fun _ => od_le r.2.2.1 1 (fun _ => nm_r (nI_1 i) (hw () trivial)) (fun z => absurd z (by omega))) (fun z => absurd z (by omega)) (od_neg _))⟩)
theorem od_p1 (a : Int) : od_e a + 1 = od_e (a + 1) := by
  rw [show (1 : Int32) = od_e 1 from by decide]
  exact od_add a 1
/-- leavesRoom: whether some y goes with this x -/
theorem od_lr {post : Int32 → Prop} {hd rs wo : Int32} {a1 a2 a3 a4 a5 a6 a7 a8 : Nat → Int32} {F : List od_Few} (hF : od_F F a6 a7) (hok : od_okF F) (hlen : F.length < 160) (x : Int) (hx : -6 ≤ x ∧ x ≤ 6)
    (H0 : (∀ y, ¬ (-6 ≤ y ∧ y ≤ 6 ∧ od_sF F x y)) → post 0) (H1 : (∃ y, -6 ≤ y ∧ y ≤ 6 ∧ od_sF F x y) → post 1) :
    wpX_leavesRoom post (hd, rs, nI F.length, wo, a1, a2, a3, a4, a5, a6, a7, a8) (od_e x) := by
  refine pk_loop (σ := Int32 × Int32) (fun n i s => wX_leavesRoom_9 post (od_e x) hd rs (nI F.length) wo a1 a2 a3 a4 a5 a6 a7 a8 n s.1 s.2 (nI i))
    (fun i s => ∃ lo hi : Int, s.1 = od_e lo ∧ s.2 = od_e hi ∧ (-2000 ≤ lo ∧ lo ≤ 2000) ∧ (-2000 ≤ hi ∧ hi ≤ 2000) ∧ ∀ y : Int, (lo ≤ y ∧ y ≤ hi) ↔ (-6 ≤ y ∧ y ≤ 6 ∧ od_to (fun r => r.1 * x + r.2.1 * y ≤ r.2.2) F i))
    F.length 0 (-6, 6) (by omega) ⟨-6, 6, od_m6, rfl, by omega, by omega, fun y => ⟨fun h => ⟨h.1, h.2, od_to_0⟩, fun h => ⟨h.1, h.2.1⟩⟩⟩ ?_ ?_
  · rintro n ⟨s1, s2⟩ ⟨lo, hi, e1, e2, l1, l2, hy⟩
    dsimp only at e1 e2
    subst e1 e2
    refine pk_le F.length F.length (fun _ => od_lt hi lo (fun z => H0 (fun y h => ?_)) (fun z => H1 ⟨lo, ?_⟩)) (fun z => absurd z (by omega))
    · have t := (hy y).mpr ⟨h.1, h.2.1, od_to_all.mpr h.2.2⟩
      omega
    · have t := (hy lo).mp ⟨by omega, z⟩
      exact ⟨t.1, t.2.1, od_to_all.mp t.2.2⟩
  · rintro n i ⟨s1, s2⟩ hi ⟨lo, hg, e1, e2, l1, l2, hy⟩ hw
    dsimp only at e1 e2
    subst e1 e2
    obtain ⟨r, hr⟩ := od_get hi
    obtain ⟨f1, f2, f3⟩ := hF i r hr
    obtain ⟨o1, o2, o3⟩ := hok i r hr
    have g1 : a6 (3 * nI i).toNatClampNeg = od_e r.1 := by rw [od_i0, nI_clamp (by omega)]; exact f1
    have g2 : a6 (3 * nI i + 1).toNatClampNeg = od_e r.2.1 := by rw [od_i1, nI_clamp (by omega)]; exact f2
    have g3 : a7 (nI i).toNatClampNeg = od_e r.2.2 := by rw [nI_clamp (by omega)]; exact f3
    have hm : -6 ≤ r.1 * x ∧ r.1 * x ≤ 6 := by
      have c : r.1 = -1 ∨ r.1 = 0 ∨ r.1 = 1 := by omega
      rcases c with c | c | c <;> rw [c] <;> omega
    have key : ∀ lo' hg' : Int, (-2000 ≤ lo' ∧ lo' ≤ 2000) → (-2000 ≤ hg' ∧ hg' ≤ 2000) → (∀ y : Int, (lo' ≤ y ∧ y ≤ hg') ↔ ((lo ≤ y ∧ y ≤ hg) ∧ r.1 * x + r.2.1 * y ≤ r.2.2)) →
        wX_leavesRoom_9 post (od_e x) hd rs (nI F.length) wo a1 a2 a3 a4 a5 a6 a7 a8 n (od_e lo') (od_e hg') (nI (i + 1)) := by
      intro lo' hg' m1 m2 h
      refine hw (od_e lo', od_e hg') ⟨lo', hg', rfl, rfl, m1, m2, fun y => ?_⟩
      rw [h y, hy y, od_to_s hr]
      exact ⟨fun t => ⟨t.1.1, t.1.2.1, t.1.2.2, t.2⟩, fun t => ⟨⟨t.1, t.2.1, t.2.2.1⟩, t.2.2.2⟩⟩
    have w64 : (r.2.1 = 0 → 0 ≤ r.2.2 - r.1 * x) → wX_leavesRoom_64 post (wX_leavesRoom_9 post (od_e x) hd rs (nI F.length) wo a1 a2 a3 a4 a5 a6 a7 a8 n) (od_e x) (od_e lo) (od_e hg) (nI i) (od_e r.2.1) (od_e (r.2.2 - r.1 * x)) hd rs (nI F.length) wo a1 a2 a3 a4 a5 a6 a7 a8 := by
      intro h0
      have c : r.2.1 = 0 ∨ r.2.1 = -1 ∨ r.2.1 = 1 := by omega
      rcases c with c | c | c
      · have h1 := h0 c
        refine od_le r.2.1 0 (fun _ => od_le 0 r.2.1 (fun _ => nm_r (nI_1 i) (key lo hg l1 l2 (fun y => ?_))) (fun z => absurd z (by omega))) (fun z => absurd z (by omega))
        rw [c]
        omega
      · refine od_le r.2.1 0 (fun _ => od_le 0 r.2.1 (fun z => absurd z (by omega)) (fun _ => od_floor (by rw [c]; decide) (nm_r (e' := od_e (-(r.2.2 - r.1 * x))) (od_neg _) (od_le (-(r.2.2 - r.1 * x)) lo (fun z => nm_r (nI_1 i) (key lo hg l1 l2 (fun y => ?_))) (fun z => nm_r (nI_1 i) (key (-(r.2.2 - r.1 * x)) hg (by omega) l2 (fun y => ?_))))))) (fun z => absurd z (by omega))
        · rw [c]
          omega
        · rw [c]
          omega
      · refine od_le r.2.1 0 (fun z => absurd z (by omega)) (fun _ => od_floor (by rw [c]; decide) (od_le hg (r.2.2 - r.1 * x) (fun z => nm_r (nI_1 i) (key lo hg l1 l2 (fun y => ?_))) (fun z => nm_r (nI_1 i) (key lo (r.2.2 - r.1 * x) l1 (by omega) (fun y => ?_)))))
        · rw [c]
          omega
        · rw [c]
          omega
    refine pk_le F.length i (fun z => absurd z (by omega)) (fun _ => ⟨pk_in (3 * i + 1) 480 (by omega) (od_i1 i), nm_r (e' := od_e r.2.1) g2 ⟨pk_in i 160 (by omega), pk_in (3 * i) 480 (by omega) (od_i0 i),
      nm_r (e' := od_e (r.2.2 - r.1 * x)) (by rw [g3, g1, od_mul, od_sub]) (od_eq r.2.1 0 (fun z => od_le 0 (r.2.2 - r.1 * x) (fun z2 => w64 (fun _ => z2)) (fun z2 => H0 (fun y h => ?_))) (fun z => w64 (fun z2 => absurd z2 z)))⟩⟩)
    have t : r.1 * x + r.2.1 * y ≤ r.2.2 := h.2.2 i r hr
    rw [z] at t
    omega
theorem od_pl {post : Int32 → Prop} {hd rs wo : Int32} {a1 a2 a3 a4 a5 a6 a7 a8 : Nat → Int32} {F : List od_Few} (hF : od_F F a6 a7) (hok : od_okF F) (hlen : F.length < 160)
    (H0 : (∀ x y, -6 ≤ x → x ≤ 6 → -6 ≤ y → y ≤ 6 → ¬ od_sF F x y) → post 0) (H1 : (∃ x y, (-6 ≤ x ∧ x ≤ 6) ∧ (-6 ≤ y ∧ y ≤ 6) ∧ od_sF F x y) → post 1) :
    wpX_planeSolvable post (hd, rs, nI F.length, wo, a1, a2, a3, a4, a5, a6, a7, a8) := by
  have key : ∃ n, wX_planeSolvable_3 post hd rs (nI F.length) wo a1 a2 a3 a4 a5 a6 a7 a8 n (od_e (((0 : Nat) : Int) - 6)) := by
    refine pk_loop (σ := Unit) (fun n i _ => wX_planeSolvable_3 post hd rs (nI F.length) wo a1 a2 a3 a4 a5 a6 a7 a8 n (od_e ((i : Int) - 6))) (fun i _ => ∀ x y : Int, -6 ≤ x → x < (i : Int) - 6 → -6 ≤ y → y ≤ 6 → ¬ od_sF F x y) 13 0 () (by omega) (fun x y h1 h2 => absurd h2 (by omega)) ?_ ?_
    · intro n _ h
      exact od_lt 6 (((13 : Nat) : Int) - 6) (fun _ => H0 (fun x y h1 h2 => h x y h1 (by omega))) (fun z => absurd z (by omega))
    · intro n i _ hi h hw
      refine od_lt 6 ((i : Int) - 6) (fun z => absurd z (by omega)) (fun _ => od_lr hF hok hlen ((i : Int) - 6) (by omega) (fun h0 => br_t rfl (nm_r (e' := od_e (((i + 1 : Nat) : Int) - 6)) ((od_p1 _).trans (congrArg od_e (by omega))) (hw () (fun x y x1 x2 y1 y2 hs => ?_)))) (fun ⟨y, y1, y2, hs⟩ => br_f (by decide) (H1 ⟨_, y, by omega, ⟨y1, y2⟩, hs⟩)))
      by_cases e : x = (i : Int) - 6
      · subst e
        exact h0 y ⟨y1, y2, hs⟩
      · exact h x y x1 (by omega) y1 y2 hs
  obtain ⟨n, hn⟩ := key
  exact ⟨n, by rw [od_m6]; exact hn⟩
/-- solvable: some (x, y) is left -/
theorem od_sv {post : Int32 → St2 → Prop} {hd fw wo : Int32} {a1 a2 a3 a4 a5 a6 a7 a8 : Nat → Int32} {R : List od_Row} {n : Nat} (hl : R.length = n) (hR : od_R R a4 a5) (hkR : od_okR R) (hlR : n ≤ 10)
    (H0 : (∀ x y, -6 ≤ x → x ≤ 6 → -6 ≤ y → y ≤ 6 → ¬ od_all (od_row R x y) R) → ∀ fw a6' a7', post 0 (hd, nI n, fw, wo, a1, a2, a3, a4, a5, a6', a7', a8))
    (H1 : (∃ x y, (-6 ≤ x ∧ x ≤ 6) ∧ (-6 ≤ y ∧ y ≤ 6) ∧ od_all (od_row R x y) R) → ∀ fw a6' a7', post 1 (hd, nI n, fw, wo, a1, a2, a3, a4, a5, a6', a7', a8)) :
    wpX_solvable post (hd, nI n, fw, wo, a1, a2, a3, a4, a5, a6, a7, a8) := by
  subst hl
  have h17 : (∀ x y, -6 ≤ x → x ≤ 6 → -6 ≤ y → y ≤ 6 → ¬ od_all (od_row R x y) R) → ∀ fw b6 b7, wX_solvable_17 post hd (nI R.length) fw wo a1 a2 a3 a4 a5 b6 b7 a8 :=
    fun h fw b6 b7 => od_ex hR hkR hlR (br_f (by decide) (H0 h fw b6 b7))
  exact od_mf (fw := fw) (a6 := a6) (a7 := a7) hR hkR hlR (fun h fw b6 b7 => br_t rfl (h17 (fun x y _ _ _ _ => h x y) fw b6 b7))
    (fun F b6 b7 g1 g2 g3 g4 => br_f (by decide) (od_pl g1 g2 g3 (fun h => br_t rfl (h17 (fun x y x1 x2 y1 y2 hh => h x y x1 x2 y1 y2 ((g4 x y).mpr hh)) _ _ _)) (fun ⟨x, y, hx, hy, hs⟩ => br_f (by decide) (H1 ⟨x, y, hx, hy, (g4 x y).mp hs⟩ _ _ _))))
end
section
/-- the object's conditions: x + y = s, x - y - z ≤ z0 -/
def od_O (s z : Int) (a1 a2 a3 : Nat → Int32) : Prop := a1 0 = od_e 1 ∧ a1 1 = od_e 1 ∧ a1 2 = od_e 0 ∧ a1 3 = od_e 1 ∧ a1 4 = od_e (-1) ∧ a1 5 = od_e (-1) ∧ a2 0 = od_e s ∧ a2 1 = od_e z ∧ a3 0 = 1 ∧ a3 1 = 0
def od_ok1 (t : Int) : Prop := t = 100 ∨ (-6 ≤ t ∧ t ≤ 6)
/-- the values that are fixed (100: none) -/
def od_X (t : Nat → Int) (a8 : Nat → Int32) : Prop := ∀ j, j < 3 → (a8 j = od_e (t j) ∧ od_ok1 (t j))
def od_Y (t : Nat → Int) (v : Nat) (a8 : Nat → Int32) : Prop := ∀ j, j < 3 → j ≠ v → (a8 j = od_e (t j) ∧ od_ok1 (t j))
def od_st (t : Nat → Int) (v : Nat) (x : Int) : Nat → Int := fun j => if j = v then x else t j
theorem od_XY {t : Nat → Int} {v : Nat} {x : Int} {a8 : Nat → Int32} (h : od_X (od_st t v x) a8) : od_Y t v a8 := by
  intro j hj e
  have q := h j hj
  rw [show od_st t v x j = t j from if_neg e] at q
  exact q
theorem od_X_Y {t : Nat → Int} {v : Nat} {a8 : Nat → Int32} (h : od_X t a8) : od_Y t v a8 := fun j hj _ => h j hj
theorem od_YX {t : Nat → Int} {v : Nat} {x : Int} {a8 : Nat → Int32} (h : od_Y t v a8) (hx : od_ok1 x) : od_X (od_st t v x) (upd a8 v (od_e x)) := by
  intro j hj
  by_cases e : j = v
  · subst e
    rw [show od_st t j x j = x from if_pos rfl, pk_us]
    exact ⟨rfl, hx⟩
  · rw [show od_st t v x j = t j from if_neg e, pk_un e]
    exact h j hj e
def od_lo (t : Int) : Int := if t = 100 then -6 else t
def od_hi (t : Int) : Int := if t = 100 then 6 else t
theorem od_lo_100 : od_lo 100 = -6 := rfl
theorem od_hi_100 : od_hi 100 = 6 := rfl
theorem od_lo_n {t : Int} (h : t ≠ 100) : od_lo t = t := if_neg h
theorem od_hi_n {t : Int} (h : t ≠ 100) : od_hi t = t := if_neg h
theorem od_lohi {t : Int} (h : od_ok1 t) : -6 ≤ od_lo t ∧ od_lo t ≤ 6 ∧ -6 ≤ od_hi t ∧ od_hi t ≤ 6 ∧ od_lo t ≤ od_hi t := by
  unfold od_ok1 at h
  unfold od_lo od_hi
  split <;> omega
theorem od_cl {f : Nat → Int32} {x v : Int32} {n : Nat} (h : x.toNatClampNeg = n) (hf : f n = v) : f x.toNatClampNeg = v := by
  rw [h]
  exact hf
theorem od_v0 {post : St2 → Prop} {J : Int32 → Int32 → Int32 → Int32 → Int32 → (Nat → Int32) → (Nat → Int32) → (Nat → Int32) → (Nat → Int32) → (Nat → Int32) → (Nat → Int32) → (Nat → Int32) → (Nat → Int32) → Prop} {hd fw wo : Int32} {a1 a2 a3 a4 a5 a6 a7 a8 : Nat → Int32} {R : List od_Row} {n : Nat} (hl : R.length = n) (hn : n < 23) (hR : od_R R a4 a5) (h l : Int)
    (H : ∀ a4' a5', od_R (R ++ [(1, 0, 0, h)] ++ [(-1, 0, 0, -l)]) a4' a5' → J (nI 1) hd (nI (n + 1 + 1)) fw wo a1 a2 a3 a4' a5' a6 a7 a8)
    {x2 x3 : Int32} (e1 : x2 = od_e h) (e2 : x3 = od_e l) : wX_collect_154 post J (nI 0) x2 x3 hd (nI n) fw wo a1 a2 a3 a4 a5 a6 a7 a8 := by
  subst e1 e2
  exact br_t (by decide) (br_f (by decide) (br_f (by decide) (od_put hl (by omega) hR 1 0 0 h (fun b4 b5 hb => br_t (by decide) (br_f (by decide) (br_f (by decide) (od_put (n := n + 1) (by rw [List.length_append, hl]; rfl) (by omega) hb (-1) 0 0 (-l) (fun c4 c5 hc => nm_r (e' := nI 1) (by decide) (H c4 c5 hc)) od_m1 rfl rfl (od_neg l))))) rfl rfl rfl rfl)))
theorem od_s0 {post : St2 → Prop} {J : Int32 → Int32 → Int32 → Int32 → Int32 → (Nat → Int32) → (Nat → Int32) → (Nat → Int32) → (Nat → Int32) → (Nat → Int32) → (Nat → Int32) → (Nat → Int32) → (Nat → Int32) → Prop} {hd fw wo : Int32} {a1 a2 a3 a4 a5 a6 a7 a8 : Nat → Int32} {R : List od_Row} {n : Nat} (hl : R.length = n) (hn : n < 23) (hR : od_R R a4 a5) (t : Int) (ht : od_ok1 t) (h8 : a8 0 = od_e t)
    (H : ∀ a4' a5', od_R (R ++ [(1, 0, 0, od_hi t)] ++ [(-1, 0, 0, -od_lo t)]) a4' a5' → J (nI 1) hd (nI (n + 1 + 1)) fw wo a1 a2 a3 a4' a5' a6 a7 a8) :
    vp_in (nI 0) 3 ∧ ((a8 (nI 0).toNatClampNeg = 100 → wX_collect_131 post J (nI 0) 6 hd (nI n) fw wo a1 a2 a3 a4 a5 a6 a7 a8) ∧ (¬ a8 (nI 0).toNatClampNeg = 100 → (vp_in (nI 0) 3 ∧ wX_collect_131 post J (nI 0) (a8 (nI 0).toNatClampNeg) hd (nI n) fw wo a1 a2 a3 a4 a5 a6 a7 a8))) := by
  have g : a8 (nI 0).toNatClampNeg = od_e t := od_cl (nI_clamp (by omega)) h8
  have i3 : vp_in (nI 0) 3 := pk_in 0 3 (by omega)
  have hb : -2147483648 ≤ t ∧ t < 2147483648 := by unfold od_ok1 at ht; omega
  by_cases z : t = 100
  · subst z
    rw [od_hi_100, od_lo_100] at H
    exact ⟨i3, br_t g ⟨i3, br_t g (od_v0 hl hn hR 6 (-6) H rfl od_m6)⟩⟩
  · have z2 : ¬ a8 (nI 0).toNatClampNeg = 100 := by
      rw [g]
      exact fun c => z ((od_eqI (b := 100) hb (by omega)).mp c)
    rw [od_hi_n z, od_lo_n z] at H
    exact ⟨i3, br_f z2 ⟨i3, i3, br_f z2 ⟨i3, od_v0 hl hn hR t t H g g⟩⟩⟩
theorem od_v1 {post : St2 → Prop} {J : Int32 → Int32 → Int32 → Int32 → Int32 → (Nat → Int32) → (Nat → Int32) → (Nat → Int32) → (Nat → Int32) → (Nat → Int32) → (Nat → Int32) → (Nat → Int32) → (Nat → Int32) → Prop} {hd fw wo : Int32} {a1 a2 a3 a4 a5 a6 a7 a8 : Nat → Int32} {R : List od_Row} {n : Nat} (hl : R.length = n) (hn : n < 23) (hR : od_R R a4 a5) (h l : Int)
    (H : ∀ a4' a5', od_R (R ++ [(0, 1, 0, h)] ++ [(0, -1, 0, -l)]) a4' a5' → J (nI 2) hd (nI (n + 1 + 1)) fw wo a1 a2 a3 a4' a5' a6 a7 a8)
    {x2 x3 : Int32} (e1 : x2 = od_e h) (e2 : x3 = od_e l) : wX_collect_154 post J (nI 1) x2 x3 hd (nI n) fw wo a1 a2 a3 a4 a5 a6 a7 a8 := by
  subst e1 e2
  exact br_f (by decide) (br_t (by decide) (br_f (by decide) (od_put hl (by omega) hR 0 1 0 h (fun b4 b5 hb => br_f (by decide) (br_t (by decide) (br_f (by decide) (od_put (n := n + 1) (by rw [List.length_append, hl]; rfl) (by omega) hb 0 (-1) 0 (-l) (fun c4 c5 hc => nm_r (e' := nI 2) (by decide) (H c4 c5 hc)) rfl od_m1 rfl (od_neg l))))) rfl rfl rfl rfl)))
theorem od_s1 {post : St2 → Prop} {J : Int32 → Int32 → Int32 → Int32 → Int32 → (Nat → Int32) → (Nat → Int32) → (Nat → Int32) → (Nat → Int32) → (Nat → Int32) → (Nat → Int32) → (Nat → Int32) → (Nat → Int32) → Prop} {hd fw wo : Int32} {a1 a2 a3 a4 a5 a6 a7 a8 : Nat → Int32} {R : List od_Row} {n : Nat} (hl : R.length = n) (hn : n < 23) (hR : od_R R a4 a5) (t : Int) (ht : od_ok1 t) (h8 : a8 1 = od_e t)
    (H : ∀ a4' a5', od_R (R ++ [(0, 1, 0, od_hi t)] ++ [(0, -1, 0, -od_lo t)]) a4' a5' → J (nI 2) hd (nI (n + 1 + 1)) fw wo a1 a2 a3 a4' a5' a6 a7 a8) :
    vp_in (nI 1) 3 ∧ ((a8 (nI 1).toNatClampNeg = 100 → wX_collect_131 post J (nI 1) 6 hd (nI n) fw wo a1 a2 a3 a4 a5 a6 a7 a8) ∧ (¬ a8 (nI 1).toNatClampNeg = 100 → (vp_in (nI 1) 3 ∧ wX_collect_131 post J (nI 1) (a8 (nI 1).toNatClampNeg) hd (nI n) fw wo a1 a2 a3 a4 a5 a6 a7 a8))) := by
  have g : a8 (nI 1).toNatClampNeg = od_e t := od_cl (nI_clamp (by omega)) h8
  have i3 : vp_in (nI 1) 3 := pk_in 1 3 (by omega)
  have hb : -2147483648 ≤ t ∧ t < 2147483648 := by unfold od_ok1 at ht; omega
  by_cases z : t = 100
  · subst z
    rw [od_hi_100, od_lo_100] at H
    exact ⟨i3, br_t g ⟨i3, br_t g (od_v1 hl hn hR 6 (-6) H rfl od_m6)⟩⟩
  · have z2 : ¬ a8 (nI 1).toNatClampNeg = 100 := by
      rw [g]
      exact fun c => z ((od_eqI (b := 100) hb (by omega)).mp c)
    rw [od_hi_n z, od_lo_n z] at H
    exact ⟨i3, br_f z2 ⟨i3, i3, br_f z2 ⟨i3, od_v1 hl hn hR t t H g g⟩⟩⟩
theorem od_v2 {post : St2 → Prop} {J : Int32 → Int32 → Int32 → Int32 → Int32 → (Nat → Int32) → (Nat → Int32) → (Nat → Int32) → (Nat → Int32) → (Nat → Int32) → (Nat → Int32) → (Nat → Int32) → (Nat → Int32) → Prop} {hd fw wo : Int32} {a1 a2 a3 a4 a5 a6 a7 a8 : Nat → Int32} {R : List od_Row} {n : Nat} (hl : R.length = n) (hn : n < 23) (hR : od_R R a4 a5) (h l : Int)
    (H : ∀ a4' a5', od_R (R ++ [(0, 0, 1, h)] ++ [(0, 0, -1, -l)]) a4' a5' → J (nI 3) hd (nI (n + 1 + 1)) fw wo a1 a2 a3 a4' a5' a6 a7 a8)
    {x2 x3 : Int32} (e1 : x2 = od_e h) (e2 : x3 = od_e l) : wX_collect_154 post J (nI 2) x2 x3 hd (nI n) fw wo a1 a2 a3 a4 a5 a6 a7 a8 := by
  subst e1 e2
  exact br_f (by decide) (br_f (by decide) (br_t (by decide) (od_put hl (by omega) hR 0 0 1 h (fun b4 b5 hb => br_f (by decide) (br_f (by decide) (br_t (by decide) (od_put (n := n + 1) (by rw [List.length_append, hl]; rfl) (by omega) hb 0 0 (-1) (-l) (fun c4 c5 hc => nm_r (e' := nI 3) (by decide) (H c4 c5 hc)) rfl rfl od_m1 (od_neg l))))) rfl rfl rfl rfl)))
theorem od_s2 {post : St2 → Prop} {J : Int32 → Int32 → Int32 → Int32 → Int32 → (Nat → Int32) → (Nat → Int32) → (Nat → Int32) → (Nat → Int32) → (Nat → Int32) → (Nat → Int32) → (Nat → Int32) → (Nat → Int32) → Prop} {hd fw wo : Int32} {a1 a2 a3 a4 a5 a6 a7 a8 : Nat → Int32} {R : List od_Row} {n : Nat} (hl : R.length = n) (hn : n < 23) (hR : od_R R a4 a5) (t : Int) (ht : od_ok1 t) (h8 : a8 2 = od_e t)
    (H : ∀ a4' a5', od_R (R ++ [(0, 0, 1, od_hi t)] ++ [(0, 0, -1, -od_lo t)]) a4' a5' → J (nI 3) hd (nI (n + 1 + 1)) fw wo a1 a2 a3 a4' a5' a6 a7 a8) :
    vp_in (nI 2) 3 ∧ ((a8 (nI 2).toNatClampNeg = 100 → wX_collect_131 post J (nI 2) 6 hd (nI n) fw wo a1 a2 a3 a4 a5 a6 a7 a8) ∧ (¬ a8 (nI 2).toNatClampNeg = 100 → (vp_in (nI 2) 3 ∧ wX_collect_131 post J (nI 2) (a8 (nI 2).toNatClampNeg) hd (nI n) fw wo a1 a2 a3 a4 a5 a6 a7 a8))) := by
  have g : a8 (nI 2).toNatClampNeg = od_e t := od_cl (nI_clamp (by omega)) h8
  have i3 : vp_in (nI 2) 3 := pk_in 2 3 (by omega)
  have hb : -2147483648 ≤ t ∧ t < 2147483648 := by unfold od_ok1 at ht; omega
  by_cases z : t = 100
  · subst z
    rw [od_hi_100, od_lo_100] at H
    exact ⟨i3, br_t g ⟨i3, br_t g (od_v2 hl hn hR 6 (-6) H rfl od_m6)⟩⟩
  · have z2 : ¬ a8 (nI 2).toNatClampNeg = 100 := by
      rw [g]
      exact fun c => z ((od_eqI (b := 100) hb (by omega)).mp c)
    rw [od_hi_n z, od_lo_n z] at H
    exact ⟨i3, br_f z2 ⟨i3, i3, br_f z2 ⟨i3, od_v2 hl hn hR t t H g g⟩⟩⟩
def od_rows (s z : Int) (t : Nat → Int) : List od_Row := [(1, 1, 0, s), (-1, -1, 0, -s), (1, -1, -1, z), (1, 0, 0, od_hi (t 0)), (-1, 0, 0, -od_lo (t 0)), (0, 1, 0, od_hi (t 1)), (0, -1, 0, -od_lo (t 1)), (0, 0, 1, od_hi (t 2)), (0, 0, -1, -od_lo (t 2))]
/-- collect: the nine conditions -/
theorem od_co {post : St2 → Prop} {rs fw : Int32} {a1 a2 a3 a4 a5 a6 a7 a8 : Nat → Int32} {s z : Int} {t : Nat → Int} (hO : od_O s z a1 a2 a3) (hX : od_X t a8)
    (H : ∀ a4' a5', od_R (od_rows s z t) a4' a5' → post (2, nI 9, fw, -1, a1, a2, a3, a4', a5', a6, a7, a8)) : wpX_collect post (2, rs, fw, -1, a1, a2, a3, a4, a5, a6, a7, a8) := by
  obtain ⟨c0, c1, c2, c3, c4, c5, l0, l1, q0, q1⟩ := hO
  obtain ⟨x0, k0⟩ := hX 0 (by omega)
  obtain ⟨x1, k1⟩ := hX 1 (by omega)
  obtain ⟨x2, k2⟩ := hX 2 (by omega)
  have hv : ∀ b4 b5, od_R [(1, 1, 0, s), (-1, -1, 0, -s), (1, -1, -1, z)] b4 b5 → ∃ fu, wX_collect_104 post fu 0 2 (nI 3) fw (-1) a1 a2 a3 b4 b5 a6 a7 a8 := by
    intro b4 b5 hb
    have w3 : ∀ b4 b5, od_R (od_rows s z t) b4 b5 → wX_collect_104 post 1 (nI 3) 2 (nI 9) fw (-1) a1 a2 a3 b4 b5 a6 a7 a8 := fun b4 b5 hb => br_t (by decide) (H b4 b5 hb)
    have w2 : ∀ b4 b5, od_R [(1, 1, 0, s), (-1, -1, 0, -s), (1, -1, -1, z), (1, 0, 0, od_hi (t 0)), (-1, 0, 0, -od_lo (t 0)), (0, 1, 0, od_hi (t 1)), (0, -1, 0, -od_lo (t 1))] b4 b5 → wX_collect_104 post 2 (nI 2) 2 (nI 7) fw (-1) a1 a2 a3 b4 b5 a6 a7 a8 :=
      fun b4 b5 hb => br_f (by decide) (od_s2 rfl (by omega) hb (t 2) k2 x2 (fun d4 d5 hd => w3 d4 d5 hd))
    have w1 : ∀ b4 b5, od_R [(1, 1, 0, s), (-1, -1, 0, -s), (1, -1, -1, z), (1, 0, 0, od_hi (t 0)), (-1, 0, 0, -od_lo (t 0))] b4 b5 → wX_collect_104 post 3 (nI 1) 2 (nI 5) fw (-1) a1 a2 a3 b4 b5 a6 a7 a8 :=
      fun b4 b5 hb => br_f (by decide) (od_s1 rfl (by omega) hb (t 1) k1 x1 (fun d4 d5 hd => w2 d4 d5 hd))
    have w0 : wX_collect_104 post 4 (nI 0) 2 (nI 3) fw (-1) a1 a2 a3 b4 b5 a6 a7 a8 := br_f (by decide) (od_s0 rfl (by omega) hb (t 0) k0 x0 (fun d4 d5 hd => w1 d4 d5 hd))
    exact ⟨4, w0⟩
  have u2 : ∀ b4 b5, od_R [(1, 1, 0, s), (-1, -1, 0, -s), (1, -1, -1, z)] b4 b5 → wX_collect_7 post 1 2 2 (nI 3) fw (-1) a1 a2 a3 b4 b5 a6 a7 a8 := fun b4 b5 hb => br_t (by decide) (hv b4 b5 hb)
  have u1 : ∀ b4 b5, od_R [(1, 1, 0, s), (-1, -1, 0, -s)] b4 b5 → wX_collect_7 post 2 1 2 (nI 2) fw (-1) a1 a2 a3 b4 b5 a6 a7 a8 := by
    intro b4 b5 hb
    refine br_f (by decide) (br_f (by decide) ⟨pk_in 3 24 (by omega) (by decide), nm_r (e' := od_e 1) (od_cl (by decide) c3) ⟨pk_in 4 24 (by omega) (by decide), nm_r (e' := od_e (-1)) (od_cl (by decide) c4) ⟨pk_in 5 24 (by omega) (by decide), nm_r (e' := od_e (-1)) (od_cl (by decide) c5) ⟨pk_in 1 8 (by omega) (by decide), ?_⟩⟩⟩⟩)
    exact od_put (n := 2) rfl (by omega) hb 1 (-1) (-1) z (fun d4 d5 hd => ⟨pk_in 1 8 (by omega) (by decide), br_t (od_cl (by decide) q1) (nm_r (e' := 2) (by decide) (u2 d4 d5 hd))⟩) rfl rfl rfl (od_cl (by decide) l1)
  have u0 : wX_collect_7 post 3 0 2 (nI 0) fw (-1) a1 a2 a3 a4 a5 a6 a7 a8 := by
    refine br_f (by decide) (br_f (by decide) ⟨pk_in 0 24 (by omega) (by decide), nm_r (e' := od_e 1) (od_cl (by decide) c0) ⟨pk_in 1 24 (by omega) (by decide), nm_r (e' := od_e 1) (od_cl (by decide) c1) ⟨pk_in 2 24 (by omega) (by decide), nm_r (e' := od_e 0) (od_cl (by decide) c2) ⟨pk_in 0 8 (by omega) (by decide), ?_⟩⟩⟩⟩)
    refine od_put (R := []) (n := 0) rfl (by omega) od_R_nil 1 1 0 s (fun d4 d5 hd => ⟨pk_in 0 8 (by omega) (by decide), br_f ?_ ⟨pk_in 0 8 (by omega) (by decide), ?_⟩⟩) rfl rfl rfl (od_cl (by decide) l0)
    · rw [od_cl (by decide) q0]
      decide
    · exact od_put (R := [(1, 1, 0, s)]) (n := 1) rfl (by omega) hd (-1) (-1) 0 (-s) (fun b4 b5 hb => nm_r (e' := 1) (by decide) (u1 b4 b5 hb)) (od_neg 1) (od_neg 1) (by decide) (by rw [od_cl (by decide) l0, od_neg])
  exact ⟨3, u0⟩
theorem od_fr {post : St2 → Prop} {hd rs fw wo : Int32} {a1 a2 a3 a4 a5 a6 a7 a8 : Nat → Int32} (H : ∀ a8', od_X (fun _ => 100) a8' → post (hd, rs, fw, wo, a1, a2, a3, a4, a5, a6, a7, a8')) : wpX_free post (hd, rs, fw, wo, a1, a2, a3, a4, a5, a6, a7, a8) := by
  have hX : od_X (fun _ => 100) (upd (upd (upd a8 0 100) 1 100) 2 100) := by
    intro j hj
    have e : (100 : Int32) = od_e 100 := by decide
    refine ⟨?_, Or.inl rfl⟩
    have c : j = 0 ∨ j = 1 ∨ j = 2 := by omega
    rcases c with rfl | rfl | rfl
    · rw [pk_un (by omega), pk_un (by omega), pk_us, e]
    · rw [pk_un (by omega), pk_us, e]
    · rw [pk_us, e]
  have w3 : wX_free_2 post hd rs fw wo 1 3 a1 a2 a3 a4 a5 a6 a7 (upd (upd (upd a8 0 100) 1 100) 2 100) := br_t (by decide) (H _ hX)
  have w2 : wX_free_2 post hd rs fw wo 2 2 a1 a2 a3 a4 a5 a6 a7 (upd (upd a8 0 100) 1 100) := br_f (by decide) ⟨pk_in 2 3 (by omega), nm_r (e' := upd (upd (upd a8 0 100) 1 100) 2 100) (by rw [show (2 : Int32).toNatClampNeg = 2 from by decide]) (nm_r (e' := 3) (by decide) w3)⟩
  have w1 : wX_free_2 post hd rs fw wo 3 1 a1 a2 a3 a4 a5 a6 a7 (upd a8 0 100) := br_f (by decide) ⟨pk_in 1 3 (by omega), nm_r (e' := upd (upd a8 0 100) 1 100) (by rw [show (1 : Int32).toNatClampNeg = 1 from by decide]) (nm_r (e' := 2) (by decide) w2)⟩
  have w0 : wX_free_2 post hd rs fw wo 4 0 a1 a2 a3 a4 a5 a6 a7 a8 := br_f (by decide) ⟨pk_in 0 3 (by omega), nm_r (e' := upd a8 0 100) (by rw [show (0 : Int32).toNatClampNeg = 0 from by decide]) (nm_r (e' := 1) (by decide) w1)⟩
  exact ⟨4, w0⟩
end
section
/-- solutions with what is fixed -/
def od_sol (s z t0 t1 t2 : Int) : Prop := ∃ x y : Int, (od_lo t0 ≤ x ∧ x ≤ od_hi t0) ∧ (od_lo t1 ≤ y ∧ y ≤ od_hi t1) ∧ x + y = s ∧ x - y - z ≤ od_hi t2
theorem od_okR9 {s z : Int} {t : Nat → Int} {a8 : Nat → Int32} (hX : od_X t a8) (hs : -15 ≤ s ∧ s ≤ 15) (hz : -8 ≤ z ∧ z ≤ 8) : od_okR (od_rows s z t) := by
  have b0 := od_lohi (hX 0 (by omega)).2
  have b1 := od_lohi (hX 1 (by omega)).2
  have b2 := od_lohi (hX 2 (by omega)).2
  unfold od_okR od_rows
  simp only [od_all_cons]
  refine ⟨?_, ?_, ?_, ?_, ?_, ?_, ?_, ?_, ?_, od_all_nil⟩ <;> (refine ⟨⟨?_, ?_⟩, ⟨?_, ?_⟩, ⟨?_, ?_⟩, ⟨?_, ?_⟩, fun c => ?_⟩ <;> first | omega | exact ⟨trivial, trivial⟩)
theorem od_okR10 {s z e : Int} {t : Nat → Int} {a8 : Nat → Int32} (hX : od_X t a8) (hs : -15 ≤ s ∧ s ≤ 15) (hz : -8 ≤ z ∧ z ≤ 8) (he : -100 ≤ e ∧ e ≤ 100) : od_okR (od_rows s z t ++ [(-1, -1, 0, e)]) :=
  od_all_app.mpr ⟨od_okR9 hX hs hz, by dsimp only; refine ⟨⟨?_, ?_⟩, ⟨?_, ?_⟩, ⟨?_, ?_⟩, ⟨?_, ?_⟩, fun c => ?_⟩ <;> omega⟩
theorem od_row_0 {R : List od_Row} {x y a b d : Int} : od_row R x y (a, b, 0, d) ↔ a * x + b * y ≤ d :=
  ⟨fun h => h.1 rfl, fun h => ⟨fun _ => h, fun c => absurd (show (0 : Int) = -1 from c) (by omega)⟩⟩
theorem od_row_1 {R : List od_Row} {x y a b d : Int} : od_row R x y (a, b, 1, d) ↔ True :=
  ⟨fun _ => trivial, fun _ => ⟨fun c => absurd (show (1 : Int) = 0 from c) (by omega), fun c => absurd (show (1 : Int) = -1 from c) (by omega)⟩⟩
theorem od_row_m {R : List od_Row} {x y a b d : Int} : od_row R x y (a, b, -1, d) ↔ od_all (od_up (a, b, -1, d) x y) R :=
  ⟨fun h => h.2 rfl, fun h => ⟨fun c => absurd (show (-1 : Int) = 0 from c) (by omega), fun _ => h⟩⟩
theorem od_up_0 {q : od_Row} {x y a b d : Int} : od_up q x y (a, b, 0, d) ↔ True := ⟨fun _ => trivial, fun _ c => absurd (show (0 : Int) = 1 from c) (by omega)⟩
theorem od_up_m {q : od_Row} {x y a b d : Int} : od_up q x y (a, b, -1, d) ↔ True := ⟨fun _ => trivial, fun _ c => absurd (show (-1 : Int) = 1 from c) (by omega)⟩
theorem od_up_1 {q : od_Row} {x y a b d : Int} : od_up q x y (a, b, 1, d) ↔ (q.1 + a) * x + (q.2.1 + b) * y ≤ q.2.2.2 + d := ⟨fun h => h rfl, fun h _ => h⟩
theorem od_nilT {α : Type} {P : α → Prop} : od_all P [] ↔ True := ⟨fun _ => trivial, fun _ => od_all_nil⟩
theorem od_all9 {s z x y : Int} {t : Nat → Int} (h2 : od_lo (t 2) ≤ od_hi (t 2)) : od_all (od_row (od_rows s z t) x y) (od_rows s z t) ↔ ((od_lo (t 0) ≤ x ∧ x ≤ od_hi (t 0)) ∧ (od_lo (t 1) ≤ y ∧ y ≤ od_hi (t 1)) ∧ x + y = s ∧ x - y - z ≤ od_hi (t 2)) := by
  unfold od_rows
  simp only [od_all_cons, od_nilT, od_row_0, od_row_1, od_row_m, od_up_0, od_up_1, od_up_m, true_and, and_true]
  omega
theorem od_all10 {s z x y e : Int} {t : Nat → Int} (h2 : od_lo (t 2) ≤ od_hi (t 2)) : od_all (od_row (od_rows s z t ++ [(-1, -1, 0, e)]) x y) (od_rows s z t ++ [(-1, -1, 0, e)]) ↔ (((od_lo (t 0) ≤ x ∧ x ≤ od_hi (t 0)) ∧ (od_lo (t 1) ≤ y ∧ y ≤ od_hi (t 1)) ∧ x + y = s ∧ x - y - z ≤ od_hi (t 2)) ∧ -e ≤ s) := by
  show od_all (od_row ([(1, 1, 0, s), (-1, -1, 0, -s), (1, -1, -1, z), (1, 0, 0, od_hi (t 0)), (-1, 0, 0, -od_lo (t 0)), (0, 1, 0, od_hi (t 1)), (0, -1, 0, -od_lo (t 1)), (0, 0, 1, od_hi (t 2)), (0, 0, -1, -od_lo (t 2)), (-1, -1, 0, e)] : List od_Row) x y) ([(1, 1, 0, s), (-1, -1, 0, -s), (1, -1, -1, z), (1, 0, 0, od_hi (t 0)), (-1, 0, 0, -od_lo (t 0)), (0, 1, 0, od_hi (t 1)), (0, -1, 0, -od_lo (t 1)), (0, 0, 1, od_hi (t 2)), (0, 0, -1, -od_lo (t 2)), (-1, -1, 0, e)] : List od_Row) ↔ _
  simp only [od_all_cons, od_nilT, od_row_0, od_row_1, od_row_m, od_up_0, od_up_1, od_up_m, true_and, and_true]
  omega
/-- solvable behind collect -/
theorem od_cs {post : Int32 → St2 → Prop} {fw : Int32} {a1 a2 a3 a4 a5 a6 a7 a8 : Nat → Int32} {s z : Int} {t : Nat → Int} (hX : od_X t a8) (hs : -15 ≤ s ∧ s ≤ 15) (hz : -8 ≤ z ∧ z ≤ 8) (hR : od_R (od_rows s z t) a4 a5)
    (H0 : ¬ od_sol s z (t 0) (t 1) (t 2) → ∀ fw a6' a7', post 0 (2, nI 9, fw, -1, a1, a2, a3, a4, a5, a6', a7', a8))
    (H1 : od_sol s z (t 0) (t 1) (t 2) → ∀ fw a6' a7', post 1 (2, nI 9, fw, -1, a1, a2, a3, a4, a5, a6', a7', a8)) :
    wpX_solvable post (2, nI 9, fw, -1, a1, a2, a3, a4, a5, a6, a7, a8) := by
  have b0 := od_lohi (hX 0 (by omega)).2
  have b1 := od_lohi (hX 1 (by omega)).2
  have b2 := od_lohi (hX 2 (by omega)).2
  refine od_sv (n := 9) rfl hR (od_okR9 hX hs hz) (by omega) (fun h => H0 (fun c => ?_)) (fun h => H1 ?_)
  · obtain ⟨x, y, hx, hy, hh⟩ := c
    exact h x y (by omega) (by omega) (by omega) (by omega) ((od_all9 b2.2.2.2.2).mpr ⟨hx, hy, hh⟩)
  · obtain ⟨x, y, hx, hy, hh⟩ := h
    exact ⟨x, y, (od_all9 b2.2.2.2.2).mp hh⟩
/-- the same with x + y ≥ d + 1 put behind it -/
theorem od_cs10 {post : Int32 → St2 → Prop} {fw : Int32} {a1 a2 a3 a4 a5 a6 a7 a8 : Nat → Int32} {s z e : Int} {t : Nat → Int} (hX : od_X t a8) (hs : -15 ≤ s ∧ s ≤ 15) (hz : -8 ≤ z ∧ z ≤ 8) (he : -100 ≤ e ∧ e ≤ 100) (hR : od_R (od_rows s z t ++ [(-1, -1, 0, e)]) a4 a5)
    (H0 : ¬ (od_sol s z (t 0) (t 1) (t 2) ∧ -e ≤ s) → ∀ fw a6' a7', post 0 (2, nI 10, fw, -1, a1, a2, a3, a4, a5, a6', a7', a8))
    (H1 : (od_sol s z (t 0) (t 1) (t 2) ∧ -e ≤ s) → ∀ fw a6' a7', post 1 (2, nI 10, fw, -1, a1, a2, a3, a4, a5, a6', a7', a8)) :
    wpX_solvable post (2, nI 10, fw, -1, a1, a2, a3, a4, a5, a6, a7, a8) := by
  have b0 := od_lohi (hX 0 (by omega)).2
  have b1 := od_lohi (hX 1 (by omega)).2
  have b2 := od_lohi (hX 2 (by omega)).2
  refine od_sv (n := 10) rfl hR (od_okR10 hX hs hz he) (by omega) (fun h => H0 (fun c => ?_)) (fun h => H1 ?_)
  · obtain ⟨⟨x, y, hx, hy, hh⟩, hc⟩ := c
    exact h x y (by omega) (by omega) (by omega) (by omega) ((od_all10 b2.2.2.2.2).mpr ⟨⟨hx, hy, hh⟩, hc⟩)
  · obtain ⟨x, y, hx, hy, hh⟩ := h
    have t2 := (od_all10 b2.2.2.2.2).mp hh
    exact ⟨⟨x, y, t2.1⟩, t2.2⟩
/-- solutions with variable v fixed at x -/
def od_at (s z : Int) (t : Nat → Int) (v : Nat) (x : Int) : Prop := od_sol s z (od_st t v x 0) (od_st t v x 1) (od_st t v x 2)
/-- leastValue -/
theorem od_lv {post : Int32 → St2 → Prop} {rs fw : Int32} {a1 a2 a3 a4 a5 a6 a7 a8 : Nat → Int32} {s z : Int} {t : Nat → Int} (hO : od_O s z a1 a2 a3) (hX : od_X t a8) (hs : -15 ≤ s ∧ s ≤ 15) (hz : -8 ≤ z ∧ z ≤ 8)
    (v : Nat) (hv : v < 3) (xf : Nat → Int) {p1 : Int32} (hp : (p1 = 0 ∧ ∀ k : Nat, xf k = (k : Int) - 6) ∨ (¬ p1 = 0 ∧ ∀ k : Nat, xf k = 6 - (k : Int)))
    (H0 : (∀ k, k < 13 → ¬ od_at s z t v (xf k)) → ∀ rs fw a4' a5' a6' a7' a8', od_X (od_st t v 100) a8' → post 100 (2, rs, fw, -1, a1, a2, a3, a4', a5', a6', a7', a8'))
    (H1 : ∀ k, k < 13 → od_at s z t v (xf k) → (∀ j, j < k → ¬ od_at s z t v (xf j)) → ∀ rs fw a4' a5' a6' a7' a8', od_X (od_st t v 100) a8' → post (od_e (xf k)) (2, rs, fw, -1, a1, a2, a3, a4', a5', a6', a7', a8')) :
    wpX_leastValue post (2, rs, fw, -1, a1, a2, a3, a4, a5, a6, a7, a8) (nI v) p1 := by
  refine pk_loop (σ := Int32 × Int32 × (Nat → Int32) × (Nat → Int32) × (Nat → Int32) × (Nat → Int32) × (Nat → Int32)) (fun n i s => wX_leastValue_2 post (nI v) p1 n (nI i) 2 s.1 s.2.1 (-1) a1 a2 a3 s.2.2.1 s.2.2.2.1 s.2.2.2.2.1 s.2.2.2.2.2.1 s.2.2.2.2.2.2)
    (fun i u => od_Y t v u.2.2.2.2.2.2 ∧ ∀ j, j < i → ¬ od_at s z t v (xf j)) 13 0 (rs, fw, a4, a5, a6, a7, a8) (by omega) ⟨od_X_Y hX, fun j hj => absurd hj (by omega)⟩ ?_ ?_
  · rintro n ⟨rs, fw, b4, b5, b6, b7, b8⟩ ⟨hY, hno⟩
    exact pk_le 13 13 (fun _ => ⟨pk_in v 3 hv, nm_r (e' := upd b8 v (od_e 100)) (by rw [nI_clamp (by omega)]; rfl) (H0 hno _ _ _ _ _ _ _ (od_YX hY (Or.inl rfl)))⟩) (fun z => absurd z (by omega))
  · rintro n i ⟨rs, fw, b4, b5, b6, b7, b8⟩ hi ⟨hY, hno⟩ hw
    dsimp only at hY
    have hk : od_ok1 (xf i) := by
      unfold od_ok1
      rcases hp with hp | hp <;> rw [hp.2 i] <;> omega
    have hX2 := od_YX hY hk
    have w23 : wX_leastValue_23 post (wX_leastValue_2 post (nI v) p1 n) (nI v) p1 (nI i) (od_e (xf i)) 2 rs fw (-1) a1 a2 a3 b4 b5 b6 b7 b8 := by
      refine ⟨pk_in v 3 hv, nm_r (e' := upd b8 v (od_e (xf i))) (by rw [nI_clamp (by omega)]) (od_co hO hX2 (fun c4 c5 hc => od_cs hX2 hs hz hc (fun h fw' c6 c7 => ?_) (fun h fw' c6 c7 => ?_)))⟩
      · refine br_t rfl (nm_r (nI_1 i) (hw (nI 9, fw', c4, c5, c6, c7, upd b8 v (od_e (xf i))) ⟨od_XY hX2, fun j hj => ?_⟩))
        by_cases e : j = i
        · subst e
          exact h
        · exact hno j (by omega)
      · exact br_f (by decide) ⟨pk_in v 3 hv, nm_r (e' := upd (upd b8 v (od_e (xf i))) v (od_e 100)) (by rw [nI_clamp (by omega)]; rfl) (H1 i hi h hno _ _ _ _ _ _ _ (od_YX (od_XY hX2) (Or.inl rfl)))⟩
    refine pk_le 13 i (fun z => absurd z (by omega)) (fun _ => ?_)
    rcases hp with hp | hp
    · refine br_t hp.1 ?_
      rw [show nI i - 6 = od_e (xf i) from by rw [hp.2 i, od_n]; exact od_sub i 6]
      exact w23
    · refine br_f hp.1 ?_
      rw [show 6 - nI i = od_e (xf i) from by rw [hp.2 i, od_n]; exact od_sub 6 i]
      exact w23
/-- first's loop: one step, and its end -/
theorem od_fs {post : Int32 → St2 → Prop} {rs fw : Int32} {a1 a2 a3 a4 a5 a6 a7 a8 : Nat → Int32} {s z : Int} {t : Nat → Int} (hO : od_O s z a1 a2 a3) (hX : od_X t a8) (hs : -15 ≤ s ∧ s ≤ 15) (hz : -8 ≤ z ∧ z ≤ 8)
    (v p n : Nat) (hv : v ≤ p) (hp : p < 3)
    (H0 : (∀ k : Nat, k < 13 → ¬ od_at s z t v ((k : Int) - 6)) → ∀ rs fw a4' a5' a6' a7' a8', post 100 (2, rs, fw, -1, a1, a2, a3, a4', a5', a6', a7', a8'))
    (H1 : ∀ k : Nat, k < 13 → od_at s z t v ((k : Int) - 6) → (∀ j : Nat, j < k → ¬ od_at s z t v ((j : Int) - 6)) → ∀ rs fw a4' a5' a6' a7' a8', od_X (od_st t v ((k : Int) - 6)) a8' → wX_first_18 post (nI p) n (nI (v + 1)) 2 rs fw (-1) a1 a2 a3 a4' a5' a6' a7' a8') :
    wX_first_18 post (nI p) (n + 1) (nI v) 2 rs fw (-1) a1 a2 a3 a4 a5 a6 a7 a8 := by
  refine pk_lt p v (fun z => absurd z (by omega)) (fun _ => od_lv hO hX hs hz v (by omega) (fun k => (k : Int) - 6) (Or.inl ⟨rfl, fun _ => rfl⟩) (fun h rs' fw' c4 c5 c6 c7 c8 _ => br_t rfl (H0 h _ _ _ _ _ _ _)) (fun k hk h hno rs' fw' c4 c5 c6 c7 c8 hX2 => ?_))
  refine od_eq ((k : Int) - 6) 100 (fun z => absurd z (by omega)) (fun _ => ⟨pk_in v 3 (by omega), nm_r (e' := upd c8 v (od_e ((k : Int) - 6))) (by rw [nI_clamp (by omega)]) (nm_r (nI_1 v) (H1 k hk h hno _ _ _ _ _ _ _ (od_YX (od_XY hX2) (Or.inr (by omega)))))⟩)
theorem od_fe {post : Int32 → St2 → Prop} {rs fw : Int32} {a1 a2 a3 a4 a5 a6 a7 a8 : Nat → Int32} {t : Nat → Int} (hX : od_X t a8) (p n : Nat) (hp : p < 3)
    (H : post (od_e (t p)) (2, rs, fw, -1, a1, a2, a3, a4, a5, a6, a7, a8)) : wX_first_18 post (nI p) (n + 1) (nI (p + 1)) 2 rs fw (-1) a1 a2 a3 a4 a5 a6 a7 a8 := by
  refine pk_lt p (p + 1) (fun _ => ⟨pk_in p 3 hp, ?_⟩) (fun z => absurd z (by omega))
  rw [od_cl (nI_clamp (by omega)) (hX p hp).1]
  exact H
end
section
/-- the law's x, its y and its least z, and whether there is a solution at all -/
def od_x0 (s : Int) : Int := if s < 0 then -6 else s - 6
def od_w (s z : Int) : Int := od_x0 s - (s - od_x0 s) - z
def od_lz (s z : Int) : Int := if od_w s z < -6 then -6 else od_w s z
def od_any (s z : Int) : Prop := -12 ≤ s ∧ s ≤ 12 ∧ od_w s z ≤ 6
theorem od_x0c (s : Int) : (s < 0 ∧ od_x0 s = -6) ∨ (0 ≤ s ∧ od_x0 s = s - 6) := by
  unfold od_x0
  split <;> omega
theorem od_lzc (s z : Int) : (od_w s z < -6 ∧ od_lz s z = -6) ∨ (-6 ≤ od_w s z ∧ od_lz s z = od_w s z) := by
  unfold od_lz
  split <;> omega
theorem od_free {s z : Int} : od_sol s z 100 100 100 ↔ od_any s z := by
  unfold od_sol od_any od_w
  rw [od_lo_100, od_hi_100]
  have c := od_x0c s
  constructor
  · rintro ⟨x, y, h1, h2, h3, h4⟩
    omega
  · intro h
    exact ⟨od_x0 s, s - od_x0 s, by omega, by omega, by omega, by omega⟩
theorem od_at0 {s z x : Int} (hx : x ≠ 100) : od_at s z (fun _ => 100) 0 x ↔ (-6 ≤ s - x ∧ s - x ≤ 6 ∧ x - (s - x) - z ≤ 6) := by
  show od_sol s z x 100 100 ↔ _
  unfold od_sol
  rw [od_lo_100, od_hi_100, od_lo_n hx, od_hi_n hx]
  constructor
  · rintro ⟨a, b, h1, h2, h3, h4⟩
    omega
  · intro h
    exact ⟨x, s - x, by omega, by omega, by omega, by omega⟩
theorem od_at1g {s z y : Int} (hy : y ≠ 100) : od_at s z (fun _ => 100) 1 y ↔ (-6 ≤ s - y ∧ s - y ≤ 6 ∧ (s - y) - y - z ≤ 6) := by
  show od_sol s z 100 y 100 ↔ _
  unfold od_sol
  rw [od_lo_100, od_hi_100, od_lo_n hy, od_hi_n hy]
  constructor
  · rintro ⟨a, b, h1, h2, h3, h4⟩
    omega
  · intro h
    exact ⟨s - y, y, by omega, by omega, by omega, by omega⟩
theorem od_at1 {s z x y : Int} (hx : x ≠ 100) (hy : y ≠ 100) : od_at s z (od_st (fun _ => 100) 0 x) 1 y ↔ (x + y = s ∧ x - y - z ≤ 6) := by
  show od_sol s z x y 100 ↔ _
  unfold od_sol
  rw [od_hi_100, od_lo_n hx, od_hi_n hx, od_lo_n hy, od_hi_n hy]
  constructor
  · rintro ⟨a, b, h1, h2, h3, h4⟩
    omega
  · intro h
    exact ⟨x, y, by omega, by omega, by omega, by omega⟩
theorem od_at2 {s z x y w : Int} (hx : x ≠ 100) (hy : y ≠ 100) (hw : w ≠ 100) : od_at s z (od_st (od_st (fun _ => 100) 0 x) 1 y) 2 w ↔ (x + y = s ∧ x - y - z ≤ w) := by
  show od_sol s z x y w ↔ _
  unfold od_sol
  rw [od_lo_n hx, od_hi_n hx, od_lo_n hy, od_hi_n hy, od_hi_n hw]
  constructor
  · rintro ⟨a, b, h1, h2, h3, h4⟩
    omega
  · intro h
    exact ⟨x, y, by omega, by omega, by omega, by omega⟩
/-- no x: no solution; the first x is the law's -/
theorem od_n0 {s z : Int} (h : ∀ k : Nat, k < 13 → ¬ od_at s z (fun _ => 100) 0 ((k : Int) - 6)) : ¬ od_any s z := by
  intro a
  have c := od_x0c s
  obtain ⟨a1, a2, a3⟩ := a
  unfold od_w at a3
  have t := h (od_x0 s + 6).toNat (by omega)
  rw [show (((od_x0 s + 6).toNat : Nat) : Int) - 6 = od_x0 s by omega, od_at0 (by omega)] at t
  omega
theorem od_k0 {s z : Int} {k : Nat} (hk : k < 13) (h : od_at s z (fun _ => 100) 0 ((k : Int) - 6)) (hno : ∀ j : Nat, j < k → ¬ od_at s z (fun _ => 100) 0 ((j : Int) - 6)) : (k : Int) - 6 = od_x0 s ∧ od_any s z := by
  rw [od_at0 (by omega)] at h
  have c := od_x0c s
  have g : ¬ od_x0 s < (k : Int) - 6 := by
    intro g
    have t := hno (od_x0 s + 6).toNat (by omega)
    rw [show (((od_x0 s + 6).toNat : Nat) : Int) - 6 = od_x0 s by omega, od_at0 (by omega)] at t
    omega
  unfold od_any od_w
  omega
theorem od_n1g {s z : Int} (h : ∀ k : Nat, k < 13 → ¬ od_at s z (fun _ => 100) 1 (6 - (k : Int))) : ¬ od_any s z := by
  intro a
  have c := od_x0c s
  obtain ⟨a1, a2, a3⟩ := a
  unfold od_w at a3
  have t := h (6 - (s - od_x0 s)).toNat (by omega)
  rw [show 6 - (((6 - (s - od_x0 s)).toNat : Nat) : Int) = s - od_x0 s by omega, od_at1g (by omega)] at t
  omega
theorem od_k1g {s z : Int} {k : Nat} (hk : k < 13) (h : od_at s z (fun _ => 100) 1 (6 - (k : Int))) (hno : ∀ j : Nat, j < k → ¬ od_at s z (fun _ => 100) 1 (6 - (j : Int))) : 6 - (k : Int) = s - od_x0 s ∧ od_any s z := by
  rw [od_at1g (by omega)] at h
  have c := od_x0c s
  have g : ¬ 6 - (k : Int) < s - od_x0 s := by
    intro g
    have t := hno (6 - (s - od_x0 s)).toNat (by omega)
    rw [show 6 - (((6 - (s - od_x0 s)).toNat : Nat) : Int) = s - od_x0 s by omega, od_at1g (by omega)] at t
    omega
  unfold od_any od_w
  omega
/-- then y -/
theorem od_n1 {s z : Int} (a : od_any s z) (h : ∀ k : Nat, k < 13 → ¬ od_at s z (od_st (fun _ => 100) 0 (od_x0 s)) 1 ((k : Int) - 6)) : False := by
  have c := od_x0c s
  obtain ⟨a1, a2, a3⟩ := a
  unfold od_w at a3
  have t := h (s - od_x0 s + 6).toNat (by omega)
  rw [show (((s - od_x0 s + 6).toNat : Nat) : Int) - 6 = s - od_x0 s by omega, od_at1 (by omega) (by omega)] at t
  omega
theorem od_k1 {s z : Int} {k : Nat} (hs : -15 ≤ s ∧ s ≤ 15) (hk : k < 13) (h : od_at s z (od_st (fun _ => 100) 0 (od_x0 s)) 1 ((k : Int) - 6)) : (k : Int) - 6 = s - od_x0 s := by
  have c := od_x0c s
  rw [od_at1 (by omega) (by omega)] at h
  omega
/-- then z -/
theorem od_n2 {s z : Int} (a : od_any s z) (h : ∀ k : Nat, k < 13 → ¬ od_at s z (od_st (od_st (fun _ => 100) 0 (od_x0 s)) 1 (s - od_x0 s)) 2 ((k : Int) - 6)) : False := by
  have c := od_x0c s
  obtain ⟨a1, a2, a3⟩ := a
  unfold od_w at a3
  have t := h 12 (by omega)
  rw [od_at2 (by omega) (by omega) (by omega)] at t
  omega
theorem od_k2 {s z : Int} {k : Nat} (a : od_any s z) (hk : k < 13) (h : od_at s z (od_st (od_st (fun _ => 100) 0 (od_x0 s)) 1 (s - od_x0 s)) 2 ((k : Int) - 6)) (hno : ∀ j : Nat, j < k → ¬ od_at s z (od_st (od_st (fun _ => 100) 0 (od_x0 s)) 1 (s - od_x0 s)) 2 ((j : Int) - 6)) : (k : Int) - 6 = od_lz s z := by
  have c := od_x0c s
  have c2 := od_lzc s z
  obtain ⟨a1, a2, a3⟩ := a
  rw [od_at2 (by omega) (by omega) (by omega)] at h
  have g : ¬ od_lz s z < (k : Int) - 6 := by
    intro g
    have t := hno (od_lz s z + 6).toNat (by omega)
    rw [show (((od_lz s z + 6).toNat : Nat) : Int) - 6 = od_lz s z by omega, od_at2 (by omega) (by omega) (by omega)] at t
    unfold od_w at c2
    omega
  unfold od_w at c2
  omega
end
section
section OdMethods
variable {post : Int32 → St2 → Prop} {rs fw : Int32} {a1 a2 a3 a4 a5 a6 a7 a8 : Nat → Int32} {s z : Int}
theorem od_po (hO : od_O s z a1 a2 a3) (hs : -15 ≤ s ∧ s ≤ 15) (hz : -8 ≤ z ∧ z ≤ 8)
    (H0 : ¬ od_any s z → ∀ rs fw a4' a5' a6' a7' a8', post 0 (2, rs, fw, -1, a1, a2, a3, a4', a5', a6', a7', a8'))
    (H1 : od_any s z → ∀ rs fw a4' a5' a6' a7' a8', post 1 (2, rs, fw, -1, a1, a2, a3, a4', a5', a6', a7', a8')) :
    wpX_possible post (2, rs, fw, -1, a1, a2, a3, a4, a5, a6, a7, a8) :=
  od_fr (fun b8 hX => od_co hO hX (fun c4 c5 hc => od_cs hX hs hz hc (fun h fw' c6 c7 => br_t rfl (H0 (fun a => h (od_free.mpr a)) _ _ _ _ _ _ _)) (fun h fw' c6 c7 => br_f (by decide) (H1 (od_free.mp h) _ _ _ _ _ _ _))))
theorem od_f0 (hO : od_O s z a1 a2 a3) (hs : -15 ≤ s ∧ s ≤ 15) (hz : -8 ≤ z ∧ z ≤ 8)
    (H0 : ¬ od_any s z → ∀ rs fw a4' a5' a6' a7' a8', post 100 (2, rs, fw, -1, a1, a2, a3, a4', a5', a6', a7', a8'))
    (H1 : od_any s z → ∀ rs fw a4' a5' a6' a7' a8', post (od_e (od_x0 s)) (2, rs, fw, -1, a1, a2, a3, a4', a5', a6', a7', a8')) :
    wpX_first post (2, rs, fw, -1, a1, a2, a3, a4, a5, a6, a7, a8) 0 := by
  refine br_f (by decide) (br_t (by decide) (od_fr (fun b8 hX => ⟨2, od_fs hO hX hs hz 0 0 1 (by omega) (by omega) (fun h => H0 (od_n0 h)) (fun k hk h hno rs' fw' c4 c5 c6 c7 c8 hX2 => od_fe hX2 0 0 (by omega) ?_)⟩)))
  obtain ⟨e, ha⟩ := od_k0 hk h hno
  have t := H1 ha rs' fw' c4 c5 c6 c7 c8
  rw [← e] at t
  exact t
theorem od_f1 (hO : od_O s z a1 a2 a3) (hs : -15 ≤ s ∧ s ≤ 15) (hz : -8 ≤ z ∧ z ≤ 8)
    (H0 : ¬ od_any s z → ∀ rs fw a4' a5' a6' a7' a8', post 100 (2, rs, fw, -1, a1, a2, a3, a4', a5', a6', a7', a8'))
    (H1 : od_any s z → ∀ r rs fw a4' a5' a6' a7' a8', post r (2, rs, fw, -1, a1, a2, a3, a4', a5', a6', a7', a8')) :
    wpX_first post (2, rs, fw, -1, a1, a2, a3, a4, a5, a6, a7, a8) 1 := by
  refine br_f (by decide) (br_t (by decide) (od_fr (fun b8 hX => ⟨3, od_fs hO hX hs hz 0 1 2 (by omega) (by omega) (fun h => H0 (od_n0 h)) (fun k hk h hno rs' fw' c4 c5 c6 c7 c8 hX2 => ?_)⟩)))
  obtain ⟨e, ha⟩ := od_k0 hk h hno
  exact od_fs hO hX2 hs hz 1 1 1 (by omega) (by omega) (fun _ => H1 ha 100) (fun k hk h hno rs' fw' c4 c5 c6 c7 c8 hX3 => od_fe hX3 1 0 (by omega) (H1 ha _ _ _ _ _ _ _ _))
theorem od_f2 (hO : od_O s z a1 a2 a3) (hs : -15 ≤ s ∧ s ≤ 15) (hz : -8 ≤ z ∧ z ≤ 8)
    (H0 : ¬ od_any s z → ∀ rs fw a4' a5' a6' a7' a8', post 100 (2, rs, fw, -1, a1, a2, a3, a4', a5', a6', a7', a8'))
    (H1 : od_any s z → ∀ rs fw a4' a5' a6' a7' a8', post (od_e (od_lz s z)) (2, rs, fw, -1, a1, a2, a3, a4', a5', a6', a7', a8')) :
    wpX_first post (2, rs, fw, -1, a1, a2, a3, a4, a5, a6, a7, a8) 2 := by
  refine br_f (by decide) (br_t (by decide) (od_fr (fun b8 hX => ⟨4, od_fs hO hX hs hz 0 2 3 (by omega) (by omega) (fun h => H0 (od_n0 h)) (fun k hk h hno rs' fw' c4 c5 c6 c7 c8 hX2 => ?_)⟩)))
  obtain ⟨e, ha⟩ := od_k0 hk h hno
  rw [e] at hX2
  refine od_fs hO hX2 hs hz 1 2 2 (by omega) (by omega) (fun h => (od_n1 ha h).elim) (fun k hk h hno rs' fw' c4 c5 c6 c7 c8 hX3 => ?_)
  have e1 := od_k1 hs hk h
  rw [e1] at hX3
  refine od_fs hO hX3 hs hz 2 2 1 (by omega) (by omega) (fun h => (od_n2 ha h).elim) (fun k hk h hno rs' fw' c4 c5 c6 c7 c8 hX4 => od_fe hX4 2 0 (by omega) ?_)
  have e2 := od_k2 ha hk h hno
  have t := H1 ha rs' fw' c4 c5 c6 c7 c8
  rw [← e2] at t
  exact t
theorem od_of (x : Int32) : ∃ d : Int, x = od_e d ∧ -2147483648 ≤ d ∧ d < 2147483648 := ⟨x.toInt, (Int32.ofInt_toInt x).symm, Int32.le_toInt x, Int32.toInt_lt x⟩
/-- first of any place: 100 if there is no solution -/
theorem od_fp (hO : od_O s z a1 a2 a3) (hs : -15 ≤ s ∧ s ≤ 15) (hz : -8 ≤ z ∧ z ≤ 8) (p : Int32)
    (H : ∀ r, (r = 100 ∨ od_any s z) → ∀ rs fw a4' a5' a6' a7' a8', post r (2, rs, fw, -1, a1, a2, a3, a4', a5', a6', a7', a8')) :
    wpX_first post (2, rs, fw, -1, a1, a2, a3, a4, a5, a6, a7, a8) p := by
  obtain ⟨d, hd, d1, d2⟩ := od_of p
  by_cases c : 0 ≤ d ∧ d ≤ 2
  · have c2 : d = 0 ∨ d = 1 ∨ d = 2 := by omega
    rcases c2 with e | e | e
    · rw [show p = 0 from by rw [hd, e]; decide]
      exact od_f0 hO hs hz (fun _ => H 100 (Or.inl rfl)) (fun a => H _ (Or.inr a))
    · rw [show p = 1 from by rw [hd, e]; decide]
      exact od_f1 hO hs hz (fun _ => H 100 (Or.inl rfl)) (fun a r => H r (Or.inr a))
    · rw [show p = 2 from by rw [hd, e]; decide]
      exact od_f2 hO hs hz (fun _ => H 100 (Or.inl rfl)) (fun a => H _ (Or.inr a))
  · exact od_lt d 0 (fun _ => H 100 (Or.inl rfl) _ _ _ _ _ _ _) (fun z1 => od_le d 2 (fun z2 => absurd ⟨z1, z2⟩ c) (fun _ => H 100 (Or.inl rfl) _ _ _ _ _ _ _) hd rfl) hd rfl
theorem od_e0 (hO : od_O s z a1 a2 a3) (hs : -15 ≤ s ∧ s ≤ 15) (hz : -8 ≤ z ∧ z ≤ 8)
    (H0 : ¬ od_any s z → ∀ rs fw a4' a5' a6' a7' a8', post 100 (2, rs, fw, -1, a1, a2, a3, a4', a5', a6', a7', a8'))
    (H1 : od_any s z → ∀ rs fw a4' a5' a6' a7' a8', post (od_e (od_x0 s)) (2, rs, fw, -1, a1, a2, a3, a4', a5', a6', a7', a8')) :
    wpX_extreme post (2, rs, fw, -1, a1, a2, a3, a4, a5, a6, a7, a8) 0 0 := by
  refine br_f (by decide) (br_t (by decide) (od_fr (fun b8 hX => od_lv hO hX hs hz 0 (by omega) (fun k => (k : Int) - 6) (Or.inl ⟨rfl, fun _ => rfl⟩) (fun h rs' fw' c4 c5 c6 c7 c8 _ => H0 (od_n0 h) _ _ _ _ _ _ _) (fun k hk h hno rs' fw' c4 c5 c6 c7 c8 _ => ?_))))
  obtain ⟨e, ha⟩ := od_k0 hk h hno
  have t := H1 ha rs' fw' c4 c5 c6 c7 c8
  rw [← e] at t
  exact t
theorem od_e1 (hO : od_O s z a1 a2 a3) (hs : -15 ≤ s ∧ s ≤ 15) (hz : -8 ≤ z ∧ z ≤ 8)
    (H0 : ¬ od_any s z → ∀ rs fw a4' a5' a6' a7' a8', post 100 (2, rs, fw, -1, a1, a2, a3, a4', a5', a6', a7', a8'))
    (H1 : od_any s z → ∀ rs fw a4' a5' a6' a7' a8', post (od_e (s - od_x0 s)) (2, rs, fw, -1, a1, a2, a3, a4', a5', a6', a7', a8')) :
    wpX_extreme post (2, rs, fw, -1, a1, a2, a3, a4, a5, a6, a7, a8) 1 1 := by
  refine br_f (by decide) (br_t (by decide) (od_fr (fun b8 hX => od_lv hO hX hs hz 1 (by omega) (fun k => 6 - (k : Int)) (Or.inr ⟨by decide, fun _ => rfl⟩) (fun h rs' fw' c4 c5 c6 c7 c8 _ => H0 (od_n1g h) _ _ _ _ _ _ _) (fun k hk h hno rs' fw' c4 c5 c6 c7 c8 _ => ?_))))
  obtain ⟨e, ha⟩ := od_k1g hk h hno
  have t := H1 ha rs' fw' c4 c5 c6 c7 c8
  rw [← e] at t
  exact t
theorem od_ar {post : Int32 → Prop} (a b c d : Int) (ha : -9 ≤ a ∧ a ≤ 9) (hb : -9 ≤ b ∧ b ≤ 9) (hc : -9 ≤ c ∧ c ≤ 9) (hd : -2147483648 ≤ d ∧ d < 2147483648) (H0 : (d < -99 ∨ 99 < d) → post 0) (H1 : -99 ≤ d → d ≤ 99 → post 1)
    {p0 p1 p2 p3 : Int32} (e0 : p0 = od_e a) (e1 : p1 = od_e b) (e2 : p2 = od_e c) (e3 : p3 = od_e d) : wpX_areRight post () p0 p1 p2 p3 :=
  od_lt a (-9) (fun z => absurd z (by omega)) (fun _ => od_lt 9 a (fun z => absurd z (by omega)) (fun _ =>
    od_lt b (-9) (fun z => absurd z (by omega)) (fun _ => od_lt 9 b (fun z => absurd z (by omega)) (fun _ =>
    od_lt c (-9) (fun z => absurd z (by omega)) (fun _ => od_lt 9 c (fun z => absurd z (by omega)) (fun _ =>
    od_lt d (-99) (fun z => H0 (Or.inl z)) (fun z1 => od_lt 99 d (fun z => H0 (Or.inr z)) (fun z2 => H1 z1 z2) rfl e3) e3 od_m99)
    rfl e2) e2 od_m9) rfl e1) e1 od_m9) rfl e0) e0 od_m9
/-- follows(1, 1, 0, d) -/
theorem od_fo (hO : od_O s z a1 a2 a3) (hs : -15 ≤ s ∧ s ≤ 15) (hz : -8 ≤ z ∧ z ≤ 8) (d : Int) (hd : -2147483648 ≤ d ∧ d < 2147483648)
    (Hm : (d < -99 ∨ 99 < d) → ∀ rs fw a4' a5' a6' a7' a8', post (-1) (2, rs, fw, -1, a1, a2, a3, a4', a5', a6', a7', a8'))
    (H1 : -99 ≤ d → d ≤ 99 → ¬ (od_any s z ∧ d < s) → ∀ rs fw a4' a5' a6' a7' a8', post 1 (2, rs, fw, -1, a1, a2, a3, a4', a5', a6', a7', a8'))
    (H0 : -99 ≤ d → d ≤ 99 → (od_any s z ∧ d < s) → ∀ rs fw a4' a5' a6' a7' a8', post 0 (2, rs, fw, -1, a1, a2, a3, a4', a5', a6', a7', a8')) :
    wpX_follows post (2, rs, fw, -1, a1, a2, a3, a4, a5, a6, a7, a8) 1 1 0 (od_e d) := by
  unfold wpX_follows
  refine od_ar 1 1 0 d (by omega) (by omega) (by omega) hd (fun h => br_t rfl (Hm h _ _ _ _ _ _ _)) (fun d1 d2 => br_f (by decide) (od_fr (fun b8 hX => od_co hO hX (fun c4 c5 hc => ?_)))) rfl rfl rfl rfl
  refine od_put (n := 9) rfl (by omega) hc (-1) (-1) 0 (-d - 1) (fun e4 e5 he => ?_) (od_neg 1) (od_neg 1) (by decide) (by rw [od_neg]; exact od_sub (-d) 1)
  refine od_cs10 hX hs hz (by omega) he (fun h fw' c6 c7 => br_t rfl (H1 d1 d2 (fun c => h ⟨od_free.mpr c.1, ?_⟩) _ _ _ _ _ _ _)) (fun h fw' c6 c7 => br_f (by decide) (H0 d1 d2 ⟨od_free.mp h.1, ?_⟩ _ _ _ _ _ _ _))
  · have t := c.2
    omega
  · have t := h.2
    omega
theorem od_ad {rs fw wo : Int32} (i : Nat) (hi : i < 8) (a b c d : Int) (ha : -9 ≤ a ∧ a ≤ 9) (hb : -9 ≤ b ∧ b ≤ 9) (hc : -9 ≤ c ∧ c ≤ 9) (hd : -99 ≤ d ∧ d ≤ 99) {p0 p1 p2 p3 p4 : Int32}
    (H : post (nI (i + 1)) (nI (i + 1), rs, fw, wo, upd (upd (upd a1 (3 * i) (od_e a)) (3 * i + 1) (od_e b)) (3 * i + 2) (od_e c), upd a2 i (od_e d), upd a3 i (vp_nar .boolean p4), a4, a5, a6, a7, a8))
    (e0 : p0 = od_e a) (e1 : p1 = od_e b) (e2 : p2 = od_e c) (e3 : p3 = od_e d) : wpX_add post (nI i, rs, fw, wo, a1, a2, a3, a4, a5, a6, a7, a8) p0 p1 p2 p3 p4 := by
  unfold wpX_add
  refine od_ar a b c d ha hb hc (by omega) (fun h => absurd h (by omega)) (fun _ _ => br_f (by decide) (pk_lt i 8 (fun _ => ?_) (fun z => absurd z (by omega)))) e0 e1 e2 e3
  subst e0 e1 e2 e3
  exact ⟨pk_in (3 * i) 24 (by omega) (od_i0 i), nm_r (e' := upd a1 (3 * i) (od_e a)) (by rw [od_i0, nI_clamp (by omega)])
    ⟨pk_in (3 * i + 1) 24 (by omega) (od_i1 i), nm_r (e' := upd (upd a1 (3 * i) (od_e a)) (3 * i + 1) (od_e b)) (by rw [od_i1, nI_clamp (by omega)])
    ⟨pk_in (3 * i + 2) 24 (by omega) (od_i2 i), nm_r (e' := upd (upd (upd a1 (3 * i) (od_e a)) (3 * i + 1) (od_e b)) (3 * i + 2) (od_e c)) (by rw [od_i2, nI_clamp (by omega)])
    ⟨pk_in i 8 hi, nm_r (e' := upd a2 i (od_e d)) (by rw [nI_clamp (by omega)])
    ⟨pk_in i 8 hi, nm_r (e' := upd a3 i (vp_nar .boolean p4)) (by rw [nI_clamp (by omega)]) (nm_r (nI_1 i) H)⟩⟩⟩⟩⟩
end OdMethods
end
section
section OdLaw
variable {post : Int32 → St0 → Prop} {mc ms kc ks : Nat} {rs fw : Int32} {a1 a2 a3 a4 a5 a6 a7 a8 : Nat → Int32} {s z : Int} {fl : Int32}
def od_fl (s z : Int) (fl : Int32) : Prop := (fl = 1 ∧ od_any s z) ∨ (fl = 0 ∧ ¬ od_any s z)
theorem od_l266 (hO : od_O s z a1 a2 a3) (hs : -15 ≤ s ∧ s ≤ 15) (hz : -8 ≤ z ∧ z ≤ 8) (hf : od_fl s z fl) (H : post 1 ()) (x3 : Int32) :
    wL_lawOf_266 post mc ms x3 (od_e s) fl kc ks 2 rs fw (-1) a1 a2 a3 a4 a5 a6 a7 a8 := by
  obtain ⟨d, e, d1, d2⟩ := od_of x3
  subst e
  refine od_fo hO hs hz d ⟨d1, d2⟩ (fun c _ _ _ _ _ _ _ => ?_) (fun c1 c2 c3 _ _ _ _ _ _ _ => ?_) (fun c1 c2 c3 _ _ _ _ _ _ _ => ?_)
  · exact od_lt d (-99) (fun _ => br_t rfl H) (fun _ => od_le d 99 (fun _ => absurd c (by omega)) (fun _ => br_t rfl H)) rfl od_m99
  · refine od_lt d (-99) (fun _ => absurd c1 (by omega)) (fun _ => od_le d 99 (fun _ => ?_) (fun _ => absurd c2 (by omega))) rfl od_m99
    rcases hf with ⟨rfl, ha⟩ | ⟨rfl, ha⟩
    · exact br_f (by decide) (od_lt d s (fun q => absurd ⟨ha, q⟩ c3) (fun _ => br_t rfl H))
    · exact br_t rfl (br_t rfl H)
  · refine od_lt d (-99) (fun _ => absurd c1 (by omega)) (fun _ => od_le d 99 (fun _ => ?_) (fun _ => absurd c2 (by omega))) rfl od_m99
    rcases hf with ⟨rfl, ha⟩ | ⟨rfl, ha⟩
    · exact br_f (by decide) (od_lt d s (fun _ => br_t rfl H) (fun q => absurd c3.2 (by omega)))
    · exact absurd c3.1 ha
theorem od_l247 (hO : od_O s z a1 a2 a3) (hs : -15 ≤ s ∧ s ≤ 15) (hz : -8 ≤ z ∧ z ≤ 8) (hf : od_fl s z fl) (H : post 1 ()) (x2 x3 : Int32) {z0 z1 : Int32} (e : z1 = z0) :
    wL_lawOf_247 post mc ms x2 x3 (od_e s) fl z0 z1 kc ks 2 rs fw (-1) a1 a2 a3 a4 a5 a6 a7 a8 := by
  refine br_t e (od_fp hO hs hz x2 (fun r hr _ _ _ _ _ _ _ => br_c (fun h0 => ?_) (fun _ => od_l266 hO hs hz hf H x3)))
  rcases hf with ⟨rfl, ha⟩ | ⟨rfl, ha⟩
  · exact br_f (by decide) (od_l266 hO hs hz (Or.inl ⟨rfl, ha⟩) H x3)
  · rcases hr with hr | hr
    · rw [hr] at h0
      exact absurd h0 (by decide)
    · exact absurd hr ha
theorem od_l225 (hO : od_O s z a1 a2 a3) (hs : -15 ≤ s ∧ s ≤ 15) (hz : -8 ≤ z ∧ z ≤ 8) (hf : od_fl s z fl) (H : post 1 ()) (x2 x3 : Int32) {z0 z1 : Int32} (e : z1 = z0) :
    wL_lawOf_225 post mc ms x2 x3 (od_e s) (od_e (s - od_x0 s)) fl z0 z1 kc ks 2 rs fw (-1) a1 a2 a3 a4 a5 a6 a7 a8 := by
  refine br_t e (od_e1 hO hs hz (fun h _ _ _ _ _ _ _ => ?_) (fun h _ _ _ _ _ _ _ => ?_))
  · rcases hf with ⟨rfl, ha⟩ | ⟨rfl, ha⟩
    · exact absurd ha h
    · exact br_t rfl (od_l247 hO hs hz (Or.inr ⟨rfl, ha⟩) H x2 x3 rfl)
  · rcases hf with ⟨rfl, ha⟩ | ⟨rfl, ha⟩
    · exact br_f (by decide) (od_l247 hO hs hz (Or.inl ⟨rfl, ha⟩) H x2 x3 rfl)
    · exact absurd h ha
theorem od_l201 (hO : od_O s z a1 a2 a3) (hs : -15 ≤ s ∧ s ≤ 15) (hz : -8 ≤ z ∧ z ≤ 8) (hf : od_fl s z fl) (H : post 1 ()) (x2 x3 : Int32) {z0 z1 : Int32} (e : z1 = z0) :
    wL_lawOf_201 post mc ms x2 x3 (od_e s) (od_e (od_x0 s)) (od_e (s - od_x0 s)) fl z0 z1 kc ks 2 rs fw (-1) a1 a2 a3 a4 a5 a6 a7 a8 := by
  refine br_t e (od_e0 hO hs hz (fun h _ _ _ _ _ _ _ => ?_) (fun h _ _ _ _ _ _ _ => ?_))
  · rcases hf with ⟨rfl, ha⟩ | ⟨rfl, ha⟩
    · exact absurd ha h
    · exact br_t rfl (od_l225 hO hs hz (Or.inr ⟨rfl, ha⟩) H x2 x3 rfl)
  · rcases hf with ⟨rfl, ha⟩ | ⟨rfl, ha⟩
    · exact br_f (by decide) (od_l225 hO hs hz (Or.inl ⟨rfl, ha⟩) H x2 x3 rfl)
    · exact absurd h ha
theorem od_l180 (hO : od_O s z a1 a2 a3) (hs : -15 ≤ s ∧ s ≤ 15) (hz : -8 ≤ z ∧ z ≤ 8) (hf : od_fl s z fl) (H : post 1 ()) (x2 x3 : Int32) {z0 z1 : Int32} (e : z1 = z0) :
    wL_lawOf_180 post mc ms x2 x3 (od_e s) (od_e (od_x0 s)) (od_e (s - od_x0 s)) (od_e (od_lz s z)) fl z0 z1 kc ks 2 rs fw (-1) a1 a2 a3 a4 a5 a6 a7 a8 := by
  refine br_t e (od_f2 hO hs hz (fun h _ _ _ _ _ _ _ => ?_) (fun h _ _ _ _ _ _ _ => ?_))
  · rcases hf with ⟨rfl, ha⟩ | ⟨rfl, ha⟩
    · exact absurd ha h
    · exact br_t rfl (od_l201 hO hs hz (Or.inr ⟨rfl, ha⟩) H x2 x3 rfl)
  · rcases hf with ⟨rfl, ha⟩ | ⟨rfl, ha⟩
    · exact br_f (by decide) (od_l201 hO hs hz (Or.inl ⟨rfl, ha⟩) H x2 x3 rfl)
    · exact absurd h ha
theorem od_l159 (hO : od_O s z a1 a2 a3) (hs : -15 ≤ s ∧ s ≤ 15) (hz : -8 ≤ z ∧ z ≤ 8) (hf : od_fl s z fl) (H : post 1 ()) (x2 x3 : Int32) {z0 z1 : Int32} (e : z1 = z0) :
    wL_lawOf_159 post mc ms x2 x3 (od_e s) (od_e (od_x0 s)) (od_e (s - od_x0 s)) (od_e (od_lz s z)) fl z0 z1 kc ks 2 rs fw (-1) a1 a2 a3 a4 a5 a6 a7 a8 := by
  refine br_t e (od_f0 hO hs hz (fun h _ _ _ _ _ _ _ => ?_) (fun h _ _ _ _ _ _ _ => ?_))
  · rcases hf with ⟨rfl, ha⟩ | ⟨rfl, ha⟩
    · exact absurd ha h
    · exact br_t rfl (od_l180 hO hs hz (Or.inr ⟨rfl, ha⟩) H x2 x3 rfl)
  · rcases hf with ⟨rfl, ha⟩ | ⟨rfl, ha⟩
    · exact br_f (by decide) (od_l180 hO hs hz (Or.inl ⟨rfl, ha⟩) H x2 x3 rfl)
    · exact absurd h ha
theorem od_l142 (hO : od_O s z a1 a2 a3) (hs : -15 ≤ s ∧ s ≤ 15) (hz : -8 ≤ z ∧ z ≤ 8) (hf : od_fl s z fl) (H : post 1 ()) (x2 x3 : Int32) :
    wL_lawOf_142 post mc ms x2 x3 (od_e s) (od_e (od_x0 s)) (od_e (s - od_x0 s)) (od_e (od_lz s z)) fl kc ks 2 rs fw (-1) a1 a2 a3 a4 a5 a6 a7 a8 := by
  refine od_po hO hs hz (fun h _ _ _ _ _ _ _ => ?_) (fun h _ _ _ _ _ _ _ => ?_)
  · rcases hf with ⟨rfl, ha⟩ | ⟨rfl, ha⟩
    · exact absurd ha h
    · exact br_t rfl (od_l159 hO hs hz (Or.inr ⟨rfl, ha⟩) H x2 x3 rfl)
  · rcases hf with ⟨rfl, ha⟩ | ⟨rfl, ha⟩
    · exact br_f (by decide) (od_l159 hO hs hz (Or.inl ⟨rfl, ha⟩) H x2 x3 rfl)
    · exact absurd h ha
theorem od_l114 (hO : od_O s z a1 a2 a3) (hs : -15 ≤ s ∧ s ≤ 15) (hz : -8 ≤ z ∧ z ≤ 8) (H : post 1 ()) (x2 x3 : Int32) :
    wL_lawOf_114 post mc ms x2 x3 (od_e s) (od_e (od_x0 s)) (od_e (s - od_x0 s)) (od_e (od_lz s z)) kc ks 2 rs fw (-1) a1 a2 a3 a4 a5 a6 a7 a8 := by
  have c := od_lzc s z
  have cx := od_x0c s
  have cw : od_w s z = od_x0 s - (s - od_x0 s) - z := rfl
  refine od_lt s (-12) (fun q => od_l142 hO hs hz (Or.inr ⟨rfl, fun a => ?_⟩) H x2 x3) (fun q1 => od_lt 12 s (fun q => od_l142 hO hs hz (Or.inr ⟨rfl, fun a => ?_⟩) H x2 x3) (fun q2 => od_lt 6 (od_lz s z) (fun q => od_l142 hO hs hz (Or.inr ⟨rfl, fun a => ?_⟩) H x2 x3) (fun q3 => od_l142 hO hs hz (Or.inl ⟨rfl, ?_⟩) H x2 x3))) rfl od_m12
  · have t := a.1
    omega
  · have t := a.2.1
    omega
  · have t := a.2.2
    omega
  · exact ⟨q1, q2, by omega⟩
theorem od_l79 (hO : od_O s z a1 a2 a3) (hs : -15 ≤ s ∧ s ≤ 15) (hz : -8 ≤ z ∧ z ≤ 8) (H : post 1 ()) (x2 x3 : Int32) :
    wL_lawOf_79 post mc ms x2 x3 (od_e s) (od_e z) (od_e (od_x0 s)) kc ks 2 rs fw (-1) a1 a2 a3 a4 a5 a6 a7 a8 := by
  have c := od_lzc s z
  have cx := od_x0c s
  have cw : od_w s z = od_x0 s - (s - od_x0 s) - z := rfl
  have ew : od_e (od_x0 s) - od_e (s - od_x0 s) - od_e z = od_e (od_w s z) := by rw [od_sub, od_sub, cw]
  refine nm_r (e' := od_e (s - od_x0 s)) (od_sub _ _) (od_le (-6) (od_w s z) (fun q => ?_) (fun q => ?_) od_m6 ew)
  · rw [ew, show od_w s z = od_lz s z by omega]
    exact od_l114 hO hs hz H x2 x3
  · rw [od_m6, show (-6 : Int) = od_lz s z by omega]
    exact od_l114 hO hs hz H x2 x3
end OdLaw
theorem od_ca {post : Int32 → Prop} {L : Nat} {xs : Nat → Int32} (hL : L ≤ 4) (i : Nat) (hi : i < 4) {p : Int32} (hp : p = nI i) (H : ∀ r, post r) : wpL_cellAt post L xs () p :=
  pk_le L i (fun _ => H _) (fun q => ⟨pk_in i L q hp (by omega), H _⟩) rfl hp
theorem od_lawOf {post : Int32 → St0 → Prop} (H : post 1 ()) (p0 p1 p2 p3 : Int32) : wpL_lawOf post 9 795 () p0 p1 p2 p3 := by
  obtain ⟨j, hj, e0⟩ := pk_andE p0 (m := 255) 8 (by decide)
  obtain ⟨k, hk, e1⟩ := pk_andE p1 (m := 255) 8 (by decide)
  have g0 : (p0 &&& 255) - (p0 &&& 255) / 31 * 31 - 15 = od_e (((j % 31 : Nat) : Int) - 15) := by
    rw [e0, show (31 : Int32) = nI 31 from rfl, pk_rem (by omega) (by omega) (by omega), od_n]
    exact od_sub _ 15
  have g1 : (p1 &&& 255) - (p1 &&& 255) / 17 * 17 - 8 = od_e (((k % 17 : Nat) : Int) - 8) := by
    rw [e1, show (17 : Int32) = nI 17 from rfl, pk_rem (by omega) (by omega) (by omega), od_n]
    exact od_sub _ 8
  have hs : -15 ≤ ((j % 31 : Nat) : Int) - 15 ∧ ((j % 31 : Nat) : Int) - 15 ≤ 15 := by omega
  have hz : -8 ≤ ((k % 17 : Nat) : Int) - 8 ∧ ((k % 17 : Nat) : Int) - 8 ≤ 8 := by omega
  generalize ((j % 31 : Nat) : Int) - 15 = s at g0 hs
  generalize ((k % 17 : Nat) : Int) - 8 = z at g1 hz
  have cx := od_x0c s
  refine ⟨by omega, by omega, 8, 783, by omega, by omega, by omega, by omega, by omega, by omega, by omega, by omega, by omega, by omega, by omega, by omega, by omega, by omega, by omega, by omega, by omega, by omega, ?_⟩
  refine ⟨by decide, nm_r g0 ⟨by decide, nm_r g1 ?_⟩⟩
  refine od_ad 0 (by omega) 1 1 0 s (by omega) (by omega) (by omega) (by omega) ?_ rfl rfl rfl rfl
  refine od_ad 1 (by omega) 1 (-1) (-1) z (by omega) (by omega) (by omega) (by omega) ?_ rfl od_m1 od_m1 rfl
  refine br_t rfl (od_le 0 s (fun q => ?_) (fun q => ?_))
  · rw [show od_e s - 6 = od_e (od_x0 s) from (od_sub s 6).trans (congrArg od_e (by omega))]
    exact od_l79 ⟨rfl, rfl, rfl, rfl, rfl, rfl, rfl, rfl, rfl, rfl⟩ hs hz H p2 p3
  · rw [show (-6 : Int32) = od_e (od_x0 s) from od_m6.trans (congrArg od_e (by omega))]
    exact od_l79 ⟨rfl, rfl, rfl, rfl, rfl, rfl, rfl, rfl, rfl, rfl⟩ hs hz H p2 p3
theorem i_vc (xs : Nat → Int32) (L : Nat) (hL : L ≤ 4) : wpL_law (fun r => r = 1) L xs :=
  od_ca hL 0 (by omega) rfl (fun r0 => od_ca hL 1 (by omega) rfl (fun r1 => od_ca hL 2 (by omega) rfl (fun r2 => od_ca hL 3 (by omega) rfl (fun r3 => ⟨9, 795, by omega, by omega, od_lawOf rfl r0 r1 r2 r3⟩))))
end
