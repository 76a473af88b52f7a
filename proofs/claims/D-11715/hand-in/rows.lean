section
/-! counts -/
noncomputable def pm_cn (P : Nat → Prop) : Nat → Nat
  | 0 => 0
  | n + 1 => pm_cn P n + @ite Nat (P n) (Classical.propDecidable (P n)) 1 0
theorem pm_cnT {P : Nat → Prop} {n : Nat} (h : P n) : pm_cn P (n + 1) = pm_cn P n + 1 := by
  show pm_cn P n + @ite Nat (P n) (Classical.propDecidable (P n)) 1 0 = _
  rw [if_pos h]
theorem pm_cnF {P : Nat → Prop} {n : Nat} (h : ¬ P n) : pm_cn P (n + 1) = pm_cn P n := by
  show pm_cn P n + @ite Nat (P n) (Classical.propDecidable (P n)) 1 0 = _
  rw [if_neg h]
  rfl
theorem pm_cnG {P Q : Nat → Prop} {n : Nat} (h : ∀ x, x < n → (P x ↔ Q x)) : pm_cn P n = pm_cn Q n := by
  induction n with
  | zero => rfl
  | succ n ih =>
    have e := ih (fun x hx => h x (by omega))
    by_cases c : P n
    · rw [pm_cnT c, pm_cnT ((h n (by omega)).mp c), e]
    · rw [pm_cnF c, pm_cnF (fun q => c ((h n (by omega)).mpr q)), e]
/-- one more -/
theorem pm_cn1 {P Q : Nat → Prop} {n x : Nat} (hx : x < n) (hp : ¬ P x) (hq : Q x) (h : ∀ y, y < n → y ≠ x → (P y ↔ Q y)) : pm_cn Q n = pm_cn P n + 1 := by
  induction n with
  | zero => omega
  | succ n ih =>
    by_cases e : x = n
    · subst e
      have t : pm_cn P x = pm_cn Q x := pm_cnG (fun y hy => h y (by omega) (by omega))
      rw [pm_cnT hq, pm_cnF hp, t]
    · have t := ih (by omega) (fun y hy => h y (by omega))
      by_cases c : P n
      · rw [pm_cnT c, pm_cnT ((h n (by omega) (by omega)).mp c), t]
      · rw [pm_cnF c, pm_cnF (fun q => c ((h n (by omega) (by omega)).mpr q)), t]
theorem pm_cnLe {P : Nat → Prop} (n : Nat) : pm_cn P n ≤ n := by
  induction n with
  | zero => exact Nat.le_refl 0
  | succ n ih =>
    by_cases c : P n
    · rw [pm_cnT c]; omega
    · rw [pm_cnF c]; omega
theorem pm_cnA {P : Nat → Prop} {n : Nat} (h : ∀ x, x < n → P x) : pm_cn P n = n := by
  induction n with
  | zero => rfl
  | succ n ih => rw [pm_cnT (h n (by omega)), ih (fun x hx => h x (by omega))]
theorem pm_cnN {P : Nat → Prop} {n : Nat} (h : ∀ x, x < n → ¬ P x) : pm_cn P n = 0 := by
  induction n with
  | zero => rfl
  | succ n ih => rw [pm_cnF (h n (by omega)), ih (fun x hx => h x (by omega))]
theorem pm_cnZ {P : Nat → Prop} {n x : Nat} (h : pm_cn P n = 0) (hx : x < n) : ¬ P x := by
  intro px
  have t := pm_cn1 (P := fun z => P z ∧ z ≠ x) (Q := P) hx (fun z => z.2 rfl) px (fun z _ hz => ⟨fun q => q.1, fun q => ⟨q, hz⟩⟩)
  omega
theorem pm_cnFree {P : Nat → Prop} {n : Nat} (h : pm_cn P n < n) : ∃ x, x < n ∧ ¬ P x := by
  by_cases c : ∃ x, x < n ∧ ¬ P x
  · exact c
  · have t : pm_cn P n = n := pm_cnA (fun x hx => Classical.byContradiction (fun z => c ⟨x, hx, z⟩))
    omega
theorem pm_cnEx {P : Nat → Prop} {n : Nat} (h : pm_cn P n ≠ 0) : ∃ x, x < n ∧ P x := by
  by_cases c : ∃ x, x < n ∧ P x
  · exact c
  · exact absurd (pm_cnN (fun x hx z => c ⟨x, hx, z⟩)) h
theorem pm_cnLt {P : Nat → Prop} {n x : Nat} (hx : x < n) (h : ¬ P x) : pm_cn P n < n := by
  have t := pm_cn1 (P := P) (Q := fun y => P y ∨ y = x) hx h (Or.inr rfl) (fun y _ hy => ⟨Or.inl, fun z => z.elim id (fun e => absurd e hy)⟩)
  have t2 := pm_cnLe (P := fun y => P y ∨ y = x) n
  omega
theorem pm_cnU {P : Nat → Prop} {n x y : Nat} (h : pm_cn P n = 1) (hx : x < n) (hy : y < n) (px : P x) (py : P y) : y = x := by
  have t := pm_cn1 (P := fun z => P z ∧ z ≠ x) (Q := P) hx (fun z => z.2 rfl) px (fun z _ hz => ⟨fun q => q.1, fun q => ⟨q, hz⟩⟩)
  have z0 : pm_cn (fun z => P z ∧ z ≠ x) n = 0 := by omega
  exact Classical.byContradiction (fun ne => pm_cnZ z0 hy ⟨py, ne⟩)
theorem pm_cnS (P Q : Nat → Prop) (n : Nat) : pm_cn P n = pm_cn (fun x => P x ∧ Q x) n + pm_cn (fun x => P x ∧ ¬ Q x) n := by
  induction n with
  | zero => rfl
  | succ n ih =>
    by_cases c : P n
    · by_cases d : Q n
      · have e1 := pm_cnT c
        have e2 := pm_cnT (P := fun x => P x ∧ Q x) (n := n) ⟨c, d⟩
        have e3 := pm_cnF (P := fun x => P x ∧ ¬ Q x) (n := n) (fun z => z.2 d)
        omega
      · have e1 := pm_cnT c
        have e2 := pm_cnF (P := fun x => P x ∧ Q x) (n := n) (fun z => d z.2)
        have e3 := pm_cnT (P := fun x => P x ∧ ¬ Q x) (n := n) ⟨c, d⟩
        omega
    · have e1 := pm_cnF c
      have e2 := pm_cnF (P := fun x => P x ∧ Q x) (n := n) (fun z => c z.1)
      have e3 := pm_cnF (P := fun x => P x ∧ ¬ Q x) (n := n) (fun z => c z.1)
      omega
end
section
/-! the invariant and its primitives, no program in sight -/
/-- page x, of content D, is in one of the four forms -/
def pm_pg (T : Nat → Prop) (F : Nat) (a1 a2 a5 a6 a7 a8 a9 a10 a11 : Nat → Int32) (D : Nat → Int32) (x : Nat) : Prop :=
  (a1 x = 0 ∧ ∀ w, w < 4 → D w = 0) ∨
  (a1 x = 1 ∧ T x ∧ ∃ f, f < F ∧ a2 x = nI f ∧ ∀ w, w < 4 → a5 (f * 4 + w) = D w) ∨
  (a1 x = 2 ∧ ∃ k, k < 24 ∧ a2 x = nI k ∧ a6 k ≠ 0 ∧ ∃ n, n ≤ 4 ∧ a7 k = nI n ∧ ∀ w, w < 4 → (w < n → a8 k = D w) ∧ (n ≤ w → a9 k = D w)) ∨
  (a1 x = 3 ∧ ∃ k, k < 24 ∧ a2 x = nI k ∧ a10 k ≠ 0 ∧ ∀ w, w < 4 → a11 (k * 4 + w) = D w)
def pm_I (T : Nat → Prop) (F e6 e10 : Nat) (C : Nat → Nat → Int32) (a1 a2 a4 a5 a6 a7 a8 a9 a10 a11 : Nat → Int32) : Prop :=
  (∀ x, x < 24 → pm_pg T F a1 a2 a5 a6 a7 a8 a9 a10 a11 (C x) x) ∧
  (∀ x y, x < 24 → y < 24 → x ≠ y → a1 x = a1 y → (a1 x = 2 ∨ a1 x = 3) → a2 x ≠ a2 y) ∧
  (∀ f, f < 16 → a4 f = nI (pm_cn (fun x => a1 x = 1 ∧ a2 x = nI f) 24)) ∧
  pm_cn (fun k => a6 k ≠ 0) 24 ≤ pm_cn (fun x => a1 x = 2) 24 + e6 ∧
  pm_cn (fun k => a10 k ≠ 0) 24 ≤ pm_cn (fun x => a1 x = 3) 24 + e10
theorem pm_ia {a b c : Int32} {Q : Prop} (e : a = b) : (a = c ∧ Q) ↔ (b = c ∧ Q) := by rw [e]
theorem pm_ib {a b c : Int32} (e : a = b) : (a = c) ↔ (b = c) := by rw [e]
theorem pm_ie {a b c : Int32} (e : a = b) : (a ≠ c) ↔ (b ≠ c) := by rw [e]
theorem pm_iab {a b c a' b' c' : Int32} (e : a = b) (e' : a' = b') : (a = c ∧ a' = c') ↔ (b = c ∧ b' = c') := by rw [e, e']
theorem pm_nn {a b : Nat} (h : nI a = nI b) (ha : a < 64) (hb : b < 64) : a = b := (nI_eq (by omega) (by omega)).mp h
/-- transport of a page -/
theorem pm_pgT {T : Nat → Prop} {F : Nat} {a1 a2 a5 a6 a7 a8 a9 a10 a11 b1 b2 b5 b6 b7 b8 b9 b10 b11 D E : Nat → Int32} {x y : Nat} (h : pm_pg T F a1 a2 a5 a6 a7 a8 a9 a10 a11 D x) (e1 : b1 y = a1 x) (e2 : b2 y = a2 x) (hT : T x → T y) (hD : ∀ w, w < 4 → E w = D w)
    (h5 : ∀ f, f < F → a1 x = 1 → a2 x = nI f → ∀ w, w < 4 → b5 (f * 4 + w) = a5 (f * 4 + w))
    (h6 : ∀ k, k < 24 → a1 x = 2 → a2 x = nI k → (a6 k ≠ 0 → b6 k ≠ 0) ∧ b7 k = a7 k ∧ b8 k = a8 k ∧ b9 k = a9 k)
    (h10 : ∀ k, k < 24 → a1 x = 3 → a2 x = nI k → (a10 k ≠ 0 → b10 k ≠ 0) ∧ ∀ w, w < 4 → b11 (k * 4 + w) = a11 (k * 4 + w)) :
    pm_pg T F b1 b2 b5 b6 b7 b8 b9 b10 b11 E y := by
  rcases h with ⟨h, d⟩ | ⟨h, t, f, hf, g, d⟩ | ⟨h, k, hk, g, u, n, hn, r, d⟩ | ⟨h, k, hk, g, u, d⟩
  · exact Or.inl ⟨e1.trans h, fun w hw => (hD w hw).trans (d w hw)⟩
  · exact Or.inr (Or.inl ⟨e1.trans h, hT t, f, hf, e2.trans g, fun w hw => ((h5 f hf h g w hw).trans (d w hw)).trans (hD w hw).symm⟩)
  · obtain ⟨q1, q2, q3, q4⟩ := h6 k hk h g
    exact Or.inr (Or.inr (Or.inl ⟨e1.trans h, k, hk, e2.trans g, q1 u, n, hn, q2.trans r, fun w hw => ⟨fun z => (q3.trans ((d w hw).1 z)).trans (hD w hw).symm, fun z => (q4.trans ((d w hw).2 z)).trans (hD w hw).symm⟩⟩))
  · obtain ⟨q1, q2⟩ := h10 k hk h g
    exact Or.inr (Or.inr (Or.inr ⟨e1.trans h, k, hk, e2.trans g, q1 u, fun w hw => ((q2 w hw).trans (d w hw)).trans (hD w hw).symm⟩))
section INV
variable {T : Nat → Prop} {F e6 e10 : Nat} {C C' : Nat → Nat → Int32} {a1 a2 a4 a5 a6 a7 a8 a9 a10 a11 : Nat → Int32} {x : Nat}
theorem pm_k6 {k : Nat} : (a6 k ≠ 0 → a6 k ≠ 0) ∧ a7 k = a7 k ∧ a8 k = a8 k ∧ a9 k = a9 k := ⟨id, rfl, rfl, rfl⟩
theorem pm_k10 {k : Nat} : (a10 k ≠ 0 → a10 k ≠ 0) ∧ ∀ w, w < 4 → a11 (k * 4 + w) = a11 (k * 4 + w) := ⟨id, fun _ _ => rfl⟩
theorem pm_IC (h : pm_I T F e6 e10 C a1 a2 a4 a5 a6 a7 a8 a9 a10 a11) (hC : ∀ y, y < 24 → ∀ w, w < 4 → C' y w = C y w) : pm_I T F e6 e10 C' a1 a2 a4 a5 a6 a7 a8 a9 a10 a11 := by
  obtain ⟨I1, I2, I3, I4, I5⟩ := h
  exact ⟨fun y hy => pm_pgT (I1 y hy) rfl rfl id (hC y hy) (fun _ _ _ _ _ _ => rfl) (fun _ _ _ _ => pm_k6) (fun _ _ _ _ => pm_k10), I2, I3, I4, I5⟩
/-- what an unused record (place aside) is -/
theorem pm_un6 (h : pm_I T F e6 e10 C a1 a2 a4 a5 a6 a7 a8 a9 a10 a11) {r : Nat} (hr : r < 24) (h0 : a6 r = 0) : ∀ y, y < 24 → a1 y = 2 → a2 y ≠ nI r := by
  intro y hy h2 e
  rcases h.1 y hy with ⟨q, _⟩ | ⟨q, _⟩ | ⟨_, k, hk, g, u, _⟩ | ⟨q, _⟩
  · rw [h2] at q; exact absurd q (by decide)
  · rw [h2] at q; exact absurd q (by decide)
  · rw [g] at e
    rw [pm_nn e (by omega) (by omega)] at u
    exact u h0
  · rw [h2] at q; exact absurd q (by decide)
theorem pm_un10 (h : pm_I T F e6 e10 C a1 a2 a4 a5 a6 a7 a8 a9 a10 a11) {r : Nat} (hr : r < 24) (h0 : a10 r = 0) : ∀ y, y < 24 → a1 y = 3 → a2 y ≠ nI r := by
  intro y hy h2 e
  rcases h.1 y hy with ⟨q, _⟩ | ⟨q, _⟩ | ⟨q, _⟩ | ⟨_, k, hk, g, u, _⟩
  · rw [h2] at q; exact absurd q (by decide)
  · rw [h2] at q; exact absurd q (by decide)
  · rw [h2] at q; exact absurd q (by decide)
  · rw [g] at e
    rw [pm_nn e (by omega) (by omega)] at u
    exact u h0
theorem pm_un4 (h : pm_I T F e6 e10 C a1 a2 a4 a5 a6 a7 a8 a9 a10 a11) {f : Nat} (hf : f < 16) (h0 : a4 f = 0) : ∀ y, y < 24 → a1 y = 1 → a2 y ≠ nI f := by
  intro y hy h1 e
  rw [h.2.2.1 f hf, ← nI_0] at h0
  have t := pm_cnLe (P := fun x => a1 x = 1 ∧ a2 x = nI f) 24
  exact pm_cnZ (P := fun x => a1 x = 1 ∧ a2 x = nI f) (pm_nn h0 (by omega) (by omega)) hy ⟨h1, e⟩
/-- counts under a store -/
theorem pm_cu {f : Nat → Int32} {k n : Nat} {c z : Int32} (h : f k ≠ c) (h' : z ≠ c) : pm_cn (fun y => upd f k z y = c) n = pm_cn (fun y => f y = c) n := by
  refine pm_cnG (fun y _ => ?_)
  by_cases e : y = k
  · subst e
    exact ⟨fun q => absurd (pk_us.symm.trans q) h', fun q => absurd q h⟩
  · exact pm_ib (pk_un e)
theorem pm_cuN {f : Nat → Int32} {k n : Nat} {c z : Int32} (hk : k < n) (h : f k ≠ c) (h' : z = c) : pm_cn (fun y => upd f k z y = c) n = pm_cn (fun y => f y = c) n + 1 :=
  pm_cn1 (P := fun y => f y = c) (Q := fun y => upd f k z y = c) hk h (pk_us.trans h') (fun y _ ne => pm_ib (pk_un ne).symm)
theorem pm_cuF {f : Nat → Int32} {k n : Nat} {c z : Int32} (hk : k < n) (h : f k = c) (h' : z ≠ c) : pm_cn (fun y => f y = c) n = pm_cn (fun y => upd f k z y = c) n + 1 :=
  pm_cn1 (P := fun y => upd f k z y = c) (Q := fun y => f y = c) hk (fun q => h' (pk_us.symm.trans q)) h (fun y _ ne => pm_ib (pk_un ne))
theorem pm_cz {f : Nat → Int32} {k n : Nat} (hk : k < n) (h : f k ≠ 0) : pm_cn (fun y => f y ≠ 0) n = pm_cn (fun y => upd f k 0 y ≠ 0) n + 1 :=
  pm_cn1 (P := fun y => upd f k 0 y ≠ 0) (Q := fun y => f y ≠ 0) hk (fun q => q pk_us) h (fun y _ ne => pm_ie (pk_un ne))
theorem pm_co {f : Nat → Int32} {k n : Nat} (hk : k < n) (h : f k = 0) : pm_cn (fun y => upd f k 1 y ≠ 0) n = pm_cn (fun y => f y ≠ 0) n + 1 :=
  pm_cn1 (P := fun y => f y ≠ 0) (Q := fun y => upd f k 1 y ≠ 0) hk (fun q => q h) (fun q => absurd (pk_us.symm.trans q) (by decide)) (fun y _ ne => pm_ie (pk_un ne).symm)
/-- the exclusive places, under a page's change -/
theorem pm_i2d (I2 : ∀ x y, x < 24 → y < 24 → x ≠ y → a1 x = a1 y → (a1 x = 2 ∨ a1 x = 3) → a2 x ≠ a2 y) :
    ∀ y z, y < 24 → z < 24 → y ≠ z → upd a1 x 0 y = upd a1 x 0 z → (upd a1 x 0 y = 2 ∨ upd a1 x 0 y = 3) → a2 y ≠ a2 z := by
  intro y z hy hz ne e q
  by_cases ey : y = x
  · subst ey
    rw [pk_us] at q
    rcases q with q | q
    · exact absurd q (by decide)
    · exact absurd q (by decide)
  · by_cases ez : z = x
    · subst ez
      rw [e, pk_us] at q
      rcases q with q | q
      · exact absurd q (by decide)
      · exact absurd q (by decide)
    · rw [pk_un ey, pk_un ez] at e
      rw [pk_un ey] at q
      exact I2 y z hy hz ne e q
theorem pm_i2a {c v : Int32} (I2 : ∀ x y, x < 24 → y < 24 → x ≠ y → a1 x = a1 y → (a1 x = 2 ∨ a1 x = 3) → a2 x ≠ a2 y)
    (un : ∀ y, y < 24 → y ≠ x → a1 y = c → (c = 2 ∨ c = 3) → a2 y ≠ v) :
    ∀ y z, y < 24 → z < 24 → y ≠ z → upd a1 x c y = upd a1 x c z → (upd a1 x c y = 2 ∨ upd a1 x c y = 3) → upd a2 x v y ≠ upd a2 x v z := by
  intro y z hy hz ne e q
  by_cases ey : y = x
  · subst ey
    have ez : z ≠ y := fun t => ne t.symm
    rw [pk_us] at q
    rw [pk_us, pk_un ez] at e
    rw [pk_us, pk_un ez]
    exact fun t => un z hz ez e.symm q t.symm
  · by_cases ez : z = x
    · subst ez
      rw [pk_un ey] at q
      rw [pk_un ey, pk_us] at e
      rw [pk_un ey, pk_us]
      rw [e] at q
      exact un y hy ey e q
    · rw [pk_un ey, pk_un ez] at e
      rw [pk_un ey] at q
      rw [pk_un ey, pk_un ez]
      exact I2 y z hy hz ne e q
/-- a page leaves its place -/
theorem pm_det0 (h : pm_I T F e6 e10 C a1 a2 a4 a5 a6 a7 a8 a9 a10 a11) (h1 : a1 x = 0) : pm_I T F e6 e10 C (upd a1 x 0) a2 a4 a5 a6 a7 a8 a9 a10 a11 := by
  have e : upd a1 x 0 = a1 := by
    funext y
    by_cases e : y = x
    · subst e; rw [pk_us, h1]
    · rw [pk_un e]
  rw [e]
  exact h
theorem pm_det1 (h : pm_I T F e6 e10 C a1 a2 a4 a5 a6 a7 a8 a9 a10 a11) (hx : x < 24) {f : Nat} (hf : f < 16) (h1 : a1 x = 1) (h2 : a2 x = nI f)
    (hC : ∀ y, y < 24 → y ≠ x → ∀ w, w < 4 → C' y w = C y w) (hD : ∀ w, w < 4 → C' x w = 0) : pm_I T F e6 e10 C' (upd a1 x 0) a2 (upd a4 f (a4 f - 1)) a5 a6 a7 a8 a9 a10 a11 := by
  obtain ⟨I1, I2, I3, I4, I5⟩ := h
  refine ⟨fun y hy => ?_, pm_i2d I2, fun g hg => ?_, ?_, ?_⟩
  · by_cases e : y = x
    · subst e
      exact Or.inl ⟨pk_us, hD⟩
    · exact pm_pgT (I1 y hy) (pk_un e) rfl id (hC y hy e) (fun _ _ _ _ _ _ => rfl) (fun _ _ _ _ => pm_k6) (fun _ _ _ _ => pm_k10)
  · by_cases e : g = f
    · subst e
      have t := pm_cn1 (P := fun y => upd a1 x 0 y = 1 ∧ a2 y = nI g) (Q := fun y => a1 y = 1 ∧ a2 y = nI g) hx (fun z => absurd (pk_us.symm.trans z.1) (by decide)) ⟨h1, h2⟩ (fun y _ ne => pm_ia (pk_un ne))
      rw [pk_us, I3 g hg, t, nI_pred]
    · have t : pm_cn (fun y => a1 y = 1 ∧ a2 y = nI g) 24 = pm_cn (fun y => upd a1 x 0 y = 1 ∧ a2 y = nI g) 24 := by
        refine pm_cnG (fun y _ => ?_)
        by_cases ey : y = x
        · subst ey
          exact ⟨fun z => absurd (pm_nn (h2.symm.trans z.2) (by omega) (by omega)).symm e, fun z => absurd (pk_us.symm.trans z.1) (by decide)⟩
        · exact pm_ia (pk_un ey).symm
      rw [pk_un e, I3 g hg, t]
  · rw [pm_cu (by rw [h1]; decide) (by decide)]
    exact I4
  · rw [pm_cu (by rw [h1]; decide) (by decide)]
    exact I5
theorem pm_i3k (I3 : ∀ f, f < 16 → a4 f = nI (pm_cn (fun x => a1 x = 1 ∧ a2 x = nI f) 24)) {c : Int32} (h1 : a1 x ≠ 1) (hc : c ≠ 1) (b2 : Nat → Int32) (hb : ∀ y, y ≠ x → b2 y = a2 y) :
    ∀ f, f < 16 → a4 f = nI (pm_cn (fun y => upd a1 x c y = 1 ∧ b2 y = nI f) 24) := by
  intro g hg
  have t : pm_cn (fun y => a1 y = 1 ∧ a2 y = nI g) 24 = pm_cn (fun y => upd a1 x c y = 1 ∧ b2 y = nI g) 24 := by
    refine pm_cnG (fun y _ => ?_)
    by_cases ey : y = x
    · subst ey
      exact ⟨fun z => absurd z.1 h1, fun z => absurd (pk_us.symm.trans z.1) hc⟩
    · exact pm_iab (pk_un ey).symm (hb y ey).symm
  rw [I3 g hg, t]
theorem pm_det2 (h : pm_I T F e6 e10 C a1 a2 a4 a5 a6 a7 a8 a9 a10 a11) (hx : x < 24) {k : Nat} (hk : k < 24) (h1 : a1 x = 2) (h2 : a2 x = nI k)
    (hC : ∀ y, y < 24 → y ≠ x → ∀ w, w < 4 → C' y w = C y w) (hD : ∀ w, w < 4 → C' x w = 0) : pm_I T F e6 e10 C' (upd a1 x 0) a2 a4 a5 (upd a6 k 0) a7 a8 a9 a10 a11 := by
  obtain ⟨I1, I2, I3, I4, I5⟩ := h
  refine ⟨fun y hy => ?_, pm_i2d I2, pm_i3k I3 (by rw [h1]; decide) (by decide) a2 (fun _ _ => rfl), ?_, ?_⟩
  · by_cases e : y = x
    · subst e
      exact Or.inl ⟨pk_us, hD⟩
    · refine pm_pgT (I1 y hy) (pk_un e) rfl id (hC y hy e) (fun _ _ _ _ _ _ => rfl) (fun j hj q2 q => ?_) (fun _ _ _ _ => pm_k10)
      have ne : j ≠ k := fun z => I2 y x hy hx e (q2.trans h1.symm) (Or.inl q2) (by rw [q, h2, z])
      exact ⟨fun z => by rw [pk_un ne]; exact z, rfl, rfl, rfl⟩
  · have a6k : a6 k ≠ 0 := by
      rcases I1 x hx with ⟨q, _⟩ | ⟨q, _⟩ | ⟨_, j, hj, g, u, _⟩ | ⟨q, _⟩
      · rw [h1] at q; exact absurd q (by decide)
      · rw [h1] at q; exact absurd q (by decide)
      · rw [g] at h2
        rw [pm_nn h2 (by omega) (by omega)] at u
        exact u
      · rw [h1] at q; exact absurd q (by decide)
    have t1 := pm_cz (f := a6) hk a6k
    have t2 := pm_cuF (f := a1) (c := 2) (z := 0) hx h1 (by decide)
    omega
  · rw [pm_cu (by rw [h1]; decide) (by decide)]
    exact I5
theorem pm_det3 (h : pm_I T F e6 e10 C a1 a2 a4 a5 a6 a7 a8 a9 a10 a11) (hx : x < 24) {k : Nat} (hk : k < 24) (h1 : a1 x = 3) (h2 : a2 x = nI k)
    (hC : ∀ y, y < 24 → y ≠ x → ∀ w, w < 4 → C' y w = C y w) (hD : ∀ w, w < 4 → C' x w = 0) : pm_I T F e6 e10 C' (upd a1 x 0) a2 a4 a5 a6 a7 a8 a9 (upd a10 k 0) a11 := by
  obtain ⟨I1, I2, I3, I4, I5⟩ := h
  refine ⟨fun y hy => ?_, pm_i2d I2, pm_i3k I3 (by rw [h1]; decide) (by decide) a2 (fun _ _ => rfl), ?_, ?_⟩
  · by_cases e : y = x
    · subst e
      exact Or.inl ⟨pk_us, hD⟩
    · refine pm_pgT (I1 y hy) (pk_un e) rfl id (hC y hy e) (fun _ _ _ _ _ _ => rfl) (fun _ _ _ _ => pm_k6) (fun j hj q2 q => ?_)
      have ne : j ≠ k := fun z => I2 y x hy hx e (q2.trans h1.symm) (Or.inr q2) (by rw [q, h2, z])
      exact ⟨fun z => by rw [pk_un ne]; exact z, fun _ _ => rfl⟩
  · rw [pm_cu (by rw [h1]; decide) (by decide)]
    exact I4
  · have a10k : a10 k ≠ 0 := by
      rcases I1 x hx with ⟨q, _⟩ | ⟨q, _⟩ | ⟨q, _⟩ | ⟨_, j, hj, g, u, _⟩
      · rw [h1] at q; exact absurd q (by decide)
      · rw [h1] at q; exact absurd q (by decide)
      · rw [h1] at q; exact absurd q (by decide)
      · rw [g] at h2
        rw [pm_nn h2 (by omega) (by omega)] at u
        exact u
    have t1 := pm_cz (f := a10) hk a10k
    have t2 := pm_cuF (f := a1) (c := 3) (z := 0) hx h1 (by decide)
    omega
/-- a page that is gone comes to a place -/
theorem pm_att1 (h : pm_I T F e6 e10 C a1 a2 a4 a5 a6 a7 a8 a9 a10 a11) (hF : F ≤ 16) (hx : x < 24) (hT : T x) {f : Nat} (hf : f < F) (h1 : a1 x = 0)
    (hC : ∀ y, y < 24 → y ≠ x → ∀ w, w < 4 → C' y w = C y w) (hD : ∀ w, w < 4 → a5 (f * 4 + w) = C' x w) : pm_I T F e6 e10 C' (upd a1 x 1) (upd a2 x (nI f)) (upd a4 f (a4 f + 1)) a5 a6 a7 a8 a9 a10 a11 := by
  obtain ⟨I1, I2, I3, I4, I5⟩ := h
  refine ⟨fun y hy => ?_, pm_i2a I2 (fun y hy ne e z => absurd z (by decide)), fun g hg => ?_, ?_, ?_⟩
  · by_cases e : y = x
    · subst e
      exact Or.inr (Or.inl ⟨pk_us, hT, f, hf, pk_us, hD⟩)
    · exact pm_pgT (I1 y hy) (pk_un e) (pk_un e) id (hC y hy e) (fun _ _ _ _ _ _ => rfl) (fun _ _ _ _ => pm_k6) (fun _ _ _ _ => pm_k10)
  · by_cases e : g = f
    · subst e
      have t := pm_cn1 (P := fun y => a1 y = 1 ∧ a2 y = nI g) (Q := fun y => upd a1 x 1 y = 1 ∧ upd a2 x (nI g) y = nI g) hx (fun z => absurd (h1.symm.trans z.1) (by decide)) ⟨pk_us, pk_us⟩ (fun y _ ne => pm_iab (pk_un ne).symm (pk_un ne).symm)
      rw [pk_us, I3 g hg, t, nI_1]
    · have t : pm_cn (fun y => a1 y = 1 ∧ a2 y = nI g) 24 = pm_cn (fun y => upd a1 x 1 y = 1 ∧ upd a2 x (nI f) y = nI g) 24 := by
        refine pm_cnG (fun y _ => ?_)
        by_cases ey : y = x
        · subst ey
          exact ⟨fun z => absurd (h1.symm.trans z.1) (by decide), fun z => absurd (pm_nn (pk_us.symm.trans z.2) (by omega) (by omega)).symm e⟩
        · exact pm_iab (pk_un ey).symm (pk_un ey).symm
      rw [pk_un e, I3 g hg, t]
  · rw [pm_cu (by rw [h1]; decide) (by decide)]
    exact I4
  · rw [pm_cu (by rw [h1]; decide) (by decide)]
    exact I5
theorem pm_att2 (h : pm_I T F (e6 + 1) e10 C a1 a2 a4 a5 a6 a7 a8 a9 a10 a11) (hx : x < 24) {r n : Nat} (hr : r < 24) (h1 : a1 x = 0) (un : ∀ y, y < 24 → a1 y = 2 → a2 y ≠ nI r) (hu : a6 r ≠ 0) (hn : n ≤ 4) (h7 : a7 r = nI n)
    (hC : ∀ y, y < 24 → y ≠ x → ∀ w, w < 4 → C' y w = C y w) (hD : ∀ w, w < 4 → (w < n → a8 r = C' x w) ∧ (n ≤ w → a9 r = C' x w)) : pm_I T F e6 e10 C' (upd a1 x 2) (upd a2 x (nI r)) a4 a5 a6 a7 a8 a9 a10 a11 := by
  obtain ⟨I1, I2, I3, I4, I5⟩ := h
  refine ⟨fun y hy => ?_, pm_i2a I2 (fun y hy ne e z => un y hy e), pm_i3k I3 (by rw [h1]; decide) (by decide) _ (fun _ e => pk_un e), ?_, ?_⟩
  · by_cases e : y = x
    · subst e
      exact Or.inr (Or.inr (Or.inl ⟨pk_us, r, hr, pk_us, hu, n, hn, h7, hD⟩))
    · exact pm_pgT (I1 y hy) (pk_un e) (pk_un e) id (hC y hy e) (fun _ _ _ _ _ _ => rfl) (fun _ _ _ _ => pm_k6) (fun _ _ _ _ => pm_k10)
  · rw [pm_cuN hx (by rw [h1]; decide) rfl]
    omega
  · rw [pm_cu (by rw [h1]; decide) (by decide)]
    exact I5
theorem pm_att3 (h : pm_I T F e6 (e10 + 1) C a1 a2 a4 a5 a6 a7 a8 a9 a10 a11) (hx : x < 24) {r : Nat} (hr : r < 24) (h1 : a1 x = 0) (un : ∀ y, y < 24 → a1 y = 3 → a2 y ≠ nI r) (hu : a10 r ≠ 0)
    (hC : ∀ y, y < 24 → y ≠ x → ∀ w, w < 4 → C' y w = C y w) (hD : ∀ w, w < 4 → a11 (r * 4 + w) = C' x w) : pm_I T F e6 e10 C' (upd a1 x 3) (upd a2 x (nI r)) a4 a5 a6 a7 a8 a9 a10 a11 := by
  obtain ⟨I1, I2, I3, I4, I5⟩ := h
  refine ⟨fun y hy => ?_, pm_i2a I2 (fun y hy ne e z => un y hy e), pm_i3k I3 (by rw [h1]; decide) (by decide) _ (fun _ e => pk_un e), ?_, ?_⟩
  · by_cases e : y = x
    · subst e
      exact Or.inr (Or.inr (Or.inr ⟨pk_us, r, hr, pk_us, hu, hD⟩))
    · exact pm_pgT (I1 y hy) (pk_un e) (pk_un e) id (hC y hy e) (fun _ _ _ _ _ _ => rfl) (fun _ _ _ _ => pm_k6) (fun _ _ _ _ => pm_k10)
  · rw [pm_cu (by rw [h1]; decide) (by decide)]
    exact I4
  · rw [pm_cuN hx (by rw [h1]; decide) rfl]
    omega
/-- stores into what no page uses -/
theorem pm_mem (h : pm_I T F e6 e10 C a1 a2 a4 a5 a6 a7 a8 a9 a10 a11) {f : Nat} (un : ∀ y, y < 24 → a1 y = 1 → a2 y ≠ nI f) {b5 : Nat → Int32} (hb : ∀ g w, g ≠ f → w < 4 → b5 (g * 4 + w) = a5 (g * 4 + w)) : pm_I T F e6 e10 C a1 a2 a4 b5 a6 a7 a8 a9 a10 a11 := by
  obtain ⟨I1, I2, I3, I4, I5⟩ := h
  refine ⟨fun y hy => ?_, I2, I3, I4, I5⟩
  refine pm_pgT (I1 y hy) rfl rfl id (fun _ _ => rfl) (fun g hg q q2 w hw => ?_) (fun _ _ _ _ => pm_k6) (fun _ _ _ _ => pm_k10)
  exact hb g w (fun z => un y hy q (by rw [q2, z])) hw
theorem pm_rec (h : pm_I T F e6 e10 C a1 a2 a4 a5 a6 a7 a8 a9 a10 a11) {r : Nat} (hr : r < 24) (h0 : a6 r = 0) (n v0 v1 : Int32) : pm_I T F (e6 + 1) e10 C a1 a2 a4 a5 (upd a6 r 1) (upd a7 r n) (upd a8 r v0) (upd a9 r v1) a10 a11 := by
  have un := pm_un6 h hr h0
  obtain ⟨I1, I2, I3, I4, I5⟩ := h
  refine ⟨fun y hy => ?_, I2, I3, ?_, I5⟩
  · refine pm_pgT (I1 y hy) rfl rfl id (fun _ _ => rfl) (fun _ _ _ _ _ _ => rfl) (fun k hk q q2 => ?_) (fun _ _ _ _ => pm_k10)
    have ne : k ≠ r := fun z => un y hy q (by rw [q2, z])
    exact ⟨fun z => by rw [pk_un ne]; exact z, pk_un ne, pk_un ne, pk_un ne⟩
  · have t := pm_co (f := a6) hr h0
    omega
theorem pm_asd (h : pm_I T F e6 e10 C a1 a2 a4 a5 a6 a7 a8 a9 a10 a11) {r : Nat} (hr : r < 24) (h0 : a10 r = 0) {b11 : Nat → Int32} (hb : ∀ g w, g ≠ r → w < 4 → b11 (g * 4 + w) = a11 (g * 4 + w)) : pm_I T F e6 (e10 + 1) C a1 a2 a4 a5 a6 a7 a8 a9 (upd a10 r 1) b11 := by
  have un := pm_un10 h hr h0
  obtain ⟨I1, I2, I3, I4, I5⟩ := h
  refine ⟨fun y hy => ?_, I2, I3, I4, ?_⟩
  · refine pm_pgT (I1 y hy) rfl rfl id (fun _ _ => rfl) (fun _ _ _ _ _ _ => rfl) (fun _ _ _ _ => pm_k6) (fun k hk q q2 => ?_)
    have ne : k ≠ r := fun z => un y hy q (by rw [q2, z])
    exact ⟨fun z => by rw [pk_un ne]; exact z, fun w hw => hb k w ne hw⟩
  · have t := pm_co (f := a10) hr h0
    omega
/-- the only holder of a frame writes there -/
theorem pm_wr (h : pm_I T F e6 e10 C a1 a2 a4 a5 a6 a7 a8 a9 a10 a11) (hx : x < 24) {f : Nat} (hf : f < 16) (h1 : a1 x = 1) (h2 : a2 x = nI f) (ho : a4 f = 1) {b5 : Nat → Int32} (hb : ∀ g w, g ≠ f → w < 4 → b5 (g * 4 + w) = a5 (g * 4 + w))
    (hC : ∀ y, y < 24 → y ≠ x → ∀ w, w < 4 → C' y w = C y w) (hD : ∀ w, w < 4 → b5 (f * 4 + w) = C' x w) : pm_I T F e6 e10 C' a1 a2 a4 b5 a6 a7 a8 a9 a10 a11 := by
  obtain ⟨I1, I2, I3, I4, I5⟩ := h
  have c1 : pm_cn (fun y => a1 y = 1 ∧ a2 y = nI f) 24 = 1 := by
    rw [I3 f hf] at ho
    have t := pm_cnLe (P := fun y => a1 y = 1 ∧ a2 y = nI f) 24
    exact pm_nn (ho.trans (show (1 : Int32) = nI 1 by rfl)) (by omega) (by omega)
  refine ⟨fun y hy => ?_, I2, I3, I4, I5⟩
  by_cases e : y = x
  · subst e
    rcases I1 y hy with ⟨q, _⟩ | ⟨_, t, g, hg, q, _⟩ | ⟨q, _⟩ | ⟨q, _⟩
    · rw [h1] at q; exact absurd q (by decide)
    · rw [h2] at q
      have e2 : (nI f).toNatClampNeg = (nI g).toNatClampNeg := by rw [q]
      by_cases hgf : g = f
      · subst hgf
        exact Or.inr (Or.inl ⟨h1, t, g, hg, h2, hD⟩)
      · by_cases hg2 : g < 64
        · exact absurd (pm_nn q (by omega) hg2).symm hgf
        · exact Or.inr (Or.inl ⟨h1, t, f, by omega, h2, hD⟩)
    · rw [h1] at q; exact absurd q (by decide)
    · rw [h1] at q; exact absurd q (by decide)
  · refine pm_pgT (I1 y hy) rfl rfl id (hC y hy e) (fun g hg q q2 w hw => ?_) (fun _ _ _ _ => pm_k6) (fun _ _ _ _ => pm_k10)
    exact hb g w (fun z => e (pm_cnU (P := fun y => a1 y = 1 ∧ a2 y = nI f) c1 hx hy ⟨h1, h2⟩ ⟨q, by rw [q2, z]⟩)) hw
end INV
/-- the swap of two pages -/
def pm_sw (x y z : Nat) : Nat := if z = x then y else if z = y then x else z
theorem pm_swx {x y : Nat} : pm_sw x y x = y := if_pos rfl
theorem pm_swy {x y : Nat} (h : x ≠ y) : pm_sw x y y = x := by
  unfold pm_sw
  rw [if_neg h.symm, if_pos rfl]
theorem pm_swn {x y z : Nat} (h : z ≠ x) (h' : z ≠ y) : pm_sw x y z = z := by
  unfold pm_sw
  rw [if_neg h, if_neg h']
theorem pm_swl {x y z n : Nat} (hx : x < n) (hy : y < n) (hz : z < n) : pm_sw x y z < n := by
  unfold pm_sw
  split
  · exact hy
  · split
    · exact hx
    · exact hz
theorem pm_swi {x y z t : Nat} (h : z ≠ t) : pm_sw x y z ≠ pm_sw x y t := by
  unfold pm_sw
  split <;> split <;> (try split) <;> (try split) <;> omega
theorem pm_swu {x y z : Nat} {a : Nat → Int32} (h : x ≠ y) : upd (upd a x (a y)) y (a x) z = a (pm_sw x y z) := by
  by_cases e : z = y
  · subst e
    rw [pk_us, pm_swy h]
  · rw [pk_un e]
    by_cases e' : z = x
    · subst e'
      rw [pk_us, pm_swx]
    · rw [pk_un e', pm_swn e' e]
theorem pm_cnW {P : Nat → Prop} {x y n : Nat} (hx : x < n) (hy : y < n) (h : x ≠ y) : pm_cn (fun z => P (pm_sw x y z)) n = pm_cn P n := by
  by_cases p : P x
  · by_cases q : P y
    · refine pm_cnG (fun z _ => ?_)
      by_cases e : z = x
      · subst e
        show P (pm_sw z y z) ↔ P z
        rw [pm_swx]
        exact ⟨fun _ => p, fun _ => q⟩
      · by_cases e' : z = y
        · subst e'
          show P (pm_sw x z z) ↔ P z
          rw [pm_swy h]
          exact ⟨fun _ => q, fun _ => p⟩
        · show P (pm_sw x y z) ↔ P z
          rw [pm_swn e e']
    · have t1 := pm_cn1 (P := fun z => P z ∧ z ≠ x) (Q := P) hx (fun z => z.2 rfl) p (fun z _ hz => ⟨fun q => q.1, fun q => ⟨q, hz⟩⟩)
      have t2 := pm_cn1 (P := fun z => P z ∧ z ≠ x) (Q := fun z => P (pm_sw x y z)) hy (fun z => q z.1) (show P (pm_sw x y y) by rw [pm_swy h]; exact p) (fun z _ hz => by
        show (P z ∧ z ≠ x) ↔ P (pm_sw x y z)
        by_cases e : z = x
        · subst e
          rw [pm_swx]
          exact ⟨fun t => absurd rfl t.2, fun t => absurd t q⟩
        · rw [pm_swn e hz]
          exact ⟨fun t => t.1, fun t => ⟨t, e⟩⟩)
      omega
  · by_cases q : P y
    · have t1 := pm_cn1 (P := fun z => P z ∧ z ≠ y) (Q := P) hy (fun z => z.2 rfl) q (fun z _ hz => ⟨fun q => q.1, fun q => ⟨q, hz⟩⟩)
      have t2 := pm_cn1 (P := fun z => P z ∧ z ≠ y) (Q := fun z => P (pm_sw x y z)) hx (fun z => p z.1) (show P (pm_sw x y x) by rw [pm_swx]; exact q) (fun z _ hz => by
        show (P z ∧ z ≠ y) ↔ P (pm_sw x y z)
        by_cases e : z = y
        · subst e
          rw [pm_swy h]
          exact ⟨fun t => absurd rfl t.2, fun t => absurd t p⟩
        · rw [pm_swn hz e]
          exact ⟨fun t => t.1, fun t => ⟨t, e⟩⟩)
      omega
    · refine pm_cnG (fun z _ => ?_)
      by_cases e : z = x
      · subst e
        show P (pm_sw z y z) ↔ P z
        rw [pm_swx]
        exact ⟨fun t => absurd t q, fun t => absurd t p⟩
      · by_cases e' : z = y
        · subst e'
          show P (pm_sw x z z) ↔ P z
          rw [pm_swy h]
          exact ⟨fun t => absurd t p, fun t => absurd t q⟩
        · show P (pm_sw x y z) ↔ P z
          rw [pm_swn e e']
theorem pm_swap {T : Nat → Prop} {F e6 e10 : Nat} {C C' : Nat → Nat → Int32} {a1 a2 a4 a5 a6 a7 a8 a9 a10 a11 : Nat → Int32} {x y : Nat} (h : pm_I T F e6 e10 C a1 a2 a4 a5 a6 a7 a8 a9 a10 a11) (hx : x < 24) (hy : y < 24) (ne : x ≠ y) (Tx : T x) (Ty : T y)
    {b1 b2 : Nat → Int32} (e1 : ∀ z, b1 z = a1 (pm_sw x y z)) (e2 : ∀ z, b2 z = a2 (pm_sw x y z)) (hC : ∀ z, z < 24 → ∀ w, w < 4 → C' z w = C (pm_sw x y z) w) : pm_I T F e6 e10 C' b1 b2 a4 a5 a6 a7 a8 a9 a10 a11 := by
  obtain ⟨I1, I2, I3, I4, I5⟩ := h
  refine ⟨fun z hz => ?_, fun z t hz ht n e q => ?_, fun g hg => ?_, ?_, ?_⟩
  · refine pm_pgT (I1 _ (pm_swl hx hy hz)) (e1 z) (e2 z) (fun t => ?_) (hC z hz) (fun _ _ _ _ _ _ => rfl) (fun _ _ _ _ => pm_k6) (fun _ _ _ _ => pm_k10)
    by_cases z1 : z = x
    · rw [z1]; exact Tx
    · by_cases z2 : z = y
      · rw [z2]; exact Ty
      · rw [pm_swn z1 z2] at t
        exact t
  · rw [e1 z, e1 t] at e
    rw [e1 z] at q
    rw [e2 z, e2 t]
    exact I2 _ _ (pm_swl hx hy hz) (pm_swl hx hy ht) (pm_swi n) e q
  · have t : pm_cn (fun z => b1 z = 1 ∧ b2 z = nI g) 24 = pm_cn (fun z => a1 z = 1 ∧ a2 z = nI g) 24 :=
      (pm_cnG (fun z _ => pm_iab (e1 z) (e2 z))).trans (pm_cnW (P := fun z => a1 z = 1 ∧ a2 z = nI g) hx hy ne)
    rw [t]
    exact I3 g hg
  · have t : pm_cn (fun z => b1 z = 2) 24 = pm_cn (fun z => a1 z = 2) 24 :=
      (pm_cnG (fun z _ => pm_ib (e1 z))).trans (pm_cnW (P := fun z => a1 z = 2) hx hy ne)
    rw [t]
    exact I4
  · have t : pm_cn (fun z => b1 z = 3) 24 = pm_cn (fun z => a1 z = 3) 24 :=
      (pm_cnG (fun z _ => pm_ib (e1 z))).trans (pm_cnW (P := fun z => a1 z = 3) hx hy ne)
    rw [t]
    exact I5
/-- the three pages that may be in frames; a free frame -/
def pm_T (a b c x : Nat) : Prop := x = a ∨ x = b ∨ x = c
theorem pm_free {a b c F e6 e10 : Nat} {C : Nat → Nat → Int32} {a1 a2 a4 a5 a6 a7 a8 a9 a10 a11 : Nat → Int32} (h : pm_I (pm_T a b c) F e6 e10 C a1 a2 a4 a5 a6 a7 a8 a9 a10 a11) (hF : 4 ≤ F) : ∃ f, f < F ∧ a4 f = 0 := by
  by_cases c0 : ∃ f, f < F ∧ a4 f = 0
  · exact c0
  · have key : ∀ f, f < 4 → ∃ x, pm_T a b c x ∧ a2 x = nI f := by
      intro f hf
      have t : pm_cn (fun x => a1 x = 1 ∧ a2 x = nI f) 24 ≠ 0 := by
        intro z
        have e := h.2.2.1 f (by omega)
        rw [z] at e
        exact c0 ⟨f, by omega, e⟩
      obtain ⟨x, hx, q1, q2⟩ := pm_cnEx t
      refine ⟨x, ?_, q2⟩
      rcases h.1 x hx with ⟨q, _⟩ | ⟨_, t, _⟩ | ⟨q, _⟩ | ⟨q, _⟩
      · rw [q1] at q; exact absurd q (by decide)
      · exact t
      · rw [q1] at q; exact absurd q (by decide)
      · rw [q1] at q; exact absurd q (by decide)
    obtain ⟨x0, t0, q0⟩ := key 0 (by omega)
    obtain ⟨x1, t1, q1⟩ := key 1 (by omega)
    obtain ⟨x2, t2, q2⟩ := key 2 (by omega)
    obtain ⟨x3, t3, q3⟩ := key 3 (by omega)
    have n01 : x0 ≠ x1 := fun z => by
      rw [z] at q0
      exact absurd (pm_nn (q0.symm.trans q1) (by omega) (by omega)) (by omega)
    have n02 : x0 ≠ x2 := fun z => by
      rw [z] at q0
      exact absurd (pm_nn (q0.symm.trans q2) (by omega) (by omega)) (by omega)
    have n03 : x0 ≠ x3 := fun z => by
      rw [z] at q0
      exact absurd (pm_nn (q0.symm.trans q3) (by omega) (by omega)) (by omega)
    have n12 : x1 ≠ x2 := fun z => by
      rw [z] at q1
      exact absurd (pm_nn (q1.symm.trans q2) (by omega) (by omega)) (by omega)
    have n13 : x1 ≠ x3 := fun z => by
      rw [z] at q1
      exact absurd (pm_nn (q1.symm.trans q3) (by omega) (by omega)) (by omega)
    have n23 : x2 ≠ x3 := fun z => by
      rw [z] at q2
      exact absurd (pm_nn (q2.symm.trans q3) (by omega) (by omega)) (by omega)
    unfold pm_T at t0 t1 t2 t3
    omega
end
section
/-! the questions: peek, equalPages, repeats, contents, duplicates, runsOf, plain, sum -/
theorem pm_ix (f w : Nat) : nI f * 4 + nI w = nI (f * 4 + w) := by
  rw [show (4 : Int32) = nI 4 from rfl, pk_mul, nI_add]
theorem pm_cl {x : Nat} (h : x < 4096) : (nI x).toNatClampNeg = x := nI_clamp (by omega)
section LOOK
variable {post : Int32 → Prop} {T : Nat → Prop} {F e6 e10 : Nat} {C : Nat → Nat → Int32} {D E : Nat → Int32} {f0 f1 f2 : Int32} {a1 a2 a3 a4 a5 a6 a7 a8 a9 a10 a11 : Nat → Int32} {x y w : Nat}
theorem pm_peek (h : pm_pg T F a1 a2 a5 a6 a7 a8 a9 a10 a11 D x) (hF : F ≤ 16) (hx : x < 24) (hw : w < 4) (hp : post (D w)) : wpX_peek post (f0, f1, f2, a1, a2, a3, a4, a5, a6, a7, a8, a9, a10, a11) (nI x) (nI w) := by
  have e : (nI x).toNatClampNeg = x := pm_cl (by omega)
  have v : vp_in (nI x) 24 := vp_in_nI hx (by decide)
  rcases h with ⟨h, d⟩ | ⟨h, t, f, hf, g, d⟩ | ⟨h, k, hk, g, u, n, hn, r, d⟩ | ⟨h, k, hk, g, u, d⟩
  · exact ⟨v, nm_e ⟨v, nm_r (e' := 0) (by rw [e, h]) (br_t (by decide) (by rw [d w hw] at hp; exact hp))⟩⟩
  · refine ⟨v, nm_r (e' := nI f) (by rw [e, g]) ⟨v, nm_r (e' := 1) (by rw [e, h]) (br_f (by decide) (br_f (by decide) (br_t rfl ⟨pk_in (f * 4 + w) 64 (by omega) (pm_ix f w), ?_⟩)))⟩⟩
    rw [pm_ix, pm_cl (by omega), d w hw]
    exact hp
  · refine ⟨v, nm_r (e' := nI k) (by rw [e, g]) ⟨v, nm_r (e' := 2) (by rw [e, h]) (br_f (by decide) (br_f (by decide) (br_f (by decide) (br_t rfl ⟨vp_in_nI hk (by decide), ?_⟩))))⟩⟩
    rw [pm_cl (show k < 4096 by omega)]
    exact pk_le n w (fun z => ⟨vp_in_nI hk (by decide), by rw [(d w hw).2 z]; exact hp⟩) (fun z => ⟨vp_in_nI hk (by decide), by rw [(d w hw).1 z]; exact hp⟩) r
  · refine ⟨v, nm_r (e' := nI k) (by rw [e, g]) ⟨v, nm_r (e' := 3) (by rw [e, h]) (br_f (by decide) (br_f (by decide) (br_f (by decide) (br_f (by decide) (br_t rfl ⟨pk_in (k * 4 + w) 96 (by omega) (pm_ix k w), ?_⟩)))))⟩⟩
    rw [pm_ix, pm_cl (by omega), d w hw]
    exact hp
theorem pm_shr (h : pm_pg T F a1 a2 a5 a6 a7 a8 a9 a10 a11 D x) (h' : pm_pg T F a1 a2 a5 a6 a7 a8 a9 a10 a11 E y) (hF : F ≤ 16) (h1 : a1 x = 1) (h2 : a1 y = 1) (e : a2 x = a2 y) : ∀ w, w < 4 → D w = E w := by
  rcases h with ⟨q, _⟩ | ⟨_, _, f, hf, g, d⟩ | ⟨q, _⟩ | ⟨q, _⟩
  · rw [h1] at q; exact absurd q (by decide)
  · rcases h' with ⟨q, _⟩ | ⟨_, _, f', hf', g', d'⟩ | ⟨q, _⟩ | ⟨q, _⟩
    · rw [h2] at q; exact absurd q (by decide)
    · rw [g, g'] at e
      have ee := pm_nn e (by omega) (by omega)
      subst ee
      exact fun w hw => (d w hw).symm.trans (d' w hw)
    · rw [h2] at q; exact absurd q (by decide)
    · rw [h2] at q; exact absurd q (by decide)
  · rw [h1] at q; exact absurd q (by decide)
  · rw [h1] at q; exact absurd q (by decide)
theorem pm_eq39 (px : pm_pg T F a1 a2 a5 a6 a7 a8 a9 a10 a11 D x) (py : pm_pg T F a1 a2 a5 a6 a7 a8 a9 a10 a11 E y) (hF : F ≤ 16) (hx : x < 24) (hy : y < 24) (h1 : (∀ w, w < 4 → D w = E w) → post 1) (h0 : ¬ (∀ w, w < 4 → D w = E w) → post 0) :
    ∃ n, wX_equalPages_39 post (nI x) (nI y) f0 f1 f2 a1 a2 a3 a4 a5 a6 a7 a8 a9 a10 a11 n 0 :=
  pk_loop (σ := Unit) (fun n i _ => wX_equalPages_39 post (nI x) (nI y) f0 f1 f2 a1 a2 a3 a4 a5 a6 a7 a8 a9 a10 a11 n (nI i)) (fun i _ => ∀ j, j < i → D j = E j) 4 0 () (by omega) (fun j hj => absurd hj (by omega))
    (fun n _ h => pk_le 4 4 (fun _ => h1 h) (fun z => absurd z (by omega)))
    (fun n i _ hi h hw => pk_le 4 i (fun z => absurd z (by omega)) (fun _ => pm_peek px hF hx hi (pm_peek py hF hy hi (br_c (fun e => nm_r (nI_1 i) (hw () (lt_s h e))) (fun e => h0 (fun z => e (z i hi)))))))
theorem pm_eqp (h : pm_I T F e6 e10 C a1 a2 a4 a5 a6 a7 a8 a9 a10 a11) (hF : F ≤ 16) (hx : x < 24) (hy : y < 24) (h1 : (∀ w, w < 4 → C x w = C y w) → post 1) (h0 : ¬ (∀ w, w < 4 → C x w = C y w) → post 0) : wpX_equalPages post (f0, f1, f2, a1, a2, a3, a4, a5, a6, a7, a8, a9, a10, a11) (nI x) (nI y) := by
  have ex : (nI x).toNatClampNeg = x := pm_cl (by omega)
  have ey : (nI y).toNatClampNeg = y := pm_cl (by omega)
  have vx : vp_in (nI x) 24 := vp_in_nI hx (by decide)
  have vy : vp_in (nI y) 24 := vp_in_nI hy (by decide)
  have L : ∃ n, wX_equalPages_39 post (nI x) (nI y) f0 f1 f2 a1 a2 a3 a4 a5 a6 a7 a8 a9 a10 a11 n 0 := pm_eq39 (h.1 x hx) (h.1 y hy) hF hx hy h1 h0
  refine ⟨vx, br_c (fun q => ⟨vy, br_c (fun q' => ⟨vx, vy, br_c (fun e => h1 ?_) (fun _ => L)⟩) (fun _ => L)⟩) (fun _ => L)⟩
  rw [ex] at q e
  rw [ey] at q' e
  exact pm_shr (h.1 x hx) (h.1 y hy) hF q q' e
/-- an earlier page of the same content is held -/
def pm_rp (a1 : Nat → Int32) (C : Nat → Nat → Int32) (p : Nat) : Prop := ∃ q, q < p ∧ a1 q ≠ 0 ∧ ∀ w, w < 4 → C q w = C p w
theorem pm_rep (h : pm_I T F e6 e10 C a1 a2 a4 a5 a6 a7 a8 a9 a10 a11) (hF : F ≤ 16) (hx : x < 24) (h1 : pm_rp a1 C x → post 1) (h0 : ¬ pm_rp a1 C x → post 0) : wpX_repeats post (f0, f1, f2, a1, a2, a3, a4, a5, a6, a7, a8, a9, a10, a11) (nI x) :=
  pk_loop (σ := Unit) (fun n i _ => wX_repeats_2 post (nI x) f0 f1 f2 a1 a2 a3 a4 a5 a6 a7 a8 a9 a10 a11 n (nI i)) (fun i _ => ∀ q, q < i → ¬ (a1 q ≠ 0 ∧ ∀ w, w < 4 → C q w = C x w)) x 0 () (by omega) (fun j hj => absurd hj (by omega))
    (fun n _ I => pk_le x x (fun _ => h0 (fun ⟨q, hq, z⟩ => I q hq z)) (fun z => absurd z (by omega)))
    (fun n i _ hi I hw => pk_le x i (fun z => absurd z (by omega)) (fun _ => ⟨vp_in_nI (by omega) (by decide), br_c
      (fun e => nm_r (nI_1 i) (hw () (lt_s I (fun z => z.1 (by rw [pm_cl (by omega)] at e; exact e)))))
      (fun e => pm_eqp h hF (by omega) hx (fun z => br_f (by decide) (h1 ⟨i, hi, by rw [pm_cl (by omega)] at e; exact e, z⟩)) (fun z => br_t rfl (nm_r (nI_1 i) (hw () (lt_s I (fun t => z t.2))))))⟩))
theorem pm_cont (h : pm_I T F e6 e10 C a1 a2 a4 a5 a6 a7 a8 a9 a10 a11) (hF : F ≤ 16) (hp : post (nI (pm_cn (fun p => a1 p ≠ 0 ∧ ¬ pm_rp a1 C p) 24))) : wpX_contents post (f0, f1, f2, a1, a2, a3, a4, a5, a6, a7, a8, a9, a10, a11) := by
  refine pk_loop (σ := Unit) (fun n i _ => wX_contents_4 post f0 f1 f2 a1 a2 a3 a4 a5 a6 a7 a8 a9 a10 a11 n (nI (pm_cn (fun p => a1 p ≠ 0 ∧ ¬ pm_rp a1 C p) i)) (nI i)) (fun _ _ => True) 24 0 () (by omega) trivial
    (fun n _ _ => pk_le 24 24 (fun _ => hp) (fun z => absurd z (by omega))) (fun n i _ hi _ hw => ?_)
  have t : wX_contents_4 post f0 f1 f2 a1 a2 a3 a4 a5 a6 a7 a8 a9 a10 a11 n (nI (pm_cn (fun p => a1 p ≠ 0 ∧ ¬ pm_rp a1 C p) (i + 1))) (nI (i + 1)) := hw () trivial
  have ei : (nI i).toNatClampNeg = i := pm_cl (by omega)
  refine pk_le 24 i (fun z => absurd z (by omega)) (fun _ => ⟨vp_in_nI hi (by decide), br_c (fun e => nm_r (nI_1 i) ?_) (fun e => pm_rep h hF hi (fun z => br_f (by decide) (nm_r (nI_1 i) ?_)) (fun z => br_t rfl (nm_r (nI_1 _) (nm_r (nI_1 i) ?_))))⟩)
  · rw [ei] at e
    rw [pm_cnF (P := fun p => a1 p ≠ 0 ∧ ¬ pm_rp a1 C p) (fun z => z.1 e)] at t
    exact t
  · rw [pm_cnF (P := fun p => a1 p ≠ 0 ∧ ¬ pm_rp a1 C p) (fun q => q.2 z)] at t
    exact t
  · rw [ei] at e
    rw [pm_cnT (P := fun p => a1 p ≠ 0 ∧ ¬ pm_rp a1 C p) ⟨e, z⟩] at t
    exact t
theorem pm_dup (h : pm_I T F e6 e10 C a1 a2 a4 a5 a6 a7 a8 a9 a10 a11) (hF : F ≤ 16) (hp : post (nI (pm_cn (fun p => a1 p ≠ 0 ∧ pm_rp a1 C p) 24))) : wpX_duplicates post (f0, f1, f2, a1, a2, a3, a4, a5, a6, a7, a8, a9, a10, a11) := by
  refine pk_loop (σ := Unit) (fun n i _ => wX_duplicates_4 post f0 f1 f2 a1 a2 a3 a4 a5 a6 a7 a8 a9 a10 a11 n (nI (pm_cn (fun p => a1 p ≠ 0 ∧ pm_rp a1 C p) i)) (nI i)) (fun _ _ => True) 24 0 () (by omega) trivial
    (fun n _ _ => pk_le 24 24 (fun _ => hp) (fun z => absurd z (by omega))) (fun n i _ hi _ hw => ?_)
  have t : wX_duplicates_4 post f0 f1 f2 a1 a2 a3 a4 a5 a6 a7 a8 a9 a10 a11 n (nI (pm_cn (fun p => a1 p ≠ 0 ∧ pm_rp a1 C p) (i + 1))) (nI (i + 1)) := hw () trivial
  have ei : (nI i).toNatClampNeg = i := pm_cl (by omega)
  refine pk_le 24 i (fun z => absurd z (by omega)) (fun _ => ⟨vp_in_nI hi (by decide), br_c (fun e => nm_r (nI_1 i) ?_) (fun e => pm_rep h hF hi (fun z => br_f (by decide) (nm_r (nI_1 _) (nm_r (nI_1 i) ?_))) (fun z => br_t rfl (nm_r (nI_1 i) ?_)))⟩)
  · rw [ei] at e
    rw [pm_cnF (P := fun p => a1 p ≠ 0 ∧ pm_rp a1 C p) (fun z => z.1 e)] at t
    exact t
  · rw [ei] at e
    rw [pm_cnT (P := fun p => a1 p ≠ 0 ∧ pm_rp a1 C p) ⟨e, z⟩] at t
    exact t
  · rw [pm_cnF (P := fun p => a1 p ≠ 0 ∧ pm_rp a1 C p) (fun q => z q.2)] at t
    exact t
/-- what runsOf answers -/
def pm_run (D : Nat → Int32) (r : Nat) : Prop := r ≤ 4 ∧ (1 ≤ r → ∀ w, w < 4 → (w < r → D 0 = D w) ∧ (r ≤ w → D r = D w)) ∧ (r = 4 ↔ ∀ w, w < 4 → D w = D 0)
theorem pm_run35 (px : pm_pg T F a1 a2 a5 a6 a7 a8 a9 a10 a11 D x) (hF : F ≤ 16) (hx : x < 24) {i : Nat} (hi : i < 4) (h1 : (∀ w, i < w → w < 4 → D w = D i) → post (nI i)) (h0 : post (nI 0)) :
    ∃ n, wX_runsOf_35 post (nI x) (nI i) f0 f1 f2 a1 a2 a3 a4 a5 a6 a7 a8 a9 a10 a11 n (nI (i + 1)) :=
  pk_loop (σ := Unit) (fun n j _ => wX_runsOf_35 post (nI x) (nI i) f0 f1 f2 a1 a2 a3 a4 a5 a6 a7 a8 a9 a10 a11 n (nI j)) (fun j _ => ∀ w, i < w → w < j → D w = D i) 4 (i + 1) () (by omega) (fun w h h' => absurd h' (by omega))
    (fun n _ h => pk_le 4 4 (fun _ => h1 h) (fun z => absurd z (by omega)))
    (fun n j _ hj h hw => pk_le 4 j (fun z => absurd z (by omega)) (fun _ => pm_peek px hF hx hj (pm_peek px hF hx hi (br_c (fun e => nm_r (nI_1 j) (hw () (fun w q q' => by
      by_cases ew : w = j
      · rw [ew]; exact e
      · exact h w q (by omega)))) (fun e => h0)))))
theorem pm_runs (px : pm_pg T F a1 a2 a5 a6 a7 a8 a9 a10 a11 D x) (hF : F ≤ 16) (hx : x < 24) (hp : ∀ r, pm_run D r → post (nI r)) : wpX_runsOf post (f0, f1, f2, a1, a2, a3, a4, a5, a6, a7, a8, a9, a10, a11) (nI x) := by
  unfold wpX_runsOf
  refine pm_peek (w := 0) px hF hx (by omega) ?_
  refine pk_loop (σ := Unit) (fun n i _ => wX_runsOf_9 post (nI x) (D 0) f0 f1 f2 a1 a2 a3 a4 a5 a6 a7 a8 a9 a10 a11 n (nI i)) (fun i _ => 1 ≤ i ∧ ∀ j, j < i → D j = D 0) 4 1 () (by omega) ⟨by omega, fun j hj => by rw [show j = 0 by omega]⟩
    (fun n _ h => pk_le 4 4 (fun _ => nm_r (nI_1 4) ⟨1, pk_le 4 5 (fun _ => hp 4 ⟨by omega, fun _ w hw => ⟨fun _ => (h.2 w hw).symm, fun z => absurd z (by omega)⟩, ⟨fun _ => h.2, fun _ => rfl⟩⟩) (fun z => absurd z (by omega))⟩) (fun z => absurd z (by omega)))
    (fun n i _ hi h hw => pk_le 4 i (fun z => absurd z (by omega)) (fun _ => pm_peek px hF hx hi (br_c (fun e => nm_r (nI_1 i) (hw () ⟨by omega, lt_s h.2 e⟩)) (fun e => nm_r (nI_1 i) (pm_run35 px hF hx hi (fun z => hp i ⟨by omega, fun _ w hw => ⟨fun q => (h.2 w q).symm, fun q => ?_⟩, ⟨fun q => absurd q (by omega), fun q => absurd (q i hi) e⟩⟩) (hp 0 ⟨by omega, fun q => absurd q (by omega), ⟨fun q => absurd q (by omega), fun q => absurd (q i hi) e⟩⟩))))))
  by_cases ew : w = i
  · rw [ew]
  · exact (z w (by omega) hw).symm
theorem pm_plain (h : pm_I T F e6 e10 C a1 a2 a4 a5 a6 a7 a8 a9 a10 a11) (hF : F ≤ 16) (hp : post (nI (pm_cn (fun p => a1 p ≠ 0 ∧ ∀ w, w < 4 → C p w = C p 0) 24))) : wpX_plain post (f0, f1, f2, a1, a2, a3, a4, a5, a6, a7, a8, a9, a10, a11) := by
  refine pk_loop (σ := Unit) (fun n i _ => wX_plain_4 post f0 f1 f2 a1 a2 a3 a4 a5 a6 a7 a8 a9 a10 a11 n (nI (pm_cn (fun p => a1 p ≠ 0 ∧ ∀ w, w < 4 → C p w = C p 0) i)) (nI i)) (fun _ _ => True) 24 0 () (by omega) trivial
    (fun n _ _ => pk_le 24 24 (fun _ => hp) (fun z => absurd z (by omega))) (fun n i _ hi _ hw => ?_)
  have t : wX_plain_4 post f0 f1 f2 a1 a2 a3 a4 a5 a6 a7 a8 a9 a10 a11 n (nI (pm_cn (fun p => a1 p ≠ 0 ∧ ∀ w, w < 4 → C p w = C p 0) (i + 1))) (nI (i + 1)) := hw () trivial
  have ei : (nI i).toNatClampNeg = i := pm_cl (by omega)
  refine pk_le 24 i (fun z => absurd z (by omega)) (fun _ => ⟨vp_in_nI hi (by decide), br_c (fun e => nm_r (nI_1 i) ?_) (fun e => pm_runs (h.1 i hi) hF hi (fun r hr => ?_))⟩)
  · rw [ei] at e
    rw [pm_cnF (P := fun p => a1 p ≠ 0 ∧ ∀ w, w < 4 → C p w = C p 0) (fun z => z.1 e)] at t
    exact t
  · have hr4 := hr.1
    refine pk_eq r 4 (fun z => nm_r (nI_1 _) (nm_r (nI_1 i) ?_)) (fun z => nm_r (nI_1 i) ?_)
    · rw [ei] at e
      rw [pm_cnT (P := fun p => a1 p ≠ 0 ∧ ∀ w, w < 4 → C p w = C p 0) ⟨e, hr.2.2.mp z⟩] at t
      exact t
    · rw [pm_cnF (P := fun p => a1 p ≠ 0 ∧ ∀ w, w < 4 → C p w = C p 0) (fun q => z (hr.2.2.mpr q.2))] at t
      exact t
/-- sums -/
def pm_sm (s : Int32) (D : Nat → Int32) : Nat → Int32
  | 0 => s
  | n + 1 => pm_sm s D n + D n
def pm_tot (C : Nat → Nat → Int32) (lo : Nat) : Nat → Int32
  | 0 => 0
  | k + 1 => pm_sm (pm_tot C lo k) (C (lo + k)) 4
theorem pm_sum32 {J : Int32 → Int32 → Prop} {g s : Int32} (px : pm_pg T F a1 a2 a5 a6 a7 a8 a9 a10 a11 D x) (hF : F ≤ 16) (hx : x < 24) (hJ : J (pm_sm s D 4) (nI (x + 1))) : ∃ n, wX_sum_32 post J g (nI x) f0 f1 f2 a1 a2 a3 a4 a5 a6 a7 a8 a9 a10 a11 n s 0 :=
  pk_loop (σ := Unit) (fun n i _ => wX_sum_32 post J g (nI x) f0 f1 f2 a1 a2 a3 a4 a5 a6 a7 a8 a9 a10 a11 n (pm_sm s D i) (nI i)) (fun _ _ => True) 4 0 () (by omega) trivial
    (fun n _ _ => pk_le 4 4 (fun _ => nm_r (nI_1 x) hJ) (fun z => absurd z (by omega)))
    (fun n i _ hi _ hw => pk_le 4 i (fun z => absurd z (by omega)) (fun _ => pm_peek px hF hx hi (nm_r (e' := pm_sm s D (i + 1)) rfl (nm_r (nI_1 i) (hw () trivial)))))
theorem pm_ix8 (g : Nat) : nI g * 8 = nI (g * 8) := by
  rw [show (8 : Int32) = nI 8 from rfl, pk_mul]
theorem pm_ix88 (g : Nat) : nI g * 8 + 8 = nI (g * 8 + 8) := by
  rw [pm_ix8, show (8 : Int32) = nI 8 from rfl, nI_add]
theorem pm_sum (h : pm_I T F e6 e10 C a1 a2 a4 a5 a6 a7 a8 a9 a10 a11) (hF : F ≤ 16) {g : Nat} (hg : g < 3) (hp : post (pm_tot C (g * 8) 8)) : wpX_sum post (f0, f1, f2, a1, a2, a3, a4, a5, a6, a7, a8, a9, a10, a11) (nI g) := by
  refine br_f (nI_pos (by omega)) (br_t (nI_le (b := 2) (by omega) (by decide)) (nm_r (e' := nI (g * 8 + 0)) (by rw [pm_ix8]; rfl) ?_))
  refine pk_loop (σ := Unit) (fun n k _ => wX_sum_18 post (nI g) f0 f1 f2 a1 a2 a3 a4 a5 a6 a7 a8 a9 a10 a11 n (pm_tot C (g * 8) k) (nI (g * 8 + k))) (fun _ _ => True) 8 0 () (by omega) trivial
    (fun n _ _ => pk_le (g * 8 + 8) (g * 8 + 8) (fun _ => hp) (fun z => absurd z (by omega)) (pm_ix88 g))
    (fun n k _ hk _ hw => pk_le (g * 8 + 8) (g * 8 + k) (fun z => absurd z (by omega)) (fun _ => pm_sum32 (h.1 (g * 8 + k) (by omega)) hF (by omega) (hw () trivial)) (pm_ix88 g))
end LOOK
end
section
/-! letGo, squeeze, putAside, evict, hashOf, equalFrames, merge, scan -/
def pm_z (C : Nat → Nat → Int32) (x : Nat) : Nat → Nat → Int32 := fun y w => if y = x then 0 else C y w
theorem pm_zx {C : Nat → Nat → Int32} {x w : Nat} : pm_z C x x w = 0 := if_pos rfl
theorem pm_zn {C : Nat → Nat → Int32} {x y w : Nat} (h : y ≠ x) : pm_z C x y w = C y w := if_neg h
theorem pm_uu {a : Nat → Int32} {x : Nat} {u v : Int32} (h : a x = v) : upd (upd a x u) x v = a := by
  funext y
  by_cases e : y = x
  · subst e; rw [pk_us, h]
  · rw [pk_un e, pk_un e]
theorem pm_vx {x : Nat} (hx : x < 24) : vp_in (nI x) 24 := vp_in_nI hx (by decide)
theorem pm_vf {x : Nat} (hx : x < 16) : vp_in (nI x) 16 := vp_in_nI hx (by decide)
section MOVE
variable {post : St2 → Prop} {T : Nat → Prop} {F e6 e10 : Nat} {C : Nat → Nat → Int32} {D : Nat → Int32} {f0 f1 f2 : Int32} {a1 a2 a3 a4 a5 a6 a7 a8 a9 a10 a11 : Nat → Int32} {x : Nat}
theorem pm_frm (h : pm_pg T F a1 a2 a5 a6 a7 a8 a9 a10 a11 D x) (h1 : a1 x = 1) : T x ∧ ∃ f, f < F ∧ a2 x = nI f ∧ ∀ w, w < 4 → a5 (f * 4 + w) = D w := by
  rcases h with ⟨q, _⟩ | ⟨_, t⟩ | ⟨q, _⟩ | ⟨q, _⟩
  · rw [h1] at q; exact absurd q (by decide)
  · exact t
  · rw [h1] at q; exact absurd q (by decide)
  · rw [h1] at q; exact absurd q (by decide)
theorem pm_letGo (h : pm_I T F e6 e10 C a1 a2 a4 a5 a6 a7 a8 a9 a10 a11) (hF : F ≤ 16) (hx : x < 24)
    (H : ∀ b4 b6 b10, pm_I T F e6 e10 (pm_z C x) (upd a1 x 0) a2 b4 a5 b6 a7 a8 a9 b10 a11 → (a1 x = 1 → b6 = a6 ∧ b10 = a10) → (a1 x ≠ 1 → b4 = a4) → post (f0, f1, f2, upd a1 x 0, a2, a3, b4, a5, b6, a7, a8, a9, b10, a11)) :
    wpX_letGo post (f0, f1, f2, a1, a2, a3, a4, a5, a6, a7, a8, a9, a10, a11) (nI x) := by
  have e : (nI x).toNatClampNeg = x := pm_cl (by omega)
  have v : vp_in (nI x) 24 := pm_vx hx
  have eu : upd a1 (nI x).toNatClampNeg 0 = upd a1 x 0 := by rw [e]
  have zC : ∀ y, y < 24 → y ≠ x → ∀ w, w < 4 → pm_z C x y w = C y w := fun y _ ne w _ => pm_zn ne
  have zD : ∀ w, w < 4 → pm_z C x x w = 0 := fun w _ => pm_zx
  rcases h.1 x hx with ⟨q, d⟩ | ⟨q, t, f, hf, g, d⟩ | ⟨q, k, hk, g, u, _⟩ | ⟨q, k, hk, g, u, _⟩
  · have q1 : ¬ a1 (nI x).toNatClampNeg = 1 := by rw [e, q]; decide
    have q2 : ¬ a1 (nI x).toNatClampNeg = 2 := by rw [e, q]; decide
    have q3 : ¬ a1 (nI x).toNatClampNeg = 3 := by rw [e, q]; decide
    refine ⟨v, nm_e ⟨v, br_f q1 ⟨v, br_f q2 ⟨v, br_f q3 ⟨v, nm_r eu (H a4 a6 a10 ?_ (fun _ => ⟨rfl, rfl⟩) (fun _ => rfl))⟩⟩⟩⟩⟩
    refine pm_IC (pm_det0 h q) (fun y hy w hw => ?_)
    by_cases ey : y = x
    · subst ey
      rw [pm_zx, d w hw]
    · exact pm_zn ey
  · have q1 : a1 (nI x).toNatClampNeg = 1 := by rw [e, q]
    have q2 : ¬ a1 (nI x).toNatClampNeg = 2 := by rw [e, q]; decide
    have q3 : ¬ a1 (nI x).toNatClampNeg = 3 := by rw [e, q]; decide
    have vf : vp_in (nI f) 16 := pm_vf (by omega)
    exact ⟨v, nm_r (e' := nI f) (by rw [e, g]) ⟨v, br_t q1 ⟨vf, vf, nm_r (e' := upd a4 f (a4 f - 1)) (by rw [pm_cl (by omega)]) ⟨v, br_f q2 ⟨v, br_f q3 ⟨v, nm_r eu (H _ a6 a10 (pm_det1 h hx (by omega) q g zC zD) (fun _ => ⟨rfl, rfl⟩) (fun z => absurd q z))⟩⟩⟩⟩⟩⟩
  · have q1 : ¬ a1 (nI x).toNatClampNeg = 1 := by rw [e, q]; decide
    have q2 : a1 (nI x).toNatClampNeg = 2 := by rw [e, q]
    have q3 : ¬ a1 (nI x).toNatClampNeg = 3 := by rw [e, q]; decide
    exact ⟨v, nm_r (e' := nI k) (by rw [e, g]) ⟨v, br_f q1 ⟨v, br_t q2 ⟨pm_vx hk, nm_r (e' := upd a6 k 0) (by rw [pm_cl (by omega)]) ⟨v, br_f q3 ⟨v, nm_r eu (H a4 _ a10 (pm_det2 h hx hk q g zC zD) (fun z => absurd (q.symm.trans z) (by decide)) (fun _ => rfl))⟩⟩⟩⟩⟩⟩
  · have q1 : ¬ a1 (nI x).toNatClampNeg = 1 := by rw [e, q]; decide
    have q2 : ¬ a1 (nI x).toNatClampNeg = 2 := by rw [e, q]; decide
    have q3 : a1 (nI x).toNatClampNeg = 3 := by rw [e, q]
    exact ⟨v, nm_r (e' := nI k) (by rw [e, g]) ⟨v, br_f q1 ⟨v, br_f q2 ⟨v, br_t q3 ⟨pm_vx hk, nm_r (e' := upd a10 k 0) (by rw [pm_cl (by omega)]) ⟨v, nm_r eu (H a4 a6 _ (pm_det3 h hx hk q g zC zD) (fun z => absurd (q.symm.trans z) (by decide)) (fun _ => rfl))⟩⟩⟩⟩⟩⟩
/-- after a page has left and come back in another form, the same pages are gone -/
theorem pm_gn {c : Int32} (h1 : a1 x ≠ 0) (hc : c ≠ 0) : ∀ y, y < 24 → (upd (upd a1 x 0) x c y = 0 ↔ a1 y = 0) := by
  intro y _
  by_cases e : y = x
  · subst e
    rw [pk_us]
    exact ⟨fun z => absurd z hc, fun z => absurd z h1⟩
  · rw [pk_un e, pk_un e]
theorem pm_sq69 {r n : Nat} {v0 v1 : Int32} (h : pm_I T F e6 e10 C a1 a2 a4 a5 a6 a7 a8 a9 a10 a11) (hF : F ≤ 16) (hx : x < 24) (h1 : a1 x = 1) (hr : r < 24) (h0 : a6 r = 0) (hn : n ≤ 4) (hD : ∀ w, w < 4 → (w < n → v0 = C x w) ∧ (n ≤ w → v1 = C x w))
    (H : ∀ b4, pm_I T F e6 e10 C (upd (upd a1 x 0) x 2) (upd a2 x (nI r)) b4 a5 (upd a6 r 1) (upd a7 r (nI n)) (upd a8 r v0) (upd a9 r v1) a10 a11 → post (f0, f1, f2, upd (upd a1 x 0) x 2, upd a2 x (nI r), a3, b4, a5, upd a6 r 1, upd a7 r (nI n), upd a8 r v0, upd a9 r v1, a10, a11)) :
    wX_squeeze_69 post (nI x) (nI r) v1 (nI r) f0 f1 f2 a1 a2 a3 a4 a5 (upd a6 r 1) (upd a7 r (nI n)) (upd a8 r v0) a9 a10 a11 := by
  have e : (nI x).toNatClampNeg = x := pm_cl (by omega)
  have v : vp_in (nI x) 24 := pm_vx hx
  refine ⟨pm_vx hr, nm_r (e' := upd a9 r v1) (by rw [pm_cl (by omega)]) (pm_letGo (pm_rec h hr h0 (nI n) v0 v1) hF hx (fun b4 b6 b10 hI k1 _ => ?_))⟩
  obtain ⟨k6, k10⟩ := k1 h1
  subst k6 k10
  refine ⟨v, nm_r (e' := upd (upd a1 x 0) x 2) (by rw [e]) ⟨v, nm_r (e' := upd a2 x (nI r)) (by rw [e]) (H b4 ?_)⟩⟩
  refine pm_att2 (n := n) hI hx hr pk_us (fun y hy q => ?_) (by rw [pk_us]; decide) hn pk_us (fun y _ ne w _ => (pm_zn ne).symm) (fun w hw => ⟨fun z => pk_us.trans ((hD w hw).1 z), fun z => pk_us.trans ((hD w hw).2 z)⟩)
  by_cases ey : y = x
  · subst ey
    rw [pk_us] at q
    exact absurd q (by decide)
  · rw [pk_un ey] at q
    exact pm_un6 h hr h0 y hy q
theorem pm_squeeze {n : Nat} (h : pm_I T F 0 0 C a1 a2 a4 a5 a6 a7 a8 a9 a10 a11) (hF : F ≤ 16) (hx : x < 24) (h1 : a1 x = 1) (hn : 1 ≤ n) (hr : pm_run (C x) n)
    (H : ∀ b1 b2 b4 b6 b7 b8 b9, pm_I T F 0 0 C b1 b2 b4 a5 b6 b7 b8 b9 a10 a11 → (∀ y, y < 24 → (b1 y = 0 ↔ a1 y = 0)) → post (f0, f1, f2, b1, b2, a3, b4, a5, b6, b7, b8, b9, a10, a11)) :
    wpX_squeeze post (f0, f1, f2, a1, a2, a3, a4, a5, a6, a7, a8, a9, a10, a11) (nI x) (nI n) := by
  have hn4 := hr.1
  have p1 := h.1 x hx
  obtain ⟨hT, f, hf, g, d⟩ := pm_frm p1 h1
  have hD := hr.2.1 hn
  have free : ∃ r, r < 24 ∧ a6 r = 0 := by
    have t := pm_cnLt (P := fun y => a1 y = 2) hx (by rw [h1]; decide)
    have t2 := h.2.2.2.1
    obtain ⟨r, hr, q⟩ := pm_cnFree (P := fun k => a6 k ≠ 0) (n := 24) (by omega)
    exact ⟨r, hr, Classical.byContradiction q⟩
  obtain ⟨r, ⟨r24, r0⟩, rl⟩ := pk_least (fun r => r < 24 ∧ a6 r = 0) free
  have er : (nI r).toNatClampNeg = r := pm_cl (by omega)
  have vr : vp_in (nI r) 24 := pm_vx r24
  have gn : ∀ y, y < 24 → (upd (upd a1 x 0) x 2 y = 0 ↔ a1 y = 0) := pm_gn (by rw [h1]; decide) (by decide)
  have body : wX_squeeze_23 post (nI x) (nI n) (nI r) f0 f1 f2 a1 a2 a3 a4 a5 a6 a7 a8 a9 a10 a11 := by
    refine ⟨vr, nm_r (e' := upd a6 r 1) (by rw [er]) ⟨vr, nm_r (e' := upd a7 r (nI n)) (by rw [er]) ?_⟩⟩
    refine pm_peek (T := T) (F := F) (D := C x) (w := 0) (Or.inr (Or.inl ⟨h1, hT, f, hf, g, d⟩)) hF hx (by omega) ⟨vr, nm_r (e' := upd a8 r (C x 0)) (by rw [er]) ?_⟩
    refine pk_le 4 n (fun z => ?_) (fun z => ?_)
    · exact pm_sq69 h hF hx h1 r24 r0 hn4 (fun w hw => ⟨fun q => (hD w hw).1 q, fun q => absurd q (by omega)⟩) (fun b4 hI => H _ _ _ _ _ _ _ hI gn)
    · refine pm_peek (T := T) (F := F) (D := C x) (w := n) (Or.inr (Or.inl ⟨h1, hT, f, hf, g, d⟩)) hF hx z ?_
      exact pm_sq69 h hF hx h1 r24 r0 hn4 (fun w hw => hD w hw) (fun b4 hI => H _ _ _ _ _ _ _ hI gn)
  refine pk_loop (σ := Unit) (fun n' i _ => wX_squeeze_2 post (nI x) (nI n) f0 f1 f2 a1 a2 a3 a4 a5 a6 a7 a8 a9 a10 a11 n' (nI i)) (fun _ _ => True) r 0 () (by omega) trivial
    (fun _ _ _ => pk_le 23 r (fun _ => body) (fun _ => ⟨vr, br_t (by rw [er]; exact r0) body⟩))
    (fun _ i _ hi _ hw => pk_le 23 i (fun z => absurd z (by omega)) (fun _ => ⟨pm_vx (by omega), br_f ?_ (nm_r (nI_1 i) (hw () trivial))⟩))
  rw [pm_cl (by omega)]
  exact fun z => rl i hi ⟨by omega, z⟩
theorem pm_blk {b s : Nat → Int32} {k i : Nat} {u : Int32} (hi : i < 4) (h : ∀ g w, g ≠ k → w < 4 → s (g * 4 + w) = b (g * 4 + w)) : ∀ g w, g ≠ k → w < 4 → upd s (k * 4 + i) u (g * 4 + w) = b (g * 4 + w) := by
  intro g w ne hw
  rw [pk_un (by omega)]
  exact h g w ne hw
theorem pm_bli {s : Nat → Int32} {k i : Nat} {D : Nat → Int32} (h : ∀ w, w < i → s (k * 4 + w) = D w) : ∀ w, w < i + 1 → upd s (k * 4 + i) (D i) (k * 4 + w) = D w := by
  intro w hw
  by_cases e : w = i
  · subst e
    rw [pk_us]
  · rw [pk_un (by omega)]
    exact h w (by omega)
theorem pm_putAside (h : pm_I T F 0 0 C a1 a2 a4 a5 a6 a7 a8 a9 a10 a11) (hF : F ≤ 16) (hx : x < 24) (h1 : a1 x = 1)
    (H : ∀ b1 b2 b4 b10 b11, pm_I T F 0 0 C b1 b2 b4 a5 a6 a7 a8 a9 b10 b11 → (∀ y, y < 24 → (b1 y = 0 ↔ a1 y = 0)) → post (f0, f1, f2, b1, b2, a3, b4, a5, a6, a7, a8, a9, b10, b11)) :
    wpX_putAside post (f0, f1, f2, a1, a2, a3, a4, a5, a6, a7, a8, a9, a10, a11) (nI x) := by
  have e : (nI x).toNatClampNeg = x := pm_cl (by omega)
  have v : vp_in (nI x) 24 := pm_vx hx
  have p1 := h.1 x hx
  obtain ⟨hT, f, hf, g, d⟩ := pm_frm p1 h1
  have free : ∃ r, r < 24 ∧ a10 r = 0 := by
    have t := pm_cnLt (P := fun y => a1 y = 3) hx (by rw [h1]; decide)
    have t2 := h.2.2.2.2
    obtain ⟨r, hr, q⟩ := pm_cnFree (P := fun k => a10 k ≠ 0) (n := 24) (by omega)
    exact ⟨r, hr, Classical.byContradiction q⟩
  obtain ⟨r, ⟨r24, r0⟩, rl⟩ := pk_least (fun r => r < 24 ∧ a10 r = 0) free
  have er : (nI r).toNatClampNeg = r := pm_cl (by omega)
  have vr : vp_in (nI r) 24 := pm_vx r24
  have body : ∃ n, wX_putAside_32 post (nI x) (nI r) f0 f1 f2 n 0 a1 a2 a3 a4 a5 a6 a7 a8 a9 (upd a10 r 1) a11 := by
    refine pk_loop (fun n i s => wX_putAside_32 post (nI x) (nI r) f0 f1 f2 n (nI i) a1 a2 a3 a4 a5 a6 a7 a8 a9 (upd a10 r 1) s) (fun i s => (∀ g w, g ≠ r → w < 4 → s (g * 4 + w) = a11 (g * 4 + w)) ∧ ∀ w, w < i → s (r * 4 + w) = C x w) 4 0 a11 (by omega) ⟨fun _ _ _ _ => rfl, fun w hw => absurd hw (by omega)⟩
      (fun n s hs => pk_le 4 4 (fun _ => pm_letGo (pm_asd h r24 r0 hs.1) hF hx (fun b4 b6 b10 hI k1 _ => ?_)) (fun z => absurd z (by omega)))
      (fun n i s hi hs hw => pk_le 4 i (fun z => absurd z (by omega)) (fun _ => pm_peek (T := T) (F := F) (D := C x) (Or.inr (Or.inl ⟨h1, hT, f, hf, g, d⟩)) hF hx hi ⟨pk_in (r * 4 + i) 96 (by omega) (pm_ix r i), nm_r (e' := upd s (r * 4 + i) (C x i)) (by rw [pm_ix, pm_cl (by omega)]) (nm_r (nI_1 i) (hw _ ⟨pm_blk hi hs.1, pm_bli hs.2⟩))⟩))
    obtain ⟨k6, k10⟩ := k1 h1
    subst k6 k10
    refine ⟨v, nm_r (e' := upd (upd a1 x 0) x 3) (by rw [e]) ⟨v, nm_r (e' := upd a2 x (nI r)) (by rw [e]) (H _ _ _ _ _ ?_ (pm_gn (by rw [h1]; decide) (by decide)))⟩⟩
    refine pm_att3 hI hx r24 pk_us (fun y hy q => ?_) (by rw [pk_us]; decide) (fun y _ ne w _ => (pm_zn ne).symm) hs.2
    by_cases ey : y = x
    · subst ey
      rw [pk_us] at q
      exact absurd q (by decide)
    · rw [pk_un ey] at q
      exact pm_un10 h r24 r0 y hy q
  refine pk_loop (σ := Unit) (fun n' i _ => wX_putAside_2 post (nI x) f0 f1 f2 a1 a2 a3 a4 a5 a6 a7 a8 a9 a10 a11 n' (nI i)) (fun _ _ => True) r 0 () (by omega) trivial
    (fun _ _ _ => pk_le 23 r (fun _ => ⟨vr, nm_r (e' := upd a10 r 1) (by rw [er]) body⟩) (fun _ => ⟨vr, br_t (by rw [er]; exact r0) ⟨vr, nm_r (e' := upd a10 r 1) (by rw [er]) body⟩⟩))
    (fun _ i _ hi _ hw => pk_le 23 i (fun z => absurd z (by omega)) (fun _ => ⟨pm_vx (by omega), br_f ?_ (nm_r (nI_1 i) (hw () trivial))⟩))
  rw [pm_cl (by omega)]
  exact fun z => rl i hi ⟨by omega, z⟩
theorem pm_evict (h : pm_I T F 0 0 C a1 a2 a4 a5 a6 a7 a8 a9 a10 a11) (hF : F ≤ 16) (hx : x < 24) (h1 : a1 x = 1)
    (H : ∀ b1 b2 b4 b6 b7 b8 b9 b10 b11, pm_I T F 0 0 C b1 b2 b4 a5 b6 b7 b8 b9 b10 b11 → (∀ y, y < 24 → (b1 y = 0 ↔ a1 y = 0)) → post (f0, f1, f2, b1, b2, a3, b4, a5, b6, b7, b8, b9, b10, b11)) :
    wpX_evict post (f0, f1, f2, a1, a2, a3, a4, a5, a6, a7, a8, a9, a10, a11) (nI x) := by
  unfold wpX_evict
  refine pm_runs (h.1 x hx) hF hx (fun r hr => ?_)
  have hr4 := hr.1
  exact pk_le r 0 (fun _ => pm_putAside h hF hx h1 (fun b1 b2 b4 b10 b11 hI q => H _ _ _ _ _ _ _ _ _ hI q)) (fun z => pm_squeeze h hF hx h1 z hr (fun b1 b2 b4 b6 b7 b8 b9 hI q => H _ _ _ _ _ _ _ _ _ hI q))
theorem pm_hash {pst : Int32 → Prop} {f : Nat} (hf : f < 16) (H : ∀ r, pst r) : wpX_hashOf pst (f0, f1, f2, a1, a2, a3, a4, a5, a6, a7, a8, a9, a10, a11) (nI f) :=
  pk_loop (σ := Int32) (fun n i s => wX_hashOf_5 pst (nI f) f0 f1 f2 a1 a2 a3 a4 a5 a6 a7 a8 a9 a10 a11 n s (nI i)) (fun _ _ => True) 4 0 7 (by omega) trivial
    (fun n s _ => pk_le 4 4 (fun _ => H s) (fun z => absurd z (by omega)))
    (fun n i s hi _ hw => pk_le 4 i (fun z => absurd z (by omega)) (fun _ => ⟨pk_in (f * 4 + i) 64 (by omega) (pm_ix f i), nm_r (nI_1 i) (hw _ trivial)⟩))
theorem pm_eqf {pst : Int32 → Prop} {f g : Nat} (hf : f < 16) (hg : g < 16) (h1 : (∀ w, w < 4 → a5 (f * 4 + w) = a5 (g * 4 + w)) → pst 1) (h0 : pst 0) : wpX_equalFrames pst (f0, f1, f2, a1, a2, a3, a4, a5, a6, a7, a8, a9, a10, a11) (nI f) (nI g) := by
  refine pk_loop (σ := Unit) (fun n i _ => wX_equalFrames_2 pst (nI f) (nI g) f0 f1 f2 a1 a2 a3 a4 a5 a6 a7 a8 a9 a10 a11 n (nI i)) (fun i _ => ∀ j, j < i → a5 (f * 4 + j) = a5 (g * 4 + j)) 4 0 () (by omega) (fun j hj => absurd hj (by omega))
    (fun n _ h => pk_le 4 4 (fun _ => h1 h) (fun z => absurd z (by omega)))
    (fun n i _ hi h hw => pk_le 4 i (fun z => absurd z (by omega)) (fun _ => ⟨pk_in (f * 4 + i) 64 (by omega) (pm_ix f i), pk_in (g * 4 + i) 64 (by omega) (pm_ix g i), ?_⟩))
  rw [pm_ix f i, pm_ix g i, pm_cl (show f * 4 + i < 4096 by omega), pm_cl (show g * 4 + i < 4096 by omega)]
  exact br_c (fun q => nm_r (nI_1 i) (hw () (lt_s h q))) (fun _ => h0)
theorem pm_m53 {J : Int32 → (Nat → Int32) → (Nat → Int32) → (Nat → Int32) → (Nat → Int32) → (Nat → Int32) → (Nat → Int32) → (Nat → Int32) → (Nat → Int32) → (Nat → Int32) → (Nat → Int32) → (Nat → Int32) → Prop} {o i : Nat} {hh z : Int32}
    (h : pm_I T F e6 e10 C a1 a2 a4 a5 a6 a7 a8 a9 a10 a11) (hF : F ≤ 16) (hx : x < 24) (h1 : a1 x = 1) (hi : i < F) (ho : o < F) (HJ : ∀ b2 b4, pm_I T F e6 e10 C a1 b2 b4 a5 a6 a7 a8 a9 a10 a11 → J (nI (i + 1)) a1 b2 a3 b4 a5 a6 a7 a8 a9 a10 a11) :
    wX_merge_53 post J (nI x) (nI o) hh (nI i) z f0 f1 f2 a1 a2 a3 a4 a5 a6 a7 a8 a9 a10 a11 := by
  have e : (nI x).toNatClampNeg = x := pm_cl (by omega)
  have eo : (nI o).toNatClampNeg = o := pm_cl (by omega)
  have ei : (nI i).toNatClampNeg = i := pm_cl (by omega)
  have vx : vp_in (nI x) 24 := pm_vx hx
  have vo : vp_in (nI o) 16 := pm_vf (by omega)
  have vi : vp_in (nI i) 16 := pm_vf (by omega)
  refine br_c (fun _ => ⟨vx, br_c (fun e2 => pm_eqf (by omega) (by omega) (fun q => br_f (by decide) ⟨vo, vo, nm_r (e' := upd a4 o (a4 o - 1)) (by rw [eo]) ⟨vi, vi, nm_r (e' := upd (upd a4 o (a4 o - 1)) i (upd a4 o (a4 o - 1) i + 1)) (by rw [ei]) ⟨vx, nm_r (e' := upd a2 x (nI i)) (by rw [e]) (nm_r (nI_1 i) (HJ _ _ ?_))⟩⟩⟩) (br_t rfl (nm_r (nI_1 i) (HJ a2 a4 h)))) (fun _ => nm_r (nI_1 i) (HJ a2 a4 h))⟩) (fun _ => nm_r (nI_1 i) (HJ a2 a4 h))
  rw [e] at e2
  obtain ⟨hT, f, hf, g, d⟩ := pm_frm (h.1 x hx) h1
  have ef : f = o := pm_nn (g.symm.trans e2) (by omega) (by omega)
  subst ef
  have t := pm_att1 (C' := C) (f := i) (pm_det1 (C' := pm_z C x) h hx (by omega) h1 g (fun y _ ne w _ => pm_zn ne) (fun w _ => pm_zx)) hF hx hT hi pk_us (fun y _ ne w _ => (pm_zn ne).symm) (fun w hw => (q w hw).symm.trans (d w hw))
  rw [pm_uu h1] at t
  exact t
theorem pm_merge (h : pm_I T F 0 0 C a1 a2 a4 a5 a6 a7 a8 a9 a10 a11) (hF : F ≤ 16) (hx : x < 24) (h1 : a1 x = 1) (H : ∀ b2 b4, pm_I T F 0 0 C a1 b2 b4 a5 a6 a7 a8 a9 a10 a11 → post (nI F, f1, f2, a1, b2, a3, b4, a5, a6, a7, a8, a9, a10, a11)) :
    wpX_merge post (nI F, f1, f2, a1, a2, a3, a4, a5, a6, a7, a8, a9, a10, a11) (nI x) := by
  obtain ⟨hT, o, ho, g, d⟩ := pm_frm (h.1 x hx) h1
  refine ⟨pm_vx hx, nm_r (e' := nI o) (by rw [pm_cl (by omega), g]) (pm_hash (by omega) (fun hh => ?_))⟩
  exact pk_loop (σ := (Nat → Int32) × (Nat → Int32)) (fun n i s => wX_merge_16 post (nI x) (nI o) hh (nI F) f1 f2 n (nI i) a1 s.1 a3 s.2 a5 a6 a7 a8 a9 a10 a11) (fun _ s => pm_I T F 0 0 C a1 s.1 s.2 a5 a6 a7 a8 a9 a10 a11) F 0 (a2, a4) (by omega) h
    (fun n s hs => pk_le F F (fun _ => H s.1 s.2 hs) (fun z => absurd z (by omega)))
    (fun n i s hi hs hw => pk_le F i (fun z => absurd z (by omega)) (fun _ => pk_eq i o (fun _ => pm_m53 hs hF hx h1 hi ho (fun b2 b4 hb => hw (b2, b4) hb)) (fun _ => ⟨pm_vf (by omega), br_c (fun _ => pm_m53 hs hF hx h1 hi ho (fun b2 b4 hb => hw (b2, b4) hb)) (fun _ => pm_hash (by omega) (fun r => pm_m53 hs hF hx h1 hi ho (fun b2 b4 hb => hw (b2, b4) hb)))⟩)))
end MOVE
/-- the whole state -/
def pm_K (T : Nat → Prop) (F : Nat) (C : Nat → Nat → Int32) (G : Nat → Prop) (u : St2) : Prop := match u with
  | (f0, f1, f2, a1, a2, a3, a4, a5, a6, a7, a8, a9, a10, a11) => 4 ≤ F ∧ F ≤ 16 ∧ f0 = nI F ∧ (∃ s, s < 24 ∧ f2 = nI s) ∧ pm_I T F 0 0 C a1 a2 a4 a5 a6 a7 a8 a9 a10 a11 ∧ ∀ x, x < 24 → (a1 x = 0 ↔ G x)
section SCAN
variable {post : St2 → Prop} {T G : Nat → Prop} {F : Nat} {C : Nat → Nat → Int32} {f0 f1 f2 : Int32} {a1 a2 a3 a4 a5 a6 a7 a8 a9 a10 a11 : Nat → Int32}
theorem pm_sc40 {J : Int32 → Int32 → Int32 → Int32 → (Nat → Int32) → (Nat → Int32) → (Nat → Int32) → (Nat → Int32) → (Nat → Int32) → (Nat → Int32) → (Nat → Int32) → (Nat → Int32) → (Nat → Int32) → (Nat → Int32) → (Nat → Int32) → Prop} {i s s' : Nat} {x1 : Int32}
    (h : pm_K T F C G (f0, f1, f2, a1, a2, a3, a4, a5, a6, a7, a8, a9, a10, a11)) (hs : s < 24) (hs' : s' < 24) (HJ : ∀ (f0_1 f1_1 f2_1 : Int32) (a1_1 a2_1 a3_1 a4_1 a5_1 a6_1 a7_1 a8_1 a9_1 a10_1 a11_1 : Nat → Int32), pm_K T F C G (f0_1, f1_1, f2_1, a1_1, a2_1, a3_1, a4_1, a5_1, a6_1, a7_1, a8_1, a9_1, a10_1, a11_1) → J (nI (i + 1)) f0_1 f1_1 f2_1 a1_1 a2_1 a3_1 a4_1 a5_1 a6_1 a7_1 a8_1 a9_1 a10_1 a11_1) : wX_scan_40 post J x1 (nI i) (nI s) (nI s') f0 f1 f2 a1 a2 a3 a4 a5 a6 a7 a8 a9 a10 a11 := by
  obtain ⟨F4, hF, rfl, _, hI, hG⟩ := h
  have e : (nI s).toNatClampNeg = s := pm_cl (by omega)
  have v : vp_in (nI s) 24 := pm_vx hs
  refine ⟨v, br_c (fun q => ?_) (fun _ => nm_r (nI_1 i) (HJ _ _ _ _ _ _ _ _ _ _ _ _ _ _ ⟨F4, hF, rfl, ⟨s', hs', rfl⟩, hI, hG⟩))⟩
  rw [e] at q
  refine pm_merge hI hF hs q (fun b2 b4 hb => ⟨v, br_c (fun _ => pm_evict hb hF hs q (fun c1 c2 c4 c6 c7 c8 c9 c10 c11 hc gc => ?_)) (fun _ => ?_)⟩)
  · exact ⟨v, nm_e (nm_r (nI_1 i) (HJ _ _ _ _ _ _ _ _ _ _ _ _ _ _ ⟨F4, hF, rfl, ⟨s', hs', rfl⟩, hc, fun x hx => (gc x hx).trans (hG x hx)⟩))⟩
  · exact ⟨v, nm_e (nm_r (nI_1 i) (HJ _ _ _ _ _ _ _ _ _ _ _ _ _ _ ⟨F4, hF, rfl, ⟨s', hs', rfl⟩, hb, hG⟩))⟩
theorem pm_scan {x1 : Int32} (h : pm_K T F C G (f0, f1, f2, a1, a2, a3, a4, a5, a6, a7, a8, a9, a10, a11)) (H : ∀ (f0_1 f1_1 f2_1 : Int32) (a1_1 a2_1 a3_1 a4_1 a5_1 a6_1 a7_1 a8_1 a9_1 a10_1 a11_1 : Nat → Int32), pm_K T F C G (f0_1, f1_1, f2_1, a1_1, a2_1, a3_1, a4_1, a5_1, a6_1, a7_1, a8_1, a9_1, a10_1, a11_1) → post (f0_1, f1_1, f2_1, a1_1, a2_1, a3_1, a4_1, a5_1, a6_1, a7_1, a8_1, a9_1, a10_1, a11_1)) : wpX_scan post (f0, f1, f2, a1, a2, a3, a4, a5, a6, a7, a8, a9, a10, a11) x1 := by
  refine pk_loop (σ := St2) (fun n i s => wX_scan_2 post x1 n (nI i) s.1 s.2.1 s.2.2.1 s.2.2.2.1 s.2.2.2.2.1 s.2.2.2.2.2.1 s.2.2.2.2.2.2.1 s.2.2.2.2.2.2.2.1 s.2.2.2.2.2.2.2.2.1 s.2.2.2.2.2.2.2.2.2.1 s.2.2.2.2.2.2.2.2.2.2.1 s.2.2.2.2.2.2.2.2.2.2.2.1 s.2.2.2.2.2.2.2.2.2.2.2.2.1 s.2.2.2.2.2.2.2.2.2.2.2.2.2) (fun _ s => pm_K T F C G s) 24 0 (f0, f1, f2, a1, a2, a3, a4, a5, a6, a7, a8, a9, a10, a11) (by omega) h ?_ ?_
  · rintro n ⟨f0_1, f1_1, f2_1, a1_1, a2_1, a3_1, a4_1, a5_1, a6_1, a7_1, a8_1, a9_1, a10_1, a11_1⟩ h
    exact br_c (fun _ => H _ _ _ _ _ _ _ _ _ _ _ _ _ _ h) (fun _ => pk_le 24 24 (fun _ => H _ _ _ _ _ _ _ _ _ _ _ _ _ _ h) (fun z => absurd z (by omega)))
  · rintro n i ⟨f0_1, f1_1, f2_1, a1_1, a2_1, a3_1, a4_1, a5_1, a6_1, a7_1, a8_1, a9_1, a10_1, a11_1⟩ hi h hw
    refine br_c (fun _ => H _ _ _ _ _ _ _ _ _ _ _ _ _ _ h) (fun _ => pk_le 24 i (fun z => absurd z (by omega)) (fun _ => ?_))
    have J : ∀ (f0_2 f1_2 f2_2 : Int32) (a1_2 a2_2 a3_2 a4_2 a5_2 a6_2 a7_2 a8_2 a9_2 a10_2 a11_2 : Nat → Int32), pm_K T F C G (f0_2, f1_2, f2_2, a1_2, a2_2, a3_2, a4_2, a5_2, a6_2, a7_2, a8_2, a9_2, a10_2, a11_2) → wX_scan_2 post x1 n (nI (i + 1)) f0_2 f1_2 f2_2 a1_2 a2_2 a3_2 a4_2 a5_2 a6_2 a7_2 a8_2 a9_2 a10_2 a11_2 := fun (f0_2 f1_2 f2_2 : Int32) (a1_2 a2_2 a3_2 a4_2 a5_2 a6_2 a7_2 a8_2 a9_2 a10_2 a11_2 : Nat → Int32) h2 => hw (f0_2, f1_2, f2_2, a1_2, a2_2, a3_2, a4_2, a5_2, a6_2, a7_2, a8_2, a9_2, a10_2, a11_2) h2
    have h' := h
    obtain ⟨_, _, _, ⟨s, hs, rfl⟩, _⟩ := h'
    refine pk_le 24 (s + 1) (fun _ => pm_sc40 (s' := 0) h hs (by omega) J) (fun z => ?_) rfl (nI_1 s)
    rw [nI_1 s]
    exact pm_sc40 h hs z J
end SCAN
end
section
/-! freeFrame, takeFrame, bringIn, own, and the guests' calls; the constructor -/
theorem pm_KG {T G G' : Nat → Prop} {F : Nat} {C C' : Nat → Nat → Int32} {f0 f1 f2 : Int32} {a1 a2 a3 a4 a5 a6 a7 a8 a9 a10 a11 : Nat → Int32} (h : pm_K T F C G (f0, f1, f2, a1, a2, a3, a4, a5, a6, a7, a8, a9, a10, a11)) (hC : ∀ y, y < 24 → ∀ w, w < 4 → C' y w = C y w) (hG : ∀ y, y < 24 → (G y ↔ G' y)) : pm_K T F C' G' (f0, f1, f2, a1, a2, a3, a4, a5, a6, a7, a8, a9, a10, a11) := by
  obtain ⟨F4, hF, e, hs, hI, g⟩ := h
  exact ⟨F4, hF, e, hs, pm_IC hI hC, fun y hy => (g y hy).trans (hG y hy)⟩
theorem pm_gm {G : Nat → Prop} {a b : Nat → Int32} {x : Nat} (h1 : b x ≠ 0) (hb : ∀ y, y ≠ x → b y = a y) (hG : ∀ y, y < 24 → (a y = 0 ↔ G y)) : ∀ y, y < 24 → (b y = 0 ↔ (G y ∧ y ≠ x)) := by
  intro y hy
  by_cases e : y = x
  · subst e
    exact ⟨fun z => absurd z h1, fun z => absurd rfl z.2⟩
  · rw [hb y e]
    exact (hG y hy).trans ⟨fun z => ⟨z, e⟩, fun z => z.1⟩
theorem pm_bad {post : Int32 → Prop} {x : Nat} (hx : x < 24) (hp : post 0) : wpX_bad post () (nI x) :=
  br_f (nI_pos (by omega)) (br_t (nI_lt (b := 24) hx (by decide)) hp)
theorem pm_gz {T : Nat → Prop} {F : Nat} {a1 a2 a5 a6 a7 a8 a9 a10 a11 D : Nat → Int32} {x w : Nat} (h : pm_pg T F a1 a2 a5 a6 a7 a8 a9 a10 a11 D x) (h0 : a1 x = 0) (hw : w < 4) : D w = 0 := by
  rcases h with ⟨_, d⟩ | ⟨q, _⟩ | ⟨q, _⟩ | ⟨q, _⟩
  · exact d w hw
  · rw [h0] at q; exact absurd q (by decide)
  · rw [h0] at q; exact absurd q (by decide)
  · rw [h0] at q; exact absurd q (by decide)
section CALLS
variable {a b c F : Nat} {G : Nat → Prop} {C C' : Nat → Nat → Int32} {f0 f1 f2 : Int32} {a1 a2 a3 a4 a5 a6 a7 a8 a9 a10 a11 : Nat → Int32} {x y w : Nat}
theorem pm_ff {post : Int32 → Prop} (hF : F ≤ 16) (hf : ∃ f, f < F ∧ a4 f = 0) (H : ∀ f, f < F → a4 f = 0 → post (nI f)) : wpX_freeFrame post (nI F, f1, f2, a1, a2, a3, a4, a5, a6, a7, a8, a9, a10, a11) := by
  obtain ⟨r, ⟨rF, r0⟩, rl⟩ := pk_least (fun f => f < F ∧ a4 f = 0) hf
  refine pk_loop (σ := Unit) (fun n i _ => wX_freeFrame_2 post (nI F) f1 f2 a1 a2 a3 a4 a5 a6 a7 a8 a9 a10 a11 n (nI i)) (fun _ _ => True) r 0 () (by omega) trivial
    (fun _ _ _ => pk_le F r (fun z => absurd z (by omega)) (fun _ => ⟨pm_vf (by omega), br_t (by rw [pm_cl (by omega)]; exact r0) (H r rF r0)⟩))
    (fun _ i _ hi _ hw => pk_le F i (fun z => absurd z (by omega)) (fun _ => ⟨pm_vf (by omega), br_f ?_ (nm_r (nI_1 i) (hw () trivial))⟩))
  rw [pm_cl (by omega)]
  exact fun z => rl i hi ⟨by omega, z⟩
theorem pm_tf {post : Int32 → St2 → Prop} {p0 p1 : Int32} (hF : F ≤ 16) (hf : ∃ f, f < F ∧ a4 f = 0) (H : ∀ f, f < F → a4 f = 0 → post (nI f) (nI F, f1, f2, a1, a2, a3, a4, a5, a6, a7, a8, a9, a10, a11)) : wpX_takeFrame post (nI F, f1, f2, a1, a2, a3, a4, a5, a6, a7, a8, a9, a10, a11) p0 p1 := by
  unfold wpX_takeFrame
  exact pm_ff hF hf (fun f h1 h2 => ⟨1, pk_le 72 0 (fun z => absurd z (by omega)) (fun _ => br_t (nI_pos' (by omega)) (br_t (nI_pos' (by omega)) (H f h1 h2)))⟩)
theorem pm_bring {post : St2 → Prop} {p1 : Int32} (h : pm_K (pm_T a b c) F C G (f0, f1, f2, a1, a2, a3, a4, a5, a6, a7, a8, a9, a10, a11)) (hx : x < 24) (hT : pm_T a b c x)
    (H : ∀ (f0_1 f1_1 f2_1 : Int32) (a1_1 a2_1 a3_1 a4_1 a5_1 a6_1 a7_1 a8_1 a9_1 a10_1 a11_1 : Nat → Int32), pm_K (pm_T a b c) F C (fun y => G y ∧ y ≠ x) (f0_1, f1_1, f2_1, a1_1, a2_1, a3_1, a4_1, a5_1, a6_1, a7_1, a8_1, a9_1, a10_1, a11_1) → a1_1 x = 1 → post (f0_1, f1_1, f2_1, a1_1, a2_1, a3_1, a4_1, a5_1, a6_1, a7_1, a8_1, a9_1, a10_1, a11_1)) : wpX_bringIn post (f0, f1, f2, a1, a2, a3, a4, a5, a6, a7, a8, a9, a10, a11) (nI x) p1 := by
  obtain ⟨F4, hF, rfl, hs, hI, hG⟩ := h
  have e : (nI x).toNatClampNeg = x := pm_cl (by omega)
  have v : vp_in (nI x) 24 := pm_vx hx
  refine ⟨v, nm_r (e' := upd a3 x 1) (by rw [e]) ⟨v, br_c (fun q => ?_) (fun q => ?_)⟩⟩
  · rw [e] at q
    exact H _ _ _ _ _ _ _ _ _ _ _ _ _ _ ⟨F4, hF, rfl, hs, hI, pm_gm (by rw [q]; decide) (fun _ _ => rfl) hG⟩ q
  · rw [e] at q
    refine pm_tf hF (pm_free hI F4) (fun f hf z4 => ?_)
    have un := pm_un4 hI (by omega) z4
    refine pk_loop (fun n i s => wX_bringIn_28 post (nI x) (nI f) (nI F) f1 f2 n (nI i) a1 a2 (upd a3 x 1) a4 s a6 a7 a8 a9 a10 a11) (fun i s => (∀ g w, g ≠ f → w < 4 → s (g * 4 + w) = a5 (g * 4 + w)) ∧ ∀ w, w < i → s (f * 4 + w) = C x w) 4 0 a5 (by omega) ⟨fun _ _ _ _ => rfl, fun w hw => absurd hw (by omega)⟩
      (fun n s h5 => pk_le 4 4 (fun _ => pm_letGo (pm_mem hI un h5.1) hF hx (fun b4 b6 b10 hJ _ k2 => ?_)) (fun z => absurd z (by omega)))
      (fun n i s hi h5 hw => pk_le 4 i (fun z => absurd z (by omega)) (fun _ => pm_peek ((pm_mem hI un h5.1).1 x hx) hF hx hi ⟨pk_in (f * 4 + i) 64 (by omega) (pm_ix f i), nm_r (e' := upd s (f * 4 + i) (C x i)) (by rw [pm_ix, pm_cl (by omega)]) (nm_r (nI_1 i) (hw _ ⟨pm_blk hi h5.1, pm_bli h5.2⟩))⟩))
    have b4f : b4 f = 0 := by rw [k2 q]; exact z4
    refine ⟨pm_vf (by omega), nm_r (e' := upd b4 f (b4 f + 1)) (by rw [pm_cl (by omega), b4f, show (0 : Int32) + 1 = 1 by decide]) ⟨v, nm_r (e' := upd (upd a1 x 0) x 1) (by rw [e]) ⟨v, nm_r (e' := upd a2 x (nI f)) (by rw [e]) ?_⟩⟩⟩
    exact H _ _ _ _ _ _ _ _ _ _ _ _ _ _ ⟨F4, hF, rfl, hs, pm_att1 hJ hF hx hT hf pk_us (fun y _ ne w _ => (pm_zn ne).symm) h5.2, pm_gm (by rw [pk_us]; decide) (fun y ne => by rw [pk_un ne, pk_un ne]) hG⟩ pk_us
theorem pm_own {post : St2 → Prop} (h : pm_K (pm_T a b c) F C G (f0, f1, f2, a1, a2, a3, a4, a5, a6, a7, a8, a9, a10, a11)) (hx : x < 24) (hT : pm_T a b c x)
    (H : ∀ (f0_1 f1_1 f2_1 : Int32) (a1_1 a2_1 a3_1 a4_1 a5_1 a6_1 a7_1 a8_1 a9_1 a10_1 a11_1 : Nat → Int32), pm_K (pm_T a b c) F C (fun y => G y ∧ y ≠ x) (f0_1, f1_1, f2_1, a1_1, a2_1, a3_1, a4_1, a5_1, a6_1, a7_1, a8_1, a9_1, a10_1, a11_1) → a1_1 x = 1 → (∃ f, f < F ∧ a2_1 x = nI f ∧ a4_1 f = 1) → post (f0_1, f1_1, f2_1, a1_1, a2_1, a3_1, a4_1, a5_1, a6_1, a7_1, a8_1, a9_1, a10_1, a11_1)) : wpX_own post (f0, f1, f2, a1, a2, a3, a4, a5, a6, a7, a8, a9, a10, a11) (nI x) := by
  have e : (nI x).toNatClampNeg = x := pm_cl (by omega)
  have v : vp_in (nI x) 24 := pm_vx hx
  unfold wpX_own
  refine pm_bring h hx hT (fun (f0_1 f1_1 f2_1 : Int32) (a1_1 a2_1 a3_1 a4_1 a5_1 a6_1 a7_1 a8_1 a9_1 a10_1 a11_1 : Nat → Int32) h1 q => ?_)
  have h1' := h1
  obtain ⟨F4, hF, rfl, hs, hI, hG⟩ := h1'
  obtain ⟨_, o, ho, g, d⟩ := pm_frm (hI.1 x hx) q
  have eo : (nI o).toNatClampNeg = o := pm_cl (by omega)
  have vo : vp_in (nI o) 16 := pm_vf (by omega)
  refine ⟨v, nm_r (e' := nI o) (by rw [e, g]) ⟨vo, br_c (fun z => ?_) (fun z => ?_)⟩⟩
  · rw [eo] at z
    exact H _ _ _ _ _ _ _ _ _ _ _ _ _ _ h1 q ⟨o, ho, g, z⟩
  · refine pm_tf hF (pm_free hI F4) (fun f hf z4 => ?_)
    have un := pm_un4 hI (by omega) z4
    have fo : f ≠ o := fun ef => un x hx q (by rw [g, ef])
    have ef : (nI f).toNatClampNeg = f := pm_cl (by omega)
    refine pk_loop (fun n i s => wX_own_34 post (nI x) (nI o) (nI f) (nI F) f1_1 f2_1 n (nI i) a1_1 a2_1 a3_1 a4_1 s a6_1 a7_1 a8_1 a9_1 a10_1 a11_1) (fun i s => (∀ g w, g ≠ f → w < 4 → s (g * 4 + w) = a5_1 (g * 4 + w)) ∧ ∀ w, w < i → s (f * 4 + w) = C x w) 4 0 a5_1 (by omega) ⟨fun _ _ _ _ => rfl, fun w hw => absurd hw (by omega)⟩
      (fun n s h5 => pk_le 4 4 (fun _ => ⟨vo, vo, nm_r (e' := upd a4_1 o (a4_1 o - 1)) (by rw [eo]) ⟨pm_vf (by omega), nm_r (e' := upd (upd a4_1 o (a4_1 o - 1)) f (upd a4_1 o (a4_1 o - 1) f + 1)) (by rw [ef, pk_un fo, z4, show (0 : Int32) + 1 = 1 by decide]) ⟨v, nm_r (e' := upd a2_1 x (nI f)) (by rw [e]) ?_⟩⟩⟩) (fun z => absurd z (by omega)))
      (fun n i s hi h5 hw => pk_le 4 i (fun z => absurd z (by omega)) (fun _ => ⟨pk_in (o * 4 + i) 64 (by omega) (pm_ix o i), pk_in (f * 4 + i) 64 (by omega) (pm_ix f i), nm_r (e' := upd s (f * 4 + i) (C x i)) (by rw [pm_ix f i, pm_ix o i, pm_cl (show f * 4 + i < 4096 by omega), pm_cl (show o * 4 + i < 4096 by omega), h5.1 o i (Ne.symm fo) hi, d i hi]) (nm_r (nI_1 i) (hw _ ⟨pm_blk hi h5.1, pm_bli h5.2⟩))⟩))
    have t := pm_att1 (C' := C) (f := f) (pm_det1 (C' := pm_z C x) (pm_mem hI un h5.1) hx (by omega) q g (fun y _ ne w _ => pm_zn ne) (fun w _ => pm_zx)) hF hx hT hf pk_us (fun y _ ne w _ => (pm_zn ne).symm) h5.2
    rw [pm_uu q] at t
    exact H _ _ _ _ _ _ _ _ _ _ _ _ _ _ ⟨F4, hF, rfl, hs, t, hG⟩ q ⟨f, hf, pk_us, by rw [pk_us, pk_un fo, z4]; decide⟩
theorem pm_write {post : Int32 → St2 → Prop} {u : Int32} (h : pm_K (pm_T a b c) F C G (f0, f1, f2, a1, a2, a3, a4, a5, a6, a7, a8, a9, a10, a11)) (hx : x < 24) (hT : pm_T a b c x) (hw : w < 4)
    (hC : ∀ y, y < 24 → y ≠ x → ∀ j, j < 4 → C' y j = C y j) (hD : ∀ j, j < 4 → C' x j = upd (C x) w u j)
    (H : ∀ (f0_1 f1_1 f2_1 : Int32) (a1_1 a2_1 a3_1 a4_1 a5_1 a6_1 a7_1 a8_1 a9_1 a10_1 a11_1 : Nat → Int32), pm_K (pm_T a b c) F C' (fun y => G y ∧ y ≠ x) (f0_1, f1_1, f2_1, a1_1, a2_1, a3_1, a4_1, a5_1, a6_1, a7_1, a8_1, a9_1, a10_1, a11_1) → post (C x w) (f0_1, f1_1, f2_1, a1_1, a2_1, a3_1, a4_1, a5_1, a6_1, a7_1, a8_1, a9_1, a10_1, a11_1)) : wpX_write post (f0, f1, f2, a1, a2, a3, a4, a5, a6, a7, a8, a9, a10, a11) (nI x) (nI w) u := by
  unfold wpX_write
  refine pm_bad hx (br_t rfl (br_f (nI_pos (by omega)) (br_t (nI_lt (b := 4) hw (by decide)) (pm_own h hx hT (fun (f0_1 f1_1 f2_1 : Int32) (a1_1 a2_1 a3_1 a4_1 a5_1 a6_1 a7_1 a8_1 a9_1 a10_1 a11_1 : Nat → Int32) h1 q hf => ?_)))))
  obtain ⟨f, hf, g, ho⟩ := hf
  obtain ⟨F4, hF, rfl, hs, hI, hG⟩ := h1
  obtain ⟨_, f', hf', g', d⟩ := pm_frm (hI.1 x hx) q
  have ef : f' = f := pm_nn (g'.symm.trans g) (by omega) (by omega)
  subst ef
  have e : (nI x).toNatClampNeg = x := pm_cl (by omega)
  have em : (nI (f' * 4 + w)).toNatClampNeg = f' * 4 + w := pm_cl (by omega)
  have vm : vp_in (nI (f' * 4 + w)) 64 := pk_in (f' * 4 + w) 64 (by omega)
  refine ⟨pm_vx hx, nm_r (e' := nI (f' * 4 + w)) (by rw [e, g, pm_ix]) ⟨vm, nm_r (e' := C x w) (by rw [em, d w hw]) ⟨vm, nm_r (e' := upd a5_1 (f' * 4 + w) u) (by rw [em]) ?_⟩⟩⟩
  refine H _ _ _ _ _ _ _ _ _ _ _ _ _ _ ⟨F4, hF, rfl, hs, pm_wr hI hx (by omega) q g ho (pm_blk hw (fun _ _ _ _ => rfl)) hC (fun j hj => ?_), hG⟩
  rw [hD j hj]
  by_cases ej : j = w
  · subst ej
    rw [pk_us, pk_us]
  · rw [pk_un ej, pk_un (by omega)]
    exact d j hj
theorem pm_fill {post : Int32 → St2 → Prop} {u : Int32} (h : pm_K (pm_T a b c) F C G (f0, f1, f2, a1, a2, a3, a4, a5, a6, a7, a8, a9, a10, a11)) (hx : x < 24) (hT : pm_T a b c x)
    (hC : ∀ y, y < 24 → y ≠ x → ∀ j, j < 4 → C' y j = C y j) (hD : ∀ j, j < 4 → C' x j = u)
    (H : ∀ (f0_1 f1_1 f2_1 : Int32) (a1_1 a2_1 a3_1 a4_1 a5_1 a6_1 a7_1 a8_1 a9_1 a10_1 a11_1 : Nat → Int32), pm_K (pm_T a b c) F C' (fun y => G y ∧ y ≠ x) (f0_1, f1_1, f2_1, a1_1, a2_1, a3_1, a4_1, a5_1, a6_1, a7_1, a8_1, a9_1, a10_1, a11_1) → post 0 (f0_1, f1_1, f2_1, a1_1, a2_1, a3_1, a4_1, a5_1, a6_1, a7_1, a8_1, a9_1, a10_1, a11_1)) : wpX_fill post (f0, f1, f2, a1, a2, a3, a4, a5, a6, a7, a8, a9, a10, a11) (nI x) u := by
  unfold wpX_fill
  refine pm_bad hx (br_t rfl (pm_own h hx hT (fun (f0_1 f1_1 f2_1 : Int32) (a1_1 a2_1 a3_1 a4_1 a5_1 a6_1 a7_1 a8_1 a9_1 a10_1 a11_1 : Nat → Int32) h1 q hf => ?_)))
  obtain ⟨f, hf, g, ho⟩ := hf
  obtain ⟨F4, hF, rfl, hs, hI, hG⟩ := h1
  have e : (nI x).toNatClampNeg = x := pm_cl (by omega)
  refine pk_loop (fun n i s => wX_fill_16 post (nI x) u (nI F) f1_1 f2_1 n (nI i) a1_1 a2_1 a3_1 a4_1 s a6_1 a7_1 a8_1 a9_1 a10_1 a11_1) (fun i s => (∀ g w, g ≠ f → w < 4 → s (g * 4 + w) = a5_1 (g * 4 + w)) ∧ ∀ w, w < i → s (f * 4 + w) = (fun _ => u) w) 4 0 a5_1 (by omega) ⟨fun _ _ _ _ => rfl, fun w hw => absurd hw (by omega)⟩
    (fun n s h5 => pk_le 4 4 (fun _ => H _ _ _ _ _ _ _ _ _ _ _ _ _ _ ⟨F4, hF, rfl, hs, pm_wr hI hx (by omega) q g ho h5.1 hC (fun j hj => (h5.2 j hj).trans (hD j hj).symm), hG⟩) (fun z => absurd z (by omega)))
    (fun n i s hi h5 hw => pk_le 4 i (fun z => absurd z (by omega)) (fun _ => ⟨pm_vx hx, pk_in (f * 4 + i) 64 (by omega) (by rw [e, g, pm_ix]), nm_r (e' := upd s (f * 4 + i) u) (by rw [e, g, pm_ix, pm_cl (by omega)]) (nm_r (nI_1 i) (hw _ ⟨pm_blk hi h5.1, pm_bli (D := fun _ => u) h5.2⟩))⟩))
theorem pm_read {post : Int32 → St2 → Prop} (h : pm_K (pm_T a b c) F C G (f0, f1, f2, a1, a2, a3, a4, a5, a6, a7, a8, a9, a10, a11)) (hx : x < 24) (hT : pm_T a b c x) (hw : w < 4)
    (H : ∀ (f0_1 f1_1 f2_1 : Int32) (a1_1 a2_1 a3_1 a4_1 a5_1 a6_1 a7_1 a8_1 a9_1 a10_1 a11_1 : Nat → Int32), pm_K (pm_T a b c) F C G (f0_1, f1_1, f2_1, a1_1, a2_1, a3_1, a4_1, a5_1, a6_1, a7_1, a8_1, a9_1, a10_1, a11_1) → post (C x w) (f0_1, f1_1, f2_1, a1_1, a2_1, a3_1, a4_1, a5_1, a6_1, a7_1, a8_1, a9_1, a10_1, a11_1)) : wpX_read post (f0, f1, f2, a1, a2, a3, a4, a5, a6, a7, a8, a9, a10, a11) (nI x) (nI w) := by
  have e : (nI x).toNatClampNeg = x := pm_cl (by omega)
  unfold wpX_read
  refine pm_bad hx (br_t rfl (br_f (nI_pos (by omega)) (br_t (nI_lt (b := 4) hw (by decide)) ⟨pm_vx hx, br_c (fun q => ?_) (fun q => ?_)⟩)))
  · rw [e] at q
    have t := H _ _ _ _ _ _ _ _ _ _ _ _ _ _ h
    obtain ⟨F4, hF, _, hs, hI, hG⟩ := h
    rw [pm_gz (hI.1 x hx) q hw] at t
    exact t
  · rw [e] at q
    have ng : ¬ G x := by
      obtain ⟨F4, hF, _, hs, hI, hG⟩ := h
      exact fun z => q ((hG x hx).mpr z)
    refine pm_bring h hx hT (fun (f0_1 f1_1 f2_1 : Int32) (a1_1 a2_1 a3_1 a4_1 a5_1 a6_1 a7_1 a8_1 a9_1 a10_1 a11_1 : Nat → Int32) h1 q1 => ?_)
    have t := H _ _ _ _ _ _ _ _ _ _ _ _ _ _ (pm_KG (C' := C) (G' := G) h1 (fun _ _ _ _ => rfl) (fun y _ => ⟨fun z => z.1, fun z => ⟨z, fun ey => ng (by rw [← ey]; exact z)⟩⟩))
    obtain ⟨F4, hF, _, hs, hI, hG⟩ := h1
    obtain ⟨_, f, hf, g, d⟩ := pm_frm (hI.1 x hx) q1
    refine ⟨pm_vx hx, pk_in (f * 4 + w) 64 (by omega) (by rw [e, g, pm_ix]), ?_⟩
    rw [e, g, pm_ix, pm_cl (by omega), d w hw]
    exact t
theorem pm_copy {post : Int32 → St2 → Prop} (h : pm_K (pm_T a b c) F C G (f0, f1, f2, a1, a2, a3, a4, a5, a6, a7, a8, a9, a10, a11)) (hx : x < 24) (hT : pm_T a b c x) (hy : y < 24) (hTy : pm_T a b c y) (ne : x ≠ y) (ng : ¬ G x)
    (hC : ∀ z, z < 24 → z ≠ y → ∀ j, j < 4 → C' z j = C z j) (hD : ∀ j, j < 4 → C' y j = C x j)
    (H : ∀ (f0_1 f1_1 f2_1 : Int32) (a1_1 a2_1 a3_1 a4_1 a5_1 a6_1 a7_1 a8_1 a9_1 a10_1 a11_1 : Nat → Int32), pm_K (pm_T a b c) F C' (fun z => G z ∧ z ≠ y) (f0_1, f1_1, f2_1, a1_1, a2_1, a3_1, a4_1, a5_1, a6_1, a7_1, a8_1, a9_1, a10_1, a11_1) → post 0 (f0_1, f1_1, f2_1, a1_1, a2_1, a3_1, a4_1, a5_1, a6_1, a7_1, a8_1, a9_1, a10_1, a11_1)) : wpX_copy post (f0, f1, f2, a1, a2, a3, a4, a5, a6, a7, a8, a9, a10, a11) (nI x) (nI y) := by
  have e : (nI x).toNatClampNeg = x := pm_cl (by omega)
  have ey : (nI y).toNatClampNeg = y := pm_cl (by omega)
  have q0 : ¬ a1 (nI x).toNatClampNeg = 0 := by
    obtain ⟨F4, hF, _, hs, hI, hG⟩ := h
    rw [e]
    exact fun z => ng ((hG x hx).mp z)
  unfold wpX_copy
  refine pm_bad hx (br_t rfl (pm_bad hy (br_t rfl (br_f (fun z => ne (pm_nn z (by omega) (by omega))) ⟨pm_vx hx, br_f q0 (pm_bring h hx hT (fun (f0_1 f1_1 f2_1 : Int32) (a1_1 a2_1 a3_1 a4_1 a5_1 a6_1 a7_1 a8_1 a9_1 a10_1 a11_1 : Nat → Int32) h1 q => ?_))⟩))))
  obtain ⟨F4, hF, rfl, hs, hI, hG⟩ := h1
  obtain ⟨_, o, ho, g, d⟩ := pm_frm (hI.1 x hx) q
  refine pm_letGo hI hF hy (fun b4 b6 b10 hJ _ _ => ?_)
  have wx : upd a2_1 y (nI o) (nI x).toNatClampNeg = nI o := by rw [e, pk_un ne, g]
  have vo : vp_in (upd a2_1 y (nI o) (nI x).toNatClampNeg) 16 := by rw [wx]; exact pm_vf (by omega)
  refine ⟨pm_vx hy, nm_r (e' := upd (upd a1_1 y 0) y 1) (by rw [ey]) ⟨pm_vx hx, pm_vx hy, nm_r (e' := upd a2_1 y (nI o)) (by rw [e, ey, g]) ⟨pm_vx hx, vo, vo, nm_r (e' := upd b4 o (b4 o + 1)) (by rw [wx, pm_cl (by omega)]) ⟨pm_vx hy, nm_e ?_⟩⟩⟩⟩
  have t := pm_att1 (C' := C') (f := o) hJ hF hy hTy ho pk_us (fun z hz n w hw => (hC z hz n w hw).trans (pm_zn n).symm) (fun w hw => (d w hw).trans (hD w hw).symm)
  refine H _ _ _ _ _ _ _ _ _ _ _ _ _ _ ⟨F4, hF, rfl, hs, t, fun z hz => ?_⟩
  refine (pm_gm (b := upd (upd a1_1 y 0) y 1) (a := a1_1) (x := y) (by rw [pk_us]; decide) (fun z n => by rw [pk_un n, pk_un n]) hG z hz).trans ⟨fun t => ⟨t.1.1, t.2⟩, fun t => ⟨⟨t.1, fun ez => ng (by rw [← ez]; exact t.1)⟩, t.2⟩⟩
theorem pm_same {post : Int32 → Prop} (h : pm_K (pm_T a b c) F C G (f0, f1, f2, a1, a2, a3, a4, a5, a6, a7, a8, a9, a10, a11)) (hx : x < 24) (hy : y < 24) (h1 : (∀ w, w < 4 → C x w = C y w) → post 1) (h0 : ¬ (∀ w, w < 4 → C x w = C y w) → post 0) : wpX_same post (f0, f1, f2, a1, a2, a3, a4, a5, a6, a7, a8, a9, a10, a11) (nI x) (nI y) := by
  obtain ⟨F4, hF, _, hs, hI, hG⟩ := h
  unfold wpX_same
  exact pm_bad hx (br_t rfl (pm_bad hy (br_t rfl (pm_eqp hI hF hx hy (fun z => ⟨rfl, h1 z⟩) (fun z => ⟨rfl, h0 z⟩)))))
theorem pm_swapW {post : Int32 → St2 → Prop} (h : pm_K (pm_T a b c) F C G (f0, f1, f2, a1, a2, a3, a4, a5, a6, a7, a8, a9, a10, a11)) (hx : x < 24) (hT : pm_T a b c x) (hy : y < 24) (hTy : pm_T a b c y) (ne : x ≠ y) (ng : ∀ z, z < 24 → ¬ G z)
    (hC : ∀ z, z < 24 → ∀ j, j < 4 → C' z j = C (pm_sw x y z) j)
    (H : ∀ (f0_1 f1_1 f2_1 : Int32) (a1_1 a2_1 a3_1 a4_1 a5_1 a6_1 a7_1 a8_1 a9_1 a10_1 a11_1 : Nat → Int32), pm_K (pm_T a b c) F C' G (f0_1, f1_1, f2_1, a1_1, a2_1, a3_1, a4_1, a5_1, a6_1, a7_1, a8_1, a9_1, a10_1, a11_1) → post 0 (f0_1, f1_1, f2_1, a1_1, a2_1, a3_1, a4_1, a5_1, a6_1, a7_1, a8_1, a9_1, a10_1, a11_1)) : wpX_swap post (f0, f1, f2, a1, a2, a3, a4, a5, a6, a7, a8, a9, a10, a11) (nI x) (nI y) := by
  have e : (nI x).toNatClampNeg = x := pm_cl (by omega)
  have ey : (nI y).toNatClampNeg = y := pm_cl (by omega)
  have vx : vp_in (nI x) 24 := pm_vx hx
  have vy : vp_in (nI y) 24 := pm_vx hy
  obtain ⟨F4, hF, rfl, hs, hI, hG⟩ := h
  unfold wpX_swap
  refine pm_bad hx (br_t rfl (pm_bad hy (br_t rfl ⟨vx, nm_r (e' := a1 x) (by rw [e]) ⟨vx, nm_r (e' := a2 x) (by rw [e]) ⟨vy, vx, nm_r (e' := upd a1 x (a1 y)) (by rw [e, ey]) ⟨vy, vx, nm_r (e' := upd a2 x (a2 y)) (by rw [e, ey]) ⟨vy, nm_r (e' := upd (upd a1 x (a1 y)) y (a1 x)) (by rw [ey]) ⟨vy, nm_r (e' := upd (upd a2 x (a2 y)) y (a2 x)) (by rw [ey]) ?_⟩⟩⟩⟩⟩⟩)))
  refine H _ _ _ _ _ _ _ _ _ _ _ _ _ _ ⟨F4, hF, rfl, hs, pm_swap hI hx hy ne hT hTy (fun z => pm_swu ne) (fun z => pm_swu ne) hC, fun z hz => ?_⟩
  rw [pm_swu ne]
  have hz' := pm_swl hx hy hz
  exact ⟨fun t => absurd ((hG _ hz').mp t) (ng _ hz'), fun t => absurd t (ng z hz)⟩
theorem pm_release {post : Int32 → St2 → Prop} (h : pm_K (pm_T a b c) F C G (f0, f1, f2, a1, a2, a3, a4, a5, a6, a7, a8, a9, a10, a11)) (hx : x < 24) (ng : ¬ G x)
    (H : ∀ (f0_1 f1_1 f2_1 : Int32) (a1_1 a2_1 a3_1 a4_1 a5_1 a6_1 a7_1 a8_1 a9_1 a10_1 a11_1 : Nat → Int32), pm_K (pm_T a b c) F (pm_z C x) (fun y => G y ∨ y = x) (f0_1, f1_1, f2_1, a1_1, a2_1, a3_1, a4_1, a5_1, a6_1, a7_1, a8_1, a9_1, a10_1, a11_1) → post 0 (f0_1, f1_1, f2_1, a1_1, a2_1, a3_1, a4_1, a5_1, a6_1, a7_1, a8_1, a9_1, a10_1, a11_1)) : wpX_release post (f0, f1, f2, a1, a2, a3, a4, a5, a6, a7, a8, a9, a10, a11) (nI x) := by
  have e : (nI x).toNatClampNeg = x := pm_cl (by omega)
  obtain ⟨F4, hF, rfl, hs, hI, hG⟩ := h
  unfold wpX_release
  refine pm_bad hx (br_t rfl ⟨pm_vx hx, br_f (by rw [e]; exact fun z => ng ((hG x hx).mp z)) (pm_letGo hI hF hx (fun b4 b6 b10 hJ _ _ => ?_))⟩)
  refine H _ _ _ _ _ _ _ _ _ _ _ _ _ _ ⟨F4, hF, rfl, hs, hJ, fun y hy => ?_⟩
  by_cases ey : y = x
  · subst ey
    exact ⟨fun _ => Or.inr rfl, fun _ => pk_us⟩
  · rw [pk_un ey]
    exact (hG y hy).trans ⟨Or.inl, fun t => t.elim id (fun z => absurd z ey)⟩
theorem pm_held {post : Int32 → Prop} (h : pm_K (pm_T a b c) F C G (f0, f1, f2, a1, a2, a3, a4, a5, a6, a7, a8, a9, a10, a11)) (hx : x < 24) (h1 : ¬ G x → post 1) (h0 : G x → post 0) : wpX_held post (f0, f1, f2, a1, a2, a3, a4, a5, a6, a7, a8, a9, a10, a11) (nI x) := by
  have e : (nI x).toNatClampNeg = x := pm_cl (by omega)
  obtain ⟨F4, hF, _, hs, hI, hG⟩ := h
  unfold wpX_held
  refine pm_bad hx (br_t rfl ⟨pm_vx hx, br_c (fun z => h0 ?_) (fun z => h1 ?_)⟩)
  · rw [e] at z
    exact (hG x hx).mp z
  · rw [e] at z
    exact fun t => z ((hG x hx).mpr t)
/-! the constructor -/
theorem pm_i117 {post : St2 → Prop} {mc ms kc ks : Nat} {T : Nat → Prop} (F4 : 4 ≤ F) (hF : F ≤ 16) (H : ∀ (f0_1 f1_1 f2_1 : Int32) (a1_1 a2_1 a3_1 a4_1 a5_1 a6_1 a7_1 a8_1 a9_1 a10_1 a11_1 : Nat → Int32), pm_K T F (fun _ _ => 0) (fun _ => False) (f0_1, f1_1, f2_1, a1_1, a2_1, a3_1, a4_1, a5_1, a6_1, a7_1, a8_1, a9_1, a10_1, a11_1) → post (f0_1, f1_1, f2_1, a1_1, a2_1, a3_1, a4_1, a5_1, a6_1, a7_1, a8_1, a9_1, a10_1, a11_1)) :
    ∃ n, wX_init_117 post mc ms kc ks (nI F) 0 0 n 0 (fun _ => 0) (fun _ => 0) (fun _ => 0) (fun _ => 0) (fun _ => 0) (fun _ => 0) (fun _ => 0) (fun _ => 0) (fun _ => 0) (fun _ => 0) (fun _ => 0) := by
  refine pk_loop (σ := (Nat → Int32) × (Nat → Int32) × (Nat → Int32) × (Nat → Int32)) (fun n i s => wX_init_117 post mc ms kc ks (nI F) 0 0 n (nI i) s.1 s.2.1 (fun _ => 0) (fun _ => 0) (fun _ => 0) s.2.2.1 s.2.2.2 (fun _ => 0) (fun _ => 0) (fun _ => 0) (fun _ => 0))
    (fun i s => (∀ j, j < i → s.1 j = 2) ∧ (∀ j, j < i → s.2.1 j = nI j) ∧ (∀ j, j < i → s.2.2.1 j = 1) ∧ (∀ j, j < i → s.2.2.2 j = 4)) 24 0 (fun _ => 0, fun _ => 0, fun _ => 0, fun _ => 0) (by omega)
    ⟨fun j hj => absurd hj (by omega), fun j hj => absurd hj (by omega), fun j hj => absurd hj (by omega), fun j hj => absurd hj (by omega)⟩ ?_ ?_
  · rintro n ⟨s1, s2, s6, s7⟩ ⟨h1, h2, h6, h7⟩
    refine pk_le 24 24 (fun _ => H _ _ _ _ _ _ _ _ _ _ _ _ _ _ ⟨F4, hF, rfl, ⟨0, by omega, rfl⟩, ⟨fun x hx => ?_, fun x y hx hy ne _ _ => ?_, fun f hf => ?_, ?_, ?_⟩, fun x hx => ?_⟩) (fun z => absurd z (by omega))
    · exact Or.inr (Or.inr (Or.inl ⟨h1 x hx, x, hx, h2 x hx, by rw [h6 x hx]; decide, 4, by omega, h7 x hx, fun w hw => ⟨fun _ => rfl, fun z => absurd z (by omega)⟩⟩))
    · rw [h2 x hx, h2 y hy]
      exact fun z => ne (pm_nn z (by omega) (by omega))
    · rw [pm_cnN (fun x hx z => absurd ((h1 x hx).symm.trans z.1) (by decide))]
      rfl
    · rw [pm_cnA (P := fun x => s1 x = 2) h1]
      exact Nat.le_trans (pm_cnLe 24) (by omega)
    · rw [pm_cnN (P := fun k => (0 : Int32) ≠ 0) (fun x hx z => z rfl)]
      omega
    · rw [h1 x hx]
      exact ⟨fun z => absurd z (by decide), fun z => absurd z id⟩
  · rintro n i ⟨s1, s2, s6, s7⟩ hi ⟨h1, h2, h6, h7⟩ hw
    have ei : (nI i).toNatClampNeg = i := pm_cl (by omega)
    have st : ∀ {s : Nat → Int32} {f : Nat → Int32}, (∀ j, j < i → s j = f j) → ∀ j, j < i + 1 → upd s i (f i) j = f j := by
      intro s f h j hj
      by_cases ej : j = i
      · subst ej; rw [pk_us]
      · rw [pk_un ej]; exact h j (by omega)
    exact pk_le 24 i (fun z => absurd z (by omega)) (fun _ => ⟨pm_vx hi, nm_r (e' := upd s1 i 2) (by rw [ei]) ⟨pm_vx hi, nm_r (e' := upd s2 i (nI i)) (by rw [ei]) ⟨pm_vx hi, nm_r (e' := upd s6 i 1) (by rw [ei]) ⟨pm_vx hi, nm_r (e' := upd s7 i 4) (by rw [ei]) (nm_r (nI_1 i) (hw (upd s1 i 2, upd s2 i (nI i), upd s6 i 1, upd s7 i 4) ⟨st (f := fun _ => 2) h1, st (f := fun j => nI j) h2, st (f := fun _ => 1) h6, st (f := fun _ => 4) h7⟩))⟩⟩⟩⟩)
theorem pm_i101 {post : St2 → Prop} {mc ms kc ks : Nat} {T : Nat → Prop} {p : Int32} (hp : 4 ≤ p) (H : ∀ (F : Nat) (f0_1 f1_1 f2_1 : Int32) (a1_1 a2_1 a3_1 a4_1 a5_1 a6_1 a7_1 a8_1 a9_1 a10_1 a11_1 : Nat → Int32), pm_K T F (fun _ _ => 0) (fun _ => False) (f0_1, f1_1, f2_1, a1_1, a2_1, a3_1, a4_1, a5_1, a6_1, a7_1, a8_1, a9_1, a10_1, a11_1) → post (f0_1, f1_1, f2_1, a1_1, a2_1, a3_1, a4_1, a5_1, a6_1, a7_1, a8_1, a9_1, a10_1, a11_1)) :
    wX_init_101 post mc ms p kc ks 0 0 0 (fun _ => 0) (fun _ => 0) (fun _ => 0) (fun _ => 0) (fun _ => 0) (fun _ => 0) (fun _ => 0) (fun _ => 0) (fun _ => 0) (fun _ => 0) (fun _ => 0) := by
  refine br_c (fun h => ?_) (fun h => pm_i117 (F := 16) (by omega) (by omega) (H 16))
  have hp' : ¬ p < 0 := by
    rw [Int32.lt_iff_toInt_lt]
    rw [Int32.le_iff_toInt_le] at hp
    have z4 : (4 : Int32).toInt = 4 := by decide
    have z0 : (0 : Int32).toInt = 0 := by decide
    omega
  obtain ⟨j, hj, rfl⟩ := nI_of2 (n := 16) (by decide) hp' h
  have j4 : 4 ≤ j := (nI_leI (a := 4) (b := j) (by omega) (by omega)).mp hp
  exact pm_i117 (F := j) j4 hj (H j)
theorem pm_init {post : St2 → Prop} {mc ms : Nat} {T : Nat → Prop} {p : Int32} (hm : mc = 11) (hs : ms = 368) (H : ∀ (F : Nat) (f0_1 f1_1 f2_1 : Int32) (a1_1 a2_1 a3_1 a4_1 a5_1 a6_1 a7_1 a8_1 a9_1 a10_1 a11_1 : Nat → Int32), pm_K T F (fun _ _ => 0) (fun _ => False) (f0_1, f1_1, f2_1, a1_1, a2_1, a3_1, a4_1, a5_1, a6_1, a7_1, a8_1, a9_1, a10_1, a11_1) → post (f0_1, f1_1, f2_1, a1_1, a2_1, a3_1, a4_1, a5_1, a6_1, a7_1, a8_1, a9_1, a10_1, a11_1)) : wpX_init post mc ms (0, 0, 0) p := by
  refine ⟨by omega, by omega, by omega, by omega, by omega, by omega, by omega, by omega, by omega, by omega, by omega, by omega, by omega, by omega, by omega, by omega, by omega, by omega, by omega, by omega, by omega, by omega, br_c (fun h => pm_i101 h H) (fun _ => pm_i101 (by decide) H)⟩
end CALLS
end
section
/-! the plain law: counts of contents, sums; no program in sight -/
def pm_e (A B : Nat → Int32) : Prop := ∀ w, w < 4 → A w = B w
theorem pm_eS {A B : Nat → Int32} (h : pm_e A B) : pm_e B A := fun w hw => (h w hw).symm
theorem pm_eT {A B D : Nat → Int32} (h : pm_e A B) (h' : pm_e B D) : pm_e A D := fun w hw => (h w hw).trans (h' w hw)
/-- first pages of their label: one a label -/
theorem pm_fst {H : Nat → Prop} {l : Nat → Nat} {k n : Nat} (h : ∃ x, x < n ∧ H x ∧ l x = k) : pm_cn (fun x => (H x ∧ ¬ ∃ y, y < x ∧ H y ∧ l y = l x) ∧ l x = k) n = 1 := by
  obtain ⟨x, ⟨hx, h1, h2⟩, hm⟩ := pk_least (fun x => x < n ∧ H x ∧ l x = k) h
  have t := pm_cn1 (P := fun _ => False) (Q := fun x => (H x ∧ ¬ ∃ y, y < x ∧ H y ∧ l y = l x) ∧ l x = k) hx id
    ⟨⟨h1, fun ⟨y, q, q1, q2⟩ => hm y q ⟨by omega, q1, q2.trans h2⟩⟩, h2⟩
    (fun y hy ne => ⟨False.elim, fun ⟨⟨q1, q2⟩, q3⟩ => by
      rcases Nat.lt_or_ge y x with z | z
      · exact hm y z ⟨hy, q1, q3⟩
      · exact q2 ⟨x, by omega, h1, h2.trans q3.symm⟩⟩)
  have t0 : pm_cn (fun _ => False) n = 0 := pm_cnN (fun _ _ z => z)
  omega
theorem pm_cls {H : Nat → Prop} {l : Nat → Nat} {n : Nat} : ∀ K, (∀ k, k < K → ∃ x, x < n ∧ H x ∧ l x = k) → pm_cn (fun x => (H x ∧ ¬ ∃ y, y < x ∧ H y ∧ l y = l x) ∧ l x < K) n = K := by
  intro K
  induction K with
  | zero => exact fun _ => pm_cnN (fun x _ z => absurd z.2 (by omega))
  | succ K ih =>
    intro h
    have t := pm_cnS (fun x => (H x ∧ ¬ ∃ y, y < x ∧ H y ∧ l y = l x) ∧ l x < K + 1) (fun x => l x < K) n
    have t1 := ih (fun k hk => h k (by omega))
    have t2 := pm_fst (h K (by omega))
    have e1 : pm_cn (fun x => ((H x ∧ ¬ ∃ y, y < x ∧ H y ∧ l y = l x) ∧ l x < K + 1) ∧ l x < K) n = pm_cn (fun x => (H x ∧ ¬ ∃ y, y < x ∧ H y ∧ l y = l x) ∧ l x < K) n :=
      pm_cnG (fun x _ => ⟨fun z => ⟨z.1.1, z.2⟩, fun z => ⟨⟨z.1, Nat.lt_succ_of_lt z.2⟩, z.2⟩⟩)
    have e2 : pm_cn (fun x => ((H x ∧ ¬ ∃ y, y < x ∧ H y ∧ l y = l x) ∧ l x < K + 1) ∧ ¬ l x < K) n = pm_cn (fun x => (H x ∧ ¬ ∃ y, y < x ∧ H y ∧ l y = l x) ∧ l x = K) n :=
      pm_cnG (fun x _ => ⟨fun z => ⟨z.1.1, by have := z.1.2; have := z.2; omega⟩, fun z => ⟨⟨z.1, by have := z.2; omega⟩, by have := z.2; omega⟩⟩)
    omega
/-- the pages' contents: three pages of their own, the others zero -/
def pm_C (p q r : Nat) (A B D : Nat → Int32) : Nat → Nat → Int32 := fun x w => if x = p then A w else if x = q then B w else if x = r then D w else 0
def pm_l (p q r lp lq lr : Nat) : Nat → Nat := fun x => if x = p then lp else if x = q then lq else if x = r then lr else 0
def pm_D (p q r : Nat) : Prop := p < 24 ∧ q < 24 ∧ r < 24 ∧ p ≠ q ∧ p ≠ r ∧ q ≠ r
section NUM
variable {p q r : Nat} {A B D : Nat → Int32}
theorem pm_Cp : pm_C p q r A B D p = A := funext (fun _ => if_pos rfl)
theorem pm_Cq (h : pm_D p q r) : pm_C p q r A B D q = B := by
  obtain ⟨_, _, _, pq, pr, qr⟩ := h
  funext w
  show (if q = p then A w else if q = q then B w else if q = r then D w else 0) = B w
  rw [if_neg (Ne.symm pq), if_pos rfl]
theorem pm_Cr (h : pm_D p q r) : pm_C p q r A B D r = D := by
  obtain ⟨_, _, _, pq, pr, qr⟩ := h
  funext w
  show (if r = p then A w else if r = q then B w else if r = r then D w else 0) = D w
  rw [if_neg (Ne.symm pr), if_neg (Ne.symm qr), if_pos rfl]
theorem pm_Co {x : Nat} (hp : x ≠ p) (hq : x ≠ q) (hr : x ≠ r) : pm_C p q r A B D x = fun _ => 0 := by
  funext w
  show (if x = p then A w else if x = q then B w else if x = r then D w else 0) = 0
  rw [if_neg hp, if_neg hq, if_neg hr]
theorem pm_lp {lp lq lr : Nat} : pm_l p q r lp lq lr p = lp := if_pos rfl
theorem pm_lq {lp lq lr : Nat} (h : pm_D p q r) : pm_l p q r lp lq lr q = lq := by
  obtain ⟨_, _, _, pq, pr, qr⟩ := h
  unfold pm_l
  rw [if_neg (Ne.symm pq), if_pos rfl]
theorem pm_lr {lp lq lr : Nat} (h : pm_D p q r) : pm_l p q r lp lq lr r = lr := by
  obtain ⟨_, _, _, pq, pr, qr⟩ := h
  unfold pm_l
  rw [if_neg (Ne.symm pr), if_neg (Ne.symm qr), if_pos rfl]
theorem pm_lo {lp lq lr x : Nat} (hp : x ≠ p) (hq : x ≠ q) (hr : x ≠ r) : pm_l p q r lp lq lr x = 0 := by
  unfold pm_l
  rw [if_neg hp, if_neg hq, if_neg hr]
/-- a change of one page leaves the others -/
theorem pm_C4 (h : pm_D p q r) {P : Nat → Prop} (hp : P p) (hq : P q) (hr : P r) (ho : ∀ x, x ≠ p → x ≠ q → x ≠ r → P x) : ∀ x, P x := by
  intro x
  by_cases e1 : x = p
  · rw [e1]; exact hp
  · by_cases e2 : x = q
    · rw [e2]; exact hq
    · by_cases e3 : x = r
      · rw [e3]; exact hr
      · exact ho x e1 e2 e3
theorem pm_oth (h : pm_D p q r) : ∃ x, x < 24 ∧ x ≠ p ∧ x ≠ q ∧ x ≠ r := by
  by_cases c0 : (0 ≠ p ∧ 0 ≠ q ∧ 0 ≠ r)
  · exact ⟨0, by omega, c0⟩
  · by_cases c1 : (1 ≠ p ∧ 1 ≠ q ∧ 1 ≠ r)
    · exact ⟨1, by omega, c1⟩
    · by_cases c2 : (2 ≠ p ∧ 2 ≠ q ∧ 2 ≠ r)
      · exact ⟨2, by omega, c2⟩
      · by_cases c3 : (3 ≠ p ∧ 3 ≠ q ∧ 3 ≠ r)
        · exact ⟨3, by omega, c3⟩
        · omega
theorem pm_cnt (h : pm_D p q r) {H : Nat → Prop} {K lp lq lr : Nat} {Z : Nat → Nat → Int32} (k0 : 0 < K) (kp : lp < K) (kq : lq < K) (kr : lr < K)
    (hA : pm_e A (Z lp)) (hB : pm_e B (Z lq)) (hD : pm_e D (Z lr)) (h0 : pm_e (fun _ => 0) (Z 0)) (inj : ∀ i j, i < K → j < K → pm_e (Z i) (Z j) → i = j)
    (hH : ∀ x, x ≠ p → H x) (pr : ∀ k, k < K → k = 0 ∨ (k = lp ∧ H p) ∨ k = lq ∨ k = lr) :
    pm_cn (fun x => H x ∧ ¬ ∃ y, y < x ∧ H y ∧ pm_e (pm_C p q r A B D y) (pm_C p q r A B D x)) 24 = K := by
  have hZ : ∀ x, pm_l p q r lp lq lr x < K ∧ pm_e (pm_C p q r A B D x) (Z (pm_l p q r lp lq lr x)) := by
    refine pm_C4 h ?_ ?_ ?_ (fun x n1 n2 n3 => ?_)
    · rw [pm_lp, pm_Cp]; exact ⟨kp, hA⟩
    · rw [pm_lq h, pm_Cq h]; exact ⟨kq, hB⟩
    · rw [pm_lr h, pm_Cr h]; exact ⟨kr, hD⟩
    · rw [pm_lo n1 n2 n3, pm_Co n1 n2 n3]; exact ⟨k0, h0⟩
  have hl : ∀ x y, pm_e (pm_C p q r A B D y) (pm_C p q r A B D x) ↔ pm_l p q r lp lq lr y = pm_l p q r lp lq lr x := by
    intro x y
    refine ⟨fun z => inj _ _ (hZ y).1 (hZ x).1 (pm_eT (pm_eS (hZ y).2) (pm_eT z (hZ x).2)), fun z => ?_⟩
    have t := (hZ y).2
    rw [z] at t
    exact pm_eT t (pm_eS (hZ x).2)
  have t := pm_cls (H := H) (l := pm_l p q r lp lq lr) (n := 24) K (fun k hk => by
    have hd := h
    obtain ⟨p24, q24, r24, pq, pr', qr⟩ := hd
    rcases pr k hk with e | ⟨e, z⟩ | e | e
    · obtain ⟨x, hx, n1, n2, n3⟩ := pm_oth h
      exact ⟨x, hx, hH x n1, by rw [pm_lo n1 n2 n3, e]⟩
    · exact ⟨p, p24, z, by rw [pm_lp, e]⟩
    · exact ⟨q, q24, hH q (Ne.symm pq), by rw [pm_lq h, e]⟩
    · exact ⟨r, r24, hH r (Ne.symm pr'), by rw [pm_lr h, e]⟩)
  rw [← t]
  refine pm_cnG (fun x _ => ⟨fun z => ⟨⟨z.1, fun ⟨y, q1, q2, q3⟩ => z.2 ⟨y, q1, q2, (hl x y).mpr q3⟩⟩, (hZ x).1⟩, fun z => ⟨z.1.1, fun ⟨y, q1, q2, q3⟩ => z.1.2 ⟨y, q1, q2, (hl x y).mp q3⟩⟩⟩)
theorem pm_c23 {n x : Nat} (hx : x < n + 1) : pm_cn (fun y => y ≠ x) (n + 1) = n := by
  have t := pm_cn1 (P := fun y => y ≠ x) (Q := fun _ => True) hx (fun z => z rfl) trivial (fun y _ ne => ⟨fun _ => trivial, fun _ => ne⟩)
  have t2 : pm_cn (fun _ => True) (n + 1) = n + 1 := pm_cnA (fun _ _ => trivial)
  omega
/-! sums -/
def pm_s4 (D : Nat → Int32) : Int32 := D 0 + D 1 + D 2 + D 3
def pm_ts (f : Nat → Int32) (lo : Nat) : Nat → Int32
  | 0 => 0
  | k + 1 => pm_ts f lo k + f (lo + k)
theorem pm_sm4 (s : Int32) (D : Nat → Int32) : pm_sm s D 4 = s + pm_s4 D := by
  show s + D 0 + D 1 + D 2 + D 3 = s + (D 0 + D 1 + D 2 + D 3)
  rw [Int32.add_assoc, Int32.add_assoc, Int32.add_assoc, Int32.add_assoc, Int32.add_assoc]
theorem pm_totE (C : Nat → Nat → Int32) (lo k : Nat) : pm_tot C lo k = pm_ts (fun x => pm_s4 (C x)) lo k := by
  induction k with
  | zero => rfl
  | succ k ih =>
    show pm_sm (pm_tot C lo k) (C (lo + k)) 4 = pm_ts (fun x => pm_s4 (C x)) lo k + pm_s4 (C (lo + k))
    rw [pm_sm4, ih]
theorem pm_tsA (f g : Nat → Int32) (lo k : Nat) : pm_ts (fun x => f x + g x) lo k = pm_ts f lo k + pm_ts g lo k := by
  induction k with
  | zero => rfl
  | succ k ih =>
    show pm_ts (fun x => f x + g x) lo k + (f (lo + k) + g (lo + k)) = (pm_ts f lo k + f (lo + k)) + (pm_ts g lo k + g (lo + k))
    rw [ih]
    grind
theorem pm_ts1 (s : Int32) (x lo k : Nat) : pm_ts (fun y => if y = x then s else 0) lo k = if lo ≤ x ∧ x < lo + k then s else 0 := by
  induction k with
  | zero =>
    rw [if_neg (by omega)]
    rfl
  | succ k ih =>
    show pm_ts (fun y => if y = x then s else 0) lo k + (if lo + k = x then s else 0) = _
    rw [ih]
    by_cases c : lo + k = x
    · rw [if_pos c, if_neg (by omega), if_pos (by omega), Int32.zero_add]
    · rw [if_neg c, Int32.add_zero]
      by_cases d : lo ≤ x ∧ x < lo + k
      · rw [if_pos d, if_pos (by omega)]
      · rw [if_neg d, if_neg (by omega)]
theorem pm_tsG {f g : Nat → Int32} (h : ∀ x, f x = g x) : f = g := funext h
theorem pm_due (h : pm_D p q r) (g : Nat) : pm_tot (pm_C p q r A B D) (g * 8) 8 = ((if p / 8 = g then pm_s4 A else 0) + (if r / 8 = g then pm_s4 D else 0)) + (if q / 8 = g then pm_s4 B else 0) := by
  have hd := h
  obtain ⟨p24, q24, r24, pq, pr, qr⟩ := hd
  have e : (fun x => pm_s4 (pm_C p q r A B D x)) = (fun x => ((if x = p then pm_s4 A else 0) + (if x = r then pm_s4 D else 0)) + (if x = q then pm_s4 B else 0)) := by
    refine pm_tsG (pm_C4 h ?_ ?_ ?_ (fun x n1 n2 n3 => ?_))
    · rw [pm_Cp, if_pos rfl, if_neg pr, if_neg pq, Int32.add_zero, Int32.add_zero]
    · rw [pm_Cq h, if_neg (Ne.symm pq), if_neg qr, if_pos rfl, Int32.zero_add, Int32.zero_add]
    · rw [pm_Cr h, if_neg (Ne.symm pr), if_pos rfl, if_neg (Ne.symm qr), Int32.zero_add, Int32.add_zero]
    · rw [pm_Co n1 n2 n3, if_neg n1, if_neg n2, if_neg n3]
      rfl
  rw [pm_totE, e, pm_tsA (fun x => (if x = p then pm_s4 A else 0) + (if x = r then pm_s4 D else 0)) (fun x => if x = q then pm_s4 B else 0), pm_tsA (fun x => if x = p then pm_s4 A else 0) (fun x => if x = r then pm_s4 D else 0), pm_ts1, pm_ts1, pm_ts1]
  have c : ∀ x, (g * 8 ≤ x ∧ x < g * 8 + 8) ↔ x / 8 = g := fun x => by omega
  have cc : ∀ (x : Nat) (s : Int32), (if g * 8 ≤ x ∧ x < g * 8 + 8 then s else 0) = (if x / 8 = g then s else 0) := by
    intro x s
    by_cases d : x / 8 = g
    · rw [if_pos d, if_pos ((c x).mpr d)]
    · rw [if_neg d, if_neg (fun z => d ((c x).mp z))]
  rw [cc, cc, cc]
end NUM
/-! the words v, v + 1, v + 2, v + 3 -/
def pm_V (v : Int32) : Nat → Int32 := fun w => v + nI w
theorem pm_Vi {v : Int32} {i j : Nat} (hi : i < 4) (hj : j < 4) (h : pm_V v i = pm_V v j) : i = j :=
  pm_nn ((Int32.add_right_inj v).mp h) (by omega) (by omega)
theorem pm_V0 {v : Int32} : ¬ pm_e (fun _ => 0) (pm_V v) := by
  intro h
  have t := pm_Vi (i := 0) (j := 1) (by omega) (by omega) ((h 0 (by omega)).symm.trans (h 1 (by omega)))
  omega
theorem pm_two {at' : Nat} : ∃ i j, i < 4 ∧ j < 4 ∧ i ≠ j ∧ i ≠ at' ∧ j ≠ at' := by
  by_cases c0 : at' = 0
  · exact ⟨1, 2, by omega, by omega, by omega, by omega, by omega⟩
  · by_cases c1 : at' = 1
    · exact ⟨0, 2, by omega, by omega, by omega, by omega, by omega⟩
    · exact ⟨0, 1, by omega, by omega, by omega, by omega, by omega⟩
theorem pm_W0 {v u : Int32} {k : Nat} : ¬ pm_e (fun _ => 0) (upd (pm_V v) k u) := by
  intro h
  obtain ⟨i, j, hi, hj, ne, ni, nj⟩ := pm_two (at' := k)
  have h1 := h i hi
  have h2 := h j hj
  rw [pk_un ni] at h1
  rw [pk_un nj] at h2
  exact ne (pm_Vi hi hj (h1.symm.trans h2))
theorem pm_VW {v u : Int32} {k : Nat} (hk : k < 4) (h : u ≠ v + nI k) : ¬ pm_e (pm_V v) (upd (pm_V v) k u) := by
  intro z
  have t := z k hk
  rw [pk_us] at t
  exact h t.symm
theorem pm_VWe {v u : Int32} {k : Nat} (h : u = v + nI k) : upd (pm_V v) k u = pm_V v := by
  funext j
  by_cases e : j = k
  · subst e
    rw [pk_us, h]
    rfl
  · rw [pk_un e]
theorem pm_s4V (v : Int32) : pm_s4 (pm_V v) = 4 * v + 6 := by
  show (v + 0) + (v + 1) + (v + 2) + (v + 3) = 4 * v + 6
  grind
theorem pm_s4W (v u : Int32) {k : Nat} (hk : k < 4) : pm_s4 (upd (pm_V v) k u) = (((4 * v + 6) - v) - nI k) + u := by
  refine co_4 (P := fun k => pm_s4 (upd (pm_V v) k u) = (((4 * v + 6) - v) - nI k) + u) ?_ ?_ ?_ ?_ hk
  · show u + (v + 1) + (v + 2) + (v + 3) = (((4 * v + 6) - v) - 0) + u
    grind
  · show (v + 0) + u + (v + 2) + (v + 3) = (((4 * v + 6) - v) - 1) + u
    grind
  · show (v + 0) + (v + 1) + u + (v + 3) = (((4 * v + 6) - v) - 2) + u
    grind
  · show (v + 0) + (v + 1) + (v + 2) + u = (((4 * v + 6) - v) - 3) + u
    grind
theorem pm_s4u (u : Int32) : pm_s4 (fun _ => u) = 4 * u := by
  show u + u + u + u = 4 * u
  grind
theorem pm_xor : ∀ k, k < 4 → nI k ^^^ 1 = nI (k ^^^ 1) ∧ nI k ^^^ 2 = nI (k ^^^ 2) ∧ k ^^^ 1 < 4 ∧ k ^^^ 2 < 4 ∧ k ^^^ 1 ≠ k ∧ k ^^^ 2 ≠ k := by decide +kernel
/-- two classes, three classes -/
def pm_Z (V W : Nat → Int32) : Nat → Nat → Int32 := fun i => if i = 0 then fun _ => 0 else if i = 1 then V else W
theorem pm_Z1 {V W : Nat → Int32} : ∀ i j, i < 1 → j < 1 → pm_e (pm_Z V W i) (pm_Z V W j) → i = j := by
  intro i j hi hj _
  omega
theorem pm_Z2 {V W : Nat → Int32} (h : ¬ pm_e (fun _ => 0) V) : ∀ i j, i < 2 → j < 2 → pm_e (pm_Z V W i) (pm_Z V W j) → i = j := by
  intro i j hi hj z
  by_cases ei : i = 0
  · by_cases ej : j = 0
    · omega
    · have e1 : j = 1 := by omega
      subst ei e1
      exact absurd z h
  · by_cases ej : j = 0
    · have e1 : i = 1 := by omega
      subst ej e1
      exact absurd (pm_eS z) h
    · omega
theorem pm_Z3 {V W : Nat → Int32} (h : ¬ pm_e (fun _ => 0) V) (h' : ¬ pm_e (fun _ => 0) W) (hVW : ¬ pm_e V W) : ∀ i j, i < 3 → j < 3 → pm_e (pm_Z V W i) (pm_Z V W j) → i = j := by
  intro i j hi hj z
  have t : ∀ i, i < 3 → i = 0 ∨ i = 1 ∨ i = 2 := fun i h => by omega
  rcases t i hi with rfl | rfl | rfl
  · rcases t j hj with rfl | rfl | rfl
    · rfl
    · exact absurd z h
    · exact absurd z h'
  · rcases t j hj with rfl | rfl | rfl
    · exact absurd (pm_eS z) h
    · rfl
    · exact absurd z hVW
  · rcases t j hj with rfl | rfl | rfl
    · exact absurd (pm_eS z) h'
    · exact absurd (pm_eS z) hVW
    · rfl
theorem pm_eR (A : Nat → Int32) : pm_e A A := fun _ _ => rfl
end
section
/-! the calls, over the law's picture -/
abbrev pm_L (p q r F : Nat) (g : Prop) (A B D : Nat → Int32) (u : St2) : Prop := pm_K (pm_T p q r) F (pm_C p q r A B D) (fun x => x = p ∧ g) u
abbrev pm_N (p q r : Nat) (g : Prop) (A B D : Nat → Int32) (K : Nat) : Prop := pm_cn (fun x => ¬ (x = p ∧ g) ∧ ¬ ∃ y, y < x ∧ ¬ (y = p ∧ g) ∧ pm_e (pm_C p q r A B D y) (pm_C p q r A B D x)) 24 = K
section WRAP
variable {p q r F : Nat} {g : Prop} {A B D A' B' D' : Nat → Int32} {f0 f1 f2 : Int32} {a1 a2 a3 a4 a5 a6 a7 a8 a9 a10 a11 : Nat → Int32} {w y j : Nat}
theorem pm_Cnp (h : y ≠ p) : pm_C p q r A B D y j = pm_C p q r A' B D y j := by
  show (if y = p then A j else if y = q then B j else if y = r then D j else 0) = (if y = p then A' j else if y = q then B j else if y = r then D j else 0)
  rw [if_neg h, if_neg h]
theorem pm_Cnq (h : y ≠ q) : pm_C p q r A B D y j = pm_C p q r A B' D y j := by
  show (if y = p then A j else if y = q then B j else if y = r then D j else 0) = (if y = p then A j else if y = q then B' j else if y = r then D j else 0)
  rw [if_neg h, if_neg h]
theorem pm_Cnr (h : y ≠ r) : pm_C p q r A B D y j = pm_C p q r A B D' y j := by
  show (if y = p then A j else if y = q then B j else if y = r then D j else 0) = (if y = p then A j else if y = q then B j else if y = r then D' j else 0)
  rw [if_neg h, if_neg h]
theorem pm_tp : pm_T p q r p := Or.inl rfl
theorem pm_tq : pm_T p q r q := Or.inr (Or.inl rfl)
theorem pm_tr : pm_T p q r r := Or.inr (Or.inr rfl)
theorem pm_Lcg (h : pm_L p q r F g A B D (f0, f1, f2, a1, a2, a3, a4, a5, a6, a7, a8, a9, a10, a11)) (hA : pm_e A' A) (hB : pm_e B' B) (hD : pm_e D' D) : pm_L p q r F g A' B' D' (f0, f1, f2, a1, a2, a3, a4, a5, a6, a7, a8, a9, a10, a11) := by
  refine pm_KG h (fun y _ j hj => ?_) (fun _ _ => Iff.rfl)
  show (if y = p then A' j else if y = q then B' j else if y = r then D' j else 0) = (if y = p then A j else if y = q then B j else if y = r then D j else 0)
  rw [hA j hj, hB j hj, hD j hj]
theorem pm_Lwp {post : Int32 → St2 → Prop} {u : Int32} (hd : pm_D p q r) (h : pm_L p q r F g A B D (f0, f1, f2, a1, a2, a3, a4, a5, a6, a7, a8, a9, a10, a11)) (hw : w < 4) (H : ∀ (f0_1 f1_1 f2_1 : Int32) (a1_1 a2_1 a3_1 a4_1 a5_1 a6_1 a7_1 a8_1 a9_1 a10_1 a11_1 : Nat → Int32), pm_L p q r F False (upd A w u) B D (f0_1, f1_1, f2_1, a1_1, a2_1, a3_1, a4_1, a5_1, a6_1, a7_1, a8_1, a9_1, a10_1, a11_1) → post (A w) (f0_1, f1_1, f2_1, a1_1, a2_1, a3_1, a4_1, a5_1, a6_1, a7_1, a8_1, a9_1, a10_1, a11_1)) : wpX_write post (f0, f1, f2, a1, a2, a3, a4, a5, a6, a7, a8, a9, a10, a11) (nI p) (nI w) u := by
  refine pm_write (C' := pm_C p q r (upd A w u) B D) h hd.1 pm_tp hw (fun y _ ne j _ => pm_Cnp ne) (fun j _ => by rw [pm_Cp, pm_Cp]) (fun (f0_1 f1_1 f2_1 : Int32) (a1_1 a2_1 a3_1 a4_1 a5_1 a6_1 a7_1 a8_1 a9_1 a10_1 a11_1 : Nat → Int32) h1 => ?_)
  rw [pm_Cp]
  exact H _ _ _ _ _ _ _ _ _ _ _ _ _ _ (pm_KG h1 (fun _ _ _ _ => rfl) (fun y _ => ⟨fun z => absurd z.1.1 z.2, fun z => z.2.elim⟩))
theorem pm_Lwq {post : Int32 → St2 → Prop} {u : Int32} (hd : pm_D p q r) (h : pm_L p q r F g A B D (f0, f1, f2, a1, a2, a3, a4, a5, a6, a7, a8, a9, a10, a11)) (hw : w < 4) (H : ∀ (f0_1 f1_1 f2_1 : Int32) (a1_1 a2_1 a3_1 a4_1 a5_1 a6_1 a7_1 a8_1 a9_1 a10_1 a11_1 : Nat → Int32), pm_L p q r F g A (upd B w u) D (f0_1, f1_1, f2_1, a1_1, a2_1, a3_1, a4_1, a5_1, a6_1, a7_1, a8_1, a9_1, a10_1, a11_1) → post (B w) (f0_1, f1_1, f2_1, a1_1, a2_1, a3_1, a4_1, a5_1, a6_1, a7_1, a8_1, a9_1, a10_1, a11_1)) : wpX_write post (f0, f1, f2, a1, a2, a3, a4, a5, a6, a7, a8, a9, a10, a11) (nI q) (nI w) u := by
  refine pm_write (C' := pm_C p q r A (upd B w u) D) h hd.2.1 pm_tq hw (fun y _ ne j _ => pm_Cnq ne) (fun j _ => by rw [pm_Cq hd, pm_Cq hd]) (fun (f0_1 f1_1 f2_1 : Int32) (a1_1 a2_1 a3_1 a4_1 a5_1 a6_1 a7_1 a8_1 a9_1 a10_1 a11_1 : Nat → Int32) h1 => ?_)
  rw [pm_Cq hd]
  exact H _ _ _ _ _ _ _ _ _ _ _ _ _ _ (pm_KG h1 (fun _ _ _ _ => rfl) (fun y _ => ⟨fun z => z.1, fun z => ⟨z, fun e => hd.2.2.2.1 (z.1.symm.trans e)⟩⟩))
theorem pm_Lrp {post : Int32 → St2 → Prop} (hd : pm_D p q r) (h : pm_L p q r F g A B D (f0, f1, f2, a1, a2, a3, a4, a5, a6, a7, a8, a9, a10, a11)) (hw : w < 4) (H : ∀ (f0_1 f1_1 f2_1 : Int32) (a1_1 a2_1 a3_1 a4_1 a5_1 a6_1 a7_1 a8_1 a9_1 a10_1 a11_1 : Nat → Int32), pm_L p q r F g A B D (f0_1, f1_1, f2_1, a1_1, a2_1, a3_1, a4_1, a5_1, a6_1, a7_1, a8_1, a9_1, a10_1, a11_1) → post (A w) (f0_1, f1_1, f2_1, a1_1, a2_1, a3_1, a4_1, a5_1, a6_1, a7_1, a8_1, a9_1, a10_1, a11_1)) : wpX_read post (f0, f1, f2, a1, a2, a3, a4, a5, a6, a7, a8, a9, a10, a11) (nI p) (nI w) := by
  refine pm_read h hd.1 pm_tp hw (fun (f0_1 f1_1 f2_1 : Int32) (a1_1 a2_1 a3_1 a4_1 a5_1 a6_1 a7_1 a8_1 a9_1 a10_1 a11_1 : Nat → Int32) h1 => ?_)
  rw [pm_Cp]
  exact H _ _ _ _ _ _ _ _ _ _ _ _ _ _ h1
theorem pm_Lrr {post : Int32 → St2 → Prop} (hd : pm_D p q r) (h : pm_L p q r F g A B D (f0, f1, f2, a1, a2, a3, a4, a5, a6, a7, a8, a9, a10, a11)) (hw : w < 4) (H : ∀ (f0_1 f1_1 f2_1 : Int32) (a1_1 a2_1 a3_1 a4_1 a5_1 a6_1 a7_1 a8_1 a9_1 a10_1 a11_1 : Nat → Int32), pm_L p q r F g A B D (f0_1, f1_1, f2_1, a1_1, a2_1, a3_1, a4_1, a5_1, a6_1, a7_1, a8_1, a9_1, a10_1, a11_1) → post (D w) (f0_1, f1_1, f2_1, a1_1, a2_1, a3_1, a4_1, a5_1, a6_1, a7_1, a8_1, a9_1, a10_1, a11_1)) : wpX_read post (f0, f1, f2, a1, a2, a3, a4, a5, a6, a7, a8, a9, a10, a11) (nI r) (nI w) := by
  refine pm_read h hd.2.2.1 pm_tr hw (fun (f0_1 f1_1 f2_1 : Int32) (a1_1 a2_1 a3_1 a4_1 a5_1 a6_1 a7_1 a8_1 a9_1 a10_1 a11_1 : Nat → Int32) h1 => ?_)
  rw [pm_Cr hd]
  exact H _ _ _ _ _ _ _ _ _ _ _ _ _ _ h1
theorem pm_Lpq {post : Int32 → St2 → Prop} (hd : pm_D p q r) (h : pm_L p q r F False A B D (f0, f1, f2, a1, a2, a3, a4, a5, a6, a7, a8, a9, a10, a11)) (H : ∀ (f0_1 f1_1 f2_1 : Int32) (a1_1 a2_1 a3_1 a4_1 a5_1 a6_1 a7_1 a8_1 a9_1 a10_1 a11_1 : Nat → Int32), pm_L p q r F False A A D (f0_1, f1_1, f2_1, a1_1, a2_1, a3_1, a4_1, a5_1, a6_1, a7_1, a8_1, a9_1, a10_1, a11_1) → post 0 (f0_1, f1_1, f2_1, a1_1, a2_1, a3_1, a4_1, a5_1, a6_1, a7_1, a8_1, a9_1, a10_1, a11_1)) : wpX_copy post (f0, f1, f2, a1, a2, a3, a4, a5, a6, a7, a8, a9, a10, a11) (nI p) (nI q) := by
  refine pm_copy (C' := pm_C p q r A A D) h hd.1 pm_tp hd.2.1 pm_tq hd.2.2.2.1 (fun z => z.2) (fun y _ ne j _ => pm_Cnq ne) (fun j _ => by rw [pm_Cp, pm_Cq hd]) (fun (f0_1 f1_1 f2_1 : Int32) (a1_1 a2_1 a3_1 a4_1 a5_1 a6_1 a7_1 a8_1 a9_1 a10_1 a11_1 : Nat → Int32) h1 => ?_)
  exact H _ _ _ _ _ _ _ _ _ _ _ _ _ _ (pm_KG h1 (fun _ _ _ _ => rfl) (fun y _ => ⟨fun z => z.1, fun z => z.2.elim⟩))
theorem pm_Lqr {post : Int32 → St2 → Prop} (hd : pm_D p q r) (h : pm_L p q r F False A B D (f0, f1, f2, a1, a2, a3, a4, a5, a6, a7, a8, a9, a10, a11)) (H : ∀ (f0_1 f1_1 f2_1 : Int32) (a1_1 a2_1 a3_1 a4_1 a5_1 a6_1 a7_1 a8_1 a9_1 a10_1 a11_1 : Nat → Int32), pm_L p q r F False A B B (f0_1, f1_1, f2_1, a1_1, a2_1, a3_1, a4_1, a5_1, a6_1, a7_1, a8_1, a9_1, a10_1, a11_1) → post 0 (f0_1, f1_1, f2_1, a1_1, a2_1, a3_1, a4_1, a5_1, a6_1, a7_1, a8_1, a9_1, a10_1, a11_1)) : wpX_copy post (f0, f1, f2, a1, a2, a3, a4, a5, a6, a7, a8, a9, a10, a11) (nI q) (nI r) := by
  refine pm_copy (C' := pm_C p q r A B B) h hd.2.1 pm_tq hd.2.2.1 pm_tr hd.2.2.2.2.2 (fun z => z.2) (fun y _ ne j _ => pm_Cnr ne) (fun j _ => by rw [pm_Cq hd, pm_Cr hd]) (fun (f0_1 f1_1 f2_1 : Int32) (a1_1 a2_1 a3_1 a4_1 a5_1 a6_1 a7_1 a8_1 a9_1 a10_1 a11_1 : Nat → Int32) h1 => ?_)
  exact H _ _ _ _ _ _ _ _ _ _ _ _ _ _ (pm_KG h1 (fun _ _ _ _ => rfl) (fun y _ => ⟨fun z => z.1, fun z => z.2.elim⟩))
theorem pm_Lfp {post : Int32 → St2 → Prop} {u : Int32} (hd : pm_D p q r) (h : pm_L p q r F False A B D (f0, f1, f2, a1, a2, a3, a4, a5, a6, a7, a8, a9, a10, a11)) (H : ∀ (f0_1 f1_1 f2_1 : Int32) (a1_1 a2_1 a3_1 a4_1 a5_1 a6_1 a7_1 a8_1 a9_1 a10_1 a11_1 : Nat → Int32), pm_L p q r F False (fun _ => u) B D (f0_1, f1_1, f2_1, a1_1, a2_1, a3_1, a4_1, a5_1, a6_1, a7_1, a8_1, a9_1, a10_1, a11_1) → post 0 (f0_1, f1_1, f2_1, a1_1, a2_1, a3_1, a4_1, a5_1, a6_1, a7_1, a8_1, a9_1, a10_1, a11_1)) : wpX_fill post (f0, f1, f2, a1, a2, a3, a4, a5, a6, a7, a8, a9, a10, a11) (nI p) u := by
  refine pm_fill (C' := pm_C p q r (fun _ => u) B D) h hd.1 pm_tp (fun y _ ne j _ => pm_Cnp ne) (fun j _ => by rw [pm_Cp]) (fun (f0_1 f1_1 f2_1 : Int32) (a1_1 a2_1 a3_1 a4_1 a5_1 a6_1 a7_1 a8_1 a9_1 a10_1 a11_1 : Nat → Int32) h1 => ?_)
  exact H _ _ _ _ _ _ _ _ _ _ _ _ _ _ (pm_KG h1 (fun _ _ _ _ => rfl) (fun y _ => ⟨fun z => z.1, fun z => z.2.elim⟩))
theorem pm_Lfq {post : Int32 → St2 → Prop} {u : Int32} (hd : pm_D p q r) (h : pm_L p q r F False A B D (f0, f1, f2, a1, a2, a3, a4, a5, a6, a7, a8, a9, a10, a11)) (H : ∀ (f0_1 f1_1 f2_1 : Int32) (a1_1 a2_1 a3_1 a4_1 a5_1 a6_1 a7_1 a8_1 a9_1 a10_1 a11_1 : Nat → Int32), pm_L p q r F False A (fun _ => u) D (f0_1, f1_1, f2_1, a1_1, a2_1, a3_1, a4_1, a5_1, a6_1, a7_1, a8_1, a9_1, a10_1, a11_1) → post 0 (f0_1, f1_1, f2_1, a1_1, a2_1, a3_1, a4_1, a5_1, a6_1, a7_1, a8_1, a9_1, a10_1, a11_1)) : wpX_fill post (f0, f1, f2, a1, a2, a3, a4, a5, a6, a7, a8, a9, a10, a11) (nI q) u := by
  refine pm_fill (C' := pm_C p q r A (fun _ => u) D) h hd.2.1 pm_tq (fun y _ ne j _ => pm_Cnq ne) (fun j _ => by rw [pm_Cq hd]) (fun (f0_1 f1_1 f2_1 : Int32) (a1_1 a2_1 a3_1 a4_1 a5_1 a6_1 a7_1 a8_1 a9_1 a10_1 a11_1 : Nat → Int32) h1 => ?_)
  exact H _ _ _ _ _ _ _ _ _ _ _ _ _ _ (pm_KG h1 (fun _ _ _ _ => rfl) (fun y _ => ⟨fun z => z.1, fun z => z.2.elim⟩))
theorem pm_Lfr {post : Int32 → St2 → Prop} {u : Int32} (hd : pm_D p q r) (h : pm_L p q r F False A B D (f0, f1, f2, a1, a2, a3, a4, a5, a6, a7, a8, a9, a10, a11)) (H : ∀ (f0_1 f1_1 f2_1 : Int32) (a1_1 a2_1 a3_1 a4_1 a5_1 a6_1 a7_1 a8_1 a9_1 a10_1 a11_1 : Nat → Int32), pm_L p q r F False A B (fun _ => u) (f0_1, f1_1, f2_1, a1_1, a2_1, a3_1, a4_1, a5_1, a6_1, a7_1, a8_1, a9_1, a10_1, a11_1) → post 0 (f0_1, f1_1, f2_1, a1_1, a2_1, a3_1, a4_1, a5_1, a6_1, a7_1, a8_1, a9_1, a10_1, a11_1)) : wpX_fill post (f0, f1, f2, a1, a2, a3, a4, a5, a6, a7, a8, a9, a10, a11) (nI r) u := by
  refine pm_fill (C' := pm_C p q r A B (fun _ => u)) h hd.2.2.1 pm_tr (fun y _ ne j _ => pm_Cnr ne) (fun j _ => by rw [pm_Cr hd]) (fun (f0_1 f1_1 f2_1 : Int32) (a1_1 a2_1 a3_1 a4_1 a5_1 a6_1 a7_1 a8_1 a9_1 a10_1 a11_1 : Nat → Int32) h1 => ?_)
  exact H _ _ _ _ _ _ _ _ _ _ _ _ _ _ (pm_KG h1 (fun _ _ _ _ => rfl) (fun y _ => ⟨fun z => z.1, fun z => z.2.elim⟩))
theorem pm_Lsw {post : Int32 → St2 → Prop} (hd : pm_D p q r) (h : pm_L p q r F False A B D (f0, f1, f2, a1, a2, a3, a4, a5, a6, a7, a8, a9, a10, a11)) (H : ∀ (f0_1 f1_1 f2_1 : Int32) (a1_1 a2_1 a3_1 a4_1 a5_1 a6_1 a7_1 a8_1 a9_1 a10_1 a11_1 : Nat → Int32), pm_L p q r F False D B A (f0_1, f1_1, f2_1, a1_1, a2_1, a3_1, a4_1, a5_1, a6_1, a7_1, a8_1, a9_1, a10_1, a11_1) → post 0 (f0_1, f1_1, f2_1, a1_1, a2_1, a3_1, a4_1, a5_1, a6_1, a7_1, a8_1, a9_1, a10_1, a11_1)) : wpX_swap post (f0, f1, f2, a1, a2, a3, a4, a5, a6, a7, a8, a9, a10, a11) (nI p) (nI r) := by
  have pr := hd.2.2.2.2.1
  have e : ∀ z, pm_C p q r D B A z = pm_C p q r A B D (pm_sw p r z) := by
    refine pm_C4 hd ?_ ?_ ?_ (fun x n1 n2 n3 => ?_)
    · rw [pm_swx, pm_Cp, pm_Cr hd]
    · rw [pm_swn (Ne.symm hd.2.2.2.1) hd.2.2.2.2.2, pm_Cq hd, pm_Cq hd]
    · rw [pm_swy pr, pm_Cp, pm_Cr hd]
    · rw [pm_swn n1 n3, pm_Co n1 n2 n3, pm_Co n1 n2 n3]
  exact pm_swapW (C' := pm_C p q r D B A) h hd.1 pm_tp hd.2.2.1 pm_tr pr (fun z _ q => q.2) (fun z _ j _ => by rw [e z]) H
theorem pm_Lre {post : Int32 → St2 → Prop} (hd : pm_D p q r) (h : pm_L p q r F False A B D (f0, f1, f2, a1, a2, a3, a4, a5, a6, a7, a8, a9, a10, a11)) (H : ∀ (f0_1 f1_1 f2_1 : Int32) (a1_1 a2_1 a3_1 a4_1 a5_1 a6_1 a7_1 a8_1 a9_1 a10_1 a11_1 : Nat → Int32), pm_L p q r F True (fun _ => 0) B D (f0_1, f1_1, f2_1, a1_1, a2_1, a3_1, a4_1, a5_1, a6_1, a7_1, a8_1, a9_1, a10_1, a11_1) → post 0 (f0_1, f1_1, f2_1, a1_1, a2_1, a3_1, a4_1, a5_1, a6_1, a7_1, a8_1, a9_1, a10_1, a11_1)) : wpX_release post (f0, f1, f2, a1, a2, a3, a4, a5, a6, a7, a8, a9, a10, a11) (nI p) := by
  refine pm_release h hd.1 (fun z => z.2) (fun (f0_1 f1_1 f2_1 : Int32) (a1_1 a2_1 a3_1 a4_1 a5_1 a6_1 a7_1 a8_1 a9_1 a10_1 a11_1 : Nat → Int32) h1 => ?_)
  refine H _ _ _ _ _ _ _ _ _ _ _ _ _ _ (pm_KG h1 (fun y _ j _ => ?_) (fun y _ => ⟨fun z => z.elim (fun t => t.2.elim) (fun t => ⟨t, trivial⟩), fun z => Or.inr z.1⟩))
  by_cases e : y = p
  · rw [e, pm_Cp, pm_zx]
  · rw [pm_zn e]
    exact pm_Cnp e
/-- counts -/
theorem pm_rpG {G : Nat → Prop} {C : Nat → Nat → Int32} (hG : ∀ x, x < 24 → (a1 x = 0 ↔ G x)) {x : Nat} (hx : x < 24) : pm_rp a1 C x ↔ ∃ y, y < x ∧ ¬ G y ∧ pm_e (C y) (C x) :=
  ⟨fun ⟨y, h1, h2, h3⟩ => ⟨y, h1, fun z => h2 ((hG y (by omega)).mpr z), h3⟩, fun ⟨y, h1, h2, h3⟩ => ⟨y, h1, fun z => h2 ((hG y (by omega)).mp z), h3⟩⟩
theorem pm_hdG {G : Nat → Prop} (hG : ∀ x, x < 24 → (a1 x = 0 ↔ G x)) {x : Nat} (hx : x < 24) : a1 x ≠ 0 ↔ ¬ G x :=
  ⟨fun z t => z ((hG x hx).mpr t), fun z t => z ((hG x hx).mp t)⟩
theorem pm_Lc {post : Int32 → Prop} {K : Nat} (h : pm_L p q r F g A B D (f0, f1, f2, a1, a2, a3, a4, a5, a6, a7, a8, a9, a10, a11)) (hN : pm_N p q r g A B D K) (hp : post (nI K)) : wpX_contents post (f0, f1, f2, a1, a2, a3, a4, a5, a6, a7, a8, a9, a10, a11) := by
  obtain ⟨F4, hF, _, hs, hI, hG⟩ := h
  refine pm_cont hI hF ?_
  have t : pm_cn (fun x => a1 x ≠ 0 ∧ ¬ pm_rp a1 (pm_C p q r A B D) x) 24 = K :=
    (pm_cnG (fun x hx => ⟨fun z => ⟨(pm_hdG hG hx).mp z.1, fun t => z.2 ((pm_rpG hG hx).mpr t)⟩, fun z => ⟨(pm_hdG hG hx).mpr z.1, fun t => z.2 ((pm_rpG hG hx).mp t)⟩⟩)).trans hN
  rw [t]
  exact hp
theorem pm_Ld {post : Int32 → Prop} {K M : Nat} (h : pm_L p q r F g A B D (f0, f1, f2, a1, a2, a3, a4, a5, a6, a7, a8, a9, a10, a11)) (hN : pm_N p q r g A B D K) (hM : pm_cn (fun x => ¬ (x = p ∧ g)) 24 = K + M) (hp : post (nI M)) : wpX_duplicates post (f0, f1, f2, a1, a2, a3, a4, a5, a6, a7, a8, a9, a10, a11) := by
  obtain ⟨F4, hF, _, hs, hI, hG⟩ := h
  refine pm_dup hI hF ?_
  have s := pm_cnS (fun x => ¬ (x = p ∧ g)) (fun x => ∃ y, y < x ∧ ¬ (y = p ∧ g) ∧ pm_e (pm_C p q r A B D y) (pm_C p q r A B D x)) 24
  have t : pm_cn (fun x => a1 x ≠ 0 ∧ pm_rp a1 (pm_C p q r A B D) x) 24 = pm_cn (fun x => ¬ (x = p ∧ g) ∧ ∃ y, y < x ∧ ¬ (y = p ∧ g) ∧ pm_e (pm_C p q r A B D y) (pm_C p q r A B D x)) 24 :=
    pm_cnG (fun x hx => ⟨fun z => ⟨(pm_hdG hG hx).mp z.1, (pm_rpG hG hx).mp z.2⟩, fun z => ⟨(pm_hdG hG hx).mpr z.1, (pm_rpG hG hx).mpr z.2⟩⟩)
  have e : pm_cn (fun x => a1 x ≠ 0 ∧ pm_rp a1 (pm_C p q r A B D) x) 24 = M := by
    unfold pm_N at hN
    omega
  rw [e]
  exact hp
theorem pm_h24 : pm_cn (fun x => ¬ (x = p ∧ False)) 24 = 24 := pm_cnA (fun _ _ z => z.2)
theorem pm_h23 (hd : pm_D p q r) : pm_cn (fun x => ¬ (x = p ∧ True)) 24 = 23 :=
  (pm_cnG (fun x _ => ⟨fun z t => z ⟨t, trivial⟩, fun z t => z t.1⟩)).trans (pm_c23 (n := 23) hd.1)
theorem pm_Lpl {post : Int32 → Prop} {K : Nat} (h : pm_L p q r F g A B D (f0, f1, f2, a1, a2, a3, a4, a5, a6, a7, a8, a9, a10, a11)) (hN : pm_cn (fun x => ¬ (x = p ∧ g) ∧ ∀ w, w < 4 → pm_C p q r A B D x w = pm_C p q r A B D x 0) 24 = K) (hp : post (nI K)) : wpX_plain post (f0, f1, f2, a1, a2, a3, a4, a5, a6, a7, a8, a9, a10, a11) := by
  obtain ⟨F4, hF, _, hs, hI, hG⟩ := h
  refine pm_plain hI hF ?_
  have t : pm_cn (fun x => a1 x ≠ 0 ∧ ∀ w, w < 4 → pm_C p q r A B D x w = pm_C p q r A B D x 0) 24 = K :=
    (pm_cnG (fun x hx => ⟨fun z => ⟨(pm_hdG hG hx).mp z.1, z.2⟩, fun z => ⟨(pm_hdG hG hx).mpr z.1, z.2⟩⟩)).trans hN
  rw [t]
  exact hp
theorem pm_Lsu {post : Int32 → Prop} {i : Nat} (hi : i < 3) (h : pm_L p q r F g A B D (f0, f1, f2, a1, a2, a3, a4, a5, a6, a7, a8, a9, a10, a11)) (hp : post (pm_tot (pm_C p q r A B D) (i * 8) 8)) : wpX_sum post (f0, f1, f2, a1, a2, a3, a4, a5, a6, a7, a8, a9, a10, a11) (nI i) := by
  obtain ⟨F4, hF, _, hs, hI, hG⟩ := h
  exact pm_sum hI hF hi hp
/-! the numbers, stage by stage -/
theorem pm_N1 {v : Int32} (hd : pm_D p q r) : pm_N p q r False (pm_V v) (fun _ => 0) (fun _ => 0) 2 :=
  pm_cnt hd (K := 2) (lp := 1) (lq := 0) (lr := 0) (Z := pm_Z (pm_V v) (pm_V v)) (by omega) (by omega) (by omega) (by omega) (pm_eR _) (pm_eR _) (pm_eR _) (pm_eR _) (pm_Z2 pm_V0) (fun x ne z => ne z.1)
    (fun k hk => by
      by_cases e : k = 0
      · exact Or.inl e
      · exact Or.inr (Or.inl ⟨by omega, fun z => z.2⟩))
theorem pm_N2 {v : Int32} (hd : pm_D p q r) : pm_N p q r False (pm_V v) (pm_V v) (pm_V v) 2 :=
  pm_cnt hd (K := 2) (lp := 1) (lq := 1) (lr := 1) (Z := pm_Z (pm_V v) (pm_V v)) (by omega) (by omega) (by omega) (by omega) (pm_eR _) (pm_eR _) (pm_eR _) (pm_eR _) (pm_Z2 pm_V0) (fun x ne z => ne z.1)
    (fun k hk => by omega)
theorem pm_N3 {v u : Int32} {k : Nat} (hd : pm_D p q r) (hk : k < 4) (hu : u ≠ v + nI k) : pm_N p q r False (pm_V v) (upd (pm_V v) k u) (pm_V v) 3 :=
  pm_cnt hd (K := 3) (lp := 1) (lq := 2) (lr := 1) (Z := pm_Z (pm_V v) (upd (pm_V v) k u)) (by omega) (by omega) (by omega) (by omega) (pm_eR _) (pm_eR _) (pm_eR _) (pm_eR _) (pm_Z3 pm_V0 pm_W0 (pm_VW hk hu)) (fun x ne z => ne z.1)
    (fun k hk => by omega)
theorem pm_N4 {v u : Int32} {k : Nat} (hd : pm_D p q r) (hk : k < 4) (hu : u ≠ v + nI k) : pm_N p q r True (fun _ => 0) (upd (pm_V v) k u) (pm_V v) 3 :=
  pm_cnt hd (K := 3) (lp := 0) (lq := 2) (lr := 1) (Z := pm_Z (pm_V v) (upd (pm_V v) k u)) (by omega) (by omega) (by omega) (by omega) (pm_eR _) (pm_eR _) (pm_eR _) (pm_eR _) (pm_Z3 pm_V0 pm_W0 (pm_VW hk hu)) (fun x ne z => ne z.1)
    (fun k hk => by omega)
theorem pm_N4e {v : Int32} (hd : pm_D p q r) : pm_N p q r True (fun _ => 0) (pm_V v) (pm_V v) 2 :=
  pm_cnt hd (K := 2) (lp := 0) (lq := 1) (lr := 1) (Z := pm_Z (pm_V v) (pm_V v)) (by omega) (by omega) (by omega) (by omega) (pm_eR _) (pm_eR _) (pm_eR _) (pm_eR _) (pm_Z2 pm_V0) (fun x ne z => ne z.1)
    (fun k hk => by omega)
theorem pm_N5 {u : Int32} (hd : pm_D p q r) (hu : u ≠ 0) : pm_N p q r False (fun _ => 0) (fun _ => 0) (fun _ => u) 2 :=
  pm_cnt hd (K := 2) (lp := 0) (lq := 0) (lr := 1) (Z := pm_Z (fun _ => u) (fun _ => u)) (by omega) (by omega) (by omega) (by omega) (pm_eR _) (pm_eR _) (pm_eR _) (pm_eR _) (pm_Z2 (fun z => hu (z 0 (by omega)).symm)) (fun x ne z => ne z.1)
    (fun k hk => by omega)
theorem pm_N5e (hd : pm_D p q r) : pm_N p q r False (fun _ => 0) (fun _ => 0) (fun _ => 0) 1 :=
  pm_cnt hd (K := 1) (lp := 0) (lq := 0) (lr := 0) (Z := pm_Z (fun _ => 0) (fun _ => 0)) (by omega) (by omega) (by omega) (by omega) (pm_eR _) (pm_eR _) (pm_eR _) (pm_eR _) pm_Z1 (fun x ne z => ne z.1)
    (fun k hk => by omega)
theorem pm_P1 {v : Int32} (hd : pm_D p q r) : pm_cn (fun x => ¬ (x = p ∧ False) ∧ ∀ w, w < 4 → pm_C p q r (pm_V v) (fun _ => 0) (fun _ => 0) x w = pm_C p q r (pm_V v) (fun _ => 0) (fun _ => 0) x 0) 24 = 23 := by
  refine (pm_cnG (fun x _ => ?_)).trans (pm_c23 (n := 23) hd.1)
  refine ⟨fun z e => ?_, fun ne => ⟨fun z => z.2, fun w _ => ?_⟩⟩
  · have t := z.2 1 (by omega)
    rw [e, pm_Cp] at t
    exact absurd (pm_Vi (by omega) (by omega) t) (by omega)
  · have c : ∀ x, x ≠ p → pm_C p q r (pm_V v) (fun _ => 0) (fun _ => 0) x = fun _ => 0 :=
      pm_C4 hd (fun z => absurd rfl z) (fun _ => pm_Cq hd) (fun _ => pm_Cr hd) (fun x n1 n2 n3 _ => pm_Co n1 n2 n3)
    rw [c x ne]
theorem pm_P5 {u : Int32} (hd : pm_D p q r) : pm_cn (fun x => ¬ (x = p ∧ False) ∧ ∀ w, w < 4 → pm_C p q r (fun _ => 0) (fun _ => 0) (fun _ => u) x w = pm_C p q r (fun _ => 0) (fun _ => 0) (fun _ => u) x 0) 24 = 24 := by
  refine pm_cnA (fun x _ => ⟨fun z => z.2, fun w _ => ?_⟩)
  have c : ∀ x, pm_C p q r (fun _ => 0) (fun _ => 0) (fun _ => u) x w = pm_C p q r (fun _ => 0) (fun _ => 0) (fun _ => u) x 0 :=
    pm_C4 hd (by rw [pm_Cp]) (by rw [pm_Cq hd]) (by rw [pm_Cr hd]) (fun x n1 n2 n3 => by rw [pm_Co n1 n2 n3])
  exact c x
end WRAP
end
section
/-! the law, from its end to its head -/
theorem pm_d8 {x : Nat} (hx : x < 24) : nI x / 8 = nI (x / 8) := by
  rw [show (8 : Int32) = nI 8 from rfl, pk_div (by omega) (by omega) (by omega)]
section LAW
variable {post : Int32 → St0 → Prop} {mc ms kc ks p q r F k : Nat} {g : Prop} {A B D : Nat → Int32} {v u how x0 : Int32} {f0 f1 f2 : Int32} {a1 a2 a3 a4 a5 a6 a7 a8 a9 a10 a11 : Nat → Int32}
theorem pm_Lspq {pst : Int32 → Prop} (hd : pm_D p q r) (h : pm_L p q r F g A B D (f0, f1, f2, a1, a2, a3, a4, a5, a6, a7, a8, a9, a10, a11)) (h1 : pm_e A B → pst 1) (h0 : ¬ pm_e A B → pst 0) : wpX_same pst (f0, f1, f2, a1, a2, a3, a4, a5, a6, a7, a8, a9, a10, a11) (nI p) (nI q) := by
  have e : (∀ w, w < 4 → pm_C p q r A B D p w = pm_C p q r A B D q w) ↔ pm_e A B := by rw [pm_Cp, pm_Cq hd]; exact Iff.rfl
  exact pm_same h hd.1 hd.2.1 (fun z => h1 (e.mp z)) (fun z => h0 (fun t => z (e.mpr t)))
theorem pm_Lspr {pst : Int32 → Prop} (hd : pm_D p q r) (h : pm_L p q r F g A B D (f0, f1, f2, a1, a2, a3, a4, a5, a6, a7, a8, a9, a10, a11)) (h1 : pm_e A D → pst 1) (h0 : ¬ pm_e A D → pst 0) : wpX_same pst (f0, f1, f2, a1, a2, a3, a4, a5, a6, a7, a8, a9, a10, a11) (nI p) (nI r) := by
  have e : (∀ w, w < 4 → pm_C p q r A B D p w = pm_C p q r A B D r w) ↔ pm_e A D := by rw [pm_Cp, pm_Cr hd]; exact Iff.rfl
  exact pm_same h hd.1 hd.2.2.1 (fun z => h1 (e.mp z)) (fun z => h0 (fun t => z (e.mpr t)))
theorem pm_672 {z0 z1 : Int32} (hd : pm_D p q r) (hp : post 1 ()) (hz : z1 = z0) (h : pm_L p q r F False (fun _ => 0) (fun _ => 0) (fun _ => u) (f0, f1, f2, a1, a2, a3, a4, a5, a6, a7, a8, a9, a10, a11)) : wL_lawOf_672 post mc ms u (nI r) z0 z1 kc ks f0 f1 f2 a1 a2 a3 a4 a5 a6 a7 a8 a9 a10 a11 := by
  have r24 := hd.2.2.1
  refine br_t hz ⟨by decide, ?_⟩
  rw [pm_d8 r24]
  refine pm_Lsu (by omega) h (br_t ?_ hp)
  rw [pm_due hd, if_pos rfl, pm_s4u u, show pm_s4 (fun _ => (0 : Int32)) = 0 from rfl, ite_self, ite_self, Int32.zero_add, Int32.add_zero]
theorem pm_505 {z0 z1 : Int32} (hd : pm_D p q r) (hp : post 1 ()) (hk : k < 4) (hz : z1 = z0) (h : pm_L p q r F True (fun _ => 0) B (pm_V v) (f0, f1, f2, a1, a2, a3, a4, a5, a6, a7, a8, a9, a10, a11)) : wL_lawOf_505 post mc ms v u (nI p) (nI q) (nI r) (nI k) z0 z1 kc ks f0 f1 f2 a1 a2 a3 a4 a5 a6 a7 a8 a9 a10 a11 := by
  obtain ⟨x1, x2, k1, k2, n1, n2⟩ := pm_xor k hk
  refine br_t hz (pm_Lwp hd h hk (fun (f0_1 f1_1 f2_1 : Int32) (a1_1 a2_1 a3_1 a4_1 a5_1 a6_1 a7_1 a8_1 a9_1 a10_1 a11_1 : Nat → Int32) h1 => br_t rfl (pm_held h1 hd.1 (fun _ => br_f (by decide) ?_) (fun z => z.2.elim))))
  rw [x1]
  refine pm_Lrp hd h1 k1 (fun (f0_2 f1_2 f2_2 : Int32) (a1_2 a2_2 a3_2 a4_2 a5_2 a6_2 a7_2 a8_2 a9_2 a10_2 a11_2 : Nat → Int32) h2 => br_t (pk_un n1) (pm_Lsw hd h2 (fun (f0_3 f1_3 f2_3 : Int32) (a1_3 a2_3 a3_3 a4_3 a5_3 a6_3 a7_3 a8_3 a9_3 a10_3 a11_3 : Nat → Int32) h3 => br_t rfl (pm_Lrp hd h3 hk (fun (f0_4 f1_4 f2_4 : Int32) (a1_4 a2_4 a3_4 a4_4 a5_4 a6_4 a7_4 a8_4 a9_4 a10_4 a11_4 : Nat → Int32) h4 => br_t rfl (pm_Lrr hd h4 hk (fun (f0_5 f1_5 f2_5 : Int32) (a1_5 a2_5 a3_5 a4_5 a5_5 a6_5 a7_5 a8_5 a9_5 a10_5 a11_5 : Nat → Int32) h5 => br_t pk_us ?_)))))))
  rw [x2]
  refine pm_Lrr hd h5 k2 (fun (f0_6 f1_6 f2_6 : Int32) (a1_6 a2_6 a3_6 a4_6 a5_6 a6_6 a7_6 a8_6 a9_6 a10_6 a11_6 : Nat → Int32) h6 => br_t (pk_un n2) (pm_scan h6 (fun (f0_7 f1_7 f2_7 : Int32) (a1_7 a2_7 a3_7 a4_7 a5_7 a6_7 a7_7 a8_7 a9_7 a10_7 a11_7 : Nat → Int32) h7 => pm_Lfq hd h7 (fun (f0_8 f1_8 f2_8 : Int32) (a1_8 a2_8 a3_8 a4_8 a5_8 a6_8 a7_8 a8_8 a9_8 a10_8 a11_8 : Nat → Int32) h8 => br_t rfl (pm_Lfp hd h8 (fun (f0_9 f1_9 f2_9 : Int32) (a1_9 a2_9 a3_9 a4_9 a5_9 a6_9 a7_9 a8_9 a9_9 a10_9 a11_9 : Nat → Int32) h9 => br_t rfl (pm_Lfr hd h9 (fun (f0_10 f1_10 f2_10 : Int32) (a1_10 a2_10 a3_10 a4_10 a5_10 a6_10 a7_10 a8_10 a9_10 a10_10 a11_10 : Nat → Int32) h10 => br_t rfl (pm_Lpl h10 (pm_P5 hd) (br_t rfl ?_))))))))))
  by_cases e : u = 0
  · subst e
    exact pm_Lc h10 (pm_N5e hd) (br_t rfl (pm_672 hd hp rfl h10))
  · exact pm_Lc h10 (pm_N5 hd e) (br_f e (pm_672 hd hp rfl h10))
theorem pm_393 {J : Int32 → Prop} {x10 x11 z0 z1 : Int32} {i : Nat} (hi : i < 3) (h : pm_L p q r F g A B D (f0, f1, f2, a1, a2, a3, a4, a5, a6, a7, a8, a9, a10, a11)) (e : pm_tot (pm_C p q r A B D) (i * 8) 8 = z1 + z0) (hJ : J (nI (i + 1))) :
    wL_lawOf_393 post mc ms J v u how (nI p) (nI q) (nI r) (nI k) x10 x11 (nI i) z0 z1 kc ks f0 f1 f2 a1 a2 a3 a4 a5 a6 a7 a8 a9 a10 a11 :=
  nm_e (pm_Lsu hi h (br_t e (nm_r (nI_1 i) hJ)))
theorem pm_369 {J : Int32 → Prop} {x10 x11 z0 z1 : Int32} {i : Nat} (hd : pm_D p q r) (hi : i < 3) (h : pm_L p q r F g A B D (f0, f1, f2, a1, a2, a3, a4, a5, a6, a7, a8, a9, a10, a11))
    (e : pm_tot (pm_C p q r A B D) (i * 8) 8 = (z1 + z0) + (if q / 8 = i then ((x11 - v) - nI k) + u else 0)) (hJ : J (nI (i + 1))) :
    wL_lawOf_369 post mc ms J v u how (nI p) (nI q) (nI r) (nI k) x10 x11 (nI i) z0 z1 kc ks f0 f1 f2 a1 a2 a3 a4 a5 a6 a7 a8 a9 a10 a11 := by
  have q24 := hd.2.1
  refine ⟨by decide, ?_⟩
  rw [pm_d8 q24]
  exact pk_eq (q / 8) i (fun c => pm_393 hi h (by rw [e, if_pos c]) hJ) (fun c => pm_393 hi h (by rw [e, if_neg c]) hJ)
theorem pm_353 {J : Int32 → Prop} {x10 x11 z0 : Int32} {i : Nat} (hd : pm_D p q r) (hi : i < 3) (h : pm_L p q r F g A B D (f0, f1, f2, a1, a2, a3, a4, a5, a6, a7, a8, a9, a10, a11))
    (e : pm_tot (pm_C p q r A B D) (i * 8) 8 = (z0 + (if r / 8 = i then x11 else 0)) + (if q / 8 = i then ((x11 - v) - nI k) + u else 0)) (hJ : J (nI (i + 1))) :
    wL_lawOf_353 post mc ms J v u how (nI p) (nI q) (nI r) (nI k) x10 x11 (nI i) z0 kc ks f0 f1 f2 a1 a2 a3 a4 a5 a6 a7 a8 a9 a10 a11 := by
  have r24 := hd.2.2.1
  refine ⟨by decide, ?_⟩
  rw [pm_d8 r24]
  exact pk_eq (r / 8) i (fun c => pm_369 hd hi h (by rw [e, if_pos c]) hJ) (fun c => pm_369 hd hi h (by rw [e, if_neg c]) hJ)
theorem pm_331x {x10 x11 : Int32} {K n : Nat} (hd : pm_D p q r) (hp : post 1 ()) (hk : k < 4) (hx : (x10 = 0 ∧ K = 2) ∨ (x10 ≠ 0 ∧ K = 3)) (hN : pm_N p q r True (fun _ => 0) (upd (pm_V v) k u) (pm_V v) K)
    (h : pm_L p q r F False (pm_V v) (upd (pm_V v) k u) (pm_V v) (f0, f1, f2, a1, a2, a3, a4, a5, a6, a7, a8, a9, a10, a11)) : wL_lawOf_331 post mc ms v u how (nI p) (nI q) (nI r) (nI k) x10 x11 kc ks f0 f1 f2 a1 a2 a3 a4 a5 a6 a7 a8 a9 a10 a11 (n + 1) (nI 3) := by
  have hK : K ≤ 3 := by
    rcases hx with ⟨_, e⟩ | ⟨_, e⟩
    · omega
    · omega
  refine pk_le 3 3 (fun _ => pm_scan h (fun (f0_1 f1_1 f2_1 : Int32) (a1_1 a2_1 a3_1 a4_1 a5_1 a6_1 a7_1 a8_1 a9_1 a10_1 a11_1 : Nat → Int32) h1 => pm_Lre hd h1 (fun (f0_2 f1_2 f2_2 : Int32) (a1_2 a2_2 a3_2 a4_2 a5_2 a6_2 a7_2 a8_2 a9_2 a10_2 a11_2 : Nat → Int32) h2 => br_t rfl (pm_held h2 hd.1 (fun z => absurd ⟨rfl, trivial⟩ z) (fun _ => br_t rfl (pm_Lrp hd h2 hk (fun (f0_3 f1_3 f2_3 : Int32) (a1_3 a2_3 a3_3 a4_3 a5_3 a6_3 a7_3 a8_3 a9_3 a10_3 a11_3 : Nat → Int32) h3 => br_t rfl (pm_Lrr hd h3 hk (fun (f0_4 f1_4 f2_4 : Int32) (a1_4 a2_4 a3_4 a4_4 a5_4 a6_4 a7_4 a8_4 a9_4 a10_4 a11_4 : Nat → Int32) h4 => br_t rfl ?_))))))))) (fun z => absurd z (by omega))
  refine pm_Lc h4 hN (pm_Ld (M := 23 - K) h4 hN (by rw [pm_h23 hd]; omega) (br_t (by rw [nI_add, show K + (23 - K) = 23 by omega]; rfl) (pm_Lc h4 hN ?_)))
  rcases hx with ⟨e, ek⟩ | ⟨e, ek⟩
  · exact br_t e (pm_505 hd hp hk (by rw [ek]; rfl) h4)
  · exact br_f e (pm_505 hd hp hk (by rw [ek]; rfl) h4)
theorem pm_331 {x10 : Int32} {K : Nat} (hd : pm_D p q r) (hp : post 1 ()) (hk : k < 4) (hx : (x10 = 0 ∧ K = 2) ∨ (x10 ≠ 0 ∧ K = 3)) (hN : pm_N p q r True (fun _ => 0) (upd (pm_V v) k u) (pm_V v) K)
    (h : pm_L p q r F False (pm_V v) (upd (pm_V v) k u) (pm_V v) (f0, f1, f2, a1, a2, a3, a4, a5, a6, a7, a8, a9, a10, a11)) : ∃ n, wL_lawOf_331 post mc ms v u how (nI p) (nI q) (nI r) (nI k) x10 (4 * v + 6) kc ks f0 f1 f2 a1 a2 a3 a4 a5 a6 a7 a8 a9 a10 a11 n 0 := by
  have p24 := hd.1
  refine pk_loop (σ := Unit) (fun n i _ => wL_lawOf_331 post mc ms v u how (nI p) (nI q) (nI r) (nI k) x10 (4 * v + 6) kc ks f0 f1 f2 a1 a2 a3 a4 a5 a6 a7 a8 a9 a10 a11 n (nI i)) (fun _ _ => True) 3 0 () (by omega) trivial
    (fun n _ _ => pm_331x hd hp hk hx hN h) (fun n i _ hi _ hw => pk_le 3 i (fun z => absurd z (by omega)) (fun _ => ⟨by decide, ?_⟩))
  have t : wL_lawOf_331 post mc ms v u how (nI p) (nI q) (nI r) (nI k) x10 (4 * v + 6) kc ks f0 f1 f2 a1 a2 a3 a4 a5 a6 a7 a8 a9 a10 a11 n (nI (i + 1)) := hw () trivial
  have e := pm_due (A := pm_V v) (B := upd (pm_V v) k u) (D := pm_V v) hd i
  rw [pm_s4V, pm_s4W v u hk] at e
  rw [pm_d8 p24]
  exact pk_eq (p / 8) i (fun c => pm_353 hd hi h (by rw [e, if_pos c]) t) (fun c => pm_353 hd hi h (by rw [e, if_neg c]) t)
theorem pm_272 {z : Int32} (hd : pm_D p q r) (hp : post 1 ()) (hk : k < 4) (hc : (z = 0 ∧ u = v + nI k) ∨ (z = 1 ∧ u ≠ v + nI k))
    (h : pm_L p q r F False (pm_V v) (upd (pm_V v) k u) (pm_V v) (f0, f1, f2, a1, a2, a3, a4, a5, a6, a7, a8, a9, a10, a11)) : wL_lawOf_272 post mc ms v u how (nI p) (nI q) (nI r) (nI k) z kc ks f0 f1 f2 a1 a2 a3 a4 a5 a6 a7 a8 a9 a10 a11 := by
  unfold wL_lawOf_272
  rcases hc with ⟨ez, e⟩ | ⟨ez, e⟩
  · subst ez
    have eV := pm_VWe e
    have n3 : pm_N p q r False (pm_V v) (upd (pm_V v) k u) (pm_V v) 2 := by rw [eV]; exact pm_N2 hd
    have n4 : pm_N p q r True (fun _ => 0) (upd (pm_V v) k u) (pm_V v) 2 := by rw [eV]; exact pm_N4e hd
    exact pm_Lspq hd h (fun _ => br_f (by decide) (pm_Lspr hd h (fun _ => br_f (by decide) (pm_Lc h n3 (br_t rfl (br_t rfl (nm_e (pm_331 hd hp hk (Or.inl ⟨rfl, rfl⟩) n4 h)))))) (fun t => absurd (pm_eR _) t))) (fun t => absurd (by rw [eV]; exact pm_eR _) t)
  · subst ez
    exact pm_Lspq hd h (fun t => absurd t (pm_VW hk e)) (fun _ => br_f (by decide) (pm_Lspr hd h (fun _ => br_f (by decide) (pm_Lc h (pm_N3 hd hk e) (br_f (by decide) (br_t rfl (nm_e (pm_331 hd hp hk (Or.inr ⟨by decide, rfl⟩) (pm_N4 hd hk e) h)))))) (fun t => absurd (pm_eR _) t)))
theorem pm_64x {n : Nat} (hd : pm_D p q r) (hp : post 1 ()) (h : pm_L p q r F False (pm_V v) (fun _ => 0) (fun _ => 0) (f0, f1, f2, a1, a2, a3, a4, a5, a6, a7, a8, a9, a10, a11)) : wL_lawOf_64 post mc ms x0 v u how (nI p) (nI q) (nI r) kc ks (n + 1) (nI 4) f0 f1 f2 a1 a2 a3 a4 a5 a6 a7 a8 a9 a10 a11 := by
  obtain ⟨k, hk', ek⟩ := pk_andE how (m := 3) 2 (by decide)
  have hk : k < 4 := hk'
  refine pk_le 4 4 (fun _ => pm_Lc h (pm_N1 hd) (br_t rfl (pm_Ld (M := 22) h (pm_N1 hd) pm_h24 (br_t rfl (pm_Lpl h (pm_P1 hd) (br_t rfl (pm_scan h (fun (f0_1 f1_1 f2_1 : Int32) (a1_1 a2_1 a3_1 a4_1 a5_1 a6_1 a7_1 a8_1 a9_1 a10_1 a11_1 : Nat → Int32) h1 => pm_Lpq hd h1 (fun (f0_2 f1_2 f2_2 : Int32) (a1_2 a2_2 a3_2 a4_2 a5_2 a6_2 a7_2 a8_2 a9_2 a10_2 a11_2 : Nat → Int32) h2 => br_t rfl (pm_Lqr hd h2 (fun (f0_3 f1_3 f2_3 : Int32) (a1_3 a2_3 a3_3 a4_3 a5_3 a6_3 a7_3 a8_3 a9_3 a10_3 a11_3 : Nat → Int32) h3 => br_t rfl (pm_Lspr hd h3 (fun _ => br_f (by decide) ?_) (fun z => absurd (pm_eR _) z))))))))))))) (fun z => absurd z (by omega))
  refine pm_Lc h3 (pm_N2 hd) (br_t rfl (pm_Ld (M := 22) h3 (pm_N2 hd) pm_h24 (br_t rfl (pm_scan h3 (fun (f0_4 f1_4 f2_4 : Int32) (a1_4 a2_4 a3_4 a4_4 a5_4 a6_4 a7_4 a8_4 a9_4 a10_4 a11_4 : Nat → Int32) h4 => pm_scan h4 (fun (f0_5 f1_5 f2_5 : Int32) (a1_5 a2_5 a3_5 a4_5 a5_5 a6_5 a7_5 a8_5 a9_5 a10_5 a11_5 : Nat → Int32) h5 => nm_r ek (pm_Lwq hd h5 hk (fun (f0_6 f1_6 f2_6 : Int32) (a1_6 a2_6 a3_6 a4_6 a5_6 a6_6 a7_6 a8_6 a9_6 a10_6 a11_6 : Nat → Int32) h6 => br_t rfl (pm_Lrp hd h6 hk (fun (f0_7 f1_7 f2_7 : Int32) (a1_7 a2_7 a3_7 a4_7 a5_7 a6_7 a7_7 a8_7 a9_7 a10_7 a11_7 : Nat → Int32) h7 => br_t rfl (pm_Lrr hd h7 hk (fun (f0_8 f1_8 f2_8 : Int32) (a1_8 a2_8 a3_8 a4_8 a5_8 a6_8 a7_8 a8_8 a9_8 a10_8 a11_8 : Nat → Int32) h8 => br_t rfl (br_c (fun e => pm_272 hd hp hk (Or.inl ⟨rfl, e⟩) h8) (fun e => pm_272 hd hp hk (Or.inr ⟨rfl, e⟩) h8))))))))))))))
theorem pm_64 (hd : pm_D p q r) (hp : post 1 ()) (h : pm_L p q r F False (fun _ => 0) (fun _ => 0) (fun _ => 0) (f0, f1, f2, a1, a2, a3, a4, a5, a6, a7, a8, a9, a10, a11)) : ∃ n, wL_lawOf_64 post mc ms x0 v u how (nI p) (nI q) (nI r) kc ks n 0 f0 f1 f2 a1 a2 a3 a4 a5 a6 a7 a8 a9 a10 a11 := by
  refine pk_loop (σ := St2) (fun n i s => wL_lawOf_64 post mc ms x0 v u how (nI p) (nI q) (nI r) kc ks n (nI i) s.1 s.2.1 s.2.2.1 s.2.2.2.1 s.2.2.2.2.1 s.2.2.2.2.2.1 s.2.2.2.2.2.2.1 s.2.2.2.2.2.2.2.1 s.2.2.2.2.2.2.2.2.1 s.2.2.2.2.2.2.2.2.2.1 s.2.2.2.2.2.2.2.2.2.2.1 s.2.2.2.2.2.2.2.2.2.2.2.1 s.2.2.2.2.2.2.2.2.2.2.2.2.1 s.2.2.2.2.2.2.2.2.2.2.2.2.2) (fun i s => pm_L p q r F False (fun w => if w < i then v + nI w else 0) (fun _ => 0) (fun _ => 0) s) 4 0 (f0, f1, f2, a1, a2, a3, a4, a5, a6, a7, a8, a9, a10, a11) (by omega) (pm_Lcg h (fun w _ => if_neg (by omega)) (pm_eR _) (pm_eR _)) ?_ ?_
  · rintro n ⟨f0_1, f1_1, f2_1, a1_1, a2_1, a3_1, a4_1, a5_1, a6_1, a7_1, a8_1, a9_1, a10_1, a11_1⟩ h1
    exact pm_64x hd hp (pm_Lcg h1 (fun w hw => (if_pos hw).symm) (pm_eR _) (pm_eR _))
  · rintro n i ⟨f0_1, f1_1, f2_1, a1_1, a2_1, a3_1, a4_1, a5_1, a6_1, a7_1, a8_1, a9_1, a10_1, a11_1⟩ hi h1 hw
    have J : ∀ (f0_2 f1_2 f2_2 : Int32) (a1_2 a2_2 a3_2 a4_2 a5_2 a6_2 a7_2 a8_2 a9_2 a10_2 a11_2 : Nat → Int32), pm_L p q r F False (fun w => if w < i + 1 then v + nI w else 0) (fun _ => 0) (fun _ => 0) (f0_2, f1_2, f2_2, a1_2, a2_2, a3_2, a4_2, a5_2, a6_2, a7_2, a8_2, a9_2, a10_2, a11_2) → wL_lawOf_64 post mc ms x0 v u how (nI p) (nI q) (nI r) kc ks n (nI (i + 1)) f0_2 f1_2 f2_2 a1_2 a2_2 a3_2 a4_2 a5_2 a6_2 a7_2 a8_2 a9_2 a10_2 a11_2 := fun (f0_2 f1_2 f2_2 : Int32) (a1_2 a2_2 a3_2 a4_2 a5_2 a6_2 a7_2 a8_2 a9_2 a10_2 a11_2 : Nat → Int32) h2 => hw (f0_2, f1_2, f2_2, a1_2, a2_2, a3_2, a4_2, a5_2, a6_2, a7_2, a8_2, a9_2, a10_2, a11_2) h2
    refine pk_le 4 i (fun z => absurd z (by omega)) (fun _ => pm_Lwp hd h1 hi (fun (f0_2 f1_2 f2_2 : Int32) (a1_2 a2_2 a3_2 a4_2 a5_2 a6_2 a7_2 a8_2 a9_2 a10_2 a11_2 : Nat → Int32) h2 => br_t (if_neg (by omega)) (nm_r (nI_1 i) (J _ _ _ _ _ _ _ _ _ _ _ _ _ _ (pm_Lcg h2 (fun w _ => ?_) (pm_eR _) (pm_eR _))))))
    by_cases e : w = i
    · subst e
      rw [pk_us, if_pos (by omega)]
    · rw [pk_un e]
      by_cases c : w < i
      · rw [if_pos c, if_pos (by omega)]
      · rw [if_neg c, if_neg (by omega)]
end LAW
theorem pm_D3 (j k l : Nat) : pm_D (j % 24) ((j % 24 + 1 + k % 11) % 24) (((j % 24 + 1 + k % 11) % 24 + 1 + l % 11) % 24) := by
  unfold pm_D
  omega
theorem pm_lawOf {post : Int32 → St0 → Prop} {p0 p1 p2 p3 p4 : Int32} (hp : post 1 ()) : wpL_lawOf post 12 382 () p0 p1 p2 p3 p4 := by
  obtain ⟨j, hj, ej⟩ := pk_andE p1 (m := 255) 8 (by decide)
  obtain ⟨k, hk, ek⟩ := pk_andE (p1 >>> ((8 : Int32) &&& 31)) (m := 255) 8 (by decide)
  obtain ⟨l, hl, el⟩ := pk_andE (p1 >>> ((16 : Int32) &&& 31)) (m := 127) 7 (by decide)
  have hd := pm_D3 j k l
  have e6 : (p1 &&& 255) - (p1 &&& 255) / 24 * 24 = nI (j % 24) := by
    rw [ej]
    exact pk_rem (d := 24) (by omega) (by omega) (by omega)
  have e7 : ((nI (j % 24) + 1) + (((p1 >>> ((8 : Int32) &&& 31)) &&& 255) - ((p1 >>> ((8 : Int32) &&& 31)) &&& 255) / 11 * 11)) - ((nI (j % 24) + 1) + (((p1 >>> ((8 : Int32) &&& 31)) &&& 255) - ((p1 >>> ((8 : Int32) &&& 31)) &&& 255) / 11 * 11)) / 24 * 24 = nI ((j % 24 + 1 + k % 11) % 24) := by
    rw [ek, show nI k - nI k / 11 * 11 = nI (k % 11) from pk_rem (d := 11) (by omega) (by omega) (by omega), nI_1, nI_add]
    exact pk_rem (d := 24) (by omega) (by omega) (by omega)
  have e8 : ((nI ((j % 24 + 1 + k % 11) % 24) + 1) + (((p1 >>> ((16 : Int32) &&& 31)) &&& 127) - ((p1 >>> ((16 : Int32) &&& 31)) &&& 127) / 11 * 11)) - ((nI ((j % 24 + 1 + k % 11) % 24) + 1) + (((p1 >>> ((16 : Int32) &&& 31)) &&& 127) - ((p1 >>> ((16 : Int32) &&& 31)) &&& 127) / 11 * 11)) / 24 * 24 = nI (((j % 24 + 1 + k % 11) % 24 + 1 + l % 11) % 24) := by
    rw [el, show nI l - nI l / 11 * 11 = nI (l % 11) from pk_rem (d := 11) (by omega) (by omega) (by omega), nI_1, nI_add]
    exact pk_rem (d := 24) (by omega) (by omega) (by omega)
  refine ⟨by omega, by omega, 11, 368, by omega, by omega, pm_init (T := pm_T (j % 24) ((j % 24 + 1 + k % 11) % 24) (((j % 24 + 1 + k % 11) % 24 + 1 + l % 11) % 24)) rfl rfl (fun F (f0_1 f1_1 f2_1 : Int32) (a1_1 a2_1 a3_1 a4_1 a5_1 a6_1 a7_1 a8_1 a9_1 a10_1 a11_1 : Nat → Int32) h => ⟨by decide, nm_r e6 ⟨by decide, by decide, nm_r e7 ⟨by decide, by decide, nm_r e8 (pm_64 hd hp (pm_KG h (fun y _ w _ => ?_) (fun y _ => ⟨False.elim, fun z => z.2⟩)))⟩⟩⟩)⟩
  show (if y = _ then (0 : Int32) else if y = _ then 0 else if y = _ then 0 else 0) = 0
  rw [ite_self, ite_self, ite_self]
theorem pm_cell {post : Int32 → Prop} {L : Nat} {xs : Nat → Int32} (hL : L ≤ 5) (i : Nat) (hi : i < 5) (H : ∀ r, post r) : wpL_cellAt post L xs () (nI i) :=
  pk_le L i (fun _ => H 0) (fun z => ⟨vp_in_nI z (by omega), H _⟩)
end
section
theorem i_vc (xs : Nat → Int32) (L : Nat) (hL : L ≤ 5) : wpL_law (fun r => r = 1) L xs := by
  unfold wpL_law
  exact pm_cell hL 0 (by omega) (fun _ => pm_cell hL 1 (by omega) (fun _ => pm_cell hL 2 (by omega) (fun _ => pm_cell hL 3 (by omega) (fun _ => pm_cell hL 4 (by omega) (fun _ =>
    ⟨12, 382, by omega, by omega, pm_lawOf rfl⟩)))))
end
