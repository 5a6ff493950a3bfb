section
/-! part 01: small rows; the pk_ rows began as rows of kit/rows/PURE-ROWS -/
theorem pk_us {f : Nat → Int32} {k : Nat} {x : Int32} : upd f k x k = x := if_pos rfl
theorem pk_un {f : Nat → Int32} {k j : Nat} {x : Int32} (h : j ≠ k) : upd f k x j = f j := if_neg h
theorem pk_sub {a b : Nat} (h : b ≤ a) : nI a - nI b = nI (a - b) := by
  obtain ⟨c, rfl⟩ : ∃ c, a = c + b := ⟨a - b, by omega⟩
  rw [← nI_add, Int32.add_sub_cancel, Nat.add_sub_cancel]
theorem pk_m1 (n : Nat) : nI (n + 1) + (-1) = nI n := by
  rw [← nI_1, Int32.add_assoc, show (1 : Int32) + (-1) = 0 from rfl, Int32.add_zero]
theorem pk_ix (x : Int32) {n : Nat} (hn : n < 2 ^ 31) : x < 0 ∨ nI n ≤ x ∨ ∃ j : Nat, j < n ∧ x = nI j := by
  by_cases h : x < 0
  · exact Or.inl h
  · obtain ⟨j, hj, rfl⟩ := nI_of h
    by_cases h2 : j < n
    · exact Or.inr (Or.inr ⟨j, h2, rfl⟩)
    · exact Or.inr (Or.inl (nI_le (by omega) hj))
theorem pk_le {x y : Int32} {A B : Prop} (a b : Nat) (f : a ≤ b → A) (g : b < a → B) (hx : x = nI a := by rfl) (hy : y = nI b := by rfl) (ha : a < 2 ^ 31 := by omega) (hb : b < 2 ^ 31 := by omega) : (x ≤ y → A) ∧ (¬ x ≤ y → B) := by
  subst hx hy
  rw [nI_leI ha hb]
  exact ⟨f, fun z => g (by omega)⟩
theorem pk_lt {x y : Int32} {A B : Prop} (a b : Nat) (f : a < b → A) (g : b ≤ a → B) (hx : x = nI a := by rfl) (hy : y = nI b := by rfl) (ha : a < 2 ^ 31 := by omega) (hb : b < 2 ^ 31 := by omega) : (x < y → A) ∧ (¬ x < y → B) := by
  subst hx hy
  rw [nI_ltI ha hb]
  exact ⟨f, fun z => g (by omega)⟩
theorem pk_eq {x y : Int32} {A B : Prop} (a b : Nat) (f : a = b → A) (g : a ≠ b → B) (hx : x = nI a := by rfl) (hy : y = nI b := by rfl) (ha : a < 2 ^ 31 := by omega) (hb : b < 2 ^ 31 := by omega) : (x = y → A) ∧ (¬ x = y → B) := by
  subst hx hy
  rw [nI_eq ha hb]
  exact ⟨f, g⟩
/-- the number that an array holds -/
def rl_n (a : Nat → Int32) (x : Nat) : Nat := (a x).toNatClampNeg
theorem rl_nE {a : Nat → Int32} {x p : Nat} (h : a x = nI p) (hp : p < 2 ^ 31) : rl_n a x = p := by
  unfold rl_n; rw [h, nI_clamp hp]
theorem rl_c {n : Nat} (h : n < 64) : (nI n).toNatClampNeg = n := nI_clamp (by omega)
theorem rl_in {n N : Nat} (h : n < N) (hN : N < 64) : vp_in (nI n) N := vp_in_nI h (by omega)
theorem rl_inj {a b : Nat} (ha : a < 64) (hb : b < 64) (h : nI a = nI b) : a = b := (nI_eq (by omega) (by omega)).mp h
theorem rl_ne {a b : Nat} (ha : a < 64) (hb : b < 64) (h : a ≠ b) : ¬ nI a = nI b := fun e => h (rl_inj ha hb e)
theorem rl_m1 (n : Nat) : nI n + (-1) = nI n - 1 := by rw [Int32.sub_eq_add_neg]
/-- a count -/
noncomputable def rl_cn (S : Nat → Prop) : Nat → Nat
  | 0 => 0
  | n + 1 => rl_cn S n + @ite Nat (S n) (Classical.propDecidable _) 1 0
theorem rl_cn_t {S : Nat → Prop} {n : Nat} (h : S n) : rl_cn S (n + 1) = rl_cn S n + 1 := by
  show rl_cn S n + @ite Nat (S n) (Classical.propDecidable _) 1 0 = _
  rw [if_pos h]
theorem rl_cn_f {S : Nat → Prop} {n : Nat} (h : ¬ S n) : rl_cn S (n + 1) = rl_cn S n := by
  show rl_cn S n + @ite Nat (S n) (Classical.propDecidable _) 1 0 = _
  rw [if_neg h, Nat.add_zero]
theorem rl_cn_mono {S S' : Nat → Prop} : ∀ n, (∀ x, x < n → S x → S' x) → rl_cn S n ≤ rl_cn S' n := by
  intro n
  induction n with
  | zero => intro _; exact Nat.le_refl _
  | succ n ih =>
    intro h
    have i := ih (fun x hx => h x (by omega))
    by_cases hs : S n
    · rw [rl_cn_t hs, rl_cn_t (h n (by omega) hs)]; omega
    · rw [rl_cn_f hs]
      by_cases hs' : S' n
      · rw [rl_cn_t hs']; omega
      · rw [rl_cn_f hs']; exact i
theorem rl_cn_lt {S S' : Nat → Prop} {y : Nat} (hy : S' y) (hn : ¬ S y) : ∀ n, y < n → (∀ x, x < n → S x → S' x) → rl_cn S n < rl_cn S' n := by
  intro n
  induction n with
  | zero => intro h; omega
  | succ n ih =>
    intro hyn h
    by_cases e : y = n
    · subst e
      rw [rl_cn_t hy, rl_cn_f hn]
      have := rl_cn_mono (S := S) (S' := S') y (fun x hx => h x (by omega))
      omega
    · have i := ih (by omega) (fun x hx => h x (by omega))
      by_cases hs : S n
      · rw [rl_cn_t hs, rl_cn_t (h n (by omega) hs)]; omega
      · rw [rl_cn_f hs]
        by_cases hs' : S' n
        · rw [rl_cn_t hs']; omega
        · rw [rl_cn_f hs']; exact i
theorem rl_cn_all : ∀ n, rl_cn (fun _ => True) n = n := by
  intro n
  induction n with
  | zero => rfl
  | succ n ih => rw [rl_cn_t trivial, ih]
theorem rl_cn_ltn {S : Nat → Prop} {y n : Nat} (hn : ¬ S y) (h : y < n) : rl_cn S n < n := by
  have := rl_cn_lt (S := S) (S' := fun _ => True) trivial hn n h (fun _ _ _ => trivial)
  rw [rl_cn_all] at this
  exact this
end
section
/-! part 02: environments: ancestors, homes, the tree turned to its root -/
def rl_an (P : Nat → Nat) : Nat → Nat → Nat → Prop
  | 0, a, x => a = x
  | n + 1, a, x => x ≠ 0 ∧ rl_an P n a (P x)
/-- a is x or an ancestor of x -/
def rl_anc (P : Nat → Nat) (a x : Nat) : Prop := ∃ n, rl_an P n a x
theorem rl_anc_self (P : Nat → Nat) (x : Nat) : rl_anc P x x := ⟨0, rfl⟩
theorem rl_anc_iff (P : Nat → Nat) (a x : Nat) : rl_anc P a x ↔ a = x ∨ (x ≠ 0 ∧ rl_anc P a (P x)) := by
  constructor
  · rintro ⟨n, h⟩
    cases n with
    | zero => exact Or.inl h
    | succ n => exact Or.inr ⟨h.1, n, h.2⟩
  · rintro (h | ⟨h0, n, h⟩)
    · exact ⟨0, h⟩
    · exact ⟨n + 1, h0, h⟩
theorem rl_anc_up {P : Nat → Nat} : ∀ n y x, rl_an P n y x → y ≠ 0 → rl_anc P (P y) x := by
  intro n
  induction n with
  | zero =>
    intro y x h h0
    have e : y = x := h
    subst e
    exact (rl_anc_iff P _ _).mpr (Or.inr ⟨h0, rl_anc_self P _⟩)
  | succ n ih =>
    intro y x h h0
    exact (rl_anc_iff P _ _).mpr (Or.inr ⟨h.1, ih y (P x) h.2 h0⟩)
theorem rl_anc_par {P : Nat → Nat} {y x : Nat} (h : rl_anc P y x) (h0 : y ≠ 0) : rl_anc P (P y) x := by
  obtain ⟨n, h⟩ := h
  exact rl_anc_up n y x h h0
def rl_hm (P V : Nat → Nat) : Nat → Nat → Nat → Nat
  | 0, _, v => v
  | n + 1, x, v => if x = 0 then v else if V x = v then 8 + x else rl_hm P V n (P x) v
/-- the reference's home of v in x -/
def rl_ho (P V : Nat → Nat) (x v : Nat) : Nat := rl_hm P V 32 x v
theorem rl_hm_0 (P V : Nat → Nat) (n v : Nat) : rl_hm P V n 0 v = v := by
  cases n with
  | zero => rfl
  | succ n => exact if_pos rfl
theorem rl_ho_0 (P V : Nat → Nat) (v : Nat) : rl_ho P V 0 v = v := rl_hm_0 P V 32 v
/-- every parent lies below -/
def rl_dn (E : Nat) (P : Nat → Nat) : Prop := ∀ x, 0 < x → x < E → P x < x
section
variable {P V P' V' : Nat → Nat} {E : Nat}
theorem rl_anc_le (hP : rl_dn E P) : ∀ x, x < E → ∀ a, rl_anc P a x → a ≤ x := by
  intro x
  induction x using Nat.strongRecOn with
  | _ x ih =>
    intro hx a h
    rcases (rl_anc_iff P a x).mp h with h | ⟨h0, h⟩
    · omega
    · have hp := hP x (by omega) hx
      have := ih (P x) hp (by omega) a h
      omega
theorem rl_anc_0 (hP : rl_dn E P) : ∀ x, x < E → rl_anc P 0 x := by
  intro x
  induction x using Nat.strongRecOn with
  | _ x ih =>
    intro hx
    by_cases h0 : x = 0
    · subst h0; exact rl_anc_self P 0
    · have hp := hP x (by omega) hx
      exact (rl_anc_iff P 0 x).mpr (Or.inr ⟨h0, ih (P x) hp (by omega)⟩)
theorem rl_anc_congr (hP : rl_dn E P) (h : ∀ x, x < E → P' x = P x) (a : Nat) : ∀ x, x < E → (rl_anc P' a x ↔ rl_anc P a x) := by
  intro x
  induction x using Nat.strongRecOn with
  | _ x ih =>
    intro hx
    rw [rl_anc_iff P' a x, rl_anc_iff P a x]
    by_cases h0 : x = 0
    · subst h0
      constructor
      · rintro (e | ⟨n, _⟩)
        · exact Or.inl e
        · exact absurd rfl n
      · rintro (e | ⟨n, _⟩)
        · exact Or.inl e
        · exact absurd rfl n
    · have hp := hP x (by omega) hx
      rw [h x hx, ih (P x) hp (by omega)]
theorem rl_hm_fuel (hP : rl_dn E P) (v : Nat) : ∀ n m x, x < E → x ≤ n → x ≤ m → rl_hm P V n x v = rl_hm P V m x v := by
  intro n
  induction n with
  | zero =>
    intro m x hx h1 h2
    have e : x = 0 := by omega
    subst e
    rw [rl_hm_0, rl_hm_0]
  | succ n ih =>
    intro m x hx h1 h2
    cases m with
    | zero =>
      have e : x = 0 := by omega
      subst e
      rw [rl_hm_0, rl_hm_0]
    | succ m =>
      show (if x = 0 then v else if V x = v then 8 + x else rl_hm P V n (P x) v) = (if x = 0 then v else if V x = v then 8 + x else rl_hm P V m (P x) v)
      by_cases h0 : x = 0
      · rw [if_pos h0, if_pos h0]
      · have hp := hP x (by omega) hx
        rw [if_neg h0, if_neg h0, ih m (P x) (by omega) (by omega) (by omega)]
theorem rl_ho_eq {x v : Nat} (h0 : 0 < x) (hv : V x = v) : rl_ho P V x v = 8 + x := by
  show (if x = 0 then v else if V x = v then 8 + x else rl_hm P V 31 (P x) v) = _
  rw [if_neg (by omega), if_pos hv]
theorem rl_ho_ne {x v : Nat} (hP : rl_dn E P) (h32 : E ≤ 32) (h0 : 0 < x) (hx : x < E) (hv : V x ≠ v) : rl_ho P V x v = rl_ho P V (P x) v := by
  show (if x = 0 then v else if V x = v then 8 + x else rl_hm P V 31 (P x) v) = _
  have hp := hP x h0 hx
  rw [if_neg (by omega), if_neg hv]
  exact rl_hm_fuel hP v 31 32 (P x) (by omega) (by omega) (by omega)
theorem rl_ho_cases (hP : rl_dn E P) (h32 : E ≤ 32) (v : Nat) : ∀ x, x < E → rl_ho P V x v = v ∨ ∃ z, 0 < z ∧ z ≤ x ∧ V z = v ∧ rl_anc P z x ∧ rl_ho P V x v = 8 + z := by
  intro x
  induction x using Nat.strongRecOn with
  | _ x ih =>
    intro hx
    by_cases h0 : x = 0
    · subst h0; exact Or.inl (rl_ho_0 P V v)
    · by_cases hv : V x = v
      · exact Or.inr ⟨x, by omega, by omega, hv, rl_anc_self P x, rl_ho_eq (by omega) hv⟩
      · have hp := hP x (by omega) hx
        rw [rl_ho_ne hP h32 (by omega) hx hv]
        rcases ih (P x) hp (by omega) with h | ⟨z, z0, zx, zv, za, ze⟩
        · exact Or.inl h
        · exact Or.inr ⟨z, z0, by omega, zv, (rl_anc_iff P z x).mpr (Or.inr ⟨h0, za⟩), ze⟩
theorem rl_ho_ge (hP : rl_dn E P) (h32 : E ≤ 32) {y : Nat} (y0 : 0 < y) : ∀ r, r < E → rl_anc P y r → ∃ z, y ≤ z ∧ rl_ho P V r (V y) = 8 + z := by
  intro r
  induction r using Nat.strongRecOn with
  | _ r ih =>
    intro hr ha
    have hle := rl_anc_le hP r hr y ha
    by_cases hv : V r = V y
    · exact ⟨r, hle, rl_ho_eq (by omega) hv⟩
    · have hp := hP r (by omega) hr
      rw [rl_ho_ne hP h32 (by omega) hr hv]
      rcases (rl_anc_iff P y r).mp ha with e | ⟨_, ha⟩
      · subst e; exact absurd rfl hv
      · exact ih (P r) hp (by omega) ha
theorem rl_ho_lt (hP : rl_dn E P) (h32 : E ≤ 32) {x v : Nat} (hx : x < E) (hv : v < 8) : rl_ho P V x v < 8 + E ∧ (rl_ho P V x v < 8 ∨ 8 < rl_ho P V x v) := by
  rcases rl_ho_cases (V := V) hP h32 v x hx with h | ⟨z, z0, zx, _, _, ze⟩
  · omega
  · omega
theorem rl_ho_inj (hP : rl_dn E P) (h32 : E ≤ 32) {x y v w : Nat} (hx : x < E) (hy : y < E) (hv : v < 8) (hw : w < 8) (h : rl_ho P V x v = rl_ho P V y w) : v = w := by
  rcases rl_ho_cases (V := V) hP h32 v x hx with h1 | ⟨z, z0, zx, zv, _, ze⟩
  · rcases rl_ho_cases (V := V) hP h32 w y hy with h2 | ⟨z2, z20, _, _, _, ze2⟩
    · omega
    · omega
  · rcases rl_ho_cases (V := V) hP h32 w y hy with h2 | ⟨z2, z20, _, zv2, _, ze2⟩
    · omega
    · have e : z = z2 := by omega
      subst e; omega
theorem rl_ho_congr (hP : rl_dn E P) (h32 : E ≤ 32) (h : ∀ x, x < E → P' x = P x) (g : ∀ x, x < E → V' x = V x) (v : Nat) : ∀ x, x < E → rl_ho P' V' x v = rl_ho P V x v := by
  have hP' : rl_dn E P' := fun x h0 hx => by rw [h x hx]; exact hP x h0 hx
  intro x
  induction x using Nat.strongRecOn with
  | _ x ih =>
    intro hx
    by_cases h0 : x = 0
    · subst h0; rw [rl_ho_0, rl_ho_0]
    · by_cases hv : V x = v
      · rw [rl_ho_eq (P := P) (by omega) hv, rl_ho_eq (P := P') (by omega) (by rw [g x hx]; exact hv)]
      · have hp := hP x (by omega) hx
        rw [rl_ho_ne hP h32 (by omega) hx hv, rl_ho_ne hP' h32 (by omega) hx (by rw [g x hx]; exact hv), h x hx]
        exact ih (P x) hp (by omega)
end
/-- the environments' own facts -/
def rl_PF (E : Nat) (pO vO : Nat → Int32) : Prop := 1 ≤ E ∧ E ≤ 32 ∧ ∀ x, 0 < x → x < E → (∃ p, p < x ∧ pO x = nI p) ∧ ∃ w, w < 8 ∧ vO x = nI w
theorem rl_PF_dn {E : Nat} {pO vO : Nat → Int32} (h : rl_PF E pO vO) : rl_dn E (rl_n pO) := by
  intro x h0 hx
  obtain ⟨⟨p, hp, e⟩, _⟩ := h.2.2 x h0 hx
  have := h.2.1
  rw [rl_nE e (by omega)]; exact hp
theorem rl_PF_v {E : Nat} {pO vO : Nat → Int32} (h : rl_PF E pO vO) {x : Nat} (h0 : 0 < x) (hx : x < E) : rl_n vO x < 8 ∧ vO x = nI (rl_n vO x) := by
  obtain ⟨_, w, hw, e⟩ := h.2.2 x h0 hx
  rw [rl_nE e (by omega)]; exact ⟨hw, e⟩
theorem rl_PF_p {E : Nat} {pO vO : Nat → Int32} (h : rl_PF E pO vO) {x : Nat} (h0 : 0 < x) (hx : x < E) : rl_n pO x < x ∧ pO x = nI (rl_n pO x) := by
  obtain ⟨⟨p, hp, e⟩, _⟩ := h.2.2 x h0 hx
  have := h.2.1
  rw [rl_nE e (by omega)]; exact ⟨hp, e⟩
/-- the tree turned to the root r -/
def rl_TR (E r : Nat) (pO vO tw dV : Nat → Int32) : Prop := ∀ x, x < E → x ≠ r →
  (¬ rl_anc (rl_n pO) x r ∧ 0 < x ∧ tw x = nI (rl_n pO x) ∧ dV x = nI (rl_n vO x)) ∨
  (∃ y, 0 < y ∧ y < E ∧ rl_n pO y = x ∧ rl_anc (rl_n pO) y r ∧ tw x = nI y ∧ dV x = nI (rl_n vO y))
section
variable {E r e : Nat} {pO vO tw dV : Nat → Int32}
theorem rl_TR_turn (pf : rl_PF E pO vO) (hr : r < E) (he : e < E) (ner : e ≠ r) (h : rl_TR E r pO vO tw dV) (ht : tw e = nI r) : rl_TR E e pO vO (upd tw r (nI e)) (upd dV r (dV e)) := by
  have hP := rl_PF_dn pf
  have h32 := pf.2.1
  rcases h e he ner with ⟨na, h0, t1, d1⟩ | ⟨y, y0, yE, py, ay, t1, d1⟩
  · have hpe := hP e h0 he
    have hPe : rl_n pO e = r := rl_inj (by omega) (by omega) (t1.symm.trans ht)
    have key : ∀ x, rl_anc (rl_n pO) x e ↔ x = e ∨ rl_anc (rl_n pO) x r := by
      intro x
      rw [rl_anc_iff (rl_n pO) x e, hPe]
      constructor
      · rintro (a | ⟨_, a⟩)
        · exact Or.inl a
        · exact Or.inr a
      · rintro (a | a)
        · exact Or.inl a
        · exact Or.inr ⟨by omega, a⟩
    intro x hx hxe
    by_cases hxr : x = r
    · subst hxr
      exact Or.inr ⟨e, h0, he, hPe, rl_anc_self _ e, pk_us, by rw [pk_us]; exact d1⟩
    · rw [pk_un hxr, pk_un hxr]
      rcases h x hx hxr with ⟨na', x0, t2, d2⟩ | ⟨y', y0', yE', py', ay', t2, d2⟩
      · refine Or.inl ⟨fun a => ?_, x0, t2, d2⟩
        rcases (key x).mp a with a | a
        · exact hxe a
        · exact na' a
      · exact Or.inr ⟨y', y0', yE', py', (key y').mpr (Or.inr ay'), t2, d2⟩
  · have hyr : y = r := rl_inj (by omega) (by omega) (t1.symm.trans ht)
    subst hyr
    have hpr := hP y y0 hr
    have key : ∀ x, x ≠ y → (rl_anc (rl_n pO) x y ↔ rl_anc (rl_n pO) x e) := by
      intro x hxy
      rw [rl_anc_iff (rl_n pO) x y, py]
      constructor
      · rintro (a | ⟨_, a⟩)
        · exact absurd a hxy
        · exact a
      · intro a
        exact Or.inr ⟨by omega, a⟩
    intro x hx hxe
    by_cases hxr : x = y
    · subst hxr
      refine Or.inl ⟨fun a => ?_, y0, by rw [pk_us, py], by rw [pk_us]; exact d1⟩
      have := rl_anc_le hP e he x a
      omega
    · rw [pk_un hxr, pk_un hxr]
      rcases h x hx hxr with ⟨na', x0, t2, d2⟩ | ⟨y', y0', yE', py', ay', t2, d2⟩
      · exact Or.inl ⟨fun a => na' ((key x hxr).mpr a), x0, t2, d2⟩
      · refine Or.inr ⟨y', y0', yE', py', (key y' (fun a => ?_)).mp ay', t2, d2⟩
        subst a
        exact hxe (py'.symm.trans py)
/-- the neighbour towards the root -/
theorem rl_TR_next (pf : rl_PF E pO vO) (h : rl_TR E r pO vO tw dV) {x : Nat} (hx : x < E) (hxr : x ≠ r) : ∃ t w, t < E ∧ w < 8 ∧ tw x = nI t ∧ dV x = nI w ∧ (∀ v, v ≠ w → rl_ho (rl_n pO) (rl_n vO) x v = rl_ho (rl_n pO) (rl_n vO) t v) := by
  have hP := rl_PF_dn pf
  have h32 := pf.2.1
  rcases h x hx hxr with ⟨na, h0, t1, d1⟩ | ⟨y, y0, yE, py, ay, t1, d1⟩
  · have hpx := hP x h0 hx
    refine ⟨rl_n pO x, rl_n vO x, by omega, (rl_PF_v pf h0 hx).1, t1, d1, fun v hv => ?_⟩
    exact rl_ho_ne hP h32 h0 hx (fun a => hv a.symm)
  · refine ⟨y, rl_n vO y, yE, (rl_PF_v pf y0 yE).1, t1, d1, fun v hv => ?_⟩
    rw [rl_ho_ne (V := rl_n vO) hP h32 y0 yE (fun a => hv a.symm), py]
/-- a difference in w is not seen from the root -/
theorem rl_TR_far (pf : rl_PF E pO vO) (hr : r < E) (h : rl_TR E r pO vO tw dV) {x w : Nat} (hx : x < E) (hxr : x ≠ r) (hw : w < 8) (hd : dV x = nI w) : rl_ho (rl_n pO) (rl_n vO) x w ≠ rl_ho (rl_n pO) (rl_n vO) r w := by
  have hP := rl_PF_dn pf
  have h32 := pf.2.1
  rcases h x hx hxr with ⟨na, h0, t1, d1⟩ | ⟨y, y0, yE, py, ay, t1, d1⟩
  · have hv : rl_n vO x = w := rl_inj (by have := (rl_PF_v pf h0 hx).1; omega) (by omega) (d1.symm.trans hd)
    rw [rl_ho_eq h0 hv]
    rcases rl_ho_cases (V := rl_n vO) hP h32 w r hr with h1 | ⟨z, z0, _, _, za, ze⟩
    · omega
    · intro a
      have e : z = x := by omega
      subst e
      exact na za
  · have hv : rl_n vO y = w := rl_inj (by have := (rl_PF_v pf y0 yE).1; omega) (by omega) (d1.symm.trans hd)
    have hpy := hP y y0 yE
    obtain ⟨z, hz, ze⟩ := rl_ho_ge (V := rl_n vO) hP h32 y0 r hr ay
    rw [hv] at ze
    rcases rl_ho_cases (V := rl_n vO) hP h32 w x hx with h1 | ⟨z', z0, zx, _, za, ze'⟩
    · omega
    · omega
/-- the set that falls on the way to the root -/
def rl_S (P : Nat → Nat) (r x y : Nat) : Prop := (rl_anc P x r ∧ rl_anc P y r ∧ x < y) ∨ (¬ rl_anc P x r ∧ ((¬ rl_anc P y r ∧ y ≤ x) ∨ (rl_anc P y r ∧ 0 < y)))
noncomputable def rl_mu (E r : Nat) (pO : Nat → Int32) (x : Nat) : Nat := rl_cn (rl_S (rl_n pO) r x) E
theorem rl_mu_lt (pf : rl_PF E pO vO) (hr : r < E) (x : Nat) : rl_mu E r pO x < E := by
  have h0 := rl_anc_0 (rl_PF_dn pf) r hr
  have hE := pf.1
  refine rl_cn_ltn (y := 0) ?_ (by omega)
  rintro (⟨_, _, a⟩ | ⟨_, ⟨a, _⟩ | ⟨_, a⟩⟩)
  · omega
  · exact a h0
  · omega
theorem rl_mu_step (pf : rl_PF E pO vO) (h : rl_TR E r pO vO tw dV) {x t : Nat} (hx : x < E) (hxr : x ≠ r) (ht64 : t < 64) (ht : tw x = nI t) : rl_mu E r pO t < rl_mu E r pO x := by
  have hP := rl_PF_dn pf
  have h32 := pf.2.1
  rcases h x hx hxr with ⟨na, h0, t1, d1⟩ | ⟨y, y0, yE, py, ay, t1, d1⟩
  · have hpx := hP x h0 hx
    have e : t = rl_n pO x := rl_inj ht64 (by omega) (ht.symm.trans t1)
    by_cases at' : rl_anc (rl_n pO) t r
    · refine rl_cn_lt (y := x) (Or.inr ⟨na, Or.inl ⟨na, Nat.le_refl x⟩⟩) ?_ E hx ?_
      · rintro (⟨_, a, _⟩ | ⟨a, _⟩)
        · exact na a
        · exact a at'
      · rintro z _ (⟨_, a, b⟩ | ⟨a, _⟩)
        · exact Or.inr ⟨na, Or.inr ⟨a, by omega⟩⟩
        · exact absurd at' a
    · refine rl_cn_lt (y := x) (Or.inr ⟨na, Or.inl ⟨na, Nat.le_refl x⟩⟩) ?_ E hx ?_
      · rintro (⟨a, _⟩ | ⟨_, ⟨_, a⟩ | ⟨a, _⟩⟩)
        · exact at' a
        · omega
        · exact na a
      · rintro z _ (⟨a, _⟩ | ⟨_, ⟨a, b⟩ | a⟩)
        · exact absurd a at'
        · exact Or.inr ⟨na, Or.inl ⟨a, by omega⟩⟩
        · exact Or.inr ⟨na, Or.inr a⟩
  · have hpy := hP y y0 yE
    have e : t = y := rl_inj ht64 (by omega) (ht.symm.trans t1)
    subst e
    have ax : rl_anc (rl_n pO) x r := by
      have := rl_anc_par ay (by omega)
      rw [py] at this
      exact this
    refine rl_cn_lt (y := t) (Or.inl ⟨ax, ay, by omega⟩) ?_ E yE ?_
    · rintro (⟨_, _, a⟩ | ⟨a, _⟩)
      · omega
      · exact a ay
    · rintro z _ (⟨_, a, b⟩ | ⟨a, _⟩)
      · exact Or.inl ⟨ax, a, by omega⟩
      · exact absurd ay a
end
end
section
/-! part 03: the cells and the differences against the reference's cells -/
def rl_H (pO vO : Nat → Int32) (x v : Nat) : Nat := rl_ho (rl_n pO) (rl_n vO) x v
def rl_ER (E r : Nat) (pO vO yK yN yE cK cN cE tw dV dK dN dE : Nat → Int32) : Prop :=
  rl_TR E r pO vO tw dV ∧
  (∀ v, v < 8 → cK v = yK (rl_H pO vO r v) ∧ cN v = yN (rl_H pO vO r v) ∧ cE v = yE (rl_H pO vO r v)) ∧
  (∀ x, x < E → x ≠ r → ∀ w, w < 8 → dV x = nI w → dK x = yK (rl_H pO vO x w) ∧ dN x = yN (rl_H pO vO x w) ∧ dE x = yE (rl_H pO vO x w))
section
variable {E r e w : Nat} {pO vO yK yN yE cK cN cE tw dV dK dN dE : Nat → Int32}
theorem rl_ER_turn (pf : rl_PF E pO vO) (hr : r < E) (he : e < E) (ner : e ≠ r) (h : rl_ER E r pO vO yK yN yE cK cN cE tw dV dK dN dE) (ht : tw e = nI r) (hw : w < 8) (hd : dV e = nI w) :
    rl_ER E e pO vO yK yN yE (upd cK w (upd dK r (cK w) e)) (upd cN w (upd dN r (cN w) e)) (upd cE w (upd dE r (cE w) e)) (upd tw r (nI e)) (upd dV r (nI w)) (upd dK r (cK w)) (upd dN r (cN w)) (upd dE r (cE w)) := by
  obtain ⟨hT, hC, hD⟩ := h
  refine ⟨?_, ?_, ?_⟩
  · rw [← hd]; exact rl_TR_turn pf hr he ner hT ht
  · intro v hv
    rw [pk_un ner, pk_un ner, pk_un ner]
    by_cases hvw : v = w
    · subst hvw
      rw [pk_us, pk_us, pk_us]
      exact hD e he ner v hv hd
    · rw [pk_un hvw, pk_un hvw, pk_un hvw]
      have := hC v hv
      obtain ⟨t, w', htE, hw', ht', hd', hh⟩ := rl_TR_next pf hT he ner
      have h32 := pf.2.1
      have e1 : t = r := rl_inj (by omega) (by omega) (ht'.symm.trans ht)
      have e2 : w' = w := rl_inj (by omega) (by omega) (hd'.symm.trans hd)
      subst e1 e2
      have hh := hh v hvw
      unfold rl_H at this ⊢
      rw [hh]; exact this
  · intro x hx hxe w' hw' hdx
    by_cases hxr : x = r
    · subst hxr
      rw [pk_us] at hdx
      have e2 : w = w' := rl_inj (by omega) (by omega) hdx
      subst e2
      rw [pk_us, pk_us, pk_us]
      exact hC w hw
    · rw [pk_un hxr] at hdx
      rw [pk_un hxr, pk_un hxr, pk_un hxr]
      exact hD x hx hxr w' hw' hdx
/-- an assignment at the root -/
theorem rl_ER_set (pf : rl_PF E pO vO) (hr : r < E) (h : rl_ER E r pO vO yK yN yE cK cN cE tw dV dK dN dE) (hw : w < 8) (k n j : Int32) :
    rl_ER E r pO vO (upd yK (rl_H pO vO r w) k) (upd yN (rl_H pO vO r w) n) (upd yE (rl_H pO vO r w) j) (upd cK w k) (upd cN w n) (upd cE w j) tw dV dK dN dE := by
  obtain ⟨hT, hC, hD⟩ := h
  have hP := rl_PF_dn pf
  have h32 := pf.2.1
  refine ⟨hT, ?_, ?_⟩
  · intro v hv
    by_cases hvw : v = w
    · subst hvw
      rw [pk_us, pk_us, pk_us, pk_us, pk_us, pk_us]
      exact ⟨rfl, rfl, rfl⟩
    · have hn : rl_H pO vO r v ≠ rl_H pO vO r w := fun a => hvw (rl_ho_inj hP h32 hr hr hv hw a)
      rw [pk_un hvw, pk_un hvw, pk_un hvw, pk_un hn, pk_un hn, pk_un hn]
      exact hC v hv
  · intro x hx hxr w' hw' hdx
    have hn : rl_H pO vO x w' ≠ rl_H pO vO r w := by
      intro a
      have e : w' = w := rl_ho_inj hP h32 hx hr hw' hw a
      subst e
      exact rl_TR_far pf hr hT hx hxr hw hdx a
    rw [pk_un hn, pk_un hn, pk_un hn]
    exact hD x hx hxr w' hw' hdx
theorem rl_nu {a : Nat → Int32} {k x : Nat} {v : Int32} (h : x ≠ k) : rl_n (upd a k v) x = rl_n a x := by
  unfold rl_n; rw [pk_un h]
theorem rl_PF_new (pf : rl_PF E pO vO) (h32 : E < 32) {p : Nat} (hp : p < E) (hw : w < 8) : rl_PF (E + 1) (upd pO E (nI p)) (upd vO E (nI w)) := by
  refine ⟨by omega, by omega, ?_⟩
  intro x h0 hx
  by_cases hxE : x = E
  · subst hxE
    rw [pk_us, pk_us]
    exact ⟨⟨p, hp, rfl⟩, w, hw, rfl⟩
  · rw [pk_un hxE, pk_un hxE]
    exact pf.2.2 x h0 (by omega)
theorem rl_H_new (pf : rl_PF E pO vO) {x v : Nat} (hx : x < E) (p' w' : Int32) : rl_H (upd pO E p') (upd vO E w') x v = rl_H pO vO x v :=
  rl_ho_congr (rl_PF_dn pf) pf.2.1 (fun y hy => rl_nu (by omega)) (fun y hy => rl_nu (by omega)) v x hx
theorem rl_H_lt (pf : rl_PF E pO vO) {x v : Nat} (hx : x < E) (hv : v < 8) : rl_H pO vO x v < 8 + E ∧ (rl_H pO vO x v < 8 ∨ 8 < rl_H pO vO x v) := rl_ho_lt (rl_PF_dn pf) pf.2.1 hx hv
theorem rl_H_mv (pf : rl_PF E pO vO) {x v M : Nat} (hx : x < E) (hv : v < M) : rl_H pO vO x v < M ∨ (8 < rl_H pO vO x v ∧ rl_H pO vO x v < 8 + E) := by
  unfold rl_H
  rcases rl_ho_cases (V := rl_n vO) (rl_PF_dn pf) pf.2.1 v x hx with h | ⟨z, z0, zx, _, _, ze⟩
  · omega
  · omega
/-- a new environment -/
theorem rl_ER_new (pf : rl_PF E pO vO) (hr : r < E) (h32 : E < 32) {p : Nat} (hp : p < E) (hw : w < 8) (h : rl_ER E r pO vO yK yN yE cK cN cE tw dV dK dN dE) (k n j : Int32) :
    rl_ER (E + 1) r (upd pO E (nI p)) (upd vO E (nI w)) (upd yK (8 + E) k) (upd yN (8 + E) n) (upd yE (8 + E) j) cK cN cE (upd tw E (nI p)) (upd dV E (nI w)) (upd dK E k) (upd dN E n) (upd dE E j) := by
  obtain ⟨hT, hC, hD⟩ := h
  have hP := rl_PF_dn pf
  have hanc : ∀ a, rl_anc (rl_n (upd pO E (nI p))) a r ↔ rl_anc (rl_n pO) a r := fun a => rl_anc_congr hP (fun y hy => rl_nu (by omega)) a r hr
  have hpE : rl_n (upd pO E (nI p)) E = p := rl_nE pk_us (by omega)
  have hvE : rl_n (upd vO E (nI w)) E = w := rl_nE pk_us (by omega)
  refine ⟨?_, ?_, ?_⟩
  · intro x hx hxr
    by_cases hxE : x = E
    · subst hxE
      refine Or.inl ⟨fun a => ?_, by omega, by rw [pk_us, hpE], by rw [pk_us, hvE]⟩
      have := rl_anc_le hP r hr x ((hanc x).mp a)
      omega
    · rw [pk_un hxE, pk_un hxE, rl_nu hxE, rl_nu hxE, hanc]
      rcases hT x (by omega) hxr with a | ⟨y, y0, yE', py, ay, t1, d1⟩
      · exact Or.inl a
      · refine Or.inr ⟨y, y0, by omega, ?_, (hanc y).mpr ay, t1, ?_⟩
        · rw [rl_nu (by omega)]; exact py
        · rw [rl_nu (by omega)]; exact d1
  · intro v hv
    rw [rl_H_new pf hr]
    have := (rl_H_lt pf hr hv).1
    have hn : rl_H pO vO r v ≠ 8 + E := by omega
    rw [pk_un hn, pk_un hn, pk_un hn]
    exact hC v hv
  · intro x hx hxr w' hw' hdx
    by_cases hxE : x = E
    · subst hxE
      rw [pk_us] at hdx
      have e2 : w = w' := rl_inj (by omega) (by omega) hdx
      subst e2
      have : rl_H (upd pO x (nI p)) (upd vO x (nI w)) x w = 8 + x := rl_ho_eq (by omega) hvE
      rw [this, pk_us, pk_us, pk_us, pk_us, pk_us, pk_us]
      exact ⟨rfl, rfl, rfl⟩
    · rw [pk_un hxE] at hdx
      rw [rl_H_new pf (by omega)]
      have := (rl_H_lt pf (x := x) (by omega) hw').1
      have hn : rl_H pO vO x w' ≠ 8 + E := by omega
      rw [pk_un hxE, pk_un hxE, pk_un hxE, pk_un hn, pk_un hn, pk_un hn]
      exact hD x (by omega) hxr w' hw' hdx
/-- the newest environments end -/
theorem rl_ER_cut (pf : rl_PF E pO vO) {h : Nat} (hr : r < h) (hE : h ≤ E) (H : rl_ER E r pO vO yK yN yE cK cN cE tw dV dK dN dE) : rl_ER h r pO vO yK yN yE cK cN cE tw dV dK dN dE := by
  obtain ⟨hT, hC, hD⟩ := H
  refine ⟨?_, hC, fun x hx => hD x (by omega)⟩
  intro x hx hxr
  rcases hT x (by omega) hxr with a | ⟨y, y0, yE', py, ay, t1, d1⟩
  · exact Or.inl a
  · refine Or.inr ⟨y, y0, ?_, py, ay, t1, d1⟩
    have := rl_anc_le (rl_PF_dn pf) r (by omega) y ay
    omega
theorem rl_PF_cut (pf : rl_PF E pO vO) {h : Nat} (h1 : 1 ≤ h) (hE : h ≤ E) : rl_PF h pO vO :=
  ⟨h1, by have := pf.2.1; omega, fun x h0 hx => pf.2.2 x h0 (by omega)⟩
/-- the cells do not matter beyond the environments -/
theorem rl_ER_y {yK' yN' yE' : Nat → Int32} (pf : rl_PF E pO vO) (hr : r < E) (h : rl_ER E r pO vO yK yN yE cK cN cE tw dV dK dN dE) (hK : ∀ q, q < 8 + E → yK' q = yK q ∧ yN' q = yN q ∧ yE' q = yE q) : rl_ER E r pO vO yK' yN' yE' cK cN cE tw dV dK dN dE := by
  obtain ⟨hT, hC, hD⟩ := h
  refine ⟨hT, ?_, ?_⟩
  · intro v hv
    obtain ⟨a, b, c⟩ := hK _ (rl_H_lt pf hr hv).1
    rw [a, b, c]; exact hC v hv
  · intro x hx hxr w' hw' hdx
    obtain ⟨a, b, c⟩ := hK _ (rl_H_lt pf hx hw').1
    rw [a, b, c]; exact hD x hx hxr w' hw' hdx
end
end
section
/-! part 04: the walks of turnEdge and reroot -/
section
variable {mN mV mE mD nd ev cu rt rk rn re dp fl vk vn ve : Int32} {nK oA oB oC iC pO vO cK cN cE tw dV dK dN dE pa ho fN fE fS k1 k2 k3 : Nat → Int32}
theorem rx_turn {post : SX → Prop} {r e w : Nat} (hr : r < 32) (he : e < 32) (hw : w < 8) (hd : dV e = nI w)
    (h : post (mN, mV, mE, mD, nd, ev, cu, nI e, rk, rn, re, dp, fl, vk, vn, ve, nK, oA, oB, oC, iC, pO, vO, upd cK w (upd dK r (cK w) e), upd cN w (upd dN r (cN w) e), upd cE w (upd dE r (cE w) e), upd tw r (nI e), upd dV r (nI w), upd dK r (cK w), upd dN r (cN w), upd dE r (cE w), pa, ho, fN, fE, fS, k1, k2, k3)) :
    wpX_turnEdge post (mN, mV, mE, mD, nd, ev, cu, nI r, rk, rn, re, dp, fl, vk, vn, ve, nK, oA, oB, oC, iC, pO, vO, cK, cN, cE, tw, dV, dK, dN, dE, pa, ho, fN, fE, fS, k1, k2, k3) (nI e) := by
  have ce := rl_c (n := e) (by omega)
  have cr := rl_c (n := r) (by omega)
  have cw := rl_c (n := w) (by omega)
  have ie := rl_in he (by omega)
  have ir := rl_in hr (by omega)
  have iw := rl_in hw (by omega)
  unfold wpX_turnEdge
  refine ⟨ie, nm_r (e' := nI w) (by rw [ce, hd]) ⟨ir, nm_r (e' := upd dV r (nI w)) (by rw [cr]) ⟨iw, ir, nm_r (e' := upd dK r (cK w)) (by rw [cr, cw]) ⟨iw, ir, nm_r (e' := upd dN r (cN w)) (by rw [cr, cw]) ⟨iw, ir, nm_r (e' := upd dE r (cE w)) (by rw [cr, cw]) ⟨ie, iw, nm_r (e' := upd cK w (upd dK r (cK w) e)) (by rw [ce, cw]) ⟨ie, iw, nm_r (e' := upd cN w (upd dN r (cN w) e)) (by rw [ce, cw]) ⟨ie, iw, nm_r (e' := upd cE w (upd dE r (cE w) e)) (by rw [ce, cw]) ⟨ir, nm_r (e' := upd tw r (nI e)) (by rw [cr]) h⟩⟩⟩⟩⟩⟩⟩⟩⟩
end
/-- a path to the root, of i edges -/
def rl_CH (E r : Nat) (tw pa : Nat → Int32) (q : Nat → Nat) (i : Nat) : Prop :=
  (∀ j, j < i → pa j = nI (q j) ∧ q j < E ∧ q j ≠ r ∧ tw (q j) = nI (q (j + 1))) ∧ q i = r ∧ (∀ j k, j < k → k ≤ i → q j ≠ q k)
section
variable {mN mV mE mD nd ev cu rk rn re dp fl vk vn ve : Int32} {nK oA oB oC iC pO vO pa ho fN fE fS k1 k2 k3 yK yN yE : Nat → Int32} {E : Nat} {q : Nat → Nat}
theorem rx_r53 (pf : rl_PF E pO vO) : ∀ (i r : Nat) (cK cN cE tw dV dK dN dE : Nat → Int32), i ≤ 32 → r < E → rl_ER E r pO vO yK yN yE cK cN cE tw dV dK dN dE → rl_CH E r tw pa q i →
    ∃ cK' cN' cE' tw' dV' dK' dN' dE', rl_ER E (q 0) pO vO yK yN yE cK' cN' cE' tw' dV' dK' dN' dE' ∧ ∀ (post : SX → Prop) (n : Nat), i < n → post (mN, mV, mE, mD, nd, ev, cu, nI (q 0), rk, rn, re, dp, fl, vk, vn, ve, nK, oA, oB, oC, iC, pO, vO, cK', cN', cE', tw', dV', dK', dN', dE', pa, ho, fN, fE, fS, k1, k2, k3) → wX_reroot_53 post n (nI i - 1) mN mV mE mD nd ev cu (nI r) rk rn re dp fl vk vn ve nK oA oB oC iC pO vO cK cN cE tw dV dK dN dE pa ho fN fE fS k1 k2 k3 := by
  intro i
  induction i with
  | zero =>
    intro r cK cN cE tw dV dK dN dE _ hr er ch
    have e : q 0 = r := ch.2.1
    refine ⟨cK, cN, cE, tw, dV, dK, dN, dE, by rw [e]; exact er, ?_⟩
    intro post n hn hp
    rw [e] at hp
    cases n with
    | zero => omega
    | succ n => exact br_t (by decide) hp
  | succ i ih =>
    intro r cK cN cE tw dV dK dN dE hi hr er ch
    have h32 := pf.2.1
    obtain ⟨hpa, hqE, hqr, htw⟩ := ch.1 i (by omega)
    rw [ch.2.1] at htw
    obtain ⟨t, w, htE, hw, ht, hd, _⟩ := rl_TR_next pf er.1 hqE hqr
    have er' := rl_ER_turn pf hr hqE hqr er htw hw hd
    have ch' : rl_CH E (q i) (upd tw r (nI (q i))) pa q i := by
      refine ⟨fun j hj => ?_, rfl, fun j k hj hk => ch.2.2 j k hj (by omega)⟩
      obtain ⟨a, b, c, d⟩ := ch.1 j (by omega)
      exact ⟨a, b, ch.2.2 j i hj (by omega), by rw [pk_un c]; exact d⟩
    obtain ⟨cK', cN', cE', tw', dV', dK', dN', dE', er2, H⟩ := ih (q i) _ _ _ _ _ _ _ _ (by omega) hqE er' ch'
    refine ⟨cK', cN', cE', tw', dV', dK', dN', dE', er2, ?_⟩
    intro post n hn hp
    cases n with
    | zero => omega
    | succ n =>
      have K := H post n (by omega) hp
      rw [nI_pred]
      have ci := rl_c (n := i) (by omega)
      refine br_f (nI_pos (by omega)) ⟨rl_in (by omega) (by omega), ?_⟩
      rw [ci, hpa]
      refine rx_turn (by omega) (by omega) hw hd ?_
      exact nm_r (rl_m1 i) K
theorem rl_CH_dist {E r : Nat} {tw : Nat → Int32} {L : Nat} {m : Nat → Nat} (h : ∀ j, j < L → m (q (j + 1)) < m (q j)) : ∀ k, k ≤ L → ∀ j, j < k → m (q k) < m (q j) := by
  intro k
  induction k with
  | zero => intro _ j hj; omega
  | succ k ih =>
    intro hk j hj
    have h1 := h k (by omega)
    by_cases e : j = k
    · subst e; exact h1
    · have := ih (by omega) j (by omega)
      omega
end
/-- the way from e towards the root -/
def rl_it (tw : Nat → Int32) (e : Nat) : Nat → Nat
  | 0 => e
  | j + 1 => rl_n tw (rl_it tw e j)
section
variable {mN mV mE mD nd ev cu rt rk rn re dp fl vk vn ve : Int32} {nK oA oB oC iC pO vO cK cN cE tw dV dK dN dE pa ho fN fE fS k1 k2 k3 : Nat → Int32} {yK yN yE : Nat → Int32} {E r : Nat}
theorem rx_r7 (pf : rl_PF E pO vO) (hr : r < E) (er : rl_ER E r pO vO yK yN yE cK cN cE tw dV dK dN dE) (e : Nat) : ∀ (dd i : Nat) (pa : Nat → Int32), rl_mu E r pO (rl_it tw e i) ≤ dd → i + dd ≤ 31 → rl_it tw e i < E →
    (∀ j, j < i → pa j = nI (rl_it tw e j) ∧ rl_it tw e j < E ∧ rl_it tw e j ≠ r ∧ tw (rl_it tw e j) = nI (rl_it tw e (j + 1)) ∧ rl_mu E r pO (rl_it tw e (j + 1)) < rl_mu E r pO (rl_it tw e j)) →
    ∃ L pa', L ≤ 31 ∧ rl_it tw e L = r ∧ (∀ j, j < L → pa' j = nI (rl_it tw e j) ∧ rl_it tw e j < E ∧ rl_it tw e j ≠ r ∧ tw (rl_it tw e j) = nI (rl_it tw e (j + 1)) ∧ rl_mu E r pO (rl_it tw e (j + 1)) < rl_mu E r pO (rl_it tw e j)) ∧
      ∀ (post : SX → Prop) (n : Nat), dd < n → (∃ m, wX_reroot_53 post m (nI L - 1) mN mV mE mD nd ev cu (nI r) rk rn re dp fl vk vn ve nK oA oB oC iC pO vO cK cN cE tw dV dK dN dE pa' ho fN fE fS k1 k2 k3) → wX_reroot_7 post mN mV mE mD nd ev cu (nI r) rk rn re dp fl vk vn ve n (nI i) (nI (rl_it tw e i)) (nI i) nK oA oB oC iC pO vO cK cN cE tw dV dK dN dE pa ho fN fE fS k1 k2 k3 := by
  intro dd
  induction dd with
  | zero =>
    intro i pa hm hi hE hj
    have h32 := pf.2.1
    by_cases h : rl_it tw e i = r
    · refine ⟨i, pa, by omega, h, hj, ?_⟩
      intro post n hn H
      cases n with
      | zero => omega
      | succ n => exact br_f (nI_ge (b := 32) (by omega) (by omega)) (br_t (congrArg nI h) (nm_e H))
    · obtain ⟨t, w, htE, hw, ht, hd, _⟩ := rl_TR_next pf er.1 hE h
      have := rl_mu_step pf er.1 hE h (by omega) ht
      omega
  | succ dd ih =>
    intro i pa hm hi hE hj
    have h32 := pf.2.1
    by_cases h : rl_it tw e i = r
    · refine ⟨i, pa, by omega, h, hj, ?_⟩
      intro post n hn H
      cases n with
      | zero => omega
      | succ n => exact br_f (nI_ge (b := 32) (by omega) (by omega)) (br_t (congrArg nI h) (nm_e H))
    · obtain ⟨t, w, htE, hw, ht, hd, _⟩ := rl_TR_next pf er.1 hE h
      have hmu := rl_mu_step pf er.1 hE h (by omega) ht
      have hnx : rl_it tw e (i + 1) = t := rl_nE ht (by omega)
      obtain ⟨L, pa', hL, hLr, hch, H⟩ := ih (i + 1) (upd pa i (nI (rl_it tw e i))) (by rw [hnx]; omega) (by omega) (by rw [hnx]; exact htE) (by
        intro j hji
        by_cases hjx : j = i
        · subst hjx
          exact ⟨pk_us, hE, h, by rw [hnx]; exact ht, by rw [hnx]; exact hmu⟩
        · rw [pk_un hjx]; exact hj j (by omega))
      refine ⟨L, pa', hL, hLr, hch, ?_⟩
      intro post n hn K
      cases n with
      | zero => omega
      | succ n =>
        have K := H post n (by omega) K
        have ci := rl_c (n := i) (by omega)
        have cx := rl_c (n := rl_it tw e i) (by omega)
        refine br_f (nI_ge (b := 32) (by omega) (by omega)) (br_f (rl_ne (by omega) (by omega) h) ⟨rl_in (by omega) (by omega), nm_r (e' := upd pa i (nI (rl_it tw e i))) (by rw [ci]) (nm_r (e' := nI (i + 1)) (nI_1 i) ⟨rl_in (by omega) (by omega), nm_r (e' := nI (rl_it tw e (i + 1))) (by rw [cx, hnx]; exact ht) (nm_r (e' := nI (i + 1)) (nI_1 i) K)⟩)⟩)
/-- reroot: the tree is turned to e -/
theorem rx_reroot (pf : rl_PF E pO vO) (hr : r < E) (er : rl_ER E r pO vO yK yN yE cK cN cE tw dV dK dN dE) {e : Nat} (he : e < E) :
    ∃ pa' cK' cN' cE' tw' dV' dK' dN' dE', rl_ER E e pO vO yK yN yE cK' cN' cE' tw' dV' dK' dN' dE' ∧ ∀ post : SX → Prop, post (mN, mV, mE, mD, nd, ev, cu, nI e, rk, rn, re, dp, fl, vk, vn, ve, nK, oA, oB, oC, iC, pO, vO, cK', cN', cE', tw', dV', dK', dN', dE', pa', ho, fN, fE, fS, k1, k2, k3) → wpX_reroot post (mN, mV, mE, mD, nd, ev, cu, nI r, rk, rn, re, dp, fl, vk, vn, ve, nK, oA, oB, oC, iC, pO, vO, cK, cN, cE, tw, dV, dK, dN, dE, pa, ho, fN, fE, fS, k1, k2, k3) (nI e) := by
  have h32 := pf.2.1
  have hmu := rl_mu_lt pf hr e
  obtain ⟨L, pa', hL, hLr, hch, H⟩ := rx_r7 (mN := mN) (mV := mV) (mE := mE) (mD := mD) (nd := nd) (ev := ev) (cu := cu) (rk := rk) (rn := rn) (re := re) (dp := dp) (fl := fl) (vk := vk) (vn := vn) (ve := ve) (nK := nK) (oA := oA) (oB := oB) (oC := oC) (iC := iC) (ho := ho) (fN := fN) (fE := fE) (fS := fS) (k1 := k1) (k2 := k2) (k3 := k3) pf hr er e 31 0 pa (by show rl_mu E r pO e ≤ 31; omega) (by omega) he (fun j hj => by omega)
  have dist := rl_CH_dist (E := E) (r := r) (tw := tw) (m := rl_mu E r pO) (q := rl_it tw e) (L := L) (fun j hj => (hch j hj).2.2.2.2)
  have ch : rl_CH E r tw pa' (rl_it tw e) L := by
    refine ⟨fun j hj => ?_, hLr, fun j k hj hk a => ?_⟩
    · obtain ⟨a, b, c, d, _⟩ := hch j hj
      exact ⟨a, b, c, d⟩
    · have := dist k hk j hj
      rw [a] at this
      omega
  obtain ⟨cK', cN', cE', tw', dV', dK', dN', dE', er2, K⟩ := rx_r53 (mN := mN) (mV := mV) (mE := mE) (mD := mD) (nd := nd) (ev := ev) (cu := cu) (rk := rk) (rn := rn) (re := re) (dp := dp) (fl := fl) (vk := vk) (vn := vn) (ve := ve) (nK := nK) (oA := oA) (oB := oB) (oC := oC) (iC := iC) (ho := ho) (fN := fN) (fE := fE) (fS := fS) (k1 := k1) (k2 := k2) (k3 := k3) pf L r _ _ _ _ _ _ _ _ (by omega) hr er ch
  refine ⟨pa', cK', cN', cE', tw', dV', dK', dN', dE', er2, ?_⟩
  intro post hp
  refine ⟨32, ?_⟩
  exact H post 32 (by omega) ⟨L + 1, K post (L + 1) (by omega) hp⟩
end
end
section
/-! part 05: facts on values and nodes -/
def rl_LM (N : Nat) (nK : Nat → Int32) (n : Int32) : Prop := ∃ l, l < N ∧ n = nI l ∧ nK l = 4
/-- a value that may stand -/
def rl_VO (N E : Nat) (nK : Nat → Int32) (k n e : Int32) : Prop := k = 1 ∨ (k = 2 ∧ rl_LM N nK n) ∨ (k = 3 ∧ rl_LM N nK n ∧ ∃ j, j < E ∧ e = nI j)
def rl_VC (N E MV : Nat) (nK yK yN yE : Nat → Int32) : Prop := ∀ q, (q < MV ∨ (8 < q ∧ q < 8 + E)) → rl_VO N E nK (yK q) (yN q) (yE q)
def rl_ND (N MV : Nat) (nK oA oB oC : Nat → Int32) (sz : Nat → Nat) (n : Nat) : Prop :=
  1 ≤ sz n ∧ sz n ≤ N ∧ (nK n = 1 ∨ (nK n = 2 ∧ ∃ v, v < MV ∧ oA n = nI v) ∨
  ((nK n = 3 ∨ nK n = 4) ∧ ∃ v b, v < MV ∧ oA n = nI v ∧ b < n ∧ oB n = nI b ∧ sz b + 1 ≤ sz n) ∨
  (nK n = 5 ∧ ∃ a, a < n ∧ oA n = nI a ∧ sz a + 1 ≤ sz n) ∨
  ((nK n = 6 ∨ nK n = 7 ∨ nK n = 9 ∨ nK n = 10 ∨ nK n = 11 ∨ nK n = 12) ∧ ∃ a b, a < n ∧ oA n = nI a ∧ b < n ∧ oB n = nI b ∧ sz a + sz b + 1 ≤ sz n) ∨
  (nK n = 8 ∧ ∃ a b c, a < n ∧ oA n = nI a ∧ b < n ∧ oB n = nI b ∧ c < n ∧ oC n = nI c ∧ sz a + sz b + sz c + 1 ≤ sz n))
def rl_NF (N MV : Nat) (nK oA oB oC : Nat → Int32) (sz : Nat → Nat) : Prop := ∀ n, n < N → rl_ND N MV nK oA oB oC sz n
/-- i is a child of j -/
def rl_ch (nK oA oB oC : Nat → Int32) (j i : Nat) : Prop := (¬ nK j < 5 ∧ oA j = nI i) ∨ ((nK j = 3 ∨ nK j = 4 ∨ ¬ nK j < 6) ∧ oB j = nI i) ∨ (nK j = 8 ∧ oC j = nI i)
def rl_TK (N : Nat) (nK oA oB oC : Nat → Int32) (i : Nat) : Prop := ∃ j, j < N ∧ rl_ch nK oA oB oC j i
def rl_sm (f : Nat → Nat) : Nat → Nat
  | 0 => 0
  | n + 1 => rl_sm f n + f n
def rl_wt (iC : Nat → Int32) (sz : Nat → Nat) : Nat → Nat := fun i => if iC i = 0 then sz i else 0
def rl_IC (N : Nat) (nK oA oB oC iC : Nat → Int32) (sz : Nat → Nat) : Prop := (∀ i, i < N → (iC i = 0 ∧ ¬ rl_TK N nK oA oB oC i) ∨ (iC i = 1 ∧ rl_TK N nK oA oB oC i)) ∧ rl_sm (rl_wt iC sz) N ≤ N
theorem rl_sm_congr {f g : Nat → Nat} : ∀ n, (∀ i, i < n → f i = g i) → rl_sm f n = rl_sm g n := by
  intro n
  induction n with
  | zero => intro _; rfl
  | succ n ih =>
    intro h
    show rl_sm f n + f n = rl_sm g n + g n
    rw [ih (fun i hi => h i (by omega)), h n (by omega)]
theorem rl_wt_upd {iC : Nat → Int32} {sz : Nat → Nat} {a : Nat} (ha : iC a = 0) : ∀ n, a < n → rl_sm (rl_wt (upd iC a 1) sz) n + sz a = rl_sm (rl_wt iC sz) n := by
  intro n
  induction n with
  | zero => intro h; omega
  | succ n ih =>
    intro h
    show rl_sm (rl_wt (upd iC a 1) sz) n + rl_wt (upd iC a 1) sz n + sz a = rl_sm (rl_wt iC sz) n + rl_wt iC sz n
    by_cases e : a = n
    · subst e
      have h1 : rl_wt (upd iC a 1) sz a = 0 := by
        unfold rl_wt
        rw [pk_us]
        exact if_neg (by decide)
      have h2 : rl_wt iC sz a = sz a := if_pos ha
      have h3 : rl_sm (rl_wt (upd iC a 1) sz) a = rl_sm (rl_wt iC sz) a := by
        refine rl_sm_congr a (fun i hi => ?_)
        unfold rl_wt
        rw [pk_un (by omega)]
      omega
    · have i := ih (by omega)
      have h1 : rl_wt (upd iC a 1) sz n = rl_wt iC sz n := by
        unfold rl_wt
        rw [pk_un (fun z => e z.symm)]
      omega
theorem rl_uu {f : Nat → Int32} {k : Nat} {x y : Int32} : upd (upd f k x) k y = upd f k y := by
  funext j
  unfold upd
  by_cases h : j = k
  · rw [if_pos h, if_pos h]
  · rw [if_neg h, if_neg h, if_neg h]
theorem rl_vb0 : vp_nar .boolean 0 = 0 := rfl
theorem rl_vb1 : vp_nar .boolean 1 = 1 := rfl
section
variable {N E MV : Nat} {nK oA oB oC iC : Nat → Int32} {sz : Nat → Nat}
theorem rl_VO_up {k n e : Int32} {E' : Nat} (h : rl_VO N E nK k n e) (hE : E ≤ E') : rl_VO N E' nK k n e := by
  rcases h with h | h | ⟨h, l, j, hj, e⟩
  · exact Or.inl h
  · exact Or.inr (Or.inl h)
  · exact Or.inr (Or.inr ⟨h, l, j, by omega, e⟩)
theorem rl_VC_set {yK yN yE : Nat → Int32} {k n e : Int32} (q : Nat) (h : rl_VC N E MV nK yK yN yE) (hv : rl_VO N E nK k n e) : rl_VC N E MV nK (upd yK q k) (upd yN q n) (upd yE q e) := by
  intro x hx
  by_cases hq : x = q
  · subst hq; rw [pk_us, pk_us, pk_us]; exact hv
  · rw [pk_un hq, pk_un hq, pk_un hq]; exact h x hx
theorem rl_VC_new {yK yN yE : Nat → Int32} {k n e : Int32} (hM : MV ≤ 8) (h : rl_VC N E MV nK yK yN yE) (hv : rl_VO N E nK k n e) : rl_VC N (E + 1) MV nK (upd yK (8 + E) k) (upd yN (8 + E) n) (upd yE (8 + E) e) := by
  intro x hx
  by_cases hq : x = 8 + E
  · subst hq; rw [pk_us, pk_us, pk_us]; exact rl_VO_up hv (by omega)
  · rw [pk_un hq, pk_un hq, pk_un hq]; exact rl_VO_up (h x (by omega)) (by omega)
theorem rl_LM_node {n : Int32} {k a : Int32} (h : rl_LM N nK n) : rl_LM (N + 1) (upd nK N k) n := by
  obtain ⟨l, hl, e, h4⟩ := h
  exact ⟨l, by omega, e, by rw [pk_un (by omega)]; exact h4⟩
theorem rl_VO_node {k n e : Int32} (k' : Int32) (h : rl_VO N E nK k n e) : rl_VO (N + 1) E (upd nK N k') k n e := by
  rcases h with h | ⟨h, l⟩ | ⟨h, l, j⟩
  · exact Or.inl h
  · exact Or.inr (Or.inl ⟨h, rl_LM_node (a := 0) l⟩)
  · exact Or.inr (Or.inr ⟨h, rl_LM_node (a := 0) l, j⟩)
/-- a child lies below -/
theorem rl_ch_lt (hN : N ≤ 48) (nf : rl_NF N MV nK oA oB oC sz) {j i : Nat} (hj : j < N) (hi : i < 64) (h : rl_ch nK oA oB oC j i) : i < j := by
  obtain ⟨_, _, H⟩ := nf j hj
  have key : ∀ {x : Int32} {a : Nat}, a < j → x = nI a → x = nI i → i < j := by
    intro x a ha h1 h2
    have := rl_inj (a := a) (b := i) (by omega) hi (h1.symm.trans h2)
    omega
  rcases H with k | ⟨k, _⟩ | ⟨k, v, b, _, _, hb, eb, _⟩ | ⟨k, a, ha, ea, _⟩ | ⟨k, a, b, ha, ea, hb, eb, _⟩ | ⟨k, a, b, c, ha, ea, hb, eb, hc, ec, _⟩
  · rcases h with ⟨q, e⟩ | ⟨q, e⟩ | ⟨q, e⟩
    · rw [k] at q; exact absurd (by decide) q
    · rw [k] at q; exact absurd q (by decide)
    · rw [k] at q; exact absurd q (by decide)
  · rcases h with ⟨q, e⟩ | ⟨q, e⟩ | ⟨q, e⟩
    · rw [k] at q; exact absurd (by decide) q
    · rw [k] at q; exact absurd q (by decide)
    · rw [k] at q; exact absurd q (by decide)
  · rcases h with ⟨q, e⟩ | ⟨q, e⟩ | ⟨q, e⟩
    · rcases k with k | k
      · rw [k] at q; exact absurd (by decide) q
      · rw [k] at q; exact absurd (by decide) q
    · exact key hb eb e
    · rcases k with k | k
      · rw [k] at q; exact absurd q (by decide)
      · rw [k] at q; exact absurd q (by decide)
  · rcases h with ⟨q, e⟩ | ⟨q, e⟩ | ⟨q, e⟩
    · exact key ha ea e
    · rw [k] at q; exact absurd q (by decide)
    · rw [k] at q; exact absurd q (by decide)
  · rcases h with ⟨q, e⟩ | ⟨q, e⟩ | ⟨q, e⟩
    · exact key ha ea e
    · exact key hb eb e
    · rcases k with k | k | k | k | k | k <;> (rw [k] at q; exact absurd q (by decide))
  · rcases h with ⟨q, e⟩ | ⟨q, e⟩ | ⟨q, e⟩
    · exact key ha ea e
    · exact key hb eb e
    · exact key hc ec e
end
/-- the facts that stand between calls and inside a run -/
def rl_BF (MN MV ME MD N E c r : Nat) (sz : Nat → Nat) (nK oA oB oC iC pO vO yK yN yE cK cN cE tw dV dK dN dE : Nat → Int32) : Prop :=
  (MN ≤ 48 ∧ MV ≤ 8 ∧ ME ≤ 32 ∧ MD ≤ 32 ∧ N ≤ MN ∧ E ≤ ME ∧ c < E ∧ r < E) ∧ rl_NF N MV nK oA oB oC sz ∧ rl_IC N nK oA oB oC iC sz ∧ rl_PF E pO vO ∧ rl_ER E r pO vO yK yN yE cK cN cE tw dV dK dN dE ∧ rl_VC N E MV nK yK yN yE
end
section
/-! part 06: a new node, in plain numbers -/
def rl_mk (iC : Nat → Int32) : List Nat → (Nat → Int32)
  | [] => iC
  | x :: xs => upd (rl_mk iC xs) x 1
def rl_ls (sz : Nat → Nat) : List Nat → Nat
  | [] => 0
  | x :: xs => sz x + rl_ls sz xs
theorem rl_mk_in {iC : Nat → Int32} : ∀ (cs : List Nat) (i : Nat), i ∈ cs → rl_mk iC cs i = 1 := by
  intro cs
  induction cs with
  | nil => intro i h; cases h
  | cons x xs ih =>
    intro i h
    show upd (rl_mk iC xs) x 1 i = 1
    by_cases e : i = x
    · subst e; exact pk_us
    · rw [pk_un e]
      rcases List.mem_cons.mp h with h | h
      · exact absurd h e
      · exact ih i h
theorem rl_mk_out {iC : Nat → Int32} : ∀ (cs : List Nat) (i : Nat), ¬ i ∈ cs → rl_mk iC cs i = iC i := by
  intro cs
  induction cs with
  | nil => intro i _; rfl
  | cons x xs ih =>
    intro i h
    show upd (rl_mk iC xs) x 1 i = iC i
    rw [pk_un (fun e => h (List.mem_cons.mpr (Or.inl e)))]
    exact ih i (fun e => h (List.mem_cons.mpr (Or.inr e)))
theorem rl_mk_sum {iC : Nat → Int32} {sz : Nat → Nat} {N : Nat} : ∀ (cs : List Nat), (∀ x, x ∈ cs → x < N ∧ iC x = 0) → cs.Nodup → rl_sm (rl_wt (rl_mk iC cs) sz) N + rl_ls sz cs = rl_sm (rl_wt iC sz) N := by
  intro cs
  induction cs with
  | nil => intro _ _; rfl
  | cons x xs ih =>
    intro h nd
    have nd' := List.nodup_cons.mp nd
    have i := ih (fun y hy => h y (List.mem_cons.mpr (Or.inr hy))) nd'.2
    obtain ⟨hx, h0⟩ := h x (List.mem_cons.mpr (Or.inl rfl))
    have hm : rl_mk iC xs x = 0 := by rw [rl_mk_out xs x nd'.1]; exact h0
    have w := rl_wt_upd (sz := sz) hm N hx
    show rl_sm (rl_wt (upd (rl_mk iC xs) x 1) sz) N + (sz x + rl_ls sz xs) = _
    omega
section
variable {N MV : Nat} {nK oA oB oC iC : Nat → Int32} {sz : Nat → Nat}
theorem rl_ND_keep {sz' : Nat → Nat} {n : Nat} {k a b c : Int32} (hn : n < N) (hs : ∀ i, i < N → sz' i = sz i) (h : rl_ND N MV nK oA oB oC sz n) : rl_ND (N + 1) MV (upd nK N k) (upd oA N a) (upd oB N b) (upd oC N c) sz' n := by
  obtain ⟨h1, h2, H⟩ := h
  have hne : n ≠ N := by omega
  unfold rl_ND
  rw [pk_un hne, pk_un hne, pk_un hne, pk_un hne, hs n hn]
  refine ⟨h1, by omega, ?_⟩
  rcases H with k | k | ⟨k, v, b, hv, ev, hb, eb, z⟩ | ⟨k, a, ha, ea, z⟩ | ⟨k, a, b, ha, ea, hb, eb, z⟩ | ⟨k, a, b, c, ha, ea, hb, eb, hc, ec, z⟩
  · exact Or.inl k
  · exact Or.inr (Or.inl k)
  · exact Or.inr (Or.inr (Or.inl ⟨k, v, b, hv, ev, hb, eb, by rw [hs b (by omega)]; exact z⟩))
  · exact Or.inr (Or.inr (Or.inr (Or.inl ⟨k, a, ha, ea, by rw [hs a (by omega)]; exact z⟩)))
  · exact Or.inr (Or.inr (Or.inr (Or.inr (Or.inl ⟨k, a, b, ha, ea, hb, eb, by rw [hs a (by omega), hs b (by omega)]; exact z⟩))))
  · exact Or.inr (Or.inr (Or.inr (Or.inr (Or.inr ⟨k, a, b, c, ha, ea, hb, eb, hc, ec, by rw [hs a (by omega), hs b (by omega), hs c (by omega)]; exact z⟩))))
theorem rl_ch_keep {k a b c : Int32} {j i : Nat} (hj : j ≠ N) : rl_ch (upd nK N k) (upd oA N a) (upd oB N b) (upd oC N c) j i ↔ rl_ch nK oA oB oC j i := by
  unfold rl_ch
  rw [pk_un hj, pk_un hj, pk_un hj, pk_un hj]
theorem rl_node_new (hN : N < 48) (nf : rl_NF N MV nK oA oB oC sz) (ic : rl_IC N nK oA oB oC iC sz) (k a b c : Int32) (cs : List Nat) (hcs : ∀ x, x ∈ cs → x < N ∧ iC x = 0) (nd : cs.Nodup)
    (hch : ∀ i, i < 64 → (rl_ch (upd nK N k) (upd oA N a) (upd oB N b) (upd oC N c) N i ↔ i ∈ cs))
    (hND : ∀ sz' : Nat → Nat, (∀ i, i < N → sz' i = sz i) → sz' N = 1 + rl_ls sz cs → sz' N ≤ N + 1 → rl_ND (N + 1) MV (upd nK N k) (upd oA N a) (upd oB N b) (upd oC N c) sz' N) :
    ∃ sz', rl_NF (N + 1) MV (upd nK N k) (upd oA N a) (upd oB N b) (upd oC N c) sz' ∧ rl_IC (N + 1) (upd nK N k) (upd oA N a) (upd oB N b) (upd oC N c) (rl_mk (upd iC N 0) cs) sz' := by
  have hs : ∀ i, i < N → (fun i => if i = N then 1 + rl_ls sz cs else sz i) i = sz i := fun i hi => if_neg (by omega)
  have hsN : (fun i => if i = N then 1 + rl_ls sz cs else sz i) N = 1 + rl_ls sz cs := if_pos rfl
  revert hs hsN
  generalize (fun i => if i = N then 1 + rl_ls sz cs else sz i) = sz'
  intro hs hsN
  have hNc : ¬ N ∈ cs := fun h => by have := (hcs N h).1; omega
  have hcs' : ∀ x, x ∈ cs → x < N ∧ upd iC N 0 x = 0 := fun x hx => ⟨(hcs x hx).1, by rw [pk_un (by have := (hcs x hx).1; omega)]; exact (hcs x hx).2⟩
  have sum1 := rl_mk_sum (sz := sz) cs hcs' nd
  have sum2 : rl_sm (rl_wt (upd iC N 0) sz) N = rl_sm (rl_wt iC sz) N := rl_sm_congr N (fun i hi => by unfold rl_wt; rw [pk_un (by omega)])
  have sum3 : rl_sm (rl_wt (rl_mk (upd iC N 0) cs) sz') N = rl_sm (rl_wt (rl_mk (upd iC N 0) cs) sz) N := rl_sm_congr N (fun i hi => by unfold rl_wt; rw [hs i hi])
  have hmN : rl_mk (upd iC N 0) cs N = 0 := by rw [rl_mk_out cs N hNc]; exact pk_us
  have sum4 : rl_wt (rl_mk (upd iC N 0) cs) sz' N = sz' N := if_pos hmN
  have sum0 := ic.2
  refine ⟨sz', ?_, ?_, ?_⟩
  · intro n hn
    by_cases e : n = N
    · subst e; exact hND sz' hs hsN (by omega)
    · exact rl_ND_keep (by omega) hs (nf n (by omega))
  · intro i hi
    by_cases e : i = N
    · subst e
      refine Or.inl ⟨hmN, ?_⟩
      rintro ⟨j, hj, h⟩
      by_cases ej : j = i
      · subst ej
        exact hNc ((hch j (by omega)).mp h)
      · have := rl_ch_lt (by omega) nf (j := j) (i := i) (by omega) (by omega) ((rl_ch_keep ej).mp h)
        omega
    · by_cases hic : i ∈ cs
      · exact Or.inr ⟨rl_mk_in cs i hic, N, by omega, (hch i (by omega)).mpr hic⟩
      · rw [rl_mk_out cs i hic, pk_un e]
        have key : rl_TK (N + 1) (upd nK N k) (upd oA N a) (upd oB N b) (upd oC N c) i ↔ rl_TK N nK oA oB oC i := by
          constructor
          · rintro ⟨j, hj, h⟩
            by_cases ej : j = N
            · subst ej
              exact absurd ((hch i (by omega)).mp h) hic
            · exact ⟨j, by omega, (rl_ch_keep ej).mp h⟩
          · rintro ⟨j, hj, h⟩
            exact ⟨j, by omega, (rl_ch_keep (by omega)).mpr h⟩
        rw [key]
        exact ic.1 i (by omega)
  · show rl_sm (rl_wt (rl_mk (upd iC N 0) cs) sz') N + rl_wt (rl_mk (upd iC N 0) cs) sz' N ≤ N + 1
    omega
/-- the five shapes of a node -/
theorem rl_new0 (hN : N < 48) (nf : rl_NF N MV nK oA oB oC sz) (ic : rl_IC N nK oA oB oC iC sz) {k a : Int32} (hk : k = 1 ∨ (k = 2 ∧ ∃ v, v < MV ∧ a = nI v)) :
    ∃ sz', rl_NF (N + 1) MV (upd nK N k) (upd oA N a) (upd oB N 0) (upd oC N 0) sz' ∧ rl_IC (N + 1) (upd nK N k) (upd oA N a) (upd oB N 0) (upd oC N 0) (upd iC N 0) sz' := by
  refine rl_node_new hN nf ic k a 0 0 [] (fun x h => nomatch h) List.nodup_nil ?_ ?_
  · intro i hi
    unfold rl_ch
    rw [pk_us, pk_us, pk_us, pk_us]
    constructor
    · rcases hk with hk | ⟨hk, _⟩
      · subst hk
        rintro (⟨q, _⟩ | ⟨q, _⟩ | ⟨q, _⟩)
        · exact absurd (by decide) q
        · exact absurd q (by decide)
        · exact absurd q (by decide)
      · subst hk
        rintro (⟨q, _⟩ | ⟨q, _⟩ | ⟨q, _⟩)
        · exact absurd (by decide) q
        · exact absurd q (by decide)
        · exact absurd q (by decide)
    · intro h; exact nomatch h
  · intro sz' _ h1 h2
    unfold rl_ND
    rw [pk_us, pk_us, pk_us, pk_us]
    refine ⟨by omega, h2, ?_⟩
    rcases hk with hk | hk
    · exact Or.inl hk
    · exact Or.inr (Or.inl hk)
theorem rl_newB (hN : N < 48) (nf : rl_NF N MV nK oA oB oC sz) (ic : rl_IC N nK oA oB oC iC sz) {k a : Int32} {b : Nat} (hk : k = 3 ∨ k = 4) (ha : ∃ v, v < MV ∧ a = nI v) (hb : b < N) (ib : iC b = 0) :
    ∃ sz', rl_NF (N + 1) MV (upd nK N k) (upd oA N a) (upd oB N (nI b)) (upd oC N 0) sz' ∧ rl_IC (N + 1) (upd nK N k) (upd oA N a) (upd oB N (nI b)) (upd oC N 0) (upd (upd iC N 0) b 1) sz' := by
  refine rl_node_new hN nf ic k a (nI b) 0 [b] (fun x h => by rw [List.mem_singleton.mp h]; exact ⟨hb, ib⟩) (List.nodup_cons.mpr ⟨fun h => (nomatch h), List.nodup_nil⟩) ?_ ?_
  · intro i hi
    unfold rl_ch
    rw [pk_us, pk_us, pk_us, pk_us, List.mem_singleton]
    constructor
    · rintro (⟨q, _⟩ | ⟨q, e⟩ | ⟨q, _⟩)
      · rcases hk with hk | hk
        · subst hk; exact absurd (by decide) q
        · subst hk; exact absurd (by decide) q
      · exact (rl_inj (by omega) hi e).symm
      · rcases hk with hk | hk
        · subst hk; exact absurd q (by decide)
        · subst hk; exact absurd q (by decide)
    · intro h
      subst h
      refine Or.inr (Or.inl ⟨?_, rfl⟩)
      rcases hk with hk | hk
      · exact Or.inl hk
      · exact Or.inr (Or.inl hk)
  · intro sz' hs h1 h2
    have h1' : sz' N = 1 + (sz b + 0) := h1
    unfold rl_ND
    rw [pk_us, pk_us, pk_us, pk_us]
    refine ⟨by omega, h2, ?_⟩
    obtain ⟨v, hv, ev⟩ := ha
    exact Or.inr (Or.inr (Or.inl ⟨hk, v, b, hv, ev, hb, rfl, by rw [hs b hb]; omega⟩))
theorem rl_newA (hN : N < 48) (nf : rl_NF N MV nK oA oB oC sz) (ic : rl_IC N nK oA oB oC iC sz) {a : Nat} (ha : a < N) (ia : iC a = 0) :
    ∃ sz', rl_NF (N + 1) MV (upd nK N 5) (upd oA N (nI a)) (upd oB N 0) (upd oC N 0) sz' ∧ rl_IC (N + 1) (upd nK N 5) (upd oA N (nI a)) (upd oB N 0) (upd oC N 0) (upd (upd iC N 0) a 1) sz' := by
  refine rl_node_new hN nf ic 5 (nI a) 0 0 [a] (fun x h => by rw [List.mem_singleton.mp h]; exact ⟨ha, ia⟩) (List.nodup_cons.mpr ⟨fun h => (nomatch h), List.nodup_nil⟩) ?_ ?_
  · intro i hi
    unfold rl_ch
    rw [pk_us, pk_us, pk_us, pk_us, List.mem_singleton]
    constructor
    · rintro (⟨_, e⟩ | ⟨q, e⟩ | ⟨q, _⟩)
      · exact (rl_inj (by omega) hi e).symm
      · exact absurd q (by decide)
      · exact absurd q (by decide)
    · intro h
      subst h
      exact Or.inl ⟨by decide, rfl⟩
  · intro sz' hs h1 h2
    have h1' : sz' N = 1 + (sz a + 0) := h1
    unfold rl_ND
    rw [pk_us, pk_us, pk_us, pk_us]
    refine ⟨by omega, h2, ?_⟩
    exact Or.inr (Or.inr (Or.inr (Or.inl ⟨rfl, a, ha, rfl, by rw [hs a ha]; omega⟩)))
theorem rl_newAB (hN : N < 48) (nf : rl_NF N MV nK oA oB oC sz) (ic : rl_IC N nK oA oB oC iC sz) {k : Int32} {a b : Nat} (hk : k = 6 ∨ k = 7 ∨ k = 9 ∨ k = 10 ∨ k = 11 ∨ k = 12) (ha : a < N) (ia : iC a = 0) (hb : b < N) (ib : iC b = 0) (hab : a ≠ b) :
    ∃ sz', rl_NF (N + 1) MV (upd nK N k) (upd oA N (nI a)) (upd oB N (nI b)) (upd oC N 0) sz' ∧ rl_IC (N + 1) (upd nK N k) (upd oA N (nI a)) (upd oB N (nI b)) (upd oC N 0) (upd (upd (upd iC N 0) a 1) b 1) sz' := by
  have k1 : ¬ k < 5 ∧ ¬ k < 6 ∧ ¬ k = 8 := by
    rcases hk with rfl | rfl | rfl | rfl | rfl | rfl <;> decide
  refine rl_node_new hN nf ic k (nI a) (nI b) 0 [b, a] ?_ ?_ ?_ ?_
  · intro x h
    rcases List.mem_cons.mp h with h | h
    · subst h; exact ⟨hb, ib⟩
    · rw [List.mem_singleton.mp h]; exact ⟨ha, ia⟩
  · exact List.nodup_cons.mpr ⟨fun h => hab (List.mem_singleton.mp h).symm, List.nodup_cons.mpr ⟨fun h => (nomatch h), List.nodup_nil⟩⟩
  · intro i hi
    unfold rl_ch
    rw [pk_us, pk_us, pk_us, pk_us, List.mem_cons, List.mem_singleton]
    constructor
    · rintro (⟨_, e⟩ | ⟨q, e⟩ | ⟨q, _⟩)
      · exact Or.inr (rl_inj (by omega) hi e).symm
      · exact Or.inl (rl_inj (by omega) hi e).symm
      · exact absurd q k1.2.2
    · rintro (h | h)
      · subst h; exact Or.inr (Or.inl ⟨Or.inr (Or.inr k1.2.1), rfl⟩)
      · subst h; exact Or.inl ⟨k1.1, rfl⟩
  · intro sz' hs h1 h2
    have h1' : sz' N = 1 + (sz b + (sz a + 0)) := h1
    unfold rl_ND
    rw [pk_us, pk_us, pk_us, pk_us]
    refine ⟨by omega, h2, ?_⟩
    exact Or.inr (Or.inr (Or.inr (Or.inr (Or.inl ⟨hk, a, b, ha, rfl, hb, rfl, by rw [hs a ha, hs b hb]; omega⟩))))
theorem rl_newABC (hN : N < 48) (nf : rl_NF N MV nK oA oB oC sz) (ic : rl_IC N nK oA oB oC iC sz) {a b c : Nat} (ha : a < N) (ia : iC a = 0) (hb : b < N) (ib : iC b = 0) (hab : a ≠ b) (hc : c < N) (ic' : iC c = 0) (hca : c ≠ a) (hcb : c ≠ b) :
    ∃ sz', rl_NF (N + 1) MV (upd nK N 8) (upd oA N (nI a)) (upd oB N (nI b)) (upd oC N (nI c)) sz' ∧ rl_IC (N + 1) (upd nK N 8) (upd oA N (nI a)) (upd oB N (nI b)) (upd oC N (nI c)) (upd (upd (upd (upd iC N 0) a 1) b 1) c 1) sz' := by
  refine rl_node_new hN nf ic 8 (nI a) (nI b) (nI c) [c, b, a] ?_ ?_ ?_ ?_
  · intro x h
    rcases List.mem_cons.mp h with h | h
    · subst h; exact ⟨hc, ic'⟩
    · rcases List.mem_cons.mp h with h | h
      · subst h; exact ⟨hb, ib⟩
      · rw [List.mem_singleton.mp h]; exact ⟨ha, ia⟩
  · refine List.nodup_cons.mpr ⟨fun h => ?_, List.nodup_cons.mpr ⟨fun h => hab (List.mem_singleton.mp h).symm, List.nodup_cons.mpr ⟨fun h => (nomatch h), List.nodup_nil⟩⟩⟩
    rcases List.mem_cons.mp h with h | h
    · exact hcb h
    · exact hca (List.mem_singleton.mp h)
  · intro i hi
    unfold rl_ch
    rw [pk_us, pk_us, pk_us, pk_us, List.mem_cons, List.mem_cons, List.mem_singleton]
    constructor
    · rintro (⟨_, e⟩ | ⟨q, e⟩ | ⟨q, e⟩)
      · exact Or.inr (Or.inr (rl_inj (by omega) hi e).symm)
      · exact Or.inr (Or.inl (rl_inj (by omega) hi e).symm)
      · exact Or.inl (rl_inj (by omega) hi e).symm
    · rintro (h | h | h)
      · subst h; exact Or.inr (Or.inr ⟨rfl, rfl⟩)
      · subst h; exact Or.inr (Or.inl ⟨Or.inr (Or.inr (by decide)), rfl⟩)
      · subst h; exact Or.inl ⟨by decide, rfl⟩
  · intro sz' hs h1 h2
    have h1' : sz' N = 1 + (sz c + (sz b + (sz a + 0))) := h1
    unfold rl_ND
    rw [pk_us, pk_us, pk_us, pk_us]
    refine ⟨by omega, h2, ?_⟩
    exact Or.inr (Or.inr (Or.inr (Or.inr (Or.inr ⟨rfl, a, b, c, ha, rfl, hb, rfl, hc, rfl, by rw [hs a ha, hs b hb, hs c hc]; omega⟩))))
end
end
section
/-! part 07: the relation -/
/-- the relation: what both keep is one thing; X's own environment state is a picture of the reference's -/
def i_Rel (_ : Nat) (u : SX) (v : SY) : Prop := ∀ P : SX → SY → Prop,
  (∀ {MN MV ME MD N E c r : Nat} {sz : Nat → Nat} {rk rn re dp fl vk vn ve tp zk zn ze : Int32} {nK oA oB oC iC pO vO cK cN cE tw dV dK dN dE pa ho fN fE fS k1 k2 k3 yK yN yE l1 l2 l3 : Nat → Int32},
    rl_BF MN MV ME MD N E c r sz nK oA oB oC iC pO vO yK yN yE cK cN cE tw dV dK dN dE → rl_VO N E nK rk rn re →
    P (nI MN, nI MV, nI ME, nI MD, nI N, nI E, nI c, nI r, rk, rn, re, dp, fl, vk, vn, ve, nK, oA, oB, oC, iC, pO, vO, cK, cN, cE, tw, dV, dK, dN, dE, pa, ho, fN, fE, fS, k1, k2, k3) (nI MN, nI MV, nI ME, nI MD, nI N, nI E, nI c, tp, zk, zn, ze, rk, rn, re, nK, oA, oB, oC, pO, vO, yK, yN, yE, fN, fE, fS, l1, l2, l3)) → P u v
theorem i_up {k : Nat} {u : SX} {v : SY} (h : i_Rel k u v) : i_Rel (k + 5) u v := h
section
variable {MN MV ME MD N E c r : Nat} {sz : Nat → Nat} {rk rn re dp fl vk vn ve tp zk zn ze : Int32} {nK oA oB oC iC pO vO cK cN cE tw dV dK dN dE pa ho fN fE fS k1 k2 k3 yK yN yE l1 l2 l3 : Nat → Int32}
theorem rl_rel {k : Nat} (bf : rl_BF MN MV ME MD N E c r sz nK oA oB oC iC pO vO yK yN yE cK cN cE tw dV dK dN dE) (vo : rl_VO N E nK rk rn re) : i_Rel k (nI MN, nI MV, nI ME, nI MD, nI N, nI E, nI c, nI r, rk, rn, re, dp, fl, vk, vn, ve, nK, oA, oB, oC, iC, pO, vO, cK, cN, cE, tw, dV, dK, dN, dE, pa, ho, fN, fE, fS, k1, k2, k3) (nI MN, nI MV, nI ME, nI MD, nI N, nI E, nI c, tp, zk, zn, ze, rk, rn, re, nK, oA, oB, oC, pO, vO, yK, yN, yE, fN, fE, fS, l1, l2, l3) :=
  fun _ h => h bf vo
end
end
section
/-! part 08: the walks of the methods on nodes -/
def rl_ck (N : Nat) (iC : Nat → Int32) (x : Int32) : Int32 := if x < 0 then 104 else if nI N ≤ x then 104 else if iC x.toNatClampNeg = 0 then 0 else 105
def rl_c2 (q p : Int32) : Int32 := if q = 104 then 104 else if p = 0 then q else 105
theorem rl_c2_0 (q : Int32) : rl_c2 q 0 = q := by
  unfold rl_c2
  by_cases h : q = 104
  · rw [if_pos h, h]
  · rw [if_neg h, if_pos rfl]
theorem rl_ck3 {N : Nat} (hN : N ≤ 48) (iC : Nat → Int32) (x : Int32) : (x < 0 ∧ rl_ck N iC x = 104) ∨ (¬ x < 0 ∧ nI N ≤ x ∧ rl_ck N iC x = 104) ∨ ∃ i, i < N ∧ x = nI i ∧ ¬ x < 0 ∧ ¬ nI N ≤ x ∧ rl_ck N iC x = if iC i = 0 then 0 else 105 := by
  by_cases h0 : x < 0
  · exact Or.inl ⟨h0, if_pos h0⟩
  · by_cases h1 : nI N ≤ x
    · refine Or.inr (Or.inl ⟨h0, h1, ?_⟩)
      unfold rl_ck
      rw [if_neg h0, if_pos h1]
    · obtain ⟨i, hi, rfl⟩ := nI_of h0
      have hiN : i < N := by
        rw [nI_leI (by omega) hi] at h1
        omega
      refine Or.inr (Or.inr ⟨i, hiN, rfl, h0, h1, ?_⟩)
      unfold rl_ck
      rw [if_neg h0, if_neg h1, rl_c (by omega)]
theorem rl_ck_0 {N : Nat} (hN : N ≤ 48) {iC : Nat → Int32} {x : Int32} (h : rl_ck N iC x = 0) : ∃ i, i < N ∧ x = nI i ∧ iC i = 0 := by
  rcases rl_ck3 hN iC x with ⟨_, e⟩ | ⟨_, _, e⟩ | ⟨i, hi, ex, _, _, e⟩
  · rw [e] at h; exact absurd h (by decide)
  · rw [e] at h; exact absurd h (by decide)
  · rw [e] at h
    by_cases h0 : iC i = 0
    · exact ⟨i, hi, ex, h0⟩
    · rw [if_neg h0] at h; exact absurd h (by decide)
theorem rl_c2_z {q p : Int32} (h : rl_c2 q p = 0) : q = 0 ∧ p = 0 := by
  unfold rl_c2 at h
  by_cases h1 : q = 104
  · rw [if_pos h1] at h; exact absurd h (by decide)
  · rw [if_neg h1] at h
    by_cases h2 : p = 0
    · rw [if_pos h2] at h; exact ⟨h, h2⟩
    · rw [if_neg h2] at h; exact absurd h (by decide)
section
variable {mN mV mE mD nd ev cu rt rk rn re dp fl vk vn ve : Int32} {nK oA oB oC iC pO vO cK cN cE tw dV dK dN dE pa ho fN fE fS k1 k2 k3 : Nat → Int32} {N : Nat}
theorem rx_refuseChild {post : Int32 → Prop} {x p : Int32} (hN : N ≤ 48) (h : post (rl_c2 (rl_ck N iC x) p)) : wpX_refuseChild post (mN, mV, mE, mD, nI N, ev, cu, rt, rk, rn, re, dp, fl, vk, vn, ve, nK, oA, oB, oC, iC, pO, vO, cK, cN, cE, tw, dV, dK, dN, dE, pa, ho, fN, fE, fS, k1, k2, k3) x p := by
  unfold wpX_refuseChild
  rcases rl_ck3 hN iC x with ⟨h0, e⟩ | ⟨h0, h1, e⟩ | ⟨i, hi, ex, h0, h1, e⟩
  · rw [e] at h
    exact br_t h0 (br_t rfl h)
  · rw [e] at h
    exact br_f h0 (br_t h1 (br_t rfl h))
  · refine br_f h0 (br_f h1 (br_f (by decide) ?_))
    rw [e] at h
    subst ex
    by_cases hp : p = 0
    · refine br_t hp ⟨rl_in (by omega) (by omega), ?_⟩
      rw [rl_c (by omega)]
      by_cases hz : iC i = 0
      · rw [if_pos hz, hp, rl_c2_0] at h
        exact br_t hz h
      · rw [if_neg hz, hp, rl_c2_0] at h
        exact br_f hz h
    · refine br_f hp ?_
      have : rl_c2 (if iC i = 0 then 0 else 105) p = 105 := by
        unfold rl_c2
        rw [if_neg (by by_cases hz : iC i = 0
                       · rw [if_pos hz]; decide
                       · rw [if_neg hz]; decide), if_neg hp]
      rw [this] at h
      exact h
end
section
variable {mN mV mE mD nd ev cu tp zk zn ze rk rn re : Int32} {nK oA oB oC pO vO yK yN yE fN fE fS l1 l2 l3 : Nat → Int32} {N i j : Nat}
theorem ry_60 {post J2 : Int32 → Prop} (hj : j < 48) (h : (nK j = 8 ∧ oC j = nI i) → post 1) (g : ¬ (nK j = 8 ∧ oC j = nI i) → J2 (nI (j + 1))) : wY_taken_60 post J2 (nI i) (nI j) mN mV mE mD nd ev cu tp zk zn ze rk rn re nK oA oB oC pO vO yK yN yE fN fE fS l1 l2 l3 := by
  unfold wY_taken_60
  rw [rl_c (n := j) (by omega)]
  refine ⟨rl_in hj (by omega), ?_⟩
  by_cases h8 : nK j = 8
  · refine br_t h8 ⟨rl_in hj (by omega), ?_⟩
    by_cases hc : oC j = nI i
    · exact br_t hc (h ⟨h8, hc⟩)
    · exact br_f hc (nm_r (nI_1 j) (g (fun z => hc z.2)))
  · exact br_f h8 (nm_r (nI_1 j) (g (fun z => h8 z.1)))
theorem ry_35 {post J2 : Int32 → Prop} (hj : j < 48) (h : ((nK j = 3 ∨ nK j = 4 ∨ ¬ nK j < 6) ∧ oB j = nI i) → post 1) (g : ¬ ((nK j = 3 ∨ nK j = 4 ∨ ¬ nK j < 6) ∧ oB j = nI i) → wY_taken_60 post J2 (nI i) (nI j) mN mV mE mD nd ev cu tp zk zn ze rk rn re nK oA oB oC pO vO yK yN yE fN fE fS l1 l2 l3) : wY_taken_35 post J2 (nI i) (nI j) mN mV mE mD nd ev cu tp zk zn ze rk rn re nK oA oB oC pO vO yK yN yE fN fE fS l1 l2 l3 := by
  unfold wY_taken_35
  rw [rl_c (n := j) (by omega)]
  refine ⟨rl_in hj (by omega), ?_⟩
  have yes : (nK j = 3 ∨ nK j = 4 ∨ ¬ nK j < 6) → (oB j = nI i → post 1) ∧ (¬ oB j = nI i → wY_taken_60 post J2 (nI i) (nI j) mN mV mE mD nd ev cu tp zk zn ze rk rn re nK oA oB oC pO vO yK yN yE fN fE fS l1 l2 l3) := fun hb =>
    br_c (fun e => h ⟨hb, e⟩) (fun e => g (fun z => e z.2))
  by_cases h3 : nK j = 3
  · exact br_t h3 (br_f (by decide) ⟨rl_in hj (by omega), yes (Or.inl h3)⟩)
  · refine br_f h3 ?_
    by_cases h4 : nK j = 4
    · exact br_t h4 (br_f (by decide) ⟨rl_in hj (by omega), yes (Or.inr (Or.inl h4))⟩)
    · refine br_f h4 ?_
      by_cases h6 : nK j < 6
      · refine br_t h6 (br_t rfl (g ?_))
        rintro ⟨a | a | a, _⟩
        · exact h3 a
        · exact h4 a
        · exact a h6
      · exact br_f h6 (br_f (by decide) ⟨rl_in hj (by omega), yes (Or.inr (Or.inr h6))⟩)
theorem ry_taken2 {post : Int32 → Prop} (hN : N ≤ 48) (h1 : rl_TK N nK oA oB oC i → post 1) (h0 : ¬ rl_TK N nK oA oB oC i → post 0) : ∀ dd j, j + dd = N → (∀ j', j' < j → ¬ rl_ch nK oA oB oC j' i) → wY_taken_2 post (nI i) mN mV mE mD (nI N) ev cu tp zk zn ze rk rn re nK oA oB oC pO vO yK yN yE fN fE fS l1 l2 l3 (dd + 1) (nI j) := by
  intro dd
  induction dd with
  | zero =>
    intro j hj hn
    refine br_t (nI_le (by omega) (by omega)) (h0 ?_)
    rintro ⟨j', hj', h⟩
    exact hn j' (by omega) h
  | succ dd ih =>
    intro j hj hn
    have g : ¬ rl_ch nK oA oB oC j i → wY_taken_2 post (nI i) mN mV mE mD (nI N) ev cu tp zk zn ze rk rn re nK oA oB oC pO vO yK yN yE fN fE fS l1 l2 l3 (dd + 1) (nI (j + 1)) := by
      intro hc
      refine ih (j + 1) (by omega) (fun j' hj' => ?_)
      by_cases e : j' = j
      · rw [e]; exact hc
      · exact hn j' (by omega)
    have y : rl_ch nK oA oB oC j i → post 1 := fun hc => h1 ⟨j, by omega, hc⟩
    refine br_f (nI_ge (by omega) (by omega)) ⟨rl_in (by omega) (by omega), ?_⟩
    rw [rl_c (n := j) (by omega)]
    have k35 : ¬ (¬ nK j < 5 ∧ oA j = nI i) → wY_taken_35 post (wY_taken_2 post (nI i) mN mV mE mD (nI N) ev cu tp zk zn ze rk rn re nK oA oB oC pO vO yK yN yE fN fE fS l1 l2 l3 (dd + 1)) (nI i) (nI j) mN mV mE mD (nI N) ev cu tp zk zn ze rk rn re nK oA oB oC pO vO yK yN yE fN fE fS l1 l2 l3 := by
      intro hA
      refine ry_35 (by omega) (fun z => y (Or.inr (Or.inl z))) (fun hB => ry_60 (by omega) (fun z => y (Or.inr (Or.inr z))) (fun hC => g ?_))
      rintro (z | z | z)
      · exact hA z
      · exact hB z
      · exact hC z
    by_cases hA : nK j < 5
    · exact br_t hA (br_t rfl (k35 (fun z => z.1 hA)))
    · refine br_f hA (br_f (by decide) ⟨rl_in (by omega) (by omega), ?_⟩)
      exact br_c (fun e => y (Or.inl ⟨hA, e⟩)) (fun e => k35 (fun z => e z.2))
theorem ry_taken {post : Int32 → Prop} (hN : N ≤ 48) (h1 : rl_TK N nK oA oB oC i → post 1) (h0 : ¬ rl_TK N nK oA oB oC i → post 0) : wpY_taken post (mN, mV, mE, mD, nI N, ev, cu, tp, zk, zn, ze, rk, rn, re, nK, oA, oB, oC, pO, vO, yK, yN, yE, fN, fE, fS, l1, l2, l3) (nI i) :=
  ⟨N + 1, ry_taken2 hN h1 h0 N 0 (by omega) (fun j' h => by omega)⟩
theorem ry_check {iC : Nat → Int32} {sz : Nat → Nat} {post : Int32 → Prop} {x : Int32} (hN : N ≤ 48) (ic : rl_IC N nK oA oB oC iC sz) (h : post (rl_ck N iC x)) : wpY_checkChild post (mN, mV, mE, mD, nI N, ev, cu, tp, zk, zn, ze, rk, rn, re, nK, oA, oB, oC, pO, vO, yK, yN, yE, fN, fE, fS, l1, l2, l3) x := by
  unfold wpY_checkChild
  rcases rl_ck3 hN iC x with ⟨h0, e⟩ | ⟨h0, h1, e⟩ | ⟨i, hi, ex, h0, h1, e⟩
  · rw [e] at h
    exact br_t h0 h
  · rw [e] at h
    exact br_f h0 (br_f (Int32.not_lt.mpr h1) h)
  · subst ex
    refine br_f h0 (br_t (Int32.not_le.mp h1) ?_)
    rw [e] at h
    rcases ic.1 i hi with ⟨a, b⟩ | ⟨a, b⟩
    · rw [if_pos a] at h
      exact ry_taken hN (fun z => absurd z b) (fun _ => br_t rfl h)
    · rw [if_neg (by rw [a]; decide)] at h
      exact ry_taken hN (fun _ => br_f (by decide) h) (fun z => absurd b z)
end
end
section
/-! part 09: node -/
def rl_f2 (k a b : Int32) : Int32 := if k < 5 then 0 else if a = b then 1 else 0
def rl_f3 (a b c : Int32) : Int32 := if c = a then 1 else if c = b then 1 else 0
def rl_s1 (q : Int32 → Int32) (k a : Int32) : Int32 := if k < 5 then 0 else q a
def rl_s2 (q : Int32 → Int32) (k a b x : Int32) : Int32 := if x = 0 then (if k = 3 ∨ k = 4 ∨ ¬ k < 6 then rl_c2 (q b) (rl_f2 k a b) else 0) else x
def rl_s3 (q : Int32 → Int32) (k a b c x : Int32) : Int32 := if x = 0 then (if k = 8 then rl_c2 (q c) (rl_f3 a b c) else 0) else x
def rl_sa (q : Int32 → Int32) (k a b c : Int32) : Int32 := rl_s3 q k a b c (rl_s2 q k a b (rl_s1 q k a))
/-- the answer of a refusal, 0 if none -/
def rl_rf (N MN MV : Nat) (iC : Nat → Int32) (k a b c : Int32) : Int32 := if k < 1 then 101 else if k ≤ 12 then (if nI N < nI MN then (if k = 2 ∨ k = 3 ∨ k = 4 then (if a < 0 then 103 else if nI MV ≤ a then 103 else rl_sa (rl_ck N iC) k a b c) else rl_sa (rl_ck N iC) k a b c) else 102) else 101
theorem rl_sa_ok {q : Int32 → Int32} {k a b c : Int32} (h : rl_sa q k a b c = 0) : (¬ k < 5 → q a = 0) ∧ ((k = 3 ∨ k = 4 ∨ ¬ k < 6) → q b = 0 ∧ (¬ k < 5 → a ≠ b)) ∧ (k = 8 → q c = 0 ∧ c ≠ a ∧ c ≠ b) := by
  unfold rl_sa at h
  have h2 : rl_s2 q k a b (rl_s1 q k a) = 0 := by
    by_cases z : rl_s2 q k a b (rl_s1 q k a) = 0
    · exact z
    · unfold rl_s3 at h; rw [if_neg z] at h; exact h
  have h1 : rl_s1 q k a = 0 := by
    by_cases z : rl_s1 q k a = 0
    · exact z
    · unfold rl_s2 at h2; rw [if_neg z] at h2; exact h2
  refine ⟨fun hA => ?_, fun hB => ?_, fun hC => ?_⟩
  · unfold rl_s1 at h1; rw [if_neg hA] at h1; exact h1
  · unfold rl_s2 at h2
    rw [if_pos h1, if_pos hB] at h2
    obtain ⟨e1, e2⟩ := rl_c2_z h2
    refine ⟨e1, fun hA e => ?_⟩
    unfold rl_f2 at e2
    rw [if_neg hA, if_pos e] at e2
    exact absurd e2 (by decide)
  · unfold rl_s3 at h
    rw [if_pos h2, if_pos hC] at h
    obtain ⟨e1, e2⟩ := rl_c2_z h
    refine ⟨e1, fun e => ?_, fun e => ?_⟩
    · unfold rl_f3 at e2
      rw [if_pos e] at e2
      exact absurd e2 (by decide)
    · unfold rl_f3 at e2
      by_cases e' : c = a
      · rw [if_pos e'] at e2; exact absurd e2 (by decide)
      · rw [if_neg e', if_pos e] at e2; exact absurd e2 (by decide)
section
variable {mN mV mE mD nd ev cu rt rk rn re dp fl vk vn ve : Int32} {nK oA oB oC iC pO vO cK cN cE tw dV dK dN dE pa ho fN fE fS k1 k2 k3 : Nat → Int32} {N MN MV : Nat} {post : Int32 → Prop} {k a b c x : Int32}
theorem rx_58 (hN : N ≤ 48) (h : post (rl_s3 (rl_ck N iC) k a b c x)) : wX_refuseChildren_58 post k a b c x mN mV mE mD (nI N) ev cu rt rk rn re dp fl vk vn ve nK oA oB oC iC pO vO cK cN cE tw dV dK dN dE pa ho fN fE fS k1 k2 k3 := by
  unfold wX_refuseChildren_58 wX_refuseChildren_84 wX_refuseChildren_89
  unfold rl_s3 at h
  by_cases hx : x = 0
  · refine br_t hx ?_
    rw [if_pos hx] at h
    by_cases hk : k = 8
    · refine br_t hk ?_
      rw [if_pos hk] at h
      unfold rl_f3 at h
      by_cases h1 : c = a
      · rw [if_pos h1] at h
        exact br_t h1 (rx_refuseChild hN h)
      · rw [if_neg h1] at h
        refine br_f h1 ?_
        by_cases h2 : c = b
        · rw [if_pos h2] at h
          exact br_t h2 (rx_refuseChild hN h)
        · rw [if_neg h2] at h
          exact br_f h2 (rx_refuseChild hN h)
    · rw [if_neg hk] at h
      exact br_f hk (by rw [hx]; exact h)
  · rw [if_neg hx] at h
    exact br_f hx h
theorem rx_23 (hN : N ≤ 48) {f : Int32} (hf : f = if k < 5 then 0 else 1) (h : post (rl_s3 (rl_ck N iC) k a b c (rl_s2 (rl_ck N iC) k a b x))) : wX_refuseChildren_23 post k a b c f x mN mV mE mD (nI N) ev cu rt rk rn re dp fl vk vn ve nK oA oB oC iC pO vO cK cN cE tw dV dK dN dE pa ho fN fE fS k1 k2 k3 := by
  unfold wX_refuseChildren_23 wX_refuseChildren_52 wX_refuseChildren_53
  by_cases hx : x = 0
  · refine br_t hx ?_
    have yes : (k = 3 ∨ k = 4 ∨ ¬ k < 6) → (f = 0 → wpX_refuseChild (fun r => wX_refuseChildren_58 post k a b c r mN mV mE mD (nI N) ev cu rt rk rn re dp fl vk vn ve nK oA oB oC iC pO vO cK cN cE tw dV dK dN dE pa ho fN fE fS k1 k2 k3) (mN, mV, mE, mD, nI N, ev, cu, rt, rk, rn, re, dp, fl, vk, vn, ve, nK, oA, oB, oC, iC, pO, vO, cK, cN, cE, tw, dV, dK, dN, dE, pa, ho, fN, fE, fS, k1, k2, k3) b 0) ∧ (¬ f = 0 → (a = b → wpX_refuseChild (fun r => wX_refuseChildren_58 post k a b c r mN mV mE mD (nI N) ev cu rt rk rn re dp fl vk vn ve nK oA oB oC iC pO vO cK cN cE tw dV dK dN dE pa ho fN fE fS k1 k2 k3) (mN, mV, mE, mD, nI N, ev, cu, rt, rk, rn, re, dp, fl, vk, vn, ve, nK, oA, oB, oC, iC, pO, vO, cK, cN, cE, tw, dV, dK, dN, dE, pa, ho, fN, fE, fS, k1, k2, k3) b 1) ∧ (¬ a = b → wpX_refuseChild (fun r => wX_refuseChildren_58 post k a b c r mN mV mE mD (nI N) ev cu rt rk rn re dp fl vk vn ve nK oA oB oC iC pO vO cK cN cE tw dV dK dN dE pa ho fN fE fS k1 k2 k3) (mN, mV, mE, mD, nI N, ev, cu, rt, rk, rn, re, dp, fl, vk, vn, ve, nK, oA, oB, oC, iC, pO, vO, cK, cN, cE, tw, dV, dK, dN, dE, pa, ho, fN, fE, fS, k1, k2, k3) b 0)) := by
      intro hB
      unfold rl_s2 at h
      rw [if_pos hx, if_pos hB] at h
      unfold rl_f2 at h
      by_cases hk : k < 5
      · rw [if_pos hk] at hf h
        exact br_t hf (rx_refuseChild hN (rx_58 hN h))
      · rw [if_neg hk] at hf h
        refine br_f (by rw [hf]; decide) ?_
        by_cases hab : a = b
        · rw [if_pos hab] at h
          exact br_t hab (rx_refuseChild hN (rx_58 hN h))
        · rw [if_neg hab] at h
          exact br_f hab (rx_refuseChild hN (rx_58 hN h))
    by_cases h3 : k = 3
    · exact br_t h3 (br_f (by decide) (yes (Or.inl h3)))
    · refine br_f h3 ?_
      by_cases h4 : k = 4
      · exact br_t h4 (br_f (by decide) (yes (Or.inr (Or.inl h4))))
      · refine br_f h4 ?_
        by_cases h6 : k < 6
        · refine br_t h6 (br_t rfl (rx_58 hN ?_))
          unfold rl_s2 at h
          rw [if_pos hx, if_neg (by
            rintro (z | z | z)
            · exact h3 z
            · exact h4 z
            · exact z h6)] at h
          rw [hx]; exact h
        · exact br_f h6 (br_f (by decide) (yes (Or.inr (Or.inr h6))))
  · refine br_f hx (rx_58 hN ?_)
    unfold rl_s2 at h
    rw [if_neg hx] at h
    exact h
theorem rx_refuseChildren (hN : N ≤ 48) (h : post (rl_sa (rl_ck N iC) k a b c)) : wpX_refuseChildren post (mN, mV, mE, mD, nI N, ev, cu, rt, rk, rn, re, dp, fl, vk, vn, ve, nK, oA, oB, oC, iC, pO, vO, cK, cN, cE, tw, dV, dK, dN, dE, pa, ho, fN, fE, fS, k1, k2, k3) k a b c := by
  unfold wpX_refuseChildren
  unfold rl_sa rl_s1 at h
  by_cases hk : k < 5
  · rw [if_pos hk] at h
    exact br_t hk (br_t rfl (rx_23 hN (by rw [if_pos hk]) h))
  · rw [if_neg hk] at h
    refine br_f hk (br_f (by decide) (rx_refuseChild hN ?_))
    rw [rl_c2_0]
    exact rx_23 hN (by rw [if_neg hk]) h
theorem rx_48 (hN : N ≤ 48) {z : Int32} (h : post (if z = 0 then rl_sa (rl_ck N iC) k a b c else if a < 0 then 103 else if nI MV ≤ a then 103 else rl_sa (rl_ck N iC) k a b c)) : wX_refuseNode_48 post k a b c z mN (nI MV) mE mD (nI N) ev cu rt rk rn re dp fl vk vn ve nK oA oB oC iC pO vO cK cN cE tw dV dK dN dE pa ho fN fE fS k1 k2 k3 := by
  unfold wX_refuseNode_48 wX_refuseNode_66
  by_cases hz : z = 0
  · rw [if_pos hz] at h
    exact br_t hz (rx_refuseChildren hN h)
  · rw [if_neg hz] at h
    refine br_f hz ?_
    by_cases h0 : a < 0
    · rw [if_pos h0] at h
      exact br_t h0 (br_t rfl h)
    · rw [if_neg h0] at h
      refine br_f h0 ?_
      by_cases h1 : nI MV ≤ a
      · rw [if_pos h1] at h
        exact br_t h1 (br_t rfl h)
      · rw [if_neg h1] at h
        exact br_f h1 (br_f (by decide) (rx_refuseChildren hN h))
theorem rx_refuseNode (hN : N ≤ 48) (h : post (rl_rf N MN MV iC k a b c)) : wpX_refuseNode post (nI MN, nI MV, mE, mD, nI N, ev, cu, rt, rk, rn, re, dp, fl, vk, vn, ve, nK, oA, oB, oC, iC, pO, vO, cK, cN, cE, tw, dV, dK, dN, dE, pa, ho, fN, fE, fS, k1, k2, k3) k a b c := by
  unfold wpX_refuseNode wX_refuseNode_43
  unfold rl_rf at h
  by_cases h1 : k < 1
  · rw [if_pos h1] at h; exact br_t h1 h
  · rw [if_neg h1] at h
    refine br_f h1 ?_
    by_cases h12 : k ≤ 12
    · rw [if_pos h12] at h
      refine br_t h12 ?_
      by_cases hm : nI N < nI MN
      · rw [if_pos hm] at h
        refine br_t hm ?_
        by_cases hv : k = 2 ∨ k = 3 ∨ k = 4
        · rw [if_pos hv] at h
          have y := rx_48 (MV := MV) (z := 1) (k := k) (a := a) (b := b) (c := c) (post := post) (iC := iC) (mN := nI MN) (mE := mE) (mD := mD) (ev := ev) (cu := cu) (rt := rt) (rk := rk) (rn := rn) (re := re) (dp := dp) (fl := fl) (vk := vk) (vn := vn) (ve := ve) (nK := nK) (oA := oA) (oB := oB) (oC := oC) (pO := pO) (vO := vO) (cK := cK) (cN := cN) (cE := cE) (tw := tw) (dV := dV) (dK := dK) (dN := dN) (dE := dE) (pa := pa) (ho := ho) (fN := fN) (fE := fE) (fS := fS) (k1 := k1) (k2 := k2) (k3 := k3) hN (by rw [if_neg (by decide)]; exact h)
          by_cases e2 : k = 2
          · exact br_t e2 y
          · refine br_f e2 ?_
            by_cases e3 : k = 3
            · exact br_t e3 y
            · refine br_f e3 ?_
              by_cases e4 : k = 4
              · exact br_t e4 y
              · rcases hv with z | z | z
                · exact absurd z e2
                · exact absurd z e3
                · exact absurd z e4
        · rw [if_neg hv] at h
          refine br_f (fun z => hv (Or.inl z)) (br_f (fun z => hv (Or.inr (Or.inl z))) (br_f (fun z => hv (Or.inr (Or.inr z))) (rx_48 hN ?_)))
          rw [if_pos rfl]; exact h
      · rw [if_neg hm] at h
        exact br_f hm h
    · rw [if_neg h12] at h
      exact br_f h12 h
end
section
variable {mN mV mE mD nd ev cu tp zk zn ze rk rn re : Int32} {nK oA oB oC pO vO yK yN yE fN fE fS l1 l2 l3 : Nat → Int32} {N MN MV : Nat} {iC : Nat → Int32} {sz : Nat → Nat} {post : Int32 → SY → Prop} {k a b c x : Int32}
theorem ry_118 (hN : N ≤ 48) (ic : rl_IC N nK oA oB oC iC sz) (h : wY_node_158 post k a b c (rl_s3 (rl_ck N iC) k a b c x) mN mV mE mD (nI N) ev cu tp zk zn ze rk rn re nK oA oB oC pO vO yK yN yE fN fE fS l1 l2 l3) : wY_node_118 post k a b c x mN mV mE mD (nI N) ev cu tp zk zn ze rk rn re nK oA oB oC pO vO yK yN yE fN fE fS l1 l2 l3 := by
  unfold wY_node_118 wY_node_154
  unfold rl_s3 at h
  by_cases hx : x = 0
  · refine br_t hx ?_
    rw [if_pos hx] at h
    by_cases hk : k = 8
    · refine br_t hk (ry_check hN ic ?_)
      rw [if_pos hk] at h
      by_cases hq : rl_ck N iC c = 0
      · refine br_t hq ?_
        rw [hq] at h ⊢
        unfold rl_c2 rl_f3 at h
        rw [if_neg (by decide)] at h
        by_cases h1 : c = a
        · refine br_t h1 ?_
          rw [if_pos h1, if_neg (by decide)] at h
          exact h
        · refine br_f h1 ?_
          rw [if_neg h1] at h
          by_cases h2 : c = b
          · refine br_t h2 ?_
            rw [if_pos h2, if_neg (by decide)] at h
            exact h
          · refine br_f h2 ?_
            rw [if_neg h2, if_pos rfl] at h
            exact h
      · refine br_f hq ?_
        have e : rl_c2 (rl_ck N iC c) (rl_f3 a b c) = rl_ck N iC c := by
          rcases rl_ck3 hN iC c with ⟨_, e⟩ | ⟨_, _, e⟩ | ⟨i, _, _, _, _, e⟩
          · rw [e]; exact if_pos rfl
          · rw [e]; exact if_pos rfl
          · rw [e] at hq ⊢
            by_cases hz : iC i = 0
            · rw [if_pos hz] at hq; exact absurd rfl hq
            · rw [if_neg hz]
              unfold rl_c2
              rw [if_neg (by decide)]
              by_cases hp : rl_f3 a b c = 0
              · rw [if_pos hp]
              · rw [if_neg hp]
        rw [e] at h
        exact h
    · rw [if_neg hk] at h
      exact br_f hk (by rw [hx]; exact h)
  · rw [if_neg hx] at h
    exact br_f hx h
theorem ry_76 (hN : N ≤ 48) (ic : rl_IC N nK oA oB oC iC sz) (h : wY_node_158 post k a b c (rl_s3 (rl_ck N iC) k a b c (rl_s2 (rl_ck N iC) k a b x)) mN mV mE mD (nI N) ev cu tp zk zn ze rk rn re nK oA oB oC pO vO yK yN yE fN fE fS l1 l2 l3) : wY_node_76 post k a b c x mN mV mE mD (nI N) ev cu tp zk zn ze rk rn re nK oA oB oC pO vO yK yN yE fN fE fS l1 l2 l3 := by
  unfold wY_node_76
  by_cases hx : x = 0
  · refine br_t hx ?_
    have yes : (k = 3 ∨ k = 4 ∨ ¬ k < 6) → wpY_checkChild (fun r => (r = 0 → wpY_childA (fun s => (s = 0 → wY_node_118 post k a b c r mN mV mE mD (nI N) ev cu tp zk zn ze rk rn re nK oA oB oC pO vO yK yN yE fN fE fS l1 l2 l3) ∧ (¬ s = 0 → (a = b → wY_node_118 post k a b c 105 mN mV mE mD (nI N) ev cu tp zk zn ze rk rn re nK oA oB oC pO vO yK yN yE fN fE fS l1 l2 l3) ∧ (¬ a = b → wY_node_118 post k a b c r mN mV mE mD (nI N) ev cu tp zk zn ze rk rn re nK oA oB oC pO vO yK yN yE fN fE fS l1 l2 l3))) (mN, mV, mE, mD, nI N, ev, cu, tp, zk, zn, ze, rk, rn, re, nK, oA, oB, oC, pO, vO, yK, yN, yE, fN, fE, fS, l1, l2, l3) k) ∧ (¬ r = 0 → wY_node_118 post k a b c r mN mV mE mD (nI N) ev cu tp zk zn ze rk rn re nK oA oB oC pO vO yK yN yE fN fE fS l1 l2 l3)) (mN, mV, mE, mD, nI N, ev, cu, tp, zk, zn, ze, rk, rn, re, nK, oA, oB, oC, pO, vO, yK, yN, yE, fN, fE, fS, l1, l2, l3) b := by
      intro hB
      unfold rl_s2 at h
      rw [if_pos hx, if_pos hB] at h
      refine ry_check hN ic ?_
      by_cases hq : rl_ck N iC b = 0
      · refine br_t hq ?_
        unfold rl_c2 rl_f2 at h
        rw [hq, if_neg (by decide)] at h
        by_cases hk : k < 5
        · refine br_t hk (br_t rfl (ry_118 hN ic ?_))
          rw [if_pos hk, if_pos rfl] at h
          rw [hq]; exact h
        · refine br_f hk (br_f (by decide) ?_)
          rw [if_neg hk] at h
          by_cases hab : a = b
          · refine br_t hab (ry_118 hN ic ?_)
            rw [if_pos hab, if_neg (by decide)] at h
            exact h
          · refine br_f hab (ry_118 hN ic ?_)
            rw [if_neg hab, if_pos rfl] at h
            rw [hq]; exact h
      · refine br_f hq (ry_118 hN ic ?_)
        have e : rl_c2 (rl_ck N iC b) (rl_f2 k a b) = rl_ck N iC b := by
          rcases rl_ck3 hN iC b with ⟨_, e⟩ | ⟨_, _, e⟩ | ⟨i, _, _, _, _, e⟩
          · rw [e]; exact if_pos rfl
          · rw [e]; exact if_pos rfl
          · rw [e] at hq ⊢
            by_cases hz : iC i = 0
            · rw [if_pos hz] at hq; exact absurd rfl hq
            · rw [if_neg hz]
              unfold rl_c2
              rw [if_neg (by decide)]
              by_cases hp : rl_f2 k a b = 0
              · rw [if_pos hp]
              · rw [if_neg hp]
        rw [e] at h
        exact h
    by_cases h3 : k = 3
    · exact br_t h3 (br_f (by decide) (yes (Or.inl h3)))
    · refine br_f h3 ?_
      by_cases h4 : k = 4
      · exact br_t h4 (br_f (by decide) (yes (Or.inr (Or.inl h4))))
      · refine br_f h4 ?_
        by_cases h6 : k < 6
        · refine br_t h6 (br_t rfl (ry_118 hN ic ?_))
          unfold rl_s2 at h
          rw [if_pos hx, if_neg (by
            rintro (z | z | z)
            · exact h3 z
            · exact h4 z
            · exact z h6)] at h
          rw [hx]; exact h
        · exact br_f h6 (br_f (by decide) (yes (Or.inr (Or.inr h6))))
  · refine br_f hx (ry_118 hN ic ?_)
    unfold rl_s2 at h
    rw [if_neg hx] at h
    exact h
theorem ry_58 (hN : N ≤ 48) (ic : rl_IC N nK oA oB oC iC sz) (h : wY_node_158 post k a b c (rl_sa (rl_ck N iC) k a b c) mN mV mE mD (nI N) ev cu tp zk zn ze rk rn re nK oA oB oC pO vO yK yN yE fN fE fS l1 l2 l3) : wY_node_58 post k a b c mN mV mE mD (nI N) ev cu tp zk zn ze rk rn re nK oA oB oC pO vO yK yN yE fN fE fS l1 l2 l3 := by
  unfold wY_node_58
  unfold rl_sa rl_s1 at h
  by_cases hk : k < 5
  · rw [if_pos hk] at h
    exact br_t hk (br_t rfl (ry_76 hN ic h))
  · rw [if_neg hk] at h
    exact br_f hk (br_f (by decide) (ry_check hN ic (ry_76 hN ic h)))
theorem ry_node (hN : N ≤ 48) (ic : rl_IC N nK oA oB oC iC sz) (h : wY_node_158 post k a b c (rl_rf N MN MV iC k a b c) (nI MN) (nI MV) mE mD (nI N) ev cu tp zk zn ze rk rn re nK oA oB oC pO vO yK yN yE fN fE fS l1 l2 l3) : wpY_node post (nI MN, nI MV, mE, mD, nI N, ev, cu, tp, zk, zn, ze, rk, rn, re, nK, oA, oB, oC, pO, vO, yK, yN, yE, fN, fE, fS, l1, l2, l3) k a b c := by
  unfold wpY_node
  have go : ∀ {q : Int32}, q ≠ 0 → wY_node_158 post k a b c q (nI MN) (nI MV) mE mD (nI N) ev cu tp zk zn ze rk rn re nK oA oB oC pO vO yK yN yE fN fE fS l1 l2 l3 → post q (nI MN, nI MV, mE, mD, nI N, ev, cu, tp, zk, zn, ze, rk, rn, re, nK, oA, oB, oC, pO, vO, yK, yN, yE, fN, fE, fS, l1, l2, l3) := fun hq H => H.2 hq
  unfold rl_rf at h
  by_cases h1 : k < 1
  · rw [if_pos h1] at h; exact br_t h1 (go (by decide) h)
  · rw [if_neg h1] at h
    refine br_f h1 ?_
    by_cases h12 : k ≤ 12
    · rw [if_pos h12] at h
      refine br_t h12 ?_
      by_cases hm : nI N < nI MN
      · rw [if_pos hm] at h
        refine br_t hm ?_
        by_cases hv : k = 2 ∨ k = 3 ∨ k = 4
        · rw [if_pos hv] at h
          have y : wY_node_43 post k a b c (nI MN) (nI MV) mE mD (nI N) ev cu tp zk zn ze rk rn re nK oA oB oC pO vO yK yN yE fN fE fS l1 l2 l3 := by
            unfold wY_node_43
            by_cases h0 : a < 0
            · rw [if_pos h0] at h
              exact br_t h0 (go (by decide) h)
            · rw [if_neg h0] at h
              refine br_f h0 ?_
              by_cases h1 : nI MV ≤ a
              · rw [if_pos h1] at h
                exact br_f (Int32.not_lt.mpr h1) (go (by decide) h)
              · rw [if_neg h1] at h
                exact br_t (Int32.not_le.mp h1) (ry_58 hN ic h)
          by_cases e2 : k = 2
          · exact br_t e2 y
          · refine br_f e2 ?_
            by_cases e3 : k = 3
            · exact br_t e3 y
            · refine br_f e3 ?_
              by_cases e4 : k = 4
              · exact br_t e4 y
              · rcases hv with z | z | z
                · exact absurd z e2
                · exact absurd z e3
                · exact absurd z e4
        · rw [if_neg hv] at h
          exact br_f (fun z => hv (Or.inl z)) (br_f (fun z => hv (Or.inr (Or.inl z))) (br_f (fun z => hv (Or.inr (Or.inr z))) (ry_58 hN ic h)))
      · rw [if_neg hm] at h
        exact br_f hm (go (by decide) h)
    · rw [if_neg h12] at h
      exact br_f h12 (go (by decide) h)
end
end
section
/-! part 10: node, both sides -/
section
variable {mN mV mE mD nd ev cu rt rk rn re dp fl vk vn ve : Int32} {nK oA oB oC iC pO vO cK cN cE tw dV dK dN dE pa ho fN fE fS k1 k2 k3 : Nat → Int32} {N : Nat} {post : Int32 → SX → Prop} {k a b c : Int32}
theorem rx_103f (hk : ¬ k = 8) (h : post (nI N) (mN, mV, mE, mD, nI (N + 1), ev, cu, rt, rk, rn, re, dp, fl, vk, vn, ve, nK, oA, oB, oC, iC, pO, vO, cK, cN, cE, tw, dV, dK, dN, dE, pa, ho, fN, fE, fS, k1, k2, k3)) : wX_node_103 post k c (nI N) mN mV mE mD nd ev cu rt rk rn re dp fl vk vn ve nK oA oB oC iC pO vO cK cN cE tw dV dK dN dE pa ho fN fE fS k1 k2 k3 := by
  unfold wX_node_103
  exact br_f hk (nm_r (nI_1 N) h)
theorem rx_103t (hk : k = 8) (hN : N < 48) {i : Nat} (hi : i < 48) (h : post (nI N) (mN, mV, mE, mD, nI (N + 1), ev, cu, rt, rk, rn, re, dp, fl, vk, vn, ve, nK, oA, oB, upd oC N (nI i), upd iC i 1, pO, vO, cK, cN, cE, tw, dV, dK, dN, dE, pa, ho, fN, fE, fS, k1, k2, k3)) : wX_node_103 post k (nI i) (nI N) mN mV mE mD nd ev cu rt rk rn re dp fl vk vn ve nK oA oB oC iC pO vO cK cN cE tw dV dK dN dE pa ho fN fE fS k1 k2 k3 := by
  unfold wX_node_103
  have cn := rl_c (n := N) (by omega)
  have ci := rl_c (n := i) (by omega)
  exact br_t hk ⟨rl_in hN (by omega), nm_r (e' := upd oC N (nI i)) (by rw [cn]) ⟨rl_in hi (by omega), nm_r (e' := upd iC i 1) (by rw [ci, rl_vb1]) (nm_r (nI_1 N) h)⟩⟩
theorem rx_80f (hk : ¬ (k = 3 ∨ k = 4 ∨ ¬ k < 6)) (h : wX_node_103 post k c (nI N) mN mV mE mD nd ev cu rt rk rn re dp fl vk vn ve nK oA oB oC iC pO vO cK cN cE tw dV dK dN dE pa ho fN fE fS k1 k2 k3) : wX_node_80 post k b c (nI N) mN mV mE mD nd ev cu rt rk rn re dp fl vk vn ve nK oA oB oC iC pO vO cK cN cE tw dV dK dN dE pa ho fN fE fS k1 k2 k3 := by
  unfold wX_node_80
  have h6 : k < 6 := by
    by_cases z : k < 6
    · exact z
    · exact absurd (Or.inr (Or.inr z)) hk
  exact br_f (fun z => hk (Or.inl z)) (br_f (fun z => hk (Or.inr (Or.inl z))) (br_t h6 (br_t rfl h)))
theorem rx_80t (hk : k = 3 ∨ k = 4 ∨ ¬ k < 6) (hN : N < 48) {i : Nat} (hi : i < 48) (h : wX_node_103 post k c (nI N) mN mV mE mD nd ev cu rt rk rn re dp fl vk vn ve nK oA (upd oB N (nI i)) oC (upd iC i 1) pO vO cK cN cE tw dV dK dN dE pa ho fN fE fS k1 k2 k3) : wX_node_80 post k (nI i) c (nI N) mN mV mE mD nd ev cu rt rk rn re dp fl vk vn ve nK oA oB oC iC pO vO cK cN cE tw dV dK dN dE pa ho fN fE fS k1 k2 k3 := by
  unfold wX_node_80
  have cn := rl_c (n := N) (by omega)
  have ci := rl_c (n := i) (by omega)
  have y : vp_in (nI N) 48 ∧ ∀ p : Nat → Int32, p = upd oB (nI N).toNatClampNeg (nI i) → vp_in (nI i) 48 ∧ ∀ q : Nat → Int32, q = upd iC (nI i).toNatClampNeg (vp_nar .boolean 1) → wX_node_103 post k c (nI N) mN mV mE mD nd ev cu rt rk rn re dp fl vk vn ve nK oA p oC q pO vO cK cN cE tw dV dK dN dE pa ho fN fE fS k1 k2 k3 :=
    ⟨rl_in hN (by omega), nm_r (e' := upd oB N (nI i)) (by rw [cn]) ⟨rl_in hi (by omega), nm_r (e' := upd iC i 1) (by rw [ci, rl_vb1]) h⟩⟩
  by_cases h3 : k = 3
  · exact br_t h3 (br_f (by decide) y)
  · refine br_f h3 ?_
    by_cases h4 : k = 4
    · exact br_t h4 (br_f (by decide) y)
    · refine br_f h4 ?_
      rcases hk with z | z | z
      · exact absurd z h3
      · exact absurd z h4
      · exact br_f z (br_f (by decide) y)
theorem rx_node0 {MN MV : Nat} (hN : N < 48) (hr : rl_rf N MN MV iC k a b c = 0) (hk : k < 5) (h : wX_node_80 post k b c (nI N) (nI MN) (nI MV) mE mD (nI N) ev cu rt rk rn re dp fl vk vn ve (upd nK N k) (upd oA N a) (upd oB N 0) (upd oC N 0) (upd iC N 0) pO vO cK cN cE tw dV dK dN dE pa ho fN fE fS k1 k2 k3) : wpX_node post (nI MN, nI MV, mE, mD, nI N, ev, cu, rt, rk, rn, re, dp, fl, vk, vn, ve, nK, oA, oB, oC, iC, pO, vO, cK, cN, cE, tw, dV, dK, dN, dE, pa, ho, fN, fE, fS, k1, k2, k3) k a b c := by
  unfold wpX_node
  have cn := rl_c (n := N) (by omega)
  have iN := rl_in hN (by omega)
  refine rx_refuseNode (by omega) ?_
  rw [hr]
  exact br_t rfl ⟨iN, nm_r (e' := upd nK N k) (by rw [cn]) ⟨iN, nm_r (e' := upd oA N a) (by rw [cn]) ⟨iN, nm_r (e' := upd oB N 0) (by rw [cn]) ⟨iN, nm_r (e' := upd oC N 0) (by rw [cn]) ⟨iN, nm_r (e' := upd iC N 0) (by rw [cn, rl_vb0]) (br_t hk (br_t rfl h))⟩⟩⟩⟩⟩
theorem rx_node1 {MN MV : Nat} (hN : N < 48) {i : Nat} (hi : i < 48) (hr : rl_rf N MN MV iC k (nI i) b c = 0) (hk : ¬ k < 5) (h : wX_node_80 post k b c (nI N) (nI MN) (nI MV) mE mD (nI N) ev cu rt rk rn re dp fl vk vn ve (upd nK N k) (upd oA N (nI i)) (upd oB N 0) (upd oC N 0) (upd (upd iC N 0) i 1) pO vO cK cN cE tw dV dK dN dE pa ho fN fE fS k1 k2 k3) : wpX_node post (nI MN, nI MV, mE, mD, nI N, ev, cu, rt, rk, rn, re, dp, fl, vk, vn, ve, nK, oA, oB, oC, iC, pO, vO, cK, cN, cE, tw, dV, dK, dN, dE, pa, ho, fN, fE, fS, k1, k2, k3) k (nI i) b c := by
  unfold wpX_node
  have cn := rl_c (n := N) (by omega)
  have ci := rl_c (n := i) (by omega)
  have iN := rl_in hN (by omega)
  refine rx_refuseNode (by omega) ?_
  rw [hr]
  exact br_t rfl ⟨iN, nm_r (e' := upd nK N k) (by rw [cn]) ⟨iN, nm_r (e' := upd oA N (nI i)) (by rw [cn]) ⟨iN, nm_r (e' := upd oB N 0) (by rw [cn]) ⟨iN, nm_r (e' := upd oC N 0) (by rw [cn]) ⟨iN, nm_r (e' := upd iC N 0) (by rw [cn, rl_vb0]) (br_f hk (br_f (by decide) ⟨rl_in hi (by omega), nm_r (e' := upd (upd iC N 0) i 1) (by rw [ci, rl_vb1]) h⟩))⟩⟩⟩⟩⟩
end
section
variable {mN mV mE mD nd ev cu tp zk zn ze rk rn re : Int32} {nK oA oB oC pO vO yK yN yE fN fE fS l1 l2 l3 : Nat → Int32} {N : Nat} {post : Int32 → SY → Prop} {k a b c : Int32}
theorem ry_158 (hN : N < 48) {bb cc : Int32} (hb : (k = 3 ∨ k = 4 ∨ ¬ k < 6) ∧ bb = b ∨ ¬ (k = 3 ∨ k = 4 ∨ ¬ k < 6) ∧ bb = 0) (hc : k = 8 ∧ cc = c ∨ ¬ k = 8 ∧ cc = 0) (h : post (nI N) (mN, mV, mE, mD, nI (N + 1), ev, cu, tp, zk, zn, ze, rk, rn, re, upd nK N k, upd oA N a, upd oB N bb, upd oC N cc, pO, vO, yK, yN, yE, fN, fE, fS, l1, l2, l3)) : wY_node_158 post k a b c 0 mN mV mE mD (nI N) ev cu tp zk zn ze rk rn re nK oA oB oC pO vO yK yN yE fN fE fS l1 l2 l3 := by
  unfold wY_node_158
  have cn := rl_c (n := N) (by omega)
  have iN := rl_in hN (by omega)
  have y : wY_node_207 post k c bb (nI N) mN mV mE mD (nI N) ev cu tp zk zn ze rk rn re (upd nK N k) (upd oA N a) oB oC pO vO yK yN yE fN fE fS l1 l2 l3 := by
    unfold wY_node_207 wY_node_228
    refine ⟨iN, nm_r (e' := upd oB N bb) (by rw [cn]) ?_⟩
    have z : vp_in (nI N) 48 ∧ ∀ p : Nat → Int32, p = upd oC (nI N).toNatClampNeg cc → ∀ q : Int32, q = nI N + 1 → post (q - 1) (mN, mV, mE, mD, q, ev, cu, tp, zk, zn, ze, rk, rn, re, upd nK N k, upd oA N a, upd oB N bb, p, pO, vO, yK, yN, yE, fN, fE, fS, l1, l2, l3) :=
      ⟨iN, nm_r (e' := upd oC N cc) (by rw [cn]) (nm_r (nI_1 N) (by rw [nI_pred]; exact h))⟩
    rcases hc with ⟨h8, e⟩ | ⟨h8, e⟩
    · subst e; exact br_t h8 z
    · subst e; exact br_f h8 z
  refine br_t rfl ⟨iN, nm_r (e' := upd nK N k) (by rw [cn]) ⟨iN, nm_r (e' := upd oA N a) (by rw [cn]) ?_⟩⟩
  rcases hb with ⟨hB, e⟩ | ⟨hB, e⟩
  · subst e
    by_cases h3 : k = 3
    · exact br_t h3 (br_f (by decide) y)
    · refine br_f h3 ?_
      by_cases h4 : k = 4
      · exact br_t h4 (br_f (by decide) y)
      · refine br_f h4 ?_
        rcases hB with z | z | z
        · exact absurd z h3
        · exact absurd z h4
        · exact br_f z (br_f (by decide) y)
  · subst e
    have h6 : k < 6 := by
      by_cases z : k < 6
      · exact z
      · exact absurd (Or.inr (Or.inr z)) hB
    exact br_f (fun z => hB (Or.inl z)) (br_f (fun z => hB (Or.inr (Or.inl z))) (br_t h6 (br_t rfl y)))
end
theorem rl_rf_ok {N MN MV : Nat} {iC : Nat → Int32} {k a b c : Int32} (hM : MN ≤ 48) (hN : N ≤ 48) (h : rl_rf N MN MV iC k a b c = 0) : (∃ j, 1 ≤ j ∧ j ≤ 12 ∧ k = nI j) ∧ N < MN ∧ ((k = 2 ∨ k = 3 ∨ k = 4) → ¬ a < 0 ∧ ¬ nI MV ≤ a) ∧ rl_sa (rl_ck N iC) k a b c = 0 := by
  unfold rl_rf at h
  by_cases h1 : k < 1
  · rw [if_pos h1] at h; exact absurd h (by decide)
  · rw [if_neg h1] at h
    by_cases h12 : k ≤ 12
    · rw [if_pos h12] at h
      by_cases hm : nI N < nI MN
      · rw [if_pos hm] at h
        rw [nI_ltI (by omega) (by omega)] at hm
        have hj : ∃ j, 1 ≤ j ∧ j ≤ 12 ∧ k = nI j := by
          have h0 : ¬ k < 0 := by
            intro z
            have := Int32.lt_iff_toInt_lt.mp z
            rw [Int32.lt_iff_toInt_lt] at h1
            have e0 : (0 : Int32).toInt = 0 := by decide
            have e1 : (1 : Int32).toInt = 1 := by decide
            rw [e0] at this
            rw [e1] at h1
            omega
          obtain ⟨j, hj, rfl⟩ := nI_of h0
          have a1 := h1
          rw [show (1 : Int32) = nI 1 from rfl, nI_ltI hj (by omega)] at a1
          rw [show (12 : Int32) = nI 12 from rfl, nI_leI hj (by omega)] at h12
          exact ⟨j, by omega, h12, rfl⟩
        refine ⟨hj, hm, ?_⟩
        by_cases hv : k = 2 ∨ k = 3 ∨ k = 4
        · rw [if_pos hv] at h
          by_cases h0 : a < 0
          · rw [if_pos h0] at h; exact absurd h (by decide)
          · rw [if_neg h0] at h
            by_cases h2 : nI MV ≤ a
            · rw [if_pos h2] at h; exact absurd h (by decide)
            · rw [if_neg h2] at h
              exact ⟨fun _ => ⟨h0, h2⟩, h⟩
        · rw [if_neg hv] at h
          exact ⟨fun z => absurd z hv, h⟩
      · rw [if_neg hm] at h; exact absurd h (by decide)
    · rw [if_neg h12] at h; exact absurd h (by decide)
section
variable {MN MV ME MD N E c r : Nat} {sz : Nat → Nat} {rk rn re dp fl vk vn ve tp zk zn ze : Int32} {nK oA oB oC iC pO vO cK cN cE tw dV dK dN dE pa ho fN fE fS k1 k2 k3 yK yN yE l1 l2 l3 : Nat → Int32}
theorem rl_node_rel {k : Nat} {q a b d : Int32} {iC' : Nat → Int32} (bf : rl_BF MN MV ME MD N E c r sz nK oA oB oC iC pO vO yK yN yE cK cN cE tw dV dK dN dE) (vo : rl_VO N E nK rk rn re) (hN : N < MN)
    (h : ∃ sz', rl_NF (N + 1) MV (upd nK N q) (upd oA N a) (upd oB N b) (upd oC N d) sz' ∧ rl_IC (N + 1) (upd nK N q) (upd oA N a) (upd oB N b) (upd oC N d) iC' sz') :
    i_Rel k (nI MN, nI MV, nI ME, nI MD, nI (N + 1), nI E, nI c, nI r, rk, rn, re, dp, fl, vk, vn, ve, upd nK N q, upd oA N a, upd oB N b, upd oC N d, iC', pO, vO, cK, cN, cE, tw, dV, dK, dN, dE, pa, ho, fN, fE, fS, k1, k2, k3) (nI MN, nI MV, nI ME, nI MD, nI (N + 1), nI E, nI c, tp, zk, zn, ze, rk, rn, re, upd nK N q, upd oA N a, upd oB N b, upd oC N d, pO, vO, yK, yN, yE, fN, fE, fS, l1, l2, l3) := by
  obtain ⟨sz', h1, h2⟩ := h
  obtain ⟨⟨a1, a2, a3, a4, a5, a6, a7, a8⟩, nf, ic, pf, er, vc⟩ := bf
  exact rl_rel ⟨⟨a1, a2, a3, a4, hN, a6, a7, a8⟩, h1, h2, pf, er, fun x hx => rl_VO_node q (vc x hx)⟩ (rl_VO_node q vo)
theorem rl_vc_node {kk : Nat} (k a b d : Int32) (bf : rl_BF MN MV ME MD N E c r sz nK oA oB oC iC pO vO yK yN yE cK cN cE tw dV dK dN dE) (vo : rl_VO N E nK rk rn re) :
    wpX_node (fun r u' => wpY_node (fun r' v' => r' = r ∧ i_Rel kk u' v') (nI MN, nI MV, nI ME, nI MD, nI N, nI E, nI c, tp, zk, zn, ze, rk, rn, re, nK, oA, oB, oC, pO, vO, yK, yN, yE, fN, fE, fS, l1, l2, l3) k a b d) (nI MN, nI MV, nI ME, nI MD, nI N, nI E, nI c, nI r, rk, rn, re, dp, fl, vk, vn, ve, nK, oA, oB, oC, iC, pO, vO, cK, cN, cE, tw, dV, dK, dN, dE, pa, ho, fN, fE, fS, k1, k2, k3) k a b d := by
  have hM : MN ≤ 48 := bf.1.1
  have hNM : N ≤ MN := bf.1.2.2.2.2.1
  have hMV : MV ≤ 8 := bf.1.2.1
  have nf := bf.2.1
  have ic := bf.2.2.1
  by_cases hr : rl_rf N MN MV iC k a b d = 0
  · obtain ⟨⟨j, j1, j12, ej⟩, hN, hv, hs⟩ := rl_rf_ok hM (by omega) hr
    obtain ⟨hA, hB, hC⟩ := rl_sa_ok hs
    have h5 : k < 5 ↔ j < 5 := by rw [ej, show (5 : Int32) = nI 5 from rfl]; exact nI_ltI (by omega) (by omega)
    have h6 : k < 6 ↔ j < 6 := by rw [ej, show (6 : Int32) = nI 6 from rfl]; exact nI_ltI (by omega) (by omega)
    have e2 : k = 2 ↔ j = 2 := by rw [ej, show (2 : Int32) = nI 2 from rfl]; exact nI_eq (by omega) (by omega)
    have e3 : k = 3 ↔ j = 3 := by rw [ej, show (3 : Int32) = nI 3 from rfl]; exact nI_eq (by omega) (by omega)
    have e4 : k = 4 ↔ j = 4 := by rw [ej, show (4 : Int32) = nI 4 from rfl]; exact nI_eq (by omega) (by omega)
    have e8 : k = 8 ↔ j = 8 := by rw [ej, show (8 : Int32) = nI 8 from rfl]; exact nI_eq (by omega) (by omega)
    have vv : (k = 2 ∨ k = 3 ∨ k = 4) → ∃ v, v < MV ∧ a = nI v := by
      intro z
      obtain ⟨z0, z1⟩ := hv z
      obtain ⟨v, hv31, ev⟩ := nI_of z0
      subst ev
      rw [nI_leI (by omega) hv31] at z1
      exact ⟨v, by omega, rfl⟩
    have cases5 : j ≤ 2 ∨ j = 3 ∨ j = 4 ∨ j = 5 ∨ (6 ≤ j ∧ j ≠ 8) ∨ j = 8 := by omega
    have sB : ∀ {P : Prop}, (j = 3 ∨ j = 4 → P) → (6 ≤ j → P) → (k = 3 ∨ k = 4 ∨ ¬ k < 6) → P := by
      intro P f g z
      rcases z with z | z | z
      · exact f (Or.inl (e3.mp z))
      · exact f (Or.inr (e4.mp z))
      · exact g (by have := mt h6.mpr z; omega)
    rcases cases5 with hj | hj | hj | hj | hj | hj
    · have n8 : ¬ k = 8 := fun z => by have := e8.mp z; omega
      have nB : ¬ (k = 3 ∨ k = 4 ∨ ¬ k < 6) := fun z => sB (P := False) (fun y => by omega) (fun y => by omega) z
      refine rx_node0 (by omega) hr (h5.mpr (by omega)) (rx_80f nB (rx_103f n8 ?_))
      refine ry_node (by omega) ic ?_
      rw [hr]
      refine ry_158 (by omega) (Or.inr ⟨nB, rfl⟩) (Or.inr ⟨n8, rfl⟩) ⟨rfl, rl_node_rel bf vo hN ?_⟩
      refine rl_new0 (by omega) nf ic ?_
      have : j = 1 ∨ j = 2 := by omega
      rcases this with y | y
      · subst y; exact Or.inl ej
      · exact Or.inr ⟨e2.mpr y, vv (Or.inl (e2.mpr y))⟩
    · have n8 : ¬ k = 8 := fun z => by have := e8.mp z; omega
      have yB : k = 3 ∨ k = 4 ∨ ¬ k < 6 := Or.inl (e3.mpr hj)
      obtain ⟨i, hi, ei, zi⟩ := rl_ck_0 (by omega) (hB yB).1
      subst ei
      refine rx_node0 (by omega) hr (h5.mpr (by omega)) (rx_80t yB (by omega) (by omega) (rx_103f n8 ?_))
      rw [rl_uu]
      refine ry_node (by omega) ic ?_
      rw [hr]
      refine ry_158 (by omega) (Or.inl ⟨yB, rfl⟩) (Or.inr ⟨n8, rfl⟩) ⟨rfl, rl_node_rel bf vo hN ?_⟩
      exact rl_newB (by omega) nf ic (Or.inl (e3.mpr hj)) (vv (Or.inr (Or.inl (e3.mpr hj)))) hi zi
    · have n8 : ¬ k = 8 := fun z => by have := e8.mp z; omega
      have yB : k = 3 ∨ k = 4 ∨ ¬ k < 6 := Or.inr (Or.inl (e4.mpr hj))
      obtain ⟨i, hi, ei, zi⟩ := rl_ck_0 (by omega) (hB yB).1
      subst ei
      refine rx_node0 (by omega) hr (h5.mpr (by omega)) (rx_80t yB (by omega) (by omega) (rx_103f n8 ?_))
      rw [rl_uu]
      refine ry_node (by omega) ic ?_
      rw [hr]
      refine ry_158 (by omega) (Or.inl ⟨yB, rfl⟩) (Or.inr ⟨n8, rfl⟩) ⟨rfl, rl_node_rel bf vo hN ?_⟩
      exact rl_newB (by omega) nf ic (Or.inr (e4.mpr hj)) (vv (Or.inr (Or.inr (e4.mpr hj)))) hi zi
    · have n8 : ¬ k = 8 := fun z => by have := e8.mp z; omega
      have nB : ¬ (k = 3 ∨ k = 4 ∨ ¬ k < 6) := fun z => sB (P := False) (fun y => by omega) (fun y => by omega) z
      have n5 : ¬ k < 5 := fun z => by have := h5.mp z; omega
      obtain ⟨i, hi, ei, zi⟩ := rl_ck_0 (by omega) (hA n5)
      subst ei
      refine rx_node1 (by omega) (by omega) hr n5 (rx_80f nB (rx_103f n8 ?_))
      refine ry_node (by omega) ic ?_
      rw [hr]
      refine ry_158 (by omega) (Or.inr ⟨nB, rfl⟩) (Or.inr ⟨n8, rfl⟩) ⟨rfl, rl_node_rel bf vo hN ?_⟩
      have ek : k = 5 := by rw [ej, hj]; rfl
      rw [ek]
      exact rl_newA (by omega) nf ic hi zi
    · have n8 : ¬ k = 8 := fun z => by have := e8.mp z; omega
      have n6 : ¬ k < 6 := fun z => by have := h6.mp z; omega
      have yB : k = 3 ∨ k = 4 ∨ ¬ k < 6 := Or.inr (Or.inr n6)
      have n5 : ¬ k < 5 := fun z => by have := h5.mp z; omega
      obtain ⟨i, hi, ei, zi⟩ := rl_ck_0 (by omega) (hA n5)
      obtain ⟨i2, hi2, ei2, zi2⟩ := rl_ck_0 (by omega) (hB yB).1
      have nab := (hB yB).2 n5
      subst ei ei2
      refine rx_node1 (by omega) (by omega) hr n5 (rx_80t yB (by omega) (by omega) (rx_103f n8 ?_))
      rw [rl_uu]
      refine ry_node (by omega) ic ?_
      rw [hr]
      refine ry_158 (by omega) (Or.inl ⟨yB, rfl⟩) (Or.inr ⟨n8, rfl⟩) ⟨rfl, rl_node_rel bf vo hN ?_⟩
      refine rl_newAB (by omega) nf ic ?_ hi zi hi2 zi2 (fun z => nab (by rw [z]))
      have : j = 6 ∨ j = 7 ∨ j = 9 ∨ j = 10 ∨ j = 11 ∨ j = 12 := by omega
      rw [ej]
      rcases this with y | y | y | y | y | y <;> subst y <;> decide
    · have y8 : k = 8 := e8.mpr hj
      have n6 : ¬ k < 6 := fun z => by have := h6.mp z; omega
      have yB : k = 3 ∨ k = 4 ∨ ¬ k < 6 := Or.inr (Or.inr n6)
      have n5 : ¬ k < 5 := fun z => by have := h5.mp z; omega
      obtain ⟨i, hi, ei, zi⟩ := rl_ck_0 (by omega) (hA n5)
      obtain ⟨i2, hi2, ei2, zi2⟩ := rl_ck_0 (by omega) (hB yB).1
      obtain ⟨i3, hi3, ei3, zi3⟩ := rl_ck_0 (by omega) (hC y8).1
      have nab := (hB yB).2 n5
      obtain ⟨_, nca, ncb⟩ := hC y8
      subst ei ei2 ei3
      refine rx_node1 (by omega) (by omega) hr n5 (rx_80t yB (by omega) (by omega) (rx_103t y8 (by omega) (by omega) ?_))
      rw [rl_uu, rl_uu]
      refine ry_node (by omega) ic ?_
      rw [hr]
      refine ry_158 (by omega) (Or.inl ⟨yB, rfl⟩) (Or.inl ⟨y8, rfl⟩) ⟨rfl, rl_node_rel bf vo hN ?_⟩
      rw [y8]
      exact rl_newABC (by omega) nf ic hi zi hi2 zi2 (fun z => nab (by rw [z])) hi3 zi3 (fun z => nca (by rw [z])) (fun z => ncb (by rw [z]))
  · unfold wpX_node
    refine rx_refuseNode (by omega) (br_f hr ?_)
    refine ry_node (by omega) ic ?_
    exact br_f hr ⟨rfl, rl_rel bf vo⟩
end
end
section
/-! part 11: home, look and the small readers -/
def rl_pick (p k n e : Int32) : Int32 := if p = 0 then k else if p = 1 then n else if p = 2 then e else 0
section
variable {mN mV mE mD nd ev cu rt rk rn re dp fl vk vn ve : Int32} {nK oA oB oC iC pO vO cK cN cE tw dV dK dN dE pa ho fN fE fS k1 k2 k3 : Nat → Int32}
theorem rx_pick {post : Int32 → Prop} {p k n e : Int32} (h : post (rl_pick p k n e)) : wpX_pick post (mN, mV, mE, mD, nd, ev, cu, rt, rk, rn, re, dp, fl, vk, vn, ve, nK, oA, oB, oC, iC, pO, vO, cK, cN, cE, tw, dV, dK, dN, dE, pa, ho, fN, fE, fS, k1, k2, k3) p k n e := by
  unfold wpX_pick
  unfold rl_pick at h
  by_cases h0 : p = 0
  · rw [if_pos h0] at h; exact br_t h0 h
  · rw [if_neg h0] at h
    refine br_f h0 ?_
    by_cases h1 : p = 1
    · rw [if_pos h1] at h; exact br_t h1 h
    · rw [if_neg h1] at h
      refine br_f h1 ?_
      by_cases h2 : p = 2
      · rw [if_pos h2] at h; exact br_t h2 h
      · rw [if_neg h2] at h; exact br_f h2 h
end
theorem rl_V_iff {E : Nat} {pO vO : Nat → Int32} (pf : rl_PF E pO vO) {x w : Nat} (x0 : 0 < x) (hx : x < E) (hw : w < 8) : vO x = nI w ↔ rl_n vO x = w := by
  obtain ⟨h1, h2⟩ := rl_PF_v pf x0 hx
  constructor
  · intro h; exact rl_inj (by omega) (by omega) (h2.symm.trans h)
  · intro h; rw [h] at h2; exact h2
section
variable {mN mV mE mD nd ev cu tp zk zn ze rk rn re : Int32} {nK oA oB oC pO vO yK yN yE fN fE fS l1 l2 l3 : Nat → Int32} {E w : Nat}
theorem ry_home5 {post : Int32 → Prop} (pf : rl_PF E pO vO) (hw : w < 8) : ∀ dd i x, x ≤ dd → i + x ≤ 31 → x < E → post (nI (rl_H pO vO x w)) → wY_home_5 post (nI w) mN mV mE mD nd ev cu tp zk zn ze rk rn re nK oA oB oC pO vO yK yN yE fN fE fS l1 l2 l3 (dd + 1) (nI x) (nI i) := by
  intro dd
  induction dd with
  | zero =>
    intro i x hx hi hE h
    have e : x = 0 := by omega
    subst e
    have e : rl_H pO vO 0 w = w := rl_ho_0 _ _ w
    rw [e] at h
    exact br_f (nI_ge (b := 32) (by omega) (by omega)) (br_t (by decide) h)
  | succ dd ih =>
    intro i x hx hi hE h
    by_cases x0 : x = 0
    · subst x0
      have e : rl_H pO vO 0 w = w := rl_ho_0 _ _ w
      rw [e] at h
      exact br_f (nI_ge (b := 32) (by omega) (by omega)) (br_t (by decide) h)
    · have h32 := pf.2.1
      refine br_f (nI_ge (b := 32) (by omega) (by omega)) (br_f (nI_nle (by omega) (by omega)) ⟨rl_in (by omega) (by omega), ?_⟩)
      rw [rl_c (n := x) (by omega)]
      obtain ⟨p1, p2⟩ := rl_PF_p pf (x := x) (by omega) hE
      by_cases hv : vO x = nI w
      · have hv' := (rl_V_iff pf (by omega) hE hw).mp hv
        have e : rl_H pO vO x w = 8 + x := rl_ho_eq (by omega) hv'
        rw [e, ← nI_add] at h
        exact br_t hv h
      · have hv' := mt (rl_V_iff pf (by omega) hE hw).mpr hv
        have e : rl_H pO vO x w = rl_H pO vO (rl_n pO x) w := rl_ho_ne (rl_PF_dn pf) h32 (by omega) hE hv'
        rw [e] at h
        exact br_f hv ⟨rl_in (by omega) (by omega), nm_r p2 (nm_r (nI_1 i) (ih (i + 1) (rl_n pO x) (by omega) (by omega) (by omega) h))⟩
theorem ry_home {post : Int32 → Prop} {x : Nat} (pf : rl_PF E pO vO) (hw : w < 8) (hx : x < E) (h : post (nI (rl_H pO vO x w))) : wpY_home post (mN, mV, mE, mD, nd, ev, cu, tp, zk, zn, ze, rk, rn, re, nK, oA, oB, oC, pO, vO, yK, yN, yE, fN, fE, fS, l1, l2, l3) (nI x) (nI w) :=
  ⟨32, ry_home5 pf hw 31 0 x (by have := pf.2.1; omega) (by have := pf.2.1; omega) hx h⟩
theorem ry_look {post : Int32 → Prop} {x MV : Nat} {p : Int32} (pf : rl_PF E pO vO) (hM : MV ≤ 8) (hw : w < MV) (hx : x < E) (h : post (rl_pick p (yK (rl_H pO vO x w)) (yN (rl_H pO vO x w)) (yE (rl_H pO vO x w)))) : wpY_look post (mN, nI MV, mE, mD, nd, nI E, cu, tp, zk, zn, ze, rk, rn, re, nK, oA, oB, oC, pO, vO, yK, yN, yE, fN, fE, fS, l1, l2, l3) (nI x) (nI w) p := by
  have h32 := pf.2.1
  have hq := (rl_H_lt pf (x := x) (v := w) hx (by omega)).1
  refine br_f (nI_pos (by omega)) (br_f (nI_ge (by omega) (by omega)) (br_f (nI_pos (by omega)) (br_t (nI_lt (by omega) (by omega)) (ry_home pf (by omega) hx ?_))))
  have cq : (nI (rl_H pO vO x w)).toNatClampNeg = rl_H pO vO x w := nI_clamp (by omega)
  have iq : vp_in (nI (rl_H pO vO x w)) 40 := vp_in_nI (by omega) (by omega)
  unfold rl_pick at h
  rw [cq]
  by_cases h0 : p = 0
  · rw [if_pos h0] at h; exact br_t h0 ⟨iq, h⟩
  · rw [if_neg h0] at h
    refine br_f h0 ?_
    by_cases h1 : p = 1
    · rw [if_pos h1] at h; exact br_t h1 ⟨iq, h⟩
    · rw [if_neg h1] at h
      refine br_f h1 ?_
      by_cases h2 : p = 2
      · rw [if_pos h2] at h; exact br_t h2 ⟨iq, h⟩
      · rw [if_neg h2] at h; exact br_f h2 h
end
section
variable {mN mV mE mD nd ev cu rt rk rn re dp fl vk vn ve : Int32} {nK oA oB oC iC pO vO cK cN cE tw dV dK dN dE pa ho fN fE fS k1 k2 k3 : Nat → Int32} {yK yN yE : Nat → Int32} {E r v : Nat}
theorem rx_look24 {post : Int32 → Prop} {p : Int32} (pf : rl_PF E pO vO) (hr : r < E) (er : rl_ER E r pO vO yK yN yE cK cN cE tw dV dK dN dE) (hv : v < 8) : ∀ dd i x, rl_mu E r pO x ≤ dd → i + dd ≤ 31 → x < E → post (rl_pick p (yK (rl_H pO vO x v)) (yN (rl_H pO vO x v)) (yE (rl_H pO vO x v))) → wX_look_24 post (nI v) p mN mV mE mD nd ev cu (nI r) rk rn re dp fl vk vn ve nK oA oB oC iC pO vO cK cN cE tw dV dK dN dE pa ho fN fE fS k1 k2 k3 (dd + 1) (nI x) (nI i) := by
  intro dd
  have h32 := pf.2.1
  have atr : ∀ i x n, i ≤ 31 → x < E → x = r → post (rl_pick p (yK (rl_H pO vO x v)) (yN (rl_H pO vO x v)) (yE (rl_H pO vO x v))) → wX_look_24 post (nI v) p mN mV mE mD nd ev cu (nI r) rk rn re dp fl vk vn ve nK oA oB oC iC pO vO cK cN cE tw dV dK dN dE pa ho fN fE fS k1 k2 k3 (n + 1) (nI x) (nI i) := by
    intro i x n hi hx e h
    subst e
    refine br_f (nI_ge (b := 32) (by omega) (by omega)) (br_t rfl ?_)
    unfold wX_look_66
    obtain ⟨e1, e2, e3⟩ := er.2.1 v hv
    refine br_t rfl ⟨rl_in hv (by omega), rl_in hv (by omega), rl_in hv (by omega), ?_⟩
    rw [rl_c (n := v) (by omega)]
    refine rx_pick ?_
    rw [e1, e2, e3]
    exact h
  induction dd with
  | zero =>
    intro i x hm hi hx h
    by_cases e : x = r
    · exact atr i x 0 (by omega) hx e h
    · obtain ⟨t, w, htE, hw, ht, hd, _⟩ := rl_TR_next pf er.1 hx e
      have := rl_mu_step pf er.1 hx e (by omega) ht
      omega
  | succ dd ih =>
    intro i x hm hi hx h
    by_cases e : x = r
    · exact atr i x (dd + 1) (by omega) hx e h
    · obtain ⟨t, w, htE, hw, ht, hd, hh⟩ := rl_TR_next pf er.1 hx e
      have hmu := rl_mu_step pf er.1 hx e (by omega) ht
      refine br_f (nI_ge (b := 32) (by omega) (by omega)) (br_f (rl_ne (by omega) (by omega) e) ⟨rl_in (by omega) (by omega), ?_⟩)
      rw [rl_c (n := x) (by omega)]
      by_cases hvw : v = w
      · subst hvw
        refine br_t hd ?_
        unfold wX_look_66
        obtain ⟨e1, e2, e3⟩ := er.2.2 x hx e v hv hd
        refine br_f (rl_ne (by omega) (by omega) e) ⟨rl_in (by omega) (by omega), rl_in (by omega) (by omega), rl_in (by omega) (by omega), ?_⟩
        rw [rl_c (n := x) (by omega)]
        refine rx_pick ?_
        rw [e1, e2, e3]
        exact h
      · have hn : ¬ dV x = nI v := by
          rw [hd]
          exact rl_ne (by omega) (by omega) (fun z => hvw z.symm)
        have e1 : rl_H pO vO x v = rl_H pO vO t v := hh v hvw
        rw [e1] at h
        exact br_f hn ⟨rl_in (by omega) (by omega), nm_r ht (nm_r (nI_1 i) (ih (i + 1) t (by omega) (by omega) htE h))⟩
theorem rx_look {post : Int32 → Prop} {x MV : Nat} {p : Int32} (pf : rl_PF E pO vO) (hr : r < E) (er : rl_ER E r pO vO yK yN yE cK cN cE tw dV dK dN dE) (hM : MV ≤ 8) (hw : v < MV) (hx : x < E) (h : post (rl_pick p (yK (rl_H pO vO x v)) (yN (rl_H pO vO x v)) (yE (rl_H pO vO x v)))) : wpX_look post (mN, nI MV, mE, mD, nd, nI E, cu, nI r, rk, rn, re, dp, fl, vk, vn, ve, nK, oA, oB, oC, iC, pO, vO, cK, cN, cE, tw, dV, dK, dN, dE, pa, ho, fN, fE, fS, k1, k2, k3) (nI x) (nI v) p := by
  have h32 := pf.2.1
  have hmu := rl_mu_lt pf hr x
  refine br_f (nI_pos (by omega)) (br_f (nI_ge (by omega) (by omega)) (br_f (by decide) ?_))
  refine br_f (nI_pos (by omega)) (br_f (nI_ge (by omega) (by omega)) (br_f (by decide) ?_))
  exact ⟨32, rx_look24 pf hr er (by omega) 31 0 x (by omega) (by omega) hx h⟩
end
section
variable {MN MV ME MD N E c r : Nat} {sz : Nat → Nat} {rk rn re dp fl vk vn ve tp zk zn ze : Int32} {nK oA oB oC iC pO vO cK cN cE tw dV dK dN dE pa ho fN fE fS k1 k2 k3 yK yN yE l1 l2 l3 : Nat → Int32}
theorem rl_lk (e v p : Int32) (bf : rl_BF MN MV ME MD N E c r sz nK oA oB oC iC pO vO yK yN yE cK cN cE tw dV dK dN dE) :
    ∃ q : Int32, (∀ post : Int32 → Prop, post q → wpX_look post (nI MN, nI MV, nI ME, nI MD, nI N, nI E, nI c, nI r, rk, rn, re, dp, fl, vk, vn, ve, nK, oA, oB, oC, iC, pO, vO, cK, cN, cE, tw, dV, dK, dN, dE, pa, ho, fN, fE, fS, k1, k2, k3) e v p) ∧ (∀ post : Int32 → Prop, post q → wpY_look post (nI MN, nI MV, nI ME, nI MD, nI N, nI E, nI c, tp, zk, zn, ze, rk, rn, re, nK, oA, oB, oC, pO, vO, yK, yN, yE, fN, fE, fS, l1, l2, l3) e v p) := by
  obtain ⟨⟨a1, a2, a3, a4, a5, a6, a7, a8⟩, nf, ic, pf, er, vc⟩ := bf
  by_cases h0 : e < 0
  · exact ⟨0, fun _ h => br_t h0 (br_t rfl h), fun _ h => br_t h0 h⟩
  · by_cases h1 : nI E ≤ e
    · exact ⟨0, fun _ h => br_f h0 (br_t h1 (br_t rfl h)), fun _ h => br_f h0 (br_t h1 h)⟩
    · by_cases h2 : v < 0
      · exact ⟨0, fun _ h => br_f h0 (br_f h1 (br_f (by decide) (br_t h2 (br_t rfl h)))), fun _ h => br_f h0 (br_f h1 (br_t h2 h))⟩
      · by_cases h3 : nI MV ≤ v
        · exact ⟨0, fun _ h => br_f h0 (br_f h1 (br_f (by decide) (br_f h2 (br_t h3 (br_t rfl h))))), fun _ h => br_f h0 (br_f h1 (br_f h2 (br_f (Int32.not_lt.mpr h3) h)))⟩
        · obtain ⟨x, hx, rfl⟩ := nI_of h0
          obtain ⟨w, hw, rfl⟩ := nI_of h2
          rw [nI_leI (by omega) hx] at h1
          rw [nI_leI (by omega) hw] at h3
          exact ⟨_, fun post h => rx_look (r := r) (v := w) (x := x) pf a8 er a2 (by omega) (by omega) h, fun post h => ry_look pf a2 (by omega) (by omega) h⟩
theorem rl_vc_look {kk : Nat} (e v p : Int32) (bf : rl_BF MN MV ME MD N E c r sz nK oA oB oC iC pO vO yK yN yE cK cN cE tw dV dK dN dE) (vo : rl_VO N E nK rk rn re) :
    wpX_look (fun q => wpY_look (fun q' => q' = q ∧ i_Rel kk (nI MN, nI MV, nI ME, nI MD, nI N, nI E, nI c, nI r, rk, rn, re, dp, fl, vk, vn, ve, nK, oA, oB, oC, iC, pO, vO, cK, cN, cE, tw, dV, dK, dN, dE, pa, ho, fN, fE, fS, k1, k2, k3) (nI MN, nI MV, nI ME, nI MD, nI N, nI E, nI c, tp, zk, zn, ze, rk, rn, re, nK, oA, oB, oC, pO, vO, yK, yN, yE, fN, fE, fS, l1, l2, l3)) (nI MN, nI MV, nI ME, nI MD, nI N, nI E, nI c, tp, zk, zn, ze, rk, rn, re, nK, oA, oB, oC, pO, vO, yK, yN, yE, fN, fE, fS, l1, l2, l3) e v p) (nI MN, nI MV, nI ME, nI MD, nI N, nI E, nI c, nI r, rk, rn, re, dp, fl, vk, vn, ve, nK, oA, oB, oC, iC, pO, vO, cK, cN, cE, tw, dV, dK, dN, dE, pa, ho, fN, fE, fS, k1, k2, k3) e v p := by
  obtain ⟨q, hX, hY⟩ := rl_lk e v p bf
  exact hX _ (hY _ ⟨rfl, rl_rel bf vo⟩)
theorem rl_vc_read {kk : Nat} (v p : Int32) (bf : rl_BF MN MV ME MD N E c r sz nK oA oB oC iC pO vO yK yN yE cK cN cE tw dV dK dN dE) (vo : rl_VO N E nK rk rn re) :
    wpX_read (fun q => wpY_read (fun q' => q' = q ∧ i_Rel kk (nI MN, nI MV, nI ME, nI MD, nI N, nI E, nI c, nI r, rk, rn, re, dp, fl, vk, vn, ve, nK, oA, oB, oC, iC, pO, vO, cK, cN, cE, tw, dV, dK, dN, dE, pa, ho, fN, fE, fS, k1, k2, k3) (nI MN, nI MV, nI ME, nI MD, nI N, nI E, nI c, tp, zk, zn, ze, rk, rn, re, nK, oA, oB, oC, pO, vO, yK, yN, yE, fN, fE, fS, l1, l2, l3)) (nI MN, nI MV, nI ME, nI MD, nI N, nI E, nI c, tp, zk, zn, ze, rk, rn, re, nK, oA, oB, oC, pO, vO, yK, yN, yE, fN, fE, fS, l1, l2, l3) v p) (nI MN, nI MV, nI ME, nI MD, nI N, nI E, nI c, nI r, rk, rn, re, dp, fl, vk, vn, ve, nK, oA, oB, oC, iC, pO, vO, cK, cN, cE, tw, dV, dK, dN, dE, pa, ho, fN, fE, fS, k1, k2, k3) v p := by
  obtain ⟨q, hX, hY⟩ := rl_lk (nI c) v p bf
  unfold wpX_read wpY_read
  exact hX _ (hY _ ⟨rfl, rl_rel bf vo⟩)
theorem rl_vc_parent {kk : Nat} (e : Int32) (bf : rl_BF MN MV ME MD N E c r sz nK oA oB oC iC pO vO yK yN yE cK cN cE tw dV dK dN dE) (vo : rl_VO N E nK rk rn re) :
    wpX_parent (fun q => wpY_parent (fun q' => q' = q ∧ i_Rel kk (nI MN, nI MV, nI ME, nI MD, nI N, nI E, nI c, nI r, rk, rn, re, dp, fl, vk, vn, ve, nK, oA, oB, oC, iC, pO, vO, cK, cN, cE, tw, dV, dK, dN, dE, pa, ho, fN, fE, fS, k1, k2, k3) (nI MN, nI MV, nI ME, nI MD, nI N, nI E, nI c, tp, zk, zn, ze, rk, rn, re, nK, oA, oB, oC, pO, vO, yK, yN, yE, fN, fE, fS, l1, l2, l3)) (nI MN, nI MV, nI ME, nI MD, nI N, nI E, nI c, tp, zk, zn, ze, rk, rn, re, nK, oA, oB, oC, pO, vO, yK, yN, yE, fN, fE, fS, l1, l2, l3) e) (nI MN, nI MV, nI ME, nI MD, nI N, nI E, nI c, nI r, rk, rn, re, dp, fl, vk, vn, ve, nK, oA, oB, oC, iC, pO, vO, cK, cN, cE, tw, dV, dK, dN, dE, pa, ho, fN, fE, fS, k1, k2, k3) e := by
  have rel := rl_rel (k := kk) (dp := dp) (fl := fl) (vk := vk) (vn := vn) (ve := ve) (tp := tp) (zk := zk) (zn := zn) (ze := ze) (pa := pa) (ho := ho) (fN := fN) (fE := fE) (fS := fS) (k1 := k1) (k2 := k2) (k3 := k3) (l1 := l1) (l2 := l2) (l3 := l3) bf vo
  have h32 := bf.2.2.2.1.2.1
  by_cases h0 : e < 0
  · exact br_t h0 (br_t rfl (br_t h0 ⟨rfl, rel⟩))
  · by_cases h1 : nI E ≤ e
    · exact br_f h0 (br_t h1 (br_t rfl (br_f h0 (br_f (Int32.not_lt.mpr h1) ⟨rfl, rel⟩))))
    · have h2 := Int32.not_le.mp h1
      by_cases hz : e = 0
      · exact br_f h0 (br_f h1 (br_f (by decide) (br_t hz (br_f h0 (br_t h2 (br_t hz ⟨rfl, rel⟩))))))
      · obtain ⟨x, hx, rfl⟩ := nI_of h0
        rw [nI_ltI hx (by omega)] at h2
        have i := vp_in_nI (n := x) (N := 32) (by omega) (by omega)
        exact br_f h0 (br_f h1 (br_f (by decide) (br_f hz ⟨i, br_f h0 (br_t (nI_lt h2 (by omega)) (br_f hz ⟨i, rfl, rel⟩))⟩)))
theorem rl_vc_boundVar {kk : Nat} (e : Int32) (bf : rl_BF MN MV ME MD N E c r sz nK oA oB oC iC pO vO yK yN yE cK cN cE tw dV dK dN dE) (vo : rl_VO N E nK rk rn re) :
    wpX_boundVar (fun q => wpY_boundVar (fun q' => q' = q ∧ i_Rel kk (nI MN, nI MV, nI ME, nI MD, nI N, nI E, nI c, nI r, rk, rn, re, dp, fl, vk, vn, ve, nK, oA, oB, oC, iC, pO, vO, cK, cN, cE, tw, dV, dK, dN, dE, pa, ho, fN, fE, fS, k1, k2, k3) (nI MN, nI MV, nI ME, nI MD, nI N, nI E, nI c, tp, zk, zn, ze, rk, rn, re, nK, oA, oB, oC, pO, vO, yK, yN, yE, fN, fE, fS, l1, l2, l3)) (nI MN, nI MV, nI ME, nI MD, nI N, nI E, nI c, tp, zk, zn, ze, rk, rn, re, nK, oA, oB, oC, pO, vO, yK, yN, yE, fN, fE, fS, l1, l2, l3) e) (nI MN, nI MV, nI ME, nI MD, nI N, nI E, nI c, nI r, rk, rn, re, dp, fl, vk, vn, ve, nK, oA, oB, oC, iC, pO, vO, cK, cN, cE, tw, dV, dK, dN, dE, pa, ho, fN, fE, fS, k1, k2, k3) e := by
  have rel := rl_rel (k := kk) (dp := dp) (fl := fl) (vk := vk) (vn := vn) (ve := ve) (tp := tp) (zk := zk) (zn := zn) (ze := ze) (pa := pa) (ho := ho) (fN := fN) (fE := fE) (fS := fS) (k1 := k1) (k2 := k2) (k3 := k3) (l1 := l1) (l2 := l2) (l3 := l3) bf vo
  have h32 := bf.2.2.2.1.2.1
  by_cases h0 : e < 0
  · exact br_t h0 (br_t rfl (br_t h0 ⟨rfl, rel⟩))
  · by_cases h1 : nI E ≤ e
    · exact br_f h0 (br_t h1 (br_t rfl (br_f h0 (br_f (Int32.not_lt.mpr h1) ⟨rfl, rel⟩))))
    · have h2 := Int32.not_le.mp h1
      by_cases hz : e = 0
      · exact br_f h0 (br_f h1 (br_f (by decide) (br_t hz (br_f h0 (br_t h2 (br_t hz ⟨rfl, rel⟩))))))
      · obtain ⟨x, hx, rfl⟩ := nI_of h0
        rw [nI_ltI hx (by omega)] at h2
        have i := vp_in_nI (n := x) (N := 32) (by omega) (by omega)
        exact br_f h0 (br_f h1 (br_f (by decide) (br_f hz ⟨i, br_f h0 (br_t (nI_lt h2 (by omega)) (br_f hz ⟨i, rfl, rel⟩))⟩)))
theorem rl_vc_result {kk : Nat} (p : Int32) (bf : rl_BF MN MV ME MD N E c r sz nK oA oB oC iC pO vO yK yN yE cK cN cE tw dV dK dN dE) (vo : rl_VO N E nK rk rn re) :
    wpX_result (fun q => wpY_result (fun q' => q' = q ∧ i_Rel kk (nI MN, nI MV, nI ME, nI MD, nI N, nI E, nI c, nI r, rk, rn, re, dp, fl, vk, vn, ve, nK, oA, oB, oC, iC, pO, vO, cK, cN, cE, tw, dV, dK, dN, dE, pa, ho, fN, fE, fS, k1, k2, k3) (nI MN, nI MV, nI ME, nI MD, nI N, nI E, nI c, tp, zk, zn, ze, rk, rn, re, nK, oA, oB, oC, pO, vO, yK, yN, yE, fN, fE, fS, l1, l2, l3)) (nI MN, nI MV, nI ME, nI MD, nI N, nI E, nI c, tp, zk, zn, ze, rk, rn, re, nK, oA, oB, oC, pO, vO, yK, yN, yE, fN, fE, fS, l1, l2, l3) p) (nI MN, nI MV, nI ME, nI MD, nI N, nI E, nI c, nI r, rk, rn, re, dp, fl, vk, vn, ve, nK, oA, oB, oC, iC, pO, vO, cK, cN, cE, tw, dV, dK, dN, dE, pa, ho, fN, fE, fS, k1, k2, k3) p := by
  have rel := rl_rel (k := kk) (dp := dp) (fl := fl) (vk := vk) (vn := vn) (ve := ve) (tp := tp) (zk := zk) (zn := zn) (ze := ze) (pa := pa) (ho := ho) (fN := fN) (fE := fE) (fS := fS) (k1 := k1) (k2 := k2) (k3 := k3) (l1 := l1) (l2 := l2) (l3 := l3) bf vo
  unfold wpX_result wpX_pick wpY_result
  by_cases h0 : p = 0
  · exact br_t h0 (br_t h0 ⟨rfl, rel⟩)
  · by_cases h1 : p = 1
    · exact br_f h0 (br_t h1 (br_f h0 (br_t h1 ⟨rfl, rel⟩)))
    · by_cases h2 : p = 2
      · exact br_f h0 (br_f h1 (br_t h2 (br_f h0 (br_f h1 (br_t h2 ⟨rfl, rel⟩)))))
      · exact br_f h0 (br_f h1 (br_f h2 (br_f h0 (br_f h1 (br_f h2 ⟨rfl, rel⟩)))))
theorem rl_vc_nodePart {kk : Nat} (n p : Int32) (bf : rl_BF MN MV ME MD N E c r sz nK oA oB oC iC pO vO yK yN yE cK cN cE tw dV dK dN dE) (vo : rl_VO N E nK rk rn re) :
    wpX_nodePart (fun q => wpY_nodePart (fun q' => q' = q ∧ i_Rel kk (nI MN, nI MV, nI ME, nI MD, nI N, nI E, nI c, nI r, rk, rn, re, dp, fl, vk, vn, ve, nK, oA, oB, oC, iC, pO, vO, cK, cN, cE, tw, dV, dK, dN, dE, pa, ho, fN, fE, fS, k1, k2, k3) (nI MN, nI MV, nI ME, nI MD, nI N, nI E, nI c, tp, zk, zn, ze, rk, rn, re, nK, oA, oB, oC, pO, vO, yK, yN, yE, fN, fE, fS, l1, l2, l3)) (nI MN, nI MV, nI ME, nI MD, nI N, nI E, nI c, tp, zk, zn, ze, rk, rn, re, nK, oA, oB, oC, pO, vO, yK, yN, yE, fN, fE, fS, l1, l2, l3) n p) (nI MN, nI MV, nI ME, nI MD, nI N, nI E, nI c, nI r, rk, rn, re, dp, fl, vk, vn, ve, nK, oA, oB, oC, iC, pO, vO, cK, cN, cE, tw, dV, dK, dN, dE, pa, ho, fN, fE, fS, k1, k2, k3) n p := by
  have rel := rl_rel (k := kk) (dp := dp) (fl := fl) (vk := vk) (vn := vn) (ve := ve) (tp := tp) (zk := zk) (zn := zn) (ze := ze) (pa := pa) (ho := ho) (fN := fN) (fE := fE) (fS := fS) (k1 := k1) (k2 := k2) (k3 := k3) (l1 := l1) (l2 := l2) (l3 := l3) bf vo
  have hM : MN ≤ 48 := bf.1.1
  have hNM : N ≤ MN := bf.1.2.2.2.2.1
  have ic := bf.2.2.1
  by_cases h0 : n < 0
  · exact br_t h0 (br_t rfl (br_t h0 ⟨rfl, rel⟩))
  · by_cases h1 : nI N ≤ n
    · exact br_f h0 (br_t h1 (br_t rfl (br_f h0 (br_f (Int32.not_lt.mpr h1) ⟨rfl, rel⟩))))
    · have h2 := Int32.not_le.mp h1
      obtain ⟨x, hx, rfl⟩ := nI_of h0
      have hxN := h2
      rw [nI_ltI hx (by omega)] at hxN
      have i := vp_in_nI (n := x) (N := 48) (by omega) (by omega)
      refine br_f h0 (br_f h1 (br_f (by decide) ?_))
      by_cases p0 : p = 0
      · subst p0
        exact br_f (by decide) (br_f (by decide) (br_t rfl ⟨i, br_f h0 (br_t h2 (br_f (by decide) (br_t rfl ⟨i, rfl, rel⟩)))⟩))
      · by_cases p1 : p = 1
        · subst p1
          exact br_f (by decide) (br_f (by decide) (br_f p0 (br_t rfl ⟨i, br_f h0 (br_t h2 (br_f (by decide) (br_f p0 (br_t rfl ⟨i, rfl, rel⟩))))⟩)))
        · by_cases p2 : p = 2
          · subst p2
            exact br_f (by decide) (br_f (by decide) (br_f p0 (br_f p1 (br_t rfl ⟨i, br_f h0 (br_t h2 (br_f (by decide) (br_f p0 (br_f p1 (br_t rfl ⟨i, rfl, rel⟩)))))⟩))))
          · by_cases p3 : p = 3
            · subst p3
              exact br_f (by decide) (br_f (by decide) (br_f p0 (br_f p1 (br_f p2 (br_t rfl ⟨i, br_f h0 (br_t h2 (br_f (by decide) (br_f p0 (br_f p1 (br_f p2 (br_t rfl ⟨i, rfl, rel⟩))))))⟩)))))
            · by_cases p4 : p = 4
              · subst p4
                refine br_f (by decide) (br_f (by decide) (br_f p0 (br_f p1 (br_f p2 (br_f p3 (br_t rfl ⟨i, ?_⟩))))))
                rw [rl_c (n := x) (by omega)]
                rcases ic.1 x hxN with ⟨z, tk⟩ | ⟨z, tk⟩
                · exact br_t z (br_f h0 (br_t h2 (br_t rfl (ry_taken (by omega) (fun y => absurd y tk) (fun _ => br_t rfl ⟨rfl, rel⟩)))))
                · exact br_f (by rw [z]; decide) (br_f h0 (br_t h2 (br_t rfl (ry_taken (by omega) (fun _ => br_f (by decide) ⟨rfl, rel⟩) (fun y => absurd tk y)))))
              · have yy : wpY_nodePart (fun q' => q' = 0 ∧ i_Rel kk (nI MN, nI MV, nI ME, nI MD, nI N, nI E, nI c, nI r, rk, rn, re, dp, fl, vk, vn, ve, nK, oA, oB, oC, iC, pO, vO, cK, cN, cE, tw, dV, dK, dN, dE, pa, ho, fN, fE, fS, k1, k2, k3) (nI MN, nI MV, nI ME, nI MD, nI N, nI E, nI c, tp, zk, zn, ze, rk, rn, re, nK, oA, oB, oC, pO, vO, yK, yN, yE, fN, fE, fS, l1, l2, l3)) (nI MN, nI MV, nI ME, nI MD, nI N, nI E, nI c, tp, zk, zn, ze, rk, rn, re, nK, oA, oB, oC, pO, vO, yK, yN, yE, fN, fE, fS, l1, l2, l3) (nI x) p := br_f h0 (br_t h2 (br_f p4 (br_f p0 (br_f p1 (br_f p2 (br_f p3 ⟨rfl, rel⟩))))))
                exact br_c (fun _ => yy) (fun _ => br_c (fun _ => yy) (fun _ => br_f p0 (br_f p1 (br_f p2 (br_f p3 (br_f p4 trivial))))))
end
end
section
/-! part 12: reset, the constructors, bind, enter -/
section
variable {mN mV mE mD nd ev cu rt rk rn re dp fl vk vn ve tp zk zn ze : Int32} {nK oA oB oC iC pO vO tw dV dK dN dE pa ho fN fE fS k1 k2 k3 l1 l2 l3 : Nat → Int32}
theorem rx_reset32 : ∀ (dd v : Nat) (cK cN cE : Nat → Int32), v + dd = 8 → (∀ u, u < v → cK u = 1 ∧ cN u = 0 ∧ cE u = 0) →
    ∃ cK' cN' cE', (∀ u, u < 8 → cK' u = 1 ∧ cN' u = 0 ∧ cE' u = 0) ∧ ∀ (post : SX → Prop) (n : Nat), dd < n → post (mN, mV, mE, mD, nd, ev, cu, rt, 1, 0, 0, dp, fl, 1, 0, 0, nK, oA, oB, oC, iC, pO, vO, cK', cN', cE', tw, dV, dK, dN, dE, pa, ho, fN, fE, fS, k1, k2, k3) → wX_reset_32 post mN mV mE mD nd ev cu rt rk rn re dp fl vk vn ve n (nI v) nK oA oB oC iC pO vO cK cN cE tw dV dK dN dE pa ho fN fE fS k1 k2 k3 := by
  intro dd
  induction dd with
  | zero =>
    intro v cK cN cE hv h
    refine ⟨cK, cN, cE, fun u hu => h u (by omega), ?_⟩
    intro post n hn hp
    have e : v = 8 := by omega
    subst e
    cases n with
    | zero => omega
    | succ n => exact br_t (by decide) hp
  | succ dd ih =>
    intro v cK cN cE hv h
    obtain ⟨cK', cN', cE', h', H⟩ := ih (v + 1) (upd cK v 1) (upd cN v 0) (upd cE v 0) (by omega) (by
      intro u hu
      by_cases e : u = v
      · subst e; rw [pk_us, pk_us, pk_us]; exact ⟨rfl, rfl, rfl⟩
      · rw [pk_un e, pk_un e, pk_un e]; exact h u (by omega))
    refine ⟨cK', cN', cE', h', ?_⟩
    intro post n hn hp
    cases n with
    | zero => omega
    | succ n =>
      have cv := rl_c (n := v) (by omega)
      have iv := rl_in (n := v) (N := 8) (by omega) (by omega)
      exact br_f (nI_ge (b := 8) (by omega) (by omega)) ⟨iv, nm_r (e' := upd cK v 1) (by rw [cv]) ⟨iv, nm_r (e' := upd cN v 0) (by rw [cv]) ⟨iv, nm_r (e' := upd cE v 0) (by rw [cv]) (nm_r (nI_1 v) (H post n (by omega) hp))⟩⟩⟩
theorem rx_reset (cK cN cE : Nat → Int32) : ∃ cK' cN' cE', (∀ u, u < 8 → cK' u = 1 ∧ cN' u = 0 ∧ cE' u = 0) ∧ ∀ (post : SX → Prop), post (mN, mV, mE, mD, nI 0, nI 1, nI 0, nI 0, 1, 0, 0, 0, 0, 1, 0, 0, nK, oA, oB, oC, iC, pO, vO, cK', cN', cE', tw, dV, dK, dN, dE, pa, ho, fN, fE, fS, k1, k2, k3) → wpX_reset post (mN, mV, mE, mD, nd, ev, cu, rt, rk, rn, re, dp, fl, vk, vn, ve, nK, oA, oB, oC, iC, pO, vO, cK, cN, cE, tw, dV, dK, dN, dE, pa, ho, fN, fE, fS, k1, k2, k3) := by
  obtain ⟨cK', cN', cE', h, H⟩ := rx_reset32 (mN := mN) (mV := mV) (mE := mE) (mD := mD) (nd := 0) (ev := 1) (cu := 0) (rt := 0) (rk := rk) (rn := rn) (re := re) (dp := 0) (fl := 0) (vk := vk) (vn := vn) (ve := ve) (nK := nK) (oA := oA) (oB := oB) (oC := oC) (iC := iC) (pO := pO) (vO := vO) (tw := tw) (dV := dV) (dK := dK) (dN := dN) (dE := dE) (pa := pa) (ho := ho) (fN := fN) (fE := fE) (fS := fS) (k1 := k1) (k2 := k2) (k3 := k3) 8 0 cK cN cE rfl (fun u hu => by omega)
  exact ⟨cK', cN', cE', h, fun post hp => ⟨9, H post 9 (by omega) hp⟩⟩
theorem ry_reset37 : ∀ (dd v : Nat) (yK yN yE : Nat → Int32), v + dd = 8 → (∀ u, u < v → yK u = 1 ∧ yN u = 0 ∧ yE u = 0) →
    ∃ yK' yN' yE', (∀ u, u < 8 → yK' u = 1 ∧ yN' u = 0 ∧ yE' u = 0) ∧ ∀ (post : SY → Prop) (n : Nat), dd < n → post (mN, mV, mE, mD, nd, ev, cu, tp, zk, zn, ze, rk, rn, re, nK, oA, oB, oC, pO, vO, yK', yN', yE', fN, fE, fS, l1, l2, l3) → wY_reset_37 post n (nI v) mN mV mE mD nd ev cu tp zk zn ze rk rn re nK oA oB oC pO vO yK yN yE fN fE fS l1 l2 l3 := by
  intro dd
  induction dd with
  | zero =>
    intro v yK yN yE hv h
    refine ⟨yK, yN, yE, fun u hu => h u (by omega), ?_⟩
    intro post n hn hp
    have e : v = 8 := by omega
    subst e
    cases n with
    | zero => omega
    | succ n => exact br_t (by decide) hp
  | succ dd ih =>
    intro v yK yN yE hv h
    obtain ⟨yK', yN', yE', h', H⟩ := ih (v + 1) (upd yK v 1) (upd yN v 0) (upd yE v 0) (by omega) (by
      intro u hu
      by_cases e : u = v
      · subst e; rw [pk_us, pk_us, pk_us]; exact ⟨rfl, rfl, rfl⟩
      · rw [pk_un e, pk_un e, pk_un e]; exact h u (by omega))
    refine ⟨yK', yN', yE', h', ?_⟩
    intro post n hn hp
    cases n with
    | zero => omega
    | succ n =>
      have cv := rl_c (n := v) (by omega)
      have iv := rl_in (n := v) (N := 40) (by omega) (by omega)
      exact br_f (nI_ge (b := 8) (by omega) (by omega)) ⟨iv, nm_r (e' := upd yK v 1) (by rw [cv]) ⟨iv, nm_r (e' := upd yN v 0) (by rw [cv]) ⟨iv, nm_r (e' := upd yE v 0) (by rw [cv]) (nm_r (nI_1 v) (H post n (by omega) hp))⟩⟩⟩
theorem ry_reset (yK yN yE : Nat → Int32) : ∃ yK' yN' yE', (∀ u, u < 8 → yK' u = 1 ∧ yN' u = 0 ∧ yE' u = 0) ∧ ∀ (post : SY → Prop), post (mN, mV, mE, mD, nI 0, nI 1, nI 0, 0, zk, zn, ze, 1, 0, 0, nK, oA, oB, oC, pO, vO, yK', yN', yE', fN, fE, fS, l1, l2, l3) → wpY_reset post (mN, mV, mE, mD, nd, ev, cu, tp, zk, zn, ze, rk, rn, re, nK, oA, oB, oC, pO, vO, yK, yN, yE, fN, fE, fS, l1, l2, l3) := by
  obtain ⟨yK', yN', yE', h, H⟩ := ry_reset37 (mN := mN) (mV := mV) (mE := mE) (mD := mD) (nd := 0) (ev := 1) (cu := 0) (tp := 0) (rk := 1) (rn := 0) (re := 0) (zk := zk) (zn := zn) (ze := ze) (nK := nK) (oA := oA) (oB := oB) (oC := oC) (pO := pO) (vO := vO) (fN := fN) (fE := fE) (fS := fS) (l1 := l1) (l2 := l2) (l3 := l3) 8 0 yK yN yE rfl (fun u hu => by omega)
  exact ⟨yK', yN', yE', h, fun post hp => ⟨9, H post 9 (by omega) hp⟩⟩
theorem rl_BF0 {MN MV ME MD : Nat} (h1 : MN ≤ 48) (h2 : MV ≤ 8) (h3 : ME ≤ 32) (h4 : MD ≤ 32) (h5 : 1 ≤ ME) {cK cN cE yK yN yE : Nat → Int32} (hx : ∀ u, u < 8 → cK u = 1 ∧ cN u = 0 ∧ cE u = 0) (hy : ∀ u, u < 8 → yK u = 1 ∧ yN u = 0 ∧ yE u = 0) :
    rl_BF MN MV ME MD 0 1 0 0 (fun _ => 0) nK oA oB oC iC pO vO yK yN yE cK cN cE tw dV dK dN dE := by
  refine ⟨⟨h1, h2, h3, h4, by omega, h5, by omega, by omega⟩, fun n hn => by omega, ⟨fun i hi => by omega, Nat.le_refl 0⟩, ⟨by omega, by omega, fun x a b => by omega⟩, ⟨fun x a b => by omega, fun v hv => ?_, fun x a b => by omega⟩, fun q hq => ?_⟩
  · have e : rl_H pO vO 0 v = v := rl_ho_0 _ _ v
    rw [e]
    obtain ⟨a, b, c⟩ := hx v hv
    obtain ⟨a', b', c'⟩ := hy v hv
    rw [a, b, c, a', b', c']
    exact ⟨rfl, rfl, rfl⟩
  · exact Or.inl (hy q (by omega)).1
def rl_cl (p lo hi : Int32) : Int32 := if lo ≤ p then (if p ≤ hi then p else hi) else lo
theorem rl_cl_of (p : Int32) {lo hi : Nat} (h1 : lo ≤ hi) (h2 : hi < 64) : ∃ M, lo ≤ M ∧ M ≤ hi ∧ rl_cl p (nI lo) (nI hi) = nI M := by
  unfold rl_cl
  by_cases a : nI lo ≤ p
  · rw [if_pos a]
    by_cases b : p ≤ nI hi
    · rw [if_pos b]
      have h0 : ¬ p < 0 := by
        intro z
        have := Int32.lt_iff_toInt_lt.mp z
        rw [Int32.le_iff_toInt_le, nI_toInt (by omega)] at a
        have e0 : (0 : Int32).toInt = 0 := by decide
        rw [e0] at this
        omega
      obtain ⟨M, hM, rfl⟩ := nI_of h0
      rw [nI_leI (by omega) hM] at a
      rw [nI_leI hM (by omega)] at b
      exact ⟨M, a, b, rfl⟩
    · rw [if_neg b]; exact ⟨hi, h1, Nat.le_refl _, rfl⟩
  · rw [if_neg a]; exact ⟨lo, Nat.le_refl _, h1, rfl⟩
theorem rx_clamp {cK cN cE : Nat → Int32} {post : Int32 → Prop} {p lo hi : Int32} (h : post (rl_cl p lo hi)) : wpX_clamp post (mN, mV, mE, mD, nd, ev, cu, rt, rk, rn, re, dp, fl, vk, vn, ve, nK, oA, oB, oC, iC, pO, vO, cK, cN, cE, tw, dV, dK, dN, dE, pa, ho, fN, fE, fS, k1, k2, k3) p lo hi := by
  unfold wpX_clamp
  unfold rl_cl at h
  by_cases a : lo ≤ p
  · rw [if_pos a] at h
    refine br_t a ?_
    by_cases b : p ≤ hi
    · rw [if_pos b] at h; exact br_t b h
    · rw [if_neg b] at h; exact br_f b h
  · rw [if_neg a] at h; exact br_f a h
theorem ry_clamp {yK yN yE : Nat → Int32} {post : Int32 → Prop} {p lo hi : Int32} (h : post (rl_cl p lo hi)) : wpY_clamp post (mN, mV, mE, mD, nd, ev, cu, tp, zk, zn, ze, rk, rn, re, nK, oA, oB, oC, pO, vO, yK, yN, yE, fN, fE, fS, l1, l2, l3) p lo hi := by
  unfold wpY_clamp
  unfold rl_cl at h
  by_cases a : lo ≤ p
  · rw [if_pos a] at h
    refine br_t a ?_
    by_cases b : p ≤ hi
    · rw [if_pos b] at h; exact br_t b h
    · rw [if_neg b] at h; exact br_f b h
  · rw [if_neg a] at h; exact br_f a h
end
theorem i_vc0 (k0 : Int32) (k1 : Int32) (k2 : Int32) (k3 : Int32) : wpX_init (fun u => wpY_init (fun v => i_Rel 4 u v) k0 k1 k2 k3) k0 k1 k2 k3 := by
  obtain ⟨MN, a1, b1, e1⟩ := rl_cl_of k0 (lo := 8) (hi := 48) (by omega) (by omega)
  obtain ⟨MV, a2, b2, e2⟩ := rl_cl_of k1 (lo := 2) (hi := 8) (by omega) (by omega)
  obtain ⟨ME, a3, b3, e3⟩ := rl_cl_of k2 (lo := 4) (hi := 32) (by omega) (by omega)
  obtain ⟨MD, a4, b4, e4⟩ := rl_cl_of k3 (lo := 4) (hi := 32) (by omega) (by omega)
  unfold wpX_init
  refine rx_clamp (rx_clamp (rx_clamp (rx_clamp ?_)))
  have f1 : rl_cl k0 8 48 = nI MN := e1
  have f2 : rl_cl k1 2 8 = nI MV := e2
  have f3 : rl_cl k2 4 32 = nI ME := e3
  have f4 : rl_cl k3 4 32 = nI MD := e4
  rw [f1, f2, f3, f4]
  obtain ⟨cK', cN', cE', hx, HX⟩ := rx_reset (mN := nI MN) (mV := nI MV) (mE := nI ME) (mD := nI MD) (nd := 0) (ev := 0) (cu := 0) (rt := 0) (rk := 0) (rn := 0) (re := 0) (dp := 0) (fl := 0) (vk := 0) (vn := 0) (ve := 0) (nK := fun _ => 0) (oA := fun _ => 0) (oB := fun _ => 0) (oC := fun _ => 0) (iC := fun _ => 0) (pO := fun _ => 0) (vO := fun _ => 0) (tw := fun _ => 0) (dV := fun _ => 0) (dK := fun _ => 0) (dN := fun _ => 0) (dE := fun _ => 0) (pa := fun _ => 0) (ho := fun _ => 0) (fN := fun _ => 0) (fE := fun _ => 0) (fS := fun _ => 0) (k1 := fun _ => 0) (k2 := fun _ => 0) (k3 := fun _ => 0) (fun _ => 0) (fun _ => 0) (fun _ => 0)
  refine HX _ ?_
  show wpY_init _ k0 k1 k2 k3
  unfold wpY_init
  refine ry_clamp (ry_clamp (ry_clamp (ry_clamp ?_)))
  rw [f1, f2, f3, f4]
  obtain ⟨yK', yN', yE', hy, HY⟩ := ry_reset (mN := nI MN) (mV := nI MV) (mE := nI ME) (mD := nI MD) (nd := 0) (ev := 0) (cu := 0) (tp := 0) (rk := 0) (rn := 0) (re := 0) (zk := 0) (zn := 0) (ze := 0) (nK := fun _ => 0) (oA := fun _ => 0) (oB := fun _ => 0) (oC := fun _ => 0) (pO := fun _ => 0) (vO := fun _ => 0) (fN := fun _ => 0) (fE := fun _ => 0) (fS := fun _ => 0) (l1 := fun _ => 0) (l2 := fun _ => 0) (l3 := fun _ => 0) (fun _ => 0) (fun _ => 0) (fun _ => 0)
  refine HY _ ?_
  exact rl_rel (rl_BF0 b1 b2 b3 b4 (by omega) hx hy) (Or.inl rfl)
section
variable {MN MV ME MD N E c r : Nat} {sz : Nat → Nat} {rk rn re dp fl vk vn ve tp zk zn ze : Int32} {nK oA oB oC iC pO vO cK cN cE tw dV dK dN dE pa ho fN fE fS k1 k2 k3 yK yN yE l1 l2 l3 : Nat → Int32}
theorem rl_vc_reset {kk : Nat} (bf : rl_BF MN MV ME MD N E c r sz nK oA oB oC iC pO vO yK yN yE cK cN cE tw dV dK dN dE) :
    wpX_reset (fun u' => wpY_reset (fun v' => i_Rel kk u' v') (nI MN, nI MV, nI ME, nI MD, nI N, nI E, nI c, tp, zk, zn, ze, rk, rn, re, nK, oA, oB, oC, pO, vO, yK, yN, yE, fN, fE, fS, l1, l2, l3)) (nI MN, nI MV, nI ME, nI MD, nI N, nI E, nI c, nI r, rk, rn, re, dp, fl, vk, vn, ve, nK, oA, oB, oC, iC, pO, vO, cK, cN, cE, tw, dV, dK, dN, dE, pa, ho, fN, fE, fS, k1, k2, k3) := by
  obtain ⟨cK', cN', cE', hx, HX⟩ := rx_reset (mN := nI MN) (mV := nI MV) (mE := nI ME) (mD := nI MD) (nd := nI N) (ev := nI E) (cu := nI c) (rt := nI r) (rk := rk) (rn := rn) (re := re) (dp := dp) (fl := fl) (vk := vk) (vn := vn) (ve := ve) (nK := nK) (oA := oA) (oB := oB) (oC := oC) (iC := iC) (pO := pO) (vO := vO) (tw := tw) (dV := dV) (dK := dK) (dN := dN) (dE := dE) (pa := pa) (ho := ho) (fN := fN) (fE := fE) (fS := fS) (k1 := k1) (k2 := k2) (k3 := k3) cK cN cE
  refine HX _ ?_
  obtain ⟨yK', yN', yE', hy, HY⟩ := ry_reset (mN := nI MN) (mV := nI MV) (mE := nI ME) (mD := nI MD) (nd := nI N) (ev := nI E) (cu := nI c) (tp := tp) (rk := rk) (rn := rn) (re := re) (zk := zk) (zn := zn) (ze := ze) (nK := nK) (oA := oA) (oB := oB) (oC := oC) (pO := pO) (vO := vO) (fN := fN) (fE := fE) (fS := fS) (l1 := l1) (l2 := l2) (l3 := l3) yK yN yE
  refine HY _ ?_
  obtain ⟨⟨a1, a2, a3, a4, a5, a6, a7, a8⟩, nf, ic, pf, er, vc⟩ := bf
  exact rl_rel (rl_BF0 a1 a2 a3 a4 (by omega) hx hy) (Or.inl rfl)
theorem rl_BF_root {c' r' : Nat} {cK' cN' cE' tw' dV' dK' dN' dE' : Nat → Int32} (bf : rl_BF MN MV ME MD N E c r sz nK oA oB oC iC pO vO yK yN yE cK cN cE tw dV dK dN dE) (hc : c' < E) (hr : r' < E) (er : rl_ER E r' pO vO yK yN yE cK' cN' cE' tw' dV' dK' dN' dE') : rl_BF MN MV ME MD N E c' r' sz nK oA oB oC iC pO vO yK yN yE cK' cN' cE' tw' dV' dK' dN' dE' := by
  obtain ⟨⟨a1, a2, a3, a4, a5, a6, a7, a8⟩, nf, ic, pf, _, vc⟩ := bf
  exact ⟨⟨a1, a2, a3, a4, a5, a6, hc, hr⟩, nf, ic, pf, er, vc⟩
theorem rl_BF_new {k n j : Int32} {p w : Nat} (bf : rl_BF MN MV ME MD N E c r sz nK oA oB oC iC pO vO yK yN yE cK cN cE tw dV dK dN dE) (hE : E < ME) (hp : p < E) (hw : w < 8) (vo : rl_VO N E nK k n j) : rl_BF MN MV ME MD N (E + 1) c r sz nK oA oB oC iC (upd pO E (nI p)) (upd vO E (nI w)) (upd yK (8 + E) k) (upd yN (8 + E) n) (upd yE (8 + E) j) cK cN cE (upd tw E (nI p)) (upd dV E (nI w)) (upd dK E k) (upd dN E n) (upd dE E j) := by
  obtain ⟨⟨a1, a2, a3, a4, a5, a6, a7, a8⟩, nf, ic, pf, er, vc⟩ := bf
  exact ⟨⟨a1, a2, a3, a4, a5, hE, by omega, by omega⟩, nf, ic, rl_PF_new pf (by omega) hp hw, rl_ER_new pf a8 (by omega) hp hw er k n j, rl_VC_new a2 vc vo⟩
theorem rl_BF_set {k n j : Int32} {w : Nat} (bf : rl_BF MN MV ME MD N E c r sz nK oA oB oC iC pO vO yK yN yE cK cN cE tw dV dK dN dE) (hw : w < 8) (vo : rl_VO N E nK k n j) : rl_BF MN MV ME MD N E c r sz nK oA oB oC iC pO vO (upd yK (rl_H pO vO r w) k) (upd yN (rl_H pO vO r w) n) (upd yE (rl_H pO vO r w) j) (upd cK w k) (upd cN w n) (upd cE w j) tw dV dK dN dE := by
  obtain ⟨⟨a1, a2, a3, a4, a5, a6, a7, a8⟩, nf, ic, pf, er, vc⟩ := bf
  exact ⟨⟨a1, a2, a3, a4, a5, a6, a7, a8⟩, nf, ic, pf, rl_ER_set pf a8 er hw k n j, rl_VC_set _ vc vo⟩
end
section
variable {mN mV mE mD nd cu rt rk rn re dp fl vk vn ve tp zk zn ze : Int32} {nK oA oB oC iC pO vO cK cN cE tw dV dK dN dE pa ho fN fE fS k1 k2 k3 yK yN yE l1 l2 l3 : Nat → Int32} {E : Nat}
theorem rx_makeEnv {post : Int32 → SX → Prop} {p w : Int32} (hE : E < 32) (h : post (nI E) (mN, mV, mE, mD, nd, nI (E + 1), cu, rt, rk, rn, re, dp, fl, vk, vn, ve, nK, oA, oB, oC, iC, upd pO E p, upd vO E w, cK, cN, cE, upd tw E p, upd dV E w, upd dK E vk, upd dN E vn, upd dE E ve, pa, ho, fN, fE, fS, k1, k2, k3)) : wpX_makeEnv post (mN, mV, mE, mD, nd, nI E, cu, rt, rk, rn, re, dp, fl, vk, vn, ve, nK, oA, oB, oC, iC, pO, vO, cK, cN, cE, tw, dV, dK, dN, dE, pa, ho, fN, fE, fS, k1, k2, k3) p w := by
  have ce := rl_c (n := E) (by omega)
  have ie := rl_in hE (by omega)
  exact ⟨ie, nm_r (e' := upd pO E p) (by rw [ce]) ⟨ie, nm_r (e' := upd vO E w) (by rw [ce]) ⟨ie, nm_r (e' := upd tw E p) (by rw [ce]) ⟨ie, nm_r (e' := upd dV E w) (by rw [ce]) ⟨ie, nm_r (e' := upd dK E vk) (by rw [ce]) ⟨ie, nm_r (e' := upd dN E vn) (by rw [ce]) ⟨ie, nm_r (e' := upd dE E ve) (by rw [ce]) (nm_r (nI_1 E) h)⟩⟩⟩⟩⟩⟩⟩
theorem ry_store {post : SY → Prop} {q : Nat} {k n j : Int32} {ev : Int32} (hq : q < 40) (h : post (mN, mV, mE, mD, nd, ev, cu, tp, zk, zn, ze, rk, rn, re, nK, oA, oB, oC, pO, vO, upd yK q k, upd yN q n, upd yE q j, fN, fE, fS, l1, l2, l3)) : wpY_store post (mN, mV, mE, mD, nd, ev, cu, tp, zk, zn, ze, rk, rn, re, nK, oA, oB, oC, pO, vO, yK, yN, yE, fN, fE, fS, l1, l2, l3) (nI q) k n j := by
  have cq := rl_c (n := q) (by omega)
  have iq := rl_in hq (by omega)
  exact ⟨iq, nm_r (e' := upd yK q k) (by rw [cq]) ⟨iq, nm_r (e' := upd yN q n) (by rw [cq]) ⟨iq, nm_r (e' := upd yE q j) (by rw [cq]) h⟩⟩⟩
theorem ry_makeEnv {post : Int32 → SY → Prop} {p w k n j : Int32} (hE : E < 32) (h : post (nI E) (mN, mV, mE, mD, nd, nI (E + 1), cu, tp, zk, zn, ze, rk, rn, re, nK, oA, oB, oC, upd pO E p, upd vO E w, upd yK (8 + E) k, upd yN (8 + E) n, upd yE (8 + E) j, fN, fE, fS, l1, l2, l3)) : wpY_makeEnv post (mN, mV, mE, mD, nd, nI E, cu, tp, zk, zn, ze, rk, rn, re, nK, oA, oB, oC, pO, vO, yK, yN, yE, fN, fE, fS, l1, l2, l3) p w k n j := by
  have ce := rl_c (n := E) (by omega)
  have ie := rl_in hE (by omega)
  have e8 : (8 : Int32) + nI E = nI (8 + E) := nI_add 8 E
  refine ⟨ie, nm_r (e' := upd pO E p) (by rw [ce]) ⟨ie, nm_r (e' := upd vO E w) (by rw [ce]) ?_⟩⟩
  rw [e8]
  refine ry_store (by omega) ?_
  exact nm_r (nI_1 E) (by rw [nI_pred]; exact h)
end
section
variable {MN MV ME MD N E c r : Nat} {sz : Nat → Nat} {rk rn re dp fl vk vn ve tp zk zn ze : Int32} {nK oA oB oC iC pO vO cK cN cE tw dV dK dN dE pa ho fN fE fS k1 k2 k3 yK yN yE l1 l2 l3 : Nat → Int32}
theorem rl_vc_bind {kk : Nat} (v : Int32) (bf : rl_BF MN MV ME MD N E c r sz nK oA oB oC iC pO vO yK yN yE cK cN cE tw dV dK dN dE) (vo : rl_VO N E nK rk rn re) :
    wpX_bind (fun r u' => wpY_bind (fun r' v' => r' = r ∧ i_Rel kk u' v') (nI MN, nI MV, nI ME, nI MD, nI N, nI E, nI c, tp, zk, zn, ze, rk, rn, re, nK, oA, oB, oC, pO, vO, yK, yN, yE, fN, fE, fS, l1, l2, l3) v) (nI MN, nI MV, nI ME, nI MD, nI N, nI E, nI c, nI r, rk, rn, re, dp, fl, vk, vn, ve, nK, oA, oB, oC, iC, pO, vO, cK, cN, cE, tw, dV, dK, dN, dE, pa, ho, fN, fE, fS, k1, k2, k3) v := by
  obtain ⟨a1, a2, a3, a4, a5, a6, a7, a8⟩ := bf.1
  by_cases h0 : v < 0
  · exact br_t h0 (br_t rfl (br_t h0 ⟨rfl, rl_rel bf vo⟩))
  · by_cases h1 : nI MV ≤ v
    · exact br_f h0 (br_t h1 (br_t rfl (br_f h0 (br_f (Int32.not_lt.mpr h1) ⟨rfl, rl_rel bf vo⟩))))
    · have h2 := Int32.not_le.mp h1
      by_cases h3 : nI E < nI ME
      · obtain ⟨w, hw, rfl⟩ := nI_of h0
        have hwM := h2
        rw [nI_ltI hw (by omega)] at hwM
        have hE := h3
        rw [nI_ltI (by omega) (by omega)] at hE
        have bf' := rl_BF_new (p := c) (w := w) bf hE a7 (by omega) vo
        obtain ⟨pa', cK', cN', cE', tw', dV', dK', dN', dE', er', H⟩ := rx_reroot (mN := nI MN) (mV := nI MV) (mE := nI ME) (mD := nI MD) (nd := nI N) (ev := nI (E + 1)) (cu := nI E) (rk := rk) (rn := rn) (re := re) (dp := dp) (fl := fl) (vk := rk) (vn := rn) (ve := re) (nK := nK) (oA := oA) (oB := oB) (oC := oC) (iC := iC) (pa := pa) (ho := ho) (fN := fN) (fE := fE) (fS := fS) (k1 := k1) (k2 := k2) (k3 := k3) bf'.2.2.2.1 (r := r) (by omega) bf'.2.2.2.2.1 (e := E) (by omega)
        have bf2 := rl_BF_root (c' := E) (r' := E) bf' (by omega) (by omega) er'
        refine br_f h0 (br_f h1 (br_f (by decide) (br_t h3 ?_)))
        unfold wpX_setValue
        refine rx_makeEnv (E := E) (by omega) ?_
        refine H _ ?_
        refine br_f h0 (br_t h2 (br_t h3 (ry_makeEnv (by omega) ?_)))
        exact ⟨rfl, rl_rel bf2 (rl_VO_up vo (by omega))⟩
      · exact br_f h0 (br_f h1 (br_f (by decide) (br_f h3 (br_f h0 (br_t h2 (br_f h3 ⟨rfl, rl_rel bf vo⟩))))))
theorem rl_vc_enter {kk : Nat} (e : Int32) (bf : rl_BF MN MV ME MD N E c r sz nK oA oB oC iC pO vO yK yN yE cK cN cE tw dV dK dN dE) (vo : rl_VO N E nK rk rn re) :
    wpX_enter (fun r u' => wpY_enter (fun r' v' => r' = r ∧ i_Rel kk u' v') (nI MN, nI MV, nI ME, nI MD, nI N, nI E, nI c, tp, zk, zn, ze, rk, rn, re, nK, oA, oB, oC, pO, vO, yK, yN, yE, fN, fE, fS, l1, l2, l3) e) (nI MN, nI MV, nI ME, nI MD, nI N, nI E, nI c, nI r, rk, rn, re, dp, fl, vk, vn, ve, nK, oA, oB, oC, iC, pO, vO, cK, cN, cE, tw, dV, dK, dN, dE, pa, ho, fN, fE, fS, k1, k2, k3) e := by
  obtain ⟨a1, a2, a3, a4, a5, a6, a7, a8⟩ := bf.1
  by_cases h0 : e < 0
  · exact br_t h0 (br_t rfl (br_t h0 ⟨rfl, rl_rel bf vo⟩))
  · by_cases h1 : nI E ≤ e
    · exact br_f h0 (br_t h1 (br_t rfl (br_f h0 (br_f (Int32.not_lt.mpr h1) ⟨rfl, rl_rel bf vo⟩))))
    · have h2 := Int32.not_le.mp h1
      obtain ⟨x, hx, rfl⟩ := nI_of h0
      have hxE := h2
      rw [nI_ltI hx (by omega)] at hxE
      obtain ⟨pa', cK', cN', cE', tw', dV', dK', dN', dE', er', H⟩ := rx_reroot (mN := nI MN) (mV := nI MV) (mE := nI ME) (mD := nI MD) (nd := nI N) (ev := nI E) (cu := nI x) (rk := rk) (rn := rn) (re := re) (dp := dp) (fl := fl) (vk := vk) (vn := vn) (ve := ve) (nK := nK) (oA := oA) (oB := oB) (oC := oC) (iC := iC) (pa := pa) (ho := ho) (fN := fN) (fE := fE) (fS := fS) (k1 := k1) (k2 := k2) (k3 := k3) bf.2.2.2.1 (r := r) a8 bf.2.2.2.2.1 (e := x) hxE
      have bf2 := rl_BF_root (c' := x) (r' := x) bf hxE hxE er'
      refine br_f h0 (br_f h1 (br_f (by decide) (H _ ?_)))
      exact br_f h0 (br_t h2 ⟨rfl, rl_rel bf2 vo⟩)
end
end
section
/-! part 13: X's step and what it calls -/
section
variable {mN mV mE mD nd ev cu rt rk rn re dp fl vk vn ve : Int32} {nK oA oB oC iC pO vO cK cN cE tw dV dK dN dE pa ho fN fE fS k1 k2 k3 : Nat → Int32} {post : SX → Prop} {k : Int32}
theorem rx_st_num {f n s : Nat} (hf : f < 32) (hn : fN f = nI n) (hnn : n < 48) (hs : fS f = nI s) (hk : nK n = k) (k1' : k = 1) (h : wpX_finishWith post (mN, mV, mE, mD, nd, ev, cu, rt, rk, rn, re, nI (f + 1), fl, vk, vn, ve, nK, oA, oB, oC, iC, pO, vO, cK, cN, cE, tw, dV, dK, dN, dE, pa, ho, fN, fE, upd fS f (nI (s + 1)), k1, k2, k3) 1 (oA n) 0) : wpX_step post (mN, mV, mE, mD, nd, ev, cu, rt, rk, rn, re, nI (f + 1), fl, vk, vn, ve, nK, oA, oB, oC, iC, pO, vO, cK, cN, cE, tw, dV, dK, dN, dE, pa, ho, fN, fE, fS, k1, k2, k3) := by
  have cf := rl_c (n := f) (by omega)
  have cn := rl_c (n := n) (by omega)
  have jf := rl_in hf (by omega)
  have jn := rl_in hnn (by omega)
  have hn' : fN (nI f).toNatClampNeg = nI n := by rw [cf]; exact hn
  have hs' : fS (nI f).toNatClampNeg = nI s := by rw [cf]; exact hs
  have hu : upd fS (nI f).toNatClampNeg (nI s + 1) = upd fS f (nI (s + 1)) := by rw [cf, nI_1]
  have hk' : nK (nI n).toNatClampNeg = k := by rw [cn]; exact hk
  unfold wpX_step
  refine nm_r (e' := nI f) (nI_pred f) ⟨jf, nm_r (e' := nI n) hn' ⟨jf, nm_r (e' := nI s) hs' ⟨jf, nm_r (e' := upd fS f (nI (s + 1))) hu ⟨jn, nm_r (e' := k) hk' ?_⟩⟩⟩⟩
  refine br_t k1' ⟨jn, ?_⟩
  rw [cn]
  exact h
theorem rx_st_var {f n s : Nat} (hf : f < 32) (hn : fN f = nI n) (hnn : n < 48) (hs : fS f = nI s) (hk : nK n = k) (k1' : k = 2) {v : Nat} (hv : v < 8) (ha : oA n = nI v) (h : wpX_finishWith post (mN, mV, mE, mD, nd, ev, cu, rt, rk, rn, re, nI (f + 1), fl, vk, vn, ve, nK, oA, oB, oC, iC, pO, vO, cK, cN, cE, tw, dV, dK, dN, dE, pa, ho, fN, fE, upd fS f (nI (s + 1)), k1, k2, k3) (cK v) (cN v) (cE v)) : wpX_step post (mN, mV, mE, mD, nd, ev, cu, rt, rk, rn, re, nI (f + 1), fl, vk, vn, ve, nK, oA, oB, oC, iC, pO, vO, cK, cN, cE, tw, dV, dK, dN, dE, pa, ho, fN, fE, fS, k1, k2, k3) := by
  have cv := rl_c (n := v) (by omega)
  have jv := rl_in hv (by omega)
  have cf := rl_c (n := f) (by omega)
  have cn := rl_c (n := n) (by omega)
  have jf := rl_in hf (by omega)
  have jn := rl_in hnn (by omega)
  have hn' : fN (nI f).toNatClampNeg = nI n := by rw [cf]; exact hn
  have hs' : fS (nI f).toNatClampNeg = nI s := by rw [cf]; exact hs
  have hu : upd fS (nI f).toNatClampNeg (nI s + 1) = upd fS f (nI (s + 1)) := by rw [cf, nI_1]
  have hk' : nK (nI n).toNatClampNeg = k := by rw [cn]; exact hk
  unfold wpX_step
  refine nm_r (e' := nI f) (nI_pred f) ⟨jf, nm_r (e' := nI n) hn' ⟨jf, nm_r (e' := nI s) hs' ⟨jf, nm_r (e' := upd fS f (nI (s + 1))) hu ⟨jn, nm_r (e' := k) hk' ?_⟩⟩⟩⟩
  refine br_f (by rw [k1']; decide) (br_t k1' ⟨jn, nm_r (e' := nI v) (by rw [cn]; exact ha) ⟨jv, jv, jv, ?_⟩⟩)
  rw [cv]
  exact h
theorem rx_st_lam {f n s : Nat} (hf : f < 32) (hn : fN f = nI n) (hnn : n < 48) (hs : fS f = nI s) (hk : nK n = k) (k1' : k = 4) (h : wpX_finishWith post (mN, mV, mE, mD, nd, ev, cu, rt, rk, rn, re, nI (f + 1), fl, vk, vn, ve, nK, oA, oB, oC, iC, pO, vO, cK, cN, cE, tw, dV, dK, dN, dE, pa, ho, fN, fE, upd fS f (nI (s + 1)), k1, k2, k3) 2 (nI n) 0) : wpX_step post (mN, mV, mE, mD, nd, ev, cu, rt, rk, rn, re, nI (f + 1), fl, vk, vn, ve, nK, oA, oB, oC, iC, pO, vO, cK, cN, cE, tw, dV, dK, dN, dE, pa, ho, fN, fE, fS, k1, k2, k3) := by
  have cf := rl_c (n := f) (by omega)
  have cn := rl_c (n := n) (by omega)
  have jf := rl_in hf (by omega)
  have jn := rl_in hnn (by omega)
  have hn' : fN (nI f).toNatClampNeg = nI n := by rw [cf]; exact hn
  have hs' : fS (nI f).toNatClampNeg = nI s := by rw [cf]; exact hs
  have hu : upd fS (nI f).toNatClampNeg (nI s + 1) = upd fS f (nI (s + 1)) := by rw [cf, nI_1]
  have hk' : nK (nI n).toNatClampNeg = k := by rw [cn]; exact hk
  unfold wpX_step
  refine nm_r (e' := nI f) (nI_pred f) ⟨jf, nm_r (e' := nI n) hn' ⟨jf, nm_r (e' := nI s) hs' ⟨jf, nm_r (e' := upd fS f (nI (s + 1))) hu ⟨jn, nm_r (e' := k) hk' ?_⟩⟩⟩⟩
  exact br_f (by rw [k1']; decide) (br_f (by rw [k1']; decide) (br_t k1' h))
theorem rx_st_s0set {f n s : Nat} (hf : f < 32) (hn : fN f = nI n) (hnn : n < 48) (hs : fS f = nI s) (hk : nK n = k) (k1' : k = 3) (s0 : s = 0) {b e : Nat} (hb : oB n = nI b) (he : fE f = nI e) (h : wpX_begin post (mN, mV, mE, mD, nd, ev, cu, rt, rk, rn, re, nI (f + 1), fl, vk, vn, ve, nK, oA, oB, oC, iC, pO, vO, cK, cN, cE, tw, dV, dK, dN, dE, pa, ho, fN, fE, upd fS f (nI (s + 1)), k1, k2, k3) (nI b) (nI e)) : wpX_step post (mN, mV, mE, mD, nd, ev, cu, rt, rk, rn, re, nI (f + 1), fl, vk, vn, ve, nK, oA, oB, oC, iC, pO, vO, cK, cN, cE, tw, dV, dK, dN, dE, pa, ho, fN, fE, fS, k1, k2, k3) := by
  have cf := rl_c (n := f) (by omega)
  have cn := rl_c (n := n) (by omega)
  have jf := rl_in hf (by omega)
  have jn := rl_in hnn (by omega)
  have hn' : fN (nI f).toNatClampNeg = nI n := by rw [cf]; exact hn
  have hs' : fS (nI f).toNatClampNeg = nI s := by rw [cf]; exact hs
  have hu : upd fS (nI f).toNatClampNeg (nI s + 1) = upd fS f (nI (s + 1)) := by rw [cf, nI_1]
  have hk' : nK (nI n).toNatClampNeg = k := by rw [cn]; exact hk
  unfold wpX_step
  refine nm_r (e' := nI f) (nI_pred f) ⟨jf, nm_r (e' := nI n) hn' ⟨jf, nm_r (e' := nI s) hs' ⟨jf, nm_r (e' := upd fS f (nI (s + 1))) hu ⟨jn, nm_r (e' := k) hk' ?_⟩⟩⟩⟩
  refine br_f (by rw [k1']; decide) (br_f (by rw [k1']; decide) (br_f (by rw [k1']; decide) (br_t (congrArg nI s0) (br_t k1' ⟨jn, ?_⟩))))
  unfold wX_step_143
  rw [cn, cf, hb, he]
  exact ⟨jf, h⟩
theorem rx_st_s0 {f n s : Nat} (hf : f < 32) (hn : fN f = nI n) (hnn : n < 48) (hs : fS f = nI s) (hk : nK n = k) (n1 : k ≠ 1) (n2 : k ≠ 2) (n3 : k ≠ 3) (n4 : k ≠ 4) (s0 : s = 0) {a e : Nat} (ha : oA n = nI a) (he : fE f = nI e) (h : wpX_begin post (mN, mV, mE, mD, nd, ev, cu, rt, rk, rn, re, nI (f + 1), fl, vk, vn, ve, nK, oA, oB, oC, iC, pO, vO, cK, cN, cE, tw, dV, dK, dN, dE, pa, ho, fN, fE, upd fS f (nI (s + 1)), k1, k2, k3) (nI a) (nI e)) : wpX_step post (mN, mV, mE, mD, nd, ev, cu, rt, rk, rn, re, nI (f + 1), fl, vk, vn, ve, nK, oA, oB, oC, iC, pO, vO, cK, cN, cE, tw, dV, dK, dN, dE, pa, ho, fN, fE, fS, k1, k2, k3) := by
  have cf := rl_c (n := f) (by omega)
  have cn := rl_c (n := n) (by omega)
  have jf := rl_in hf (by omega)
  have jn := rl_in hnn (by omega)
  have hn' : fN (nI f).toNatClampNeg = nI n := by rw [cf]; exact hn
  have hs' : fS (nI f).toNatClampNeg = nI s := by rw [cf]; exact hs
  have hu : upd fS (nI f).toNatClampNeg (nI s + 1) = upd fS f (nI (s + 1)) := by rw [cf, nI_1]
  have hk' : nK (nI n).toNatClampNeg = k := by rw [cn]; exact hk
  unfold wpX_step
  refine nm_r (e' := nI f) (nI_pred f) ⟨jf, nm_r (e' := nI n) hn' ⟨jf, nm_r (e' := nI s) hs' ⟨jf, nm_r (e' := upd fS f (nI (s + 1))) hu ⟨jn, nm_r (e' := k) hk' ?_⟩⟩⟩⟩
  refine br_f n1 (br_f n2 (br_f n4 (br_t (congrArg nI s0) (br_f n3 ⟨jn, ?_⟩))))
  unfold wX_step_143
  rw [cn, cf, ha, he]
  exact ⟨jf, h⟩
theorem rx_st_s1 {f n s : Nat} (hf : f < 32) (hn : fN f = nI n) (hnn : n < 48) (hs : fS f = nI s) (hk : nK n = k) (n1 : k ≠ 1) (n2 : k ≠ 2) (n4 : k ≠ 4) (s0 : s = 1) (h : wpX_afterFirst post (mN, mV, mE, mD, nd, ev, cu, rt, rk, rn, re, nI (f + 1), fl, vk, vn, ve, nK, oA, oB, oC, iC, pO, vO, cK, cN, cE, tw, dV, dK, dN, dE, pa, ho, fN, fE, upd fS f (nI (s + 1)), k1, k2, k3) (nI f) (nI n)) : wpX_step post (mN, mV, mE, mD, nd, ev, cu, rt, rk, rn, re, nI (f + 1), fl, vk, vn, ve, nK, oA, oB, oC, iC, pO, vO, cK, cN, cE, tw, dV, dK, dN, dE, pa, ho, fN, fE, fS, k1, k2, k3) := by
  have cf := rl_c (n := f) (by omega)
  have cn := rl_c (n := n) (by omega)
  have jf := rl_in hf (by omega)
  have jn := rl_in hnn (by omega)
  have hn' : fN (nI f).toNatClampNeg = nI n := by rw [cf]; exact hn
  have hs' : fS (nI f).toNatClampNeg = nI s := by rw [cf]; exact hs
  have hu : upd fS (nI f).toNatClampNeg (nI s + 1) = upd fS f (nI (s + 1)) := by rw [cf, nI_1]
  have hk' : nK (nI n).toNatClampNeg = k := by rw [cn]; exact hk
  unfold wpX_step
  refine nm_r (e' := nI f) (nI_pred f) ⟨jf, nm_r (e' := nI n) hn' ⟨jf, nm_r (e' := nI s) hs' ⟨jf, nm_r (e' := upd fS f (nI (s + 1))) hu ⟨jn, nm_r (e' := k) hk' ?_⟩⟩⟩⟩
  exact br_f n1 (br_f n2 (br_f n4 (br_f (by rw [s0]; decide) (br_t (congrArg nI s0) h))))
theorem rx_st_s2 {f n s : Nat} (hf : f < 32) (hn : fN f = nI n) (hnn : n < 48) (hs : fS f = nI s) (hk : nK n = k) (n1 : k ≠ 1) (n2 : k ≠ 2) (n4 : k ≠ 4) (s0 : s = 2) (h : wpX_afterSecond post (mN, mV, mE, mD, nd, ev, cu, rt, rk, rn, re, nI (f + 1), fl, vk, vn, ve, nK, oA, oB, oC, iC, pO, vO, cK, cN, cE, tw, dV, dK, dN, dE, pa, ho, fN, fE, upd fS f (nI (s + 1)), k1, k2, k3) (nI f) (nI n)) : wpX_step post (mN, mV, mE, mD, nd, ev, cu, rt, rk, rn, re, nI (f + 1), fl, vk, vn, ve, nK, oA, oB, oC, iC, pO, vO, cK, cN, cE, tw, dV, dK, dN, dE, pa, ho, fN, fE, fS, k1, k2, k3) := by
  have cf := rl_c (n := f) (by omega)
  have cn := rl_c (n := n) (by omega)
  have jf := rl_in hf (by omega)
  have jn := rl_in hnn (by omega)
  have hn' : fN (nI f).toNatClampNeg = nI n := by rw [cf]; exact hn
  have hs' : fS (nI f).toNatClampNeg = nI s := by rw [cf]; exact hs
  have hu : upd fS (nI f).toNatClampNeg (nI s + 1) = upd fS f (nI (s + 1)) := by rw [cf, nI_1]
  have hk' : nK (nI n).toNatClampNeg = k := by rw [cn]; exact hk
  unfold wpX_step
  refine nm_r (e' := nI f) (nI_pred f) ⟨jf, nm_r (e' := nI n) hn' ⟨jf, nm_r (e' := nI s) hs' ⟨jf, nm_r (e' := upd fS f (nI (s + 1))) hu ⟨jn, nm_r (e' := k) hk' ?_⟩⟩⟩⟩
  exact br_f n1 (br_f n2 (br_f n4 (br_f (by rw [s0]; decide) (br_f (by rw [s0]; decide) (br_t (congrArg nI s0) h)))))
theorem rx_st_s3 {f n s : Nat} (hf : f < 32) (hn : fN f = nI n) (hnn : n < 48) (hs : fS f = nI s) (hk : nK n = k) (n1 : k ≠ 1) (n2 : k ≠ 2) (n4 : k ≠ 4) (s0 : s = 3) (h : wpX_finish post (mN, mV, mE, mD, nd, ev, cu, rt, rk, rn, re, nI (f + 1), fl, vk, vn, ve, nK, oA, oB, oC, iC, pO, vO, cK, cN, cE, tw, dV, dK, dN, dE, pa, ho, fN, fE, upd fS f (nI (s + 1)), k1, k2, k3)) : wpX_step post (mN, mV, mE, mD, nd, ev, cu, rt, rk, rn, re, nI (f + 1), fl, vk, vn, ve, nK, oA, oB, oC, iC, pO, vO, cK, cN, cE, tw, dV, dK, dN, dE, pa, ho, fN, fE, fS, k1, k2, k3) := by
  have cf := rl_c (n := f) (by omega)
  have cn := rl_c (n := n) (by omega)
  have jf := rl_in hf (by omega)
  have jn := rl_in hnn (by omega)
  have hn' : fN (nI f).toNatClampNeg = nI n := by rw [cf]; exact hn
  have hs' : fS (nI f).toNatClampNeg = nI s := by rw [cf]; exact hs
  have hu : upd fS (nI f).toNatClampNeg (nI s + 1) = upd fS f (nI (s + 1)) := by rw [cf, nI_1]
  have hk' : nK (nI n).toNatClampNeg = k := by rw [cn]; exact hk
  unfold wpX_step
  refine nm_r (e' := nI f) (nI_pred f) ⟨jf, nm_r (e' := nI n) hn' ⟨jf, nm_r (e' := nI s) hs' ⟨jf, nm_r (e' := upd fS f (nI (s + 1))) hu ⟨jn, nm_r (e' := k) hk' ?_⟩⟩⟩⟩
  exact br_f n1 (br_f n2 (br_f n4 (br_f (by rw [s0]; decide) (br_f (by rw [s0]; decide) (br_f (by rw [s0]; decide) h)))))
theorem rx_fw {p q j : Int32} (h : wpX_finish post (mN, mV, mE, mD, nd, ev, cu, rt, rk, rn, re, dp, fl, p, q, j, nK, oA, oB, oC, iC, pO, vO, cK, cN, cE, tw, dV, dK, dN, dE, pa, ho, fN, fE, fS, k1, k2, k3)) : wpX_finishWith post (mN, mV, mE, mD, nd, ev, cu, rt, rk, rn, re, dp, fl, vk, vn, ve, nK, oA, oB, oC, iC, pO, vO, cK, cN, cE, tw, dV, dK, dN, dE, pa, ho, fN, fE, fS, k1, k2, k3) p q j := h
/- the first child has its value -/
theorem rx_af_set {f n v : Nat} (hnn : n < 48) (hk : nK n = 3) (hv : v < 8) (ha : oA n = nI v) (h : wpX_finish post (mN, mV, mE, mD, nd, ev, cu, rt, rk, rn, re, dp, fl, vk, vn, ve, nK, oA, oB, oC, iC, pO, vO, upd cK v vk, upd cN v vn, upd cE v ve, tw, dV, dK, dN, dE, pa, ho, fN, fE, fS, k1, k2, k3)) : wpX_afterFirst post (mN, mV, mE, mD, nd, ev, cu, rt, rk, rn, re, dp, fl, vk, vn, ve, nK, oA, oB, oC, iC, pO, vO, cK, cN, cE, tw, dV, dK, dN, dE, pa, ho, fN, fE, fS, k1, k2, k3) (nI f) (nI n) := by
  have cn := rl_c (n := n) (by omega)
  have jn := rl_in hnn (by omega)
  have cv := rl_c (n := v) (by omega)
  have jv := rl_in hv (by omega)
  unfold wpX_afterFirst
  refine ⟨jn, nm_r (e' := 3) (by rw [cn]; exact hk) (br_f (by decide) (br_f (by decide) (br_t rfl ⟨jn, ?_⟩)))⟩
  rw [cn, ha]
  unfold wpX_assign
  exact ⟨jv, nm_r (e' := upd cK v vk) (by rw [cv]) ⟨jv, nm_r (e' := upd cN v vn) (by rw [cv]) ⟨jv, nm_r (e' := upd cE v ve) (by rw [cv]) h⟩⟩⟩
theorem rx_af_close {f n e : Nat} (hf : f < 32) (hnn : n < 48) (hk : nK n = 5) (he : fE f = nI e) (h1 : vk = 1 → post (mN, mV, mE, mD, nd, ev, cu, rt, rk, rn, re, dp, 108, vk, vn, ve, nK, oA, oB, oC, iC, pO, vO, cK, cN, cE, tw, dV, dK, dN, dE, pa, ho, fN, fE, fS, k1, k2, k3)) (h2 : vk = 2 → wpX_finish post (mN, mV, mE, mD, nd, ev, cu, rt, rk, rn, re, dp, fl, 3, vn, nI e, nK, oA, oB, oC, iC, pO, vO, cK, cN, cE, tw, dV, dK, dN, dE, pa, ho, fN, fE, fS, k1, k2, k3)) (h3 : ¬ vk = 1 → ¬ vk = 2 → wpX_finish post (mN, mV, mE, mD, nd, ev, cu, rt, rk, rn, re, dp, fl, vk, vn, ve, nK, oA, oB, oC, iC, pO, vO, cK, cN, cE, tw, dV, dK, dN, dE, pa, ho, fN, fE, fS, k1, k2, k3)) : wpX_afterFirst post (mN, mV, mE, mD, nd, ev, cu, rt, rk, rn, re, dp, fl, vk, vn, ve, nK, oA, oB, oC, iC, pO, vO, cK, cN, cE, tw, dV, dK, dN, dE, pa, ho, fN, fE, fS, k1, k2, k3) (nI f) (nI n) := by
  have cf := rl_c (n := f) (by omega)
  have jf := rl_in hf (by omega)
  have cn := rl_c (n := n) (by omega)
  have jn := rl_in hnn (by omega)
  unfold wpX_afterFirst
  refine ⟨jn, nm_r (e' := 5) (by rw [cn]; exact hk) (br_f (by decide) (br_f (by decide) (br_f (by decide) (br_f (by decide) (br_t rfl ⟨jf, ?_⟩)))))⟩
  rw [cf, he]
  unfold wpX_close wX_close_33
  exact br_c h1 (fun a => br_c h2 (fun b => h3 a b))
theorem rx_af_in {f n b : Nat} (hnn : n < 48) (hk : nK n = 7) (hb : oB n = nI b) (h1 : vk = 3 → wpX_begin post (mN, mV, mE, mD, nd, ev, cu, rt, rk, rn, re, dp, fl, vk, vn, ve, nK, oA, oB, oC, iC, pO, vO, cK, cN, cE, tw, dV, dK, dN, dE, pa, ho, fN, fE, fS, k1, k2, k3) (nI b) ve) (h2 : ¬ vk = 3 → post (mN, mV, mE, mD, nd, ev, cu, rt, rk, rn, re, dp, 110, vk, vn, ve, nK, oA, oB, oC, iC, pO, vO, cK, cN, cE, tw, dV, dK, dN, dE, pa, ho, fN, fE, fS, k1, k2, k3)) : wpX_afterFirst post (mN, mV, mE, mD, nd, ev, cu, rt, rk, rn, re, dp, fl, vk, vn, ve, nK, oA, oB, oC, iC, pO, vO, cK, cN, cE, tw, dV, dK, dN, dE, pa, ho, fN, fE, fS, k1, k2, k3) (nI f) (nI n) := by
  have cn := rl_c (n := n) (by omega)
  have jn := rl_in hnn (by omega)
  unfold wpX_afterFirst
  refine ⟨jn, nm_r (e' := 7) (by rw [cn]; exact hk) (br_f (by decide) (br_f (by decide) (br_f (by decide) (br_f (by decide) (br_f (by decide) (br_f (by decide) (br_t rfl ?_)))))))⟩
  refine br_c (fun a => ⟨jn, ?_⟩) h2
  rw [cn, hb]
  exact h1 a
theorem rx_af_if {f n b c e : Nat} (hf : f < 32) (hnn : n < 48) (hk : nK n = 8) (hb : oB n = nI b) (hc : oC n = nI c) (he : fE f = nI e) (h1 : vk = 1 ∧ vn = 0 → wpX_begin post (mN, mV, mE, mD, nd, ev, cu, rt, rk, rn, re, dp, fl, vk, vn, ve, nK, oA, oB, oC, iC, pO, vO, cK, cN, cE, tw, dV, dK, dN, dE, pa, ho, fN, fE, fS, k1, k2, k3) (nI c) (nI e)) (h2 : ¬ (vk = 1 ∧ vn = 0) → wpX_begin post (mN, mV, mE, mD, nd, ev, cu, rt, rk, rn, re, dp, fl, vk, vn, ve, nK, oA, oB, oC, iC, pO, vO, cK, cN, cE, tw, dV, dK, dN, dE, pa, ho, fN, fE, fS, k1, k2, k3) (nI b) (nI e)) : wpX_afterFirst post (mN, mV, mE, mD, nd, ev, cu, rt, rk, rn, re, dp, fl, vk, vn, ve, nK, oA, oB, oC, iC, pO, vO, cK, cN, cE, tw, dV, dK, dN, dE, pa, ho, fN, fE, fS, k1, k2, k3) (nI f) (nI n) := by
  have cf := rl_c (n := f) (by omega)
  have jf := rl_in hf (by omega)
  have cn := rl_c (n := n) (by omega)
  have jn := rl_in hnn (by omega)
  unfold wpX_afterFirst
  refine ⟨jn, nm_r (e' := 8) (by rw [cn]; exact hk) (br_f (by decide) (br_f (by decide) (br_f (by decide) (br_f (by decide) (br_f (by decide) (br_f (by decide) (br_f (by decide) (br_t rfl ?_))))))))⟩
  have y1 : vk = 1 ∧ vn = 0 → wX_choose_20 post (nI f) (nI n) 1 mN mV mE mD nd ev cu rt rk rn re dp fl vk vn ve nK oA oB oC iC pO vO cK cN cE tw dV dK dN dE pa ho fN fE fS k1 k2 k3 := by
    intro z
    unfold wX_choose_20 wX_choose_41
    rw [cn, cf, hb, hc, he]
    exact br_f (by decide) ⟨jn, jf, h1 z⟩
  have y2 : ¬ (vk = 1 ∧ vn = 0) → wX_choose_19 post (nI f) (nI n) mN mV mE mD nd ev cu rt rk rn re dp fl vk vn ve nK oA oB oC iC pO vO cK cN cE tw dV dK dN dE pa ho fN fE fS k1 k2 k3 := by
    intro z
    unfold wX_choose_19 wX_choose_20 wX_choose_41
    rw [cn, cf, hb, hc, he]
    exact br_t rfl ⟨jn, jf, h2 z⟩
  exact br_c (fun a => br_c (fun b => y1 ⟨a, b⟩) (fun b => y2 (fun z => b z.2))) (fun a => y2 (fun z => a z.1))
theorem rx_af_else {f n b e : Nat} (hf : f < 32) (hnn : n < 48) (hk : nK n = 6 ∨ nK n = 9 ∨ nK n = 10 ∨ nK n = 11 ∨ nK n = 12) (hb : oB n = nI b) (he : fE f = nI e) (h : wpX_begin post (mN, mV, mE, mD, nd, ev, cu, rt, rk, rn, re, dp, fl, vk, vn, ve, nK, oA, oB, oC, iC, pO, vO, cK, cN, cE, tw, dV, dK, dN, dE, pa, ho, fN, fE, fS, upd k1 f vk, upd k2 f vn, upd k3 f ve) (nI b) (nI e)) : wpX_afterFirst post (mN, mV, mE, mD, nd, ev, cu, rt, rk, rn, re, dp, fl, vk, vn, ve, nK, oA, oB, oC, iC, pO, vO, cK, cN, cE, tw, dV, dK, dN, dE, pa, ho, fN, fE, fS, k1, k2, k3) (nI f) (nI n) := by
  have cf := rl_c (n := f) (by omega)
  have jf := rl_in hf (by omega)
  have cn := rl_c (n := n) (by omega)
  have jn := rl_in hnn (by omega)
  have y : wX_afterFirst_87 post (nI f) (nI n) mN mV mE mD nd ev cu rt rk rn re dp fl vk vn ve nK oA oB oC iC pO vO cK cN cE tw dV dK dN dE pa ho fN fE fS k1 k2 k3 := by
    unfold wX_afterFirst_87
    refine ⟨jf, nm_r (e' := upd k1 f vk) (by rw [cf]) ⟨jf, nm_r (e' := upd k2 f vn) (by rw [cf]) ⟨jf, nm_r (e' := upd k3 f ve) (by rw [cf]) ⟨jn, jf, ?_⟩⟩⟩⟩
    rw [cn, cf, hb, he]
    exact h
  unfold wpX_afterFirst
  refine ⟨jn, ?_⟩
  rw [cn]
  rcases hk with hk | hk
  · exact nm_r hk (br_f (by decide) (br_f (by decide) (br_f (by decide) (br_f (by decide) (br_f (by decide) (br_t rfl y))))))
  · have h8 : 8 < nK n ∧ ¬ nK n < 3 := by
      rcases hk with hk | hk | hk | hk <;> (rw [hk]; decide)
    exact nm_e (br_f h8.2 (br_t h8.1 y))
/- the second child has its value -/
theorem rx_as_give {f n : Nat} (hnn : n < 48) (hk : nK n = 7 ∨ nK n = 8 ∨ nK n = 9) (h : wpX_finish post (mN, mV, mE, mD, nd, ev, cu, rt, rk, rn, re, dp, fl, vk, vn, ve, nK, oA, oB, oC, iC, pO, vO, cK, cN, cE, tw, dV, dK, dN, dE, pa, ho, fN, fE, fS, k1, k2, k3)) : wpX_afterSecond post (mN, mV, mE, mD, nd, ev, cu, rt, rk, rn, re, dp, fl, vk, vn, ve, nK, oA, oB, oC, iC, pO, vO, cK, cN, cE, tw, dV, dK, dN, dE, pa, ho, fN, fE, fS, k1, k2, k3) (nI f) (nI n) := by
  have cn := rl_c (n := n) (by omega)
  have jn := rl_in hnn (by omega)
  have h8 : ¬ nK n = 6 ∧ nK n < 10 := by
    rcases hk with hk | hk | hk <;> (rw [hk]; decide)
  unfold wpX_afterSecond
  refine ⟨jn, ?_⟩
  rw [cn]
  exact nm_e (br_f h8.1 (br_t h8.2 h))
theorem rx_as_call {f n : Nat} (hnn : n < 48) (hk : nK n = 6) (h : wpX_apply post (mN, mV, mE, mD, nd, ev, cu, rt, rk, rn, re, dp, fl, vk, vn, ve, nK, oA, oB, oC, iC, pO, vO, cK, cN, cE, tw, dV, dK, dN, dE, pa, ho, fN, fE, fS, k1, k2, k3) (nI f)) : wpX_afterSecond post (mN, mV, mE, mD, nd, ev, cu, rt, rk, rn, re, dp, fl, vk, vn, ve, nK, oA, oB, oC, iC, pO, vO, cK, cN, cE, tw, dV, dK, dN, dE, pa, ho, fN, fE, fS, k1, k2, k3) (nI f) (nI n) := by
  have cn := rl_c (n := n) (by omega)
  have jn := rl_in hnn (by omega)
  unfold wpX_afterSecond
  exact ⟨jn, nm_r (e' := 6) (by rw [cn]; exact hk) (br_t rfl h)⟩
theorem rx_as_calc {f n : Nat} {k : Int32} (hnn : n < 48) (hk : nK n = k) (h : k = 10 ∨ k = 11 ∨ k = 12) (H : wpX_calculate post (mN, mV, mE, mD, nd, ev, cu, rt, rk, rn, re, dp, fl, vk, vn, ve, nK, oA, oB, oC, iC, pO, vO, cK, cN, cE, tw, dV, dK, dN, dE, pa, ho, fN, fE, fS, k1, k2, k3) (nI f) k) : wpX_afterSecond post (mN, mV, mE, mD, nd, ev, cu, rt, rk, rn, re, dp, fl, vk, vn, ve, nK, oA, oB, oC, iC, pO, vO, cK, cN, cE, tw, dV, dK, dN, dE, pa, ho, fN, fE, fS, k1, k2, k3) (nI f) (nI n) := by
  have cn := rl_c (n := n) (by omega)
  have jn := rl_in hnn (by omega)
  have h8 : ¬ k = 6 ∧ ¬ k < 10 := by
    rcases h with h | h | h <;> (rw [h]; decide)
  unfold wpX_afterSecond
  exact ⟨jn, nm_r (e' := k) (by rw [cn]; exact hk) (br_f h8.1 (br_f h8.2 H))⟩
theorem rx_calc {f : Nat} {k : Int32} (hf : f < 32) (h : k = 10 ∨ k = 11 ∨ k = 12) (h1 : ¬ (k1 f = 1 ∧ vk = 1) → post (mN, mV, mE, mD, nd, ev, cu, rt, rk, rn, re, dp, 109, vk, vn, ve, nK, oA, oB, oC, iC, pO, vO, cK, cN, cE, tw, dV, dK, dN, dE, pa, ho, fN, fE, fS, k1, k2, k3))
    (h2 : k1 f = 1 → vk = 1 → wpX_finish post (mN, mV, mE, mD, nd, ev, cu, rt, rk, rn, re, dp, fl, 1, if k = 10 then k2 f + vn else if k = 11 then k2 f - vn else if vn ≤ k2 f then 0 else 1, 0, nK, oA, oB, oC, iC, pO, vO, cK, cN, cE, tw, dV, dK, dN, dE, pa, ho, fN, fE, fS, k1, k2, k3)) : wpX_calculate post (mN, mV, mE, mD, nd, ev, cu, rt, rk, rn, re, dp, fl, vk, vn, ve, nK, oA, oB, oC, iC, pO, vO, cK, cN, cE, tw, dV, dK, dN, dE, pa, ho, fN, fE, fS, k1, k2, k3) (nI f) k := by
  have cf := rl_c (n := f) (by omega)
  have jf := rl_in hf (by omega)
  unfold wpX_calculate
  rw [cf]
  refine ⟨jf, br_c (fun a => br_c (fun b => ⟨jf, nm_e ?_⟩) (fun b => h1 (fun z => b z.2))) (fun a => h1 (fun z => a z.1))⟩
  have H := h2 a b
  rcases h with h | h | h
  · subst h
    rw [if_pos rfl] at H
    exact br_t rfl H
  · subst h
    rw [if_neg (by decide), if_pos rfl] at H
    exact br_f (by decide) (br_t rfl H)
  · subst h
    rw [if_neg (by decide), if_neg (by decide)] at H
    refine br_f (by decide) (br_f (by decide) ?_)
    unfold wX_calculate_89
    by_cases c : vn ≤ k2 f
    · rw [if_pos c] at H
      exact br_t c H
    · rw [if_neg c] at H
      exact br_f c H
theorem rx_apply1 {f : Nat} (hf : f < 32) (hk : k1 f = 1) (h : post (mN, mV, mE, mD, nd, ev, cu, rt, rk, rn, re, dp, 108, vk, vn, ve, nK, oA, oB, oC, iC, pO, vO, cK, cN, cE, tw, dV, dK, dN, dE, pa, ho, fN, fE, fS, k1, k2, k3)) : wpX_apply post (mN, mV, mE, mD, nd, ev, cu, rt, rk, rn, re, dp, fl, vk, vn, ve, nK, oA, oB, oC, iC, pO, vO, cK, cN, cE, tw, dV, dK, dN, dE, pa, ho, fN, fE, fS, k1, k2, k3) (nI f) := by
  have cf := rl_c (n := f) (by omega)
  unfold wpX_apply
  rw [cf]
  exact ⟨rl_in hf (by omega), br_t hk h⟩
theorem rx_apply2 {f E ME : Nat} (hf : f < 32) (hk : ¬ k1 f = 1) (hE : ME ≤ E) (hE32 : E ≤ 32) (h : post (mN, mV, nI ME, mD, nd, nI E, cu, rt, rk, rn, re, dp, 107, vk, vn, ve, nK, oA, oB, oC, iC, pO, vO, cK, cN, cE, tw, dV, dK, dN, dE, pa, ho, fN, fE, fS, k1, k2, k3)) : wpX_apply post (mN, mV, nI ME, mD, nd, nI E, cu, rt, rk, rn, re, dp, fl, vk, vn, ve, nK, oA, oB, oC, iC, pO, vO, cK, cN, cE, tw, dV, dK, dN, dE, pa, ho, fN, fE, fS, k1, k2, k3) (nI f) := by
  have cf := rl_c (n := f) (by omega)
  unfold wpX_apply
  rw [cf]
  exact ⟨rl_in hf (by omega), br_f hk (br_f (nI_nlt hE (by omega)) h)⟩
theorem rx_apply3 {f E ME l v b p : Nat} (hf : f < 32) (hk : ¬ k1 f = 1) (hE : E < ME) (hE32 : ME ≤ 32) (hl : k2 f = nI l) (hl48 : l < 48) (ha : oA l = nI v) (hb : oB l = nI b)
    (hp : (k1 f = 2 ∧ fE f = nI p) ∨ (¬ k1 f = 2 ∧ k3 f = nI p))
    (h : wpX_begin post (mN, mV, nI ME, mD, nd, nI (E + 1), cu, rt, rk, rn, re, dp, fl, vk, vn, ve, nK, oA, oB, oC, iC, upd pO E (nI p), upd vO E (nI v), cK, cN, cE, upd tw E (nI p), upd dV E (nI v), upd dK E vk, upd dN E vn, upd dE E ve, pa, ho, fN, fE, fS, k1, k2, k3) (nI b) (nI E)) : wpX_apply post (mN, mV, nI ME, mD, nd, nI E, cu, rt, rk, rn, re, dp, fl, vk, vn, ve, nK, oA, oB, oC, iC, pO, vO, cK, cN, cE, tw, dV, dK, dN, dE, pa, ho, fN, fE, fS, k1, k2, k3) (nI f) := by
  have cf := rl_c (n := f) (by omega)
  have jf := rl_in hf (by omega)
  have cl := rl_c (n := l) (by omega)
  have jl := rl_in hl48 (by omega)
  have y : wX_apply_67 post (nI l) (nI p) mN mV (nI ME) mD nd (nI E) cu rt rk rn re dp fl vk vn ve nK oA oB oC iC pO vO cK cN cE tw dV dK dN dE pa ho fN fE fS k1 k2 k3 := by
    unfold wX_apply_67
    rw [cl, ha]
    refine ⟨jl, rx_makeEnv (by omega) ⟨jl, ?_⟩⟩
    rw [hb]
    exact h
  unfold wpX_apply
  rw [cf]
  refine ⟨jf, br_f hk (br_t (nI_lt hE (by omega)) ⟨jf, nm_r hl ⟨jf, ?_⟩⟩)⟩
  rcases hp with ⟨a, b⟩ | ⟨a, b⟩
  · rw [b]; exact br_t a ⟨jf, y⟩
  · rw [b]; exact br_f a ⟨jf, y⟩
end
end
section
/-! part 14: the reference's step -/
section
variable {mN mV mE mD nd ev cu tp zk zn ze rk rn re : Int32} {nK oA oB oC pO vO yK yN yE fN fE fS l1 l2 l3 : Nat → Int32} {post : Int32 → SY → Prop} {k : Int32}
theorem ry_st_num {f n s e : Nat} (hf : f < 32) (hn : fN f = nI n) (hnn : n < 48) (he : fE f = nI e) (hs : fS f = nI s) (hk : nK n = k) (k1' : k = 1) (h : wpY_give post (mN, mV, mE, mD, nd, ev, cu, nI (f + 1), zk, zn, ze, rk, rn, re, nK, oA, oB, oC, pO, vO, yK, yN, yE, fN, fE, upd fS f (nI (s + 1)), l1, l2, l3) 1 (oA n) 0) : wpY_step post (mN, mV, mE, mD, nd, ev, cu, nI (f + 1), zk, zn, ze, rk, rn, re, nK, oA, oB, oC, pO, vO, yK, yN, yE, fN, fE, fS, l1, l2, l3) := by
  have cf := rl_c (n := f) (by omega)
  have cn := rl_c (n := n) (by omega)
  have jf := rl_in hf (by omega)
  have jn := rl_in hnn (by omega)
  have hn' : fN (nI f).toNatClampNeg = nI n := by rw [cf]; exact hn
  have he' : fE (nI f).toNatClampNeg = nI e := by rw [cf]; exact he
  have hs' : fS (nI f).toNatClampNeg = nI s := by rw [cf]; exact hs
  have hu : upd fS (nI f).toNatClampNeg (nI s + 1) = upd fS f (nI (s + 1)) := by rw [cf, nI_1]
  have hk' : nK (nI n).toNatClampNeg = k := by rw [cn]; exact hk
  unfold wpY_step
  refine nm_r (e' := nI f) (nI_pred f) ⟨jf, nm_r (e' := nI n) hn' ⟨jf, nm_r (e' := nI e) he' ⟨jf, nm_r (e' := nI s) hs' ⟨jn, nm_r (e' := k) hk' ⟨jf, nm_r (e' := upd fS f (nI (s + 1))) hu ?_⟩⟩⟩⟩⟩
  refine br_t k1' ⟨jn, ?_⟩
  rw [cn]
  exact h
theorem ry_st_lam {f n s e : Nat} (hf : f < 32) (hn : fN f = nI n) (hnn : n < 48) (he : fE f = nI e) (hs : fS f = nI s) (hk : nK n = k) (k1' : k = 4) (h : wpY_give post (mN, mV, mE, mD, nd, ev, cu, nI (f + 1), zk, zn, ze, rk, rn, re, nK, oA, oB, oC, pO, vO, yK, yN, yE, fN, fE, upd fS f (nI (s + 1)), l1, l2, l3) 2 (nI n) 0) : wpY_step post (mN, mV, mE, mD, nd, ev, cu, nI (f + 1), zk, zn, ze, rk, rn, re, nK, oA, oB, oC, pO, vO, yK, yN, yE, fN, fE, fS, l1, l2, l3) := by
  have cf := rl_c (n := f) (by omega)
  have cn := rl_c (n := n) (by omega)
  have jf := rl_in hf (by omega)
  have jn := rl_in hnn (by omega)
  have hn' : fN (nI f).toNatClampNeg = nI n := by rw [cf]; exact hn
  have he' : fE (nI f).toNatClampNeg = nI e := by rw [cf]; exact he
  have hs' : fS (nI f).toNatClampNeg = nI s := by rw [cf]; exact hs
  have hu : upd fS (nI f).toNatClampNeg (nI s + 1) = upd fS f (nI (s + 1)) := by rw [cf, nI_1]
  have hk' : nK (nI n).toNatClampNeg = k := by rw [cn]; exact hk
  unfold wpY_step
  refine nm_r (e' := nI f) (nI_pred f) ⟨jf, nm_r (e' := nI n) hn' ⟨jf, nm_r (e' := nI e) he' ⟨jf, nm_r (e' := nI s) hs' ⟨jn, nm_r (e' := k) hk' ⟨jf, nm_r (e' := upd fS f (nI (s + 1))) hu ?_⟩⟩⟩⟩⟩
  exact br_f (by rw [k1']; decide) (br_t k1' h)
theorem ry_st_set0 {f n s e : Nat} (hf : f < 32) (hn : fN f = nI n) (hnn : n < 48) (he : fE f = nI e) (hs : fS f = nI s) (hk : nK n = k) (k1' : k = 3) (s0 : s = 0) {b : Nat} (hb : oB n = nI b) (h : wpY_begin post (mN, mV, mE, mD, nd, ev, cu, nI (f + 1), zk, zn, ze, rk, rn, re, nK, oA, oB, oC, pO, vO, yK, yN, yE, fN, fE, upd fS f (nI (s + 1)), l1, l2, l3) (nI b) (nI e)) : wpY_step post (mN, mV, mE, mD, nd, ev, cu, nI (f + 1), zk, zn, ze, rk, rn, re, nK, oA, oB, oC, pO, vO, yK, yN, yE, fN, fE, fS, l1, l2, l3) := by
  have cf := rl_c (n := f) (by omega)
  have cn := rl_c (n := n) (by omega)
  have jf := rl_in hf (by omega)
  have jn := rl_in hnn (by omega)
  have hn' : fN (nI f).toNatClampNeg = nI n := by rw [cf]; exact hn
  have he' : fE (nI f).toNatClampNeg = nI e := by rw [cf]; exact he
  have hs' : fS (nI f).toNatClampNeg = nI s := by rw [cf]; exact hs
  have hu : upd fS (nI f).toNatClampNeg (nI s + 1) = upd fS f (nI (s + 1)) := by rw [cf, nI_1]
  have hk' : nK (nI n).toNatClampNeg = k := by rw [cn]; exact hk
  unfold wpY_step
  refine nm_r (e' := nI f) (nI_pred f) ⟨jf, nm_r (e' := nI n) hn' ⟨jf, nm_r (e' := nI e) he' ⟨jf, nm_r (e' := nI s) hs' ⟨jn, nm_r (e' := k) hk' ⟨jf, nm_r (e' := upd fS f (nI (s + 1))) hu ?_⟩⟩⟩⟩⟩
  refine br_f (by rw [k1']; decide) (br_f (by rw [k1']; decide) (br_t k1' (br_t (congrArg nI s0) ⟨jn, ?_⟩)))
  rw [cn, hb]
  exact h
theorem ry_st_103 {f n s e : Nat} (hf : f < 32) (hn : fN f = nI n) (hnn : n < 48) (he : fE f = nI e) (hs : fS f = nI s) (hk : nK n = k) (n1 : k ≠ 1) (n4 : k ≠ 4) (n3 : k = 3 → ¬ nI s = 0) (h : wY_step_103 post (nI f) (nI n) (nI e) (nI s) k mN mV mE mD nd ev cu (nI (f + 1)) zk zn ze rk rn re nK oA oB oC pO vO yK yN yE fN fE (upd fS f (nI (s + 1))) l1 l2 l3) : wpY_step post (mN, mV, mE, mD, nd, ev, cu, nI (f + 1), zk, zn, ze, rk, rn, re, nK, oA, oB, oC, pO, vO, yK, yN, yE, fN, fE, fS, l1, l2, l3) := by
  have cf := rl_c (n := f) (by omega)
  have cn := rl_c (n := n) (by omega)
  have jf := rl_in hf (by omega)
  have jn := rl_in hnn (by omega)
  have hn' : fN (nI f).toNatClampNeg = nI n := by rw [cf]; exact hn
  have he' : fE (nI f).toNatClampNeg = nI e := by rw [cf]; exact he
  have hs' : fS (nI f).toNatClampNeg = nI s := by rw [cf]; exact hs
  have hu : upd fS (nI f).toNatClampNeg (nI s + 1) = upd fS f (nI (s + 1)) := by rw [cf, nI_1]
  have hk' : nK (nI n).toNatClampNeg = k := by rw [cn]; exact hk
  unfold wpY_step
  refine nm_r (e' := nI f) (nI_pred f) ⟨jf, nm_r (e' := nI n) hn' ⟨jf, nm_r (e' := nI e) he' ⟨jf, nm_r (e' := nI s) hs' ⟨jn, nm_r (e' := k) hk' ⟨jf, nm_r (e' := upd fS f (nI (s + 1))) hu ?_⟩⟩⟩⟩⟩
  exact br_f n1 (br_f n4 (br_c (fun z => br_f (n3 z) h) (fun _ => h)))
theorem ry_152 {q : Nat} (hq : q < 40) (h : wpY_give post (mN, mV, mE, mD, nd, ev, cu, tp, zk, zn, ze, rk, rn, re, nK, oA, oB, oC, pO, vO, yK, yN, yE, fN, fE, fS, l1, l2, l3) (yK q) (yN q) (yE q)) : wY_step_152 post (nI q) mN mV mE mD nd ev cu tp zk zn ze rk rn re nK oA oB oC pO vO yK yN yE fN fE fS l1 l2 l3 := by
  have cq := rl_c (n := q) (by omega)
  have jq := rl_in hq (by omega)
  unfold wY_step_152
  rw [cq]
  exact ⟨jq, jq, jq, h⟩
theorem ry_103_var {E n e v : Nat} {x1 x4 : Int32} (pf : rl_PF E pO vO) (hnn : n < 48) (he : e < E) (hv : v < 8) (ha : oA n = nI v) (h : wpY_give post (mN, mV, mE, mD, nd, ev, cu, tp, zk, zn, ze, rk, rn, re, nK, oA, oB, oC, pO, vO, yK, yN, yE, fN, fE, fS, l1, l2, l3) (yK (rl_H pO vO e v)) (yN (rl_H pO vO e v)) (yE (rl_H pO vO e v))) : wY_step_103 post x1 (nI n) (nI e) x4 2 mN mV mE mD nd ev cu tp zk zn ze rk rn re nK oA oB oC pO vO yK yN yE fN fE fS l1 l2 l3 := by
  have cn := rl_c (n := n) (by omega)
  have jn := rl_in hnn (by omega)
  have h32 := pf.2.1
  have hq := (rl_H_lt pf (x := e) (v := v) he hv).1
  unfold wY_step_103 wY_step_115
  rw [cn, ha]
  exact br_t rfl ⟨jn, ry_home pf hv he (br_f (by decide) (ry_152 (by omega) h))⟩
theorem ry_103_set {E n e v : Nat} {x1 x4 : Int32} (pf : rl_PF E pO vO) (hnn : n < 48) (he : e < E) (hv : v < 8) (ha : oA n = nI v) (h : wpY_give post (mN, mV, mE, mD, nd, ev, cu, tp, zk, zn, ze, rk, rn, re, nK, oA, oB, oC, pO, vO, upd yK (rl_H pO vO e v) zk, upd yN (rl_H pO vO e v) zn, upd yE (rl_H pO vO e v) ze, fN, fE, fS, l1, l2, l3) zk zn ze) : wY_step_103 post x1 (nI n) (nI e) x4 3 mN mV mE mD nd ev cu tp zk zn ze rk rn re nK oA oB oC pO vO yK yN yE fN fE fS l1 l2 l3 := by
  have cn := rl_c (n := n) (by omega)
  have jn := rl_in hnn (by omega)
  have h32 := pf.2.1
  have hq := (rl_H_lt pf (x := e) (v := v) he hv).1
  unfold wY_step_103 wY_step_115
  rw [cn, ha]
  refine br_f (by decide) (br_t rfl ⟨jn, ry_home pf hv he (br_t rfl (ry_store (by omega) (ry_152 (by omega) ?_)))⟩)
  rw [pk_us, pk_us, pk_us]
  exact h
theorem ry_103_s0 {n e a : Nat} {x1 : Int32} (hnn : n < 48) (n2 : k ≠ 2) (n3 : k ≠ 3) (ha : oA n = nI a) (h : wpY_begin post (mN, mV, mE, mD, nd, ev, cu, tp, zk, zn, ze, rk, rn, re, nK, oA, oB, oC, pO, vO, yK, yN, yE, fN, fE, fS, l1, l2, l3) (nI a) (nI e)) : wY_step_103 post x1 (nI n) (nI e) (nI 0) k mN mV mE mD nd ev cu tp zk zn ze rk rn re nK oA oB oC pO vO yK yN yE fN fE fS l1 l2 l3 := by
  have cn := rl_c (n := n) (by omega)
  have jn := rl_in hnn (by omega)
  unfold wY_step_103
  refine br_f n2 (br_f n3 (br_t rfl ⟨jn, ?_⟩))
  rw [cn, ha]
  exact h
theorem ry_103_close {x1 x2 x3 x4 : Int32} (s0 : ¬ x4 = 0) (h1 : zk = 1 → post 108 (mN, mV, mE, mD, nd, ev, cu, tp, zk, zn, ze, rk, rn, re, nK, oA, oB, oC, pO, vO, yK, yN, yE, fN, fE, fS, l1, l2, l3)) (h2 : zk = 2 → wpY_give post (mN, mV, mE, mD, nd, ev, cu, tp, zk, zn, ze, rk, rn, re, nK, oA, oB, oC, pO, vO, yK, yN, yE, fN, fE, fS, l1, l2, l3) 3 zn x3) (h3 : ¬ zk = 1 → ¬ zk = 2 → wpY_give post (mN, mV, mE, mD, nd, ev, cu, tp, zk, zn, ze, rk, rn, re, nK, oA, oB, oC, pO, vO, yK, yN, yE, fN, fE, fS, l1, l2, l3) zk zn ze) : wY_step_103 post x1 x2 x3 x4 5 mN mV mE mD nd ev cu tp zk zn ze rk rn re nK oA oB oC pO vO yK yN yE fN fE fS l1 l2 l3 := by
  unfold wY_step_103
  exact br_f (by decide) (br_f (by decide) (br_f s0 (br_t rfl (br_c h1 (fun a => br_c h2 (fun b => h3 a b))))))
theorem ry_103_in {f n b : Nat} {x3 : Int32} (hf : f < 32) (hnn : n < 48) (hb : oB n = nI b) (h1 : zk = 3 → wpY_begin post (mN, mV, mE, mD, nd, ev, cu, tp, zk, zn, ze, rk, rn, re, nK, oA, oB, oC, pO, vO, yK, yN, yE, fN, fE, fS, upd l1 f zk, upd l2 f zn, upd l3 f ze) (nI b) ze) (h2 : ¬ zk = 3 → post 110 (mN, mV, mE, mD, nd, ev, cu, tp, zk, zn, ze, rk, rn, re, nK, oA, oB, oC, pO, vO, yK, yN, yE, fN, fE, fS, upd l1 f zk, upd l2 f zn, upd l3 f ze)) : wY_step_103 post (nI f) (nI n) x3 (nI 1) 7 mN mV mE mD nd ev cu tp zk zn ze rk rn re nK oA oB oC pO vO yK yN yE fN fE fS l1 l2 l3 := by
  have cf := rl_c (n := f) (by omega)
  have jf := rl_in hf (by omega)
  have cn := rl_c (n := n) (by omega)
  have jn := rl_in hnn (by omega)
  unfold wY_step_103
  refine br_f (by decide) (br_f (by decide) (br_f (by decide) (br_f (by decide) (br_t rfl ⟨jf, nm_r (e' := upd l1 f zk) (by rw [cf]) ⟨jf, nm_r (e' := upd l2 f zn) (by rw [cf]) ⟨jf, nm_r (e' := upd l3 f ze) (by rw [cf]) (br_t rfl ?_)⟩⟩⟩))))
  rw [cn, hb]
  exact br_c (fun a => ⟨jn, h1 a⟩) h2
theorem ry_103_if {f n b c : Nat} {x3 : Int32} (hf : f < 32) (hnn : n < 48) (hb : oB n = nI b) (hc : oC n = nI c) (h1 : zk = 1 ∧ zn = 0 → wpY_begin post (mN, mV, mE, mD, nd, ev, cu, tp, zk, zn, ze, rk, rn, re, nK, oA, oB, oC, pO, vO, yK, yN, yE, fN, fE, fS, upd l1 f zk, upd l2 f zn, upd l3 f ze) (nI c) x3) (h2 : ¬ (zk = 1 ∧ zn = 0) → wpY_begin post (mN, mV, mE, mD, nd, ev, cu, tp, zk, zn, ze, rk, rn, re, nK, oA, oB, oC, pO, vO, yK, yN, yE, fN, fE, fS, upd l1 f zk, upd l2 f zn, upd l3 f ze) (nI b) x3) : wY_step_103 post (nI f) (nI n) x3 (nI 1) 8 mN mV mE mD nd ev cu tp zk zn ze rk rn re nK oA oB oC pO vO yK yN yE fN fE fS l1 l2 l3 := by
  have cf := rl_c (n := f) (by omega)
  have jf := rl_in hf (by omega)
  have cn := rl_c (n := n) (by omega)
  have jn := rl_in hnn (by omega)
  unfold wY_step_103 wY_step_355
  refine br_f (by decide) (br_f (by decide) (br_f (by decide) (br_f (by decide) (br_t rfl ⟨jf, nm_r (e' := upd l1 f zk) (by rw [cf]) ⟨jf, nm_r (e' := upd l2 f zn) (by rw [cf]) ⟨jf, nm_r (e' := upd l3 f ze) (by rw [cf]) (br_f (by decide) (br_t rfl ?_))⟩⟩⟩))))
  rw [cn, hb, hc]
  refine br_c (fun a => br_c (fun b => ⟨jn, h1 ⟨a, b⟩⟩) (fun b => ⟨jn, h2 (fun z => b z.2)⟩)) (fun a => ⟨jn, h2 (fun z => a z.1)⟩)
theorem ry_103_else {f n b : Nat} {x3 : Int32} (hf : f < 32) (hnn : n < 48) (n2 : k ≠ 2) (n3 : k ≠ 3) (n5 : k ≠ 5) (n7 : k ≠ 7) (n8 : k ≠ 8) (hb : oB n = nI b) (h : wpY_begin post (mN, mV, mE, mD, nd, ev, cu, tp, zk, zn, ze, rk, rn, re, nK, oA, oB, oC, pO, vO, yK, yN, yE, fN, fE, fS, upd l1 f zk, upd l2 f zn, upd l3 f ze) (nI b) x3) : wY_step_103 post (nI f) (nI n) x3 (nI 1) k mN mV mE mD nd ev cu tp zk zn ze rk rn re nK oA oB oC pO vO yK yN yE fN fE fS l1 l2 l3 := by
  have cf := rl_c (n := f) (by omega)
  have jf := rl_in hf (by omega)
  have cn := rl_c (n := n) (by omega)
  have jn := rl_in hnn (by omega)
  unfold wY_step_103 wY_step_355
  refine br_f n2 (br_f n3 (br_f (by decide) (br_f n5 (br_t rfl ⟨jf, nm_r (e' := upd l1 f zk) (by rw [cf]) ⟨jf, nm_r (e' := upd l2 f zn) (by rw [cf]) ⟨jf, nm_r (e' := upd l3 f ze) (by rw [cf]) (br_f n7 (br_f n8 ⟨jn, ?_⟩))⟩⟩⟩))))
  rw [cn, hb]
  exact h
theorem ry_103_give {x1 x2 x3 x4 : Int32} (n2 : k ≠ 2) (n3 : k ≠ 3) (n5 : k ≠ 5) (s0 : ¬ x4 = 0) (s1 : ¬ x4 = 1) (hk : k = 7 ∨ k = 8 ∨ k = 9 ∨ x4 = 3) (h : wpY_give post (mN, mV, mE, mD, nd, ev, cu, tp, zk, zn, ze, rk, rn, re, nK, oA, oB, oC, pO, vO, yK, yN, yE, fN, fE, fS, l1, l2, l3) zk zn ze) : wY_step_103 post x1 x2 x3 x4 k mN mV mE mD nd ev cu tp zk zn ze rk rn re nK oA oB oC pO vO yK yN yE fN fE fS l1 l2 l3 := by
  unfold wY_step_103 wY_step_394
  refine br_f n2 (br_f n3 (br_f s0 (br_f n5 (br_f s1 ?_))))
  refine br_c (fun _ => h) (fun a => br_c (fun _ => h) (fun b => br_c (fun _ => h) (fun c => br_c (fun _ => h) (fun d => ?_))))
  rcases hk with z | z | z | z
  · exact absurd z a
  · exact absurd z b
  · exact absurd z c
  · exact absurd z d
theorem ry_103_calc {f : Nat} {x2 x3 : Int32} (hf : f < 32) (hk : k = 10 ∨ k = 11 ∨ k = 12) (h1 : ¬ (l1 f = 1 ∧ zk = 1) → post 109 (mN, mV, mE, mD, nd, ev, cu, tp, zk, zn, ze, rk, rn, re, nK, oA, oB, oC, pO, vO, yK, yN, yE, fN, fE, fS, l1, l2, l3))
    (h2 : l1 f = 1 → zk = 1 → wpY_give post (mN, mV, mE, mD, nd, ev, cu, tp, zk, zn, ze, rk, rn, re, nK, oA, oB, oC, pO, vO, yK, yN, yE, fN, fE, fS, l1, l2, l3) 1 (if k = 10 then l2 f + zn else if k = 11 then l2 f - zn else if zn ≤ l2 f then 0 else 1) 0) : wY_step_103 post (nI f) x2 x3 (nI 2) k mN mV mE mD nd ev cu tp zk zn ze rk rn re nK oA oB oC pO vO yK yN yE fN fE fS l1 l2 l3 := by
  have cf := rl_c (n := f) (by omega)
  have jf := rl_in hf (by omega)
  unfold wY_step_103 wY_step_607
  rw [cf]
  have hh : k ≠ 2 ∧ k ≠ 3 ∧ k ≠ 5 ∧ k ≠ 7 ∧ k ≠ 8 ∧ k ≠ 9 ∧ k ≠ 6 := by
    rcases hk with h | h | h <;> (rw [h]; decide)
  refine br_f hh.1 (br_f hh.2.1 (br_f (by decide) (br_f hh.2.2.1 (br_f (by decide) (br_f hh.2.2.2.1 (br_f hh.2.2.2.2.1 (br_f hh.2.2.2.2.2.1 (br_f (by decide) (br_f hh.2.2.2.2.2.2 ⟨jf, ?_⟩)))))))))
  refine br_c (fun a => br_c (fun b => ?_) (fun b => h1 (fun z => b z.2))) (fun a => h1 (fun z => a z.1))
  have H := h2 a b
  rcases hk with h | h | h
  · subst h
    rw [if_pos rfl] at H
    exact br_t rfl ⟨jf, H⟩
  · subst h
    rw [if_neg (by decide), if_pos rfl] at H
    exact br_f (by decide) (br_t rfl ⟨jf, H⟩)
  · subst h
    rw [if_neg (by decide), if_neg (by decide)] at H
    refine br_f (by decide) (br_f (by decide) ⟨jf, ?_⟩)
    by_cases c : zn ≤ l2 f
    · rw [if_pos c] at H
      exact br_t c H
    · rw [if_neg c] at H
      exact br_f c H
theorem ry_103_call {f E ME e : Nat} {x2 : Int32} (hf : f < 32) (hE32 : E ≤ 32) (hM32 : ME ≤ 32) (h1 : l1 f = 1 → post 108 (mN, mV, nI ME, mD, nd, nI E, cu, tp, zk, zn, ze, rk, rn, re, nK, oA, oB, oC, pO, vO, yK, yN, yE, fN, fE, fS, l1, l2, l3)) (h2 : ¬ l1 f = 1 → ME ≤ E → post 107 (mN, mV, nI ME, mD, nd, nI E, cu, tp, zk, zn, ze, rk, rn, re, nK, oA, oB, oC, pO, vO, yK, yN, yE, fN, fE, fS, l1, l2, l3))
    (h3 : ¬ l1 f = 1 → E < ME → ∃ l v b p, l2 f = nI l ∧ l < 48 ∧ oA l = nI v ∧ oB l = nI b ∧ ((l1 f = 2 ∧ e = p) ∨ (¬ l1 f = 2 ∧ l3 f = nI p)) ∧ wpY_begin post (mN, mV, nI ME, mD, nd, nI (E + 1), cu, tp, zk, zn, ze, rk, rn, re, nK, oA, oB, oC, upd pO E (nI p), upd vO E (nI v), upd yK (8 + E) zk, upd yN (8 + E) zn, upd yE (8 + E) ze, fN, fE, fS, l1, l2, l3) (nI b) (nI E)) : wY_step_103 post (nI f) x2 (nI e) (nI 2) 6 mN mV (nI ME) mD nd (nI E) cu tp zk zn ze rk rn re nK oA oB oC pO vO yK yN yE fN fE fS l1 l2 l3 := by
  have cf := rl_c (n := f) (by omega)
  have jf := rl_in hf (by omega)
  unfold wY_step_103
  rw [cf]
  refine br_f (by decide) (br_f (by decide) (br_f (by decide) (br_f (by decide) (br_f (by decide) (br_f (by decide) (br_f (by decide) (br_f (by decide) (br_f (by decide) (br_t rfl ⟨jf, ?_⟩)))))))))
  refine br_c h1 (fun a => ?_)
  by_cases hE : E < ME
  · obtain ⟨l, v, b, p, hl, hl48, ha, hb, hp, H⟩ := h3 a hE
    have cl := rl_c (n := l) (by omega)
    have jl := rl_in hl48 (by omega)
    have y : wY_step_473 post (nI l) (nI p) mN mV (nI ME) mD nd (nI E) cu tp zk zn ze rk rn re nK oA oB oC pO vO yK yN yE fN fE fS l1 l2 l3 := by
      unfold wY_step_473
      rw [cl, ha]
      refine ⟨jl, ry_makeEnv (by omega) ⟨jl, ?_⟩⟩
      rw [hb]
      exact H
    refine br_t (nI_lt hE (by omega)) ⟨jf, nm_r hl ⟨jf, ?_⟩⟩
    rcases hp with ⟨z, w⟩ | ⟨z, w⟩
    · rw [w]; exact br_t z y
    · rw [w]; exact br_f z ⟨jf, y⟩
  · exact br_f (nI_nlt (by omega) (by omega)) (h2 a (by omega))
end
end
section
/-! part 15: the relation inside a run -/
/-- what follows the first child -/
def rl_w2 (sz : Nat → Nat) (nK oB oC : Nat → Int32) (n : Nat) : Nat := if nK n = 3 then 0 else if nK n = 5 then 0 else sz (rl_n oB n) + (if nK n = 8 then sz (rl_n oC n) else 0)
/-- the steps that a frame may still take, its children's included -/
def rl_rm (sz : Nat → Nat) (nK oB oC : Nat → Int32) (n s : Nat) : Nat := if s = 0 then 4 * sz n else if s = 1 then 3 + 4 * rl_w2 sz nK oB oC n else if s = 2 then 2 else 1
def rl_fr (sz : Nat → Nat) (nK oB oC fN fS : Nat → Int32) : Nat → Nat := fun t => rl_rm sz nK oB oC (rl_n fN t) (rl_n fS t)
/-- a frame -/
def rl_F1 (N E : Nat) (nK fN fE fS k1 k2 k3 l1 l2 l3 : Nat → Int32) (t : Nat) : Prop := ∃ n e s, fN t = nI n ∧ n < N ∧ fE t = nI e ∧ e < E ∧ fS t = nI s ∧ s ≤ 3 ∧ (2 ≤ s → nK n ≠ 3 ∧ nK n ≠ 5) ∧ (s = 2 → nK n ≠ 7 → nK n ≠ 8 → k1 t = l1 t ∧ k2 t = l2 t ∧ k3 t = l3 t ∧ rl_VO N E nK (k1 t) (k2 t) (k3 t))
def rl_FR (N E d : Nat) (nK fN fE fS k1 k2 k3 l1 l2 l3 : Nat → Int32) : Prop := ∀ t, t < d → rl_F1 N E nK fN fE fS k1 k2 k3 l1 l2 l3 t
def rl_RN (φ : Nat) (u : SX) (v : SY) : Prop := ∀ P : SX → SY → Prop, (∀ {MN MV ME MD N E c r d : Nat} {sz : Nat → Nat} {rk rn re vk vn ve zk zn ze : Int32} {nK oA oB oC iC pO vO cK cN cE tw dV dK dN dE pa ho fN fE fS k1 k2 k3 yK yN yE l1 l2 l3 : Nat → Int32},
    rl_BF MN MV ME MD N E c r sz nK oA oB oC iC pO vO yK yN yE cK cN cE tw dV dK dN dE → rl_FR N E d nK fN fE fS k1 k2 k3 l1 l2 l3 → d ≤ MD → (0 < d → fE (d - 1) = nI r) → ((d = 0 ∨ fS (d - 1) ≠ 0) → zk = vk ∧ zn = vn ∧ ze = ve ∧ rl_VO N E nK vk vn ve) →
    rl_sm (rl_fr sz nK oB oC fN fS) d + 192 * (ME - E) ≤ φ → P (nI MN, nI MV, nI ME, nI MD, nI N, nI E, nI c, nI r, rk, rn, re, nI d, 0, vk, vn, ve, nK, oA, oB, oC, iC, pO, vO, cK, cN, cE, tw, dV, dK, dN, dE, pa, ho, fN, fE, fS, k1, k2, k3) (nI MN, nI MV, nI ME, nI MD, nI N, nI E, nI c, nI d, zk, zn, ze, rk, rn, re, nK, oA, oB, oC, pO, vO, yK, yN, yE, fN, fE, fS, l1, l2, l3)) → P u v
def rl_EN (fl : Int32) (u : SX) (v : SY) : Prop := ∀ P : SX → SY → Prop, (∀ {dp tp : Int32} {MN MV ME MD N E c r : Nat} {sz : Nat → Nat} {rk rn re vk vn ve zk zn ze : Int32} {nK oA oB oC iC pO vO cK cN cE tw dV dK dN dE pa ho fN fE fS k1 k2 k3 yK yN yE l1 l2 l3 : Nat → Int32}, rl_BF MN MV ME MD N E c r sz nK oA oB oC iC pO vO yK yN yE cK cN cE tw dV dK dN dE → P (nI MN, nI MV, nI ME, nI MD, nI N, nI E, nI c, nI r, rk, rn, re, dp, fl, vk, vn, ve, nK, oA, oB, oC, iC, pO, vO, cK, cN, cE, tw, dV, dK, dN, dE, pa, ho, fN, fE, fS, k1, k2, k3) (nI MN, nI MV, nI ME, nI MD, nI N, nI E, nI c, tp, zk, zn, ze, rk, rn, re, nK, oA, oB, oC, pO, vO, yK, yN, yE, fN, fE, fS, l1, l2, l3)) → P u v
def rl_OUT (φ : Nat) (fl : Int32) (u : SX) (v : SY) : Prop := (fl = 0 ∧ rl_RN φ u v) ∨ (fl ≠ 0 ∧ rl_EN fl u v)
theorem rl_F1_up {N E E' t : Nat} {nK fN fE fS k1 k2 k3 l1 l2 l3 : Nat → Int32} (hE : E ≤ E') (h : rl_F1 N E nK fN fE fS k1 k2 k3 l1 l2 l3 t) : rl_F1 N E' nK fN fE fS k1 k2 k3 l1 l2 l3 t := by
  obtain ⟨n, e, s, h1, h2, h3, h4, h5, h6, h7, h8⟩ := h
  refine ⟨n, e, s, h1, h2, h3, by omega, h5, h6, h7, fun a b c => ?_⟩
  obtain ⟨x1, x2, x3, x4⟩ := h8 a b c
  exact ⟨x1, x2, x3, rl_VO_up x4 hE⟩
theorem rl_F1_eq {N E t : Nat} {nK fN fE fS k1 k2 k3 l1 l2 l3 fN' fE' fS' k1' k2' k3' l1' l2' l3' : Nat → Int32} (e1 : fN' t = fN t) (e2 : fE' t = fE t) (e3 : fS' t = fS t) (e4 : k1' t = k1 t) (e5 : k2' t = k2 t) (e6 : k3' t = k3 t) (e7 : l1' t = l1 t) (e8 : l2' t = l2 t) (e9 : l3' t = l3 t) (h : rl_F1 N E nK fN fE fS k1 k2 k3 l1 l2 l3 t) : rl_F1 N E nK fN' fE' fS' k1' k2' k3' l1' l2' l3' t := by
  unfold rl_F1
  rw [e1, e2, e3, e4, e5, e6, e7, e8, e9]
  exact h
theorem rl_fr_eq {sz : Nat → Nat} {nK oB oC fN fS : Nat → Int32} {t n s : Nat} (hn : fN t = nI n) (hs : fS t = nI s) (h1 : n < 64) (h2 : s < 64) : rl_fr sz nK oB oC fN fS t = rl_rm sz nK oB oC n s := by
  unfold rl_fr
  rw [rl_nE hn (by omega), rl_nE hs (by omega)]
theorem rl_fr_low {sz : Nat → Nat} {nK oB oC fN fS fN' fS' : Nat → Int32} {d : Nat} (h1 : ∀ t, t < d → fN' t = fN t) (h2 : ∀ t, t < d → fS' t = fS t) : rl_sm (rl_fr sz nK oB oC fN' fS') d = rl_sm (rl_fr sz nK oB oC fN fS) d := by
  refine rl_sm_congr d (fun t ht => ?_)
  unfold rl_fr rl_n
  rw [h1 t ht, h2 t ht]
section
variable {MN MV ME MD N E c r d : Nat} {sz : Nat → Nat} {rk rn re vk vn ve zk zn ze : Int32} {nK oA oB oC iC pO vO cK cN cE tw dV dK dN dE pa ho fN fE fS k1 k2 k3 yK yN yE l1 l2 l3 : Nat → Int32}
/-- a frame begins, on both sides -/
theorem rl_begin {φ n e : Nat} (bf : rl_BF MN MV ME MD N E c r sz nK oA oB oC iC pO vO yK yN yE cK cN cE tw dV dK dN dE) (fr : rl_FR N E d nK fN fE fS k1 k2 k3 l1 l2 l3) (hd : d ≤ MD) (hn : n < N) (he : e < E) (hφ : rl_sm (rl_fr sz nK oB oC fN fS) d + 4 * sz n + 192 * (ME - E) ≤ φ) :
    ∃ fl u' v', rl_OUT φ fl u' v' ∧ (∀ post : SX → Prop, post u' → wpX_begin post (nI MN, nI MV, nI ME, nI MD, nI N, nI E, nI c, nI r, rk, rn, re, nI d, 0, vk, vn, ve, nK, oA, oB, oC, iC, pO, vO, cK, cN, cE, tw, dV, dK, dN, dE, pa, ho, fN, fE, fS, k1, k2, k3) (nI n) (nI e)) ∧ (∀ post : Int32 → SY → Prop, post fl v' → wpY_begin post (nI MN, nI MV, nI ME, nI MD, nI N, nI E, nI c, nI d, zk, zn, ze, rk, rn, re, nK, oA, oB, oC, pO, vO, yK, yN, yE, fN, fE, fS, l1, l2, l3) (nI n) (nI e)) := by
  obtain ⟨a1, a2, a3, a4, a5, a6, a7, a8⟩ := bf.1
  by_cases h : d < MD
  · obtain ⟨pa', cK', cN', cE', tw', dV', dK', dN', dE', er', H⟩ := rx_reroot (mN := nI MN) (mV := nI MV) (mE := nI ME) (mD := nI MD) (nd := nI N) (ev := nI E) (cu := nI c) (rk := rk) (rn := rn) (re := re) (dp := nI (d + 1)) (fl := 0) (vk := vk) (vn := vn) (ve := ve) (nK := nK) (oA := oA) (oB := oB) (oC := oC) (iC := iC) (pa := pa) (ho := ho) (fN := upd fN d (nI n)) (fE := upd fE d (nI e)) (fS := upd fS d 0) (k1 := k1) (k2 := k2) (k3 := k3) bf.2.2.2.1 (r := r) a8 bf.2.2.2.2.1 (e := e) he
    have bf2 := rl_BF_root (c' := c) (r' := e) bf a7 he er'
    have cd := rl_c (n := d) (by omega)
    have jd := rl_in (n := d) (N := 32) (by omega) (by omega)
    have fr2 : rl_FR N E (d + 1) nK (upd fN d (nI n)) (upd fE d (nI e)) (upd fS d 0) k1 k2 k3 l1 l2 l3 := by
      intro t ht
      by_cases e1 : t = d
      · subst e1
        exact ⟨n, e, 0, pk_us, hn, pk_us, he, pk_us, by omega, fun z => by omega, fun z => by omega⟩
      · exact rl_F1_eq (pk_un e1) (pk_un e1) (pk_un e1) rfl rfl rfl rfl rfl rfl (fr t (by omega))
    have hs : rl_sm (rl_fr sz nK oB oC (upd fN d (nI n)) (upd fS d 0)) (d + 1) = rl_sm (rl_fr sz nK oB oC fN fS) d + 4 * sz n := by
      show rl_sm (rl_fr sz nK oB oC (upd fN d (nI n)) (upd fS d 0)) d + rl_fr sz nK oB oC (upd fN d (nI n)) (upd fS d 0) d = _
      have e1 : rl_sm (rl_fr sz nK oB oC (upd fN d (nI n)) (upd fS d 0)) d = rl_sm (rl_fr sz nK oB oC fN fS) d := rl_fr_low (fun t ht => pk_un (by omega)) (fun t ht => pk_un (by omega))
      have e2 : rl_fr sz nK oB oC (upd fN d (nI n)) (upd fS d 0) d = rl_rm sz nK oB oC n 0 := rl_fr_eq (n := n) (s := 0) pk_us pk_us (by omega) (by omega)
      rw [e1, e2]
      rfl
    refine ⟨0, (nI MN, nI MV, nI ME, nI MD, nI N, nI E, nI c, nI e, rk, rn, re, nI (d + 1), 0, vk, vn, ve, nK, oA, oB, oC, iC, pO, vO, cK', cN', cE', tw', dV', dK', dN', dE', pa', ho, upd fN d (nI n), upd fE d (nI e), upd fS d 0, k1, k2, k3), (nI MN, nI MV, nI ME, nI MD, nI N, nI E, nI c, nI (d + 1), zk, zn, ze, rk, rn, re, nK, oA, oB, oC, pO, vO, yK, yN, yE, upd fN d (nI n), upd fE d (nI e), upd fS d 0, l1, l2, l3), Or.inl ⟨rfl, fun P K => K bf2 fr2 h (fun _ => pk_us) (fun z => ?_) (by rw [hs]; exact hφ)⟩, fun post hp => ?_, fun post hp => ?_⟩
    · rcases z with z | z
      · omega
      · exact absurd pk_us z
    · exact br_t (nI_lt h (by omega)) ⟨jd, nm_r (e' := upd fN d (nI n)) (by rw [cd]) ⟨jd, nm_r (e' := upd fE d (nI e)) (by rw [cd]) ⟨jd, nm_r (e' := upd fS d 0) (by rw [cd]) (nm_r (nI_1 d) (H _ hp))⟩⟩⟩
    · exact br_t (nI_lt h (by omega)) ⟨jd, nm_r (e' := upd fN d (nI n)) (by rw [cd]) ⟨jd, nm_r (e' := upd fE d (nI e)) (by rw [cd]) ⟨jd, nm_r (e' := upd fS d 0) (by rw [cd]) (nm_r (nI_1 d) hp)⟩⟩⟩
  · refine ⟨111, (nI MN, nI MV, nI ME, nI MD, nI N, nI E, nI c, nI r, rk, rn, re, nI d, 111, vk, vn, ve, nK, oA, oB, oC, iC, pO, vO, cK, cN, cE, tw, dV, dK, dN, dE, pa, ho, fN, fE, fS, k1, k2, k3), (nI MN, nI MV, nI ME, nI MD, nI N, nI E, nI c, nI d, zk, zn, ze, rk, rn, re, nK, oA, oB, oC, pO, vO, yK, yN, yE, fN, fE, fS, l1, l2, l3), Or.inr ⟨by decide, fun P K => K bf⟩, fun post hp => ?_, fun post hp => ?_⟩
    · exact br_f (nI_nlt (by omega) (by omega)) hp
    · exact br_f (nI_nlt (by omega) (by omega)) hp
/-- a frame ends with the value in the register -/
theorem rl_finish {φ : Nat} (bf : rl_BF MN MV ME MD N E c r sz nK oA oB oC iC pO vO yK yN yE cK cN cE tw dV dK dN dE) (fr : rl_FR N E d nK fN fE fS k1 k2 k3 l1 l2 l3) (hd : d + 1 ≤ MD) (vo : rl_VO N E nK vk vn ve) (hφ : rl_sm (rl_fr sz nK oB oC fN fS) d + 192 * (ME - E) ≤ φ) :
    ∃ u' v', rl_RN φ u' v' ∧ (∀ post : SX → Prop, post u' → wpX_finish post (nI MN, nI MV, nI ME, nI MD, nI N, nI E, nI c, nI r, rk, rn, re, nI (d + 1), 0, vk, vn, ve, nK, oA, oB, oC, iC, pO, vO, cK, cN, cE, tw, dV, dK, dN, dE, pa, ho, fN, fE, fS, k1, k2, k3)) ∧ (∀ post : Int32 → SY → Prop, post 0 v' → wpY_give post (nI MN, nI MV, nI ME, nI MD, nI N, nI E, nI c, nI (d + 1), zk, zn, ze, rk, rn, re, nK, oA, oB, oC, pO, vO, yK, yN, yE, fN, fE, fS, l1, l2, l3) vk vn ve) := by
  obtain ⟨a1, a2, a3, a4, a5, a6, a7, a8⟩ := bf.1
  cases d with
  | zero =>
    refine ⟨(nI MN, nI MV, nI ME, nI MD, nI N, nI E, nI c, nI r, rk, rn, re, nI 0, 0, vk, vn, ve, nK, oA, oB, oC, iC, pO, vO, cK, cN, cE, tw, dV, dK, dN, dE, pa, ho, fN, fE, fS, k1, k2, k3), (nI MN, nI MV, nI ME, nI MD, nI N, nI E, nI c, nI 0, vk, vn, ve, rk, rn, re, nK, oA, oB, oC, pO, vO, yK, yN, yE, fN, fE, fS, l1, l2, l3), fun P K => K bf fr (by omega) (fun z => by omega) (fun _ => ⟨rfl, rfl, rfl, vo⟩) hφ, fun post hp => ?_, fun post hp => ?_⟩
    · exact nm_r (nI_pred 0) (br_t (by decide) hp)
    · exact nm_r (nI_pred 0) hp
  | succ d =>
    obtain ⟨n, e, s, h1, h2, h3, h4, h5, h6, h7, h8⟩ := fr d (by omega)
    obtain ⟨pa', cK', cN', cE', tw', dV', dK', dN', dE', er', H⟩ := rx_reroot (mN := nI MN) (mV := nI MV) (mE := nI ME) (mD := nI MD) (nd := nI N) (ev := nI E) (cu := nI c) (rk := rk) (rn := rn) (re := re) (dp := nI (d + 1)) (fl := 0) (vk := vk) (vn := vn) (ve := ve) (nK := nK) (oA := oA) (oB := oB) (oC := oC) (iC := iC) (pa := pa) (ho := ho) (fN := fN) (fE := fE) (fS := fS) (k1 := k1) (k2 := k2) (k3 := k3) bf.2.2.2.1 (r := r) a8 bf.2.2.2.2.1 (e := e) h4
    have bf2 := rl_BF_root (c' := c) (r' := e) bf a7 h4 er'
    have cd := rl_c (n := d) (by omega)
    have jd := rl_in (n := d) (N := 32) (by omega) (by omega)
    refine ⟨(nI MN, nI MV, nI ME, nI MD, nI N, nI E, nI c, nI e, rk, rn, re, nI (d + 1), 0, vk, vn, ve, nK, oA, oB, oC, iC, pO, vO, cK', cN', cE', tw', dV', dK', dN', dE', pa', ho, fN, fE, fS, k1, k2, k3), (nI MN, nI MV, nI ME, nI MD, nI N, nI E, nI c, nI (d + 1), vk, vn, ve, rk, rn, re, nK, oA, oB, oC, pO, vO, yK, yN, yE, fN, fE, fS, l1, l2, l3), fun P K => K bf2 fr (by omega) (fun _ => h3) (fun _ => ⟨rfl, rfl, rfl, vo⟩) hφ, fun post hp => ?_, fun post hp => ?_⟩
    · refine nm_r (nI_pred (d + 1)) (br_f (nI_nle (by omega) (by omega)) ?_)
      rw [nI_pred, cd, h3]
      exact ⟨jd, H _ hp⟩
    · exact nm_r (nI_pred (d + 1)) hp
end
end
section
/-! part 16: one step, on both sides -/
theorem rl_rm0 (sz : Nat → Nat) (nK oB oC : Nat → Int32) (n : Nat) : rl_rm sz nK oB oC n 0 = 4 * sz n := rfl
theorem rl_rm1 (sz : Nat → Nat) (nK oB oC : Nat → Int32) (n : Nat) : rl_rm sz nK oB oC n 1 = 3 + 4 * rl_w2 sz nK oB oC n := rfl
theorem rl_rm2 (sz : Nat → Nat) (nK oB oC : Nat → Int32) (n : Nat) : rl_rm sz nK oB oC n 2 = 2 := rfl
theorem rl_rm3 (sz : Nat → Nat) (nK oB oC : Nat → Int32) (n : Nat) : rl_rm sz nK oB oC n 3 = 1 := rfl
theorem rl_rm_pos {sz : Nat → Nat} {nK oB oC : Nat → Int32} {n : Nat} (h : 1 ≤ sz n) (s : Nat) : 1 ≤ rl_rm sz nK oB oC n s := by
  unfold rl_rm
  by_cases h0 : s = 0
  · rw [if_pos h0]; omega
  · rw [if_neg h0]
    by_cases h1 : s = 1
    · rw [if_pos h1]; omega
    · rw [if_neg h1]
      by_cases h2 : s = 2
      · rw [if_pos h2]; omega
      · rw [if_neg h2]; omega
theorem rl_sum0 {sz : Nat → Nat} {nK oB oC fN fS : Nat → Int32} {f : Nat} {x : Int32} : rl_sm (rl_fr sz nK oB oC fN (upd fS f x)) f = rl_sm (rl_fr sz nK oB oC fN fS) f := rl_fr_low (fun _ _ => rfl) (fun t ht => pk_un (by omega))
theorem rl_sum1 {sz : Nat → Nat} {nK oB oC fN fS : Nat → Int32} {f n s : Nat} (hn : fN f = nI n) (h1 : n < 64) (h2 : s < 64) : rl_sm (rl_fr sz nK oB oC fN (upd fS f (nI s))) (f + 1) = rl_sm (rl_fr sz nK oB oC fN fS) f + rl_rm sz nK oB oC n s := by
  show rl_sm (rl_fr sz nK oB oC fN (upd fS f (nI s))) f + rl_fr sz nK oB oC fN (upd fS f (nI s)) f = _
  rw [rl_sum0]
  have e2 : rl_fr sz nK oB oC fN (upd fS f (nI s)) f = rl_rm sz nK oB oC n s := rl_fr_eq hn pk_us h1 h2
  rw [e2]
theorem rl_FR_low {N E f : Nat} {nK fN fE fS k1 k2 k3 l1 l2 l3 fS' k1' k2' k3' l1' l2' l3' : Nat → Int32} (fr : rl_FR N E (f + 1) nK fN fE fS k1 k2 k3 l1 l2 l3) (h : ∀ t, t < f → fS' t = fS t ∧ k1' t = k1 t ∧ k2' t = k2 t ∧ k3' t = k3 t ∧ l1' t = l1 t ∧ l2' t = l2 t ∧ l3' t = l3 t) : rl_FR N E f nK fN fE fS' k1' k2' k3' l1' l2' l3' := by
  intro t ht
  obtain ⟨e1, e2, e3, e4, e5, e6, e7⟩ := h t ht
  exact rl_F1_eq rfl rfl e1 e2 e3 e4 e5 e6 e7 (fr t (by omega))
theorem rl_FR_s {N E f : Nat} {x : Int32} {nK fN fE fS k1 k2 k3 l1 l2 l3 : Nat → Int32} (fr : rl_FR N E (f + 1) nK fN fE fS k1 k2 k3 l1 l2 l3) : rl_FR N E f nK fN fE (upd fS f x) k1 k2 k3 l1 l2 l3 :=
  rl_FR_low fr (fun t ht => ⟨pk_un (by omega), rfl, rfl, rfl, rfl, rfl, rfl⟩)
theorem rl_FR_add {N E f : Nat} {nK fN fE fS k1 k2 k3 l1 l2 l3 : Nat → Int32} (fr : rl_FR N E f nK fN fE fS k1 k2 k3 l1 l2 l3) (h : rl_F1 N E nK fN fE fS k1 k2 k3 l1 l2 l3 f) : rl_FR N E (f + 1) nK fN fE fS k1 k2 k3 l1 l2 l3 := by
  intro t ht
  by_cases e : t = f
  · rw [e]; exact h
  · exact fr t (by omega)
section
variable {MN MV ME MD N E c r : Nat} {sz : Nat → Nat} {rk rn re vk vn ve zk zn ze : Int32} {nK oA oB oC iC pO vO cK cN cE tw dV dK dN dE pa ho fN fE fS k1 k2 k3 yK yN yE l1 l2 l3 : Nat → Int32}
theorem rl_c_num {φ f n s : Nat} (bf : rl_BF MN MV ME MD N E c r sz nK oA oB oC iC pO vO yK yN yE cK cN cE tw dV dK dN dE) (fr : rl_FR N E (f + 1) nK fN fE fS k1 k2 k3 l1 l2 l3) (hf : f + 1 ≤ MD) (hn : fN f = nI n) (hnN : n < N) (he : fE f = nI r) (hs : fS f = nI s) (hφ : rl_sm (rl_fr sz nK oB oC fN fS) f + rl_rm sz nK oB oC n s + 192 * (ME - E) ≤ φ + 1) (hk : nK n = 1) : ∃ fl u' v', rl_OUT φ fl u' v' ∧ (∀ post : SX → Prop, post u' → wpX_step post (nI MN, nI MV, nI ME, nI MD, nI N, nI E, nI c, nI r, rk, rn, re, nI (f + 1), 0, vk, vn, ve, nK, oA, oB, oC, iC, pO, vO, cK, cN, cE, tw, dV, dK, dN, dE, pa, ho, fN, fE, fS, k1, k2, k3)) ∧ (∀ post : Int32 → SY → Prop, post fl v' → wpY_step post (nI MN, nI MV, nI ME, nI MD, nI N, nI E, nI c, nI (f + 1), zk, zn, ze, rk, rn, re, nK, oA, oB, oC, pO, vO, yK, yN, yE, fN, fE, fS, l1, l2, l3)) := by
  obtain ⟨a1, a2, a3, a4, a5, a6, a7, a8⟩ := bf.1
  have hrm := rl_rm_pos (nK := nK) (oB := oB) (oC := oC) (bf.2.1 n hnN).1 s
  obtain ⟨u', v', rn', hX, hY⟩ := rl_finish (φ := φ) (d := f) (vk := 1) (vn := oA n) (ve := 0) (zk := zk) (zn := zn) (ze := ze) (rk := rk) (rn := rn) (re := re) (pa := pa) (ho := ho) bf (rl_FR_s (x := nI (s + 1)) fr) hf (Or.inl rfl) (by rw [rl_sum0]; omega)
  exact ⟨0, u', v', Or.inl ⟨rfl, rn'⟩, fun post hp => rx_st_num (by omega) hn (by omega) hs hk rfl (rx_fw (hX _ hp)), fun post hp => ry_st_num (by omega) hn (by omega) he hs hk rfl (hY _ hp)⟩
theorem rl_c_lam {φ f n s : Nat} (bf : rl_BF MN MV ME MD N E c r sz nK oA oB oC iC pO vO yK yN yE cK cN cE tw dV dK dN dE) (fr : rl_FR N E (f + 1) nK fN fE fS k1 k2 k3 l1 l2 l3) (hf : f + 1 ≤ MD) (hn : fN f = nI n) (hnN : n < N) (he : fE f = nI r) (hs : fS f = nI s) (hφ : rl_sm (rl_fr sz nK oB oC fN fS) f + rl_rm sz nK oB oC n s + 192 * (ME - E) ≤ φ + 1) (hk : nK n = 4) : ∃ fl u' v', rl_OUT φ fl u' v' ∧ (∀ post : SX → Prop, post u' → wpX_step post (nI MN, nI MV, nI ME, nI MD, nI N, nI E, nI c, nI r, rk, rn, re, nI (f + 1), 0, vk, vn, ve, nK, oA, oB, oC, iC, pO, vO, cK, cN, cE, tw, dV, dK, dN, dE, pa, ho, fN, fE, fS, k1, k2, k3)) ∧ (∀ post : Int32 → SY → Prop, post fl v' → wpY_step post (nI MN, nI MV, nI ME, nI MD, nI N, nI E, nI c, nI (f + 1), zk, zn, ze, rk, rn, re, nK, oA, oB, oC, pO, vO, yK, yN, yE, fN, fE, fS, l1, l2, l3)) := by
  obtain ⟨a1, a2, a3, a4, a5, a6, a7, a8⟩ := bf.1
  have hrm := rl_rm_pos (nK := nK) (oB := oB) (oC := oC) (bf.2.1 n hnN).1 s
  obtain ⟨u', v', rn', hX, hY⟩ := rl_finish (φ := φ) (d := f) (vk := 2) (vn := nI n) (ve := 0) (zk := zk) (zn := zn) (ze := ze) (rk := rk) (rn := rn) (re := re) (pa := pa) (ho := ho) bf (rl_FR_s (x := nI (s + 1)) fr) hf (Or.inr (Or.inl ⟨rfl, n, hnN, rfl, hk⟩)) (by rw [rl_sum0]; omega)
  exact ⟨0, u', v', Or.inl ⟨rfl, rn'⟩, fun post hp => rx_st_lam (by omega) hn (by omega) hs hk rfl (rx_fw (hX _ hp)), fun post hp => ry_st_lam (by omega) hn (by omega) he hs hk rfl (hY _ hp)⟩
theorem rl_c_var {φ f n s : Nat} (bf : rl_BF MN MV ME MD N E c r sz nK oA oB oC iC pO vO yK yN yE cK cN cE tw dV dK dN dE) (fr : rl_FR N E (f + 1) nK fN fE fS k1 k2 k3 l1 l2 l3) (hf : f + 1 ≤ MD) (hn : fN f = nI n) (hnN : n < N) (he : fE f = nI r) (hs : fS f = nI s) (hφ : rl_sm (rl_fr sz nK oB oC fN fS) f + rl_rm sz nK oB oC n s + 192 * (ME - E) ≤ φ + 1) (hk : nK n = 2) {v : Nat} (hv : v < MV) (ha : oA n = nI v) : ∃ fl u' v', rl_OUT φ fl u' v' ∧ (∀ post : SX → Prop, post u' → wpX_step post (nI MN, nI MV, nI ME, nI MD, nI N, nI E, nI c, nI r, rk, rn, re, nI (f + 1), 0, vk, vn, ve, nK, oA, oB, oC, iC, pO, vO, cK, cN, cE, tw, dV, dK, dN, dE, pa, ho, fN, fE, fS, k1, k2, k3)) ∧ (∀ post : Int32 → SY → Prop, post fl v' → wpY_step post (nI MN, nI MV, nI ME, nI MD, nI N, nI E, nI c, nI (f + 1), zk, zn, ze, rk, rn, re, nK, oA, oB, oC, pO, vO, yK, yN, yE, fN, fE, fS, l1, l2, l3)) := by
  obtain ⟨a1, a2, a3, a4, a5, a6, a7, a8⟩ := bf.1
  have hrm := rl_rm_pos (nK := nK) (oB := oB) (oC := oC) (bf.2.1 n hnN).1 s
  have pf := bf.2.2.2.1
  obtain ⟨e1, e2, e3⟩ := bf.2.2.2.2.1.2.1 v (by omega)
  have vo := bf.2.2.2.2.2 (rl_H pO vO r v) (rl_H_mv pf a8 hv)
  obtain ⟨u', v', rn', hX, hY⟩ := rl_finish (φ := φ) (d := f) (vk := yK (rl_H pO vO r v)) (vn := yN (rl_H pO vO r v)) (ve := yE (rl_H pO vO r v)) (zk := zk) (zn := zn) (ze := ze) (rk := rk) (rn := rn) (re := re) (pa := pa) (ho := ho) bf (rl_FR_s (x := nI (s + 1)) fr) hf vo (by rw [rl_sum0]; omega)
  refine ⟨0, u', v', Or.inl ⟨rfl, rn'⟩, fun post hp => rx_st_var (by omega) hn (by omega) hs hk rfl (v := v) (by omega) ha ?_, fun post hp => ry_st_103 (by omega) hn (by omega) he hs hk (by decide) (by decide) (fun z => absurd z (by decide)) (ry_103_var pf (by omega) a8 (by omega) ha (hY _ hp))⟩
  rw [e1, e2, e3]
  exact rx_fw (hX _ hp)
theorem rl_c_set0 {φ f n s : Nat} (bf : rl_BF MN MV ME MD N E c r sz nK oA oB oC iC pO vO yK yN yE cK cN cE tw dV dK dN dE) (fr : rl_FR N E (f + 1) nK fN fE fS k1 k2 k3 l1 l2 l3) (hf : f + 1 ≤ MD) (hn : fN f = nI n) (hnN : n < N) (he : fE f = nI r) (hs : fS f = nI s) (hφ : rl_sm (rl_fr sz nK oB oC fN fS) f + rl_rm sz nK oB oC n s + 192 * (ME - E) ≤ φ + 1) (hk : nK n = 3) (s0 : s = 0) {b : Nat} (hb : b < n) (eb : oB n = nI b) (hz : sz b + 1 ≤ sz n) : ∃ fl u' v', rl_OUT φ fl u' v' ∧ (∀ post : SX → Prop, post u' → wpX_step post (nI MN, nI MV, nI ME, nI MD, nI N, nI E, nI c, nI r, rk, rn, re, nI (f + 1), 0, vk, vn, ve, nK, oA, oB, oC, iC, pO, vO, cK, cN, cE, tw, dV, dK, dN, dE, pa, ho, fN, fE, fS, k1, k2, k3)) ∧ (∀ post : Int32 → SY → Prop, post fl v' → wpY_step post (nI MN, nI MV, nI ME, nI MD, nI N, nI E, nI c, nI (f + 1), zk, zn, ze, rk, rn, re, nK, oA, oB, oC, pO, vO, yK, yN, yE, fN, fE, fS, l1, l2, l3)) := by
  obtain ⟨a1, a2, a3, a4, a5, a6, a7, a8⟩ := bf.1
  subst s0
  have hw : rl_w2 sz nK oB oC n = 0 := if_pos hk
  rw [rl_rm0] at hφ
  have fr2 : rl_FR N E (f + 1) nK fN fE (upd fS f (nI (0 + 1))) k1 k2 k3 l1 l2 l3 := rl_FR_add (rl_FR_s fr) ⟨n, r, 1, hn, hnN, he, a8, pk_us, by omega, fun z => by omega, fun z => by omega⟩
  obtain ⟨fl, u', v', out, hX, hY⟩ := rl_begin (φ := φ) (n := b) (e := r) (vk := vk) (vn := vn) (ve := ve) (zk := zk) (zn := zn) (ze := ze) (rk := rk) (rn := rn) (re := re) (pa := pa) (ho := ho) bf fr2 hf (by omega) a8 (by rw [rl_sum1 hn (by omega) (by omega), rl_rm1, hw]; omega)
  exact ⟨fl, u', v', out, fun post hp => rx_st_s0set (by omega) hn (by omega) hs hk rfl rfl eb he (hX _ hp), fun post hp => ry_st_set0 (by omega) hn (by omega) he hs hk rfl rfl eb (hY _ hp)⟩
theorem rl_c_s0 {φ f n s : Nat} (bf : rl_BF MN MV ME MD N E c r sz nK oA oB oC iC pO vO yK yN yE cK cN cE tw dV dK dN dE) (fr : rl_FR N E (f + 1) nK fN fE fS k1 k2 k3 l1 l2 l3) (hf : f + 1 ≤ MD) (hn : fN f = nI n) (hnN : n < N) (he : fE f = nI r) (hs : fS f = nI s) (hφ : rl_sm (rl_fr sz nK oB oC fN fS) f + rl_rm sz nK oB oC n s + 192 * (ME - E) ≤ φ + 1) {k : Int32} (hk : nK n = k) (n1 : k ≠ 1) (n2 : k ≠ 2) (n3 : k ≠ 3) (n4 : k ≠ 4) (s0 : s = 0) {a : Nat} (ha : a < n) (ea : oA n = nI a) (hz : sz a + rl_w2 sz nK oB oC n + 1 ≤ sz n) : ∃ fl u' v', rl_OUT φ fl u' v' ∧ (∀ post : SX → Prop, post u' → wpX_step post (nI MN, nI MV, nI ME, nI MD, nI N, nI E, nI c, nI r, rk, rn, re, nI (f + 1), 0, vk, vn, ve, nK, oA, oB, oC, iC, pO, vO, cK, cN, cE, tw, dV, dK, dN, dE, pa, ho, fN, fE, fS, k1, k2, k3)) ∧ (∀ post : Int32 → SY → Prop, post fl v' → wpY_step post (nI MN, nI MV, nI ME, nI MD, nI N, nI E, nI c, nI (f + 1), zk, zn, ze, rk, rn, re, nK, oA, oB, oC, pO, vO, yK, yN, yE, fN, fE, fS, l1, l2, l3)) := by
  obtain ⟨a1, a2, a3, a4, a5, a6, a7, a8⟩ := bf.1
  subst s0
  rw [rl_rm0] at hφ
  have fr2 : rl_FR N E (f + 1) nK fN fE (upd fS f (nI (0 + 1))) k1 k2 k3 l1 l2 l3 := rl_FR_add (rl_FR_s fr) ⟨n, r, 1, hn, hnN, he, a8, pk_us, by omega, fun z => by omega, fun z => by omega⟩
  obtain ⟨fl, u', v', out, hX, hY⟩ := rl_begin (φ := φ) (n := a) (e := r) (vk := vk) (vn := vn) (ve := ve) (zk := zk) (zn := zn) (ze := ze) (rk := rk) (rn := rn) (re := re) (pa := pa) (ho := ho) bf fr2 hf (by omega) a8 (by rw [rl_sum1 hn (by omega) (by omega), rl_rm1]; omega)
  exact ⟨fl, u', v', out, fun post hp => rx_st_s0 (by omega) hn (by omega) hs hk n1 n2 n3 n4 rfl ea he (hX _ hp), fun post hp => ry_st_103 (by omega) hn (by omega) he hs hk n1 n4 (fun z => absurd z n3) (ry_103_s0 (by omega) n2 n3 ea (hY _ hp))⟩
theorem rl_c_set1 {φ f n s : Nat} (bf : rl_BF MN MV ME MD N E c r sz nK oA oB oC iC pO vO yK yN yE cK cN cE tw dV dK dN dE) (fr : rl_FR N E (f + 1) nK fN fE fS k1 k2 k3 l1 l2 l3) (hf : f + 1 ≤ MD) (hn : fN f = nI n) (hnN : n < N) (he : fE f = nI r) (hs : fS f = nI s) (hφ : rl_sm (rl_fr sz nK oB oC fN fS) f + rl_rm sz nK oB oC n s + 192 * (ME - E) ≤ φ + 1) (vo : rl_VO N E nK vk vn ve) (hk : nK n = 3) (s1 : s = 1) {v : Nat} (hv : v < MV) (ha : oA n = nI v) : ∃ fl u' v', rl_OUT φ fl u' v' ∧ (∀ post : SX → Prop, post u' → wpX_step post (nI MN, nI MV, nI ME, nI MD, nI N, nI E, nI c, nI r, rk, rn, re, nI (f + 1), 0, vk, vn, ve, nK, oA, oB, oC, iC, pO, vO, cK, cN, cE, tw, dV, dK, dN, dE, pa, ho, fN, fE, fS, k1, k2, k3)) ∧ (∀ post : Int32 → SY → Prop, post fl v' → wpY_step post (nI MN, nI MV, nI ME, nI MD, nI N, nI E, nI c, nI (f + 1), vk, vn, ve, rk, rn, re, nK, oA, oB, oC, pO, vO, yK, yN, yE, fN, fE, fS, l1, l2, l3)) := by
  obtain ⟨a1, a2, a3, a4, a5, a6, a7, a8⟩ := bf.1
  subst s1
  have pf := bf.2.2.2.1
  rw [rl_rm1] at hφ
  obtain ⟨u', v', rn', hX, hY⟩ := rl_finish (φ := φ) (d := f) (zk := vk) (zn := vn) (ze := ve) (rk := rk) (rn := rn) (re := re) (pa := pa) (ho := ho) (rl_BF_set (w := v) bf (by omega) vo) (rl_FR_s (x := nI (1 + 1)) fr) hf vo (by rw [rl_sum0]; omega)
  exact ⟨0, u', v', Or.inl ⟨rfl, rn'⟩, fun post hp => rx_st_s1 (by omega) hn (by omega) hs hk (by decide) (by decide) (by decide) rfl (rx_af_set (by omega) hk (by omega) ha (hX _ hp)), fun post hp => ry_st_103 (by omega) hn (by omega) he hs hk (by decide) (by decide) (fun _ => by decide) (ry_103_set pf (by omega) a8 (by omega) ha (hY _ hp))⟩
theorem rl_c_close1 {φ f n s : Nat} (bf : rl_BF MN MV ME MD N E c r sz nK oA oB oC iC pO vO yK yN yE cK cN cE tw dV dK dN dE) (fr : rl_FR N E (f + 1) nK fN fE fS k1 k2 k3 l1 l2 l3) (hf : f + 1 ≤ MD) (hn : fN f = nI n) (hnN : n < N) (he : fE f = nI r) (hs : fS f = nI s) (hφ : rl_sm (rl_fr sz nK oB oC fN fS) f + rl_rm sz nK oB oC n s + 192 * (ME - E) ≤ φ + 1) (vo : rl_VO N E nK vk vn ve) (hk : nK n = 5) (s1 : s = 1) : ∃ fl u' v', rl_OUT φ fl u' v' ∧ (∀ post : SX → Prop, post u' → wpX_step post (nI MN, nI MV, nI ME, nI MD, nI N, nI E, nI c, nI r, rk, rn, re, nI (f + 1), 0, vk, vn, ve, nK, oA, oB, oC, iC, pO, vO, cK, cN, cE, tw, dV, dK, dN, dE, pa, ho, fN, fE, fS, k1, k2, k3)) ∧ (∀ post : Int32 → SY → Prop, post fl v' → wpY_step post (nI MN, nI MV, nI ME, nI MD, nI N, nI E, nI c, nI (f + 1), vk, vn, ve, rk, rn, re, nK, oA, oB, oC, pO, vO, yK, yN, yE, fN, fE, fS, l1, l2, l3)) := by
  obtain ⟨a1, a2, a3, a4, a5, a6, a7, a8⟩ := bf.1
  subst s1
  rw [rl_rm1] at hφ
  rcases vo with e | ⟨e, lm⟩ | ⟨e, lm, jj⟩
  · refine ⟨108, (nI MN, nI MV, nI ME, nI MD, nI N, nI E, nI c, nI r, rk, rn, re, nI (f + 1), 108, vk, vn, ve, nK, oA, oB, oC, iC, pO, vO, cK, cN, cE, tw, dV, dK, dN, dE, pa, ho, fN, fE, upd fS f (nI (1 + 1)), k1, k2, k3), (nI MN, nI MV, nI ME, nI MD, nI N, nI E, nI c, nI (f + 1), vk, vn, ve, rk, rn, re, nK, oA, oB, oC, pO, vO, yK, yN, yE, fN, fE, upd fS f (nI (1 + 1)), l1, l2, l3), Or.inr ⟨by decide, fun P K => K bf⟩, fun post hp => ?_, fun post hp => ?_⟩
    · refine rx_st_s1 (by omega) hn (by omega) hs hk (by decide) (by decide) (by decide) rfl (rx_af_close (by omega) (by omega) hk he (fun _ => hp) (fun z => ?_) (fun z => absurd e z))
      rw [e] at z; exact absurd z (by decide)
    · refine ry_st_103 (by omega) hn (by omega) he hs hk (by decide) (by decide) (fun z => absurd z (by decide)) (ry_103_close (by decide) (fun _ => hp) (fun z => ?_) (fun z => absurd e z))
      rw [e] at z; exact absurd z (by decide)
  · have ne : ¬ vk = 1 := by rw [e]; decide
    obtain ⟨u', v', rn', hX, hY⟩ := rl_finish (φ := φ) (d := f) (vk := 3) (vn := vn) (ve := nI r) (zk := vk) (zn := vn) (ze := ve) (rk := rk) (rn := rn) (re := re) (pa := pa) (ho := ho) bf (rl_FR_s (x := nI (1 + 1)) fr) hf (Or.inr (Or.inr ⟨rfl, lm, r, a8, rfl⟩)) (by rw [rl_sum0]; omega)
    refine ⟨0, u', v', Or.inl ⟨rfl, rn'⟩, fun post hp => ?_, fun post hp => ?_⟩
    · exact rx_st_s1 (by omega) hn (by omega) hs hk (by decide) (by decide) (by decide) rfl (rx_af_close (by omega) (by omega) hk he (fun z => absurd z ne) (fun _ => hX _ hp) (fun _ z => absurd e z))
    · exact ry_st_103 (by omega) hn (by omega) he hs hk (by decide) (by decide) (fun z => absurd z (by decide)) (ry_103_close (by decide) (fun z => absurd z ne) (fun _ => hY _ hp) (fun _ z => absurd e z))
  · have ne : ¬ vk = 1 := by rw [e]; decide
    have ne2 : ¬ vk = 2 := by rw [e]; decide
    obtain ⟨u', v', rn', hX, hY⟩ := rl_finish (φ := φ) (d := f) (vk := vk) (vn := vn) (ve := ve) (zk := vk) (zn := vn) (ze := ve) (rk := rk) (rn := rn) (re := re) (pa := pa) (ho := ho) bf (rl_FR_s (x := nI (1 + 1)) fr) hf (Or.inr (Or.inr ⟨e, lm, jj⟩)) (by rw [rl_sum0]; omega)
    refine ⟨0, u', v', Or.inl ⟨rfl, rn'⟩, fun post hp => ?_, fun post hp => ?_⟩
    · exact rx_st_s1 (by omega) hn (by omega) hs hk (by decide) (by decide) (by decide) rfl (rx_af_close (by omega) (by omega) hk he (fun z => absurd z ne) (fun z => absurd z ne2) (fun _ _ => hX _ hp))
    · exact ry_st_103 (by omega) hn (by omega) he hs hk (by decide) (by decide) (fun z => absurd z (by decide)) (ry_103_close (by decide) (fun z => absurd z ne) (fun z => absurd z ne2) (fun _ _ => hY _ hp))
end
end
section
/-! part 17: one step, the other cases -/
theorem rl_w2_5 {sz : Nat → Nat} {nK oB oC : Nat → Int32} {n : Nat} (h : nK n = 5) : rl_w2 sz nK oB oC n = 0 := by
  unfold rl_w2
  rw [if_neg (by rw [h]; decide), if_pos h]
theorem rl_w2_b {sz : Nat → Nat} {nK oB oC : Nat → Int32} {n b : Nat} (h3 : nK n ≠ 3) (h5 : nK n ≠ 5) (h8 : nK n ≠ 8) (hb : oB n = nI b) (hb64 : b < 64) : rl_w2 sz nK oB oC n = sz b := by
  unfold rl_w2
  rw [if_neg h3, if_neg h5, if_neg h8, rl_nE hb (by omega), Nat.add_zero]
theorem rl_w2_8 {sz : Nat → Nat} {nK oB oC : Nat → Int32} {n b c : Nat} (h8 : nK n = 8) (hb : oB n = nI b) (hb64 : b < 64) (hc : oC n = nI c) (hc64 : c < 64) : rl_w2 sz nK oB oC n = sz b + sz c := by
  unfold rl_w2
  rw [if_neg (by rw [h8]; decide), if_neg (by rw [h8]; decide), if_pos h8, rl_nE hb (by omega), rl_nE hc (by omega)]
section
variable {MN MV ME MD N E c r : Nat} {sz : Nat → Nat} {rk rn re vk vn ve zk zn ze : Int32} {nK oA oB oC iC pO vO cK cN cE tw dV dK dN dE pa ho fN fE fS k1 k2 k3 yK yN yE l1 l2 l3 : Nat → Int32}
theorem rl_c_in1 {φ f n s : Nat} (bf : rl_BF MN MV ME MD N E c r sz nK oA oB oC iC pO vO yK yN yE cK cN cE tw dV dK dN dE) (fr : rl_FR N E (f + 1) nK fN fE fS k1 k2 k3 l1 l2 l3) (hf : f + 1 ≤ MD) (hn : fN f = nI n) (hnN : n < N) (he : fE f = nI r) (hs : fS f = nI s) (hφ : rl_sm (rl_fr sz nK oB oC fN fS) f + rl_rm sz nK oB oC n s + 192 * (ME - E) ≤ φ + 1) (vo : rl_VO N E nK vk vn ve) (hk : nK n = 7) (s1 : s = 1) {b : Nat} (hb : b < n) (eb : oB n = nI b) : ∃ fl u' v', rl_OUT φ fl u' v' ∧ (∀ post : SX → Prop, post u' → wpX_step post (nI MN, nI MV, nI ME, nI MD, nI N, nI E, nI c, nI r, rk, rn, re, nI (f + 1), 0, vk, vn, ve, nK, oA, oB, oC, iC, pO, vO, cK, cN, cE, tw, dV, dK, dN, dE, pa, ho, fN, fE, fS, k1, k2, k3)) ∧ (∀ post : Int32 → SY → Prop, post fl v' → wpY_step post (nI MN, nI MV, nI ME, nI MD, nI N, nI E, nI c, nI (f + 1), vk, vn, ve, rk, rn, re, nK, oA, oB, oC, pO, vO, yK, yN, yE, fN, fE, fS, l1, l2, l3)) := by
  obtain ⟨a1, a2, a3, a4, a5, a6, a7, a8⟩ := bf.1
  subst s1
  rw [rl_rm1, rl_w2_b (by rw [hk]; decide) (by rw [hk]; decide) (by rw [hk]; decide) eb (by omega)] at hφ
  by_cases e : vk = 3
  · have hj : ∃ j, j < E ∧ ve = nI j := by
      rcases vo with z | ⟨z, _⟩ | ⟨_, _, z⟩
      · rw [e] at z; exact absurd z (by decide)
      · rw [e] at z; exact absurd z (by decide)
      · exact z
    obtain ⟨j, hj, ej⟩ := hj
    have fr2 : rl_FR N E (f + 1) nK fN fE (upd fS f (nI (1 + 1))) k1 k2 k3 (upd l1 f vk) (upd l2 f vn) (upd l3 f ve) :=
      rl_FR_add (rl_FR_low fr (fun t ht => ⟨pk_un (by omega), rfl, rfl, rfl, pk_un (by omega), pk_un (by omega), pk_un (by omega)⟩)) ⟨n, r, 2, hn, hnN, he, a8, pk_us, by omega, fun _ => by rw [hk]; decide, fun _ z => absurd hk z⟩
    obtain ⟨fl, u', v', out, hX, hY⟩ := rl_begin (φ := φ) (n := b) (e := j) (vk := vk) (vn := vn) (ve := ve) (zk := vk) (zn := vn) (ze := ve) (rk := rk) (rn := rn) (re := re) (pa := pa) (ho := ho) bf fr2 hf (by omega) hj (by rw [rl_sum1 hn (by omega) (by omega), rl_rm2]; omega)
    refine ⟨fl, u', v', out, fun post hp => ?_, fun post hp => ?_⟩
    · refine rx_st_s1 (by omega) hn (by omega) hs hk (by decide) (by decide) (by decide) rfl (rx_af_in (by omega) hk eb (fun _ => ?_) (fun z => absurd e z))
      have := hX _ hp
      rw [← ej] at this
      exact this
    · refine ry_st_103 (by omega) hn (by omega) he hs hk (by decide) (by decide) (fun z => absurd z (by decide)) (ry_103_in (by omega) (by omega) eb (fun _ => ?_) (fun z => absurd e z))
      have := hY _ hp
      rw [← ej] at this
      exact this
  · refine ⟨110, (nI MN, nI MV, nI ME, nI MD, nI N, nI E, nI c, nI r, rk, rn, re, nI (f + 1), 110, vk, vn, ve, nK, oA, oB, oC, iC, pO, vO, cK, cN, cE, tw, dV, dK, dN, dE, pa, ho, fN, fE, upd fS f (nI (1 + 1)), k1, k2, k3), (nI MN, nI MV, nI ME, nI MD, nI N, nI E, nI c, nI (f + 1), vk, vn, ve, rk, rn, re, nK, oA, oB, oC, pO, vO, yK, yN, yE, fN, fE, upd fS f (nI (1 + 1)), upd l1 f vk, upd l2 f vn, upd l3 f ve), Or.inr ⟨by decide, fun P K => K bf⟩, fun post hp => ?_, fun post hp => ?_⟩
    · exact rx_st_s1 (by omega) hn (by omega) hs hk (by decide) (by decide) (by decide) rfl (rx_af_in (by omega) hk eb (fun z => absurd z e) (fun _ => hp))
    · exact ry_st_103 (by omega) hn (by omega) he hs hk (by decide) (by decide) (fun z => absurd z (by decide)) (ry_103_in (by omega) (by omega) eb (fun z => absurd z e) (fun _ => hp))
theorem rl_c_if1 {φ f n s : Nat} (bf : rl_BF MN MV ME MD N E c r sz nK oA oB oC iC pO vO yK yN yE cK cN cE tw dV dK dN dE) (fr : rl_FR N E (f + 1) nK fN fE fS k1 k2 k3 l1 l2 l3) (hf : f + 1 ≤ MD) (hn : fN f = nI n) (hnN : n < N) (he : fE f = nI r) (hs : fS f = nI s) (hφ : rl_sm (rl_fr sz nK oB oC fN fS) f + rl_rm sz nK oB oC n s + 192 * (ME - E) ≤ φ + 1) (hk : nK n = 8) (s1 : s = 1) {b d : Nat} (hb : b < n) (eb : oB n = nI b) (hd : d < n) (ed : oC n = nI d) : ∃ fl u' v', rl_OUT φ fl u' v' ∧ (∀ post : SX → Prop, post u' → wpX_step post (nI MN, nI MV, nI ME, nI MD, nI N, nI E, nI c, nI r, rk, rn, re, nI (f + 1), 0, vk, vn, ve, nK, oA, oB, oC, iC, pO, vO, cK, cN, cE, tw, dV, dK, dN, dE, pa, ho, fN, fE, fS, k1, k2, k3)) ∧ (∀ post : Int32 → SY → Prop, post fl v' → wpY_step post (nI MN, nI MV, nI ME, nI MD, nI N, nI E, nI c, nI (f + 1), vk, vn, ve, rk, rn, re, nK, oA, oB, oC, pO, vO, yK, yN, yE, fN, fE, fS, l1, l2, l3)) := by
  obtain ⟨a1, a2, a3, a4, a5, a6, a7, a8⟩ := bf.1
  subst s1
  rw [rl_rm1, rl_w2_8 hk eb (by omega) ed (by omega)] at hφ
  have fr2 : rl_FR N E (f + 1) nK fN fE (upd fS f (nI (1 + 1))) k1 k2 k3 (upd l1 f vk) (upd l2 f vn) (upd l3 f ve) :=
    rl_FR_add (rl_FR_low fr (fun t ht => ⟨pk_un (by omega), rfl, rfl, rfl, pk_un (by omega), pk_un (by omega), pk_un (by omega)⟩)) ⟨n, r, 2, hn, hnN, he, a8, pk_us, by omega, fun _ => by rw [hk]; decide, fun _ _ z => absurd hk z⟩
  by_cases e : vk = 1 ∧ vn = 0
  · obtain ⟨fl, u', v', out, hX, hY⟩ := rl_begin (φ := φ) (n := d) (e := r) (vk := vk) (vn := vn) (ve := ve) (zk := vk) (zn := vn) (ze := ve) (rk := rk) (rn := rn) (re := re) (pa := pa) (ho := ho) bf fr2 hf (by omega) a8 (by rw [rl_sum1 hn (by omega) (by omega), rl_rm2]; omega)
    refine ⟨fl, u', v', out, fun post hp => ?_, fun post hp => ?_⟩
    · exact rx_st_s1 (by omega) hn (by omega) hs hk (by decide) (by decide) (by decide) rfl (rx_af_if (by omega) (by omega) hk eb ed he (fun _ => hX _ hp) (fun z => absurd e z))
    · exact ry_st_103 (by omega) hn (by omega) he hs hk (by decide) (by decide) (fun z => absurd z (by decide)) (ry_103_if (by omega) (by omega) eb ed (fun _ => hY _ hp) (fun z => absurd e z))
  · obtain ⟨fl, u', v', out, hX, hY⟩ := rl_begin (φ := φ) (n := b) (e := r) (vk := vk) (vn := vn) (ve := ve) (zk := vk) (zn := vn) (ze := ve) (rk := rk) (rn := rn) (re := re) (pa := pa) (ho := ho) bf fr2 hf (by omega) a8 (by rw [rl_sum1 hn (by omega) (by omega), rl_rm2]; omega)
    refine ⟨fl, u', v', out, fun post hp => ?_, fun post hp => ?_⟩
    · exact rx_st_s1 (by omega) hn (by omega) hs hk (by decide) (by decide) (by decide) rfl (rx_af_if (by omega) (by omega) hk eb ed he (fun z => absurd z e) (fun _ => hX _ hp))
    · exact ry_st_103 (by omega) hn (by omega) he hs hk (by decide) (by decide) (fun z => absurd z (by decide)) (ry_103_if (by omega) (by omega) eb ed (fun z => absurd z e) (fun _ => hY _ hp))
theorem rl_c_else1 {φ f n s : Nat} (bf : rl_BF MN MV ME MD N E c r sz nK oA oB oC iC pO vO yK yN yE cK cN cE tw dV dK dN dE) (fr : rl_FR N E (f + 1) nK fN fE fS k1 k2 k3 l1 l2 l3) (hf : f + 1 ≤ MD) (hn : fN f = nI n) (hnN : n < N) (he : fE f = nI r) (hs : fS f = nI s) (hφ : rl_sm (rl_fr sz nK oB oC fN fS) f + rl_rm sz nK oB oC n s + 192 * (ME - E) ≤ φ + 1) (vo : rl_VO N E nK vk vn ve) {k : Int32} (hk : nK n = k) (hc : k = 6 ∨ k = 9 ∨ k = 10 ∨ k = 11 ∨ k = 12) (s1 : s = 1) {b : Nat} (hb : b < n) (eb : oB n = nI b) : ∃ fl u' v', rl_OUT φ fl u' v' ∧ (∀ post : SX → Prop, post u' → wpX_step post (nI MN, nI MV, nI ME, nI MD, nI N, nI E, nI c, nI r, rk, rn, re, nI (f + 1), 0, vk, vn, ve, nK, oA, oB, oC, iC, pO, vO, cK, cN, cE, tw, dV, dK, dN, dE, pa, ho, fN, fE, fS, k1, k2, k3)) ∧ (∀ post : Int32 → SY → Prop, post fl v' → wpY_step post (nI MN, nI MV, nI ME, nI MD, nI N, nI E, nI c, nI (f + 1), vk, vn, ve, rk, rn, re, nK, oA, oB, oC, pO, vO, yK, yN, yE, fN, fE, fS, l1, l2, l3)) := by
  obtain ⟨a1, a2, a3, a4, a5, a6, a7, a8⟩ := bf.1
  subst s1
  have nn : k ≠ 1 ∧ k ≠ 2 ∧ k ≠ 3 ∧ k ≠ 4 ∧ k ≠ 5 ∧ k ≠ 7 ∧ k ≠ 8 := by
    rcases hc with h | h | h | h | h <;> (rw [h]; decide)
  obtain ⟨n1, n2, n3, n4, n5, n7, n8⟩ := nn
  rw [rl_rm1, rl_w2_b (by rw [hk]; exact n3) (by rw [hk]; exact n5) (by rw [hk]; exact n8) eb (by omega)] at hφ
  have fr2 : rl_FR N E (f + 1) nK fN fE (upd fS f (nI (1 + 1))) (upd k1 f vk) (upd k2 f vn) (upd k3 f ve) (upd l1 f vk) (upd l2 f vn) (upd l3 f ve) :=
    rl_FR_add (rl_FR_low fr (fun t ht => ⟨pk_un (by omega), pk_un (by omega), pk_un (by omega), pk_un (by omega), pk_un (by omega), pk_un (by omega), pk_un (by omega)⟩)) ⟨n, r, 2, hn, hnN, he, a8, pk_us, by omega, fun _ => by rw [hk]; exact ⟨n3, n5⟩, fun _ _ _ => by rw [pk_us, pk_us, pk_us, pk_us, pk_us, pk_us]; exact ⟨rfl, rfl, rfl, vo⟩⟩
  obtain ⟨fl, u', v', out, hX, hY⟩ := rl_begin (φ := φ) (n := b) (e := r) (vk := vk) (vn := vn) (ve := ve) (zk := vk) (zn := vn) (ze := ve) (rk := rk) (rn := rn) (re := re) (pa := pa) (ho := ho) bf fr2 hf (by omega) a8 (by rw [rl_sum1 hn (by omega) (by omega), rl_rm2]; omega)
  refine ⟨fl, u', v', out, fun post hp => ?_, fun post hp => ?_⟩
  · exact rx_st_s1 (by omega) hn (by omega) hs hk n1 n2 n4 rfl (rx_af_else (by omega) (by omega) (by rw [hk]; exact hc) eb he (hX _ hp))
  · exact ry_st_103 (by omega) hn (by omega) he hs hk n1 n4 (fun z => absurd z n3) (ry_103_else (by omega) (by omega) n2 n3 n5 n7 n8 eb (hY _ hp))
theorem rl_c_give {φ f n s : Nat} (bf : rl_BF MN MV ME MD N E c r sz nK oA oB oC iC pO vO yK yN yE cK cN cE tw dV dK dN dE) (fr : rl_FR N E (f + 1) nK fN fE fS k1 k2 k3 l1 l2 l3) (hf : f + 1 ≤ MD) (hn : fN f = nI n) (hnN : n < N) (he : fE f = nI r) (hs : fS f = nI s) (hφ : rl_sm (rl_fr sz nK oB oC fN fS) f + rl_rm sz nK oB oC n s + 192 * (ME - E) ≤ φ + 1) (vo : rl_VO N E nK vk vn ve) {k : Int32} (hk : nK n = k) (n1 : k ≠ 1) (n2 : k ≠ 2) (n3 : k ≠ 3) (n4 : k ≠ 4) (n5 : k ≠ 5) (hc : (s = 2 ∧ (k = 7 ∨ k = 8 ∨ k = 9)) ∨ s = 3) : ∃ fl u' v', rl_OUT φ fl u' v' ∧ (∀ post : SX → Prop, post u' → wpX_step post (nI MN, nI MV, nI ME, nI MD, nI N, nI E, nI c, nI r, rk, rn, re, nI (f + 1), 0, vk, vn, ve, nK, oA, oB, oC, iC, pO, vO, cK, cN, cE, tw, dV, dK, dN, dE, pa, ho, fN, fE, fS, k1, k2, k3)) ∧ (∀ post : Int32 → SY → Prop, post fl v' → wpY_step post (nI MN, nI MV, nI ME, nI MD, nI N, nI E, nI c, nI (f + 1), vk, vn, ve, rk, rn, re, nK, oA, oB, oC, pO, vO, yK, yN, yE, fN, fE, fS, l1, l2, l3)) := by
  obtain ⟨a1, a2, a3, a4, a5, a6, a7, a8⟩ := bf.1
  have hrm := rl_rm_pos (nK := nK) (oB := oB) (oC := oC) (bf.2.1 n hnN).1 s
  obtain ⟨u', v', rn', hX, hY⟩ := rl_finish (φ := φ) (d := f) (vk := vk) (vn := vn) (ve := ve) (zk := vk) (zn := vn) (ze := ve) (rk := rk) (rn := rn) (re := re) (pa := pa) (ho := ho) bf (rl_FR_s (x := nI (s + 1)) fr) hf vo (by rw [rl_sum0]; omega)
  rcases hc with ⟨s2, hc⟩ | s3
  · refine ⟨0, u', v', Or.inl ⟨rfl, rn'⟩, fun post hp => ?_, fun post hp => ?_⟩
    · exact rx_st_s2 (by omega) hn (by omega) hs hk n1 n2 n4 s2 (rx_as_give (by omega) (by rw [hk]; exact hc) (hX _ hp))
    · refine ry_st_103 (by omega) hn (by omega) he hs hk n1 n4 (fun z => absurd z n3) (ry_103_give n2 n3 n5 (by rw [s2]; decide) (by rw [s2]; decide) ?_ (hY _ hp))
      rcases hc with h | h | h
      · exact Or.inl h
      · exact Or.inr (Or.inl h)
      · exact Or.inr (Or.inr (Or.inl h))
  · refine ⟨0, u', v', Or.inl ⟨rfl, rn'⟩, fun post hp => ?_, fun post hp => ?_⟩
    · exact rx_st_s3 (by omega) hn (by omega) hs hk n1 n2 n4 s3 (hX _ hp)
    · exact ry_st_103 (by omega) hn (by omega) he hs hk n1 n4 (fun z => absurd z n3) (ry_103_give n2 n3 n5 (by rw [s3]; decide) (by rw [s3]; decide) (Or.inr (Or.inr (Or.inr (congrArg nI s3)))) (hY _ hp))
theorem rl_c_calc {φ f n s : Nat} (bf : rl_BF MN MV ME MD N E c r sz nK oA oB oC iC pO vO yK yN yE cK cN cE tw dV dK dN dE) (fr : rl_FR N E (f + 1) nK fN fE fS k1 k2 k3 l1 l2 l3) (hf : f + 1 ≤ MD) (hn : fN f = nI n) (hnN : n < N) (he : fE f = nI r) (hs : fS f = nI s) (hφ : rl_sm (rl_fr sz nK oB oC fN fS) f + rl_rm sz nK oB oC n s + 192 * (ME - E) ≤ φ + 1) {k : Int32} (hk : nK n = k) (hc : k = 10 ∨ k = 11 ∨ k = 12) (s2 : s = 2) (h1 : k1 f = l1 f ∧ k2 f = l2 f ∧ k3 f = l3 f ∧ rl_VO N E nK (k1 f) (k2 f) (k3 f)) : ∃ fl u' v', rl_OUT φ fl u' v' ∧ (∀ post : SX → Prop, post u' → wpX_step post (nI MN, nI MV, nI ME, nI MD, nI N, nI E, nI c, nI r, rk, rn, re, nI (f + 1), 0, vk, vn, ve, nK, oA, oB, oC, iC, pO, vO, cK, cN, cE, tw, dV, dK, dN, dE, pa, ho, fN, fE, fS, k1, k2, k3)) ∧ (∀ post : Int32 → SY → Prop, post fl v' → wpY_step post (nI MN, nI MV, nI ME, nI MD, nI N, nI E, nI c, nI (f + 1), vk, vn, ve, rk, rn, re, nK, oA, oB, oC, pO, vO, yK, yN, yE, fN, fE, fS, l1, l2, l3)) := by
  obtain ⟨a1, a2, a3, a4, a5, a6, a7, a8⟩ := bf.1
  have hrm := rl_rm_pos (nK := nK) (oB := oB) (oC := oC) (bf.2.1 n hnN).1 s
  have nn : k ≠ 1 ∧ k ≠ 2 ∧ k ≠ 3 ∧ k ≠ 4 := by
    rcases hc with h | h | h <;> (rw [h]; decide)
  obtain ⟨n1, n2, n3, n4⟩ := nn
  subst s2
  by_cases e : k1 f = 1 ∧ vk = 1
  · have e' : l1 f = 1 ∧ vk = 1 := by rw [← h1.1]; exact e
    obtain ⟨u', v', rn', hX, hY⟩ := rl_finish (φ := φ) (d := f) (vk := 1) (vn := if k = 10 then k2 f + vn else if k = 11 then k2 f - vn else if vn ≤ k2 f then 0 else 1) (ve := 0) (zk := vk) (zn := vn) (ze := ve) (rk := rk) (rn := rn) (re := re) (pa := pa) (ho := ho) bf (rl_FR_s (x := nI (2 + 1)) fr) hf (Or.inl rfl) (by rw [rl_sum0]; omega)
    refine ⟨0, u', v', Or.inl ⟨rfl, rn'⟩, fun post hp => ?_, fun post hp => ?_⟩
    · exact rx_st_s2 (by omega) hn (by omega) hs hk n1 n2 n4 rfl (rx_as_calc (by omega) hk hc (rx_calc (by omega) hc (fun z => absurd e z) (fun _ _ => hX _ hp)))
    · refine ry_st_103 (by omega) hn (by omega) he hs hk n1 n4 (fun z => absurd z n3) (ry_103_calc (by omega) hc (fun z => absurd e' z) (fun _ _ => ?_))
      rw [← h1.2.1]
      exact hY _ hp
  · have e' : ¬ (l1 f = 1 ∧ vk = 1) := by rw [← h1.1]; exact e
    refine ⟨109, (nI MN, nI MV, nI ME, nI MD, nI N, nI E, nI c, nI r, rk, rn, re, nI (f + 1), 109, vk, vn, ve, nK, oA, oB, oC, iC, pO, vO, cK, cN, cE, tw, dV, dK, dN, dE, pa, ho, fN, fE, upd fS f (nI (2 + 1)), k1, k2, k3), (nI MN, nI MV, nI ME, nI MD, nI N, nI E, nI c, nI (f + 1), vk, vn, ve, rk, rn, re, nK, oA, oB, oC, pO, vO, yK, yN, yE, fN, fE, upd fS f (nI (2 + 1)), l1, l2, l3), Or.inr ⟨by decide, fun P K => K bf⟩, fun post hp => ?_, fun post hp => ?_⟩
    · exact rx_st_s2 (by omega) hn (by omega) hs hk n1 n2 n4 rfl (rx_as_calc (by omega) hk hc (rx_calc (by omega) hc (fun _ => hp) (fun a b => absurd ⟨a, b⟩ e)))
    · exact ry_st_103 (by omega) hn (by omega) he hs hk n1 n4 (fun z => absurd z n3) (ry_103_calc (by omega) hc (fun _ => hp) (fun a b => absurd ⟨a, b⟩ e'))
theorem rl_c_call {φ f n s : Nat} (bf : rl_BF MN MV ME MD N E c r sz nK oA oB oC iC pO vO yK yN yE cK cN cE tw dV dK dN dE) (fr : rl_FR N E (f + 1) nK fN fE fS k1 k2 k3 l1 l2 l3) (hf : f + 1 ≤ MD) (hn : fN f = nI n) (hnN : n < N) (he : fE f = nI r) (hs : fS f = nI s) (hφ : rl_sm (rl_fr sz nK oB oC fN fS) f + rl_rm sz nK oB oC n s + 192 * (ME - E) ≤ φ + 1) (vo : rl_VO N E nK vk vn ve) (hk : nK n = 6) (s2 : s = 2) (h1 : k1 f = l1 f ∧ k2 f = l2 f ∧ k3 f = l3 f ∧ rl_VO N E nK (k1 f) (k2 f) (k3 f)) : ∃ fl u' v', rl_OUT φ fl u' v' ∧ (∀ post : SX → Prop, post u' → wpX_step post (nI MN, nI MV, nI ME, nI MD, nI N, nI E, nI c, nI r, rk, rn, re, nI (f + 1), 0, vk, vn, ve, nK, oA, oB, oC, iC, pO, vO, cK, cN, cE, tw, dV, dK, dN, dE, pa, ho, fN, fE, fS, k1, k2, k3)) ∧ (∀ post : Int32 → SY → Prop, post fl v' → wpY_step post (nI MN, nI MV, nI ME, nI MD, nI N, nI E, nI c, nI (f + 1), vk, vn, ve, rk, rn, re, nK, oA, oB, oC, pO, vO, yK, yN, yE, fN, fE, fS, l1, l2, l3)) := by
  obtain ⟨a1, a2, a3, a4, a5, a6, a7, a8⟩ := bf.1
  subst s2
  rw [rl_rm2] at hφ
  obtain ⟨q1, q2, q3, q⟩ := h1
  by_cases e1 : k1 f = 1
  · refine ⟨108, (nI MN, nI MV, nI ME, nI MD, nI N, nI E, nI c, nI r, rk, rn, re, nI (f + 1), 108, vk, vn, ve, nK, oA, oB, oC, iC, pO, vO, cK, cN, cE, tw, dV, dK, dN, dE, pa, ho, fN, fE, upd fS f (nI (2 + 1)), k1, k2, k3), (nI MN, nI MV, nI ME, nI MD, nI N, nI E, nI c, nI (f + 1), vk, vn, ve, rk, rn, re, nK, oA, oB, oC, pO, vO, yK, yN, yE, fN, fE, upd fS f (nI (2 + 1)), l1, l2, l3), Or.inr ⟨by decide, fun P K => K bf⟩, fun post hp => ?_, fun post hp => ?_⟩
    · exact rx_st_s2 (by omega) hn (by omega) hs hk (by decide) (by decide) (by decide) rfl (rx_as_call (by omega) hk (rx_apply1 (by omega) e1 hp))
    · exact ry_st_103 (by omega) hn (by omega) he hs hk (by decide) (by decide) (fun z => absurd z (by decide)) (ry_103_call (by omega) (by omega) (by omega) (fun _ => hp) (fun z => absurd (q1.symm.trans e1) z) (fun z => absurd (q1.symm.trans e1) z))
  · have e1' : ¬ l1 f = 1 := by rw [← q1]; exact e1
    by_cases hE : E < ME
    · have hp : ∃ l p, l < N ∧ k2 f = nI l ∧ nK l = 4 ∧ p < E ∧ ((k1 f = 2 ∧ r = p) ∨ (¬ k1 f = 2 ∧ k3 f = nI p)) := by
        rcases q with z | ⟨z, l, hl, el, h4⟩ | ⟨z, ⟨l, hl, el, h4⟩, j, hj, ej⟩
        · exact absurd z e1
        · exact ⟨l, r, hl, el, h4, a8, Or.inl ⟨z, rfl⟩⟩
        · exact ⟨l, j, hl, el, h4, hj, Or.inr ⟨by rw [z]; decide, ej⟩⟩
      obtain ⟨l, p, hl, el, h4, hpE, hp⟩ := hp
      have hnd := bf.2.1 l hl
      have hvb : ∃ v b, v < MV ∧ oA l = nI v ∧ b < l ∧ oB l = nI b := by
        rcases hnd.2.2 with k | ⟨k, _⟩ | ⟨k, v, b, hv, ev, hb, eb, _⟩ | ⟨k, _⟩ | ⟨k, _⟩ | ⟨k, _⟩
        · rw [h4] at k; exact absurd k (by decide)
        · rw [h4] at k; exact absurd k (by decide)
        · exact ⟨v, b, hv, ev, hb, eb⟩
        · rw [h4] at k; exact absurd k (by decide)
        · rw [h4] at k; exact absurd k (by decide)
        · rw [h4] at k; exact absurd k (by decide)
      obtain ⟨v, b, hv, ev, hb, eb⟩ := hvb
      have bf2 := rl_BF_new (p := p) (w := v) bf hE hpE (by omega) vo
      have szb := (bf.2.1 b (by omega)).2.1
      have fr2 : rl_FR N (E + 1) (f + 1) nK fN fE (upd fS f (nI (2 + 1))) k1 k2 k3 l1 l2 l3 := by
        intro t ht
        refine rl_F1_up (E := E) (by omega) (rl_FR_add (rl_FR_s fr) ⟨n, r, 3, hn, hnN, he, a8, pk_us, by omega, fun _ => by rw [hk]; decide, fun z => by omega⟩ t ht)
      obtain ⟨fl, u', v', out, hX, hY⟩ := rl_begin (φ := φ) (n := b) (e := E) (vk := vk) (vn := vn) (ve := ve) (zk := vk) (zn := vn) (ze := ve) (rk := rk) (rn := rn) (re := re) (pa := pa) (ho := ho) bf2 fr2 hf (by omega) (by omega) (by rw [rl_sum1 hn (by omega) (by omega), rl_rm3]; omega)
      refine ⟨fl, u', v', out, fun post hp' => ?_, fun post hp' => ?_⟩
      · refine rx_st_s2 (by omega) hn (by omega) hs hk (by decide) (by decide) (by decide) rfl (rx_as_call (by omega) hk (rx_apply3 (l := l) (v := v) (b := b) (p := p) (by omega) e1 hE (by omega) el (by omega) ev eb ?_ (hX _ hp')))
        rcases hp with ⟨z, w⟩ | ⟨z, w⟩
        · exact Or.inl ⟨z, by rw [← w]; exact he⟩
        · exact Or.inr ⟨z, w⟩
      · refine ry_st_103 (by omega) hn (by omega) he hs hk (by decide) (by decide) (fun z => absurd z (by decide)) (ry_103_call (by omega) (by omega) (by omega) (fun z => absurd z e1') (fun _ z => by omega) (fun _ _ => ⟨l, v, b, p, by rw [← q2]; exact el, by omega, ev, eb, ?_, hY _ hp'⟩))
        rw [← q1, ← q3]
        exact hp
    · refine ⟨107, (nI MN, nI MV, nI ME, nI MD, nI N, nI E, nI c, nI r, rk, rn, re, nI (f + 1), 107, vk, vn, ve, nK, oA, oB, oC, iC, pO, vO, cK, cN, cE, tw, dV, dK, dN, dE, pa, ho, fN, fE, upd fS f (nI (2 + 1)), k1, k2, k3), (nI MN, nI MV, nI ME, nI MD, nI N, nI E, nI c, nI (f + 1), vk, vn, ve, rk, rn, re, nK, oA, oB, oC, pO, vO, yK, yN, yE, fN, fE, upd fS f (nI (2 + 1)), l1, l2, l3), Or.inr ⟨by decide, fun P K => K bf⟩, fun post hp => ?_, fun post hp => ?_⟩
      · exact rx_st_s2 (by omega) hn (by omega) hs hk (by decide) (by decide) (by decide) rfl (rx_as_call (by omega) hk (rx_apply2 (by omega) e1 (by omega) (by omega) hp))
      · exact ry_st_103 (by omega) hn (by omega) he hs hk (by decide) (by decide) (fun z => absurd z (by decide)) (ry_103_call (by omega) (by omega) (by omega) (fun z => absurd z e1') (fun _ _ => hp) (fun _ z => absurd z hE))
end
end
section
/-! part 18: the run -/
section
variable {MN MV ME MD N E c r : Nat} {sz : Nat → Nat} {rk rn re vk vn ve zk zn ze : Int32} {nK oA oB oC iC pO vO cK cN cE tw dV dK dN dE pa ho fN fE fS k1 k2 k3 yK yN yE l1 l2 l3 : Nat → Int32}
theorem rl_step {φ f : Nat} (bf : rl_BF MN MV ME MD N E c r sz nK oA oB oC iC pO vO yK yN yE cK cN cE tw dV dK dN dE) (fr : rl_FR N E (f + 1) nK fN fE fS k1 k2 k3 l1 l2 l3) (hf : f + 1 ≤ MD) (he : fE f = nI r) (hz : fS f ≠ 0 → zk = vk ∧ zn = vn ∧ ze = ve ∧ rl_VO N E nK vk vn ve) (hφ : rl_sm (rl_fr sz nK oB oC fN fS) (f + 1) + 192 * (ME - E) ≤ φ + 1) : ∃ fl u' v', rl_OUT φ fl u' v' ∧ (∀ post : SX → Prop, post u' → wpX_step post (nI MN, nI MV, nI ME, nI MD, nI N, nI E, nI c, nI r, rk, rn, re, nI (f + 1), 0, vk, vn, ve, nK, oA, oB, oC, iC, pO, vO, cK, cN, cE, tw, dV, dK, dN, dE, pa, ho, fN, fE, fS, k1, k2, k3)) ∧ (∀ post : Int32 → SY → Prop, post fl v' → wpY_step post (nI MN, nI MV, nI ME, nI MD, nI N, nI E, nI c, nI (f + 1), zk, zn, ze, rk, rn, re, nK, oA, oB, oC, pO, vO, yK, yN, yE, fN, fE, fS, l1, l2, l3)) := by
  obtain ⟨a1, a2, a3, a4, a5, a6, a7, a8⟩ := bf.1
  obtain ⟨n, e, s, hn, hnN, he', heE, hs, hs3, hl, h1⟩ := fr f (by omega)
  have hφ2 : rl_sm (rl_fr sz nK oB oC fN fS) f + rl_rm sz nK oB oC n s + 192 * (ME - E) ≤ φ + 1 := by
    have e1 : rl_fr sz nK oB oC fN fS f = rl_rm sz nK oB oC n s := rl_fr_eq hn hs (by omega) (by omega)
    have e2 : rl_sm (rl_fr sz nK oB oC fN fS) (f + 1) = rl_sm (rl_fr sz nK oB oC fN fS) f + rl_fr sz nK oB oC fN fS f := rfl
    rw [e1] at e2
    omega
  have hv : s ≠ 0 → zk = vk ∧ zn = vn ∧ ze = ve ∧ rl_VO N E nK vk vn ve := fun z => hz (by rw [hs]; exact rl_ne (b := 0) (by omega) (by omega) z)
  have nd := (bf.2.1 n hnN).2.2
  have s4 : s = 0 ∨ s = 1 ∨ s = 2 ∨ s = 3 := by omega
  rcases nd with k | ⟨k, v, hv', ev⟩ | ⟨k | k, v, b, hv', ev, hb, eb, z⟩ | ⟨k, a, ha, ea, z⟩ | ⟨k, a, b, ha, ea, hb, eb, z⟩ | ⟨k, a, b, d, ha, ea, hb, eb, hd, ed, z⟩
  · exact rl_c_num bf fr hf hn hnN he hs hφ2 k
  · exact rl_c_var bf fr hf hn hnN he hs hφ2 k hv' ev
  · rcases s4 with s0 | s1 | s2 | s3
    · exact rl_c_set0 bf fr hf hn hnN he hs hφ2 k s0 hb eb z
    · obtain ⟨rfl, rfl, rfl, vo⟩ := hv (by omega)
      exact rl_c_set1 bf fr hf hn hnN he hs hφ2 vo k s1 hv' ev
    · exact absurd k (hl (by omega)).1
    · exact absurd k (hl (by omega)).1
  · exact rl_c_lam bf fr hf hn hnN he hs hφ2 k
  · rcases s4 with s0 | s1 | s2 | s3
    · exact rl_c_s0 bf fr hf hn hnN he hs hφ2 k (by decide) (by decide) (by decide) (by decide) s0 ha ea (by rw [rl_w2_5 k]; omega)
    · obtain ⟨rfl, rfl, rfl, vo⟩ := hv (by omega)
      exact rl_c_close1 bf fr hf hn hnN he hs hφ2 vo k s1
    · exact absurd k (hl (by omega)).2
    · exact absurd k (hl (by omega)).2
  · have nn : nK n ≠ 1 ∧ nK n ≠ 2 ∧ nK n ≠ 3 ∧ nK n ≠ 4 ∧ nK n ≠ 5 ∧ nK n ≠ 8 := by
      rcases k with h | h | h | h | h | h <;> (rw [h]; decide)
    obtain ⟨n1, n2, n3, n4, n5, n8⟩ := nn
    rcases s4 with s0 | s1 | s2 | s3
    · exact rl_c_s0 bf fr hf hn hnN he hs hφ2 rfl n1 n2 n3 n4 s0 ha ea (by rw [rl_w2_b n3 n5 n8 eb (by omega)]; omega)
    · obtain ⟨rfl, rfl, rfl, vo⟩ := hv (by omega)
      by_cases h7 : nK n = 7
      · exact rl_c_in1 bf fr hf hn hnN he hs hφ2 vo h7 s1 hb eb
      · refine rl_c_else1 bf fr hf hn hnN he hs hφ2 vo rfl ?_ s1 hb eb
        rcases k with h | h | h
        · exact Or.inl h
        · exact absurd h h7
        · exact Or.inr h
    · obtain ⟨rfl, rfl, rfl, vo⟩ := hv (by omega)
      rcases k with h | h | h | h
      · exact rl_c_call bf fr hf hn hnN he hs hφ2 vo h s2 (h1 s2 (by rw [h]; decide) n8)
      · exact rl_c_give bf fr hf hn hnN he hs hφ2 vo rfl n1 n2 n3 n4 n5 (Or.inl ⟨s2, Or.inl h⟩)
      · exact rl_c_give bf fr hf hn hnN he hs hφ2 vo rfl n1 n2 n3 n4 n5 (Or.inl ⟨s2, Or.inr (Or.inr h)⟩)
      · have h7 : nK n ≠ 7 := by
          rcases h with h | h | h <;> (rw [h]; decide)
        exact rl_c_calc bf fr hf hn hnN he hs hφ2 rfl h s2 (h1 s2 h7 n8)
    · obtain ⟨rfl, rfl, rfl, vo⟩ := hv (by omega)
      exact rl_c_give bf fr hf hn hnN he hs hφ2 vo rfl n1 n2 n3 n4 n5 (Or.inr s3)
  · rcases s4 with s0 | s1 | s2 | s3
    · exact rl_c_s0 bf fr hf hn hnN he hs hφ2 k (by decide) (by decide) (by decide) (by decide) s0 ha ea (by rw [rl_w2_8 k eb (by omega) ed (by omega)]; omega)
    · obtain ⟨rfl, rfl, rfl, vo⟩ := hv (by omega)
      exact rl_c_if1 bf fr hf hn hnN he hs hφ2 k s1 hb eb hd ed
    · obtain ⟨rfl, rfl, rfl, vo⟩ := hv (by omega)
      exact rl_c_give bf fr hf hn hnN he hs hφ2 vo k (by decide) (by decide) (by decide) (by decide) (by decide) (Or.inl ⟨s2, Or.inr (Or.inl rfl)⟩)
    · obtain ⟨rfl, rfl, rfl, vo⟩ := hv (by omega)
      exact rl_c_give bf fr hf hn hnN he hs hφ2 vo k (by decide) (by decide) (by decide) (by decide) (by decide) (Or.inr s3)
end
/-- a run is over -/
def rl_R0 (u : SX) (v : SY) : Prop := ∀ P : SX → SY → Prop, (∀ {MN MV ME MD N E c r : Nat} {sz : Nat → Nat} {rk rn re vk vn ve : Int32} {nK oA oB oC iC pO vO cK cN cE tw dV dK dN dE pa ho fN fE fS k1 k2 k3 yK yN yE l1 l2 l3 : Nat → Int32}, rl_BF MN MV ME MD N E c r sz nK oA oB oC iC pO vO yK yN yE cK cN cE tw dV dK dN dE → rl_VO N E nK vk vn ve → P (nI MN, nI MV, nI ME, nI MD, nI N, nI E, nI c, nI r, rk, rn, re, nI 0, 0, vk, vn, ve, nK, oA, oB, oC, iC, pO, vO, cK, cN, cE, tw, dV, dK, dN, dE, pa, ho, fN, fE, fS, k1, k2, k3) (nI MN, nI MV, nI ME, nI MD, nI N, nI E, nI c, nI 0, vk, vn, ve, rk, rn, re, nK, oA, oB, oC, pO, vO, yK, yN, yE, fN, fE, fS, l1, l2, l3)) → P u v
def rl_FIN (fl : Int32) (u : SX) (v : SY) : Prop := (fl = 0 ∧ rl_R0 u v) ∨ (fl ≠ 0 ∧ rl_EN fl u v)
def rl_X32 (post : Int32 → SX → Prop) (n : Nat) (x : Int32) (u : SX) : Prop := match u with
  | (mN, mV, mE, mD, nd, ev, cu, rt, rk, rn, re, dp, fl, vk, vn, ve, nK, oA, oB, oC, iC, pO, vO, cK, cN, cE, tw, dV, dK, dN, dE, pa, ho, fN, fE, fS, k1, k2, k3) => wX_run_32 post n x mN mV mE mD nd ev cu rt rk rn re dp fl vk vn ve nK oA oB oC iC pO vO cK cN cE tw dV dK dN dE pa ho fN fE fS k1 k2 k3
def rl_X63 (post : Int32 → SX → Prop) (u : SX) : Prop := match u with
  | (mN, mV, mE, mD, nd, ev, cu, rt, rk, rn, re, dp, fl, vk, vn, ve, nK, oA, oB, oC, iC, pO, vO, cK, cN, cE, tw, dV, dK, dN, dE, pa, ho, fN, fE, fS, k1, k2, k3) => wX_run_63 post mN mV mE mD nd ev cu rt rk rn re dp fl vk vn ve nK oA oB oC iC pO vO cK cN cE tw dV dK dN dE pa ho fN fE fS k1 k2 k3
def rl_Y32 (post : Int32 → SY → Prop) (n : Nat) (x2 x3 : Int32) (v : SY) : Prop := match v with
  | (mN, mV, mE, mD, nd, ev, cu, tp, zk, zn, ze, rk, rn, re, nK, oA, oB, oC, pO, vO, yK, yN, yE, fN, fE, fS, l1, l2, l3) => wY_run_32 post n x2 x3 mN mV mE mD nd ev cu tp zk zn ze rk rn re nK oA oB oC pO vO yK yN yE fN fE fS l1 l2 l3
def rl_Y61 (post : Int32 → SY → Prop) (x2 : Int32) (v : SY) : Prop := match v with
  | (mN, mV, mE, mD, nd, ev, cu, tp, zk, zn, ze, rk, rn, re, nK, oA, oB, oC, pO, vO, yK, yN, yE, fN, fE, fS, l1, l2, l3) => wY_run_61 post x2 mN mV mE mD nd ev cu tp zk zn ze rk rn re nK oA oB oC pO vO yK yN yE fN fE fS l1 l2 l3
theorem rl_loop : ∀ (φ i : Nat) (fl : Int32) (u : SX) (v : SY), rl_OUT φ fl u v → i + φ ≤ 6144 →
    ∃ fl' u' v', rl_FIN fl' u' v' ∧ (∀ (post : Int32 → SX → Prop) (n : Nat), φ < n → rl_X63 post u' → rl_X32 post n (nI i) u) ∧ (∀ (post : Int32 → SY → Prop) (n : Nat), φ < n → rl_Y61 post fl' v' → rl_Y32 post n fl (nI i) v) := by
  intro φ
  induction φ with
  | zero =>
    intro i fl u v out hi
    rcases out with ⟨e, rn⟩ | ⟨ne, en⟩
    · subst e
      refine rn (fun u v => ∃ fl' u' v', rl_FIN fl' u' v' ∧ (∀ (post : Int32 → SX → Prop) (n : Nat), 0 < n → rl_X63 post u' → rl_X32 post n (nI i) u) ∧ (∀ (post : Int32 → SY → Prop) (n : Nat), 0 < n → rl_Y61 post fl' v' → rl_Y32 post n 0 (nI i) v)) ?_
      intro MN MV ME MD N E c r d sz rk rn re vk vn ve zk zn ze nK oA oB oC iC pO vO cK cN cE tw dV dK dN dE pa ho fN fE fS k1 k2 k3 yK yN yE l1 l2 l3 bf fr hd hr hv hφ
      cases d with
      | zero =>
        obtain ⟨rfl, rfl, rfl, vo⟩ := hv (Or.inl rfl)
        refine ⟨0, (nI MN, nI MV, nI ME, nI MD, nI N, nI E, nI c, nI r, rk, rn, re, nI 0, 0, zk, zn, ze, nK, oA, oB, oC, iC, pO, vO, cK, cN, cE, tw, dV, dK, dN, dE, pa, ho, fN, fE, fS, k1, k2, k3), (nI MN, nI MV, nI ME, nI MD, nI N, nI E, nI c, nI 0, zk, zn, ze, rk, rn, re, nK, oA, oB, oC, pO, vO, yK, yN, yE, fN, fE, fS, l1, l2, l3), Or.inl ⟨rfl, fun P K => K bf vo⟩, fun post n hn H => ?_, fun post n hn H => ?_⟩
        · cases n with
          | zero => omega
          | succ n => exact br_c (fun _ => H) (fun _ => br_t (by decide) H)
        · cases n with
          | zero => omega
          | succ n => exact br_c (fun _ => H) (fun _ => br_t (by decide) H)
      | succ f =>
        obtain ⟨n, e, s, hn, hnN, he', heE, hs, hs3, hl, h1⟩ := fr f (by omega)
        have e1 : rl_fr sz nK oB oC fN fS f = rl_rm sz nK oB oC n s := rl_fr_eq hn hs (by have := bf.1; omega) (by omega)
        have e2 : rl_sm (rl_fr sz nK oB oC fN fS) (f + 1) = rl_sm (rl_fr sz nK oB oC fN fS) f + rl_fr sz nK oB oC fN fS f := rfl
        have hrm := rl_rm_pos (nK := nK) (oB := oB) (oC := oC) (bf.2.1 n hnN).1 s
        omega
    · refine ⟨fl, u, v, Or.inr ⟨ne, en⟩, ?_⟩
      refine en (fun u v => (∀ (post : Int32 → SX → Prop) (n : Nat), 0 < n → rl_X63 post u → rl_X32 post n (nI i) u) ∧ (∀ (post : Int32 → SY → Prop) (n : Nat), 0 < n → rl_Y61 post fl v → rl_Y32 post n fl (nI i) v)) ?_
      intro dp tp MN MV ME MD N E c r sz rk rn re vk vn ve zk zn ze nK oA oB oC iC pO vO cK cN cE tw dV dK dN dE pa ho fN fE fS k1 k2 k3 yK yN yE l1 l2 l3 bf
      refine ⟨fun post n hn H => ?_, fun post n hn H => ?_⟩
      · cases n with
        | zero => omega
        | succ n => exact br_c (fun _ => H) (fun _ => br_c (fun _ => H) (fun _ => br_f ne H))
      · cases n with
        | zero => omega
        | succ n => exact br_c (fun _ => H) (fun _ => br_c (fun _ => H) (fun _ => br_f ne H))
  | succ φ ih =>
    intro i fl u v out hi
    rcases out with ⟨e, rn⟩ | ⟨ne, en⟩
    · subst e
      refine rn (fun u v => ∃ fl' u' v', rl_FIN fl' u' v' ∧ (∀ (post : Int32 → SX → Prop) (n : Nat), φ + 1 < n → rl_X63 post u' → rl_X32 post n (nI i) u) ∧ (∀ (post : Int32 → SY → Prop) (n : Nat), φ + 1 < n → rl_Y61 post fl' v' → rl_Y32 post n 0 (nI i) v)) ?_
      intro MN MV ME MD N E c r d sz rk rn re vk vn ve zk zn ze nK oA oB oC iC pO vO cK cN cE tw dV dK dN dE pa ho fN fE fS k1 k2 k3 yK yN yE l1 l2 l3 bf fr hd hr hv hφ
      cases d with
      | zero =>
        obtain ⟨rfl, rfl, rfl, vo⟩ := hv (Or.inl rfl)
        refine ⟨0, (nI MN, nI MV, nI ME, nI MD, nI N, nI E, nI c, nI r, rk, rn, re, nI 0, 0, zk, zn, ze, nK, oA, oB, oC, iC, pO, vO, cK, cN, cE, tw, dV, dK, dN, dE, pa, ho, fN, fE, fS, k1, k2, k3), (nI MN, nI MV, nI ME, nI MD, nI N, nI E, nI c, nI 0, zk, zn, ze, rk, rn, re, nK, oA, oB, oC, pO, vO, yK, yN, yE, fN, fE, fS, l1, l2, l3), Or.inl ⟨rfl, fun P K => K bf vo⟩, fun post n hn H => ?_, fun post n hn H => ?_⟩
        · cases n with
          | zero => omega
          | succ n => exact br_c (fun _ => H) (fun _ => br_t (by decide) H)
        · cases n with
          | zero => omega
          | succ n => exact br_c (fun _ => H) (fun _ => br_t (by decide) H)
      | succ f =>
        obtain ⟨fl1, u1, v1, out1, sX, sY⟩ := rl_step (rk := rk) (rn := rn) (re := re) (pa := pa) (ho := ho) bf fr hd (hr (by omega)) (fun z => hv (Or.inr z)) hφ
        obtain ⟨fl2, u2, v2, fin, hX, hY⟩ := ih (i + 1) fl1 u1 v1 out1 (by omega)
        have hM := bf.1
        refine ⟨fl2, u2, v2, fin, fun post n hn H => ?_, fun post n hn H => ?_⟩
        · cases n with
          | zero => omega
          | succ n =>
            have K := hX post n (by omega) H
            refine br_f (nI_ge (b := 6144) (by omega) (by omega)) (br_f (nI_nle (by omega) (by omega)) (br_t rfl (sX _ ?_)))
            obtain ⟨q1, q2, q3, q4, q5, q6, q7, q8, q9, q10, q11, q12, q13, q14, q15, q16, q17, q18, q19, q20, q21, q22, q23, q24, q25, q26, q27, q28, q29, q30, q31, q32, q33, q34, q35, q36, q37, q38, q39⟩ := u1
            exact nm_r (nI_1 i) K
        · cases n with
          | zero => omega
          | succ n =>
            have K := hY post n (by omega) H
            refine br_f (nI_ge (b := 8192) (by omega) (by omega)) (br_f (nI_nle (by omega) (by omega)) (br_t rfl (sY _ ?_)))
            obtain ⟨w1, w2, w3, w4, w5, w6, w7, w8, w9, w10, w11, w12, w13, w14, w15, w16, w17, w18, w19, w20, w21, w22, w23, w24, w25, w26, w27, w28, w29⟩ := v1
            exact nm_r (nI_1 i) K
    · refine ⟨fl, u, v, Or.inr ⟨ne, en⟩, ?_⟩
      refine en (fun u v => (∀ (post : Int32 → SX → Prop) (n : Nat), φ + 1 < n → rl_X63 post u → rl_X32 post n (nI i) u) ∧ (∀ (post : Int32 → SY → Prop) (n : Nat), φ + 1 < n → rl_Y61 post fl v → rl_Y32 post n fl (nI i) v)) ?_
      intro dp tp MN MV ME MD N E c r sz rk rn re vk vn ve zk zn ze nK oA oB oC iC pO vO cK cN cE tw dV dK dN dE pa ho fN fE fS k1 k2 k3 yK yN yE l1 l2 l3 bf
      refine ⟨fun post n hn H => ?_, fun post n hn H => ?_⟩
      · cases n with
        | zero => omega
        | succ n => exact br_c (fun _ => H) (fun _ => br_c (fun _ => H) (fun _ => br_f ne H))
      · cases n with
        | zero => omega
        | succ n => exact br_c (fun _ => H) (fun _ => br_c (fun _ => H) (fun _ => br_f ne H))
/-- the end of a run -/
theorem rl_fin {kk : Nat} {fl : Int32} {u : SX} {v : SY} (h : rl_FIN fl u v) : ∃ u' v', i_Rel kk u' v' ∧ (∀ post : Int32 → SX → Prop, post fl u' → rl_X63 post u) ∧ (∀ post : Int32 → SY → Prop, post fl v' → rl_Y61 post fl v) := by
  rcases h with ⟨e, rn⟩ | ⟨ne, en⟩
  · subst e
    refine rn (fun u v => ∃ u' v', i_Rel kk u' v' ∧ (∀ post : Int32 → SX → Prop, post 0 u' → rl_X63 post u) ∧ (∀ post : Int32 → SY → Prop, post 0 v' → rl_Y61 post 0 v)) ?_
    intro MN MV ME MD N E c r sz rk rn re vk vn ve nK oA oB oC iC pO vO cK cN cE tw dV dK dN dE pa ho fN fE fS k1 k2 k3 yK yN yE l1 l2 l3 bf vo
    obtain ⟨a1, a2, a3, a4, a5, a6, a7, a8⟩ := bf.1
    obtain ⟨pa', cK', cN', cE', tw', dV', dK', dN', dE', er', H⟩ := rx_reroot (mN := nI MN) (mV := nI MV) (mE := nI ME) (mD := nI MD) (nd := nI N) (ev := nI E) (cu := nI c) (rk := vk) (rn := vn) (re := ve) (dp := 0) (fl := 0) (vk := vk) (vn := vn) (ve := ve) (nK := nK) (oA := oA) (oB := oB) (oC := oC) (iC := iC) (pa := pa) (ho := ho) (fN := fN) (fE := fE) (fS := fS) (k1 := k1) (k2 := k2) (k3 := k3) bf.2.2.2.1 (r := r) a8 bf.2.2.2.2.1 (e := c) a7
    have bf2 := rl_BF_root (c' := c) (r' := c) bf a7 a7 er'
    refine ⟨(nI MN, nI MV, nI ME, nI MD, nI N, nI E, nI c, nI c, vk, vn, ve, 0, 0, vk, vn, ve, nK, oA, oB, oC, iC, pO, vO, cK', cN', cE', tw', dV', dK', dN', dE', pa', ho, fN, fE, fS, k1, k2, k3), (nI MN, nI MV, nI ME, nI MD, nI N, nI E, nI c, nI 0, vk, vn, ve, vk, vn, ve, nK, oA, oB, oC, pO, vO, yK, yN, yE, fN, fE, fS, l1, l2, l3), rl_rel bf2 vo, fun post hp => ?_, fun post hp => ?_⟩
    · exact br_t rfl (H _ hp)
    · exact br_t rfl (br_f (by decide) (br_f (by decide) (br_f (by decide) hp)))
  · refine en (fun u v => ∃ u' v', i_Rel kk u' v' ∧ (∀ post : Int32 → SX → Prop, post fl u' → rl_X63 post u) ∧ (∀ post : Int32 → SY → Prop, post fl v' → rl_Y61 post fl v)) ?_
    intro dp tp MN MV ME MD N E c r sz rk rn re vk vn ve zk zn ze nK oA oB oC iC pO vO cK cN cE tw dV dK dN dE pa ho fN fE fS k1 k2 k3 yK yN yE l1 l2 l3 bf
    obtain ⟨a1, a2, a3, a4, a5, a6, a7, a8⟩ := bf.1
    obtain ⟨pa', cK', cN', cE', tw', dV', dK', dN', dE', er', H⟩ := rx_reroot (mN := nI MN) (mV := nI MV) (mE := nI ME) (mD := nI MD) (nd := nI N) (ev := nI E) (cu := nI c) (rk := 1) (rn := 0) (re := 0) (dp := 0) (fl := fl) (vk := 1) (vn := 0) (ve := 0) (nK := nK) (oA := oA) (oB := oB) (oC := oC) (iC := iC) (pa := pa) (ho := ho) (fN := fN) (fE := fE) (fS := fS) (k1 := k1) (k2 := k2) (k3 := k3) bf.2.2.2.1 (r := r) a8 bf.2.2.2.2.1 (e := c) a7
    have bf2 := rl_BF_root (c' := c) (r' := c) bf a7 a7 er'
    refine ⟨(nI MN, nI MV, nI ME, nI MD, nI N, nI E, nI c, nI c, 1, 0, 0, 0, fl, 1, 0, 0, nK, oA, oB, oC, iC, pO, vO, cK', cN', cE', tw', dV', dK', dN', dE', pa', ho, fN, fE, fS, k1, k2, k3), (nI MN, nI MV, nI ME, nI MD, nI N, nI E, nI c, tp, zk, zn, ze, 1, 0, 0, nK, oA, oB, oC, pO, vO, yK, yN, yE, fN, fE, fS, l1, l2, l3), rl_rel bf2 (Or.inl rfl), fun post hp => ?_, fun post hp => ?_⟩
    · exact br_f ne (H _ hp)
    · exact br_f ne (br_t rfl (br_t rfl (br_t rfl hp)))
section
variable {dp fl tp : Int32} {MN MV ME MD N E c r : Nat} {sz : Nat → Nat} {rk rn re vk vn ve zk zn ze : Int32} {nK oA oB oC iC pO vO cK cN cE tw dV dK dN dE pa ho fN fE fS k1 k2 k3 yK yN yE l1 l2 l3 : Nat → Int32}
theorem rl_vc_run {kk : Nat} (x : Int32) (bf : rl_BF MN MV ME MD N E c r sz nK oA oB oC iC pO vO yK yN yE cK cN cE tw dV dK dN dE) (vo : rl_VO N E nK rk rn re) :
    wpX_run (fun q u' => wpY_run (fun q' v' => q' = q ∧ i_Rel kk u' v') (nI MN, nI MV, nI ME, nI MD, nI N, nI E, nI c, tp, zk, zn, ze, rk, rn, re, nK, oA, oB, oC, pO, vO, yK, yN, yE, fN, fE, fS, l1, l2, l3) x) (nI MN, nI MV, nI ME, nI MD, nI N, nI E, nI c, nI r, rk, rn, re, dp, fl, vk, vn, ve, nK, oA, oB, oC, iC, pO, vO, cK, cN, cE, tw, dV, dK, dN, dE, pa, ho, fN, fE, fS, k1, k2, k3) x := by
  obtain ⟨a1, a2, a3, a4, a5, a6, a7, a8⟩ := bf.1
  by_cases h0 : x < 0
  · exact br_t h0 (br_t rfl (br_t h0 ⟨rfl, rl_rel bf vo⟩))
  · by_cases h1 : nI N ≤ x
    · exact br_f h0 (br_t h1 (br_t rfl (br_f h0 (br_f (Int32.not_lt.mpr h1) ⟨rfl, rl_rel bf vo⟩))))
    · have h2 := Int32.not_le.mp h1
      obtain ⟨n, hn31, rfl⟩ := nI_of h0
      have hnN := h2
      rw [nI_ltI hn31 (by omega)] at hnN
      have hz := (bf.2.1 n hnN).2.1
      have hE := bf.2.2.2.1.1
      obtain ⟨fl1, u1, v1, out1, bX, bY⟩ := rl_begin (φ := 6144) (d := 0) (n := n) (e := c) (rk := rk) (rn := rn) (re := re) (vk := vk) (vn := vn) (ve := ve) (zk := zk) (zn := zn) (ze := ze) (pa := pa) (ho := ho) (fN := fN) (fE := fE) (fS := fS) (k1 := k1) (k2 := k2) (k3 := k3) (l1 := l1) (l2 := l2) (l3 := l3) bf (fun t ht => by omega) (by omega) hnN a7 (by
        have : rl_sm (rl_fr sz nK oB oC fN fS) 0 = 0 := rfl
        omega)
      obtain ⟨fl2, u2, v2, fin, lX, lY⟩ := rl_loop 6144 0 fl1 u1 v1 out1 (by omega)
      obtain ⟨u3, v3, rel, fX, fY⟩ := rl_fin (kk := kk) fin
      have KY : wpY_run (fun q' v' => q' = fl2 ∧ i_Rel kk u3 v') (nI MN, nI MV, nI ME, nI MD, nI N, nI E, nI c, tp, zk, zn, ze, rk, rn, re, nK, oA, oB, oC, pO, vO, yK, yN, yE, fN, fE, fS, l1, l2, l3) (nI n) := by
        refine br_f h0 (br_t h2 (bY _ ?_))
        have Z := lY (fun q' v' => q' = fl2 ∧ i_Rel kk u3 v') 6145 (by omega) (fY _ ⟨rfl, rel⟩)
        obtain ⟨w1, w2, w3, w4, w5, w6, w7, w8, w9, w10, w11, w12, w13, w14, w15, w16, w17, w18, w19, w20, w21, w22, w23, w24, w25, w26, w27, w28, w29⟩ := v1
        exact ⟨6145, Z⟩
      refine br_f h0 (br_f h1 (br_f (by decide) (bX _ ?_)))
      have Z := lX (fun q u' => wpY_run (fun q' v' => q' = q ∧ i_Rel kk u' v') (nI MN, nI MV, nI ME, nI MD, nI N, nI E, nI c, tp, zk, zn, ze, rk, rn, re, nK, oA, oB, oC, pO, vO, yK, yN, yE, fN, fE, fS, l1, l2, l3) (nI n)) 6145 (by omega) (fX _ KY)
      obtain ⟨q1, q2, q3, q4, q5, q6, q7, q8, q9, q10, q11, q12, q13, q14, q15, q16, q17, q18, q19, q20, q21, q22, q23, q24, q25, q26, q27, q28, q29, q30, q31, q32, q33, q34, q35, q36, q37, q38, q39⟩ := u1
      exact ⟨6145, Z⟩
end
end
section
/-! part 19: release -/
def rl_hit (k e : Int32) (j : Nat) : Nat := if k = 3 ∧ e = nI j then 1 else 0
/-- how many values hold j, of the bindings those below E -/
def rl_D (MV E : Nat) (rk re : Int32) (yK yE : Nat → Int32) (j : Nat) : Nat := rl_hit rk re j + rl_sm (fun u => rl_hit (yK u) (yE u) j) MV + rl_sm (fun u => rl_hit (yK (8 + (u + 1))) (yE (8 + (u + 1))) j) (E - 1)
def rl_h1 (ho : Nat → Int32) (k e p : Int32) : Nat → Int32 := if k = 3 then upd ho e.toNatClampNeg (ho e.toNatClampNeg + p) else ho
theorem rl_hit_le (k e : Int32) (j : Nat) : rl_hit k e j ≤ 1 := by
  unfold rl_hit
  by_cases h : k = 3 ∧ e = nI j
  · rw [if_pos h]; omega
  · rw [if_neg h]; omega
theorem rl_hit_0 {k e : Int32} {j : Nat} (h : rl_hit k e j = 0) : ¬ (k = 3 ∧ e = nI j) := by
  intro z
  unfold rl_hit at h
  rw [if_pos z] at h
  omega
theorem rl_sm_le {f : Nat → Nat} (h : ∀ u, f u ≤ 1) : ∀ n, rl_sm f n ≤ n := by
  intro n
  induction n with
  | zero => exact Nat.le_refl 0
  | succ n ih =>
    have := h n
    show rl_sm f n + f n ≤ n + 1
    omega
theorem rl_sm_0 {f : Nat → Nat} : ∀ n, rl_sm f n = 0 → ∀ u, u < n → f u = 0 := by
  intro n
  induction n with
  | zero => intro _ u hu; omega
  | succ n ih =>
    intro h u hu
    have h' : rl_sm f n + f n = 0 := h
    by_cases e : u = n
    · subst e; omega
    · exact ih (by omega) u (by omega)
theorem rl_sm_pos {f : Nat → Nat} : ∀ n, ¬ rl_sm f n = 0 → ∃ u, u < n ∧ ¬ f u = 0 := by
  intro n
  induction n with
  | zero => intro h; exact absurd rfl h
  | succ n ih =>
    intro h
    have h' : ¬ rl_sm f n + f n = 0 := h
    by_cases e : f n = 0
    · obtain ⟨u, hu, hz⟩ := ih (by omega)
      exact ⟨u, by omega, hz⟩
    · exact ⟨n, by omega, e⟩
theorem rl_hit_1 {k e : Int32} {j : Nat} (h : ¬ rl_hit k e j = 0) : k = 3 ∧ e = nI j := by
  by_cases z : k = 3 ∧ e = nI j
  · exact z
  · unfold rl_hit at h
    rw [if_neg z] at h
    exact absurd rfl h
theorem rl_h1_up {ho : Nat → Int32} {k e : Int32} {cnt : Nat → Nat} (hk : k = 3 → ∃ i, i < 32 ∧ e = nI i) (h : ∀ j, j < 32 → ho j = nI (cnt j)) : ∀ j, j < 32 → rl_h1 ho k e 1 j = nI (cnt j + rl_hit k e j) := by
  intro j hj
  unfold rl_h1 rl_hit
  by_cases h3 : k = 3
  · obtain ⟨i, hi, e1⟩ := hk h3
    rw [if_pos h3, e1, rl_c (by omega)]
    by_cases hij : j = i
    · subst hij
      rw [pk_us, if_pos ⟨h3, rfl⟩, h j hj, nI_1]
    · rw [pk_un hij, if_neg (fun z => hij (rl_inj (by omega) (by omega) z.2).symm), h j hj]
      rfl
  · rw [if_neg h3, if_neg (fun z => h3 z.1), h j hj]
    rfl
theorem rl_h1_dn {ho : Nat → Int32} {k e : Int32} {cnt : Nat → Nat} (hk : k = 3 → ∃ i, i < 32 ∧ e = nI i) (h : ∀ j, j < 32 → ho j = nI (cnt j + rl_hit k e j)) : ∀ j, j < 32 → rl_h1 ho k e (-1) j = nI (cnt j) := by
  intro j hj
  have h := h j hj
  unfold rl_h1
  unfold rl_hit at h
  by_cases h3 : k = 3
  · obtain ⟨i, hi, e1⟩ := hk h3
    rw [if_pos h3, e1, rl_c (by omega)]
    by_cases hij : j = i
    · subst hij
      rw [if_pos ⟨h3, e1⟩] at h
      rw [pk_us, h, pk_m1]
    · rw [e1, if_neg (fun z => hij (rl_inj (by omega) (by omega) z.2).symm)] at h
      rw [pk_un hij, h]
      rfl
  · rw [if_neg (fun z => h3 z.1)] at h
    rw [if_neg h3, h]
    rfl
section
variable {mN mV mE mD nd ev cu rt rk rn re dp fl vk vn ve : Int32} {nK oA oB oC iC pO vO cK cN cE tw dV dK dN dE pa ho fN fE fS k1 k2 k3 : Nat → Int32}
theorem rx_hold {post : SX → Prop} {k e p : Int32} (hk : k = 3 → ∃ i, i < 32 ∧ e = nI i) (h : post (mN, mV, mE, mD, nd, ev, cu, rt, rk, rn, re, dp, fl, vk, vn, ve, nK, oA, oB, oC, iC, pO, vO, cK, cN, cE, tw, dV, dK, dN, dE, pa, rl_h1 ho k e p, fN, fE, fS, k1, k2, k3)) : wpX_hold post (mN, mV, mE, mD, nd, ev, cu, rt, rk, rn, re, dp, fl, vk, vn, ve, nK, oA, oB, oC, iC, pO, vO, cK, cN, cE, tw, dV, dK, dN, dE, pa, ho, fN, fE, fS, k1, k2, k3) k e p := by
  unfold rl_h1 at h
  by_cases h3 : k = 3
  · rw [if_pos h3] at h
    obtain ⟨i, hi, e1⟩ := hk h3
    have ji : vp_in e 32 := by rw [e1]; exact rl_in hi (by omega)
    exact br_t h3 ⟨ji, ji, nm_e h⟩
  · rw [if_neg h3] at h
    exact br_f h3 h
end
section
variable {mN mV mE mD nd ev cu rt rk rn re dp fl vk vn ve : Int32} {nK oA oB oC iC pO vO cK cN cE tw dV dK dN dE pa fN fE fS k1 k2 k3 : Nat → Int32} {MV E : Nat}
theorem rx_ch2 : ∀ (dd x : Nat) (ho : Nat → Int32), x + dd = 32 → (∀ j, j < x → ho j = nI 0) →
    ∃ ho', (∀ j, j < 32 → ho' j = nI 0) ∧ ∀ (post : SX → Prop) (n : Nat), dd < n → wpX_hold (fun u => match u with | (mN, mV, mE, mD, nd, ev, cu, rt, rk, rn, re, dp, fl, vk, vn, ve, nK, oA, oB, oC, iC, pO, vO, cK, cN, cE, tw, dV, dK, dN, dE, pa, ho, fN, fE, fS, k1, k2, k3) => ∃ q : Nat, wX_countHolds_36 post q 0 mN mV mE mD nd ev cu rt rk rn re dp fl vk vn ve nK oA oB oC iC pO vO cK cN cE tw dV dK dN dE pa ho fN fE fS k1 k2 k3) (mN, mV, mE, mD, nd, ev, cu, rt, rk, rn, re, dp, fl, vk, vn, ve, nK, oA, oB, oC, iC, pO, vO, cK, cN, cE, tw, dV, dK, dN, dE, pa, ho', fN, fE, fS, k1, k2, k3) rk re 1 → wX_countHolds_2 post mN mV mE mD nd ev cu rt rk rn re dp fl vk vn ve n (nI x) nK oA oB oC iC pO vO cK cN cE tw dV dK dN dE pa ho fN fE fS k1 k2 k3 := by
  intro dd
  induction dd with
  | zero =>
    intro x ho hx h
    refine ⟨ho, fun j hj => h j (by omega), ?_⟩
    intro post n hn H
    have e : x = 32 := by omega
    subst e
    cases n with
    | zero => omega
    | succ n => exact br_t (by decide) H
  | succ dd ih =>
    intro x ho hx h
    obtain ⟨ho', h', H⟩ := ih (x + 1) (upd ho x 0) (by omega) (by
      intro u hu
      by_cases e : u = x
      · subst e; exact pk_us
      · rw [pk_un e]; exact h u (by omega))
    refine ⟨ho', h', ?_⟩
    intro post n hn K
    cases n with
    | zero => omega
    | succ n =>
      have cx := rl_c (n := x) (by omega)
      exact br_f (nI_ge (b := 32) (by omega) (by omega)) ⟨rl_in (by omega) (by omega), nm_r (e' := upd ho x 0) (by rw [cx]) (nm_r (nI_1 x) (H post n (by omega) K))⟩
theorem rx_ch36 (hM : MV ≤ 8) (hv : ∀ v, v < MV → cK v = 3 → ∃ i, i < 32 ∧ cE v = nI i) (cnt : Nat → Nat) : ∀ (dd v : Nat) (ho : Nat → Int32), v + dd = MV → (∀ j, j < 32 → ho j = nI (cnt j + rl_sm (fun u => rl_hit (cK u) (cE u) j) v)) →
    ∃ ho', (∀ j, j < 32 → ho' j = nI (cnt j + rl_sm (fun u => rl_hit (cK u) (cE u) j) MV)) ∧ ∀ (post : SX → Prop) (n : Nat), dd < n → (∃ q, wX_countHolds_69 post q 1 mN (nI MV) mE mD nd ev cu rt rk rn re dp fl vk vn ve nK oA oB oC iC pO vO cK cN cE tw dV dK dN dE pa ho' fN fE fS k1 k2 k3) → wX_countHolds_36 post n (nI v) mN (nI MV) mE mD nd ev cu rt rk rn re dp fl vk vn ve nK oA oB oC iC pO vO cK cN cE tw dV dK dN dE pa ho fN fE fS k1 k2 k3 := by
  intro dd
  induction dd with
  | zero =>
    intro v ho hx h
    have e : v = MV := by omega
    subst e
    refine ⟨ho, h, ?_⟩
    intro post n hn H
    cases n with
    | zero => omega
    | succ n => exact br_t (nI_le (by omega) (by omega)) H
  | succ dd ih =>
    intro v ho hx h
    have hvv := hv v (by omega)
    obtain ⟨ho', h', H⟩ := ih (v + 1) (rl_h1 ho (cK v) (cE v) 1) (by omega) (fun j hj => by
      have := rl_h1_up hvv h j hj
      rw [this, Nat.add_assoc]
      rfl)
    refine ⟨ho', h', ?_⟩
    intro post n hn K
    cases n with
    | zero => omega
    | succ n =>
      have cx := rl_c (n := v) (by omega)
      have jv := rl_in (n := v) (N := 8) (by omega) (by omega)
      refine br_f (nI_ge (by omega) (by omega)) ⟨jv, jv, ?_⟩
      rw [cx]
      exact rx_hold hvv (nm_r (nI_1 v) (H post n (by omega) K))
theorem rx_ch69 (hE : E ≤ 32) (hv : ∀ x, 0 < x → x < E → dK x = 3 → ∃ i, i < 32 ∧ dE x = nI i) (cnt : Nat → Nat) : ∀ (dd y : Nat) (ho : Nat → Int32), y + 1 + dd = E → (∀ j, j < 32 → ho j = nI (cnt j + rl_sm (fun u => rl_hit (dK (u + 1)) (dE (u + 1)) j) y)) →
    ∃ ho', (∀ j, j < 32 → ho' j = nI (cnt j + rl_sm (fun u => rl_hit (dK (u + 1)) (dE (u + 1)) j) (E - 1))) ∧ ∀ (post : SX → Prop) (n : Nat), dd < n → post (mN, mV, mE, mD, nd, nI E, cu, rt, rk, rn, re, dp, fl, vk, vn, ve, nK, oA, oB, oC, iC, pO, vO, cK, cN, cE, tw, dV, dK, dN, dE, pa, ho', fN, fE, fS, k1, k2, k3) → wX_countHolds_69 post n (nI (y + 1)) mN mV mE mD nd (nI E) cu rt rk rn re dp fl vk vn ve nK oA oB oC iC pO vO cK cN cE tw dV dK dN dE pa ho fN fE fS k1 k2 k3 := by
  intro dd
  induction dd with
  | zero =>
    intro y ho hx h
    have e : y = E - 1 := by omega
    refine ⟨ho, by rw [← e]; exact h, ?_⟩
    intro post n hn H
    cases n with
    | zero => omega
    | succ n => exact br_t (nI_le (by omega) (by omega)) H
  | succ dd ih =>
    intro y ho hx h
    have hvv := hv (y + 1) (by omega) (by omega)
    obtain ⟨ho', h', H⟩ := ih (y + 1) (rl_h1 ho (dK (y + 1)) (dE (y + 1)) 1) (by omega) (fun j hj => by
      have := rl_h1_up hvv h j hj
      rw [this, Nat.add_assoc]
      rfl)
    refine ⟨ho', h', ?_⟩
    intro post n hn K
    cases n with
    | zero => omega
    | succ n =>
      have cx := rl_c (n := y + 1) (by omega)
      have jv := rl_in (n := y + 1) (N := 32) (by omega) (by omega)
      refine br_f (nI_ge (by omega) (by omega)) ⟨jv, jv, ?_⟩
      rw [cx]
      exact rx_hold hvv (nm_r (nI_1 (y + 1)) (H post n (by omega) K))
end
end
section
/-! part 20: release, both sides -/
section
variable {mN mE mD nd cu rt rk rn re dp fl vk vn ve : Int32} {nK oA oB oC iC pO vO cK cN cE tw dV dK dN dE pa fN fE fS k1 k2 k3 : Nat → Int32} {MV E : Nat}
theorem rx_countHolds (ho : Nat → Int32) (hM : MV ≤ 8) (hE1 : 1 ≤ E) (hE : E ≤ 32) (h0 : rk = 3 → ∃ i, i < 32 ∧ re = nI i) (h1 : ∀ v, v < MV → cK v = 3 → ∃ i, i < 32 ∧ cE v = nI i) (h2 : ∀ x, 0 < x → x < E → dK x = 3 → ∃ i, i < 32 ∧ dE x = nI i) :
    ∃ ho', (∀ j, j < 32 → ho' j = nI (rl_hit rk re j + rl_sm (fun u => rl_hit (cK u) (cE u) j) MV + rl_sm (fun u => rl_hit (dK (u + 1)) (dE (u + 1)) j) (E - 1))) ∧ ∀ post : SX → Prop, post (mN, nI MV, mE, mD, nd, nI E, cu, rt, rk, rn, re, dp, fl, vk, vn, ve, nK, oA, oB, oC, iC, pO, vO, cK, cN, cE, tw, dV, dK, dN, dE, pa, ho', fN, fE, fS, k1, k2, k3) → wpX_countHolds post (mN, nI MV, mE, mD, nd, nI E, cu, rt, rk, rn, re, dp, fl, vk, vn, ve, nK, oA, oB, oC, iC, pO, vO, cK, cN, cE, tw, dV, dK, dN, dE, pa, ho, fN, fE, fS, k1, k2, k3) := by
  obtain ⟨o1, z1, H1⟩ := rx_ch2 (mN := mN) (mV := nI MV) (mE := mE) (mD := mD) (nd := nd) (ev := nI E) (cu := cu) (rt := rt) (rk := rk) (rn := rn) (re := re) (dp := dp) (fl := fl) (vk := vk) (vn := vn) (ve := ve) (nK := nK) (oA := oA) (oB := oB) (oC := oC) (iC := iC) (pO := pO) (vO := vO) (cK := cK) (cN := cN) (cE := cE) (tw := tw) (dV := dV) (dK := dK) (dN := dN) (dE := dE) (pa := pa) (fN := fN) (fE := fE) (fS := fS) (k1 := k1) (k2 := k2) (k3 := k3) 32 0 ho rfl (fun j hj => by omega)
  obtain ⟨o2, z2, H2⟩ := rx_ch36 (mN := mN) (mE := mE) (mD := mD) (nd := nd) (ev := nI E) (cu := cu) (rt := rt) (rk := rk) (rn := rn) (re := re) (dp := dp) (fl := fl) (vk := vk) (vn := vn) (ve := ve) (nK := nK) (oA := oA) (oB := oB) (oC := oC) (iC := iC) (pO := pO) (vO := vO) (cN := cN) (tw := tw) (dV := dV) (dK := dK) (dN := dN) (dE := dE) (pa := pa) (fN := fN) (fE := fE) (fS := fS) (k1 := k1) (k2 := k2) (k3 := k3) hM h1 (rl_hit rk re) MV 0 (rl_h1 o1 rk re 1) (by omega) (fun j hj => by
    have := rl_h1_up (cnt := fun _ => 0) h0 z1 j hj
    rw [this]
    exact congrArg nI (Nat.zero_add _))
  obtain ⟨o3, z3, H3⟩ := rx_ch69 (mN := mN) (mV := nI MV) (mE := mE) (mD := mD) (nd := nd) (cu := cu) (rt := rt) (rk := rk) (rn := rn) (re := re) (dp := dp) (fl := fl) (vk := vk) (vn := vn) (ve := ve) (nK := nK) (oA := oA) (oB := oB) (oC := oC) (iC := iC) (pO := pO) (vO := vO) (cK := cK) (cN := cN) (cE := cE) (tw := tw) (dV := dV) (dN := dN) (pa := pa) (fN := fN) (fE := fE) (fS := fS) (k1 := k1) (k2 := k2) (k3 := k3) hE h2 (fun j => rl_hit rk re j + rl_sm (fun u => rl_hit (cK u) (cE u) j) MV) (E - 1) 0 o2 (by omega) z2
  refine ⟨o3, z3, fun post hp => ⟨33, H1 post 33 (by omega) (rx_hold h0 ⟨MV + 1, ?_⟩)⟩⟩
  exact H2 post (MV + 1) (by omega) ⟨E, H3 post E (by omega) hp⟩
end
section
variable {mN mV mE mD nd ev cu tp zk zn ze rk rn re : Int32} {nK oA oB oC pO vO yK yN yE fN fE fS l1 l2 l3 : Nat → Int32} {h MV c : Nat}
theorem ry_held66 {post : Int32 → Prop} (hh : h < 32) (h1 : (∃ u, 1 ≤ u ∧ u < h ∧ yK (8 + u) = 3 ∧ yE (8 + u) = nI h) → post 1) (h0 : ¬ (∃ u, 1 ≤ u ∧ u < h ∧ yK (8 + u) = 3 ∧ yE (8 + u) = nI h) → post 0) :
    ∀ dd e, 1 ≤ e → h ≤ e + dd → (∀ u, 1 ≤ u → u < e → ¬ (yK (8 + u) = 3 ∧ yE (8 + u) = nI h)) → e < 64 → wY_held_66 post (nI h) mN mV mE mD nd ev cu tp zk zn ze rk rn re nK oA oB oC pO vO yK yN yE fN fE fS l1 l2 l3 (dd + 1) (nI e) := by
  intro dd
  induction dd with
  | zero =>
    intro e he hd hn he64
    refine br_t (nI_le (by omega) (by omega)) (h0 ?_)
    rintro ⟨u, u1, u2, u3⟩
    exact hn u u1 (by omega) u3
  | succ dd ih =>
    intro e he hd hn he64
    by_cases hle : h ≤ e
    · refine br_t (nI_le hle (by omega)) (h0 ?_)
      rintro ⟨u, u1, u2, u3⟩
      exact hn u u1 (by omega) u3
    · have e8 : (8 : Int32) + nI e = nI (8 + e) := nI_add 8 e
      have c8 : (nI (8 + e)).toNatClampNeg = 8 + e := rl_c (by omega)
      have j8 : vp_in (nI (8 + e)) 40 := rl_in (by omega) (by omega)
      refine br_f (nI_ge (by omega) (by omega)) ?_
      rw [e8, c8]
      have nx : ¬ (yK (8 + e) = 3 ∧ yE (8 + e) = nI h) → wY_held_66 post (nI h) mN mV mE mD nd ev cu tp zk zn ze rk rn re nK oA oB oC pO vO yK yN yE fN fE fS l1 l2 l3 (dd + 1) (nI (e + 1)) := by
        intro z
        refine ih (e + 1) (by omega) (by omega) (fun u u1 u2 => ?_) (by omega)
        by_cases eu : u = e
        · rw [eu]; exact z
        · exact hn u u1 (by omega)
      refine ⟨j8, br_c (fun a => ⟨j8, br_c (fun b => h1 ⟨e, he, by omega, a, b⟩) (fun b => nm_r (nI_1 e) (nx (fun z => b z.2)))⟩) (fun a => nm_r (nI_1 e) (nx (fun z => a z.1)))⟩
theorem ry_held28 {post : Int32 → Prop} (hM : MV ≤ 8) (h1 : (∃ v, v < MV ∧ yK v = 3 ∧ yE v = nI h) → post 1) (h0 : ¬ (∃ v, v < MV ∧ yK v = 3 ∧ yE v = nI h) → ∃ n, wY_held_66 post (nI h) mN (nI MV) mE mD nd ev cu tp zk zn ze rk rn re nK oA oB oC pO vO yK yN yE fN fE fS l1 l2 l3 n 1) :
    ∀ dd e, e + dd = MV → (∀ u, u < e → ¬ (yK u = 3 ∧ yE u = nI h)) → wY_held_28 post (nI h) mN (nI MV) mE mD nd ev cu tp zk zn ze rk rn re nK oA oB oC pO vO yK yN yE fN fE fS l1 l2 l3 (dd + 1) (nI e) := by
  intro dd
  induction dd with
  | zero =>
    intro e hd hn
    refine br_t (nI_le (by omega) (by omega)) (h0 ?_)
    rintro ⟨u, u2, u3⟩
    exact hn u (by omega) u3
  | succ dd ih =>
    intro e hd hn
    have c8 : (nI e).toNatClampNeg = e := rl_c (by omega)
    have j8 : vp_in (nI e) 40 := rl_in (by omega) (by omega)
    refine br_f (nI_ge (by omega) (by omega)) ?_
    rw [c8]
    have nx : ¬ (yK e = 3 ∧ yE e = nI h) → wY_held_28 post (nI h) mN (nI MV) mE mD nd ev cu tp zk zn ze rk rn re nK oA oB oC pO vO yK yN yE fN fE fS l1 l2 l3 (dd + 1) (nI (e + 1)) := by
      intro z
      refine ih (e + 1) (by omega) (fun u u2 => ?_)
      by_cases eu : u = e
      · rw [eu]; exact z
      · exact hn u (by omega)
    refine ⟨j8, br_c (fun a => ⟨j8, br_c (fun b => h1 ⟨e, by omega, a, b⟩) (fun b => nm_r (nI_1 e) (nx (fun z => b z.2)))⟩) (fun a => nm_r (nI_1 e) (nx (fun z => a z.1)))⟩
theorem ry_held {post : Int32 → Prop} (hh : h < 32) (hc : c < 32) (hM : MV ≤ 8) (h1 : (h = c ∨ ¬ rl_D MV h rk re yK yE h = 0) → post 1) (h0 : h ≠ c → rl_D MV h rk re yK yE h = 0 → post 0) : wpY_held post (mN, nI MV, mE, mD, nd, ev, nI c, tp, zk, zn, ze, rk, rn, re, nK, oA, oB, oC, pO, vO, yK, yN, yE, fN, fE, fS, l1, l2, l3) (nI h) := by
  by_cases e : h = c
  · exact br_t (congrArg nI e) (h1 (Or.inl e))
  · refine br_f (rl_ne (by omega) (by omega) e) ?_
    by_cases hr : rk = 3 ∧ re = nI h
    · refine br_t hr.1 (br_t hr.2 (h1 (Or.inr (fun z => ?_))))
      unfold rl_D at z
      exact rl_hit_0 (by omega) hr
    · have y : ∃ n, wY_held_28 post (nI h) mN (nI MV) mE mD nd ev (nI c) tp zk zn ze rk rn re nK oA oB oC pO vO yK yN yE fN fE fS l1 l2 l3 n 0 := by
        refine ⟨MV + 1, ry_held28 hM (fun z => ?_) (fun z => ⟨33, ry_held66 hh (fun w => ?_) (fun w => ?_) 32 1 (by omega) (by omega) (fun u _ _ => by omega) (by omega)⟩) MV 0 (by omega) (fun u hu => by omega)⟩
        · obtain ⟨v, hv, hz⟩ := z
          refine h1 (Or.inr (fun w => ?_))
          unfold rl_D at w
          exact rl_hit_0 (rl_sm_0 (f := fun u => rl_hit (yK u) (yE u) h) MV (by omega) v hv) hz
        · obtain ⟨u, u1, u2, u3⟩ := w
          refine h1 (Or.inr (fun w => ?_))
          unfold rl_D at w
          have := rl_sm_0 (f := fun u => rl_hit (yK (8 + (u + 1))) (yE (8 + (u + 1))) h) (h - 1) (by omega) (u - 1) (by omega)
          have hu : u - 1 + 1 = u := by omega
          rw [hu] at this
          exact rl_hit_0 this u3
        · refine h0 e ?_
          unfold rl_D
          have d1 : rl_hit rk re h = 0 := if_neg hr
          have d2 : rl_sm (fun u => rl_hit (yK u) (yE u) h) MV = 0 := by
            by_cases q : rl_sm (fun u => rl_hit (yK u) (yE u) h) MV = 0
            · exact q
            · obtain ⟨u, hu, hz⟩ := rl_sm_pos MV q
              exact absurd ⟨u, hu, rl_hit_1 hz⟩ z
          have d3 : rl_sm (fun u => rl_hit (yK (8 + (u + 1))) (yE (8 + (u + 1))) h) (h - 1) = 0 := by
            by_cases q : rl_sm (fun u => rl_hit (yK (8 + (u + 1))) (yE (8 + (u + 1))) h) (h - 1) = 0
            · exact q
            · obtain ⟨u, hu, hz⟩ := rl_sm_pos (h - 1) q
              exact absurd ⟨u + 1, by omega, by omega, rl_hit_1 hz⟩ w
          omega
      exact br_c (fun a => br_c (fun b => absurd ⟨a, b⟩ hr) (fun _ => y)) (fun _ => y)
end
section
variable {MN MV ME MD N E c : Nat} {sz : Nat → Nat} {rk rn re dp fl vk vn ve tp zk zn ze : Int32} {nK oA oB oC iC pO vO cK cN cE tw dV dK dN dE pa fN fE fS k1 k2 k3 yK yN yE l1 l2 l3 : Nat → Int32}
/-- at the root 0 a difference is an environment's own binding -/
theorem rl_ER_0 (pf : rl_PF E pO vO) (er : rl_ER E 0 pO vO yK yN yE cK cN cE tw dV dK dN dE) {x : Nat} (x0 : 0 < x) (hx : x < E) : dK x = yK (8 + x) ∧ dE x = yE (8 + x) := by
  have h32 := pf.2.1
  rcases er.1 x hx (by omega) with ⟨_, _, _, d1⟩ | ⟨y, y0, yE', py, ay, _, _⟩
  · have hv := (rl_PF_v pf x0 hx).1
    obtain ⟨e1, _, e3⟩ := er.2.2 x hx (by omega) (rl_n vO x) hv d1
    have e : rl_H pO vO x (rl_n vO x) = 8 + x := rl_ho_eq x0 rfl
    rw [e] at e1 e3
    exact ⟨e1, e3⟩
  · have := rl_anc_le (rl_PF_dn pf) 0 (by omega) y ay
    omega
theorem rl_VO_cut {h : Nat} {k n e : Int32} (hv : rl_VO N (h + 1) nK k n e) (hh : ¬ (k = 3 ∧ e = nI h)) : rl_VO N h nK k n e := by
  rcases hv with z | z | ⟨z, lm, j, hj, ej⟩
  · exact Or.inl z
  · exact Or.inr (Or.inl z)
  · refine Or.inr (Or.inr ⟨z, lm, j, ?_, ej⟩)
    by_cases e : j = h
    · subst e; exact absurd ⟨z, ej⟩ hh
    · omega
/-- an environment that nothing holds may end -/
theorem rl_BF_cut {h : Nat} (bf : rl_BF MN MV ME MD N (h + 1) c 0 sz nK oA oB oC iC pO vO yK yN yE cK cN cE tw dV dK dN dE) (h1 : 1 ≤ h) (hc : h ≠ c) (hD : rl_D MV h rk re yK yE h = 0) : rl_BF MN MV ME MD N h c 0 sz nK oA oB oC iC pO vO yK yN yE cK cN cE tw dV dK dN dE := by
  obtain ⟨⟨a1, a2, a3, a4, a5, a6, a7, a8⟩, nf, ic, pf, er, vc⟩ := bf
  refine ⟨⟨a1, a2, a3, a4, a5, by omega, by omega, by omega⟩, nf, ic, rl_PF_cut pf h1 (by omega), rl_ER_cut pf (by omega) (by omega) er, ?_⟩
  intro q hq
  refine rl_VO_cut (vc q (by omega)) ?_
  unfold rl_D at hD
  rcases hq with hq | hq
  · exact rl_hit_0 (rl_sm_0 (f := fun u => rl_hit (yK u) (yE u) h) MV (by omega) q hq)
  · have := rl_sm_0 (f := fun u => rl_hit (yK (8 + (u + 1))) (yE (8 + (u + 1))) h) (h - 1) (by omega) (q - 9) (by omega)
    have hu : 8 + (q - 9 + 1) = q := by omega
    rw [hu] at this
    exact rl_hit_0 this
theorem rl_D_step {h : Nat} (h1 : 1 ≤ h) (j : Nat) : rl_D MV (h + 1) rk re yK yE j = rl_D MV h rk re yK yE j + rl_hit (yK (8 + h)) (yE (8 + h)) j := by
  obtain ⟨g, rfl⟩ : ∃ g, h = g + 1 := ⟨h - 1, by omega⟩
  unfold rl_D
  show _ + _ + (rl_sm (fun u => rl_hit (yK (8 + (u + 1))) (yE (8 + (u + 1))) j) g + rl_hit (yK (8 + (g + 1))) (yE (8 + (g + 1))) j) = _ + _ + rl_sm (fun u => rl_hit (yK (8 + (u + 1))) (yE (8 + (u + 1))) j) g + _
  omega
theorem rl_D_le (hM : MV ≤ 8) (j : Nat) : rl_D MV E rk re yK yE j ≤ 9 + E := by
  unfold rl_D
  have b1 := rl_hit_le rk re j
  have b2 := rl_sm_le (f := fun u => rl_hit (yK u) (yE u) j) (fun u => rl_hit_le _ _ _) MV
  have b3 := rl_sm_le (f := fun u => rl_hit (yK (8 + (u + 1))) (yE (8 + (u + 1))) j) (fun u => rl_hit_le _ _ _) (E - 1)
  omega
theorem rl_rel_loop : ∀ (E i : Nat) (ho : Nat → Int32), rl_BF MN MV ME MD N E c 0 sz nK oA oB oC iC pO vO yK yN yE cK cN cE tw dV dK dN dE → rl_VO N E nK rk rn re → i + E ≤ 32 → (∀ j, j < 32 → ho j = nI (rl_D MV E rk re yK yE j)) →
    ∃ E2 g ho2, rl_BF MN MV ME MD N E2 c 0 sz nK oA oB oC iC pO vO yK yN yE cK cN cE tw dV dK dN dE ∧ rl_VO N E2 nK rk rn re ∧
      (∀ (post : Int32 → SX → Prop) (n : Nat), E < n → wX_release_73 post (nI g) (nI MN) (nI MV) (nI ME) (nI MD) (nI N) (nI E2) (nI c) (nI 0) rk rn re dp fl vk vn ve nK oA oB oC iC pO vO cK cN cE tw dV dK dN dE pa ho2 fN fE fS k1 k2 k3 → wX_release_18 post n (nI i) (nI E - 1) (nI MN) (nI MV) (nI ME) (nI MD) (nI N) (nI E) (nI c) (nI 0) rk rn re dp fl vk vn ve nK oA oB oC iC pO vO cK cN cE tw dV dK dN dE pa ho fN fE fS k1 k2 k3) ∧
      (∀ (post : Int32 → SY → Prop) (n : Nat), E < n → post (nI g) (nI MN, nI MV, nI ME, nI MD, nI N, nI E2, nI c, tp, zk, zn, ze, rk, rn, re, nK, oA, oB, oC, pO, vO, yK, yN, yE, fN, fE, fS, l1, l2, l3) → wY_release_4 post (nI MN) (nI MV) (nI ME) (nI MD) (nI N) (nI c) tp zk zn ze rk rn re nK oA oB oC pO vO yK yN yE fN fE fS l1 l2 l3 n (nI i) (nI i) (nI E)) := by
  intro E
  induction E with
  | zero =>
    intro i ho bf
    have := bf.2.2.2.1.1
    omega
  | succ h ih =>
    intro i ho bf vo hi hho
    obtain ⟨a1, a2, a3, a4, a5, a6, a7, a8⟩ := bf.1
    have pf := bf.2.2.2.1
    by_cases h0 : h = 0
    · subst h0
      refine ⟨1, i, ho, bf, vo, fun post n hn H => ?_, fun post n hn H => ?_⟩
      · cases n with
        | zero => omega
        | succ n => exact br_t (by decide) H
      · cases n with
        | zero => omega
        | succ n => exact br_f (nI_ge (b := 32) (by omega) (by omega)) (br_t (by decide) H)
    · obtain ⟨e1, e3⟩ := rl_ER_0 pf bf.2.2.2.2.1 (x := h) (by omega) (by omega)
      have ch := rl_c (n := h) (by omega)
      have jh := rl_in (n := h) (N := 32) (by omega) (by omega)
      have gX : ∀ (post : Int32 → SX → Prop) (n : Nat), (nI h = nI c → wX_release_73 post (nI i) (nI MN) (nI MV) (nI ME) (nI MD) (nI N) (nI (h + 1)) (nI c) (nI 0) rk rn re dp fl vk vn ve nK oA oB oC iC pO vO cK cN cE tw dV dK dN dE pa ho fN fE fS k1 k2 k3) → (¬ nI h = nI c → wpX_hold (fun u => match u with | (mN, mV, mE, mD, nd, ev, cu, rt, rk, rn, re, dp, fl, vk, vn, ve, nK, oA, oB, oC, iC, pO, vO, cK, cN, cE, tw, dV, dK, dN, dE, pa, ho, fN, fE, fS, k1, k2, k3) => (vp_in (nI h) 32 ∧ ((((ho (nI h).toNatClampNeg) = 0 → (∀ x1 : Int32, x1 = nI i + 1 → (∀ x2 : Int32, x2 = nI h + (-1) → (wX_release_18 post n x1 x2 mN mV mE mD nd (nI h) cu rt rk rn re dp fl vk vn ve nK oA oB oC iC pO vO cK cN cE tw dV dK dN dE pa ho fN fE fS k1 k2 k3)))) ∧ (¬ (ho (nI h).toNatClampNeg) = 0 → (wX_release_73 post (nI i) mN mV mE mD nd ev cu rt rk rn re dp fl vk vn ve nK oA oB oC iC pO vO cK cN cE tw dV dK dN dE pa ho fN fE fS k1 k2 k3)))))) (nI MN, nI MV, nI ME, nI MD, nI N, nI (h + 1), nI c, nI 0, rk, rn, re, dp, fl, vk, vn, ve, nK, oA, oB, oC, iC, pO, vO, cK, cN, cE, tw, dV, dK, dN, dE, pa, ho, fN, fE, fS, k1, k2, k3) (dK h) (dE h) (-1)) → wX_release_18 post (n + 1) (nI i) (nI (h + 1) - 1) (nI MN) (nI MV) (nI ME) (nI MD) (nI N) (nI (h + 1)) (nI c) (nI 0) rk rn re dp fl vk vn ve nK oA oB oC iC pO vO cK cN cE tw dV dK dN dE pa ho fN fE fS k1 k2 k3 := by
        intro post n p1 p2
        rw [nI_pred]
        refine br_f (nI_nle (by omega) (by omega)) (br_c p1 (fun z => ⟨jh, jh, ?_⟩))
        rw [ch]
        have := p2 z
        rw [ch] at this
        exact this
      have gY : ∀ (post : Int32 → SY → Prop) (n : Nat), wpY_held (fun q => (q = 0 → (∀ x : Int32, x = nI (h + 1) - 1 → (∀ y : Int32, y = nI i + 1 → (∀ z : Int32, z = nI i + 1 → wY_release_4 post (nI MN) (nI MV) (nI ME) (nI MD) (nI N) (nI c) tp zk zn ze rk rn re nK oA oB oC pO vO yK yN yE fN fE fS l1 l2 l3 n y z x)))) ∧ (¬ q = 0 → post (nI i) (nI MN, nI MV, nI ME, nI MD, nI N, nI (h + 1), nI c, tp, zk, zn, ze, rk, rn, re, nK, oA, oB, oC, pO, vO, yK, yN, yE, fN, fE, fS, l1, l2, l3))) (nI MN, nI MV, nI ME, nI MD, nI N, nI (h + 1), nI c, tp, zk, zn, ze, rk, rn, re, nK, oA, oB, oC, pO, vO, yK, yN, yE, fN, fE, fS, l1, l2, l3) (nI h) → wY_release_4 post (nI MN) (nI MV) (nI ME) (nI MD) (nI N) (nI c) tp zk zn ze rk rn re nK oA oB oC pO vO yK yN yE fN fE fS l1 l2 l3 (n + 1) (nI i) (nI i) (nI (h + 1)) := by
        intro post n p
        refine br_f (nI_ge (b := 32) (by omega) (by omega)) (br_f (nI_ge (b := h + 1) (a := 1) (by omega) (by omega)) ?_)
        rw [nI_pred] at p ⊢
        exact p
      by_cases hc : h = c
      · refine ⟨h + 1, i, ho, bf, vo, fun post n hn H => ?_, fun post n hn H => ?_⟩
        · cases n with
          | zero => omega
          | succ n => exact gX post n (fun _ => H) (fun z => absurd (congrArg nI hc) z)
        · cases n with
          | zero => omega
          | succ n => exact gY post n (ry_held (by omega) (by omega) a2 (fun _ => br_f (by decide) H) (fun z => absurd hc z))
      · have hk : dK h = 3 → ∃ i, i < 32 ∧ dE h = nI i := by
          intro z
          have v := bf.2.2.2.2.2 (8 + h) (by omega)
          rw [← e1, ← e3] at v
          rcases v with w | ⟨w, _⟩ | ⟨_, _, j, hj, ej⟩
          · rw [z] at w; exact absurd w (by decide)
          · rw [z] at w; exact absurd w (by decide)
          · exact ⟨j, by omega, ej⟩
        have ho2 : ∀ j, j < 32 → rl_h1 ho (dK h) (dE h) (-1) j = nI (rl_D MV h rk re yK yE j) := by
          refine rl_h1_dn hk (fun j hj => ?_)
          rw [hho j hj, rl_D_step (by omega), e1, e3]
        have hD9 := rl_D_le (E := h) (rk := rk) (re := re) (yK := yK) (yE := yE) a2 h
        have ne := rl_ne (a := h) (b := c) (by omega) (by omega) hc
        by_cases hD : rl_D MV h rk re yK yE h = 0
        · have vo2 : rl_VO N h nK rk rn re := by
            refine rl_VO_cut vo (rl_hit_0 ?_)
            unfold rl_D at hD
            omega
          obtain ⟨E2, g, ho3, bf3, vo3, HX, HY⟩ := ih (i + 1) (rl_h1 ho (dK h) (dE h) (-1)) (rl_BF_cut bf (by omega) hc hD) vo2 (by omega) ho2
          refine ⟨E2, g, ho3, bf3, vo3, fun post n hn H => ?_, fun post n hn H => ?_⟩
          · cases n with
            | zero => omega
            | succ n =>
              refine gX post n (fun z => absurd z ne) (fun _ => rx_hold hk ⟨jh, ?_⟩)
              rw [ch]
              exact br_t (by rw [ho2 h (by omega), hD]; rfl) (nm_r (nI_1 i) (nm_r (rl_m1 h) (HX post n (by omega) H)))
          · cases n with
            | zero => omega
            | succ n =>
              exact gY post n (ry_held (by omega) (by omega) a2 (fun z => by
                rcases z with z | z
                · exact absurd z hc
                · exact absurd hD z) (fun _ _ => br_t rfl (nm_r (nI_pred h) (nm_r (nI_1 i) (nm_r (nI_1 i) (HY post n (by omega) H))))))
        · refine ⟨h + 1, i, rl_h1 ho (dK h) (dE h) (-1), bf, vo, fun post n hn H => ?_, fun post n hn H => ?_⟩
          · cases n with
            | zero => omega
            | succ n =>
              refine gX post n (fun z => absurd z ne) (fun _ => rx_hold hk ⟨jh, ?_⟩)
              rw [ch]
              exact br_f (by rw [ho2 h (by omega)]; exact nI_ne0 (by omega) (by omega)) H
          · cases n with
            | zero => omega
            | succ n =>
              exact gY post n (ry_held (by omega) (by omega) a2 (fun _ => br_f (by decide) H) (fun _ z => absurd z hD))
theorem rl_vc_release {kk r : Nat} {ho : Nat → Int32} (bf : rl_BF MN MV ME MD N E c r sz nK oA oB oC iC pO vO yK yN yE cK cN cE tw dV dK dN dE) (vo : rl_VO N E nK rk rn re) :
    wpX_release (fun q u' => wpY_release (fun q' v' => q' = q ∧ i_Rel kk u' v') (nI MN, nI MV, nI ME, nI MD, nI N, nI E, nI c, tp, zk, zn, ze, rk, rn, re, nK, oA, oB, oC, pO, vO, yK, yN, yE, fN, fE, fS, l1, l2, l3)) (nI MN, nI MV, nI ME, nI MD, nI N, nI E, nI c, nI r, rk, rn, re, dp, fl, vk, vn, ve, nK, oA, oB, oC, iC, pO, vO, cK, cN, cE, tw, dV, dK, dN, dE, pa, ho, fN, fE, fS, k1, k2, k3) := by
  obtain ⟨a1, a2, a3, a4, a5, a6, a7, a8⟩ := bf.1
  have pf := bf.2.2.2.1
  obtain ⟨pa', cK', cN', cE', tw', dV', dK', dN', dE', er', H⟩ := rx_reroot (mN := nI MN) (mV := nI MV) (mE := nI ME) (mD := nI MD) (nd := nI N) (ev := nI E) (cu := nI c) (rk := rk) (rn := rn) (re := re) (dp := dp) (fl := fl) (vk := vk) (vn := vn) (ve := ve) (nK := nK) (oA := oA) (oB := oB) (oC := oC) (iC := iC) (pa := pa) (ho := ho) (fN := fN) (fE := fE) (fS := fS) (k1 := k1) (k2 := k2) (k3 := k3) pf (r := r) a8 bf.2.2.2.2.1 (e := 0) (by omega)
  have bf1 := rl_BF_root (c' := c) (r' := 0) bf a7 (by omega) er'
  have vc := bf.2.2.2.2.2
  have cell : ∀ v, v < 8 → cK' v = yK v ∧ cE' v = yE v := by
    intro v hv
    obtain ⟨e1, _, e3⟩ := er'.2.1 v hv
    have e : rl_H pO vO 0 v = v := rl_ho_0 _ _ v
    rw [e] at e1 e3
    exact ⟨e1, e3⟩
  have vj : ∀ {k n e : Int32}, rl_VO N E nK k n e → k = 3 → ∃ i, i < 32 ∧ e = nI i := by
    intro k n e v z
    rcases v with w | ⟨w, _⟩ | ⟨_, _, j, hj, ej⟩
    · rw [z] at w; exact absurd w (by decide)
    · rw [z] at w; exact absurd w (by decide)
    · exact ⟨j, by omega, ej⟩
  obtain ⟨ho', hho, HC⟩ := rx_countHolds (mN := nI MN) (mE := nI ME) (mD := nI MD) (nd := nI N) (cu := nI c) (rt := nI 0) (rk := rk) (rn := rn) (re := re) (dp := dp) (fl := fl) (vk := vk) (vn := vn) (ve := ve) (nK := nK) (oA := oA) (oB := oB) (oC := oC) (iC := iC) (pO := pO) (vO := vO) (cK := cK') (cN := cN') (cE := cE') (tw := tw') (dV := dV') (dK := dK') (dN := dN') (dE := dE') (pa := pa') (fN := fN) (fE := fE) (fS := fS) (k1 := k1) (k2 := k2) (k3 := k3) ho a2 pf.1 pf.2.1 (vj vo) (fun v hv z => by
      obtain ⟨e1, e3⟩ := cell v (by omega)
      rw [e1] at z
      rw [e3]
      exact vj (vc v (Or.inl hv)) z) (fun x x0 hx z => by
      obtain ⟨e1, e3⟩ := rl_ER_0 pf er' x0 hx
      rw [e1] at z
      rw [e3]
      exact vj (vc (8 + x) (by omega)) z)
  have hho2 : ∀ j, j < 32 → ho' j = nI (rl_D MV E rk re yK yE j) := by
    intro j hj
    rw [hho j hj]
    unfold rl_D
    have f1 : rl_sm (fun u => rl_hit (cK' u) (cE' u) j) MV = rl_sm (fun u => rl_hit (yK u) (yE u) j) MV := rl_sm_congr MV (fun u hu => by
      obtain ⟨e1, e3⟩ := cell u (by omega)
      show rl_hit (cK' u) (cE' u) j = rl_hit (yK u) (yE u) j
      rw [e1, e3])
    have f2 : rl_sm (fun u => rl_hit (dK' (u + 1)) (dE' (u + 1)) j) (E - 1) = rl_sm (fun u => rl_hit (yK (8 + (u + 1))) (yE (8 + (u + 1))) j) (E - 1) := rl_sm_congr (E - 1) (fun u hu => by
      obtain ⟨e1, e3⟩ := rl_ER_0 pf er' (x := u + 1) (by omega) (by omega)
      show rl_hit (dK' (u + 1)) (dE' (u + 1)) j = rl_hit (yK (8 + (u + 1))) (yE (8 + (u + 1))) j
      rw [e1, e3])
    rw [f1, f2]
  obtain ⟨E2, g, ho2, bf2, vo2, HX, HY⟩ := rl_rel_loop (rk := rk) (rn := rn) (re := re) (dp := dp) (fl := fl) (vk := vk) (vn := vn) (ve := ve) (tp := tp) (zk := zk) (zn := zn) (ze := ze) (pa := pa') (fN := fN) (fE := fE) (fS := fS) (k1 := k1) (k2 := k2) (k3 := k3) (l1 := l1) (l2 := l2) (l3 := l3) E 0 ho' bf1 vo (by omega) hho2
  have b2 := bf2.1
  obtain ⟨pa3, cK3, cN3, cE3, tw3, dV3, dK3, dN3, dE3, er3, H3⟩ := rx_reroot (mN := nI MN) (mV := nI MV) (mE := nI ME) (mD := nI MD) (nd := nI N) (ev := nI E2) (cu := nI c) (rk := rk) (rn := rn) (re := re) (dp := dp) (fl := fl) (vk := vk) (vn := vn) (ve := ve) (nK := nK) (oA := oA) (oB := oB) (oC := oC) (iC := iC) (pa := pa') (ho := ho2) (fN := fN) (fE := fE) (fS := fS) (k1 := k1) (k2 := k2) (k3 := k3) bf2.2.2.2.1 (r := 0) (by omega) bf2.2.2.2.2.1 (e := c) (by omega)
  have bf3 := rl_BF_root (c' := c) (r' := c) bf2 (by omega) (by omega) er3
  refine H _ (HC _ (nm_e ⟨33, HX _ 33 (by omega) (H3 _ ⟨33, HY _ 33 (by omega) ⟨rfl, rl_rel bf3 vo2⟩⟩)⟩))
end
end
section
/-! part 21: what is owed (the statements are those of claim/defs.txt) -/
theorem i_vc_reset {k : Nat} {u : SX} {v : SY} (I : i_Rel k u v) (hk : k + 5 ≤ 2564) : wpX_reset (fun u' => wpY_reset (fun v' => i_Rel (k + 5) u' v') v) u := by
  refine I (fun u v => wpX_reset (fun u' => wpY_reset (fun v' => i_Rel (k + 5) u' v') v) u) ?_
  intro MN MV ME MD N E c r sz rk rn re dp fl vk vn ve tp zk zn ze nK oA oB oC iC pO vO cK cN cE tw dV dK dN dE pa ho fN fE fS k1 k2 k3 yK yN yE l1 l2 l3 bf vo
  exact rl_vc_reset bf
theorem i_vc_node {k : Nat} {u : SX} {v : SY} (I : i_Rel k u v) (hk : k + 5 ≤ 2564) (v1 : Int32) (v2 : Int32) (v3 : Int32) (v4 : Int32) : wpX_node (fun r u' => wpY_node (fun r' v' => r' = r ∧ i_Rel (k + 5) u' v') v v1 v2 v3 v4) u v1 v2 v3 v4 := by
  refine I (fun u v => wpX_node (fun r u' => wpY_node (fun r' v' => r' = r ∧ i_Rel (k + 5) u' v') v v1 v2 v3 v4) u v1 v2 v3 v4) ?_
  intro MN MV ME MD N E c r sz rk rn re dp fl vk vn ve tp zk zn ze nK oA oB oC iC pO vO cK cN cE tw dV dK dN dE pa ho fN fE fS k1 k2 k3 yK yN yE l1 l2 l3 bf vo
  exact rl_vc_node v1 v2 v3 v4 bf vo
theorem i_vc_nodeCount {k : Nat} {u : SX} {v : SY} (I : i_Rel k u v) (hk : k + 5 ≤ 2564) : wpX_nodeCount (fun r => wpY_nodeCount (fun r' => r' = r ∧ i_Rel (k + 5) u v) v) u := by
  refine I (fun u v => wpX_nodeCount (fun r => wpY_nodeCount (fun r' => r' = r ∧ i_Rel (k + 5) u v) v) u) ?_
  intro MN MV ME MD N E c r sz rk rn re dp fl vk vn ve tp zk zn ze nK oA oB oC iC pO vO cK cN cE tw dV dK dN dE pa ho fN fE fS k1 k2 k3 yK yN yE l1 l2 l3 bf vo
  exact ⟨rfl, rl_rel bf vo⟩
theorem i_vc_nodePart {k : Nat} {u : SX} {v : SY} (I : i_Rel k u v) (hk : k + 5 ≤ 2564) (v1 : Int32) (v2 : Int32) : wpX_nodePart (fun r => wpY_nodePart (fun r' => r' = r ∧ i_Rel (k + 5) u v) v v1 v2) u v1 v2 := by
  refine I (fun u v => wpX_nodePart (fun r => wpY_nodePart (fun r' => r' = r ∧ i_Rel (k + 5) u v) v v1 v2) u v1 v2) ?_
  intro MN MV ME MD N E c r sz rk rn re dp fl vk vn ve tp zk zn ze nK oA oB oC iC pO vO cK cN cE tw dV dK dN dE pa ho fN fE fS k1 k2 k3 yK yN yE l1 l2 l3 bf vo
  exact rl_vc_nodePart v1 v2 bf vo
theorem i_vc_run {k : Nat} {u : SX} {v : SY} (I : i_Rel k u v) (hk : k + 5 ≤ 2564) (v1 : Int32) : wpX_run (fun r u' => wpY_run (fun r' v' => r' = r ∧ i_Rel (k + 5) u' v') v v1) u v1 := by
  refine I (fun u v => wpX_run (fun r u' => wpY_run (fun r' v' => r' = r ∧ i_Rel (k + 5) u' v') v v1) u v1) ?_
  intro MN MV ME MD N E c r sz rk rn re dp fl vk vn ve tp zk zn ze nK oA oB oC iC pO vO cK cN cE tw dV dK dN dE pa ho fN fE fS k1 k2 k3 yK yN yE l1 l2 l3 bf vo
  exact rl_vc_run v1 bf vo
theorem i_vc_result {k : Nat} {u : SX} {v : SY} (I : i_Rel k u v) (hk : k + 5 ≤ 2564) (v1 : Int32) : wpX_result (fun r => wpY_result (fun r' => r' = r ∧ i_Rel (k + 5) u v) v v1) u v1 := by
  refine I (fun u v => wpX_result (fun r => wpY_result (fun r' => r' = r ∧ i_Rel (k + 5) u v) v v1) u v1) ?_
  intro MN MV ME MD N E c r sz rk rn re dp fl vk vn ve tp zk zn ze nK oA oB oC iC pO vO cK cN cE tw dV dK dN dE pa ho fN fE fS k1 k2 k3 yK yN yE l1 l2 l3 bf vo
  exact rl_vc_result v1 bf vo
theorem i_vc_bind {k : Nat} {u : SX} {v : SY} (I : i_Rel k u v) (hk : k + 5 ≤ 2564) (v1 : Int32) : wpX_bind (fun r u' => wpY_bind (fun r' v' => r' = r ∧ i_Rel (k + 5) u' v') v v1) u v1 := by
  refine I (fun u v => wpX_bind (fun r u' => wpY_bind (fun r' v' => r' = r ∧ i_Rel (k + 5) u' v') v v1) u v1) ?_
  intro MN MV ME MD N E c r sz rk rn re dp fl vk vn ve tp zk zn ze nK oA oB oC iC pO vO cK cN cE tw dV dK dN dE pa ho fN fE fS k1 k2 k3 yK yN yE l1 l2 l3 bf vo
  exact rl_vc_bind v1 bf vo
theorem i_vc_enter {k : Nat} {u : SX} {v : SY} (I : i_Rel k u v) (hk : k + 5 ≤ 2564) (v1 : Int32) : wpX_enter (fun r u' => wpY_enter (fun r' v' => r' = r ∧ i_Rel (k + 5) u' v') v v1) u v1 := by
  refine I (fun u v => wpX_enter (fun r u' => wpY_enter (fun r' v' => r' = r ∧ i_Rel (k + 5) u' v') v v1) u v1) ?_
  intro MN MV ME MD N E c r sz rk rn re dp fl vk vn ve tp zk zn ze nK oA oB oC iC pO vO cK cN cE tw dV dK dN dE pa ho fN fE fS k1 k2 k3 yK yN yE l1 l2 l3 bf vo
  exact rl_vc_enter v1 bf vo
theorem i_vc_current {k : Nat} {u : SX} {v : SY} (I : i_Rel k u v) (hk : k + 5 ≤ 2564) : wpX_current (fun r => wpY_current (fun r' => r' = r ∧ i_Rel (k + 5) u v) v) u := by
  refine I (fun u v => wpX_current (fun r => wpY_current (fun r' => r' = r ∧ i_Rel (k + 5) u v) v) u) ?_
  intro MN MV ME MD N E c r sz rk rn re dp fl vk vn ve tp zk zn ze nK oA oB oC iC pO vO cK cN cE tw dV dK dN dE pa ho fN fE fS k1 k2 k3 yK yN yE l1 l2 l3 bf vo
  exact ⟨rfl, rl_rel bf vo⟩
theorem i_vc_envCount {k : Nat} {u : SX} {v : SY} (I : i_Rel k u v) (hk : k + 5 ≤ 2564) : wpX_envCount (fun r => wpY_envCount (fun r' => r' = r ∧ i_Rel (k + 5) u v) v) u := by
  refine I (fun u v => wpX_envCount (fun r => wpY_envCount (fun r' => r' = r ∧ i_Rel (k + 5) u v) v) u) ?_
  intro MN MV ME MD N E c r sz rk rn re dp fl vk vn ve tp zk zn ze nK oA oB oC iC pO vO cK cN cE tw dV dK dN dE pa ho fN fE fS k1 k2 k3 yK yN yE l1 l2 l3 bf vo
  exact ⟨rfl, rl_rel bf vo⟩
theorem i_vc_parent {k : Nat} {u : SX} {v : SY} (I : i_Rel k u v) (hk : k + 5 ≤ 2564) (v1 : Int32) : wpX_parent (fun r => wpY_parent (fun r' => r' = r ∧ i_Rel (k + 5) u v) v v1) u v1 := by
  refine I (fun u v => wpX_parent (fun r => wpY_parent (fun r' => r' = r ∧ i_Rel (k + 5) u v) v v1) u v1) ?_
  intro MN MV ME MD N E c r sz rk rn re dp fl vk vn ve tp zk zn ze nK oA oB oC iC pO vO cK cN cE tw dV dK dN dE pa ho fN fE fS k1 k2 k3 yK yN yE l1 l2 l3 bf vo
  exact rl_vc_parent v1 bf vo
theorem i_vc_boundVar {k : Nat} {u : SX} {v : SY} (I : i_Rel k u v) (hk : k + 5 ≤ 2564) (v1 : Int32) : wpX_boundVar (fun r => wpY_boundVar (fun r' => r' = r ∧ i_Rel (k + 5) u v) v v1) u v1 := by
  refine I (fun u v => wpX_boundVar (fun r => wpY_boundVar (fun r' => r' = r ∧ i_Rel (k + 5) u v) v v1) u v1) ?_
  intro MN MV ME MD N E c r sz rk rn re dp fl vk vn ve tp zk zn ze nK oA oB oC iC pO vO cK cN cE tw dV dK dN dE pa ho fN fE fS k1 k2 k3 yK yN yE l1 l2 l3 bf vo
  exact rl_vc_boundVar v1 bf vo
theorem i_vc_look {k : Nat} {u : SX} {v : SY} (I : i_Rel k u v) (hk : k + 5 ≤ 2564) (v1 : Int32) (v2 : Int32) (v3 : Int32) : wpX_look (fun r => wpY_look (fun r' => r' = r ∧ i_Rel (k + 5) u v) v v1 v2 v3) u v1 v2 v3 := by
  refine I (fun u v => wpX_look (fun r => wpY_look (fun r' => r' = r ∧ i_Rel (k + 5) u v) v v1 v2 v3) u v1 v2 v3) ?_
  intro MN MV ME MD N E c r sz rk rn re dp fl vk vn ve tp zk zn ze nK oA oB oC iC pO vO cK cN cE tw dV dK dN dE pa ho fN fE fS k1 k2 k3 yK yN yE l1 l2 l3 bf vo
  exact rl_vc_look v1 v2 v3 bf vo
theorem i_vc_read {k : Nat} {u : SX} {v : SY} (I : i_Rel k u v) (hk : k + 5 ≤ 2564) (v1 : Int32) (v2 : Int32) : wpX_read (fun r => wpY_read (fun r' => r' = r ∧ i_Rel (k + 5) u v) v v1 v2) u v1 v2 := by
  refine I (fun u v => wpX_read (fun r => wpY_read (fun r' => r' = r ∧ i_Rel (k + 5) u v) v v1 v2) u v1 v2) ?_
  intro MN MV ME MD N E c r sz rk rn re dp fl vk vn ve tp zk zn ze nK oA oB oC iC pO vO cK cN cE tw dV dK dN dE pa ho fN fE fS k1 k2 k3 yK yN yE l1 l2 l3 bf vo
  exact rl_vc_read v1 v2 bf vo
theorem i_vc_release {k : Nat} {u : SX} {v : SY} (I : i_Rel k u v) (hk : k + 5 ≤ 2564) : wpX_release (fun r u' => wpY_release (fun r' v' => r' = r ∧ i_Rel (k + 5) u' v') v) u := by
  refine I (fun u v => wpX_release (fun r u' => wpY_release (fun r' v' => r' = r ∧ i_Rel (k + 5) u' v') v) u) ?_
  intro MN MV ME MD N E c r sz rk rn re dp fl vk vn ve tp zk zn ze nK oA oB oC iC pO vO cK cN cE tw dV dK dN dE pa ho fN fE fS k1 k2 k3 yK yN yE l1 l2 l3 bf vo
  exact rl_vc_release bf vo
end
