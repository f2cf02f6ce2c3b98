section
theorem pk_us {f : Nat → Int32} {k : Nat} {x : Int32} : upd f k x k = x := if_pos rfl
theorem pk_un {f : Nat → Int32} {k j : Nat} {x : Int32} (h : j ≠ k) : upd f k x j = f j := if_neg h
theorem pk_sub {a b : Nat} (h : b ≤ a) : nI a - nI b = nI (a - b) := by
  obtain ⟨c, rfl⟩ : ∃ c, a = c + b := ⟨a - b, by omega⟩
  rw [← nI_add, Int32.add_sub_cancel, Nat.add_sub_cancel]
theorem pk_m1 (n : Nat) : nI (n + 1) + (-1) = nI n := by
  rw [← nI_1, Int32.add_assoc, show (1 : Int32) + (-1) = 0 from rfl, Int32.add_zero]
theorem pk_mul (a b : Nat) : nI a * nI b = nI (a * b) := (Int32.ofNat_mul a b).symm
theorem pk_div {a d : Nat} (ha : a < 2 ^ 31) (h0 : 0 < d) (hd : d < 2 ^ 31) : nI a / nI d = nI (a / d) := by
  apply Int32.toInt_inj.mp
  rw [lg_idiv_nonneg (by rw [nI_toInt ha]; omega) (by rw [nI_toInt hd]; omega), nI_toInt ha, nI_toInt hd, nI_toInt (Nat.lt_of_le_of_lt (Nat.div_le_self a d) ha)]
  first | rfl | exact (Int.natCast_ediv _ _).symm
theorem pk_rem {a d : Nat} (ha : a < 2 ^ 31) (h0 : 0 < d) (hd : d < 2 ^ 31) : nI a - nI a / nI d * nI d = nI (a % d) := by
  rw [pk_div ha h0 hd, pk_mul, pk_sub (Nat.div_mul_le_self a d)]
  exact congrArg nI (by have := Nat.div_add_mod' a d; omega)
theorem pk_sub_toInt {a b : Nat} (ha : a < 2 ^ 30) (hb : b < 2 ^ 30) : (nI a - nI b).toInt = (a : Int) - b := by
  rw [Int32.toInt_sub, nI_toInt (by omega), nI_toInt (by omega)]
  exact Int.bmod_eq_of_le (by omega) (by omega)
theorem pk_sneg {a b : Nat} (hb : b < 2 ^ 30) (h : a < b) : nI a - nI b < 0 := by
  rw [Int32.lt_iff_toInt_lt, pk_sub_toInt (by omega) hb, show (0 : Int32).toInt = 0 from by decide]
  omega
theorem pk_ix (x : Int32) {n : Nat} (hn : n < 2 ^ 31) : x < 0 ∨ nI n ≤ x ∨ ∃ j : Nat, j < n ∧ x = nI j := by
  by_cases h : x < 0
  · exact Or.inl h
  · obtain ⟨j, hj, rfl⟩ := nI_of h
    by_cases h2 : j < n
    · exact Or.inr (Or.inr ⟨j, h2, rfl⟩)
    · exact Or.inr (Or.inl (nI_le (by omega) hj))
theorem pk_le {x y : Int32} {A B : Prop} (a b : Nat) (f : a ≤ b → A) (g : b < a → B) (hx : x = nI a := by rfl) (hy : y = nI b := by rfl) (ha : a < 2 ^ 31 := by omega) (hb : b < 2 ^ 31 := by omega) : (x ≤ y → A) ∧ (¬ x ≤ y → B) := by
  subst hx hy
  rw [nI_leI ha hb]
  exact ⟨f, fun z => g (by omega)⟩
theorem pk_lt {x y : Int32} {A B : Prop} (a b : Nat) (f : a < b → A) (g : b ≤ a → B) (hx : x = nI a := by rfl) (hy : y = nI b := by rfl) (ha : a < 2 ^ 31 := by omega) (hb : b < 2 ^ 31 := by omega) : (x < y → A) ∧ (¬ x < y → B) := by
  subst hx hy
  rw [nI_ltI ha hb]
  exact ⟨f, fun z => g (by omega)⟩
theorem pk_eq {x y : Int32} {A B : Prop} (a b : Nat) (f : a = b → A) (g : a ≠ b → B) (hx : x = nI a := by rfl) (hy : y = nI b := by rfl) (ha : a < 2 ^ 31 := by omega) (hb : b < 2 ^ 31 := by omega) : (x = y → A) ∧ (¬ x = y → B) := by
  subst hx hy
  rw [nI_eq ha hb]
  exact ⟨f, g⟩
theorem pk_in {x : Int32} (n N : Nat) (h : n < N) (hx : x = nI n := by rfl) (hN : N < 2 ^ 31 := by omega) : vp_in x N := by
  subst hx
  exact vp_in_nI h hN
theorem pk_cl {x : Int32} (n : Nat) (hx : x = nI n := by rfl) (h : n < 2 ^ 31 := by omega) : x.toNatClampNeg = n := by
  subst hx
  exact nI_clamp h
end
section
/-! numbers -/
theorem ot_ix (k q : Nat) : 85 * nI k + nI q = nI (85 * k + q) := by
  rw [show (85 : Int32) = nI 85 from rfl, pk_mul, nI_add]
theorem ot_340 (q : Nat) : 340 + nI q = nI (340 + q) := nI_add 340 q
theorem ot_255 (q : Nat) : 255 + nI q = nI (255 + q) := nI_add 255 q
theorem ot_par {p : Nat} (h : 1 ≤ p) (hp : p < 2 ^ 31) : (nI p - 1) / 4 = nI ((p - 1) / 4) := by
  have e : nI p - 1 = nI (p - 1) := pk_sub (a := p) (b := 1) h
  rw [e]
  exact pk_div (d := 4) (by omega) (by decide) (by decide)
theorem ot_parX {post : Int32 → Prop} {p : Nat} (h : 1 ≤ p) (hp : p < 2 ^ 31) (J : post (nI ((p - 1) / 4))) : wpX_parentOf post (nI p) := by
  refine And.intro (by decide) ?_
  rw [ot_par h hp]
  exact J
theorem ot_parY {post : Int32 → Prop} {p : Nat} (h : 1 ≤ p) (hp : p < 2 ^ 31) (J : post (nI ((p - 1) / 4))) : wpY_parent post (nI p) := by
  refine And.intro (by decide) ?_
  rw [ot_par h hp]
  exact J
theorem ot_m1lt {k f : Nat} (h : k ≤ f) (hf : f < 2 ^ 31) : nI k + (-1) < nI f := by
  cases k with
  | zero =>
    rw [Int32.lt_iff_toInt_lt, nI_toInt hf, show (nI 0 + (-1) : Int32).toInt = -1 from by decide]
    omega
  | succ k =>
    rw [pk_m1]
    exact nI_lt (by omega) hf
theorem ot_inL {k q : Nat} (hk : k < 5) (hq : q < 85) : vp_in (85 * nI k + nI q) 425 := pk_in (85 * k + q) 425 (by omega) (ot_ix k q)
theorem ot_atL {A : Nat → Int32} {k q : Nat} (hk : k < 5) (hq : q < 85) : A (85 * nI k + nI q).toNatClampNeg = A (85 * k + q) := by
  rw [ot_ix, nI_clamp (by omega)]
theorem ot_at {A : Nat → Int32} {q : Nat} (hq : q < 2 ^ 31) : A (nI q).toNatClampNeg = A q := by
  rw [nI_clamp hq]
theorem ot_in4 {q : Nat} (hq : q < 85) : vp_in (340 + nI q) 425 := pk_in (340 + q) 425 (by omega) (ot_340 q)
theorem ot_in3 {q : Nat} (hq : q < 85) : vp_in (255 + nI q) 425 := pk_in (255 + q) 425 (by omega) (ot_255 q)
theorem ot_cl4 {q : Nat} (hq : q < 85) : (340 + nI q).toNatClampNeg = 340 + q := pk_cl (340 + q) (ot_340 q)
theorem ot_cl3 {q : Nat} (hq : q < 85) : (255 + nI q).toNatClampNeg = 255 + q := pk_cl (255 + q) (ot_255 q)
theorem ot_clL {k q : Nat} (hk : k < 5) (hq : q < 85) : (85 * nI k + nI q).toNatClampNeg = 85 * k + q := pk_cl (85 * k + q) (ot_ix k q)
/-! the layers: what a scan from the layers below k down to f finds at q; the floor that q leaves -/
def ot_sc (H : Nat → Int32) (q f : Nat) : Nat → Option Nat
  | 0 => none
  | k + 1 => if k < f then none else if H (85 * k + q) = 0 then ot_sc H q f k else some k
def ot_rs (H : Nat → Int32) (q f : Nat) : Nat → Nat
  | 0 => f
  | k + 1 => if k < f then f else if H (85 * k + q) = 3 then k else if H (85 * k + q) = 1 ∨ H (85 * k + q) = 4 then k + 1 else ot_rs H q f k
/-- what is seen at q (sort s, value v) if the layers from f up may show -/
def ot_VW (H C : Nat → Int32) (s v : Int32) (q f : Nat) : Prop :=
  (ot_sc H q f 5 = none → s = 0) ∧ ∀ l, ot_sc H q f 5 = some l →
    ((H (85 * l + q) = 4 ∧ s = 0) ∨ (H (85 * l + q) = 1 ∧ s = 1 ∧ v = C (85 * l + q)) ∨ (H (85 * l + q) ≠ 4 ∧ H (85 * l + q) ≠ 1 ∧ s = 2))
/-- the view at one path -/
def ot_VI (H C S V : Nat → Int32) (F : Nat → Nat) (q : Nat) : Prop :=
  (S ((q - 1) / 4) ≠ 2 → S q = 0) ∧ (S ((q - 1) / 4) = 2 → ot_VW H C (S q) (V q) q (F ((q - 1) / 4))) ∧ (S q = 2 → F q = ot_rs H q (F ((q - 1) / 4)) 5)
def ot_View (H C S V : Nat → Int32) (F : Nat → Nat) : Prop :=
  H 340 = 2 ∧ F 0 = 0 ∧ S 0 = 2 ∧ (∀ q, F q ≤ 4) ∧ ∀ q, 1 ≤ q → q < 85 → ot_VI H C S V F q
/-- .. for p and the paths that it is under -/
def ot_Ch (H C S V : Nat → Int32) (F : Nat → Nat) (p : Nat) : Prop :=
  H 340 = 2 ∧ F 0 = 0 ∧ S 0 = 2 ∧ (∀ q, F q ≤ 4) ∧ ∀ q, 1 ≤ q → q < 85 → (q = p ∨ q = (p - 1) / 4 ∨ q = ((p - 1) / 4 - 1) / 4) → ot_VI H C S V F q
theorem ot_chOf {H C S V : Nat → Int32} {F : Nat → Nat} (h : ot_View H C S V F) (p : Nat) : ot_Ch H C S V F p :=
  ⟨h.1, h.2.1, h.2.2.1, h.2.2.2.1, fun q h1 h2 _ => h.2.2.2.2 q h1 h2⟩
/-- each layer: its root is a directory, its codes are 0 to 4, what holds something has a directory above it -/
def ot_OK (H : Nat → Int32) : Prop :=
  (∀ l, l < 5 → H (85 * l) = 2) ∧ ∀ l p, l < 5 → 1 ≤ p → p < 85 →
    (H (85 * l + p) = 0 ∨ ((H (85 * l + p) = 1 ∨ H (85 * l + p) = 2 ∨ H (85 * l + p) = 3 ∨ H (85 * l + p) = 4) ∧ (H (85 * l + (p - 1) / 4) = 2 ∨ H (85 * l + (p - 1) / 4) = 3)))
/-- before the mount -/
def ot_Pre (H C LS LV S : Nat → Int32) : Prop :=
  (∀ p, 1 ≤ p → p < 85 → H (340 + p) = 0 ∧ H (255 + p) = 0) ∧ (∀ l p, l < 3 → 1 ≤ p → p < 85 → LS (85 * l + p) = H (85 * l + p) ∧ (H (85 * l + p) = 1 → LV (85 * l + p) = C (85 * l + p))) ∧ (∀ p, p < 85 → S p = 0)
def ot_R (m : Int32) (H C LS LV S V : Nat → Int32) : Prop :=
  ot_OK H ∧ ((m = 0 ∧ ot_Pre H C LS LV S) ∨ (m = 1 ∧ ∃ F, ot_View H C S V F))
/-- what both sides need of it to look -/
def ot_RV (m : Int32) (H C S V : Nat → Int32) : Prop := (m = 0 ∧ ∀ p, p < 85 → S p = 0) ∨ (m = 1 ∧ ∃ F, ot_View H C S V F)
theorem ot_rv {m : Int32} {H C LS LV S V : Nat → Int32} (h : ot_R m H C LS LV S V) : ot_RV m H C S V := by
  rcases h.2 with ⟨a, b⟩ | ⟨a, b⟩
  · exact Or.inl ⟨a, b.2.2⟩
  · exact Or.inr ⟨a, b⟩
theorem ot_vw012 {H C : Nat → Int32} {s v : Int32} {q f : Nat} (h : ot_VW H C s v q f) : s = 0 ∨ s = 1 ∨ s = 2 := by
  cases e : ot_sc H q f 5 with
  | none => exact Or.inl (h.1 e)
  | some l =>
    rcases h.2 l e with z | z | z
    · exact Or.inl z.2
    · exact Or.inr (Or.inl z.2.1)
    · exact Or.inr (Or.inr z.2.2)
theorem ot_v012 {H C S V : Nat → Int32} {F : Nat → Nat} (h : ot_View H C S V F) {p : Nat} (hp : p < 85) : S p = 0 ∨ S p = 1 ∨ S p = 2 := by
  by_cases h0 : p = 0
  · rw [h0]; exact Or.inr (Or.inr h.2.2.1)
  · have k := h.2.2.2.2 p (by omega) hp
    by_cases h2 : S ((p - 1) / 4) = 2
    · exact ot_vw012 (k.2.1 h2)
    · exact Or.inl (k.1 h2)
theorem ot_012 {m : Int32} {H C S V : Nat → Int32} (h : ot_RV m H C S V) {p : Nat} (hp : p < 85) : S p = 0 ∨ S p = 1 ∨ S p = 2 := by
  rcases h with ⟨_, h⟩ | ⟨_, F, h⟩
  · exact Or.inl (h p hp)
  · exact ot_v012 h hp
end
section
section
variable {m : Int32} {H C W PS PV : Nat → Int32}
theorem ot_settle51n {post : SX → Prop} {x1 f : Int32} (J : post (m, -1, f, H, C, W, PS, PV)) : wX_settle_51 post x1 m (-1) f H C W PS PV :=
  br_t (by decide) J
theorem ot_settle51s {post : SX → Prop} {q l : Nat} {f : Int32} (hq : q < 85) (hl : l < 5)
    (J4 : H (85 * l + q) = 4 → post (m, -1, f, H, C, W, PS, PV)) (J : H (85 * l + q) ≠ 4 → post (m, nI l, f, H, C, W, PS, PV)) :
    wX_settle_51 post (nI q) m (nI l) f H C W PS PV := by
  refine br_f (nI_pos (by omega)) (And.intro (ot_inL hl hq) ?_)
  rw [ot_clL hl hq]
  exact br_c J4 J
theorem ot_settle7 {post : SX → Prop} {q f : Nat} (hq : q < 85) (hf : f ≤ 5) : ∀ (k n : Nat), k ≤ 5 → k + 1 < n →
    (ot_sc H q f k = none → post (m, -1, nI f, H, C, W, PS, PV)) →
    (∀ l, l < 5 → ot_sc H q f k = some l → H (85 * l + q) = 4 → post (m, -1, nI f, H, C, W, PS, PV)) →
    (∀ l, l < 5 → ot_sc H q f k = some l → H (85 * l + q) ≠ 4 → post (m, nI l, nI f, H, C, W, PS, PV)) →
    wX_settle_7 post (nI q) m (nI f) H C W PS PV n (nI k + (-1)) (-1) := by
  intro k
  induction k with
  | zero =>
    intro n _ hn h0 _ _
    obtain ⟨n, rfl⟩ : ∃ n', n = n' + 1 := ⟨n - 1, by omega⟩
    exact br_t (ot_m1lt (Nat.zero_le f) (by omega)) (ot_settle51n (h0 rfl))
  | succ k ih =>
    intro n hk hn h0 h1 h2
    obtain ⟨n, rfl⟩ : ∃ n', n = n' + 1 + 1 := ⟨n - 2, by omega⟩
    rw [pk_m1]
    by_cases hkf : k < f
    · exact br_t (nI_lt hkf (by omega)) (ot_settle51n (h0 (if_pos hkf)))
    · refine br_f (nI_nlt (by omega) (by omega)) (br_f (by decide) (And.intro (ot_inL (by omega) hq) ?_))
      rw [ot_clL (by omega) hq]
      by_cases hz : H (85 * k + q) = 0
      · have e : ot_sc H q f (k + 1) = ot_sc H q f k := (if_neg hkf).trans (if_pos hz)
        rw [e] at h0 h1 h2
        exact br_t hz (nm_e (ih (n + 1) (by omega) (by omega) h0 h1 h2))
      · have e : ot_sc H q f (k + 1) = some k := (if_neg hkf).trans (if_neg hz)
        refine br_f hz (nm_e ?_)
        have J : wX_settle_51 post (nI q) m (nI k) (nI f) H C W PS PV := ot_settle51s hq (by omega) (h1 k (by omega) e) (h2 k (by omega) e)
        exact br_c (fun _ => J) (fun _ => br_t (nI_pos' (by omega)) J)
theorem ot_settle {post : SX → Prop} {fl : Int32} {q f : Nat} (hq : q < 85) (hf : f ≤ 5)
    (h0 : ot_sc H q f 5 = none → post (m, -1, nI f, H, C, W, PS, PV))
    (h1 : ∀ l, l < 5 → ot_sc H q f 5 = some l → H (85 * l + q) = 4 → post (m, -1, nI f, H, C, W, PS, PV))
    (h2 : ∀ l, l < 5 → ot_sc H q f 5 = some l → H (85 * l + q) ≠ 4 → post (m, nI l, nI f, H, C, W, PS, PV)) :
    wpX_settle post (m, fl, nI f, H, C, W, PS, PV) (nI q) :=
  ⟨7, ot_settle7 hq hf 5 7 (by decide) (by decide) h0 h1 h2⟩
theorem ot_raise2 {post : SX → Prop} {fl : Int32} {q f : Nat} (hq : q < 85) (hf : f ≤ 5) : ∀ (k n : Nat), k ≤ 5 → k + 1 < n →
    post (m, fl, nI (ot_rs H q f k), H, C, W, PS, PV) →
    wX_raiseFloor_2 post (nI q) m fl H C W PS PV n (nI k + (-1)) (nI f) := by
  intro k
  induction k with
  | zero =>
    intro n _ hn h0
    obtain ⟨n, rfl⟩ : ∃ n', n = n' + 1 := ⟨n - 1, by omega⟩
    exact br_t (ot_m1lt (Nat.zero_le f) (by omega)) h0
  | succ k ih =>
    intro n hk hn h0
    obtain ⟨n, rfl⟩ : ∃ n', n = n' + 1 + 1 := ⟨n - 2, by omega⟩
    rw [pk_m1]
    by_cases hkf : k < f
    · have e : ot_rs H q f (k + 1) = f := if_pos hkf
      rw [e] at h0
      exact br_t (nI_lt hkf (by omega)) h0
    · refine br_f (nI_nlt (by omega) (by omega)) (And.intro (ot_inL (by omega) hq) (nm_r (ot_atL (by omega) hq) ?_))
      by_cases h3 : H (85 * k + q) = 3
      · have e : ot_rs H q f (k + 1) = k := (if_neg hkf).trans (if_pos h3)
        rw [e] at h0
        exact br_t h3 (nm_e (br_t (ot_m1lt (Nat.le_refl k) (by omega)) h0))
      · refine br_f h3 ?_
        by_cases h14 : H (85 * k + q) = 1 ∨ H (85 * k + q) = 4
        · have e : ot_rs H q f (k + 1) = k + 1 := (if_neg hkf).trans ((if_neg h3).trans (if_pos h14))
          rw [e] at h0
          have J : wX_raiseFloor_2 post (nI q) m fl H C W PS PV (n + 1) (nI k + (-1)) (nI (k + 1)) := br_t (ot_m1lt (by omega) (by omega)) h0
          refine br_c (fun _ => nm_r (nI_1 k) (nm_e J)) (fun h1 => br_t (h14.resolve_left h1) (nm_r (nI_1 k) (nm_e J)))
        · have e : ot_rs H q f (k + 1) = ot_rs H q f k := (if_neg hkf).trans ((if_neg h3).trans (if_neg h14))
          rw [e] at h0
          exact br_f (fun z => h14 (Or.inl z)) (br_f (fun z => h14 (Or.inr z)) (nm_e (ih (n + 1) (by omega) (by omega) h0)))
theorem ot_raise {post : SX → Prop} {fl : Int32} {q f : Nat} (hq : q < 85) (hf : f ≤ 5)
    (h0 : post (m, fl, nI (ot_rs H q f 5), H, C, W, PS, PV)) : wpX_raiseFloor post (m, fl, nI f, H, C, W, PS, PV) (nI q) :=
  ⟨7, ot_raise2 hq hf 5 7 (by decide) (by decide) h0⟩
end
/-! the way up from p -/
def ot_an (p : Nat) : Nat → Nat
  | 0 => p
  | j + 1 => (ot_an p j - 1) / 4
theorem ot_an3 {p : Nat} (hp : p < 85) : ot_an p 3 = 0 := by
  show (((p - 1) / 4 - 1) / 4 - 1) / 4 = 0
  omega
theorem ot_anLt {p : Nat} (hp : p < 85) : ∀ j, ot_an p j < 85 := by
  intro j
  induction j with
  | zero => exact hp
  | succ j ih =>
    show (ot_an p j - 1) / 4 < 85
    omega
theorem ot_anCh {H C S V : Nat → Int32} {F : Nat → Nat} {p : Nat} (hp : p < 85) (h : ot_Ch H C S V F p) {j : Nat} (hj : j < 3) (h1 : 1 ≤ ot_an p j) : ot_VI H C S V F (ot_an p j) := by
  refine h.2.2.2.2 _ h1 (ot_anLt hp j) ?_
  rcases j with _ | _ | _ | j
  · exact Or.inl rfl
  · exact Or.inr (Or.inl rfl)
  · exact Or.inr (Or.inr rfl)
  · omega
/-- what a look has found at p: a layer -/
def ot_Res (H C S V : Nat → Int32) (p l : Nat) : Prop :=
  l < 5 ∧ ((H (85 * l + p) = 1 ∧ S p = 1 ∧ V p = C (85 * l + p)) ∨ (H (85 * l + p) ≠ 1 ∧ S p = 2))
section
variable {m : Int32} {H C PS PV S V : Nat → Int32} {F : Nat → Nat} {p : Nat}
theorem ot_down (hp : p < 85) (h : ot_Ch H C S V F p) : ∀ k, k < 3 → (∀ j, j ≤ k → 1 ≤ ot_an p j) → S (ot_an p k) ≠ 2 → k ≠ 0 → S p = 0 := by
  intro k
  induction k with
  | zero => intro _ _ _ z; exact absurd rfl z
  | succ k ih =>
    intro hk h1 h2 _
    have hv := ot_anCh hp h (j := k) (by omega) (h1 k (by omega))
    have hz : S (ot_an p k) = 0 := hv.1 h2
    by_cases k0 : k = 0
    · subst k0; exact hz
    · exact ih (by omega) (fun j hj => h1 j (by omega)) (by rw [hz]; decide) k0
theorem ot_look46 {post : SX → Prop} {W : Nat → Int32} (hp : p < 85) (h : ot_Ch H C S V F p)
    (J0 : ∀ flo, S p = 0 → post (m, -1, flo, H, C, W, PS, PV))
    (J1 : ∀ l flo, ot_Res H C S V p l → post (m, nI l, flo, H, C, W, PS, PV)) :
    ∀ (k n l : Nat), k < 3 → k + 1 < n → l < 5 → (∀ j, j ≤ k → 1 ≤ ot_an p j ∧ W j = nI (ot_an p j)) → S (ot_an p (k + 1)) = 2 →
    wX_look_46 post n (nI k) m (nI l) (nI (F (ot_an p (k + 1)))) H C W PS PV := by
  intro k
  induction k with
  | zero =>
    intro n l hk hn hl hW hS
    obtain ⟨n, rfl⟩ : ∃ n', n = n' + 1 + 1 := ⟨n - 2, by omega⟩
    have hv := ot_anCh hp h (j := 0) hk (hW 0 (by omega)).1
    have hw : ot_VW H C (S p) (V p) p (F (ot_an p 1)) := hv.2.1 hS
    refine br_f (nI_pos (by omega)) (br_f (nI_pos (by omega)) (And.intro (vp_in_nI (by omega) (by omega)) ?_))
    rw [ot_at (A := W) (by omega), (hW 0 (by omega)).2]
    have hF : F (ot_an p 1) ≤ 4 := h.2.2.2.1 _
    refine ot_settle (hp) (by show F (ot_an p 1) ≤ 5; omega) ?_ ?_ ?_
    · intro e
      exact br_t (by decide) (nm_e (br_t (by decide) (J0 _ (hw.1 e))))
    · intro l' hl' e e4
      refine br_t (by decide) (nm_e (br_t (by decide) (J0 _ ?_)))
      rcases hw.2 l' e with z | z | z
      · exact z.2
      · exact absurd (z.1.symm.trans e4) (by decide)
      · exact absurd e4 z.1
    · intro l' hl' e e4
      refine br_f (nI_pos (by omega)) (br_t (by decide) (nm_e (br_t (by decide) (J1 l' _ ⟨hl', ?_⟩))))
      rcases hw.2 l' e with z | z | z
      · exact absurd z.1 e4
      · exact Or.inl z
      · exact Or.inr z.2
  | succ k ih =>
    intro n l hk hn hl hW hS
    obtain ⟨n, rfl⟩ : ∃ n', n = n' + 1 + 1 := ⟨n - 2, by omega⟩
    have hq1 := (hW (k + 1) (by omega)).1
    have hq : ot_an p (k + 1) < 85 := ot_anLt hp _
    have hv := ot_anCh hp h (j := k + 1) hk hq1
    have hw : ot_VW H C (S (ot_an p (k + 1))) (V (ot_an p (k + 1))) (ot_an p (k + 1)) (F (ot_an p (k + 1 + 1))) := hv.2.1 hS
    have hd : S (ot_an p (k + 1)) ≠ 2 → S p = 0 := fun z => ot_down hp h (k + 1) hk (fun j hj => (hW j hj).1) z (by omega)
    have eW : W (nI (k + 1)).toNatClampNeg = nI (ot_an p (k + 1)) := by rw [nI_clamp (by omega), (hW (k + 1) (by omega)).2]
    have hin : vp_in (nI (k + 1)) 4 := vp_in_nI (by omega) (by omega)
    have hF : F (ot_an p (k + 1 + 1)) ≤ 4 := h.2.2.2.1 _
    refine br_f (nI_pos (by omega)) (br_f (nI_pos (by omega)) (And.intro hin ?_))
    rw [eW]
    have X : ∀ flo x, S p = 0 → wX_look_46 post (n + 1) x m (-1) flo H C W PS PV := fun flo x z =>
      br_c (fun _ => J0 flo z) (fun _ => br_t (by decide) (J0 flo z))
    refine ot_settle hq (by omega) ?_ ?_ ?_
    · intro e
      refine br_t (by decide) (nm_e (X _ _ (hd ?_)))
      rw [hw.1 e]; decide
    · intro l' hl' e e4
      refine br_t (by decide) (nm_e (X _ _ (hd ?_)))
      rcases hw.2 l' e with z | z | z
      · rw [z.2]; decide
      · exact absurd (z.1.symm.trans e4) (by decide)
      · exact absurd e4 z.1
    · intro l' hl' e e4
      refine br_f (nI_pos (by omega)) (br_f (nI_nle (by omega) (by omega)) (And.intro hin ?_))
      rw [eW]
      refine And.intro (ot_inL hl' hq) ?_
      rw [ot_clL hl' hq]
      refine br_c (fun h1 => ?_) (fun h1 => ?_)
      · refine And.intro hin ?_
        rw [eW]
        refine ot_raise hq (by omega) (nm_e (X _ _ (hd ?_)))
        rcases hw.2 l' e with z | z | z
        · exact absurd z.1 e4
        · rw [z.2.1]; decide
        · exact absurd h1 z.2.1
      · have h2 : S (ot_an p (k + 1)) = 2 := by
          rcases hw.2 l' e with z | z | z
          · exact absurd z.1 e4
          · exact absurd z.1 h1
          · exact z.2.2
        refine And.intro hin ?_
        rw [eW]
        refine ot_raise hq (by omega) (nm_r (pk_m1 k) ?_)
        have eF : ot_rs H (ot_an p (k + 1)) (F (ot_an p (k + 1 + 1))) 5 = F (ot_an p (k + 1)) := (hv.2.2 h2).symm
        rw [eF]
        exact ih (n + 1) l' (by omega) (by omega) hl' (fun j hj => hW j (by omega)) h2
theorem ot_look32 {post : SX → Prop} {W : Nat → Int32} {D : Nat} {fl flo : Int32} (hp : p < 85) (h : ot_Ch H C S V F p) (hD : D ≤ 3) (hD0 : ot_an p D = 0)
    (hW : ∀ j, j < D → 1 ≤ ot_an p j ∧ W j = nI (ot_an p j))
    (J0 : ∀ flo, S p = 0 → post (m, -1, flo, H, C, W, PS, PV))
    (J1 : ∀ l flo, ot_Res H C S V p l → post (m, nI l, flo, H, C, W, PS, PV)) :
    wX_look_32 post (nI D) m fl flo H C W PS PV := by
  cases D with
  | zero =>
    have h0 : p = 0 := hD0
    subst h0
    refine nm_r (e' := -1) (by decide) ⟨1, br_t (by decide) (J1 4 0 ⟨by omega, Or.inr ⟨?_, h.2.2.1⟩⟩)⟩
    show H 340 ≠ 1
    rw [h.1]
    decide
  | succ k =>
    refine nm_r (nI_pred k) ⟨k + 2, ?_⟩
    have K := ot_look46 hp h J0 J1 k (k + 2) 4 (by omega) (by omega) (by omega) (fun j hj => hW j (by omega)) (by rw [hD0]; exact h.2.2.1)
    rw [hD0, h.2.1] at K
    exact K
theorem ot_look4 {post : SX → Prop} {fl flo : Int32} (hp : p < 85) (h : ot_Ch H C S V F p)
    (J0 : ∀ flo W, S p = 0 → post (m, -1, flo, H, C, W, PS, PV))
    (J1 : ∀ l flo W, ot_Res H C S V p l → post (m, nI l, flo, H, C, W, PS, PV)) :
    ∀ (n d : Nat) (W : Nat → Int32), d ≤ 3 → 3 - d < n → (∀ j, j < d → 1 ≤ ot_an p j ∧ W j = nI (ot_an p j)) →
    wX_look_4 post m fl flo n (nI d) (nI (ot_an p d)) H C W PS PV := by
  intro n
  induction n with
  | zero => intro d W _ hn; omega
  | succ n ih =>
    intro d W hd hn hW
    by_cases h0 : ot_an p d = 0
    · rw [h0]
      exact br_t (by decide) (ot_look32 hp h hd h0 hW (fun flo z => J0 flo W z) (fun l flo z => J1 l flo W z))
    · have hlt := ot_anLt hp d
      have hd3 : d < 3 := by
        rcases Nat.lt_or_ge d 3 with z | z
        · exact z
        · exfalso
          have : d = 3 := by omega
          subst this
          exact h0 (ot_an3 hp)
      refine br_f (nI_nle (by omega) (by omega)) (br_f (nI_ge (b := 4) (by omega) (by decide)) (And.intro (vp_in_nI (by omega) (by omega)) (nm_e (nm_r (nI_1 d) (And.intro (by decide) (nm_r (ot_par (by omega) (by omega)) ?_))))))
      rw [nI_clamp (by omega)]
      refine ih (d + 1) _ (by omega) (by omega) (fun j hj => ?_)
      by_cases e : j = d
      · subst e
        exact ⟨by omega, pk_us⟩
      · rw [pk_un e]
        exact hW j (by omega)
theorem ot_look {post : SX → Prop} {fl flo : Int32} {W : Nat → Int32} (hp : p < 85) (h : ot_Ch H C S V F p)
    (J0 : ∀ flo W, S p = 0 → post (m, -1, flo, H, C, W, PS, PV))
    (J1 : ∀ l flo W, ot_Res H C S V p l → post (m, nI l, flo, H, C, W, PS, PV)) :
    wpX_look post (m, fl, flo, H, C, W, PS, PV) (nI p) :=
  ⟨4, ot_look4 hp h J0 J1 4 0 W (by decide) (by decide) (fun j hj => absurd hj (Nat.not_lt_zero j))⟩
/-- sort: at a path whose way is seen rightly -/
theorem ot_sortC {post : Int32 → SX → Prop} {fl flo : Int32} {W : Nat → Int32} (hp : p < 85) (hm : (m = 0 ∧ S p = 0) ∨ (m ≠ 0 ∧ ot_Ch H C S V F p))
    (J : ∀ fl flo W, (S p = 1 → ∃ l, l < 5 ∧ fl = nI l ∧ C (85 * l + p) = V p) → post (S p) (m, fl, flo, H, C, W, PS, PV)) :
    wpX_sort post (m, fl, flo, H, C, W, PS, PV) (nI p) := by
  refine br_f (nI_pos (by omega)) (br_t (nI_le (b := 84) (by omega) (by decide)) ?_)
  rcases hm with ⟨hm, hs⟩ | ⟨hm, h⟩
  · refine br_t hm ?_
    rw [← hs]
    exact J fl flo W (fun z => absurd (z.symm.trans hs) (by decide))
  · refine br_f hm (ot_look hp h ?_ ?_)
    · intro flo W z
      refine br_f (by decide) ?_
      rw [← z]
      exact J _ flo W (fun y => absurd (y.symm.trans z) (by decide))
    · intro l flo W z
      refine br_t (nI_pos' (by have := z.1; omega)) (And.intro (ot_inL z.1 hp) ?_)
      rw [ot_clL z.1 hp]
      rcases z.2 with y | y
      · refine br_t y.1 ?_
        have K := J (nI l) flo W (fun _ => ⟨l, z.1, rfl, y.2.2.symm⟩)
        rw [y.2.1] at K
        exact K
      · refine br_f y.1 ?_
        have K := J (nI l) flo W (fun e => absurd (e.symm.trans y.2) (by decide))
        rw [y.2] at K
        exact K
end
theorem ot_sort {m : Int32} {H C PS PV S V : Nat → Int32} {p : Nat} {post : Int32 → SX → Prop} {fl flo : Int32} {W : Nat → Int32} (hp : p < 85) (h : ot_RV m H C S V)
    (J : ∀ fl flo W, (S p = 1 → ∃ l, l < 5 ∧ fl = nI l ∧ C (85 * l + p) = V p) → post (S p) (m, fl, flo, H, C, W, PS, PV)) :
    wpX_sort post (m, fl, flo, H, C, W, PS, PV) (nI p) := by
  rcases h with ⟨hm, h⟩ | ⟨hm, F, h⟩
  · exact ot_sortC (F := fun _ => 0) hp (Or.inl ⟨hm, h p hp⟩) J
  · exact ot_sortC hp (Or.inr ⟨by rw [hm]; decide, ot_chOf h p⟩) J
end
section
/-! bad paths, counts -/
theorem ot_badY {post : Int32 → Prop} {p : Nat} (hp : p < 85) (J : post 0) : wpY_bad post (nI p) :=
  br_f (nI_pos (by omega)) (br_t (nI_le (b := 84) (by omega) (by decide)) J)
theorem ot_badY1 {post : Int32 → Prop} {v : Int32} (h : v < 0 ∨ 84 < v) (J : post 1) : wpY_bad post v := by
  rcases h with h | h
  · exact br_t h J
  · refine br_f ?_ (br_f (Int32.not_le.mpr h) J)
    rw [Int32.lt_iff_toInt_lt] at h ⊢
    have e1 : (84 : Int32).toInt = 84 := by decide
    have e0 : (0 : Int32).toInt = 0 := by decide
    omega
/-- an int is a path or is none -/
theorem ot_path (v : Int32) : (v < 0 ∨ 84 < v) ∨ ∃ p : Nat, p < 85 ∧ v = nI p := by
  by_cases h0 : v < 0
  · exact Or.inl (Or.inl h0)
  · by_cases h : 84 < v
    · exact Or.inl (Or.inr h)
    · obtain ⟨j, hj, e⟩ := nI_of2 (M := 84) (n := 84) (by decide) h0 (Int32.not_lt.mp h)
      exact Or.inr ⟨j, by omega, e⟩
theorem ot_sortBad {post : Int32 → SX → Prop} {u : SX} {v : Int32} (h : v < 0 ∨ 84 < v) (J : post (-1) u) : wpX_sort post u v := by
  obtain ⟨m, fl, flo, H, C, W, PS, PV⟩ := u
  rcases h with h | h
  · exact br_t h J
  · refine br_f ?_ (br_f (Int32.not_le.mpr h) J)
    rw [Int32.lt_iff_toInt_lt] at h ⊢
    have e1 : (84 : Int32).toInt = 84 := by decide
    have e0 : (0 : Int32).toInt = 0 := by decide
    omega
def ot_tt (S : Nat → Int32) : Nat → Nat
  | 0 => 0
  | i + 1 => if 1 ≤ i ∧ S i ≠ 0 then ot_tt S i + 1 else ot_tt S i
theorem ot_ttLe (S : Nat → Int32) : ∀ i, ot_tt S i ≤ i := by
  intro i
  induction i with
  | zero => exact Nat.le_refl 0
  | succ i ih =>
    show (if 1 ≤ i ∧ S i ≠ 0 then ot_tt S i + 1 else ot_tt S i) ≤ i + 1
    split <;> omega
theorem ot_nle0 {s : Int32} (h : s = 0 ∨ s = 1 ∨ s = 2) (h0 : s ≠ 0) : ¬ s ≤ 0 := by
  rcases h with h | h | h
  · exact absurd h h0
  · rw [h]; decide
  · rw [h]; decide
theorem ot_totX4 {m : Int32} {H C PS PV S V : Nat → Int32} {post : Int32 → SX → Prop} (h : ot_RV m H C S V)
    (J : ∀ fl flo W, post (nI (ot_tt S 85)) (m, fl, flo, H, C, W, PS, PV)) :
    ∀ (n i : Nat) (fl flo : Int32) (W : Nat → Int32), 1 ≤ i → i ≤ 85 → 85 - i < n →
    wX_total_4 post n (nI (ot_tt S i)) (nI i) m fl flo H C W PS PV := by
  intro n
  induction n with
  | zero => intro i fl flo W _ _ hn; omega
  | succ n ih =>
    intro i fl flo W h1 hi hn
    refine pk_le 85 i (fun z => ?_) (fun z => ?_)
    · have e : i = 85 := by omega
      subst e
      exact J fl flo W
    · refine ot_sort z h ?_
      intro fl flo W _
      by_cases hs : S i = 0
      · have e : ot_tt S (i + 1) = ot_tt S i := if_neg (fun y => y.2 hs)
        refine br_t (by rw [hs]; decide) (nm_r (e' := nI (ot_tt S (i + 1))) (by rw [e, Int32.add_zero]) (nm_r (nI_1 i) ?_))
        exact ih (i + 1) fl flo W (by omega) (by omega) (by omega)
      · have e : ot_tt S (i + 1) = ot_tt S i + 1 := if_pos ⟨h1, hs⟩
        refine br_f (ot_nle0 (ot_012 h z) hs) (nm_r (e' := nI (ot_tt S (i + 1))) (by rw [e, nI_1]) (nm_r (nI_1 i) ?_))
        exact ih (i + 1) fl flo W (by omega) (by omega) (by omega)
theorem ot_totX {m : Int32} {H C PS PV S V W : Nat → Int32} {fl flo : Int32} {post : Int32 → SX → Prop} (h : ot_RV m H C S V)
    (J : ∀ fl flo W, post (nI (ot_tt S 85)) (m, fl, flo, H, C, W, PS, PV)) : wpX_total post (m, fl, flo, H, C, W, PS, PV) :=
  ⟨85, ot_totX4 h J 85 1 fl flo W (by decide) (by decide) (by decide)⟩
theorem ot_totY4 {m : Int32} {LS LV S V Im : Nat → Int32} {post : Int32 → Prop} (J : post (nI (ot_tt S 85))) :
    ∀ (n i : Nat), 1 ≤ i → i ≤ 85 → 85 - i < n → wY_total_4 post m LS LV S V Im n (nI (ot_tt S i)) (nI i) := by
  intro n
  induction n with
  | zero => intro i _ _ hn; omega
  | succ n ih =>
    intro i h1 hi hn
    refine pk_le 85 i (fun z => ?_) (fun z => ?_)
    · have e : i = 85 := by omega
      subst e
      exact J
    · refine And.intro (vp_in_nI z (by omega)) ?_
      rw [nI_clamp (by omega)]
      by_cases hs : S i = 0
      · have e : ot_tt S (i + 1) = ot_tt S i := if_neg (fun y => y.2 hs)
        have K := ih (i + 1) (by omega) (by omega) (by omega)
        rw [e] at K
        exact br_t hs (nm_r (nI_1 i) K)
      · have e : ot_tt S (i + 1) = ot_tt S i + 1 := if_pos ⟨h1, hs⟩
        exact br_f hs (nm_r (e' := nI (ot_tt S (i + 1))) (by rw [e, nI_1]) (nm_r (nI_1 i) (ih (i + 1) (by omega) (by omega) (by omega))))
theorem ot_totY {m : Int32} {LS LV S V Im : Nat → Int32} {post : Int32 → Prop} (J : post (nI (ot_tt S 85))) : wpY_total post (m, LS, LV, S, V, Im) :=
  ⟨85, ot_totY4 J 85 1 (by decide) (by decide) (by decide)⟩
/-! entries of a directory -/
def ot_en (S : Nat → Int32) (q : Nat) : Nat → Nat
  | 0 => 0
  | i + 1 => if (1 ≤ i ∧ S i ≠ 0) ∧ (i - 1) / 4 = q then ot_en S q i + 1 else ot_en S q i
theorem ot_enLe (S : Nat → Int32) (q : Nat) : ∀ i, ot_en S q i ≤ i := by
  intro i
  induction i with
  | zero => exact Nat.le_refl 0
  | succ i ih =>
    show (if (1 ≤ i ∧ S i ≠ 0) ∧ (i - 1) / 4 = q then ot_en S q i + 1 else ot_en S q i) ≤ i + 1
    split <;> omega
theorem ot_enLow (S : Nat → Int32) (q : Nat) : ∀ i, i ≤ 4 * q + 1 → ot_en S q i = 0 := by
  intro i
  induction i with
  | zero => intro _; rfl
  | succ i ih =>
    intro hi
    have e : ot_en S q (i + 1) = ot_en S q i := if_neg (fun y => by have := y.1.1; have := y.2; omega)
    rw [e]
    exact ih (by omega)
theorem ot_enHigh (S : Nat → Int32) (q : Nat) : ∀ d, ot_en S q (4 * q + 5 + d) = ot_en S q (4 * q + 5) := by
  intro d
  induction d with
  | zero => rfl
  | succ d ih =>
    have e : ot_en S q (4 * q + 5 + d + 1) = ot_en S q (4 * q + 5 + d) := if_neg (fun y => by have := y.2; omega)
    exact e.trans ih
/-- nothing is counted if and only if there is nothing -/
theorem ot_enZ (S : Nat → Int32) (q : Nat) : ∀ i, ot_en S q i = 0 → ∀ j, 1 ≤ j → j < i → (j - 1) / 4 = q → S j = 0 := by
  intro i
  induction i with
  | zero => intro _ j _ hj; omega
  | succ i ih =>
    intro h j h1 hj hq
    by_cases c : (1 ≤ i ∧ S i ≠ 0) ∧ (i - 1) / 4 = q
    · have e : ot_en S q (i + 1) = ot_en S q i + 1 := if_pos c
      omega
    · have e : ot_en S q (i + 1) = ot_en S q i := if_neg c
      rw [e] at h
      by_cases ej : j = i
      · subst ej
        by_cases hs : S j = 0
        · exact hs
        · exact absurd ⟨⟨h1, hs⟩, hq⟩ c
      · exact ih h j h1 (by omega) hq
theorem ot_enZ' (S : Nat → Int32) (q : Nat) : ∀ i, (∀ j, 1 ≤ j → j < i → (j - 1) / 4 = q → S j = 0) → ot_en S q i = 0 := by
  intro i
  induction i with
  | zero => intro _; rfl
  | succ i ih =>
    intro h
    have e : ot_en S q (i + 1) = ot_en S q i := if_neg (fun y => y.1.2 (h i y.1.1 (by omega) y.2))
    rw [e]
    exact ih (fun j h1 hj => h j h1 (by omega))
theorem ot_4q (q : Nat) : 4 * nI q + 4 = nI (4 * q + 4) := by
  rw [show (4 : Int32) = nI 4 from rfl, pk_mul, nI_add]
theorem ot_4q1 (q : Nat) : 4 * nI q + 1 = nI (4 * q + 1) := by
  rw [show (4 : Int32) = nI 4 from rfl, pk_mul, nI_1]
theorem ot_entX19 {m : Int32} {H C PS PV S V : Nat → Int32} {q : Nat} {post : Int32 → SX → Prop} (hq : q < 85) (h : ot_RV m H C S V)
    (J : ∀ fl flo W, post (nI (ot_en S q 85)) (m, fl, flo, H, C, W, PS, PV)) :
    ∀ (n i : Nat) (fl flo : Int32) (W : Nat → Int32), 4 * q + 1 ≤ i → i ≤ 4 * q + 5 → (i ≤ 85 ∨ i = 4 * q + 1) → 4 * q + 5 - i < n →
    wX_entries_19 post (nI q) n (nI (ot_en S q i)) (nI i) m fl flo H C W PS PV := by
  intro n
  induction n with
  | zero => intro i fl flo W _ _ _ hn; omega
  | succ n ih =>
    intro i fl flo W h1 hi hb hn
    refine pk_lt (4 * q + 4) i (fun z => ?_) (fun z => ?_) (ot_4q q)
    · have e : ot_en S q i = ot_en S q 85 := by
        have e1 : i = 4 * q + 5 := by omega
        have e2 := ot_enHigh S q (85 - (4 * q + 5))
        rw [show 4 * q + 5 + (85 - (4 * q + 5)) = 85 from by omega] at e2
        rw [e1]
        exact e2.symm
      rw [e]
      exact J fl flo W
    · refine pk_le 85 i (fun y => ?_) (fun y => ?_)
      · have e : ot_en S q i = ot_en S q 85 := by
          rw [ot_enLow S q i (by omega), ot_enLow S q 85 (by omega)]
        rw [e]
        exact J fl flo W
      · refine ot_sort y h ?_
        intro fl flo W _
        have hpar : (i - 1) / 4 = q := by omega
        by_cases hs : S i = 0
        · have e : ot_en S q (i + 1) = ot_en S q i := if_neg (fun x => x.1.2 hs)
          refine br_t (by rw [hs]; decide) (nm_r (e' := nI (ot_en S q (i + 1))) (by rw [e, Int32.add_zero]) (nm_r (nI_1 i) ?_))
          exact ih (i + 1) fl flo W (by omega) (by omega) (by omega) (by omega)
        · have e : ot_en S q (i + 1) = ot_en S q i + 1 := if_pos ⟨⟨by omega, hs⟩, hpar⟩
          refine br_f (ot_nle0 (ot_012 h y) hs) (nm_r (e' := nI (ot_en S q (i + 1))) (by rw [e, nI_1]) (nm_r (nI_1 i) ?_))
          exact ih (i + 1) fl flo W (by omega) (by omega) (by omega) (by omega)
/-- the answer of entries -/
def ot_enA (S : Nat → Int32) (q : Nat) : Int32 := if S q = 2 then nI (ot_en S q 85) else -1
theorem ot_entX {m : Int32} {H C PS PV S V W : Nat → Int32} {fl flo : Int32} {q : Nat} {post : Int32 → SX → Prop} (hq : q < 85) (h : ot_RV m H C S V)
    (J : ∀ fl flo W, post (ot_enA S q) (m, fl, flo, H, C, W, PS, PV)) : wpX_entries post (m, fl, flo, H, C, W, PS, PV) (nI q) := by
  unfold wpX_entries
  refine ot_sort hq h ?_
  intro fl flo W _
  by_cases hs : S q = 2
  · have e : ot_enA S q = nI (ot_en S q 85) := if_pos hs
    rw [e] at J
    refine br_t hs (nm_r (ot_4q1 q) ⟨5, ?_⟩)
    have K := ot_entX19 hq h J 5 (4 * q + 1) fl flo W (by omega) (by omega) (by omega) (by omega)
    rw [ot_enLow S q _ (Nat.le_refl _)] at K
    exact K
  · have e : ot_enA S q = -1 := if_neg hs
    rw [e] at J
    exact br_f hs (J fl flo W)
theorem ot_entY23 {m : Int32} {LS LV S V Im : Nat → Int32} {q : Nat} {post : Int32 → Prop} (hq : q < 85) (J : post (nI (ot_en S q 85))) :
    ∀ (n i : Nat), 1 ≤ i → i ≤ 85 → 85 - i < n → wY_entries_23 post (nI q) m LS LV S V Im n (nI (ot_en S q i)) (nI i) := by
  intro n
  induction n with
  | zero => intro i _ _ hn; omega
  | succ n ih =>
    intro i h1 hi hn
    refine pk_le 85 i (fun z => ?_) (fun z => ?_)
    · have e : i = 85 := by omega
      subst e
      exact J
    · have K := ih (i + 1) (by omega) (by omega) (by omega)
      refine And.intro (vp_in_nI z (by omega)) ?_
      rw [nI_clamp (by omega)]
      by_cases hs : S i = 0
      · have e : ot_en S q (i + 1) = ot_en S q i := if_neg (fun y => y.1.2 hs)
        rw [e] at K
        exact br_t hs (nm_r (nI_1 i) K)
      · refine br_f hs (ot_parY h1 (by omega) ?_)
        refine pk_eq ((i - 1) / 4) q (fun y => ?_) (fun y => ?_)
        · have e : ot_en S q (i + 1) = ot_en S q i + 1 := if_pos ⟨⟨h1, hs⟩, y⟩
          exact nm_r (e' := nI (ot_en S q (i + 1))) (by rw [e, nI_1]) (nm_r (nI_1 i) K)
        · have e : ot_en S q (i + 1) = ot_en S q i := if_neg (fun x => y x.2)
          rw [e] at K
          exact nm_r (nI_1 i) K
theorem ot_entY {m : Int32} {LS LV S V Im : Nat → Int32} {q : Nat} {post : Int32 → Prop} (hq : q < 85) (J : post (ot_enA S q)) : wpY_entries post (m, LS, LV, S, V, Im) (nI q) := by
  unfold wpY_entries
  refine ot_badY hq (br_t rfl (And.intro (vp_in_nI hq (by omega)) ?_))
  rw [nI_clamp (by omega)]
  by_cases hs : S q = 2
  · have e : ot_enA S q = nI (ot_en S q 85) := if_pos hs
    rw [e] at J
    exact br_t hs ⟨85, ot_entY23 hq J 85 1 (by decide) (by decide) (by decide)⟩
  · have e : ot_enA S q = -1 := if_neg hs
    rw [e] at J
    exact br_f hs J
end
section
/-! isRoom, canMake: one answer -/
def ot_rm (m : Int32) (S : Nat → Int32) (p : Nat) : Prop := m = 1 ∧ 1 ≤ p ∧ S p = 0 ∧ S ((p - 1) / 4) = 2
theorem ot_lt1 {v : Int32} (h : v < 0 ∨ 84 < v) : v < 1 ∨ (¬ v < 1 ∧ 84 < v) := by
  by_cases h1 : v < 1
  · exact Or.inl h1
  · refine Or.inr ⟨h1, ?_⟩
    rcases h with h | h
    · exfalso
      apply h1
      rw [Int32.lt_iff_toInt_lt] at h ⊢
      have e1 : (1 : Int32).toInt = 1 := by decide
      have e0 : (0 : Int32).toInt = 0 := by decide
      omega
    · exact h
theorem ot_room {m : Int32} {H C S V : Nat → Int32} (h : ot_RV m H C S V) (v : Int32) :
    ∃ r : Int32, (r = 0 ∨ (r = 1 ∧ ∃ p, p < 85 ∧ v = nI p ∧ ot_rm m S p)) ∧
      (∀ (post : Int32 → SX → Prop) (fl flo : Int32) (W PS PV : Nat → Int32), (∀ fl flo W, post r (m, fl, flo, H, C, W, PS, PV)) → wpX_isRoom post (m, fl, flo, H, C, W, PS, PV) v) ∧
      (∀ (post : Int32 → Prop) (LS LV Im : Nat → Int32), post r → wpY_canMake post (m, LS, LV, S, V, Im) v) := by
  by_cases hm : m = 0
  · exact ⟨0, Or.inl rfl, fun post fl flo W PS PV J => br_t hm (J _ _ _), fun post LS LV Im J => br_t hm J⟩
  · have hm1 : m = 1 := by
      rcases h with ⟨z, _⟩ | ⟨z, _⟩
      · exact absurd z hm
      · exact z
    rcases ot_path v with hb | ⟨p, hp, rfl⟩
    · refine ⟨0, Or.inl rfl, fun post fl flo W PS PV J => br_f hm ?_, fun post LS LV Im J => br_f hm ?_⟩
      · rcases ot_lt1 hb with z | ⟨z, y⟩
        · exact br_t z (J _ _ _)
        · exact br_f z (br_t y (J _ _ _))
      · exact br_c (fun _ => J) (fun _ => ot_badY1 hb (br_f (by decide) J))
    · by_cases h0 : p = 0
      · subst h0
        exact ⟨0, Or.inl rfl, fun post fl flo W PS PV J => br_f hm (br_t (by decide) (J _ _ _)), fun post LS LV Im J => br_f hm (br_t (by decide) J)⟩
      · have hX : ∀ r, (S p ≠ 0 → r = 0) → (S p = 0 → S ((p - 1) / 4) ≠ 2 → r = 0) → (S p = 0 → S ((p - 1) / 4) = 2 → r = 1) →
          (∀ (post : Int32 → SX → Prop) (fl flo : Int32) (W PS PV : Nat → Int32), (∀ fl flo W, post r (m, fl, flo, H, C, W, PS, PV)) → wpX_isRoom post (m, fl, flo, H, C, W, PS, PV) (nI p)) ∧
          (∀ (post : Int32 → Prop) (LS LV Im : Nat → Int32), post r → wpY_canMake post (m, LS, LV, S, V, Im) (nI p)) := by
          intro r r1 r2 r3
          constructor
          · intro post fl flo W PS PV J
            refine br_f hm (br_f (nI_nlt (b := 1) (by omega) (by omega)) (br_f (nI_nlt (a := 84) (by omega) (by decide)) ?_))
            refine ot_sort hp h ?_
            intro fl flo W _
            by_cases hs : S p = 0
            · refine br_t hs (ot_parX (by omega) (by omega) (ot_sort (by omega) h ?_))
              intro fl flo W _
              by_cases hs2 : S ((p - 1) / 4) = 2
              · have K := J fl flo W
                rw [r3 hs hs2] at K
                exact br_t hs2 K
              · have K := J fl flo W
                rw [r2 hs hs2] at K
                exact br_f hs2 K
            · have K := J fl flo W
              rw [r1 hs] at K
              exact br_f hs K
          · intro post LS LV Im J
            refine br_f hm (br_f (nI_nle (by omega) (by omega)) (ot_badY hp (br_t rfl (And.intro (vp_in_nI hp (by omega)) ?_))))
            rw [nI_clamp (by omega)]
            by_cases hs : S p = 0
            · refine br_t hs (ot_parY (by omega) (by omega) (And.intro (vp_in_nI (by omega) (by omega)) ?_))
              rw [nI_clamp (by omega)]
              by_cases hs2 : S ((p - 1) / 4) = 2
              · rw [r3 hs hs2] at J
                exact br_t hs2 J
              · rw [r2 hs hs2] at J
                exact br_f hs2 J
            · rw [r1 hs] at J
              exact br_f hs J
        by_cases hs : S p = 0
        · by_cases hs2 : S ((p - 1) / 4) = 2
          · exact ⟨1, Or.inr ⟨rfl, p, hp, rfl, hm1, by omega, hs, hs2⟩, hX 1 (fun z => absurd hs z) (fun _ z => absurd hs2 z) (fun _ _ => rfl)⟩
          · exact ⟨0, Or.inl rfl, hX 0 (fun _ => rfl) (fun _ _ => rfl) (fun _ z => absurd z hs2)⟩
        · exact ⟨0, Or.inl rfl, hX 0 (fun _ => rfl) (fun _ _ => rfl) (fun z => absurd z hs)⟩
/-! copyUpTo, put -/
def ot_st (H : Nat → Int32) (p : Nat) : Nat → Int32 := if 1 ≤ p ∧ H (340 + p) = 0 then upd H (340 + p) 2 else H
def ot_cu (H : Nat → Int32) (p : Nat) : Nat → Int32 := ot_st (ot_st H p) ((p - 1) / 4)
theorem ot_cuStep {m fl flo : Int32} {H C W PS PV : Nat → Int32} {post : SX → Prop} {p s n : Nat} (h1 : 1 ≤ p) (hp : p < 85) (hs : s < 3)
    (J : wX_copyUpTo_4 post m fl flo n (nI ((p - 1) / 4)) (nI (s + 1)) (ot_st H p) C W PS PV) :
    wX_copyUpTo_4 post m fl flo (n + 1) (nI p) (nI s) H C W PS PV := by
  refine br_f (nI_ge (b := 3) (by omega) (by decide)) (br_f (nI_nle (by omega) (by omega)) (And.intro (ot_in4 hp) ?_))
  rw [ot_cl4 hp]
  by_cases z : H (340 + p) = 0
  · have e : ot_st H p = upd H (340 + p) 2 := if_pos ⟨h1, z⟩
    rw [e] at J
    exact br_t z (And.intro (ot_in4 hp) (nm_e (ot_parX h1 (by omega) (nm_r (nI_1 s) J))))
  · have e : ot_st H p = H := if_neg (fun y => z y.2)
    rw [e] at J
    exact br_f z (ot_parX h1 (by omega) (nm_r (nI_1 s) J))
theorem ot_st0 (H : Nat → Int32) : ot_st H 0 = H := if_neg (fun y => by have := y.1; omega)
theorem ot_copyUp {m fl flo : Int32} {H C W PS PV : Nat → Int32} {post : SX → Prop} {p : Nat} (hp : p ≤ 20)
    (J : post (m, fl, flo, ot_cu H p, C, W, PS, PV)) : wpX_copyUpTo post (m, fl, flo, H, C, W, PS, PV) (nI p) := by
  refine ⟨3, ?_⟩
  by_cases h0 : p = 0
  · subst h0
    have e : ot_cu H 0 = H := by
      show ot_st (ot_st H 0) 0 = H
      rw [ot_st0, ot_st0]
    rw [e] at J
    exact br_f (by decide) (br_t (by decide) J)
  · refine ot_cuStep (s := 0) (by omega) (by omega) (by omega) ?_
    by_cases h1 : (p - 1) / 4 = 0
    · have e : ot_cu H p = ot_st H p := by
        show ot_st (ot_st H p) ((p - 1) / 4) = ot_st H p
        rw [h1, ot_st0]
      rw [e] at J
      rw [h1]
      exact br_f (by decide) (br_t (by decide) J)
    · refine ot_cuStep (s := 1) (by omega) (by omega) (by omega) ?_
      have e : ((p - 1) / 4 - 1) / 4 = 0 := by omega
      rw [e]
      exact br_f (by decide) (br_t (by decide) J)
theorem ot_put {m fl flo : Int32} {H C W PS PV : Nat → Int32} {post : SX → Prop} {p : Nat} {s v : Int32} (hp : p < 85)
    (J : post (m, fl, flo, upd H (340 + p) s, upd C (340 + p) v, W, PS, PV)) : wpX_put post (m, fl, flo, H, C, W, PS, PV) (nI p) s v := by
  refine And.intro (ot_in4 hp) (nm_r (e' := upd H (340 + p) s) (by rw [ot_cl4 hp]) (And.intro (ot_in4 hp) (nm_r (e' := upd C (340 + p) v) (by rw [ot_cl4 hp]) J)))
/-! isUnder, clearUnder -/
abbrev ot_un (p q : Nat) : Prop := (p - 1) / 4 = q ∨ ((p - 1) / 4 - 1) / 4 = q
theorem ot_isUnder {post : Int32 → Prop} {p q : Nat} (hp : p < 85) (h1 : 1 ≤ p) (hq : 1 ≤ q) (hq2 : q < 85)
    (J1 : ot_un p q → post 1) (J0 : ¬ ot_un p q → post 0) : wpX_isUnder post (nI p) (nI q) := by
  refine ⟨4, br_f (by decide) (br_f (nI_nle (by omega) (by omega)) (ot_parX h1 (by omega) ?_))⟩
  refine pk_eq ((p - 1) / 4) q (fun y => J1 (Or.inl y)) (fun y => nm_e ?_)
  by_cases h2 : (p - 1) / 4 = 0
  · rw [h2]
    exact br_f (by decide) (br_t (by decide) (J0 (by intro z; rcases z with z | z <;> omega)))
  · refine br_f (by decide) (br_f (nI_nle (by omega) (by omega)) (ot_parX (by omega) (by omega) ?_))
    refine pk_eq (((p - 1) / 4 - 1) / 4) q (fun x => J1 (Or.inr x)) (fun x => nm_e ?_)
    have j0 : post 0 := J0 (by intro z; rcases z with z | z <;> omega)
    by_cases h3 : ((p - 1) / 4 - 1) / 4 = 0
    · rw [h3]
      exact br_f (by decide) (br_t (by decide) j0)
    · refine br_f (by decide) (br_f (nI_nle (by omega) (by omega)) (ot_parX (by omega) (by omega) ?_))
      refine pk_eq ((((p - 1) / 4 - 1) / 4 - 1) / 4) q (fun x => by omega) (fun x => nm_e ?_)
      exact br_t (by decide) j0
/-- the layer with what is under q, at paths below i, taken out -/
def ot_cl (H : Nat → Int32) (l q i : Nat) : Nat → Int32 := fun x => if (85 * l ≤ x ∧ x < 85 * l + i) ∧ ot_un (x - 85 * l) q then 0 else H x
theorem ot_clT {H : Nat → Int32} {l q i : Nat} (h : ot_un i q) : upd (ot_cl H l q i) (85 * l + i) 0 = ot_cl H l q (i + 1) := by
  funext x
  by_cases e : x = 85 * l + i
  · rw [e, pk_us]
    exact (if_pos ⟨⟨by omega, by omega⟩, by rw [show 85 * l + i - 85 * l = i from by omega]; exact h⟩).symm
  · rw [pk_un e]
    by_cases c : (85 * l ≤ x ∧ x < 85 * l + i) ∧ ot_un (x - 85 * l) q
    · exact (if_pos c).trans (if_pos ⟨⟨c.1.1, by have := c.1.2; omega⟩, c.2⟩).symm
    · refine (if_neg c).trans (if_neg (fun z => c ⟨⟨z.1.1, ?_⟩, z.2⟩)).symm
      have := z.1.2
      omega
theorem ot_clF {H : Nat → Int32} {l q i : Nat} (h : ¬ ot_un i q) : ot_cl H l q i = ot_cl H l q (i + 1) := by
  funext x
  by_cases c : (85 * l ≤ x ∧ x < 85 * l + i) ∧ ot_un (x - 85 * l) q
  · exact (if_pos c).trans (if_pos ⟨⟨c.1.1, by have := c.1.2; omega⟩, c.2⟩).symm
  · refine (if_neg c).trans (if_neg (fun z => c ⟨⟨z.1.1, ?_⟩, z.2⟩)).symm
    by_cases e : x = 85 * l + i
    · exfalso
      apply h
      have k := z.2
      rw [e, show 85 * l + i - 85 * l = i from by omega] at k
      exact k
    · have := z.1.2
      omega
theorem ot_cl0 {H : Nat → Int32} {l q : Nat} (hq : 1 ≤ q) : ot_cl H l q (q + 1) = H := by
  funext x
  refine if_neg (fun z => ?_)
  have a := z.1.1
  have b := z.1.2
  rcases z.2 with c | c <;> omega
theorem ot_clear4 {m fl flo : Int32} {H C W PS PV : Nat → Int32} {post : SX → Prop} {l q : Nat} (hl : l < 5) (h1 : 1 ≤ q) (hq : q < 85)
    (J : post (m, fl, flo, ot_cl H l q 85, C, W, PS, PV)) : ∀ (n i : Nat), 1 ≤ i → i ≤ 85 → 85 - i < n →
    wX_clearUnder_4 post (nI l) (nI q) m fl flo n (nI i) (ot_cl H l q i) C W PS PV := by
  intro n
  induction n with
  | zero => intro i _ _ hn; omega
  | succ n ih =>
    intro i hi1 hi hn
    refine pk_le 85 i (fun z => ?_) (fun z => ?_)
    · have e : i = 85 := by omega
      subst e
      exact J
    · have K := ih (i + 1) (by omega) (by omega) (by omega)
      refine ot_isUnder z hi1 h1 hq (fun y => ?_) (fun y => ?_)
      · refine br_f (by decide) (And.intro (ot_inL hl z) (nm_r (e' := ot_cl H l q (i + 1)) (by rw [ot_clL hl z]; exact ot_clT y) (nm_r (nI_1 i) K)))
      · refine br_t rfl (nm_r (nI_1 i) ?_)
        rw [ot_clF y]
        exact K
theorem ot_clear {m fl flo : Int32} {H C W PS PV : Nat → Int32} {post : SX → Prop} {l q : Nat} (hl : l < 5) (h1 : 1 ≤ q) (hq : q < 85)
    (J : post (m, fl, flo, ot_cl H l q 85, C, W, PS, PV)) : wpX_clearUnder post (m, fl, flo, H, C, W, PS, PV) (nI l) (nI q) := by
  refine nm_r (nI_1 q) ⟨85, ?_⟩
  have K := ot_clear4 hl h1 hq J 85 (q + 1) (by omega) (by omega) (by omega)
  rw [ot_cl0 h1] at K
  exact K
end
section
/-! scans -/
theorem ot_scLt {H : Nat → Int32} {q f : Nat} : ∀ {k l : Nat}, ot_sc H q f k = some l → l < k ∧ f ≤ l ∧ H (85 * l + q) ≠ 0 := by
  intro k
  induction k with
  | zero => intro l h; exact absurd h (by simp [ot_sc])
  | succ k ih =>
    intro l h
    unfold ot_sc at h
    split at h
    · exact absurd h (by simp)
    · split at h
      · have := ih h
        exact ⟨by omega, this.2⟩
      · have e : k = l := by simpa using h
        subst e
        exact ⟨by omega, by omega, by assumption⟩
theorem ot_scC {H H' : Nat → Int32} {q f : Nat} : ∀ k, (∀ j, j < k → H' (85 * j + q) = H (85 * j + q)) → ot_sc H' q f k = ot_sc H q f k := by
  intro k
  induction k with
  | zero => intro _; rfl
  | succ k ih =>
    intro h
    unfold ot_sc
    rw [h k (by omega), ih (fun j hj => h j (by omega))]
theorem ot_rsC {H H' : Nat → Int32} {q f : Nat} : ∀ k, (∀ j, j < k → H' (85 * j + q) = H (85 * j + q)) → ot_rs H' q f k = ot_rs H q f k := by
  intro k
  induction k with
  | zero => intro _; rfl
  | succ k ih =>
    intro h
    unfold ot_rs
    rw [h k (by omega), ih (fun j hj => h j (by omega))]
theorem ot_rsLe {H : Nat → Int32} {q f : Nat} : ∀ k, f ≤ k → ot_rs H q f k ≤ k := by
  intro k
  induction k with
  | zero => intro h; exact h
  | succ k ih =>
    intro h
    unfold ot_rs
    split
    · exact h
    · split
      · omega
      · split
        · omega
        · have := ih (by omega)
          omega
theorem ot_rsGe {H : Nat → Int32} {q f : Nat} : ∀ k, f ≤ ot_rs H q f k := by
  intro k
  induction k with
  | zero => exact Nat.le_refl f
  | succ k ih =>
    unfold ot_rs
    split
    · exact Nat.le_refl f
    · split
      · omega
      · split
        · omega
        · exact ih
theorem ot_scT {H : Nat → Int32} {q f : Nat} (hf : f ≤ 4) (h : H (340 + q) ≠ 0) : ot_sc H q f 5 = some 4 := (if_neg (Nat.not_lt.mpr hf)).trans (if_neg h)
theorem ot_sc0 {H : Nat → Int32} {q f : Nat} (hf : f ≤ 4) (h : H (340 + q) = 0) : ot_sc H q f 5 = ot_sc H q f 4 := (if_neg (Nat.not_lt.mpr hf)).trans (if_pos h)
theorem ot_scN {H : Nat → Int32} {q : Nat} (h : H (340 + q) = 0) : ot_sc H q 4 5 = none := (ot_sc0 (Nat.le_refl 4) h).trans (if_pos (by decide))
theorem ot_rs3 {H : Nat → Int32} {q f : Nat} (hf : f ≤ 4) (h : H (340 + q) = 3) : ot_rs H q f 5 = 4 := (if_neg (Nat.not_lt.mpr hf)).trans (if_pos h)
theorem ot_rs0 {H : Nat → Int32} {q f : Nat} (hf : f ≤ 4) (h3 : H (340 + q) ≠ 3) (h1 : H (340 + q) ≠ 1) (h4 : H (340 + q) ≠ 4) : ot_rs H q f 5 = ot_rs H q f 4 :=
  (if_neg (Nat.not_lt.mpr hf)).trans ((if_neg h3).trans (if_neg (fun z => z.elim h1 h4)))
theorem ot_vwEx (H C : Nat → Int32) (q f : Nat) : ∃ s v, ot_VW H C s v q f := by
  cases e : ot_sc H q f 5 with
  | none => exact ⟨0, 0, fun _ => rfl, fun l h => absurd (e.symm.trans h) (by simp)⟩
  | some l =>
    by_cases h4 : H (85 * l + q) = 4
    · refine ⟨0, 0, fun _ => rfl, fun l' h => ?_⟩
      have : l = l' := by simpa using e.symm.trans h
      subst this
      exact Or.inl ⟨h4, rfl⟩
    · by_cases h1 : H (85 * l + q) = 1
      · refine ⟨1, C (85 * l + q), fun h => absurd (e.symm.trans h) (by simp), fun l' h => ?_⟩
        have : l = l' := by simpa using e.symm.trans h
        subst this
        exact Or.inr (Or.inl ⟨h1, rfl, rfl⟩)
      · refine ⟨2, 0, fun h => absurd (e.symm.trans h) (by simp), fun l' h => ?_⟩
        have : l = l' := by simpa using e.symm.trans h
        subst this
        exact Or.inr (Or.inr ⟨h4, h1, rfl⟩)
/-- the top layer's entry settles it -/
theorem ot_vwT {H C : Nat → Int32} {s v : Int32} {q f : Nat} (hf : f ≤ 4) (h : H (340 + q) ≠ 0)
    (z : (H (340 + q) = 4 ∧ s = 0) ∨ (H (340 + q) = 1 ∧ s = 1 ∧ v = C (340 + q)) ∨ (H (340 + q) ≠ 4 ∧ H (340 + q) ≠ 1 ∧ s = 2)) : ot_VW H C s v q f := by
  refine ⟨fun e => absurd ((ot_scT hf h).symm.trans e) (by simp), fun l e => ?_⟩
  have : 4 = l := by simpa using (ot_scT hf h).symm.trans e
  subst this
  exact z
theorem ot_vwT' {H C : Nat → Int32} {s v : Int32} {q f : Nat} (hf : f ≤ 4) (h : H (340 + q) ≠ 0) (z : ot_VW H C s v q f) :
    (H (340 + q) = 4 ∧ s = 0) ∨ (H (340 + q) = 1 ∧ s = 1 ∧ v = C (340 + q)) ∨ (H (340 + q) ≠ 4 ∧ H (340 + q) ≠ 1 ∧ s = 2) := z.2 4 (ot_scT hf h)
theorem ot_vwC {H C H' C' : Nat → Int32} {s v s' v' : Int32} {q f f' : Nat} (hH : ∀ l, l < 5 → H' (85 * l + q) = H (85 * l + q)) (hC : ∀ l, l < 5 → C' (85 * l + q) = C (85 * l + q))
    (es : s' = s) (ev : s = 1 → v' = v) (ef : f' = f) (h : ot_VW H C s v q f) : ot_VW H' C' s' v' q f' := by
  subst es ef
  have e : ot_sc H' q f' 5 = ot_sc H q f' 5 := ot_scC 5 hH
  refine ⟨fun z => h.1 (e.symm.trans z), fun l z => ?_⟩
  have z' := e.symm.trans z
  have hl := (ot_scLt z').1
  rw [hH l hl, hC l hl]
  rcases h.2 l z' with y | y | y
  · exact Or.inl y
  · exact Or.inr (Or.inl ⟨y.1, y.2.1, (ev y.2.1).trans y.2.2⟩)
  · exact Or.inr (Or.inr y)
theorem ot_VIc {H C S V H' C' S' V' : Nat → Int32} {F F' : Nat → Nat} {q : Nat} (hH : ∀ l, l < 5 → H' (85 * l + q) = H (85 * l + q)) (hC : ∀ l, l < 5 → C' (85 * l + q) = C (85 * l + q))
    (es : S' q = S q) (ev : S q = 1 → V' q = V q) (ef : F' q = F q) (sp : S' ((q - 1) / 4) = S ((q - 1) / 4)) (fp : F' ((q - 1) / 4) = F ((q - 1) / 4))
    (h : ot_VI H C S V F q) : ot_VI H' C' S' V' F' q := by
  unfold ot_VI
  rw [sp, ef, fp, ot_rsC 5 hH]
  refine ⟨fun z => es.trans (h.1 z), fun z => ot_vwC hH hC es ev rfl (h.2.1 z), fun z => h.2.2 (es.symm.trans z)⟩
theorem ot_Vc {H C S V S' V' : Nat → Int32} {F : Nat → Nat} (es : ∀ x, x < 85 → S' x = S x) (ev : ∀ x, x < 85 → S x = 1 → V' x = V x) (h : ot_View H C S V F) : ot_View H C S' V' F :=
  ⟨h.1, h.2.1, (es 0 (by omega)).trans h.2.2.1, h.2.2.2.1, fun q h1 hq => ot_VIc (fun _ _ => rfl) (fun _ _ => rfl) (es q hq) (ev q hq) rfl (es _ (by omega)) rfl (h.2.2.2.2 q h1 hq)⟩
/-! what is seen of the top layer -/
theorem ot_parDir {H C S V : Nat → Int32} {F : Nat → Nat} (h : ot_View H C S V F) {q : Nat} (h1 : 1 ≤ q) (hq : q < 85) (hs : S q ≠ 0) : S ((q - 1) / 4) = 2 := by
  by_cases z : S ((q - 1) / 4) = 2
  · exact z
  · exact absurd ((h.2.2.2.2 q h1 hq).1 z) hs
theorem ot_dir4 {H C S V : Nat → Int32} {F : Nat → Nat} (h : ot_View H C S V F) {q : Nat} (h1 : 1 ≤ q) (hq : q < 85) (hs : S q = 2) : H (340 + q) ≠ 1 ∧ H (340 + q) ≠ 4 := by
  have hp := ot_parDir h h1 hq (by rw [hs]; decide)
  have hw := (h.2.2.2.2 q h1 hq).2.1 hp
  by_cases z : H (340 + q) = 0
  · rw [z]; decide
  · rcases ot_vwT' (h.2.2.2.1 _) z hw with y | y | y
    · exact absurd (y.2.symm.trans hs) (by decide)
    · exact absurd (y.2.1.symm.trans hs) (by decide)
    · exact ⟨y.2.1, y.1⟩
theorem ot_nd4 {H C S V : Nat → Int32} {F : Nat → Nat} (h : ot_View H C S V F) {q : Nat} (h1 : 1 ≤ q) (hq : q < 85) (hp : S ((q - 1) / 4) = 2) (hs : S q ≠ 2) : H (340 + q) ≠ 2 ∧ H (340 + q) ≠ 3 := by
  have hw := (h.2.2.2.2 q h1 hq).2.1 hp
  by_cases z : H (340 + q) = 0
  · rw [z]; decide
  · rcases ot_vwT' (h.2.2.2.1 _) z hw with y | y | y
    · rw [y.1]; decide
    · rw [y.1]; decide
    · exact absurd y.2.2 hs
/-! copyUpTo -/
theorem ot_stView {H C S V : Nat → Int32} {F : Nat → Nat} {p : Nat} (h : ot_View H C S V F) (hp : p < 85) (hs : S p = 2) : ot_View (ot_st H p) C S V F := by
  by_cases c : 1 ≤ p ∧ H (340 + p) = 0
  · have e : ot_st H p = upd H (340 + p) 2 := if_pos c
    rw [e]
    refine ⟨(pk_un (by omega)).trans h.1, h.2.1, h.2.2.1, h.2.2.2.1, fun q h1 hq => ?_⟩
    have hv := h.2.2.2.2 q h1 hq
    by_cases eq : q = p
    · subst eq
      have hpd := ot_parDir h h1 hq (by rw [hs]; decide)
      have hF := h.2.2.2.1 ((q - 1) / 4)
      have e2 : upd H (340 + q) 2 (340 + q) = 2 := pk_us
      refine ⟨fun z => absurd hpd z, fun _ => ot_vwT hF (by rw [e2]; decide) (Or.inr (Or.inr ⟨by rw [e2]; decide, by rw [e2]; decide, hs⟩)), fun _ => ?_⟩
      rw [hv.2.2 hs, ot_rs0 hF (by rw [c.2]; decide) (by rw [c.2]; decide) (by rw [c.2]; decide), ot_rs0 hF (by rw [e2]; decide) (by rw [e2]; decide) (by rw [e2]; decide)]
      exact (ot_rsC 4 (fun j hj => pk_un (by omega))).symm
    · exact ot_VIc (fun l hl => pk_un (by omega)) (fun _ _ => rfl) rfl (fun _ => rfl) rfl rfl rfl hv
  · have e : ot_st H p = H := if_neg c
    rw [e]
    exact h
theorem ot_okSt {H : Nat → Int32} {p : Nat} (h : ot_OK H) (hp : p < 85) (hd : 1 ≤ p → H (340 + (p - 1) / 4) = 2 ∨ H (340 + (p - 1) / 4) = 3) : ot_OK (ot_st H p) := by
  by_cases c : 1 ≤ p ∧ H (340 + p) = 0
  · have e : ot_st H p = upd H (340 + p) 2 := if_pos c
    rw [e]
    refine ⟨fun l hl => (pk_un (by omega)).trans (h.1 l hl), fun l x hl h1 hx => ?_⟩
    by_cases ex : l = 4 ∧ x = p
    · obtain ⟨rfl, rfl⟩ := ex
      right
      refine ⟨Or.inr (Or.inl pk_us), ?_⟩
      rw [pk_un (by omega)]
      exact hd h1
    · rw [pk_un (k := 340 + p) (j := 85 * l + x) (by omega)]
      rcases h.2 l x hl h1 hx with z | ⟨z, y⟩
      · exact Or.inl z
      · refine Or.inr ⟨z, ?_⟩
        by_cases ey : l = 4 ∧ (x - 1) / 4 = p
        · obtain ⟨rfl, e2⟩ := ey
          rw [e2]
          exact Or.inl pk_us
        · rw [pk_un (k := 340 + p) (j := 85 * l + (x - 1) / 4) (by omega)]
          exact y
  · have e : ot_st H p = H := if_neg c
    rw [e]
    exact h
theorem ot_stDir {H C S V : Nat → Int32} {F : Nat → Nat} {p : Nat} (hk : ot_OK H) (h : ot_View H C S V F) (hp : p < 85) (hs : S p = 2) : ot_st H p (340 + p) = 2 ∨ ot_st H p (340 + p) = 3 := by
  by_cases c : 1 ≤ p ∧ H (340 + p) = 0
  · have e : ot_st H p = upd H (340 + p) 2 := if_pos c
    rw [e]
    exact Or.inl pk_us
  · have e : ot_st H p = H := if_neg c
    rw [e]
    by_cases h0 : p = 0
    · subst h0; exact Or.inl h.1
    · have d := ot_dir4 h (by omega) hp hs
      rcases hk.2 4 p (by omega) (by omega) hp with z | ⟨z, _⟩
      · exact absurd ⟨by omega, z⟩ c
      · rcases z with z | z | z | z
        · exact absurd z d.1
        · exact Or.inl z
        · exact Or.inr z
        · exact absurd z d.2
theorem ot_stCu {H : Nat → Int32} {p : Nat} (h1 : 1 ≤ p) : ot_cu H p = ot_st (ot_st H ((p - 1) / 4)) p := by
  have hne : (p - 1) / 4 ≠ p := by omega
  unfold ot_cu
  by_cases c : 1 ≤ p ∧ H (340 + p) = 0
  · have e : ot_st H p = upd H (340 + p) 2 := if_pos c
    rw [e]
    by_cases d : 1 ≤ (p - 1) / 4 ∧ H (340 + (p - 1) / 4) = 0
    · have e2 : ot_st H ((p - 1) / 4) = upd H (340 + (p - 1) / 4) 2 := if_pos d
      rw [e2]
      have e3 : ot_st (upd H (340 + p) 2) ((p - 1) / 4) = upd (upd H (340 + p) 2) (340 + (p - 1) / 4) 2 := if_pos ⟨d.1, (pk_un (by omega)).trans d.2⟩
      have e4 : ot_st (upd H (340 + (p - 1) / 4) 2) p = upd (upd H (340 + (p - 1) / 4) 2) (340 + p) 2 := if_pos ⟨c.1, (pk_un (by omega)).trans c.2⟩
      rw [e3, e4]
      funext x
      unfold upd
      by_cases x1 : x = 340 + p
      · rw [if_neg (by omega), if_pos x1, if_pos x1]
      · by_cases x2 : x = 340 + (p - 1) / 4
        · rw [if_pos x2, if_neg x1, if_pos x2]
        · rw [if_neg x2, if_neg x1, if_neg x1, if_neg x2]
    · have e2 : ot_st H ((p - 1) / 4) = H := if_neg d
      rw [e2, e]
      exact if_neg (fun z => d ⟨z.1, (pk_un (by omega)).symm.trans z.2⟩)
  · have e : ot_st H p = H := if_neg c
    rw [e]
    refine (if_neg (fun z => c ⟨z.1, ?_⟩)).symm
    have k := z.2
    by_cases d : 1 ≤ (p - 1) / 4 ∧ H (340 + (p - 1) / 4) = 0
    · have e2 : ot_st H ((p - 1) / 4) = upd H (340 + (p - 1) / 4) 2 := if_pos d
      rw [e2, pk_un (by omega)] at k
      exact k
    · have e2 : ot_st H ((p - 1) / 4) = H := if_neg d
      rw [e2] at k
      exact k
/-- copyUpTo keeps the view, and the directory is then in the top layer -/
theorem ot_cuOK {H C S V : Nat → Int32} {F : Nat → Nat} {p : Nat} (hk : ot_OK H) (h : ot_View H C S V F) (hp : p ≤ 20) (hs : S p = 2) :
    ot_OK (ot_cu H p) ∧ ot_View (ot_cu H p) C S V F ∧ (ot_cu H p (340 + p) = 2 ∨ ot_cu H p (340 + p) = 3) := by
  by_cases h0 : p = 0
  · subst h0
    have e : ot_cu H 0 = H := by
      show ot_st (ot_st H 0) 0 = H
      rw [ot_st0, ot_st0]
    rw [e]
    exact ⟨hk, h, Or.inl h.1⟩
  · rw [ot_stCu (by omega)]
    have hpd := ot_parDir h (by omega) (by omega) (by rw [hs]; decide : S p ≠ 0)
    have v1 := ot_stView h (by omega) hpd
    have k1 : ot_OK (ot_st H ((p - 1) / 4)) := ot_okSt hk (by omega) (fun z => by
      rw [show ((p - 1) / 4 - 1) / 4 = 0 from by omega]
      exact Or.inl h.1)
    have d1 := ot_stDir hk h (by omega) hpd
    exact ⟨ot_okSt k1 (by omega) (fun _ => d1), ot_stView v1 (by omega) hs, ot_stDir k1 v1 (by omega) hs⟩
/-! put -/
theorem ot_okPut {H : Nat → Int32} {q : Nat} {c : Int32} (hk : ot_OK H) (h1 : 1 ≤ q) (hq : q < 85) (hc : c = 1 ∨ c = 2 ∨ c = 3 ∨ c = 4)
    (hd : H (340 + (q - 1) / 4) = 2 ∨ H (340 + (q - 1) / 4) = 3) (hch : ∀ x, 1 ≤ x → x < 85 → (x - 1) / 4 = q → H (340 + x) = 0) : ot_OK (upd H (340 + q) c) := by
  refine ⟨fun l hl => (pk_un (by omega)).trans (hk.1 l hl), fun l x hl hx1 hx => ?_⟩
  by_cases ex : l = 4 ∧ x = q
  · obtain ⟨rfl, rfl⟩ := ex
    right
    refine ⟨?_, ?_⟩
    · rw [show upd H (340 + x) c (85 * 4 + x) = c from pk_us]
      exact hc
    · rw [pk_un (by omega)]
      exact hd
  · rw [pk_un (k := 340 + q) (j := 85 * l + x) (by omega)]
    rcases hk.2 l x hl hx1 hx with z | ⟨z, y⟩
    · exact Or.inl z
    · by_cases ey : l = 4 ∧ (x - 1) / 4 = q
      · obtain ⟨rfl, e2⟩ := ey
        exact Or.inl (hch x hx1 hx e2)
      · refine Or.inr ⟨z, ?_⟩
        rw [pk_un (k := 340 + q) (j := 85 * l + (x - 1) / 4) (by omega)]
        exact y
theorem ot_putG {H C S V V' : Nat → Int32} {F F' : Nat → Nat} {q : Nat} {c s v : Int32} (h : ot_View H C S V F) (h1 : 1 ≤ q) (hq : q < 85) (hd : S ((q - 1) / 4) = 2)
    (hch : ∀ x, 1 ≤ x → x < 85 → (x - 1) / 4 = q → H (340 + x) = 0 ∧ S x = 0) (hV : ∀ x, x ≠ q → V' x = V x) (hF : ∀ x, x ≠ q → F' x = F x)
    (hc : (c = 1 ∧ s = 1 ∧ V' q = v ∧ F' q ≤ 4) ∨ (c = 3 ∧ s = 2 ∧ F' q = 4)) :
    ot_View (upd H (340 + q) c) (upd C (340 + q) v) (upd S q s) V' F' := by
  have hF4 : ∀ x, F' x ≤ 4 := fun x => by
    by_cases e : x = q
    · rw [e]
      rcases hc with z | z
      · exact z.2.2.2
      · rw [z.2.2]; omega
    · rw [hF x e]; exact h.2.2.2.1 x
  refine ⟨(pk_un (by omega)).trans h.1, (hF 0 (by omega)).trans h.2.1, (pk_un (by omega)).trans h.2.2.1, hF4, fun x hx1 hx => ?_⟩
  have hv := h.2.2.2.2 x hx1 hx
  by_cases ex : x = q
  · subst ex
    have e2 : upd H (340 + x) c (340 + x) = c := pk_us
    have e3 : upd S x s x = s := pk_us
    have e4 : upd S x s ((x - 1) / 4) = 2 := (pk_un (by omega)).trans hd
    have e5 : upd C (340 + x) v (340 + x) = v := pk_us
    unfold ot_VI
    rw [e3, e4]
    refine ⟨fun z => absurd rfl z, fun _ => ?_, fun z => ?_⟩
    · rcases hc with z | z
      · refine ot_vwT (hF4 _) (by rw [e2, z.1]; decide) (Or.inr (Or.inl ?_))
        rw [e2, e5]
        exact ⟨z.1, z.2.1, z.2.2.1⟩
      · refine ot_vwT (hF4 _) (by rw [e2, z.1]; decide) (Or.inr (Or.inr ?_))
        rw [e2, z.1]
        exact ⟨by decide, by decide, z.2.1⟩
    · rcases hc with y | y
      · exact absurd (y.2.1.symm.trans z) (by decide)
      · rw [y.2.2]
        exact (ot_rs3 (hF4 _) (e2.trans y.1)).symm
  · by_cases ep : (x - 1) / 4 = q
    · have hx0 := hch x hx1 hx ep
      have e3 : upd S q s x = 0 := (pk_un ex).trans hx0.2
      unfold ot_VI
      rw [e3, ep]
      refine ⟨fun _ => rfl, fun z => ?_, fun z => absurd z (by decide)⟩
      have e4 : F' q = 4 := by
        rcases hc with y | y
        · exact absurd (y.2.1.symm.trans (pk_us.symm.trans z)) (by decide)
        · exact y.2.2
      have e5 : upd H (340 + q) c (340 + x) = 0 := (pk_un (by omega)).trans hx0.1
      rw [e4]
      exact ⟨fun _ => rfl, fun l e => absurd ((ot_scN e5).symm.trans e) (by simp)⟩
    · exact ot_VIc (fun l hl => pk_un (by omega)) (fun l hl => pk_un (by omega)) (pk_un ex) (fun _ => hV x ex) (hF x ex) (pk_un ep) (hF _ ep) hv
/-- nothing in the top layer under what is no directory -/
theorem ot_noCh {H C S V : Nat → Int32} {F : Nat → Nat} {q : Nat} (hk : ot_OK H) (h : ot_View H C S V F) (h1 : 1 ≤ q) (hq : q < 85) (hd : S ((q - 1) / 4) = 2) (hs : S q ≠ 2) :
    ∀ x, 1 ≤ x → x < 85 → (x - 1) / 4 = q → H (340 + x) = 0 ∧ S x = 0 := by
  intro x hx1 hx e
  have d := ot_nd4 h h1 hq hd hs
  constructor
  · rcases hk.2 4 x (by omega) hx1 hx with z | ⟨_, z⟩
    · exact z
    · rw [e] at z
      exact absurd z (fun y => y.elim d.1 d.2)
  · refine (h.2.2.2.2 x hx1 hx).1 ?_
    rw [e]
    exact hs
/-- a file is put -/
theorem ot_putF {H C S V : Nat → Int32} {F : Nat → Nat} {q : Nat} (v : Int32) (hk : ot_OK H) (h : ot_View H C S V F) (h1 : 1 ≤ q) (hq : q < 85) (hd : S ((q - 1) / 4) = 2) (hs : S q ≠ 2)
    (hp : H (340 + (q - 1) / 4) = 2 ∨ H (340 + (q - 1) / 4) = 3) :
    ot_OK (upd H (340 + q) 1) ∧ ot_View (upd H (340 + q) 1) (upd C (340 + q) v) (upd S q 1) (upd V q v) F := by
  have hn := ot_noCh hk h h1 hq hd hs
  exact ⟨ot_okPut hk h1 hq (Or.inl rfl) hp (fun x a b c => (hn x a b c).1),
    ot_putG h h1 hq hd hn (fun x e => pk_un e) (fun _ _ => rfl) (Or.inl ⟨rfl, rfl, pk_us, h.2.2.2.1 q⟩)⟩
/-- a directory is put -/
theorem ot_putD {H C S V : Nat → Int32} {F : Nat → Nat} {q : Nat} (v : Int32) (hk : ot_OK H) (h : ot_View H C S V F) (h1 : 1 ≤ q) (hq : q < 85) (hd : S ((q - 1) / 4) = 2) (hs : S q ≠ 2)
    (hp : H (340 + (q - 1) / 4) = 2 ∨ H (340 + (q - 1) / 4) = 3) :
    ot_OK (upd H (340 + q) 3) ∧ ∃ F', ot_View (upd H (340 + q) 3) (upd C (340 + q) v) (upd S q 2) V F' := by
  have hn := ot_noCh hk h h1 hq hd hs
  exact ⟨ot_okPut hk h1 hq (Or.inr (Or.inr (Or.inl rfl))) hp (fun x a b c => (hn x a b c).1), fun x => if x = q then 4 else F x,
    ot_putG h h1 hq hd hn (fun x e => rfl) (fun x e => if_neg e) (Or.inr ⟨rfl, rfl, if_pos rfl⟩)⟩
end
section
/-! takeAway -/
theorem ot_clO {H : Nat → Int32} {l q k x : Nat} (hx : x < 85) (h : ¬ (k = l ∧ ot_un x q)) : ot_cl H l q 85 (85 * k + x) = H (85 * k + x) := by
  refine if_neg (fun z => h ?_)
  have a := z.1.1
  have b := z.1.2
  have e : k = l := by omega
  subst e
  have c := z.2
  rw [show 85 * k + x - 85 * k = x from by omega] at c
  exact ⟨rfl, c⟩
theorem ot_clI {H : Nat → Int32} {l q x : Nat} (hx : x < 85) (h : ot_un x q) : ot_cl H l q 85 (85 * l + x) = 0 := by
  refine if_pos ⟨⟨by omega, by omega⟩, ?_⟩
  rw [show 85 * l + x - 85 * l = x from by omega]
  exact h
theorem ot_unLt {x q : Nat} (hq : 1 ≤ q) (h : ot_un x q) : q < x := by
  rcases h with z | z <;> omega
theorem ot_unPar {x q : Nat} (hx : x < 85) (hq : 1 ≤ q) : (x = q ∨ ot_un x q) ↔ (x = q ∨ ((x - 1) / 4 = q ∨ ot_un ((x - 1) / 4) q)) := by
  constructor
  · intro z
    rcases z with z | z | z
    · exact Or.inl z
    · exact Or.inr (Or.inl z)
    · exact Or.inr (Or.inr (Or.inl z))
  · intro z
    rcases z with z | z | z | z
    · exact Or.inl z
    · exact Or.inr (Or.inl z)
    · exact Or.inr (Or.inr z)
    · exfalso; omega
/-- the top layer with q and all under it taken out, and c at q -/
def ot_tk (H : Nat → Int32) (q : Nat) (c : Int32) : Nat → Int32 := upd (ot_cl H 4 q 85) (340 + q) c
theorem ot_tkO {H : Nat → Int32} {q k x : Nat} {c : Int32} (hx : x < 85) (hq : q < 85) (h : ¬ (x = q ∨ ot_un x q)) : ot_tk H q c (85 * k + x) = H (85 * k + x) :=
  (pk_un (by intro e; apply h; left; omega)).trans (ot_clO hx (fun z => h (Or.inr z.2)))
theorem ot_tkL {H : Nat → Int32} {q k x : Nat} {c : Int32} (hx : x < 85) (hk : k < 4) : ot_tk H q c (85 * k + x) = H (85 * k + x) :=
  (pk_un (by omega)).trans (ot_clO hx (fun z => by omega))
theorem ot_tkS {H : Nat → Int32} {q : Nat} {c : Int32} : ot_tk H q c (340 + q) = c := pk_us
theorem ot_tkU {H : Nat → Int32} {q x : Nat} {c : Int32} (hx : x < 85) (h1 : 1 ≤ q) (h : ot_un x q) : ot_tk H q c (340 + x) = 0 :=
  (pk_un (by have := ot_unLt h1 h; omega)).trans (ot_clI (l := 4) hx h)
theorem ot_tkOK {H : Nat → Int32} {q : Nat} {c : Int32} (hk : ot_OK H) (h1 : 1 ≤ q) (hq : q < 85)
    (hc : c = 0 ∨ (c = 4 ∧ (H (340 + (q - 1) / 4) = 2 ∨ H (340 + (q - 1) / 4) = 3))) : ot_OK (ot_tk H q c) := by
  refine ⟨fun l hl => ?_, fun l x hl hx1 hx => ?_⟩
  · have e := ot_tkO (H := H) (k := l) (x := 0) (c := c) (by omega) hq (by intro z; rcases z with z | z | z <;> omega)
    exact e.trans (hk.1 l hl)
  · by_cases l4 : l = 4
    · subst l4
      by_cases ex : x = q
      · subst ex
        rcases hc with z | z
        · exact Or.inl (pk_us.trans z)
        · right
          refine ⟨Or.inr (Or.inr (Or.inr (pk_us.trans z.1))), ?_⟩
          rw [ot_tkO (by omega) hq (by intro y; rcases y with y | y | y <;> omega)]
          exact z.2
      · by_cases eu : ot_un x q
        · exact Or.inl (ot_tkU hx h1 eu)
        · have hn : ¬ (x = q ∨ ot_un x q) := fun z => z.elim ex eu
          rw [ot_tkO hx hq hn, ot_tkO (by omega) hq (fun z => hn ((ot_unPar hx h1).mpr (Or.inr z)))]
          exact hk.2 4 x hl hx1 hx
    · rw [ot_tkL hx (by omega), ot_tkL (by omega) (by omega)]
      exact hk.2 l x hl hx1 hx
def ot_rem (S : Nat → Int32) (q : Nat) : Nat → Int32 := fun x => if x = q ∨ ot_un x q then 0 else S x
theorem ot_remO {S : Nat → Int32} {q x : Nat} (h : ¬ (x = q ∨ ot_un x q)) : ot_rem S q x = S x := if_neg h
theorem ot_remI {S : Nat → Int32} {q x : Nat} (h : x = q ∨ ot_un x q) : ot_rem S q x = 0 := if_pos h
theorem ot_tkV {H C C' S V : Nat → Int32} {F : Nat → Nat} {q : Nat} {c : Int32} (h : ot_View H C S V F) (h1 : 1 ≤ q) (hq : q < 85)
    (hC : ∀ x, x ≠ 340 + q → C' x = C x) (hc : c = 4 ∨ (c = 0 ∧ ot_VW (ot_tk H q 0) C' 0 (V q) q (F ((q - 1) / 4)))) : ot_View (ot_tk H q c) C' (ot_rem S q) V F := by
  have n0 : ¬ (0 = q ∨ ot_un 0 q) := by intro z; rcases z with z | z | z <;> omega
  refine ⟨(ot_tkO (k := 4) (x := 0) (by omega) hq n0).trans h.1, h.2.1, (ot_remO n0).trans h.2.2.1, h.2.2.2.1, fun x hx1 hx => ?_⟩
  have hv := h.2.2.2.2 x hx1 hx
  by_cases hn : x = q ∨ ot_un x q
  · have e0 : ot_rem S q x = 0 := ot_remI hn
    unfold ot_VI
    rw [e0]
    refine ⟨fun _ => rfl, fun z => ?_, fun z => absurd z (by decide)⟩
    rcases hn with hn | hn
    · subst hn
      rcases hc with y | y
      · refine ot_vwT (h.2.2.2.1 _) ?_ (Or.inl ⟨ot_tkS.trans y, rfl⟩)
        rw [ot_tkS, y]
        decide
      · rw [y.1]
        exact y.2
    · exfalso
      have k : (x - 1) / 4 = q ∨ ot_un ((x - 1) / 4) q := by
        rcases hn with y | y
        · exact Or.inl y
        · exact Or.inr (Or.inl y)
      exact absurd ((ot_remI k).symm.trans z) (by decide)
  · have hp : ¬ ((x - 1) / 4 = q ∨ ot_un ((x - 1) / 4) q) := fun z => hn ((ot_unPar hx h1).mpr (Or.inr z))
    exact ot_VIc (fun l hl => ot_tkO hx hq hn) (fun l hl => hC _ (by intro e; apply hn; left; omega)) (ot_remO hn) (fun _ => rfl) rfl (ot_remO hp) rfl hv
theorem ot_stTk {H : Nat → Int32} {q p : Nat} {c : Int32} (hp : p < 85) (hq : q < 85) (h : ¬ (p = q ∨ ot_un p q)) : ot_st (ot_tk H q c) p = ot_tk (ot_st H p) q c := by
  have e : ot_tk H q c (340 + p) = H (340 + p) := ot_tkO (k := 4) hp hq h
  by_cases d : 1 ≤ p ∧ H (340 + p) = 0
  · have e1 : ot_st H p = upd H (340 + p) 2 := if_pos d
    have e2 : ot_st (ot_tk H q c) p = upd (ot_tk H q c) (340 + p) 2 := if_pos ⟨d.1, e.trans d.2⟩
    rw [e1, e2]
    funext x
    by_cases x1 : x = 340 + p
    · subst x1
      rw [pk_us]
      exact ((ot_tkO (k := 4) hp hq h).trans pk_us).symm
    · rw [pk_un x1]
      unfold ot_tk
      by_cases x2 : x = 340 + q
      · subst x2
        rw [pk_us, pk_us]
      · rw [pk_un x2, pk_un x2]
        unfold ot_cl
        rw [pk_un x1]
  · have e1 : ot_st H p = H := if_neg d
    rw [e1]
    exact if_neg (fun z => d ⟨z.1, e.symm.trans z.2⟩)
theorem ot_cuTk {H : Nat → Int32} {q : Nat} {c : Int32} (h1 : 1 ≤ q) (hq : q < 85) : ot_cu (ot_tk H q c) ((q - 1) / 4) = ot_tk (ot_cu H ((q - 1) / 4)) q c := by
  unfold ot_cu
  rw [ot_stTk (by omega) hq (by intro z; rcases z with z | z | z <;> omega), ot_stTk (by omega) hq (by intro z; rcases z with z | z | z <;> omega)]
theorem ot_tkU2 {H : Nat → Int32} {q : Nat} {c d : Int32} : upd (ot_tk H q c) (340 + q) d = ot_tk H q d := by
  funext x
  unfold ot_tk
  by_cases e : x = 340 + q
  · rw [e, pk_us, pk_us]
  · rw [pk_un e, pk_un e, pk_un e]
theorem ot_take {m fl flo : Int32} {H C W PS PV S V : Nat → Int32} {F : Nat → Nat} {q : Nat} {post : SX → Prop} (hm : m ≠ 0) (hk : ot_OK H) (h : ot_View H C S V F) (h1 : 1 ≤ q) (hq : q < 85)
    (hd : S ((q - 1) / 4) = 2) (J : ∀ fl flo W H' C', ot_OK H' → ot_View H' C' (ot_rem S q) V F → post (m, fl, flo, H', C', W, PS, PV)) :
    wpX_takeAway post (m, fl, flo, H, C, W, PS, PV) (nI q) := by
  unfold wpX_takeAway
  refine ot_clear (l := 4) (by omega) h1 hq (And.intro (ot_in4 hq) (nm_r (e' := ot_tk H q 0) (by rw [ot_cl4 hq]; rfl) ?_))
  obtain ⟨s1, v1, hw⟩ := ot_vwEx (ot_tk H q 0) C q (F ((q - 1) / 4))
  have hne : (q - 1) / 4 ≠ q := by omega
  have e0 : ot_tk H q 0 (340 + q) = 0 := ot_tkS
  have hch : ot_Ch (ot_tk H q 0) C (upd S q s1) (upd V q v1) (fun x => if x = q then ot_rs (ot_tk H q 0) q (F ((q - 1) / 4)) 4 else F x) q := by
    refine ⟨(ot_tkO (k := 4) (x := 0) (by omega) hq (by intro z; rcases z with z | z | z <;> omega)).trans h.1, (if_neg (by omega)).trans h.2.1, (pk_un (by omega)).trans h.2.2.1, fun x => ?_, fun x hx1 hx hor => ?_⟩
    · show (if x = q then ot_rs (ot_tk H q 0) q (F ((q - 1) / 4)) 4 else F x) ≤ 4
      split
      · exact ot_rsLe 4 (h.2.2.2.1 _)
      · exact h.2.2.2.1 x
    · by_cases ex : x = q
      · subst ex
        unfold ot_VI
        dsimp only
        rw [if_neg hne, if_pos rfl, pk_us, pk_us, pk_un hne, hd]
        refine ⟨fun z => absurd rfl z, fun _ => hw, fun _ => ?_⟩
        exact (ot_rs0 (h.2.2.2.1 _) (by rw [e0]; decide) (by rw [e0]; decide) (by rw [e0]; decide)).symm
      · have hn : ¬ (x = q ∨ ot_un x q) := by intro z; rcases z with z | z | z <;> omega
        exact ot_VIc (fun l hl => ot_tkO hx hq hn) (fun l hl => rfl) (pk_un ex) (fun _ => pk_un ex) (if_neg ex) (pk_un (by omega)) (if_neg (by omega)) (h.2.2.2.2 x hx1 hx)
  refine ot_sortC hq (Or.inr ⟨hm, hch⟩) ?_
  intro fl flo W _
  rw [show upd S q s1 q = s1 from pk_us]
  by_cases hs : s1 = 0
  · refine br_t (by rw [hs]; decide) (J fl flo W _ C (ot_tkOK hk h1 hq (Or.inl rfl)) (ot_tkV h h1 hq (fun _ _ => rfl) (Or.inr ⟨rfl, ?_⟩)))
    exact ot_vwC (fun _ _ => rfl) (fun _ _ => rfl) hs.symm (fun z => absurd (hs.symm.trans z) (by decide)) rfl hw
  · refine br_f (ot_nle0 (ot_vw012 hw) hs) (ot_parX h1 (by omega) (ot_copyUp (by omega) (ot_put hq ?_)))
    rw [ot_cuTk h1 hq, ot_tkU2]
    have k := ot_cuOK hk h (p := (q - 1) / 4) (by omega) hd
    exact J fl flo W _ _ (ot_tkOK k.1 h1 hq (Or.inr ⟨rfl, k.2.2⟩)) (ot_tkV k.2.1 h1 hq (fun x e => pk_un e) (Or.inl rfl))
end
section
/-! value, the Y sides -/
theorem ot_valX {m : Int32} {H C PS PV S V W : Nat → Int32} {fl flo : Int32} {p : Nat} {post : Int32 → SX → Prop} (hp : p < 85) (h : ot_RV m H C S V)
    (J1 : S p = 1 → ∀ fl flo W, post (V p) (m, fl, flo, H, C, W, PS, PV)) (J0 : S p ≠ 1 → ∀ fl flo W, post 0 (m, fl, flo, H, C, W, PS, PV)) :
    wpX_value post (m, fl, flo, H, C, W, PS, PV) (nI p) := by
  unfold wpX_value
  refine ot_sort hp h ?_
  intro fl flo W hc
  by_cases hs : S p = 1
  · obtain ⟨l, hl, rfl, e⟩ := hc hs
    refine br_t hs (And.intro (ot_inL hl hp) ?_)
    rw [ot_clL hl hp, e]
    exact J1 hs _ flo W
  · exact br_f hs (J0 hs fl flo W)
theorem ot_valY {m : Int32} {LS LV S V Im : Nat → Int32} {p : Nat} {post : Int32 → Prop} (hp : p < 85) (J1 : S p = 1 → post (V p)) (J0 : S p ≠ 1 → post 0) :
    wpY_value post (m, LS, LV, S, V, Im) (nI p) := by
  unfold wpY_value
  refine ot_badY hp (br_t rfl (And.intro (vp_in_nI hp (by omega)) ?_))
  rw [nI_clamp (by omega)]
  exact br_c (fun z => And.intro (vp_in_nI hp (by omega)) (J1 z)) (fun z => J0 z)
theorem ot_sortY {m : Int32} {LS LV S V Im : Nat → Int32} {p : Nat} {post : Int32 → Prop} (hp : p < 85) (J : post (S p)) : wpY_sort post (m, LS, LV, S, V, Im) (nI p) := by
  unfold wpY_sort
  refine ot_badY hp (br_t rfl (And.intro (vp_in_nI hp (by omega)) ?_))
  rw [nI_clamp (by omega)]
  exact J
theorem ot_sortYb {m : Int32} {LS LV S V Im : Nat → Int32} {v : Int32} {post : Int32 → Prop} (h : v < 0 ∨ 84 < v) (J : post (-1)) : wpY_sort post (m, LS, LV, S, V, Im) v := by
  unfold wpY_sort
  exact ot_badY1 h (br_f (by decide) J)
theorem ot_valYb {m : Int32} {LS LV S V Im : Nat → Int32} {v : Int32} {post : Int32 → Prop} (h : v < 0 ∨ 84 < v) (J : post 0) : wpY_value post (m, LS, LV, S, V, Im) v := by
  unfold wpY_value
  exact ot_badY1 h (br_f (by decide) J)
theorem ot_entYb {m : Int32} {LS LV S V Im : Nat → Int32} {v : Int32} {post : Int32 → Prop} (h : v < 0 ∨ 84 < v) (J : post (-1)) : wpY_entries post (m, LS, LV, S, V, Im) v := by
  unfold wpY_entries
  exact ot_badY1 h (br_f (by decide) J)
theorem ot_writeY {m : Int32} {LS LV S V Im : Nat → Int32} {p : Nat} {w : Int32} {post : Int32 → SY → Prop} (hm : m ≠ 0) (hp : p < 85)
    (J1 : S p = 1 → post (V p) (m, LS, LV, S, upd V p w, Im)) (J0 : S p ≠ 1 → post (-1) (m, LS, LV, S, V, Im)) :
    wpY_write post (m, LS, LV, S, V, Im) (nI p) w := by
  unfold wpY_write
  refine br_f hm (ot_badY hp (br_t rfl (And.intro (vp_in_nI hp (by omega)) ?_)))
  rw [nI_clamp (by omega)]
  exact br_c (fun z => And.intro (vp_in_nI hp (by omega)) (nm_e (And.intro (vp_in_nI hp (by omega)) (nm_e (J1 z))))) (fun z => J0 z)
theorem ot_rem32a {m : Int32} {LS LV S V Im : Nat → Int32} {q : Nat} {post : Int32 → SY → Prop} (hq : q < 85) (h : ∀ j, 1 ≤ j → j < 85 → (j - 1) / 4 = q → S j = 0)
    (J : post 0 (m, LS, LV, upd S q 0, V, Im)) : ∀ n i, 1 ≤ i → i ≤ 85 → 85 - i < n → wY_remove_32 post (nI q) m LS LV S V Im n (nI i) := by
  intro n
  induction n with
  | zero => intro i _ _ hn; omega
  | succ n ih =>
    intro i h1 hi hn
    refine pk_le 85 i (fun z => ?_) (fun z => ?_)
    · refine And.intro (vp_in_nI hq (by omega)) (nm_r (e' := upd S q 0) (by rw [nI_clamp (by omega)]) J)
    · have K := ih (i + 1) (by omega) (by omega) (by omega)
      refine And.intro (vp_in_nI z (by omega)) ?_
      rw [nI_clamp (by omega)]
      refine br_c (fun _ => nm_r (nI_1 i) K) (fun y => ot_parY h1 (by omega) ?_)
      exact pk_eq ((i - 1) / 4) q (fun x => absurd (h i h1 z x) y) (fun _ => nm_r (nI_1 i) K)
theorem ot_rem32b {m : Int32} {LS LV S V Im : Nat → Int32} {q j : Nat} {post : Int32 → SY → Prop} (hq : q < 85) (hj : j < 85) (hjq : (j - 1) / 4 = q) (hS : S j ≠ 0)
    (J : post (-1) (m, LS, LV, S, V, Im)) : ∀ n i, 1 ≤ i → i ≤ j → j - i < n → wY_remove_32 post (nI q) m LS LV S V Im n (nI i) := by
  intro n
  induction n with
  | zero => intro i _ _ hn; omega
  | succ n ih =>
    intro i h1 hi hn
    refine br_f (nI_ge (b := 85) (by omega) (by decide)) (And.intro (vp_in_nI (by omega) (by omega)) ?_)
    rw [nI_clamp (by omega)]
    have K : ¬ ((i - 1) / 4 = q ∧ S i ≠ 0) → wY_remove_32 post (nI q) m LS LV S V Im n (nI (i + 1)) := fun z => by
      by_cases e : i = j
      · subst e; exact absurd ⟨hjq, hS⟩ z
      · exact ih (i + 1) (by omega) (by omega) (by omega)
    refine br_c (fun y => nm_r (nI_1 i) (K (fun z => z.2 y))) (fun y => ot_parY h1 (by omega) ?_)
    exact pk_eq ((i - 1) / 4) q (fun _ => J) (fun x => nm_r (nI_1 i) (K (fun z => x z.1)))
theorem ot_remY {m : Int32} {LS LV S V Im : Nat → Int32} {q : Nat} {post : Int32 → SY → Prop} (hm : m ≠ 0) (h1 : 1 ≤ q) (hq : q < 85)
    (J0 : S q = 0 → post (-1) (m, LS, LV, S, V, Im)) (J1 : S q ≠ 0 → ot_en S q 85 ≠ 0 → post (-1) (m, LS, LV, S, V, Im))
    (J2 : S q ≠ 0 → ot_en S q 85 = 0 → post 0 (m, LS, LV, upd S q 0, V, Im)) : wpY_remove post (m, LS, LV, S, V, Im) (nI q) := by
  unfold wpY_remove
  refine br_f hm (br_f (nI_nlt (b := 1) (by omega) (by omega)) (ot_badY hq (br_t rfl (And.intro (vp_in_nI hq (by omega)) ?_))))
  rw [nI_clamp (by omega)]
  refine br_c J0 (fun z => ⟨85, ?_⟩)
  by_cases e : ot_en S q 85 = 0
  · exact ot_rem32a hq (fun j a b c => ot_enZ S q 85 e j a b c) (J2 z e) 85 1 (by omega) (by omega) (by omega)
  · have : ∃ j, 1 ≤ j ∧ j < 85 ∧ (j - 1) / 4 = q ∧ S j ≠ 0 := by
      apply Classical.byContradiction
      intro hn
      apply e
      refine ot_enZ' S q 85 (fun j a b c => ?_)
      apply Classical.byContradiction
      intro hs
      exact hn ⟨j, a, b, c, hs⟩
    obtain ⟨j, a, b, c, d⟩ := this
    exact ot_rem32b hq b c d (J1 z e) 85 1 (by omega) a (by omega)
/-! the relation, and the methods that only look -/
/-- the relation: the two mount flags are the same; before the mount the layers are the same; after it the layers show the tree -/
def i_Rel (_ : Nat) (u : SX) (v : SY) : Prop := v.1 = u.1 ∧ ot_R u.1 u.2.2.2.1 u.2.2.2.2.1 v.2.1 v.2.2.1 v.2.2.2.1 v.2.2.2.2.1
theorem i_up {k : Nat} {u : SX} {v : SY} (h : i_Rel k u v) : i_Rel (k + 5) u v := h
theorem ot_init47 {post : SX → Prop} {C W PS PV : Nat → Int32} (J : ∀ H, (∀ l, l < 5 → H (85 * l) = 2) → (∀ l x, 1 ≤ x → x < 85 → H (85 * l + x) = 0) → post (0, 0, 0, H, C, W, PS, PV)) :
    ∀ (n i : Nat) (H : Nat → Int32), i ≤ 5 → 5 - i < n → (∀ l, l < i → H (85 * l) = 2) → (∀ l x, 1 ≤ x → x < 85 → H (85 * l + x) = 0) →
    wX_init_47 post 0 0 0 n (nI i) H C W PS PV := by
  intro n
  induction n with
  | zero => intro i H _ hn; omega
  | succ n ih =>
    intro i H hi hn h1 h2
    refine pk_le 5 i (fun z => ?_) (fun z => ?_)
    · have e : i = 5 := by omega
      subst e
      exact J H h1 h2
    · have e : (85 : Int32) * nI i = nI (85 * i) := pk_mul 85 i
      refine And.intro (pk_in (85 * i) 425 (by omega) e) (nm_r (e' := upd H (85 * i) 2) (by rw [e, nI_clamp (by omega)]) (nm_r (nI_1 i) (ih (i + 1) _ (by omega) (by omega) (fun l hl => ?_) (fun l x a b => ?_))))
      · by_cases el : l = i
        · subst el; exact pk_us
        · rw [pk_un (by omega)]; exact h1 l (by omega)
      · rw [pk_un (by omega)]; exact h2 l x a b
theorem i_vc0 : wpX_init (fun u => wpY_init (fun v => i_Rel 0 u v)) := by
  refine ⟨6, ot_init47 ?_ 6 0 (fun _ => 0) (by decide) (by decide) (fun l hl => absurd hl (Nat.not_lt_zero l)) (fun _ _ _ _ => rfl)⟩
  intro H h1 h2
  refine And.intro rfl (And.intro ⟨h1, fun l x _ a b => Or.inl (h2 l x a b)⟩ (Or.inl ⟨rfl, fun p a b => ⟨h2 4 p a b, h2 3 p a b⟩, fun l x _ a b => ⟨(h2 l x a b).symm, fun z => ?_⟩, fun _ _ => rfl⟩))
  exact absurd ((h2 l x a b).symm.trans z) (by decide)
theorem i_vc_sort {k : Nat} {u : SX} {v : SY} (I : i_Rel k u v) (hk : k + 5 ≤ 2560) (v1 : Int32) : wpX_sort (fun r u' => wpY_sort (fun r' => r' = r ∧ i_Rel (k + 5) u' v) v v1) u v1 := by
  obtain ⟨m, fl, flo, H, C, W, PS, PV⟩ := u
  obtain ⟨m', LS, LV, S, V, Im⟩ := v
  obtain ⟨e, R⟩ := I
  have e : m' = m := e
  subst e
  rcases ot_path v1 with hb | ⟨p, hp, rfl⟩
  · exact ot_sortBad hb (ot_sortYb hb ⟨rfl, rfl, R⟩)
  · exact ot_sort hp (ot_rv R) (fun fl flo W _ => ot_sortY hp ⟨rfl, rfl, R⟩)
theorem i_vc_value {k : Nat} {u : SX} {v : SY} (I : i_Rel k u v) (hk : k + 5 ≤ 2560) (v1 : Int32) : wpX_value (fun r u' => wpY_value (fun r' => r' = r ∧ i_Rel (k + 5) u' v) v v1) u v1 := by
  obtain ⟨m, fl, flo, H, C, W, PS, PV⟩ := u
  obtain ⟨m', LS, LV, S, V, Im⟩ := v
  obtain ⟨e, R⟩ := I
  have e : m' = m := e
  subst e
  rcases ot_path v1 with hb | ⟨p, hp, rfl⟩
  · unfold wpX_value
    exact ot_sortBad hb (br_f (by decide) (ot_valYb hb ⟨rfl, rfl, R⟩))
  · exact ot_valX hp (ot_rv R) (fun hs fl flo W => ot_valY hp (fun _ => ⟨rfl, rfl, R⟩) (fun z => absurd hs z)) (fun hs fl flo W => ot_valY hp (fun z => absurd z hs) (fun _ => ⟨rfl, rfl, R⟩))
theorem i_vc_entries {k : Nat} {u : SX} {v : SY} (I : i_Rel k u v) (hk : k + 5 ≤ 2560) (v1 : Int32) : wpX_entries (fun r u' => wpY_entries (fun r' => r' = r ∧ i_Rel (k + 5) u' v) v v1) u v1 := by
  obtain ⟨m, fl, flo, H, C, W, PS, PV⟩ := u
  obtain ⟨m', LS, LV, S, V, Im⟩ := v
  obtain ⟨e, R⟩ := I
  have e : m' = m := e
  subst e
  rcases ot_path v1 with hb | ⟨p, hp, rfl⟩
  · unfold wpX_entries
    exact ot_sortBad hb (br_f (by decide) (ot_entYb hb ⟨rfl, rfl, R⟩))
  · exact ot_entX hp (ot_rv R) (fun fl flo W => ot_entY hp ⟨rfl, rfl, R⟩)
theorem i_vc_total {k : Nat} {u : SX} {v : SY} (I : i_Rel k u v) (hk : k + 5 ≤ 2560) : wpX_total (fun r u' => wpY_total (fun r' => r' = r ∧ i_Rel (k + 5) u' v) v) u := by
  obtain ⟨m, fl, flo, H, C, W, PS, PV⟩ := u
  obtain ⟨m', LS, LV, S, V, Im⟩ := v
  obtain ⟨e, R⟩ := I
  have e : m' = m := e
  subst e
  exact ot_totX (ot_rv R) (fun fl flo W => ot_totY ⟨rfl, rfl, R⟩)
end
section
/-! make, makeDir, write, remove, fill -/
theorem i_vc_make {k : Nat} {u : SX} {v : SY} (I : i_Rel k u v) (hk : k + 5 ≤ 2560) (v1 : Int32) (v2 : Int32) : wpX_make (fun r u' => wpY_make (fun r' v' => r' = r ∧ i_Rel (k + 5) u' v') v v1 v2) u v1 v2 := by
  obtain ⟨m, fl, flo, H, C, W, PS, PV⟩ := u
  obtain ⟨m', LS, LV, S, V, Im⟩ := v
  obtain ⟨e, R⟩ := I
  have e : m' = m := e
  subst e
  have R : ot_R m' H C LS LV S V := R
  obtain ⟨r, hr, hX, hY⟩ := ot_room (ot_rv R) v1
  unfold wpX_make
  refine hX _ _ _ _ _ _ ?_
  intro fl flo W
  rcases hr with rfl | ⟨rfl, p, hp, rfl, rfl, h1, hs, hd⟩
  · refine br_t rfl ?_
    show wpY_make _ _ _ _
    unfold wpY_make
    exact hY _ _ _ _ (br_t rfl ⟨rfl, rfl, R⟩)
  · refine br_f (by decide) (ot_parX h1 (by omega) (ot_copyUp (by omega) (ot_put hp ?_)))
    show wpY_make _ _ _ _
    unfold wpY_make
    refine hY _ _ _ _ (br_f (by decide) (And.intro (vp_in_nI hp (by omega)) (nm_r (e' := upd S p 1) (by rw [nI_clamp (by omega)]) (And.intro (vp_in_nI hp (by omega)) (nm_r (e' := upd V p v2) (by rw [nI_clamp (by omega)]) ⟨rfl, rfl, ?_⟩)))))
    rcases R.2 with z | ⟨_, F, hv⟩
    · exact absurd z.1 (by decide)
    · have c := ot_cuOK R.1 hv (p := (p - 1) / 4) (by omega) hd
      have t := ot_putF v2 c.1 c.2.1 h1 hp hd (by rw [hs]; decide) c.2.2
      exact And.intro t.1 (Or.inr ⟨rfl, F, t.2⟩)
theorem i_vc_makeDir {k : Nat} {u : SX} {v : SY} (I : i_Rel k u v) (hk : k + 5 ≤ 2560) (v1 : Int32) : wpX_makeDir (fun r u' => wpY_makeDir (fun r' v' => r' = r ∧ i_Rel (k + 5) u' v') v v1) u v1 := by
  obtain ⟨m, fl, flo, H, C, W, PS, PV⟩ := u
  obtain ⟨m', LS, LV, S, V, Im⟩ := v
  obtain ⟨e, R⟩ := I
  have e : m' = m := e
  subst e
  have R : ot_R m' H C LS LV S V := R
  obtain ⟨r, hr, hX, hY⟩ := ot_room (ot_rv R) v1
  unfold wpX_makeDir
  refine hX _ _ _ _ _ _ ?_
  intro fl flo W
  rcases hr with rfl | ⟨rfl, p, hp, rfl, rfl, h1, hs, hd⟩
  · refine br_t rfl ?_
    show wpY_makeDir _ _ _
    unfold wpY_makeDir
    exact hY _ _ _ _ (br_t rfl ⟨rfl, rfl, R⟩)
  · refine br_f (by decide) (ot_parX h1 (by omega) (ot_copyUp (by omega) (ot_put hp ?_)))
    show wpY_makeDir _ _ _
    unfold wpY_makeDir
    refine hY _ _ _ _ (br_f (by decide) (And.intro (vp_in_nI hp (by omega)) (nm_r (e' := upd S p 2) (by rw [nI_clamp (by omega)]) ⟨rfl, rfl, ?_⟩)))
    rcases R.2 with z | ⟨_, F, hv⟩
    · exact absurd z.1 (by decide)
    · have c := ot_cuOK R.1 hv (p := (p - 1) / 4) (by omega) hd
      have t := ot_putD 0 c.1 c.2.1 h1 hp hd (by rw [hs]; decide) c.2.2
      exact And.intro t.1 (Or.inr ⟨rfl, t.2⟩)
theorem i_vc_write {k : Nat} {u : SX} {v : SY} (I : i_Rel k u v) (hk : k + 5 ≤ 2560) (v1 : Int32) (v2 : Int32) : wpX_write (fun r u' => wpY_write (fun r' v' => r' = r ∧ i_Rel (k + 5) u' v') v v1 v2) u v1 v2 := by
  obtain ⟨m, fl, flo, H, C, W, PS, PV⟩ := u
  obtain ⟨m', LS, LV, S, V, Im⟩ := v
  obtain ⟨e, R⟩ := I
  have e : m' = m := e
  subst e
  have R : ot_R m' H C LS LV S V := R
  unfold wpX_write
  rcases ot_path v1 with hb | ⟨p, hp, rfl⟩
  · refine ot_sortBad hb (br_f (by decide) ?_)
    show wpY_write _ _ _ _
    unfold wpY_write
    exact br_c (fun _ => ⟨rfl, rfl, R⟩) (fun _ => ot_badY1 hb (br_f (by decide) ⟨rfl, rfl, R⟩))
  · refine ot_sort hp (ot_rv R) ?_
    intro fl flo W _
    by_cases hs : S p = 1
    · rcases R.2 with z | ⟨rfl, F, hv⟩
      · exact absurd ((z.2.2.2 p hp).symm.trans hs) (by decide)
      · have h1 : 1 ≤ p := by
          rcases Nat.eq_zero_or_pos p with z | z
          · subst z
            exact absurd (hv.2.2.1.symm.trans hs) (by decide)
          · exact z
        have hd := ot_parDir hv h1 hp (by rw [hs]; decide)
        refine br_t hs (ot_valX hp (ot_rv R) (fun _ fl flo W => ?_) (fun z => absurd hs z))
        refine ot_parX h1 (by omega) (ot_copyUp (by omega) (ot_put hp ?_))
        refine ot_writeY (by decide) hp (fun _ => ⟨rfl, rfl, ?_⟩) (fun z => absurd hs z)
        have c := ot_cuOK R.1 hv (p := (p - 1) / 4) (by omega) hd
        have t := ot_putF v2 c.1 c.2.1 h1 hp hd (by rw [hs]; decide) c.2.2
        refine And.intro t.1 (Or.inr ⟨rfl, F, ot_Vc (fun x _ => ?_) (fun _ _ _ => rfl) t.2⟩)
        by_cases ex : x = p
        · subst ex
          exact hs.trans pk_us.symm
        · exact (pk_un ex).symm
    · refine br_f hs ?_
      by_cases hm : m' = 0
      · show wpY_write _ _ _ _
        unfold wpY_write
        exact br_t hm ⟨rfl, rfl, R⟩
      · exact ot_writeY hm hp (fun z => absurd z hs) (fun _ => ⟨rfl, rfl, R⟩)
theorem i_vc_remove {k : Nat} {u : SX} {v : SY} (I : i_Rel k u v) (hk : k + 5 ≤ 2560) (v1 : Int32) : wpX_remove (fun r u' => wpY_remove (fun r' v' => r' = r ∧ i_Rel (k + 5) u' v') v v1) u v1 := by
  obtain ⟨m, fl, flo, H, C, W, PS, PV⟩ := u
  obtain ⟨m', LS, LV, S, V, Im⟩ := v
  obtain ⟨e, R⟩ := I
  have e : m' = m := e
  subst e
  have R : ot_R m' H C LS LV S V := R
  unfold wpX_remove
  rcases ot_path v1 with hb | ⟨p, hp, rfl⟩
  · refine ot_sortBad hb (br_t (by decide) ?_)
    show wpY_remove _ _ _
    unfold wpY_remove
    exact br_c (fun _ => ⟨rfl, rfl, R⟩) (fun _ => br_c (fun _ => ⟨rfl, rfl, R⟩) (fun _ => ot_badY1 hb (br_f (by decide) ⟨rfl, rfl, R⟩)))
  · refine ot_sort hp (ot_rv R) ?_
    intro fl flo W _
    by_cases hs0 : S p = 0
    · refine br_t (by rw [hs0]; decide) ?_
      by_cases hm : m' = 0
      · show wpY_remove _ _ _
        unfold wpY_remove
        exact br_t hm ⟨rfl, rfl, R⟩
      · by_cases h0 : p = 0
        · subst h0
          show wpY_remove _ _ _
          unfold wpY_remove
          exact br_f hm (br_t (by decide) ⟨rfl, rfl, R⟩)
        · exact ot_remY hm (by omega) hp (fun _ => ⟨rfl, rfl, R⟩) (fun z => absurd hs0 z) (fun z => absurd hs0 z)
    · refine br_f (ot_nle0 (ot_012 (ot_rv R) hp) hs0) ?_
      rcases R.2 with z | ⟨rfl, F, hv⟩
      · exact absurd (z.2.2.2 p hp) hs0
      · by_cases h0 : p = 0
        · subst h0
          refine br_t rfl ?_
          show wpY_remove _ _ _
          unfold wpY_remove
          exact br_f (by decide) (br_t (by decide) ⟨rfl, rfl, R⟩)
        · have h1 : 1 ≤ p := by omega
          have hd := ot_parDir hv h1 hp hs0
          refine br_f (nI_ne0 (by omega) (by omega)) ?_
          have T : ot_en S p 85 = 0 → ∀ fl flo W, wX_remove_29 (fun r u' => wpY_remove (fun r' v' => r' = r ∧ i_Rel (k + 5) u' v') (1, LS, LV, S, V, Im) (nI p)) (nI p) 1 fl flo H C W PS PV := by
            intro en fl flo W
            refine ot_take (by decide) R.1 hv h1 hp hd ?_
            intro fl flo W H' C' k' v'
            refine ot_remY (by decide) h1 hp (fun z => absurd z hs0) (fun _ z => absurd en z) (fun _ _ => ⟨rfl, rfl, And.intro k' (Or.inr ⟨rfl, F, ?_⟩)⟩)
            refine ot_Vc (fun x hx => ?_) (fun _ _ _ => rfl) v'
            by_cases ex : x = p
            · subst ex
              exact pk_us.trans (ot_remI (Or.inl rfl)).symm
            · refine (pk_un ex).trans ?_
              by_cases eu : ot_un x p
              · rw [ot_remI (Or.inr eu)]
                have hxp := ot_unLt h1 eu
                rcases eu with eu | eu
                · exact ot_enZ S p 85 en x (by omega) hx eu
                · refine (hv.2.2.2.2 x (by omega) hx).1 ?_
                  rw [ot_enZ S p 85 en ((x - 1) / 4) (by omega) (by omega) eu]
                  decide
              · exact (ot_remO (fun z => z.elim ex eu)).symm
          by_cases hs2 : S p = 2
          · refine br_t hs2 (ot_entX hp (ot_rv R) ?_)
            intro fl flo W
            have eA : ot_enA S p = nI (ot_en S p 85) := if_pos hs2
            rw [eA]
            by_cases en : ot_en S p 85 = 0
            · refine br_t ?_ (T en fl flo W)
              rw [en]
              decide
            · have := ot_enLe S p 85
              refine br_f (nI_nle (by omega) (by omega)) ?_
              exact ot_remY (by decide) h1 hp (fun z => absurd z hs0) (fun _ _ => ⟨rfl, rfl, R⟩) (fun _ z => absurd z en)
          · refine br_f hs2 (T ?_ fl flo W)
            refine ot_enZ' S p 85 (fun j a b c => (hv.2.2.2.2 j a b).1 ?_)
            rw [c]
            exact hs2
theorem ot_layY {m : Int32} {LS LV S V Im : Nat → Int32} {l q : Nat} {post : Int32 → Prop} (hl : l < 3) (hq : q < 85)
    (J1 : q = 0 ∨ LS (85 * l + q) = 2 ∨ LS (85 * l + q) = 3 → post 1) (J0 : q ≠ 0 → LS (85 * l + q) ≠ 2 → LS (85 * l + q) ≠ 3 → post 0) :
    wpY_layerDirectory post (m, LS, LV, S, V, Im) (nI l) (nI q) := by
  unfold wpY_layerDirectory
  refine And.intro (pk_in (85 * l + q) 255 (by omega) (ot_ix l q)) (nm_r (ot_atL (A := LS) (by omega) hq) ?_)
  refine pk_eq q 0 (fun z => J1 (Or.inl z)) (fun z => ?_)
  exact br_c (fun y => J1 (Or.inr (Or.inl y))) (fun y => br_c (fun x => J1 (Or.inr (Or.inr x))) (fun x => J0 z y x))
theorem ot_fillOK {H : Nat → Int32} {l p : Nat} {c : Int32} (hk : ot_OK H) (hl : l < 5) (h1 : 1 ≤ p) (hp : p < 85) (hc : c = 1 ∨ c = 2 ∨ c = 3 ∨ c = 4) (h0 : H (85 * l + p) = 0)
    (hd : H (85 * l + (p - 1) / 4) = 2 ∨ H (85 * l + (p - 1) / 4) = 3) : ot_OK (upd H (85 * l + p) c) := by
  refine ⟨fun j hj => (pk_un (by omega)).trans (hk.1 j hj), fun j x hj hx1 hx => ?_⟩
  by_cases ex : j = l ∧ x = p
  · obtain ⟨rfl, rfl⟩ := ex
    right
    rw [pk_us, pk_un (by omega)]
    exact ⟨hc, hd⟩
  · rw [pk_un (k := 85 * l + p) (j := 85 * j + x) (by omega)]
    rcases hk.2 j x hj hx1 hx with z | ⟨z, y⟩
    · exact Or.inl z
    · by_cases ey : j = l ∧ (x - 1) / 4 = p
      · obtain ⟨rfl, e2⟩ := ey
        rw [e2, h0] at y
        exact absurd y (by decide)
      · refine Or.inr ⟨z, ?_⟩
        rw [pk_un (k := 85 * l + p) (j := 85 * j + (x - 1) / 4) (by omega)]
        exact y
theorem ot_fillPre {H C LS LV S : Nat → Int32} {l p : Nat} {c w x : Int32} (h : ot_Pre H C LS LV S) (hl : l < 3) (h1 : 1 ≤ p) (hp : p < 85) (hx : c = 1 → x = w) :
    ot_Pre (upd H (85 * l + p) c) (upd C (85 * l + p) x) (upd LS (85 * l + p) c) (upd LV (85 * l + p) w) S := by
  refine ⟨fun q a b => ?_, fun j q hj a b => ?_, h.2.2⟩
  · rw [pk_un (by omega), pk_un (by omega)]
    exact h.1 q a b
  · by_cases ex : j = l ∧ q = p
    · obtain ⟨rfl, rfl⟩ := ex
      rw [pk_us, pk_us, pk_us, pk_us]
      exact ⟨rfl, fun z => (hx z).symm⟩
    · have ne : 85 * j + q ≠ 85 * l + p := by omega
      rw [pk_un ne, pk_un ne, pk_un ne, pk_un ne]
      exact h.2.1 j q hj a b
theorem i_vc_fill {k : Nat} {u : SX} {v : SY} (I : i_Rel k u v) (hk : k + 5 ≤ 2560) (v1 : Int32) (v2 : Int32) (v3 : Int32) (v4 : Int32) : wpX_fill (fun r u' => wpY_fill (fun r' v' => r' = r ∧ i_Rel (k + 5) u' v') v v1 v2 v3 v4) u v1 v2 v3 v4 := by
  obtain ⟨m, fl, flo, H, C, W, PS, PV⟩ := u
  obtain ⟨m', LS, LV, S, V, Im⟩ := v
  obtain ⟨e, R⟩ := I
  have e : m' = m := e
  subst e
  have R : ot_R m' H C LS LV S V := R
  have R' : i_Rel (k + 5) (m', fl, flo, H, C, W, PS, PV) (m', LS, LV, S, V, Im) := And.intro rfl R
  by_cases hm : m' = 0
  · refine br_t hm ?_
    by_cases a1 : v1 < 0
    · exact br_t a1 (br_t hm (br_t a1 ⟨rfl, R'⟩))
    refine br_f a1 ?_
    by_cases a2 : 2 < v1
    · exact br_t a2 (br_t hm (br_f a1 (br_t a2 ⟨rfl, R'⟩)))
    refine br_f a2 ?_
    by_cases a3 : v2 < 1
    · exact br_t a3 (br_t hm (br_f a1 (br_f a2 (br_t a3 ⟨rfl, R'⟩))))
    refine br_f a3 ?_
    by_cases a4 : 84 < v2
    · exact br_t a4 (br_t hm (br_f a1 (br_f a2 (br_f a3 (ot_badY1 (Or.inr a4) (br_f (by decide) ⟨rfl, R'⟩))))))
    refine br_f a4 ?_
    obtain ⟨l, hl, rfl⟩ := nI_of2 (M := 2) (n := 2) (by decide) a1 (Int32.not_lt.mp a2)
    obtain ⟨p, hp, rfl⟩ : ∃ p, p < 85 ∧ v2 = nI p := by
      rcases ot_path v2 with (z | z) | z
      · exfalso
        apply a3
        rw [Int32.lt_iff_toInt_lt] at z ⊢
        have e1 : (1 : Int32).toInt = 1 := by decide
        have e0 : (0 : Int32).toInt = 0 := by decide
        omega
      · exact absurd z a4
      · exact z
    have h1 : 1 ≤ p := by
      rcases Nat.eq_zero_or_pos p with z | z
      · subst z; exact absurd (by decide) a3
      · exact z
    by_cases a5 : v3 < 1
    · exact br_t a5 (br_t hm (br_f a1 (br_f a2 (br_f a3 (ot_badY hp (br_t rfl (br_t a5 ⟨rfl, R'⟩)))))))
    refine br_f a5 ?_
    by_cases a6 : v3 ≤ 4
    case neg => exact br_f a6 (br_t hm (br_f a1 (br_f a2 (br_f a3 (ot_badY hp (br_t rfl (br_f a5 (br_f a6 ⟨rfl, R'⟩))))))))
    refine br_t a6 ?_
    have hc : v3 = 1 ∨ v3 = 2 ∨ v3 = 3 ∨ v3 = 4 := by
      have z : ¬ v3 < 0 := by
        intro z
        apply a5
        rw [Int32.lt_iff_toInt_lt] at z ⊢
        have e1 : (1 : Int32).toInt = 1 := by decide
        have e0 : (0 : Int32).toInt = 0 := by decide
        omega
      obtain ⟨j, hj, rfl⟩ := nI_of2 (M := 4) (n := 4) (by decide) z a6
      rcases j with _ | _ | _ | _ | _ | j
      · exact absurd (by decide) a5
      · exact Or.inl rfl
      · exact Or.inr (Or.inl rfl)
      · exact Or.inr (Or.inr (Or.inl rfl))
      · exact Or.inr (Or.inr (Or.inr rfl))
      · omega
    rcases R.2 with ⟨_, P⟩ | ⟨z, _⟩
    case inr => exact absurd (hm.symm.trans z) (by decide)
    have eLS := (P.2.1 l p (by omega) h1 hp).1
    have hin : vp_in (85 * nI l + nI p) 255 := pk_in (85 * l + p) 255 (by omega) (ot_ix l p)
    have hinX : vp_in (85 * nI l + nI p) 425 := ot_inL (by omega) hp
    have Yn : LS (85 * l + p) ≠ 0 → wpY_fill (fun r' v' => r' = -1 ∧ i_Rel (k + 5) (m', fl, flo, H, C, W, PS, PV) v') (m', LS, LV, S, V, Im) (nI l) (nI p) v3 v4 := by
      intro z
      refine br_t hm (br_f a1 (br_f a2 (br_f a3 (ot_badY hp (br_t rfl (br_f a5 (br_t a6 (ot_parY h1 (by omega) (And.intro hin ?_)))))))))
      rw [ot_clL (by omega) hp]
      exact br_f z ⟨rfl, R'⟩
    have par0 : H (85 * l + (p - 1) / 4) = 2 ∨ H (85 * l + (p - 1) / 4) = 3 ↔ ((p - 1) / 4 = 0 ∨ LS (85 * l + (p - 1) / 4) = 2 ∨ LS (85 * l + (p - 1) / 4) = 3) := by
      by_cases z : (p - 1) / 4 = 0
      · rw [z]
        exact ⟨fun _ => Or.inl rfl, fun _ => Or.inl (R.1.1 l (by omega))⟩
      · rw [(P.2.1 l ((p - 1) / 4) (by omega) (by omega) (by omega)).1]
        exact ⟨fun y => Or.inr y, fun y => y.resolve_left z⟩
    have Yd : LS (85 * l + p) = 0 → ¬ ((p - 1) / 4 = 0 ∨ LS (85 * l + (p - 1) / 4) = 2 ∨ LS (85 * l + (p - 1) / 4) = 3) → wpY_fill (fun r' v' => r' = -1 ∧ i_Rel (k + 5) (m', fl, flo, H, C, W, PS, PV) v') (m', LS, LV, S, V, Im) (nI l) (nI p) v3 v4 := by
      intro z y
      refine br_t hm (br_f a1 (br_f a2 (br_f a3 (ot_badY hp (br_t rfl (br_f a5 (br_t a6 (ot_parY h1 (by omega) (And.intro hin ?_)))))))))
      rw [ot_clL (by omega) hp]
      exact br_t z (ot_layY (by omega) (by omega) (fun x => absurd x y) (fun _ _ _ => br_t rfl ⟨rfl, R'⟩))
    have Ys : ∀ H' C', LS (85 * l + p) = 0 → ((p - 1) / 4 = 0 ∨ LS (85 * l + (p - 1) / 4) = 2 ∨ LS (85 * l + (p - 1) / 4) = 3) → ot_R m' H' C' (upd LS (85 * l + p) v3) (upd LV (85 * l + p) v4) S V →
        wpY_fill (fun r' v' => r' = 0 ∧ i_Rel (k + 5) (m', fl, flo, H', C', W, PS, PV) v') (m', LS, LV, S, V, Im) (nI l) (nI p) v3 v4 := by
      intro H' C' z y R2
      refine br_t hm (br_f a1 (br_f a2 (br_f a3 (ot_badY hp (br_t rfl (br_f a5 (br_t a6 (ot_parY h1 (by omega) (And.intro hin ?_)))))))))
      rw [ot_clL (by omega) hp]
      refine br_t z (ot_layY (by omega) (by omega) (fun _ => ?_) (fun a b c => absurd y (fun x => x.elim a (fun x => x.elim b c))))
      exact br_f (by decide) (And.intro hin (nm_e (And.intro hin (nm_e ⟨rfl, rfl, R2⟩))))
    refine ot_parX h1 (by omega) (And.intro (ot_inL (by omega) (by omega)) (nm_r (ot_atL (A := H) (k := l) (q := (p - 1) / 4) (by omega) (by omega)) (And.intro hinX ?_)))
    rw [ot_clL (by omega) hp]
    by_cases hz : H (85 * l + p) = 0
    · refine br_t hz ?_
      have X83 : (H (85 * l + (p - 1) / 4) = 2 ∨ H (85 * l + (p - 1) / 4) = 3) → wX_fill_83 (fun r u' => wpY_fill (fun r' v' => r' = r ∧ i_Rel (k + 5) u' v') (m', LS, LV, S, V, Im) (nI l) (nI p) v3 v4) (nI l) (nI p) v3 v4 m' fl flo H C W PS PV := by
        intro hd
        refine And.intro hinX (nm_r (e' := upd H (85 * l + p) v3) (by rw [ot_clL (by omega) hp]) ?_)
        have ok := ot_fillOK (c := v3) R.1 (by omega) h1 hp hc hz hd
        refine br_c (fun h3 => And.intro hinX (nm_r (e' := upd C (85 * l + p) v4) (by rw [ot_clL (by omega) hp]) ?_)) (fun h3 => And.intro hinX (nm_r (e' := upd C (85 * l + p) 0) (by rw [ot_clL (by omega) hp]) ?_))
        · exact Ys _ _ (eLS.trans hz) (par0.mp hd) (And.intro ok (Or.inl ⟨hm, ot_fillPre P (by omega) h1 hp (fun _ => rfl)⟩))
        · exact Ys _ _ (eLS.trans hz) (par0.mp hd) (And.intro ok (Or.inl ⟨hm, ot_fillPre P (by omega) h1 hp (fun z => absurd z h3)⟩))
      refine br_c (fun z => X83 (Or.inl z)) (fun z => br_c (fun y => X83 (Or.inr y)) (fun y => ?_))
      exact Yd (eLS.trans hz) (fun x => (par0.mpr x).elim z y)
    · refine br_f hz ?_
      exact Yn (by rw [eLS]; exact hz)
  · exact br_f hm (br_f hm ⟨rfl, R'⟩)
end
section
/-! press: the walk -/
def ot_pb (H : Nat → Int32) (p : Nat) : Nat → Int32 :=
  upd (if H (340 + p) = 2 then upd H (255 + p) (if H (255 + p) = 1 ∨ H (255 + p) = 4 ∨ H (255 + p) = 3 then 3 else 2) else if H (340 + p) = 0 then H else upd (ot_cl H 3 p 85) (255 + p) (H (340 + p))) (340 + p) 0
def ot_pc (H C : Nat → Int32) (p : Nat) : Nat → Int32 := if H (340 + p) = 2 ∨ H (340 + p) = 0 then C else upd C (255 + p) (C (340 + p))
theorem ot_p134 {m fl flo : Int32} {H C W PS PV : Nat → Int32} {post : Int32 → SX → Prop} {i : Nat}
    {J : Int32 → Int32 → Int32 → Int32 → (Nat → Int32) → (Nat → Int32) → (Nat → Int32) → (Nat → Int32) → (Nat → Int32) → Prop} (hi : i < 85)
    (K : J (nI (i + 1)) m fl flo (upd H (340 + i) 0) C W PS PV) : wX_press_134 post J (nI i) m fl flo H C W PS PV :=
  And.intro (ot_in4 hi) (nm_r (e' := upd H (340 + i) 0) (by rw [ot_cl4 hi]) (nm_r (nI_1 i) K))
theorem ot_p89 {m fl flo : Int32} {H C W PS PV : Nat → Int32} {post : Int32 → SX → Prop} {i : Nat} {z : Int32}
    {J : Int32 → Int32 → Int32 → Int32 → (Nat → Int32) → (Nat → Int32) → (Nat → Int32) → (Nat → Int32) → (Nat → Int32) → Prop} (hi : i < 85)
    (K : J (nI (i + 1)) m fl flo (upd (upd H (255 + i) z) (340 + i) 0) C W PS PV) : wX_press_89 post J (nI i) z (255 + nI i) m fl flo H C W PS PV :=
  And.intro (ot_in3 hi) (nm_r (e' := upd H (255 + i) z) (by rw [ot_cl3 hi]) (ot_p134 hi K))
theorem ot_press1 {m fl flo : Int32} {H C W PS PV : Nat → Int32} {post : Int32 → SX → Prop} {i n : Nat} (h1 : 1 ≤ i) (hi : i < 85)
    (K : wX_press_11 post n (nI (i + 1)) m fl flo (ot_pb H i) (ot_pc H C i) W PS PV) : wX_press_11 post (n + 1) (nI i) m fl flo H C W PS PV := by
  refine br_f (nI_ge (b := 85) (by omega) (by decide)) (And.intro (ot_in4 hi) (nm_r (e' := H (340 + i)) (by rw [ot_cl4 hi]) (And.intro (ot_in3 hi) (nm_r (e' := H (255 + i)) (by rw [ot_cl3 hi]) ?_))))
  by_cases h2 : H (340 + i) = 2
  · have eC : ot_pc H C i = C := if_pos (Or.inl h2)
    have eH : ot_pb H i = upd (upd H (255 + i) (if H (255 + i) = 1 ∨ H (255 + i) = 4 ∨ H (255 + i) = 3 then 3 else 2)) (340 + i) 0 := by
      unfold ot_pb
      rw [if_pos h2]
    rw [eC, eH] at K
    refine br_t h2 ?_
    by_cases b : H (255 + i) = 1 ∨ H (255 + i) = 4 ∨ H (255 + i) = 3
    · rw [if_pos b] at K
      refine br_c (fun _ => ?_) (fun n1 => br_c (fun _ => ?_) (fun n4 => ?_))
      · exact br_f (by decide) (ot_p89 hi K)
      · exact br_f (by decide) (ot_p89 hi K)
      · refine br_t rfl (br_t ?_ (ot_p89 hi K))
        exact (b.resolve_left n1).resolve_left n4
    · rw [if_neg b] at K
      refine br_f (fun z => b (Or.inl z)) (br_f (fun z => b (Or.inr (Or.inl z))) (br_t rfl (br_f (fun z => b (Or.inr (Or.inr z))) (ot_p89 hi K))))
  · refine br_f h2 ?_
    by_cases h0 : H (340 + i) = 0
    · have eC : ot_pc H C i = C := if_pos (Or.inr h0)
      have eH : ot_pb H i = upd H (340 + i) 0 := by
        unfold ot_pb
        rw [if_neg h2, if_pos h0]
      rw [eC, eH] at K
      exact br_t h0 (ot_p134 hi K)
    · have eC : ot_pc H C i = upd C (255 + i) (C (340 + i)) := if_neg (fun z => z.elim h2 h0)
      have eH : ot_pb H i = upd (upd (ot_cl H 3 i 85) (255 + i) (H (340 + i))) (340 + i) 0 := by
        unfold ot_pb
        rw [if_neg h2, if_neg h0]
      rw [eC, eH] at K
      refine br_f h0 (ot_clear (l := 3) (by omega) h1 hi ?_)
      refine And.intro (ot_in3 hi) (nm_r (e' := upd (ot_cl H 3 i 85) (255 + i) (H (340 + i))) (by rw [ot_cl3 hi]) (And.intro (ot_in4 hi) (And.intro (ot_in3 hi) (nm_r (e' := upd C (255 + i) (C (340 + i))) (by rw [ot_cl3 hi, ot_cl4 hi]) (ot_p134 hi K)))))
theorem ot_pressW {m fl flo : Int32} {W PS PV : Nat → Int32} {post : Int32 → SX → Prop} (I : Nat → (Nat → Int32) → (Nat → Int32) → Prop)
    (hI : ∀ i H C, 1 ≤ i → i < 85 → I i H C → I (i + 1) (ot_pb H i) (ot_pc H C i)) (J : ∀ H C, I 85 H C → post 0 (m, fl, flo, H, C, W, PS, PV)) :
    ∀ (n i : Nat) (H C : Nat → Int32), 1 ≤ i → i ≤ 85 → 85 - i < n → I i H C → wX_press_11 post n (nI i) m fl flo H C W PS PV := by
  intro n
  induction n with
  | zero => intro i H C _ _ hn; omega
  | succ n ih =>
    intro i H C h1 hi hn h
    by_cases e : i = 85
    · subst e
      exact br_t (by decide) (J H C h)
    · exact ot_press1 h1 (by omega) (ih (i + 1) _ _ (by omega) (by omega) (by omega) (hI i H C h1 (by omega) h))
end
section
/-! press: what it leaves -/
abbrev ot_bad (H : Nat → Int32) (q : Nat) : Prop := H (340 + q) ≠ 0 ∧ H (340 + q) ≠ 2
/-- the pressed layer's entry, if nothing above closes it -/
def ot_bl (H : Nat → Int32) (p : Nat) : Int32 :=
  if (1 ≤ (p - 1) / 4 ∧ ot_bad H ((p - 1) / 4)) ∨ (1 ≤ ((p - 1) / 4 - 1) / 4 ∧ ot_bad H (((p - 1) / 4 - 1) / 4)) then 0 else H (255 + p)
def ot_M (H : Nat → Int32) (p : Nat) : Int32 :=
  if H (340 + p) = 2 then (if ot_bl H p = 1 ∨ ot_bl H p = 4 ∨ ot_bl H p = 3 then 3 else 2) else if H (340 + p) = 0 then ot_bl H p else H (340 + p)
/-- .. while the paths below i are done -/
def ot_ci (H : Nat → Int32) (i p : Nat) : Int32 :=
  if (1 ≤ (p - 1) / 4 ∧ (p - 1) / 4 < i ∧ ot_bad H ((p - 1) / 4)) ∨ (1 ≤ ((p - 1) / 4 - 1) / 4 ∧ ((p - 1) / 4 - 1) / 4 < i ∧ ot_bad H (((p - 1) / 4 - 1) / 4)) then 0 else H (255 + p)
def ot_PI (H0 C0 : Nat → Int32) (i : Nat) (H C : Nat → Int32) : Prop :=
  (∀ l x, l < 3 → x < 85 → H (85 * l + x) = H0 (85 * l + x) ∧ C (85 * l + x) = C0 (85 * l + x)) ∧
  (∀ x, 1 ≤ x → x < i → x < 85 → H (340 + x) = 0) ∧ (∀ x, x = 0 ∨ i ≤ x → x < 85 → H (340 + x) = H0 (340 + x)) ∧
  H 255 = H0 255 ∧ (∀ x, 1 ≤ x → x < i → x < 85 → H (255 + x) = ot_M H0 x) ∧ (∀ x, i ≤ x → x < 85 → H (255 + x) = ot_ci H0 i x) ∧
  (∀ x, 1 ≤ x → x < i → x < 85 → C (255 + x) = if ot_bad H0 x then C0 (340 + x) else C0 (255 + x)) ∧ (∀ x, i ≤ x → x < 85 → C (255 + x) = C0 (255 + x)) ∧
  (∀ x, x < 85 → C (340 + x) = C0 (340 + x))
theorem ot_ciBl {H : Nat → Int32} {i : Nat} (hi : 1 ≤ i) : ot_ci H i i = ot_bl H i := by
  unfold ot_ci ot_bl
  have a : (i - 1) / 4 < i := by omega
  have b : ((i - 1) / 4 - 1) / 4 < i := by omega
  by_cases c : (1 ≤ (i - 1) / 4 ∧ ot_bad H ((i - 1) / 4)) ∨ (1 ≤ ((i - 1) / 4 - 1) / 4 ∧ ot_bad H (((i - 1) / 4 - 1) / 4))
  · rw [if_pos c, if_pos]
    rcases c with c | c
    · exact Or.inl ⟨c.1, a, c.2⟩
    · exact Or.inr ⟨c.1, b, c.2⟩
  · rw [if_neg c, if_neg]
    intro d
    apply c
    rcases d with d | d
    · exact Or.inl ⟨d.1, d.2.2⟩
    · exact Or.inr ⟨d.1, d.2.2⟩
theorem ot_ciN {H : Nat → Int32} {i x : Nat} (h : ¬ (ot_un x i ∧ ot_bad H i)) : ot_ci H (i + 1) x = ot_ci H i x := by
  unfold ot_ci
  by_cases c : (1 ≤ (x - 1) / 4 ∧ (x - 1) / 4 < i ∧ ot_bad H ((x - 1) / 4)) ∨ (1 ≤ ((x - 1) / 4 - 1) / 4 ∧ ((x - 1) / 4 - 1) / 4 < i ∧ ot_bad H (((x - 1) / 4 - 1) / 4))
  · rw [if_pos c, if_pos]
    rcases c with c | c
    · exact Or.inl ⟨c.1, by have := c.2.1; omega, c.2.2⟩
    · exact Or.inr ⟨c.1, by have := c.2.1; omega, c.2.2⟩
  · rw [if_neg c, if_neg]
    intro d
    rcases d with d | d
    · by_cases e : (x - 1) / 4 = i
      · have k := d.2.2
        rw [e] at k
        exact h ⟨Or.inl e, k⟩
      · exact c (Or.inl ⟨d.1, by have := d.2.1; omega, d.2.2⟩)
    · by_cases e : ((x - 1) / 4 - 1) / 4 = i
      · have k := d.2.2
        rw [e] at k
        exact h ⟨Or.inr e, k⟩
      · exact c (Or.inr ⟨d.1, by have := d.2.1; omega, d.2.2⟩)
theorem ot_ciY {H : Nat → Int32} {i x : Nat} (hi : 1 ≤ i) (h : ot_un x i) (hb : ot_bad H i) : ot_ci H (i + 1) x = 0 := by
  unfold ot_ci
  rw [if_pos]
  rcases h with h | h
  · rw [h]
    exact Or.inl ⟨hi, by omega, hb⟩
  · rw [h]
    exact Or.inr ⟨hi, by omega, hb⟩
theorem ot_PIs {H0 C0 : Nat → Int32} (i : Nat) (H C : Nat → Int32) (h1 : 1 ≤ i) (hi : i < 85) (h : ot_PI H0 C0 i H C) : ot_PI H0 C0 (i + 1) (ot_pb H i) (ot_pc H C i) := by
  obtain ⟨a, b1, b2, c0, c1, c2, d1, d2, d3⟩ := h
  have e4 : H (340 + i) = H0 (340 + i) := b2 i (Or.inr (Nat.le_refl i)) hi
  have e3 : H (255 + i) = ot_bl H0 i := (c2 i (Nat.le_refl i) hi).trans (ot_ciBl h1)
  have M4 : ot_pb H i (340 + i) = 0 := pk_us
  have M3 : ot_pb H i (255 + i) = ot_M H0 i := by
    unfold ot_pb ot_M
    rw [pk_un (by omega), e4, e3]
    by_cases z2 : H0 (340 + i) = 2
    · rw [if_pos z2, if_pos z2, pk_us]
    · rw [if_neg z2, if_neg z2]
      by_cases z0 : H0 (340 + i) = 0
      · rw [if_pos z0, if_pos z0, e3]
      · rw [if_neg z0, if_neg z0, pk_us]
  have MO : ∀ x, x ≠ 340 + i → x ≠ 255 + i → ¬ (255 ≤ x ∧ x < 340 ∧ ot_un (x - 255) i ∧ ot_bad H0 i) → ot_pb H i x = H x := by
    intro x n1 n2 n3
    unfold ot_pb
    rw [pk_un n1, e4]
    by_cases z2 : H0 (340 + i) = 2
    · rw [if_pos z2, pk_un n2]
    · rw [if_neg z2]
      by_cases z0 : H0 (340 + i) = 0
      · rw [if_pos z0]
      · rw [if_neg z0, pk_un n2]
        refine if_neg (fun z => n3 ⟨?_, ?_, z.2, z0, z2⟩)
        · have := z.1.1; omega
        · have := z.1.2; omega
  have MU : ∀ x, x < 85 → ot_un x i → ot_bad H0 i → ot_pb H i (255 + x) = 0 := by
    intro x hx hu hb
    have := ot_unLt h1 hu
    unfold ot_pb
    rw [pk_un (by omega), e4, if_neg hb.2, if_neg hb.1, pk_un (by omega)]
    exact ot_clI (l := 3) hx hu
  have CB : ot_bad H0 i → ot_pc H C i = upd C (255 + i) (C (340 + i)) := fun hb => if_neg (fun z => by rw [e4] at z; exact z.elim hb.2 hb.1)
  have CN : ¬ ot_bad H0 i → ot_pc H C i = C := fun hb => by
    refine if_pos ?_
    rw [e4]
    by_cases z2 : H0 (340 + i) = 2
    · exact Or.inl z2
    · by_cases z0 : H0 (340 + i) = 0
      · exact Or.inr z0
      · exact absurd ⟨z0, z2⟩ hb
  have CO : ∀ x, x ≠ 255 + i → ot_pc H C i x = C x := by
    intro x hx
    by_cases hb : ot_bad H0 i
    · rw [CB hb, pk_un hx]
    · rw [CN hb]
  refine ⟨fun l x hl hx => ?_, fun x x1 x2 x3 => ?_, fun x x1 x2 => ?_, ?_, fun x x1 x2 x3 => ?_, fun x x1 x2 => ?_, fun x x1 x2 x3 => ?_, fun x x1 x2 => ?_, fun x hx => ?_⟩
  · rw [MO _ (by omega) (by omega) (by omega), CO _ (by omega)]
    exact a l x hl hx
  · by_cases e : x = i
    · rw [e]; exact M4
    · rw [MO _ (by omega) (by omega) (by omega)]
      exact b1 x x1 (by omega) x3
  · rw [MO _ (by omega) (by omega) (by omega)]
    exact b2 x (by omega) x2
  · rw [MO 255 (by omega) (by omega) (by intro z; have := ot_unLt h1 z.2.2.1; omega)]
    exact c0
  · by_cases e : x = i
    · rw [e]; exact M3
    · rw [MO _ (by omega) (by omega) (by intro z; have k := ot_unLt h1 z.2.2.1; omega)]
      exact c1 x x1 (by omega) x3
  · by_cases hu : ot_un x i ∧ ot_bad H0 i
    · rw [MU x x2 hu.1 hu.2, ot_ciY h1 hu.1 hu.2]
    · rw [ot_ciN hu, MO _ (by omega) (by omega) (by intro z; apply hu; have k := z.2.2; rw [show 255 + x - 255 = x from by omega] at k; exact k)]
      exact c2 x (by omega) x2
  · by_cases e : x = i
    · subst e
      by_cases hb : ot_bad H0 x
      · rw [CB hb, pk_us, if_pos hb]
        exact d3 x hi
      · rw [CN hb, if_neg hb]
        exact d2 x (Nat.le_refl x) hi
    · rw [CO _ (by omega)]
      exact d1 x x1 (by omega) x3
  · rw [CO _ (by omega)]
    exact d2 x (by omega) x2
  · rw [CO _ (by omega)]
    exact d3 x hx
theorem ot_PI1 {H C : Nat → Int32} : ot_PI H C 1 H C := by
  refine ⟨fun _ _ _ _ => ⟨rfl, rfl⟩, fun x a b _ => by omega, fun _ _ _ => rfl, rfl, fun x a b _ => by omega, fun x a b => ?_, fun x a b _ => by omega, fun _ _ _ => rfl, fun _ _ => rfl⟩
  refine (if_neg (fun z => ?_)).symm
  rcases z with z | z
  · have := z.1; have := z.2.1; omega
  · have := z.1; have := z.2.1; omega
/-! the order of each layer is kept -/
theorem ot_Mdir {H : Nat → Int32} {x : Nat} (h : H (340 + x) = 2 ∨ H (340 + x) = 3) : ot_M H x = 2 ∨ ot_M H x = 3 := by
  unfold ot_M
  rcases h with h | h
  · rw [if_pos h]
    split
    · exact Or.inr rfl
    · exact Or.inl rfl
  · rw [h]
    exact Or.inr rfl
theorem ot_prOK {H0 C0 H C : Nat → Int32} (hk : ot_OK H0) (h : ot_PI H0 C0 85 H C) : ot_OK H := by
  obtain ⟨a, b1, b2, c0, c1, _, _, _, _⟩ := h
  refine ⟨fun l hl => ?_, fun l x hl hx1 hx => ?_⟩
  · by_cases l4 : l = 4
    · subst l4
      exact (b2 0 (Or.inl rfl) (by omega)).trans (hk.1 4 hl)
    · by_cases l3 : l = 3
      · subst l3
        exact c0.trans (hk.1 3 hl)
      · exact ((a l 0 (by omega) (by omega)).1).trans (hk.1 l hl)
  · by_cases l4 : l = 4
    · subst l4
      exact Or.inl (b1 x hx1 (by omega) hx)
    · by_cases l3 : l = 3
      · subst l3
        have eM : H (85 * 3 + x) = ot_M H0 x := c1 x hx1 (by omega) hx
        have par : ∀ z, z = H (85 * 3 + (x - 1) / 4) → (1 ≤ (x - 1) / 4 → ot_M H0 ((x - 1) / 4) = 2 ∨ ot_M H0 ((x - 1) / 4) = 3) → z = 2 ∨ z = 3 := by
          intro z ez hz
          by_cases y0 : (x - 1) / 4 = 0
          · rw [y0] at ez
            exact Or.inl (ez.trans (c0.trans (hk.1 3 hl)))
          · rw [ez, show H (85 * 3 + (x - 1) / 4) = ot_M H0 ((x - 1) / 4) from c1 _ (by omega) (by omega) (by omega)]
            exact hz (by omega)
        rw [eM]
        by_cases z0 : H0 (340 + x) = 0
        · have eM2 : ot_M H0 x = ot_bl H0 x := by
            unfold ot_M
            rw [if_neg (by rw [z0]; decide), if_pos z0]
          rw [eM2]
          by_cases cl : (1 ≤ (x - 1) / 4 ∧ ot_bad H0 ((x - 1) / 4)) ∨ (1 ≤ ((x - 1) / 4 - 1) / 4 ∧ ot_bad H0 (((x - 1) / 4 - 1) / 4))
          · exact Or.inl (if_pos cl)
          · have eb : ot_bl H0 x = H0 (255 + x) := if_neg cl
            rw [eb]
            rcases hk.2 3 x hl hx1 hx with z | ⟨z, y⟩
            · exact Or.inl z
            · refine Or.inr ⟨z, par _ rfl (fun p1 => ?_)⟩
              have nb : ¬ ot_bad H0 ((x - 1) / 4) := fun w => cl (Or.inl ⟨p1, w⟩)
              have ep : ot_bl H0 ((x - 1) / 4) = H0 (255 + (x - 1) / 4) := by
                refine if_neg (fun w => ?_)
                rcases w with w | w
                · exact cl (Or.inr w)
                · have := w.1; omega
              unfold ot_M
              rw [ep]
              by_cases w2 : H0 (340 + (x - 1) / 4) = 2
              · rw [if_pos w2]
                split
                · exact Or.inr rfl
                · exact Or.inl rfl
              · rw [if_neg w2]
                by_cases w0 : H0 (340 + (x - 1) / 4) = 0
                · rw [if_pos w0]
                  exact y
                · exact absurd ⟨w0, w2⟩ nb
        · rcases hk.2 4 x (by omega) hx1 hx with z | ⟨z, y⟩
          · exact absurd z z0
          · refine Or.inr ⟨?_, par _ rfl (fun p1 => ot_Mdir y)⟩
            unfold ot_M
            by_cases w2 : H0 (340 + x) = 2
            · rw [if_pos w2]
              split
              · exact Or.inr (Or.inr (Or.inl rfl))
              · exact Or.inr (Or.inl rfl)
            · rw [if_neg w2, if_neg z0]
              exact z
      · rw [(a l x (by omega) hx).1, (a l ((x - 1) / 4) (by omega) (by omega)).1]
        exact hk.2 l x hl hx1 hx
end
section
/-! press: the view is kept, the floors fall to 3 at most -/
theorem ot_codes {H : Nat → Int32} (hk : ot_OK H) {l x : Nat} (hl : l < 5) (hx1 : 1 ≤ x) (hx : x < 85) : H (85 * l + x) = 0 ∨ H (85 * l + x) = 1 ∨ H (85 * l + x) = 2 ∨ H (85 * l + x) = 3 ∨ H (85 * l + x) = 4 := by
  rcases hk.2 l x hl hx1 hx with z | ⟨z, _⟩
  · exact Or.inl z
  · exact Or.inr z
theorem ot_bad3 {H C S V : Nat → Int32} {F : Nat → Nat} (hk : ot_OK H) (h : ot_View H C S V F) {q : Nat} (h1 : 1 ≤ q) (hq : q < 85) (hs : S q = 2) (hb : ot_bad H q) : H (340 + q) = 3 := by
  have d := ot_dir4 h h1 hq hs
  rcases ot_codes hk (l := 4) (by omega) h1 hq with z | z | z | z | z
  · exact absurd z hb.1
  · exact absurd z d.1
  · exact absurd z hb.2
  · exact z
  · exact absurd z d.2
theorem ot_prA {H C S V : Nat → Int32} {F : Nat → Nat} (hk : ot_OK H) (h : ot_View H C S V F) {x : Nat} (h1 : 1 ≤ x) (hx : x < 85) (hs : S ((x - 1) / 4) = 2) (hF : F ((x - 1) / 4) ≤ 3) :
    ot_bl H x = H (255 + x) := by
  refine if_neg (fun z => ?_)
  rcases z with z | z
  · have hv := h.2.2.2.2 _ z.1 (by omega)
    have e := hv.2.2 hs
    rw [ot_rs3 (h.2.2.2.1 _) (ot_bad3 hk h z.1 (by omega) hs z.2)] at e
    omega
  · have p1 : 1 ≤ (x - 1) / 4 := by have := z.1; omega
    have hv := h.2.2.2.2 _ p1 (by omega)
    have hs2 := ot_parDir h p1 (by omega) (by rw [hs]; decide)
    have hv2 := h.2.2.2.2 _ z.1 (by omega)
    have e := hv.2.2 hs
    have e2 := hv2.2.2 hs2
    rw [ot_rs3 (h.2.2.2.1 _) (ot_bad3 hk h z.1 (by omega) hs2 z.2)] at e2
    rw [e2] at e
    have := ot_rsGe (H := H) (q := (x - 1) / 4) (f := 4) 5
    omega
theorem ot_rs44 {H : Nat → Int32} {q f : Nat} (hf : f ≤ 4) (h : ot_rs H q f 4 = 4) : f = 4 ∨ H (255 + q) = 1 ∨ H (255 + q) = 4 := by
  by_cases f4 : f = 4
  · exact Or.inl f4
  · right
    apply Classical.byContradiction
    intro n
    have e : ot_rs H q f 4 = if H (255 + q) = 3 then 3 else ot_rs H q f 3 := by
      have : ¬ 3 < f := by omega
      exact (if_neg this).trans (by
        by_cases z : H (255 + q) = 3
        · exact (if_pos z).trans (if_pos z).symm
        · exact (if_neg z).trans ((if_neg n).trans (if_neg z).symm))
    rw [e] at h
    have := ot_rsLe (H := H) (q := q) (f := f) 3 (by omega)
    split at h <;> omega
theorem ot_prB {H C S V : Nat → Int32} {F : Nat → Nat} (hk : ot_OK H) (h : ot_View H C S V F) : ∀ n q, q ≤ n → 1 ≤ q → q < 85 → S q = 2 → F q = 4 →
    ot_bad H q ∨ (1 ≤ (q - 1) / 4 ∧ ot_bad H ((q - 1) / 4)) ∨ (1 ≤ ((q - 1) / 4 - 1) / 4 ∧ ot_bad H (((q - 1) / 4 - 1) / 4)) ∨ (H (255 + q) ≠ 2 ∧ H (255 + q) ≠ 3) := by
  intro n
  induction n with
  | zero => intro q a b; omega
  | succ n ih =>
    intro q hqn h1 hq hs hF
    have hv := h.2.2.2.2 q h1 hq
    have e := hv.2.2 hs
    by_cases z3 : H (340 + q) = 3
    · exact Or.inl ⟨by rw [z3]; decide, by rw [z3]; decide⟩
    · have d := ot_dir4 h h1 hq hs
      rw [ot_rs0 (h.2.2.2.1 _) z3 d.1 d.2, hF] at e
      rcases ot_rs44 (h.2.2.2.1 _) e.symm with z | z | z
      · have p1 : 1 ≤ (q - 1) / 4 := by
          rcases Nat.eq_zero_or_pos ((q - 1) / 4) with y | y
          · rw [y, h.2.1] at z
            omega
          · exact y
        have hs2 := ot_parDir h h1 hq (by rw [hs]; decide)
        rcases ih ((q - 1) / 4) (by omega) p1 (by omega) hs2 z with y | y | y | y
        · exact Or.inr (Or.inl ⟨p1, y⟩)
        · exact Or.inr (Or.inr (Or.inl y))
        · have := y.1
          omega
        · refine Or.inr (Or.inr (Or.inr ?_))
          rcases hk.2 3 q (by omega) h1 hq with w | ⟨_, w⟩
          · rw [show H (255 + q) = 0 from w]
            decide
          · exact absurd w (fun t => t.elim y.1 y.2)
      · exact Or.inr (Or.inr (Or.inr (by rw [z]; decide)))
      · exact Or.inr (Or.inr (Or.inr (by rw [z]; decide)))
theorem ot_prB' {H C S V : Nat → Int32} {F : Nat → Nat} (hk : ot_OK H) (h : ot_View H C S V F) {x : Nat} (h1 : 1 ≤ x) (hx : x < 85) (hs : S ((x - 1) / 4) = 2) (hF : F ((x - 1) / 4) = 4) :
    ot_bl H x = 0 := by
  have p1 : 1 ≤ (x - 1) / 4 := by
    rcases Nat.eq_zero_or_pos ((x - 1) / 4) with y | y
    · rw [y, h.2.1] at hF
      omega
    · exact y
  rcases ot_prB hk h _ _ (Nat.le_refl _) p1 (by omega) hs hF with y | y | y | y
  · exact if_pos (Or.inl ⟨p1, y⟩)
  · exact if_pos (Or.inr y)
  · have := y.1
    omega
  · unfold ot_bl
    split
    · rfl
    · rcases hk.2 3 x (by omega) h1 hx with w | ⟨_, w⟩
      · exact w
      · exact absurd w (fun t => t.elim y.1 y.2)
/-- a scan whose top layer is empty and whose next one is not -/
theorem ot_sc3 {H : Nat → Int32} {x f : Nat} (hf : f ≤ 3) (h4 : H (340 + x) = 0) (h3 : H (255 + x) ≠ 0) : ot_sc H x f 5 = some 3 :=
  (ot_sc0 (by omega) h4).trans ((if_neg (Nat.not_lt.mpr hf)).trans (if_neg h3))
theorem ot_sc33 {H : Nat → Int32} {x : Nat} (h4 : H (340 + x) = 0) (h3 : H (255 + x) = 0) : ot_sc H x 3 5 = none :=
  (ot_sc0 (by omega) h4).trans ((if_neg (by decide)).trans ((if_pos h3).trans (if_pos (by decide))))
theorem ot_vw3 {H C : Nat → Int32} {s v : Int32} {x f : Nat} (hf : f ≤ 3) (h4 : H (340 + x) = 0) (h3 : H (255 + x) ≠ 0)
    (z : (H (255 + x) = 4 ∧ s = 0) ∨ (H (255 + x) = 1 ∧ s = 1 ∧ v = C (255 + x)) ∨ (H (255 + x) ≠ 4 ∧ H (255 + x) ≠ 1 ∧ s = 2)) : ot_VW H C s v x f := by
  refine ⟨fun e => absurd ((ot_sc3 hf h4 h3).symm.trans e) (by simp), fun l e => ?_⟩
  have : 3 = l := by simpa using (ot_sc3 hf h4 h3).symm.trans e
  subst this
  exact z
theorem ot_prW {H0 C0 H C : Nat → Int32} {s v : Int32} {x f : Nat} (hk : ot_OK H0) (hx1 : 1 ≤ x) (hx : x < 85) (h : ot_PI H0 C0 85 H C) (hf : f ≤ 4) (hA : f ≤ 3 → ot_bl H0 x = H0 (255 + x)) (hB : f = 4 → ot_bl H0 x = 0)
    (hw : ot_VW H0 C0 s v x f) : ot_VW H C s v x (min f 3) := by
  obtain ⟨a, b1, b2, c0, c1, _, d1, _, d3⟩ := h
  have e4 : H (340 + x) = 0 := b1 x hx1 (by omega) hx
  have e3 : H (255 + x) = ot_M H0 x := c1 x hx1 (by omega) hx
  have eC : C (255 + x) = if ot_bad H0 x then C0 (340 + x) else C0 (255 + x) := d1 x hx1 (by omega) hx
  by_cases z0 : H0 (340 + x) = 0
  · have eM : ot_M H0 x = ot_bl H0 x := by
      unfold ot_M
      rw [if_neg (by rw [z0]; decide), if_pos z0]
    rcases Nat.lt_or_ge f 4 with y | y
    · have ef : min f 3 = f := by omega
      rw [ef]
      have e3' : H (255 + x) = H0 (255 + x) := e3.trans (eM.trans (hA (by omega)))
      have eS : ot_sc H x f 5 = ot_sc H0 x f 5 := by
        rw [ot_sc0 hf e4, ot_sc0 hf z0]
        refine ot_scC 4 (fun j hj => ?_)
        by_cases j3 : j = 3
        · subst j3; exact e3'
        · exact (a j x (by omega) hx).1
      have eC' : C (255 + x) = C0 (255 + x) := eC.trans (if_neg (fun z => z.1 z0))
      refine ⟨fun z => hw.1 (eS.symm.trans z), fun l z => ?_⟩
      have z' := eS.symm.trans z
      have hl4 : l < 4 := (ot_scLt ((ot_sc0 hf z0).symm.trans z')).1
      have k := hw.2 l z'
      by_cases l3 : l = 3
      · subst l3
        have q1 : H (85 * 3 + x) = H0 (85 * 3 + x) := e3'
        have q2 : C (85 * 3 + x) = C0 (85 * 3 + x) := eC'
        rw [q1, q2]
        exact k
      · rw [(a l x (by omega) hx).1, (a l x (by omega) hx).2]
        exact k
    · have f4 : f = 4 := by omega
      subst f4
      have e3' : H (255 + x) = 0 := e3.trans (eM.trans (hB rfl))
      have s0 := hw.1 (ot_scN z0)
      exact ⟨fun _ => s0, fun l z => absurd ((ot_sc33 e4 e3').symm.trans z) (by simp)⟩
  · have k := ot_vwT' hf z0 hw
    by_cases z2 : H0 (340 + x) = 2
    · have eM : ot_M H0 x = 2 ∨ ot_M H0 x = 3 := ot_Mdir (Or.inl z2)
      have hs : s = 2 := by
        rcases k with k | k | k
        · exact absurd (z2.symm.trans k.1) (by decide)
        · exact absurd (z2.symm.trans k.1) (by decide)
        · exact k.2.2
      refine ot_vw3 (by omega) e4 ?_ (Or.inr (Or.inr ?_))
      · rw [e3]
        rcases eM with w | w <;> rw [w] <;> decide
      · rw [e3]
        refine ⟨?_, ?_, hs⟩
        · rcases eM with w | w <;> rw [w] <;> decide
        · rcases eM with w | w <;> rw [w] <;> decide
    · have eM : ot_M H0 x = H0 (340 + x) := by
        unfold ot_M
        rw [if_neg z2, if_neg z0]
      have eC' : C (255 + x) = C0 (340 + x) := eC.trans (if_pos ⟨z0, z2⟩)
      refine ot_vw3 (by omega) e4 (by rw [e3, eM]; exact z0) ?_
      rw [e3, eM, eC']
      exact k
theorem ot_rs5 {H : Nat → Int32} {x f : Nat} (hf : f ≤ 4) (h4 : H (340 + x) = 0) : ot_rs H x f 5 = ot_rs H x f 4 := ot_rs0 hf (by rw [h4]; decide) (by rw [h4]; decide) (by rw [h4]; decide)
theorem ot_rs4a {H : Nat → Int32} {x f : Nat} (hf : f ≤ 3) (h : H (255 + x) = 3) : ot_rs H x f 4 = 3 := (if_neg (Nat.not_lt.mpr hf)).trans (if_pos h)
theorem ot_rs4b {H : Nat → Int32} {x f : Nat} (hf : f ≤ 3) (h : H (255 + x) = 1 ∨ H (255 + x) = 4) : ot_rs H x f 4 = 4 :=
  (if_neg (Nat.not_lt.mpr hf)).trans ((if_neg (by rcases h with z | z <;> rw [show H (85 * 3 + x) = _ from z] <;> decide)).trans (if_pos h))
theorem ot_rs4c {H : Nat → Int32} {x f : Nat} (hf : f ≤ 3) (h3 : H (255 + x) ≠ 3) (h : ¬ (H (255 + x) = 1 ∨ H (255 + x) = 4)) : ot_rs H x f 4 = ot_rs H x f 3 :=
  (if_neg (Nat.not_lt.mpr hf)).trans ((if_neg h3).trans (if_neg h))
theorem ot_prF {H0 C0 H C : Nat → Int32} {v : Int32} {x f : Nat} (hk : ot_OK H0) (hx1 : 1 ≤ x) (hx : x < 85) (h : ot_PI H0 C0 85 H C) (hf : f ≤ 4) (hA : f ≤ 3 → ot_bl H0 x = H0 (255 + x)) (hB : f = 4 → ot_bl H0 x = 0)
    (hw : ot_VW H0 C0 2 v x f) (hd : H0 (340 + x) ≠ 1 ∧ H0 (340 + x) ≠ 4) : min (ot_rs H0 x f 5) 3 = ot_rs H x (min f 3) 5 := by
  obtain ⟨a, b1, b2, c0, c1, _, d1, _, d3⟩ := h
  have e4 : H (340 + x) = 0 := b1 x hx1 (by omega) hx
  have e3 : H (255 + x) = ot_M H0 x := c1 x hx1 (by omega) hx
  rw [ot_rs5 (H := H) (f := min f 3) (by omega) e4]
  have low : ∀ g, ot_rs H x g 3 = ot_rs H0 x g 3 := fun g => ot_rsC 3 (fun j hj => (a j x hj hx).1)
  by_cases z3 : H0 (340 + x) = 3
  · have eM : ot_M H0 x = 3 := by
      unfold ot_M
      rw [z3]
      rfl
    rw [ot_rs3 hf z3, ot_rs4a (by omega) (e3.trans eM)]
    rfl
  · rw [ot_rs0 hf z3 hd.1 hd.2]
    by_cases z2 : H0 (340 + x) = 2
    · have eM : ot_M H0 x = if ot_bl H0 x = 1 ∨ ot_bl H0 x = 4 ∨ ot_bl H0 x = 3 then 3 else 2 := if_pos z2
      rcases Nat.lt_or_ge f 4 with y | y
      · have ef : min f 3 = f := by omega
        rw [ef]
        rw [hA (by omega)] at eM
        by_cases w3 : H0 (255 + x) = 3
        · rw [if_pos (Or.inr (Or.inr w3))] at eM
          rw [ot_rs4a (by omega) w3, ot_rs4a (by omega) (e3.trans eM)]
          rfl
        · by_cases w14 : H0 (255 + x) = 1 ∨ H0 (255 + x) = 4
          · have : ot_M H0 x = 3 := by
              rw [eM]
              refine if_pos ?_
              rcases w14 with w | w
              · exact Or.inl w
              · exact Or.inr (Or.inl w)
            rw [ot_rs4b (by omega) w14, ot_rs4a (by omega) (e3.trans this)]
            rfl
          · have : ot_M H0 x = 2 := by
              rw [eM]
              refine if_neg (fun t => ?_)
              rcases t with t | t | t
              · exact w14 (Or.inl t)
              · exact w14 (Or.inr t)
              · exact w3 t
            have q : H (255 + x) = 2 := e3.trans this
            rw [ot_rs4c (by omega) w3 w14, ot_rs4c (by omega) (by rw [q]; decide) (by rw [q]; decide), low]
            have := ot_rsLe (H := H0) (q := x) (f := f) 3 (by omega)
            omega
      · have f4 : f = 4 := by omega
        subst f4
        rw [hB rfl] at eM
        have q : H (255 + x) = 2 := e3.trans (eM.trans (if_neg (by decide)))
        have m3 : min 4 3 = 3 := rfl
        rw [m3, ot_rs4c (H := H) (x := x) (f := 3) (by omega) (by rw [q]; decide) (by rw [q]; decide)]
        rfl
    · have z0 : H0 (340 + x) = 0 := by
        rcases ot_codes hk (l := 4) (by omega) hx1 hx with w | w | w | w | w
        · exact w
        · exact absurd w hd.1
        · exact absurd w z2
        · exact absurd w z3
        · exact absurd w hd.2
      have eM : ot_M H0 x = ot_bl H0 x := by
        unfold ot_M
        rw [if_neg z2, if_pos z0]
      rcases Nat.lt_or_ge f 4 with y | y
      · have ef : min f 3 = f := by omega
        rw [ef]
        have e3' : H (255 + x) = H0 (255 + x) := e3.trans (eM.trans (hA (by omega)))
        have n14 : ¬ (H0 (255 + x) = 1 ∨ H0 (255 + x) = 4) := by
          intro w
          have k := hw.2 3 (ot_sc3 (by omega) z0 (by rcases w with w | w <;> rw [w] <;> decide))
          rcases k with k | k | k
          · exact absurd k.2 (by decide)
          · exact absurd k.2.1 (by decide)
          · exact w.elim k.2.1 k.1
        by_cases w3 : H0 (255 + x) = 3
        · rw [ot_rs4a (by omega) w3, ot_rs4a (by omega) (e3'.trans w3)]
          rfl
        · rw [ot_rs4c (by omega) w3 n14, ot_rs4c (by omega) (by rw [e3']; exact w3) (by rw [e3']; exact n14), low]
          have := ot_rsLe (H := H0) (q := x) (f := f) 3 (by omega)
          omega
      · have f4 : f = 4 := by omega
        subst f4
        exact absurd (hw.1 (ot_scN z0)) (by decide)
theorem ot_prV {H0 C0 S V H C : Nat → Int32} {F : Nat → Nat} (hk : ot_OK H0) (hv : ot_View H0 C0 S V F) (h : ot_PI H0 C0 85 H C) : ot_View H C S V (fun q => min (F q) 3) := by
  refine ⟨(h.2.2.1 0 (Or.inl rfl) (by omega)).trans hv.1, ?_, hv.2.2.1, fun q => ?_, fun x hx1 hx => ?_⟩
  · show min (F 0) 3 = 0
    rw [hv.2.1]
    rfl
  · show min (F q) 3 ≤ 4
    omega
  · have k := hv.2.2.2.2 x hx1 hx
    have hF := hv.2.2.2.1 ((x - 1) / 4)
    refine ⟨k.1, fun hs => ?_, fun hs2 => ?_⟩
    · exact ot_prW hk hx1 hx h hF (fun z => ot_prA hk hv hx1 hx hs z) (fun z => ot_prB' hk hv hx1 hx hs z) (k.2.1 hs)
    · have hs := ot_parDir hv hx1 hx (by rw [hs2]; decide)
      have hw := k.2.1 hs
      rw [hs2] at hw
      show min (F x) 3 = ot_rs H x (min (F ((x - 1) / 4)) 3) 5
      rw [k.2.2 hs2]
      exact ot_prF hk hx1 hx h hF (fun z => ot_prA hk hv hx1 hx hs z) (fun z => ot_prB' hk hv hx1 hx hs z) hw (ot_dir4 hv hx1 hx hs2)
theorem ot_prY {m : Int32} {LS LV S V Im : Nat → Int32} {post : Int32 → Prop} (J0 : m = 0 → post (-1)) (J1 : ¬ m = 0 → post 0) : wpY_press post (m, LS, LV, S, V, Im) := br_c J0 J1
theorem i_vc_press {k : Nat} {u : SX} {v : SY} (I : i_Rel k u v) (hk : k + 5 ≤ 2560) : wpX_press (fun r u' => wpY_press (fun r' => r' = r ∧ i_Rel (k + 5) u' v) v) u := by
  obtain ⟨m, fl, flo, H, C, W, PS, PV⟩ := u
  obtain ⟨m', LS, LV, S, V, Im⟩ := v
  obtain ⟨e, R⟩ := I
  have e : m' = m := e
  subst e
  have R : ot_R m' H C LS LV S V := R
  refine br_c (fun hm => ?_) (fun hm => ⟨85, ?_⟩)
  · exact ot_prY (fun _ => ⟨rfl, rfl, R⟩) (fun z => absurd hm z)
  · rcases R.2 with z | ⟨z, F, hv⟩
    · exact absurd z.1 hm
    · refine ot_pressW (ot_PI H C) (fun i H' C' a b c => ot_PIs i H' C' a b c) ?_ 85 1 H C (by omega) (by omega) (by omega) ot_PI1
      intro H' C' h
      exact ot_prY (fun y => absurd y hm) (fun _ => ⟨rfl, rfl, And.intro (ot_prOK R.1 h) (Or.inr ⟨z, _, ot_prV R.1 hv h⟩)⟩)
end
section
/-! mount: the reference's walk -/
abbrev ot_hc (v : Int32) : Prop := v = 1 ∨ v = 3 ∨ v = 4
abbrev ot_hid (L : Nat → Int32) (l p : Nat) : Prop := (1 ≤ (p - 1) / 4 ∧ ot_hc (L (85 * l + (p - 1) / 4))) ∨ (1 ≤ ((p - 1) / 4 - 1) / 4 ∧ ot_hc (L (85 * l + ((p - 1) / 4 - 1) / 4)))
theorem ot_hidS {m : Int32} {LS LV S V Im : Nat → Int32} {post : Int32 → Prop} {l x n : Nat} (hl : l < 3) (h1 : 1 ≤ x) (hx : x < 85)
    (J0 : (x - 1) / 4 = 0 → wY_hidden_2 post (nI l) m LS LV S V Im n (nI 0)) (J1 : 1 ≤ (x - 1) / 4 → ot_hc (LS (85 * l + (x - 1) / 4)) → post 1)
    (J2 : 1 ≤ (x - 1) / 4 → ¬ ot_hc (LS (85 * l + (x - 1) / 4)) → wY_hidden_2 post (nI l) m LS LV S V Im n (nI ((x - 1) / 4))) :
    wY_hidden_2 post (nI l) m LS LV S V Im (n + 1) (nI x) := by
  refine br_f (nI_nle (by omega) (by omega)) (ot_parY h1 (by omega) (And.intro (pk_in (85 * l + (x - 1) / 4) 255 (by omega) (ot_ix l _)) (nm_r (ot_atL (A := LS) (by omega) (by omega)) ?_)))
  by_cases h0 : (x - 1) / 4 = 0
  · have K := J0 h0
    rw [h0]
    exact br_t (by decide) K
  · refine br_f (nI_nle (by omega) (by omega)) ?_
    refine br_c (fun a => J1 (by omega) (Or.inl a)) (fun a => br_c (fun b => J1 (by omega) (Or.inr (Or.inl b))) (fun b => br_c (fun c => J1 (by omega) (Or.inr (Or.inr c))) (fun c => ?_)))
    exact J2 (by omega) (fun z => z.elim a (fun z => z.elim b c))
theorem ot_hidden {m : Int32} {LS LV S V Im : Nat → Int32} {post : Int32 → Prop} {l p : Nat} (hl : l < 3) (h1 : 1 ≤ p) (hp : p < 85)
    (J1 : ot_hid LS l p → post 1) (J0 : ¬ ot_hid LS l p → post 0) : wpY_hidden post (m, LS, LV, S, V, Im) (nI l) (nI p) := by
  refine ⟨4, ?_⟩
  have X : ∀ n, post 0 → wY_hidden_2 post (nI l) m LS LV S V Im (n + 1) (nI 0) := fun n j => br_t (by decide) j
  refine ot_hidS hl h1 hp (fun a => X 2 (J0 ?_)) (fun a b => J1 (Or.inl ⟨a, b⟩)) (fun a b => ?_)
  · intro z
    rcases z with z | z
    · have := z.1; omega
    · have := z.1; omega
  · refine ot_hidS hl a (by omega) (fun c => X 1 (J0 ?_)) (fun c d => J1 (Or.inr ⟨c, d⟩)) (fun c d => ?_)
    · intro z
      rcases z with z | z
      · exact b z.2
      · have := z.1; omega
    · refine ot_hidS hl c (by omega) (fun e => X 0 (J0 ?_)) (fun e _ => by omega) (fun e _ => by omega)
      intro z
      rcases z with z | z
      · exact b z.2
      · exact d z.2
def ot_ym (L : Nat → Int32) (p : Nat) : Nat → Option Nat
  | 0 => none
  | k + 1 => if L (85 * k + p) = 0 then (if ot_hid L k p then none else ot_ym L p k) else some k
theorem ot_ym78 {m x3 : Int32} {LS LV S V Im : Nat → Int32} {post : SY → Prop} {p l : Nat}
    {J : Int32 → (Nat → Int32) → (Nat → Int32) → (Nat → Int32) → (Nat → Int32) → (Nat → Int32) → Prop} (h : x3 ≠ 0) (K : post (m, LS, LV, S, V, Im)) :
    wY_merge_78 post J (nI p) (nI l) x3 m LS LV S V Im := br_f h K
theorem ot_merge16 {m : Int32} {LS LV S V Im : Nat → Int32} {post : SY → Prop} {p : Nat} (h1 : 1 ≤ p) (hp : p < 85) :
    ∀ k n, k ≤ 3 → k < n → (ot_ym LS p k = none → post (m, LS, LV, S, V, Im)) →
    (∀ l, l < 3 → ot_ym LS p k = some l → LS (85 * l + p) = 1 → post (m, LS, LV, upd S p 1, upd V p (LV (85 * l + p)), Im)) →
    (∀ l, l < 3 → ot_ym LS p k = some l → (LS (85 * l + p) = 2 ∨ LS (85 * l + p) = 3) → post (m, LS, LV, upd S p 2, V, Im)) →
    (∀ l, l < 3 → ot_ym LS p k = some l → LS (85 * l + p) ≠ 1 → LS (85 * l + p) ≠ 2 → LS (85 * l + p) ≠ 3 → post (m, LS, LV, S, V, Im)) →
    wY_merge_16 post (nI p) m n (nI k + (-1)) LS LV S V Im := by
  intro k
  induction k with
  | zero =>
    intro n _ hn j0 _ _ _
    obtain ⟨n, rfl⟩ : ∃ n', n = n' + 1 := ⟨n - 1, by omega⟩
    exact br_t (by decide) (j0 rfl)
  | succ k ih =>
    intro n hk hn j0 j1 j2 j4
    obtain ⟨n, rfl⟩ : ∃ n', n = n' + 1 := ⟨n - 1, by omega⟩
    rw [pk_m1]
    have hin : vp_in (nI p) 85 := vp_in_nI hp (by omega)
    have hinL : vp_in (85 * nI k + nI p) 255 := pk_in (85 * k + p) 255 (by omega) (ot_ix k p)
    refine br_f (nI_pos (by omega)) (And.intro hinL (nm_r (ot_atL (A := LS) (by omega) hp) ?_))
    by_cases z0 : LS (85 * k + p) = 0
    · refine br_f (by rw [z0]; decide) (br_f (by rw [z0]; decide) (br_f (by rw [z0]; decide) (br_t z0 ?_)))
      refine ot_hidden (by omega) h1 hp (fun hh => ?_) (fun hh => ?_)
      · exact br_f (by decide) (j0 ((if_pos z0).trans (if_pos hh)))
      · have e : ot_ym LS p (k + 1) = ot_ym LS p k := (if_pos z0).trans (if_neg hh)
        rw [e] at j0 j1 j2 j4
        exact br_t rfl (nm_e (ih n (by omega) (by omega) j0 j1 j2 j4))
    · have e : ot_ym LS p (k + 1) = some k := if_neg z0
      by_cases z1 : LS (85 * k + p) = 1
      · refine br_t z1 (And.intro hin (nm_r (e' := upd S p 1) (by rw [nI_clamp (by omega)]) (And.intro hinL (And.intro hin (nm_r (e' := upd V p (LV (85 * k + p))) (by rw [nI_clamp (by omega), ot_clL (by omega) hp]) ?_)))))
        exact br_f (by rw [z1]; decide) (br_f (by rw [z1]; decide) (br_f z0 (j1 k (by omega) e z1)))
      · refine br_f z1 ?_
        have X71 : (LS (85 * k + p) = 2 ∨ LS (85 * k + p) = 3) → wY_merge_71 post (wY_merge_16 post (nI p) m n) (nI p) (nI k) (LS (85 * k + p)) m LS LV S V Im := fun z =>
          And.intro hin (nm_r (e' := upd S p 2) (by rw [nI_clamp (by omega)]) (br_f z0 (j2 k (by omega) e z)))
        exact br_c (fun a => X71 (Or.inl a)) (fun a => br_c (fun b => X71 (Or.inr b)) (fun b => br_f z0 (j4 k (by omega) e z1 a b)))
theorem ot_merge {m : Int32} {LS LV S V Im : Nat → Int32} {post : SY → Prop} {p : Nat} (h1 : 1 ≤ p) (hp : p < 85)
    (jn : S ((p - 1) / 4) ≠ 2 → post (m, LS, LV, S, V, Im)) (j0 : S ((p - 1) / 4) = 2 → ot_ym LS p 3 = none → post (m, LS, LV, S, V, Im))
    (j1 : S ((p - 1) / 4) = 2 → ∀ l, l < 3 → ot_ym LS p 3 = some l → LS (85 * l + p) = 1 → post (m, LS, LV, upd S p 1, upd V p (LV (85 * l + p)), Im))
    (j2 : S ((p - 1) / 4) = 2 → ∀ l, l < 3 → ot_ym LS p 3 = some l → (LS (85 * l + p) = 2 ∨ LS (85 * l + p) = 3) → post (m, LS, LV, upd S p 2, V, Im))
    (j4 : S ((p - 1) / 4) = 2 → ∀ l, l < 3 → ot_ym LS p 3 = some l → LS (85 * l + p) ≠ 1 → LS (85 * l + p) ≠ 2 → LS (85 * l + p) ≠ 3 → post (m, LS, LV, S, V, Im)) :
    wpY_merge post (m, LS, LV, S, V, Im) (nI p) := by
  unfold wpY_merge
  refine ot_parY h1 (by omega) (And.intro (vp_in_nI (by omega) (by omega)) ?_)
  rw [nI_clamp (by omega)]
  exact br_c (fun z => ⟨4, ot_merge16 h1 hp 3 4 (by omega) (by omega) (j0 z) (j1 z) (j2 z) (j4 z)⟩) (fun z => jn z)
end
section
/-! mount: the floors of the filled layers, and that the merge is the scan -/
theorem ot_rsR1 {H : Nat → Int32} {q f : Nat} : ∀ K k, ot_rs H q f K < k → k < K → ¬ ot_hc (H (85 * k + q)) := by
  intro K
  induction K with
  | zero => intro k _ h; omega
  | succ K ih =>
    intro k hg hk
    unfold ot_rs at hg
    split at hg
    · omega
    · split at hg
      · omega
      · split at hg
        · omega
        · rename_i n3 n14
          by_cases e : k = K
          · subst e
            intro z
            rcases z with z | z | z
            · exact n14 (Or.inl z)
            · exact n3 z
            · exact n14 (Or.inr z)
          · exact ih k hg (by omega)
theorem ot_rsR2 {H : Nat → Int32} {q f : Nat} : ∀ K, ot_rs H q f K = f ∨ (ot_rs H q f K < K ∧ H (85 * ot_rs H q f K + q) = 3) ∨
    (1 ≤ ot_rs H q f K ∧ ot_rs H q f K - 1 < K ∧ (H (85 * (ot_rs H q f K - 1) + q) = 1 ∨ H (85 * (ot_rs H q f K - 1) + q) = 4)) := by
  intro K
  induction K with
  | zero => exact Or.inl rfl
  | succ K ih =>
    by_cases a : K < f
    · exact Or.inl (if_pos a)
    · by_cases b : H (85 * K + q) = 3
      · have e : ot_rs H q f (K + 1) = K := (if_neg a).trans (if_pos b)
        rw [e]
        exact Or.inr (Or.inl ⟨by omega, b⟩)
      · by_cases c : H (85 * K + q) = 1 ∨ H (85 * K + q) = 4
        · have e : ot_rs H q f (K + 1) = K + 1 := (if_neg a).trans ((if_neg b).trans (if_pos c))
          rw [e]
          exact Or.inr (Or.inr ⟨by omega, by omega, c⟩)
        · have e : ot_rs H q f (K + 1) = ot_rs H q f K := (if_neg a).trans ((if_neg b).trans (if_neg c))
          rw [e]
          rcases ih with z | z | z
          · exact Or.inl z
          · exact Or.inr (Or.inl ⟨by omega, z.2⟩)
          · exact Or.inr (Or.inr ⟨z.1, by omega, z.2.2⟩)
def ot_F3 (H : Nat → Int32) (q : Nat) : Nat := if 1 ≤ q then ot_rs H q 0 5 else 0
def ot_F2 (H : Nat → Int32) (q : Nat) : Nat := if 1 ≤ q then ot_rs H q (ot_F3 H ((q - 1) / 4)) 5 else 0
def ot_F (H : Nat → Int32) (q : Nat) : Nat := if 1 ≤ q ∧ q < 85 then ot_rs H q (ot_F2 H ((q - 1) / 4)) 5 else 0
theorem ot_F30 {H : Nat → Int32} : ot_F3 H 0 = 0 := rfl
theorem ot_Feq {H : Nat → Int32} {q : Nat} (h1 : 1 ≤ q) (hq : q < 85) : ot_F H q = ot_rs H q (ot_F H ((q - 1) / 4)) 5 := by
  have e : ot_F2 H ((q - 1) / 4) = ot_F H ((q - 1) / 4) := by
    unfold ot_F2 ot_F
    by_cases c : 1 ≤ (q - 1) / 4
    · rw [if_pos c, if_pos ⟨c, by omega⟩]
      have e2 : ot_F3 H (((q - 1) / 4 - 1) / 4) = ot_F2 H (((q - 1) / 4 - 1) / 4) := by
        unfold ot_F3 ot_F2
        by_cases d : 1 ≤ ((q - 1) / 4 - 1) / 4
        · rw [if_pos d, if_pos d, show (((q - 1) / 4 - 1) / 4 - 1) / 4 = 0 from by omega, ot_F30]
        · rw [if_neg d, if_neg d]
      rw [e2]
    · rw [if_neg c, if_neg (fun z => c z.1)]
  show (if 1 ≤ q ∧ q < 85 then ot_rs H q (ot_F2 H ((q - 1) / 4)) 5 else 0) = _
  rw [if_pos ⟨h1, hq⟩, e]
theorem ot_rsZ {H : Nat → Int32} {q f : Nat} (h4 : H (340 + q) = 0) (h3 : H (255 + q) = 0) (hf : f ≤ 3) : ot_rs H q f 5 ≤ 3 := by
  rw [ot_rs5 (by omega) h4, ot_rs4c hf (by rw [h3]; decide) (by rw [h3]; decide)]
  exact ot_rsLe 3 hf
section
variable {H C LS LV S0 : Nat → Int32}
theorem ot_FLe (P : ot_Pre H C LS LV S0) : ∀ q, ot_F H q ≤ 3 := by
  have key : ∀ n q, q ≤ n → ot_F H q ≤ 3 := by
    intro n
    induction n with
    | zero =>
      intro q hq
      have : ot_F H q = 0 := if_neg (by omega)
      omega
    | succ n ih =>
      intro q hq
      by_cases c : 1 ≤ q ∧ q < 85
      · rw [ot_Feq c.1 c.2]
        exact ot_rsZ (P.1 q c.1 c.2).1 (P.1 q c.1 c.2).2 (ih _ (by omega))
      · have : ot_F H q = 0 := if_neg c
        omega
  exact fun q => key q q (Nat.le_refl q)
theorem ot_F0 : ot_F H 0 = 0 := if_neg (by omega)
/-- above the floor nothing hides -/
theorem ot_P1 {p k : Nat} (h1 : 1 ≤ p) (hp : p < 85) (hk : k < 5) (h : ot_F H ((p - 1) / 4) < k) : ¬ ot_hid H k p := by
  intro z
  rcases z with z | z
  · rw [ot_Feq z.1 (by omega)] at h
    exact ot_rsR1 5 k h hk z.2
  · rw [ot_Feq (by omega) (by omega)] at h
    have g := ot_rsGe (H := H) (q := (p - 1) / 4) (f := ot_F H (((p - 1) / 4 - 1) / 4)) 5
    have h' : ot_F H (((p - 1) / 4 - 1) / 4) < k := by omega
    rw [ot_Feq z.1 (by omega)] at h'
    exact ot_rsR1 5 k h' hk z.2
/-- the floor is 0, or is hidden itself, or what lies below it hides and is empty -/
theorem ot_P2 {p : Nat} (hk : ot_OK H) (h1 : 1 ≤ p) (hp : p < 85) (hF : ot_F H ((p - 1) / 4) ≤ 3) :
    ot_F H ((p - 1) / 4) = 0 ∨ ot_hid H (ot_F H ((p - 1) / 4)) p ∨
    (1 ≤ ot_F H ((p - 1) / 4) ∧ ot_hid H (ot_F H ((p - 1) / 4) - 1) p ∧ H (85 * (ot_F H ((p - 1) / 4) - 1) + p) = 0) := by
  by_cases q0 : (p - 1) / 4 = 0
  · rw [q0]
    exact Or.inl ot_F0
  · have zero : ∀ l x, l < 5 → 1 ≤ x → x < 85 → (H (85 * l + (x - 1) / 4) = 0 ∨ H (85 * l + (x - 1) / 4) = 1 ∨ H (85 * l + (x - 1) / 4) = 4) → H (85 * l + x) = 0 := by
      intro l x a b c d
      rcases hk.2 l x a b c with w | ⟨_, w⟩
      · exact w
      · rcases d with d | d | d <;> rw [d] at w <;> exact absurd w (by decide)
    have e := ot_Feq (H := H) (q := (p - 1) / 4) (by omega) (by omega)
    rcases ot_rsR2 (H := H) (q := (p - 1) / 4) (f := ot_F H (((p - 1) / 4 - 1) / 4)) 5 with z | z | z
    · rw [← e] at z
      by_cases r0 : ((p - 1) / 4 - 1) / 4 = 0
      · rw [r0, ot_F0] at z
        exact Or.inl z
      · have e2 := ot_Feq (H := H) (q := ((p - 1) / 4 - 1) / 4) (by omega) (by omega)
        rw [show (((p - 1) / 4 - 1) / 4 - 1) / 4 = 0 from by omega, ot_F0] at e2
        rw [← z] at e2
        rcases ot_rsR2 (H := H) (q := ((p - 1) / 4 - 1) / 4) (f := 0) 5 with y | y | y
        · exact Or.inl (e2.trans y)
        · rw [← e2] at y
          exact Or.inr (Or.inl (Or.inr ⟨by omega, Or.inr (Or.inl y.2)⟩))
        · rw [← e2] at y
          refine Or.inr (Or.inr ⟨y.1, Or.inr ⟨by omega, ?_⟩, ?_⟩)
          · rcases y.2.2 with w | w
            · exact Or.inl w
            · exact Or.inr (Or.inr w)
          · have w := zero (ot_F H ((p - 1) / 4) - 1) ((p - 1) / 4) (by omega) (by omega) (by omega) (Or.inr y.2.2)
            exact zero _ p (by omega) h1 hp (Or.inl w)
    · rw [← e] at z
      exact Or.inr (Or.inl (Or.inl ⟨by omega, Or.inr (Or.inl z.2)⟩))
    · rw [← e] at z
      refine Or.inr (Or.inr ⟨z.1, Or.inl ⟨by omega, ?_⟩, zero _ p (by omega) h1 hp (Or.inr z.2.2)⟩)
      rcases z.2.2 with w | w
      · exact Or.inl w
      · exact Or.inr (Or.inr w)
theorem ot_scF {q f : Nat} : ot_sc H q f f = none := by
  cases f with
  | zero => rfl
  | succ f => exact if_pos (by omega)
theorem ot_ymSc {p f : Nat} (h1 : 1 ≤ p) (hf : f = ot_F H ((p - 1) / 4)) (hp : p < 85) (hk : ot_OK H) (hF : f ≤ 3) :
    ∀ k, k ≤ 3 → f ≤ k → (f < k ∨ k = 3 ∨ ¬ ot_hid H f p) → (k = 3 → f = 3 → ¬ ot_hid H f p) → ot_ym H p k = ot_sc H p f k := by
  intro k
  induction k with
  | zero => intro _ _ _ _; rfl
  | succ k ih =>
    intro hk3 hfk hc hc3
    by_cases hkf : k < f
    · have ef : f = k + 1 := by omega
      have e1 : ot_sc H p f (k + 1) = none := if_pos hkf
      rw [e1]
      have nh : ¬ ot_hid H f p := by
        rcases hc with z | z | z
        · omega
        · exact hc3 z (by omega)
        · exact z
      have P2 := ot_P2 hk h1 hp (by rw [← hf]; exact hF)
      rw [← hf] at P2
      rcases P2 with z | z | z
      · omega
      · exact absurd z nh
      · have e : f - 1 = k := by omega
        rw [e] at z
        exact (if_pos z.2.2).trans (if_pos z.2.1)
    · by_cases z0 : H (85 * k + p) = 0
      · have e1 : ot_sc H p f (k + 1) = ot_sc H p f k := (if_neg hkf).trans (if_pos z0)
        rw [e1]
        by_cases hh : ot_hid H k p
        · have e2 : ot_ym H p (k + 1) = none := (if_pos z0).trans (if_pos hh)
          have ek : k = f := by
            rcases Nat.lt_or_ge f k with w | w
            · exact absurd hh (ot_P1 h1 hp (by omega) (by rw [← hf]; exact w))
            · omega
          rw [e2, ek, ot_scF]
        · have e2 : ot_ym H p (k + 1) = ot_ym H p k := (if_pos z0).trans (if_neg hh)
          rw [e2]
          refine ih (by omega) (by omega) ?_ (fun w => by omega)
          by_cases w : f < k
          · exact Or.inl w
          · have : f = k := by omega
            rw [this]
            exact Or.inr (Or.inr hh)
      · have e1 : ot_sc H p f (k + 1) = some k := (if_neg hkf).trans (if_neg z0)
        rw [e1]
        exact if_neg z0
theorem ot_ymC {L : Nat → Int32} {p : Nat} (hp : p < 85) (h1 : 1 ≤ p) (h : ∀ l x, l < 3 → 1 ≤ x → x < 85 → L (85 * l + x) = H (85 * l + x)) : ∀ k, k ≤ 3 → ot_ym L p k = ot_ym H p k := by
  intro k
  induction k with
  | zero => intro _; rfl
  | succ k ih =>
    intro hk
    have eh : ot_hid L k p ↔ ot_hid H k p := by
      constructor
      · intro z
        rcases z with z | z
        · have w := z.2
          rw [h k _ (by omega) z.1 (by omega)] at w
          exact Or.inl ⟨z.1, w⟩
        · have w := z.2
          rw [h k _ (by omega) z.1 (by omega)] at w
          exact Or.inr ⟨z.1, w⟩
      · intro z
        rcases z with z | z
        · have w := z.2
          rw [← h k _ (by omega) z.1 (by omega)] at w
          exact Or.inl ⟨z.1, w⟩
        · have w := z.2
          rw [← h k _ (by omega) z.1 (by omega)] at w
          exact Or.inr ⟨z.1, w⟩
    have e0 := h k p (by omega) h1 hp
    by_cases z0 : H (85 * k + p) = 0
    · by_cases hh : ot_hid H k p
      · exact ((if_pos (e0.trans z0)).trans (if_pos (eh.mpr hh))).trans ((if_pos z0).trans (if_pos hh)).symm
      · exact ((if_pos (e0.trans z0)).trans (if_neg (fun w => hh (eh.mp w)))).trans ((ih (by omega)).trans ((if_pos z0).trans (if_neg hh)).symm)
    · exact (if_neg (by rw [e0]; exact z0)).trans (if_neg z0).symm
theorem ot_ymF (P : ot_Pre H C LS LV S0) (hk : ot_OK H) {p : Nat} (h1 : 1 ≤ p) (hp : p < 85) : ot_ym LS p 3 = ot_sc H p (ot_F H ((p - 1) / 4)) 5 := by
  have hF := ot_FLe P ((p - 1) / 4)
  have z := P.1 p h1 hp
  have e5 : ot_sc H p (ot_F H ((p - 1) / 4)) 5 = ot_sc H p (ot_F H ((p - 1) / 4)) 3 :=
    (ot_sc0 (by omega) z.1).trans ((if_neg (Nat.not_lt.mpr hF)).trans (if_pos z.2))
  rw [e5, ot_ymC hp h1 (fun l x a b c => (P.2.1 l x a b c).1) 3 (Nat.le_refl 3)]
  refine ot_ymSc h1 rfl hp hk hF 3 (Nat.le_refl 3) hF (Or.inr (Or.inl rfl)) (fun _ e3 => ?_)
  rw [e3]
  intro w
  rcases w with w | w
  · have y := (P.1 _ w.1 (by omega)).2
    have u := w.2
    rw [show H (85 * 3 + (p - 1) / 4) = 0 from y] at u
    exact absurd u (by decide)
  · have y := (P.1 _ w.1 (by omega)).2
    have u := w.2
    rw [show H (85 * 3 + ((p - 1) / 4 - 1) / 4) = 0 from y] at u
    exact absurd u (by decide)
/-! the loop -/
def ot_MI (H C : Nat → Int32) (i : Nat) (S V : Nat → Int32) : Prop := S 0 = 2 ∧ (∀ q, 1 ≤ q → q < i → q < 85 → ot_VI H C S V (ot_F H) q) ∧ ∀ q, i ≤ q → q < 85 → S q = 0
theorem ot_MIu {S V S' V' : Nat → Int32} {i : Nat} (h1 : 1 ≤ i) (h : ot_MI H C i S V) (es : ∀ x, x ≠ i → S' x = S x) (ev : ∀ x, x ≠ i → V' x = V x) (hi : i < 85)
    (k : S ((i - 1) / 4) = 2 → ot_VW H C (S' i) (V' i) i (ot_F H ((i - 1) / 4))) (k0 : S ((i - 1) / 4) ≠ 2 → S' i = 0) : ot_MI H C (i + 1) S' V' := by
  refine ⟨(es 0 (by omega)).trans h.1, fun q q1 q2 q3 => ?_, fun q q1 q2 => (es q (by omega)).trans (h.2.2 q (by omega) q2)⟩
  by_cases e : q = i
  · subst e
    have ep : S' ((q - 1) / 4) = S ((q - 1) / 4) := es _ (by omega)
    unfold ot_VI
    rw [ep]
    exact ⟨k0, k, fun _ => ot_Feq q1 q3⟩
  · exact ot_VIc (fun _ _ => rfl) (fun _ _ => rfl) (es q e) (fun _ => ev q e) rfl (es _ (by omega)) rfl (h.2.1 q q1 (by omega) q3)
theorem ot_MIs {m : Int32} {S V Im : Nat → Int32} {i : Nat} (P : ot_Pre H C LS LV S0) (hk : ot_OK H) (h1 : 1 ≤ i) (hi : i < 85) (h : ot_MI H C i S V) :
    ∃ S' V', ot_MI H C (i + 1) S' V' ∧ ∀ post : SY → Prop, post (m, LS, LV, S', V', Im) → wpY_merge post (m, LS, LV, S, V, Im) (nI i) := by
  have s0 : S i = 0 := h.2.2 i (Nat.le_refl i) hi
  by_cases hs : S ((i - 1) / 4) = 2
  · have eY := ot_ymF P hk h1 hi
    cases ey : ot_ym LS i 3 with
    | none =>
      refine ⟨S, V, ot_MIu h1 h (fun _ _ => rfl) (fun _ _ => rfl) hi (fun _ => ?_) (fun z => absurd hs z), fun post J => ot_merge h1 hi (fun _ => J) (fun _ _ => J) (fun _ l _ e => absurd (ey.symm.trans e) (by simp)) (fun _ l _ e => absurd (ey.symm.trans e) (by simp)) (fun _ l _ e => absurd (ey.symm.trans e) (by simp))⟩
      have e := eY.symm.trans ey
      rw [s0]
      exact ⟨fun _ => rfl, fun l z => absurd (e.symm.trans z) (by simp)⟩
    | some l =>
      have e := eY.symm.trans ey
      have hl3 : l < 3 := by
        have z := P.1 i h1 hi
        have hF := ot_FLe P ((i - 1) / 4)
        have e5 : ot_sc H i (ot_F H ((i - 1) / 4)) 5 = ot_sc H i (ot_F H ((i - 1) / 4)) 3 :=
          (ot_sc0 (by omega) z.1).trans ((if_neg (Nat.not_lt.mpr hF)).trans (if_pos z.2))
        exact (ot_scLt (e5.symm.trans e)).1
      have eL := P.2.1 l i hl3 h1 hi
      have inj : ∀ {a b : Nat}, ot_ym LS i 3 = some a → ot_ym LS i 3 = some b → a = b := fun x y => by simpa using x.symm.trans y
      have injs : ∀ {a b : Nat}, ot_sc H i (ot_F H ((i - 1) / 4)) 5 = some a → ot_sc H i (ot_F H ((i - 1) / 4)) 5 = some b → a = b := fun x y => by simpa using x.symm.trans y
      by_cases c1 : H (85 * l + i) = 1
      · refine ⟨upd S i 1, upd V i (LV (85 * l + i)), ot_MIu h1 h (fun x e => pk_un e) (fun x e => pk_un e) hi (fun _ => ?_) (fun z => absurd hs z), fun post J => ot_merge h1 hi (fun z => absurd hs z) (fun _ z => absurd (ey.symm.trans z) (by simp)) (fun _ l' _ e' _ => ?_) (fun _ l' _ e' z => ?_) (fun _ l' _ e' z => ?_)⟩
        · rw [pk_us, pk_us]
          refine ⟨fun z => absurd (e.symm.trans z) (by simp), fun l' z => ?_⟩
          have := injs e z
          subst this
          exact Or.inr (Or.inl ⟨c1, rfl, eL.2 c1⟩)
        · have := inj ey e'
          subst this
          exact J
        · have := inj ey e'
          subst this
          rw [eL.1, c1] at z
          exact absurd z (by decide)
        · have := inj ey e'
          subst this
          rw [eL.1] at z
          exact absurd c1 z
      · by_cases c4 : H (85 * l + i) = 4
        · refine ⟨S, V, ot_MIu h1 h (fun _ _ => rfl) (fun _ _ => rfl) hi (fun _ => ?_) (fun z => absurd hs z), fun post J => ot_merge h1 hi (fun z => absurd hs z) (fun _ z => absurd (ey.symm.trans z) (by simp)) (fun _ l' _ e' z => ?_) (fun _ l' _ e' z => ?_) (fun _ l' _ e' _ _ _ => J)⟩
          · rw [s0]
            refine ⟨fun _ => rfl, fun l' z => ?_⟩
            have := injs e z
            subst this
            exact Or.inl ⟨c4, rfl⟩
          · have := inj ey e'
            subst this
            rw [eL.1] at z
            exact absurd z c1
          · have := inj ey e'
            subst this
            rw [eL.1, c4] at z
            exact absurd z (by decide)
        · have c23 : H (85 * l + i) = 2 ∨ H (85 * l + i) = 3 := by
            have n0 := (ot_scLt e).2.2
            rcases ot_codes hk (l := l) (by omega) h1 hi with w | w | w | w | w
            · exact absurd w n0
            · exact absurd w c1
            · exact Or.inl w
            · exact Or.inr w
            · exact absurd w c4
          refine ⟨upd S i 2, V, ot_MIu h1 h (fun x e => pk_un e) (fun x e => rfl) hi (fun _ => ?_) (fun z => absurd hs z), fun post J => ot_merge h1 hi (fun z => absurd hs z) (fun _ z => absurd (ey.symm.trans z) (by simp)) (fun _ l' _ e' z => ?_) (fun _ l' _ e' _ => J) (fun _ l' _ e' _ z2 z3 => ?_)⟩
          · rw [pk_us]
            refine ⟨fun z => absurd (e.symm.trans z) (by simp), fun l' z => ?_⟩
            have := injs e z
            subst this
            exact Or.inr (Or.inr ⟨c4, c1, rfl⟩)
          · have := inj ey e'
            subst this
            rw [eL.1] at z
            exact absurd z c1
          · have := inj ey e'
            subst this
            rw [eL.1] at z2 z3
            exact absurd c23 (fun t => t.elim z2 z3)
  · exact ⟨S, V, ot_MIu h1 h (fun _ _ => rfl) (fun _ _ => rfl) hi (fun z => absurd z hs) (fun _ => s0), fun post J => ot_merge h1 hi (fun _ => J) (fun z => absurd z hs) (fun z => absurd z hs) (fun z => absurd z hs) (fun z => absurd z hs)⟩
theorem ot_mount23 {m : Int32} {Im : Nat → Int32} (P : ot_Pre H C LS LV S0) (hk : ot_OK H) : ∀ (n i : Nat) (S V : Nat → Int32), 1 ≤ i → i ≤ 85 → 85 - i < n → ot_MI H C i S V →
    ∃ S' V', ot_MI H C 85 S' V' ∧ ∀ post : Int32 → SY → Prop, post (nI (ot_tt S' 85)) (m, LS, LV, S', V', Im) → wY_mount_23 post n (nI i) m LS LV S V Im := by
  intro n
  induction n with
  | zero => intro i S V _ _ hn; omega
  | succ n ih =>
    intro i S V h1 hi hn h
    by_cases e : i = 85
    · subst e
      exact ⟨S, V, h, fun post J => br_t (by decide) (ot_totY J)⟩
    · obtain ⟨S1, V1, h', hm⟩ := ot_MIs (m := m) (Im := Im) P hk h1 (by omega) h
      obtain ⟨S2, V2, h2, hp⟩ := ih (i + 1) S1 V1 (by omega) (by omega) (by omega) h'
      exact ⟨S2, V2, h2, fun post J => br_f (nI_ge (b := 85) (by omega) (by decide)) (hm _ (nm_r (nI_1 i) (hp post J)))⟩
end
theorem i_vc_mount {k : Nat} {u : SX} {v : SY} (I : i_Rel k u v) (hk : k + 5 ≤ 2560) : wpX_mount (fun r u' => wpY_mount (fun r' v' => r' = r ∧ i_Rel (k + 5) u' v') v) u := by
  obtain ⟨m, fl, flo, H, C, W, PS, PV⟩ := u
  obtain ⟨m', LS, LV, S, V, Im⟩ := v
  obtain ⟨e, R⟩ := I
  have e : m' = m := e
  subst e
  have R : ot_R m' H C LS LV S V := R
  rcases R.2 with ⟨hm, P⟩ | ⟨hm, hv⟩
  · refine br_t hm ?_
    have h1 : ot_MI H C 1 (upd S 0 2) V := ⟨pk_us, fun q a b => by omega, fun q a b => (pk_un (by omega)).trans (P.2.2 q b)⟩
    obtain ⟨S', V', h', hY⟩ := ot_mount23 (m := 1) (Im := Im) P R.1 85 1 _ _ (by omega) (by omega) (by omega) h1
    have V1 : ot_View H C S' V' (ot_F H) := ⟨R.1.1 4 (by omega), ot_F0, h'.1, fun q => by have := ot_FLe P q; omega, fun q a b => h'.2.1 q a b b⟩
    refine ot_totX (S := S') (V := V') (Or.inr ⟨rfl, _, V1⟩) ?_
    intro fl flo W
    refine br_t hm (nm_e ⟨85, hY _ ⟨rfl, rfl, And.intro R.1 (Or.inr ⟨rfl, _, V1⟩)⟩⟩)
  · have hm0 : ¬ m' = 0 := by rw [hm]; decide
    exact br_f hm0 (br_f hm0 ⟨rfl, rfl, R⟩)
end
section
/-! move: where the paths go -/
abbrev ot_sub (a x : Nat) : Prop := x = a ∨ ot_un x a
def ot_im (a b x : Nat) : Nat := if x = a then b else if (x - 1) / 4 = a then 4 * b + 1 + (x - 1) % 4 else 4 * (4 * b + 1 + ((x - 1) / 4 - 1) % 4) + 1 + (x - 1) % 4
theorem ot_imA {a b : Nat} : ot_im a b a = b := if_pos rfl
theorem ot_im1 {a b x : Nat} (h0 : x ≠ a) (h : (x - 1) / 4 = a) : ot_im a b x = 4 * b + 1 + (x - 1) % 4 := (if_neg h0).trans (if_pos h)
theorem ot_im2 {a b x : Nat} (h0 : x ≠ a) (h1 : (x - 1) / 4 ≠ a) : ot_im a b x = 4 * (4 * b + 1 + ((x - 1) / 4 - 1) % 4) + 1 + (x - 1) % 4 := (if_neg h0).trans (if_neg h1)
theorem ot_subGe {a x : Nat} (h1 : 1 ≤ a) (h : ot_sub a x) : a ≤ x := by
  rcases h with z | z
  · omega
  · have := ot_unLt h1 z; omega
theorem ot_subPar {a x : Nat} (h1 : 1 ≤ a) (hx : x < 85) (h : x ≠ a) : ot_sub a x ↔ ot_sub a ((x - 1) / 4) := by
  have k := ot_unPar (x := x) (q := a) hx h1
  constructor
  · intro z
    exact (k.mp z).resolve_left h
  · intro z
    exact k.mpr (Or.inr z)
theorem ot_imPar {a b x : Nat} (h1 : 1 ≤ a) (hx : x < 85) (h0 : x ≠ a) (h : ot_sub a x) : ot_im a b x = 4 * ot_im a b ((x - 1) / 4) + 1 + (x - 1) % 4 := by
  by_cases e : (x - 1) / 4 = a
  · rw [ot_im1 h0 e, e, ot_imA]
  · rw [ot_im2 h0 e, ot_im1 e]
    rcases h with z | z | z
    · exact absurd z h0
    · exact absurd z e
    · exact z
theorem ot_imGe {a b x : Nat} (h1 : 1 ≤ a) (hb : 1 ≤ b) (h : ot_sub a x) : ot_im a b x = b ∨ b < ot_im a b x := by
  by_cases e0 : x = a
  · subst e0; exact Or.inl ot_imA
  · right
    by_cases e : (x - 1) / 4 = a
    · rw [ot_im1 e0 e]; omega
    · rw [ot_im2 e0 e]; omega
theorem ot_imInj {a b x y : Nat} (h1 : 1 ≤ a) (hb : 1 ≤ b) (hx : ot_sub a x) (hy : ot_sub a y) (h : ot_im a b x = ot_im a b y) : x = y := by
  by_cases ex : x = a
  · by_cases ey : y = a
    · omega
    · exfalso
      subst ex
      rw [ot_imA] at h
      by_cases e : (y - 1) / 4 = x
      · rw [ot_im1 ey e] at h; omega
      · rw [ot_im2 ey e] at h; omega
  · by_cases ey : y = a
    · exfalso
      subst ey
      rw [ot_imA] at h
      by_cases e : (x - 1) / 4 = y
      · rw [ot_im1 ex e] at h; omega
      · rw [ot_im2 ex e] at h; omega
    · by_cases e : (x - 1) / 4 = a
      · by_cases f : (y - 1) / 4 = a
        · rw [ot_im1 ex e, ot_im1 ey f] at h; omega
        · rw [ot_im1 ex e, ot_im2 ey f] at h; omega
      · by_cases f : (y - 1) / 4 = a
        · rw [ot_im2 ex e, ot_im1 ey f] at h; omega
        · rw [ot_im2 ex e, ot_im2 ey f] at h
          have gx : ((x - 1) / 4 - 1) / 4 = a := (hx.resolve_left ex).resolve_left e
          have gy : ((y - 1) / 4 - 1) / 4 = a := (hy.resolve_left ey).resolve_left f
          omega
/-- an image is the new place, or right under the image of what it was right under -/
theorem ot_imUp {a b x : Nat} (h1 : 1 ≤ a) (hx : x < 85) (h0 : x ≠ a) (h : ot_sub a x) : (ot_im a b x - 1) / 4 = ot_im a b ((x - 1) / 4) := by
  rw [ot_imPar h1 hx h0 h]
  omega
theorem ot_imUn {a b x : Nat} (h1 : 1 ≤ a) (h : ot_sub a x) : ot_im a b x = b ∨ ot_un (ot_im a b x) b := by
  by_cases e0 : x = a
  · subst e0; exact Or.inl ot_imA
  · right
    by_cases e : (x - 1) / 4 = a
    · rw [ot_im1 e0 e]; left; omega
    · rw [ot_im2 e0 e]; right; omega
/-- no image is the first path or under it -/
theorem ot_imOut {a b x : Nat} (h1 : 1 ≤ a) (hb : 1 ≤ b) (hab : ¬ ot_sub a b) (hba : ¬ ot_un a b) (h : ot_sub a x) (hi : ot_im a b x < 85) : ¬ ot_sub a (ot_im a b x) := by
  intro z
  have k := ot_imUn (b := b) h1 h
  generalize ot_im a b x = y at z k hi
  rcases k with k | k | k
  · subst k; exact hab z
  · rcases z with z | z | z
    · subst z; exact hba (Or.inl k)
    · apply hab; left; omega
    · apply hab; right; left; omega
  · rcases z with z | z | z
    · subst z; exact hba (Or.inr k)
    · apply hba; left; omega
    · apply hab; left; omega
/-! placeAfter -/
theorem ot_pl60 {m fl flo : Int32} {H C W PS PV : Nat → Int32} {post : Int32 → SX → Prop} {y k n : Nat} {w : Nat} (hk : k < 4) (hw : W k = nI w)
    (J : wX_placeAfter_60 post m fl flo H C W PS PV n (nI (4 * y + 1 + w)) (nI k + (-1))) : wX_placeAfter_60 post m fl flo H C W PS PV (n + 1) (nI y) (nI k) := by
  refine br_f (nI_pos (by omega)) (And.intro (vp_in_nI hk (by omega)) (nm_r (e' := nI (4 * y + 1 + w)) ?_ (nm_e J)))
  rw [nI_clamp (by omega), hw, ot_4q1, nI_add]
theorem ot_pl9 {m fl flo : Int32} {H C W PS PV : Nat → Int32} {post : Int32 → SX → Prop} {a b x d n : Nat} (hd : d < 3) (hx1 : 1 ≤ x) (hx : x < 85) (ha : a < 85) (h : x ≠ a)
    (J : wX_placeAfter_9 post (nI a) (nI b) m fl flo n (nI (d + 1)) (nI ((x - 1) / 4)) (nI (d + 1)) H C (upd W d (nI ((x - 1) % 4))) PS PV) :
    wX_placeAfter_9 post (nI a) (nI b) m fl flo (n + 1) (nI d) (nI x) (nI d) H C W PS PV := by
  refine br_f (nI_ge (b := 3) (by omega) (by decide)) (pk_eq x a (fun z => absurd z h) (fun _ => ?_))
  have er : (nI x - 1) - (nI x - 1) / 4 * 4 = nI ((x - 1) % 4) := by
    rw [show nI x - 1 = nI (x - 1) from pk_sub (a := x) (b := 1) hx1]
    exact pk_rem (a := x - 1) (d := 4) (by omega) (by decide) (by decide)
  exact And.intro (by decide) (And.intro (vp_in_nI (by omega) (by omega)) (nm_r (e' := upd W d (nI ((x - 1) % 4))) (by rw [er, nI_clamp (by omega)]) (nm_r (nI_1 d) (And.intro (by decide) (nm_r (ot_par hx1 (by omega)) (nm_r (nI_1 d) J))))))
theorem ot_pl9e {m fl flo : Int32} {H C W PS PV : Nat → Int32} {post : Int32 → SX → Prop} {a b d n : Nat} (hd : d < 3)
    (J : ∃ n60, wX_placeAfter_60 post m fl flo H C W PS PV n60 (nI b) (nI d - 1)) :
    wX_placeAfter_9 post (nI a) (nI b) m fl flo (n + 1) (nI d) (nI a) (nI d) H C W PS PV :=
  br_f (nI_ge (b := 3) (by omega) (by decide)) (br_t rfl (nm_e J))
theorem ot_place {m fl flo : Int32} {H C W PS PV : Nat → Int32} {post : Int32 → SX → Prop} {a b x : Nat} (h1 : 1 ≤ a) (ha : a < 85) (hx : x < 85) (h : ot_sub a x)
    (J : ∀ W, post (nI (ot_im a b x)) (m, fl, flo, H, C, W, PS, PV)) : wpX_placeAfter post (m, fl, flo, H, C, W, PS, PV) (nI x) (nI a) (nI b) := by
  refine ⟨3, ?_⟩
  by_cases e0 : x = a
  · subst e0
    have K := J W
    rw [ot_imA] at K
    exact ot_pl9e (d := 0) (by omega) ⟨1, br_t (by decide) K⟩
  · have hxa := ot_subGe h1 h
    refine ot_pl9 (d := 0) (by omega) (by omega) hx ha e0 ?_
    by_cases e : (x - 1) / 4 = a
    · have K := J (upd W 0 (nI ((x - 1) % 4)))
      rw [ot_im1 e0 e] at K
      rw [e]
      refine ot_pl9e (d := 1) (by omega) ⟨2, ?_⟩
      exact ot_pl60 (k := 0) (by omega) pk_us (br_t (by decide) K)
    · have g : ((x - 1) / 4 - 1) / 4 = a := (h.resolve_left e0).resolve_left e
      refine ot_pl9 (d := 1) (by omega) (by omega) (by omega) ha e ?_
      have K := J (upd (upd W 0 (nI ((x - 1) % 4))) 1 (nI (((x - 1) / 4 - 1) % 4)))
      rw [ot_im2 e0 e] at K
      rw [g]
      refine ot_pl9e (d := 2) (by omega) ⟨3, ?_⟩
      refine ot_pl60 (k := 1) (by omega) pk_us ?_
      exact ot_pl60 (k := 0) (by omega) ((pk_un (by decide)).trans pk_us) (br_t (by decide) K)
end
section
/-! copyPart -/
def ot_ct (S : Nat → Int32) (a : Nat) : Nat → Nat
  | 0 => 0
  | i + 1 => if ot_sub a i ∧ S i ≠ 0 then ot_ct S a i + 1 else ot_ct S a i
theorem ot_ct0 {S : Nat → Int32} {a : Nat} (h1 : 1 ≤ a) : ∀ i, i ≤ a → ot_ct S a i = 0 := by
  intro i
  induction i with
  | zero => intro _; rfl
  | succ i ih =>
    intro hi
    have e : ot_ct S a (i + 1) = ot_ct S a i := if_neg (fun z => by have := ot_subGe h1 z.1; omega)
    rw [e]
    exact ih (by omega)
def ot_CI (S V : Nat → Int32) (a b i : Nat) (PS PV : Nat → Int32) : Prop :=
  (∀ x, x < i → x < 85 → ot_sub a x → S x ≠ 0 → ot_im a b x < 85 ∧ PS (ot_im a b x) = S x ∧ (S x = 1 → PV (ot_im a b x) = V x)) ∧
  (∀ j, j < 85 → PS j = 0 ∨ ∃ x, x < i ∧ x < 85 ∧ ot_sub a x ∧ S x ≠ 0 ∧ ot_im a b x = j)
theorem ot_CIn {S V PS PV : Nat → Int32} {a b i : Nat} (h : ot_CI S V a b i PS PV) (n : ¬ (ot_sub a i ∧ S i ≠ 0)) : ot_CI S V a b (i + 1) PS PV := by
  refine ⟨fun x x1 x2 x3 x4 => ?_, fun j hj => ?_⟩
  · by_cases e : x = i
    · subst e; exact absurd ⟨x3, x4⟩ n
    · exact h.1 x (by omega) x2 x3 x4
  · rcases h.2 j hj with z | ⟨x, z⟩
    · exact Or.inl z
    · exact Or.inr ⟨x, by omega, z.2⟩
theorem ot_CIs {S V PS PV : Nat → Int32} {a b i : Nat} {w : Int32} (h1 : 1 ≤ a) (hb : 1 ≤ b) (hi : i < 85) (h : ot_CI S V a b i PS PV) (hs : ot_sub a i) (n : S i ≠ 0) (hm : ot_im a b i < 85) (hw : S i = 1 → w = V i) :
    ot_CI S V a b (i + 1) (upd PS (ot_im a b i) (S i)) (upd PV (ot_im a b i) w) := by
  refine ⟨fun x x1 x2 x3 x4 => ?_, fun j hj => ?_⟩
  · by_cases e : x = i
    · subst e
      rw [pk_us, pk_us]
      exact ⟨hm, rfl, hw⟩
    · have ne : ot_im a b x ≠ ot_im a b i := fun z => e (ot_imInj h1 hb x3 hs z)
      rw [pk_un ne, pk_un ne]
      exact h.1 x (by omega) x2 x3 x4
  · by_cases e : j = ot_im a b i
    · exact Or.inr ⟨i, by omega, hi, hs, n, e.symm⟩
    · rw [pk_un e]
      rcases h.2 j hj with z | ⟨x, z⟩
      · exact Or.inl z
      · exact Or.inr ⟨x, by omega, z.2⟩
section
variable {m : Int32} {H C S V : Nat → Int32} {a b : Nat}
theorem ot_cp26 {post : Int32 → SX → Prop} (h : ot_RV m H C S V) (h1 : 1 ≤ a) (ha : a < 85) (hb1 : 1 ≤ b) (hb : b < 85)
    (Jf : (∃ x, x < 85 ∧ ot_sub a x ∧ S x ≠ 0 ∧ 85 ≤ ot_im a b x) → ∀ fl flo W PS PV, post (-1) (m, fl, flo, H, C, W, PS, PV))
    (Js : ∀ fl flo W PS PV, ot_CI S V a b 85 PS PV → post (nI (ot_ct S a 85)) (m, fl, flo, H, C, W, PS, PV)) :
    ∀ (n i : Nat) (fl flo : Int32) (W PS PV : Nat → Int32), 1 ≤ i → i ≤ 85 → 85 - i < n → ot_CI S V a b i PS PV →
    wX_copyPart_26 post (nI a) (nI b) n (nI (ot_ct S a i)) (nI i) m fl flo H C W PS PV := by
  intro n
  induction n with
  | zero => intro i fl flo W PS PV _ _ hn; omega
  | succ n ih =>
    intro i fl flo W PS PV hi1 hi hn hI
    refine pk_le 85 i (fun z => ?_) (fun z => ?_)
    · have e : i = 85 := by omega
      subst e
      exact Js fl flo W PS PV hI
    · have skip : ∀ fl flo W PS PV, ¬ (ot_sub a i ∧ S i ≠ 0) → ot_CI S V a b i PS PV → wX_copyPart_26 post (nI a) (nI b) n (nI (ot_ct S a i)) (nI (i + 1)) m fl flo H C W PS PV := by
        intro fl flo W PS PV ns hI
        have K := ih (i + 1) fl flo W PS PV (by omega) (by omega) (by omega) (ot_CIn hI ns)
        have e : ot_ct S a (i + 1) = ot_ct S a i := if_neg ns
        rw [e] at K
        exact K
      have X48 : ot_sub a i → ∀ fl flo W, wX_copyPart_48 post (wX_copyPart_26 post (nI a) (nI b) n) (nI a) (nI b) (nI (ot_ct S a i)) (nI i) m fl flo H C W PS PV := by
        intro hs fl flo W
        refine ot_sort z h ?_
        intro fl flo W hc
        by_cases s0 : S i = 0
        · exact br_t (by rw [s0]; decide) (nm_r (nI_1 i) (skip fl flo W PS PV (fun y => y.2 s0) hI))
        · refine br_f (ot_nle0 (ot_012 h z) s0) (ot_place h1 ha z hs ?_)
          intro W
          have big : ot_im a b i < 2 ^ 31 := by
            unfold ot_im
            split
            · omega
            · split <;> omega
          refine pk_le (ot_im a b i) 84 (fun le => ?_) (fun gt => ?_) rfl rfl big
          · have hin : vp_in (nI (ot_im a b i)) 85 := vp_in_nI (by omega) (by omega)
            have e : ot_ct S a (i + 1) = ot_ct S a i + 1 := if_pos ⟨hs, s0⟩
            refine And.intro hin (nm_r (e' := upd PS (ot_im a b i) (S i)) (by rw [nI_clamp big]) ?_)
            refine br_c (fun s1 => ?_) (fun s1 => ?_)
            · obtain ⟨l, hl, rfl, ec⟩ := hc s1
              refine And.intro (ot_inL hl z) (And.intro hin (nm_r (e' := upd PV (ot_im a b i) (V i)) (by rw [nI_clamp big, ot_clL hl z, ec]) ?_))
              refine nm_r (e' := nI (ot_ct S a (i + 1))) (by rw [e, nI_1]) (nm_r (nI_1 i) (ih (i + 1) _ _ _ _ _ (by omega) (by omega) (by omega) ?_))
              exact ot_CIs h1 hb1 z hI hs s0 (by omega) (fun _ => rfl)
            · refine And.intro hin (nm_r (e' := upd PV (ot_im a b i) 0) (by rw [nI_clamp big]) ?_)
              refine nm_r (e' := nI (ot_ct S a (i + 1))) (by rw [e, nI_1]) (nm_r (nI_1 i) (ih (i + 1) _ _ _ _ _ (by omega) (by omega) (by omega) ?_))
              exact ot_CIs h1 hb1 z hI hs s0 (by omega) (fun w => absurd w s1)
          · exact Jf ⟨i, z, hs, s0, by omega⟩ _ _ _ _ _
      refine pk_eq i a (fun e => X48 (Or.inl e) fl flo W) (fun ne => ?_)
      refine ot_isUnder z hi1 h1 ha (fun u => br_f (by decide) (X48 (Or.inr u) fl flo W)) (fun u => br_t rfl (br_t (by decide) (nm_r (nI_1 i) ?_)))
      exact skip fl flo W PS PV (fun y => y.1.elim ne u) hI
theorem ot_cp2 {post : Int32 → SX → Prop} {fl flo : Int32} {W PV : Nat → Int32} (h : ot_RV m H C S V) (h1 : 1 ≤ a) (ha : a < 85) (hb1 : 1 ≤ b) (hb : b < 85)
    (Jf : (∃ x, x < 85 ∧ ot_sub a x ∧ S x ≠ 0 ∧ 85 ≤ ot_im a b x) → ∀ fl flo W PS PV, post (-1) (m, fl, flo, H, C, W, PS, PV))
    (Js : ∀ fl flo W PS PV, ot_CI S V a b 85 PS PV → post (nI (ot_ct S a 85)) (m, fl, flo, H, C, W, PS, PV)) :
    ∀ (n i : Nat) (PS : Nat → Int32), i ≤ 85 → 85 - i < n → (∀ j, j < i → PS j = 0) → wX_copyPart_2 post (nI a) (nI b) m fl flo n (nI i) H C W PS PV := by
  intro n
  induction n with
  | zero => intro i PS _ hn; omega
  | succ n ih =>
    intro i PS hi hn hP
    refine pk_le 85 i (fun z => ⟨86, ?_⟩) (fun z => ?_)
    · have K := ot_cp26 h h1 ha hb1 hb Jf Js 86 a fl flo W PS PV h1 (by omega) (by omega) ⟨fun x x1 x2 x3 => by have := ot_subGe h1 x3; omega, fun j hj => Or.inl (hP j (by omega))⟩
      rw [ot_ct0 h1 a (Nat.le_refl a)] at K
      exact K
    · refine And.intro (vp_in_nI z (by omega)) (nm_r (e' := upd PS i 0) (by rw [nI_clamp (by omega)]) (nm_r (nI_1 i) (ih (i + 1) _ (by omega) (by omega) (fun j hj => ?_))))
      by_cases e : j = i
      · subst e; exact pk_us
      · rw [pk_un e]
        exact hP j (by omega)
theorem ot_copyPart {post : Int32 → SX → Prop} {fl flo : Int32} {W PS PV : Nat → Int32} (h : ot_RV m H C S V) (h1 : 1 ≤ a) (ha : a < 85) (hb1 : 1 ≤ b) (hb : b < 85)
    (Jf : (∃ x, x < 85 ∧ ot_sub a x ∧ S x ≠ 0 ∧ 85 ≤ ot_im a b x) → ∀ fl flo W PS PV, post (-1) (m, fl, flo, H, C, W, PS, PV))
    (Js : ∀ fl flo W PS PV, ot_CI S V a b 85 PS PV → post (nI (ot_ct S a 85)) (m, fl, flo, H, C, W, PS, PV)) :
    wpX_copyPart post (m, fl, flo, H, C, W, PS, PV) (nI a) (nI b) :=
  ⟨86, ot_cp2 h h1 ha hb1 hb Jf Js 86 0 PS (by omega) (by omega) (fun j hj => absurd hj (Nat.not_lt_zero j))⟩
end
end
section
/-! move: the reference -/
def ot_IM (a b x : Nat) : Int32 := if ot_sub a x then (if ot_im a b x ≤ 84 then nI (ot_im a b x) else 85) else -1
theorem ot_IMn {a b x : Nat} (h : ¬ ot_sub a x) : ot_IM a b x = -1 := if_neg h
theorem ot_IMs {a b x : Nat} (h : ot_sub a x) (hl : ot_im a b x ≤ 84) : ot_IM a b x = nI (ot_im a b x) := (if_pos h).trans (if_pos hl)
theorem ot_IMb {a b x : Nat} (h : ot_sub a x) (hl : ¬ ot_im a b x ≤ 84) : ot_IM a b x = 85 := (if_pos h).trans (if_neg hl)
section
variable {m : Int32} {LS LV S V : Nat → Int32} {a b : Nat}
/-- the end of a turn of follow: what stands at i -/
theorem ot_fo71 {Im : Nat → Int32} {post : SY → Prop} {i : Nat} {J : Int32 → (Nat → Int32) → (Nat → Int32) → (Nat → Int32) → (Nat → Int32) → (Nat → Int32) → Prop} (hi : i < 85)
    (K : ∀ Im', (∀ x, x ≠ i → Im' x = Im x) → Im' i = (if Im i ≤ 84 then Im i else 85) → J (nI (i + 1)) LS LV S V Im') :
    wY_follow_71 post J (nI a) (nI b) (nI i) m LS LV S V Im := by
  refine And.intro (vp_in_nI hi (by omega)) ?_
  rw [nI_clamp (by omega)]
  refine br_c (fun z => nm_r (nI_1 i) (K Im (fun _ _ => rfl) (if_pos z).symm)) (fun z => And.intro (vp_in_nI hi (by omega)) (nm_e (nm_r (nI_1 i) (K _ (fun x e => pk_un e) (pk_us.trans (if_neg z).symm)))))
theorem ot_fo2 {post : SY → Prop} (h1 : 1 ≤ a) (ha : a < 85) (hb1 : 1 ≤ b) (hb : b < 85) (J : ∀ Im, (∀ x, x < 85 → Im x = ot_IM a b x) → post (m, LS, LV, S, V, Im)) :
    ∀ (n i : Nat) (Im : Nat → Int32), i ≤ 85 → 85 - i < n → (∀ x, x < i → Im x = ot_IM a b x) → wY_follow_2 post (nI a) (nI b) m n (nI i) LS LV S V Im := by
  intro n
  induction n with
  | zero => intro i Im _ hn; omega
  | succ n ih =>
    intro i Im hi hn hI
    refine pk_le 85 i (fun z => J Im (fun x hx => hI x (by omega))) (fun z => ?_)
    have hin : vp_in (nI i) 85 := vp_in_nI z (by omega)
    have fin : ∀ Im1 : Nat → Int32, (∀ x, x ≠ i → Im1 x = Im x) → (if Im1 i ≤ 84 then Im1 i else 85) = ot_IM a b i →
        wY_follow_71 post (wY_follow_2 post (nI a) (nI b) m n) (nI a) (nI b) (nI i) m LS LV S V Im1 := by
      intro Im1 e1 e2
      refine ot_fo71 z (fun Im' e3 e4 => ih (i + 1) Im' (by omega) (by omega) (fun x hx => ?_))
      by_cases e : x = i
      · subst e
        exact e4.trans e2
      · rw [e3 x e, e1 x e]
        exact hI x (by omega)
    have low : (if (-1 : Int32) ≤ 84 then (-1 : Int32) else 85) = -1 := if_pos (by decide)
    refine And.intro hin (nm_r (e' := upd Im i (-1)) (by rw [nI_clamp (by omega)]) ?_)
    refine pk_eq i a (fun e => ?_) (fun ne => ?_)
    · refine And.intro hin (nm_r (e' := upd (upd Im i (-1)) i (nI b)) (by rw [nI_clamp (by omega)]) (fin _ (fun x hx => (pk_un hx).trans (pk_un hx)) ?_))
      subst e
      have hb84 : nI b ≤ 84 := nI_le (b := 84) (by omega) (by decide)
      rw [pk_us, if_pos hb84, ot_IMs (Or.inl rfl) (by rw [ot_imA]; omega), ot_imA]
    · by_cases i0 : i = 0
      · refine br_t (by rw [i0]; decide) (fin _ (fun x hx => pk_un hx) ?_)
        rw [pk_us, low, ot_IMn (fun y => by have := ot_subGe h1 y; omega)]
      · have hpi : (i - 1) / 4 ≠ i := by omega
        refine br_f (nI_nle (by omega) (by omega)) (ot_parY (by omega) (by omega) (And.intro (vp_in_nI (by omega) (by omega)) ?_))
        rw [nI_clamp (by omega), pk_un hpi, hI _ (by omega)]
        have sp := ot_subPar h1 z ne
        by_cases hs : ot_sub a ((i - 1) / 4)
        · have hs' : ot_sub a i := sp.mpr hs
          have ei := ot_imPar (b := b) h1 z ne hs'
          have er : (nI i - 1) - (nI i - 1) / 4 * 4 = nI ((i - 1) % 4) := by
            rw [show nI i - 1 = nI (i - 1) from pk_sub (a := i) (b := 1) (by omega)]
            exact pk_rem (a := i - 1) (d := 4) (by omega) (by decide) (by decide)
          have val : ∀ c, c ≤ 85 → ot_IM a b ((i - 1) / 4) = nI c → ((if nI (4 * c + (i - 1) % 4 + 1) ≤ 84 then nI (4 * c + (i - 1) % 4 + 1) else 85) = ot_IM a b i) →
              ((ot_IM a b ((i - 1) / 4) < 0 → wY_follow_71 post (wY_follow_2 post (nI a) (nI b) m n) (nI a) (nI b) (nI i) m LS LV S V (upd Im i (-1))) ∧
                (¬ ot_IM a b ((i - 1) / 4) < 0 → wpY_parent (fun r_15 => vp_in r_15 85 ∧ ¬ (4 : Int32) = 0 ∧ vp_in (nI i) 85 ∧ ∀ a_images_19 : Nat → Int32, a_images_19 = upd (upd Im i (-1)) (nI i).toNatClampNeg (((4 * (upd Im i (-1)) r_15.toNatClampNeg) + ((nI i - 1) - (nI i - 1) / 4 * 4)) + 1) →
                  wY_follow_71 post (wY_follow_2 post (nI a) (nI b) m n) (nI a) (nI b) (nI i) m LS LV S V a_images_19) (nI i))) := by
            intro c hc ec ef
            have ev : (4 * (upd Im i (-1)) ((i - 1) / 4) + nI ((i - 1) % 4)) + 1 = nI (4 * c + (i - 1) % 4 + 1) := by
              rw [pk_un hpi, hI _ (by omega), ec, show (4 : Int32) = nI 4 from rfl, pk_mul, nI_add, nI_1]
            refine br_f (by rw [ec]; exact nI_pos (by omega)) (ot_parY (by omega) (by omega) (And.intro (vp_in_nI (by omega) (by omega)) (And.intro (by decide) (And.intro hin (nm_r (e' := upd (upd Im i (-1)) i (nI (4 * c + (i - 1) % 4 + 1))) (by rw [er, nI_clamp (by omega), nI_clamp (by omega), ev]) (fin _ (fun x hx => (pk_un hx).trans (pk_un hx)) ?_))))))
            rw [pk_us]
            exact ef
          by_cases le : ot_im a b ((i - 1) / 4) ≤ 84
          · refine val _ (by omega) (ot_IMs hs le) ?_
            have e2 : 4 * ot_im a b ((i - 1) / 4) + (i - 1) % 4 + 1 = ot_im a b i := by rw [ei]; omega
            rw [e2]
            by_cases l2 : ot_im a b i ≤ 84
            · have q : nI (ot_im a b i) ≤ 84 := nI_le (b := 84) l2 (by decide)
              rw [if_pos q, ot_IMs hs' l2]
            · have q : ¬ nI (ot_im a b i) ≤ 84 := nI_ge (a := 84) (by omega) (by omega)
              rw [if_neg q, ot_IMb hs' l2]
          · refine val 85 (by omega) (ot_IMb hs le) ?_
            have q : ¬ nI (4 * 85 + (i - 1) % 4 + 1) ≤ 84 := nI_ge (a := 84) (by omega) (by omega)
            rw [if_neg q, ot_IMb hs' (by omega)]
        · refine br_t (by rw [ot_IMn hs]; decide) (fin _ (fun x hx => pk_un hx) ?_)
          rw [pk_us, low, ot_IMn (fun y => hs (sp.mp y))]
theorem ot_follow {Im : Nat → Int32} {post : SY → Prop} (h1 : 1 ≤ a) (ha : a < 85) (hb1 : 1 ≤ b) (hb : b < 85) (J : ∀ Im, (∀ x, x < 85 → Im x = ot_IM a b x) → post (m, LS, LV, S, V, Im)) :
    wpY_follow post (m, LS, LV, S, V, Im) (nI a) (nI b) :=
  ⟨86, ot_fo2 h1 ha hb1 hb J 86 0 Im (by omega) (by omega) (fun x hx => absurd hx (Nat.not_lt_zero x))⟩
/-! is there a place for all -/
theorem ot_my57 {Im : Nat → Int32} {post : Int32 → SY → Prop} (hI : ∀ x, x < 85 → Im x = ot_IM a b x)
    (Jf : (∃ x, x < 85 ∧ ot_sub a x ∧ S x ≠ 0 ∧ 85 ≤ ot_im a b x) → post (-1) (m, LS, LV, S, V, Im))
    (Js : (∀ x, 1 ≤ x → x < 85 → ot_sub a x → S x ≠ 0 → ot_im a b x < 85) → ∃ n96, wY_move_96 post m n96 0 1 LS LV S V Im) :
    ∀ (n i : Nat), 1 ≤ i → i ≤ 85 → 85 - i < n → (∀ x, 1 ≤ x → x < i → ot_sub a x → S x ≠ 0 → ot_im a b x < 85) → wY_move_57 post m LS LV S V Im n (nI i) := by
  intro n
  induction n with
  | zero => intro i _ _ hn; omega
  | succ n ih =>
    intro i hi1 hi hn hp
    refine pk_le 85 i (fun z => Js (fun x x1 x2 => hp x x1 (by omega))) (fun z => ?_)
    have hin : vp_in (nI i) 85 := vp_in_nI z (by omega)
    have next : (ot_sub a i → S i ≠ 0 → ot_im a b i < 85) → wY_move_57 post m LS LV S V Im n (nI (i + 1)) := by
      intro k
      refine ih (i + 1) (by omega) (by omega) (by omega) (fun x x1 x2 => ?_)
      by_cases e : x = i
      · subst e; exact k
      · exact hp x x1 (by omega)
    refine And.intro hin ?_
    rw [nI_clamp (by omega), hI i z]
    by_cases hs : ot_sub a i
    · by_cases hl : ot_im a b i ≤ 84
      · rw [ot_IMs hs hl]
        exact pk_eq (ot_im a b i) 85 (fun e => by omega) (fun _ => nm_r (nI_1 i) (next (fun _ _ => by omega)))
      · rw [ot_IMb hs hl]
        refine br_t rfl (And.intro hin ?_)
        exact br_c (fun s0 => nm_r (nI_1 i) (next (fun _ y => absurd s0 y))) (fun s0 => Jf ⟨i, z, hs, s0, by omega⟩)
    · rw [ot_IMn hs]
      exact br_f (by decide) (nm_r (nI_1 i) (next (fun y => absurd y hs)))
end
/-! the moving loop -/
def ot_MY (S0 V0 : Nat → Int32) (a b i : Nat) (S V : Nat → Int32) : Prop :=
  (∀ x, x < i → x < 85 → ot_sub a x → S x = 0) ∧ (∀ x, i ≤ x → x < 85 → ot_sub a x → S x = S0 x ∧ V x = V0 x) ∧
  (∀ x, x < i → x < 85 → ot_sub a x → S0 x ≠ 0 → S (ot_im a b x) = S0 x ∧ V (ot_im a b x) = V0 x) ∧
  (∀ y, y < 85 → ¬ ot_sub a y → (∀ x, x < i → x < 85 → ot_sub a x → S0 x ≠ 0 → ot_im a b x ≠ y) → S y = S0 y ∧ V y = V0 y)
theorem ot_MYn {S0 V0 S V : Nat → Int32} {a b i : Nat} (hi : i < 85) (h : ot_MY S0 V0 a b i S V) (n : ¬ (ot_sub a i ∧ S0 i ≠ 0)) : ot_MY S0 V0 a b (i + 1) S V := by
  refine ⟨fun x x1 x2 x3 => ?_, fun x x1 x2 x3 => h.2.1 x (by omega) x2 x3, fun x x1 x2 x3 x4 => ?_, fun y y1 y2 y3 => h.2.2.2 y y1 y2 (fun x x1 => y3 x (by omega))⟩
  · by_cases e : x = i
    · subst e
      rw [(h.2.1 x (Nat.le_refl x) x2 x3).1]
      apply Classical.byContradiction
      intro w
      exact n ⟨x3, w⟩
    · exact h.1 x (by omega) x2 x3
  · by_cases e : x = i
    · subst e; exact absurd ⟨x3, x4⟩ n
    · exact h.2.2.1 x (by omega) x2 x3 x4
theorem ot_MYs {S0 V0 S V : Nat → Int32} {a b i : Nat} (h1 : 1 ≤ a) (hb : 1 ≤ b) (hi : i < 85) (h : ot_MY S0 V0 a b i S V) (hs : ot_sub a i) (n : S0 i ≠ 0)
    (out : ∀ x, x < 85 → ot_sub a x → S0 x ≠ 0 → ¬ ot_sub a (ot_im a b x)) :
    ot_MY S0 V0 a b (i + 1) (upd (upd S (ot_im a b i) (S i)) i 0) (upd V (ot_im a b i) (V i)) := by
  have nsub := out i hi hs n
  have ne : ∀ x, ot_sub a x → x ≠ ot_im a b i := fun x hx e => nsub (e ▸ hx)
  have sv := h.2.1 i (Nat.le_refl i) hi hs
  refine ⟨fun x x1 x2 x3 => ?_, fun x x1 x2 x3 => ?_, fun x x1 x2 x3 x4 => ?_, fun y y1 y2 y3 => ?_⟩
  · by_cases e : x = i
    · rw [e, pk_us]
    · rw [pk_un e, pk_un (ne x x3)]
      exact h.1 x (by omega) x2 x3
  · rw [pk_un (by omega), pk_un (ne x x3), pk_un (ne x x3)]
    exact h.2.1 x (by omega) x2 x3
  · have nsx := out x x2 x3 x4
    have nei : ot_im a b x ≠ i := fun e => nsx (by rw [e]; exact hs)
    rw [pk_un nei]
    by_cases e : x = i
    · subst e
      rw [pk_us, pk_us]
      exact sv
    · have ni : ot_im a b x ≠ ot_im a b i := fun w => e (ot_imInj h1 hb x3 hs w)
      rw [pk_un ni, pk_un ni]
      exact h.2.2.1 x (by omega) x2 x3 x4
  · have n1 : y ≠ ot_im a b i := fun e => y3 i (by omega) hi hs n e.symm
    have n2 : y ≠ i := fun e => y2 (e ▸ hs)
    rw [pk_un n2, pk_un n1, pk_un n1]
    exact h.2.2.2 y y1 y2 (fun x x1 => y3 x (by omega))
theorem ot_my96 {m : Int32} {LS LV Im S0 V0 : Nat → Int32} {a b : Nat} {post : Int32 → SY → Prop} (h1 : 1 ≤ a) (hb : 1 ≤ b) (hI : ∀ x, x < 85 → Im x = ot_IM a b x)
    (hok : ∀ x, 1 ≤ x → x < 85 → ot_sub a x → S0 x ≠ 0 → ot_im a b x < 85) (out : ∀ x, x < 85 → ot_sub a x → S0 x ≠ 0 → ¬ ot_sub a (ot_im a b x))
    (J : ∀ S V, ot_MY S0 V0 a b 85 S V → post (nI (ot_ct S0 a 85)) (m, LS, LV, S, V, Im)) :
    ∀ (n i : Nat) (S V : Nat → Int32), 1 ≤ i → i ≤ 85 → 85 - i < n → ot_MY S0 V0 a b i S V → wY_move_96 post m n (nI (ot_ct S0 a i)) (nI i) LS LV S V Im := by
  intro n
  induction n with
  | zero => intro i S V _ _ hn; omega
  | succ n ih =>
    intro i S V hi1 hi hn h
    refine pk_le 85 i (fun z => ?_) (fun z => ?_)
    · have e : i = 85 := by omega
      subst e
      exact J S V h
    · have hin : vp_in (nI i) 85 := vp_in_nI z (by omega)
      have skip : ¬ (ot_sub a i ∧ S0 i ≠ 0) → wY_move_96 post m n (nI (ot_ct S0 a i)) (nI (i + 1)) LS LV S V Im := by
        intro ns
        have K := ih (i + 1) S V (by omega) (by omega) (by omega) (ot_MYn z h ns)
        have e : ot_ct S0 a (i + 1) = ot_ct S0 a i := if_neg ns
        rw [e] at K
        exact K
      refine And.intro hin ?_
      rw [nI_clamp (by omega), hI i z]
      by_cases hs : ot_sub a i
      · by_cases hl : ot_im a b i ≤ 84
        · have hinI : vp_in (nI (ot_im a b i)) 85 := vp_in_nI (by omega) (by omega)
          rw [ot_IMs hs hl]
          refine br_f (nI_pos (by omega)) (And.intro hin (br_f (nI_ge (b := 85) (by omega) (by decide)) (And.intro hin ?_)))
          have sv := h.2.1 i (Nat.le_refl i) z hs
          by_cases s0 : S0 i = 0
          · exact br_t (sv.1.trans s0) (nm_r (nI_1 i) (skip (fun y => y.2 s0)))
          · have e : ot_ct S0 a (i + 1) = ot_ct S0 a i + 1 := if_pos ⟨hs, s0⟩
            refine br_f (by rw [sv.1]; exact s0) (And.intro hin (And.intro hin (And.intro hinI (nm_r (e' := upd S (ot_im a b i) (S i)) (by rw [nI_clamp (n := ot_im a b i) (by omega)]) (And.intro hin (And.intro hin (And.intro hinI (nm_r (e' := upd V (ot_im a b i) (V i)) (by rw [nI_clamp (n := ot_im a b i) (by omega)]) (And.intro hin (nm_e (nm_r (e' := nI (ot_ct S0 a (i + 1))) (by rw [e, nI_1]) (nm_r (nI_1 i) ?_))))))))))))
            exact ih (i + 1) _ _ (by omega) (by omega) (by omega) (ot_MYs h1 hb z h hs s0 out)
        · rw [ot_IMb hs hl]
          have s0 : ¬ (ot_sub a i ∧ S0 i ≠ 0) := fun y => by have := hok i hi1 z y.1 y.2; omega
          exact br_f (by decide) (And.intro hin (br_t (by decide) (nm_r (nI_1 i) (skip s0))))
      · rw [ot_IMn hs]
        exact br_t (by decide) (nm_r (nI_1 i) (skip (fun y => hs y.1)))
/-- move of the reference, where the new place is free -/
theorem ot_moveY {m : Int32} {LS LV S V Im : Nat → Int32} {a b : Nat} {post : Int32 → SY → Prop} (hm : m ≠ 0) (h1 : 1 ≤ a) (ha : a < 85) (hb1 : 1 ≤ b) (hb : b < 85) (hs : S a ≠ 0)
    (hY : ∀ (post : Int32 → Prop) (LS LV Im : Nat → Int32), post 1 → wpY_canMake post (m, LS, LV, S, V, Im) (nI b))
    (Jf : (ot_sub a b ∨ ∃ x, x < 85 ∧ ot_sub a x ∧ S x ≠ 0 ∧ 85 ≤ ot_im a b x) → ∀ Im, post (-1) (m, LS, LV, S, V, Im))
    (Js : ¬ ot_sub a b → (∀ x, 1 ≤ x → x < 85 → ot_sub a x → S x ≠ 0 → ot_im a b x < 85) → (∀ x, x < 85 → ot_sub a x → S x ≠ 0 → ¬ ot_sub a (ot_im a b x)) ∧ ∀ S' V' Im, ot_MY S V a b 85 S' V' → post (nI (ot_ct S a 85)) (m, LS, LV, S', V', Im)) :
    wpY_move post (m, LS, LV, S, V, Im) (nI a) (nI b) := by
  unfold wpY_move
  refine br_f hm (br_f (nI_nlt (b := 1) (by omega) (by omega)) (ot_badY ha (br_t rfl (And.intro (vp_in_nI ha (by omega)) ?_))))
  rw [nI_clamp (by omega)]
  refine br_f hs (hY _ _ _ _ (br_f (by decide) (ot_follow h1 ha hb1 hb ?_)))
  intro Im hI
  refine And.intro (vp_in_nI hb (by omega)) ?_
  rw [nI_clamp (by omega), hI b hb]
  by_cases hsb : ot_sub a b
  · refine br_f ?_ (Jf (Or.inl hsb) Im)
    by_cases hl : ot_im a b b ≤ 84
    · rw [ot_IMs hsb hl]
      exact nI_pos (by omega)
    · rw [ot_IMb hsb hl]
      decide
  · rw [ot_IMn hsb]
    refine br_t (by decide) ⟨85, ot_my57 hI (fun z => Jf (Or.inr z) Im) (fun ok => ⟨85, ?_⟩) 85 1 (by omega) (by omega) (by omega) (fun x x1 x2 => by omega)⟩
    have js := Js hsb ok
    have K := ot_my96 (V0 := V) h1 hb1 hI ok js.1 (fun S' V' h => js.2 S' V' Im h) 85 1 S V (by omega) (by omega) (by omega)
      ⟨fun x x1 _ x3 => by have := ot_subGe h1 x3; omega, fun _ _ _ _ => ⟨rfl, rfl⟩, fun x x1 _ x3 => by have := ot_subGe h1 x3; omega, fun _ _ _ _ => ⟨rfl, rfl⟩⟩
    rw [ot_ct0 h1 1 h1] at K
    exact K
end
section
/-! move: the parts are put at their new places -/
def ot_Si (S PS : Nat → Int32) (i : Nat) : Nat → Int32 := fun x => if x < i ∧ PS x ≠ 0 then PS x else S x
def ot_Vi (V PS PV : Nat → Int32) (i : Nat) : Nat → Int32 := fun x => if x < i ∧ PS x = 1 then PV x else V x
def ot_XI (S V PS PV : Nat → Int32) (b i : Nat) (H C : Nat → Int32) : Prop :=
  ot_OK H ∧ (∃ F, ot_View H C (ot_Si S PS i) (ot_Vi V PS PV i) F) ∧ (∀ j, j < i → j < 85 → PS j = 2 → H (340 + j) = 3) ∧ (H (340 + (b - 1) / 4) = 2 ∨ H (340 + (b - 1) / 4) = 3)
def ot_PF (S PS : Nat → Int32) (b : Nat) : Prop :=
  (∀ j, j < 85 → PS j = 0 ∨ PS j = 1 ∨ PS j = 2) ∧ (∀ j, j < 85 → PS j ≠ 0 → 1 ≤ j ∧ S j = 0 ∧ (j = b ∨ PS ((j - 1) / 4) = 2)) ∧ PS ((b - 1) / 4) = 0 ∧ S ((b - 1) / 4) = 2
theorem ot_SiE {S PS : Nat → Int32} {i x : Nat} : ot_Si S PS (i + 1) x = if x = i then (if PS i ≠ 0 then PS i else S i) else ot_Si S PS i x := by
  unfold ot_Si
  by_cases e : x = i
  · subst e
    rw [if_pos rfl]
    by_cases z : PS x ≠ 0
    · rw [if_pos ⟨by omega, z⟩, if_pos z]
    · rw [if_neg (fun w => z w.2), if_neg z]
  · rw [if_neg e]
    by_cases z : x < i ∧ PS x ≠ 0
    · rw [if_pos z, if_pos ⟨by omega, z.2⟩]
    · rw [if_neg z, if_neg (fun w => z ⟨by omega, w.2⟩)]
theorem ot_ViE {V PS PV : Nat → Int32} {i x : Nat} : ot_Vi V PS PV (i + 1) x = if x = i then (if PS i = 1 then PV i else V i) else ot_Vi V PS PV i x := by
  unfold ot_Vi
  by_cases e : x = i
  · subst e
    rw [if_pos rfl]
    by_cases z : PS x = 1
    · rw [if_pos ⟨by omega, z⟩, if_pos z]
    · rw [if_neg (fun w => z w.2), if_neg z]
  · rw [if_neg e]
    by_cases z : x < i ∧ PS x = 1
    · rw [if_pos z, if_pos ⟨by omega, z.2⟩]
    · rw [if_neg z, if_neg (fun w => z ⟨by omega, w.2⟩)]
theorem ot_SiI {S PS : Nat → Int32} {i : Nat} : ot_Si S PS i i = S i := if_neg (fun w => by omega)
theorem ot_ViI {V PS PV : Nat → Int32} {i : Nat} : ot_Vi V PS PV i i = V i := if_neg (fun w => by omega)
theorem ot_XIp {S V PS PV H C : Nat → Int32} {b i : Nat} (P : ot_PF S PS b) (hi : i < 85) (h : ot_XI S V PS PV b i H C) (hz : PS i ≠ 0) :
    1 ≤ i ∧ ot_Si S PS i ((i - 1) / 4) = 2 ∧ ot_Si S PS i i ≠ 2 ∧ (H (340 + (i - 1) / 4) = 2 ∨ H (340 + (i - 1) / 4) = 3) ∧ i ≠ (b - 1) / 4 := by
  obtain ⟨a1, a2, a3⟩ := P.2.1 i hi hz
  refine ⟨a1, ?_, ?_, ?_, ?_⟩
  · rcases a3 with e | e
    · subst e
      exact (if_neg (fun w => w.2 P.2.2.1)).trans P.2.2.2
    · exact (if_pos ⟨by omega, by rw [e]; decide⟩).trans e
  · rw [ot_SiI, a2]
    decide
  · rcases a3 with e | e
    · subst e
      exact h.2.2.2
    · exact Or.inr (h.2.2.1 _ (by omega) (by omega) e)
  · intro e
    rw [e] at hz
    exact hz P.2.2.1
theorem ot_XI1 {S V PS PV H C : Nat → Int32} {b i : Nat} (P : ot_PF S PS b) (hi : i < 85) (h : ot_XI S V PS PV b i H C) (hz : PS i = 1) :
    ot_XI S V PS PV b (i + 1) (upd H (340 + i) 1) (upd C (340 + i) (PV i)) := by
  obtain ⟨p1, p2, p3, p4, p5⟩ := ot_XIp P hi h (by rw [hz]; decide)
  obtain ⟨hk, ⟨F, hv⟩, h3, h4⟩ := h
  have t := ot_putF (PV i) hk hv p1 hi p2 p3 p4
  refine ⟨t.1, ⟨F, ot_Vc (fun x _ => ?_) (fun x _ _ => ?_) t.2⟩, fun j j1 j2 j3 => ?_, ?_⟩
  · rw [ot_SiE]
    by_cases e : x = i
    · rw [if_pos e, e, pk_us, hz]
      rfl
    · rw [if_neg e, pk_un e]
  · rw [ot_ViE]
    by_cases e : x = i
    · rw [if_pos e, e, pk_us, if_pos hz]
    · rw [if_neg e, pk_un e]
  · have ne : j ≠ i := fun e => by rw [e, hz] at j3; exact absurd j3 (by decide)
    rw [pk_un (by omega)]
    exact h3 j (by omega) j2 j3
  · rw [pk_un (by omega)]
    exact h4
theorem ot_XI2 {S V PS PV H C : Nat → Int32} {b i : Nat} (P : ot_PF S PS b) (hi : i < 85) (h : ot_XI S V PS PV b i H C) (hz : PS i = 2) :
    ot_XI S V PS PV b (i + 1) (upd H (340 + i) 3) (upd C (340 + i) 0) := by
  obtain ⟨p1, p2, p3, p4, p5⟩ := ot_XIp P hi h (by rw [hz]; decide)
  obtain ⟨hk, ⟨F, hv⟩, h3, h4⟩ := h
  obtain ⟨t1, F', t2⟩ := ot_putD 0 hk hv p1 hi p2 p3 p4
  refine ⟨t1, ⟨F', ot_Vc (fun x _ => ?_) (fun x _ _ => ?_) t2⟩, fun j j1 j2 j3 => ?_, ?_⟩
  · rw [ot_SiE]
    by_cases e : x = i
    · rw [if_pos e, e, pk_us, hz]
      rfl
    · rw [if_neg e, pk_un e]
  · rw [ot_ViE]
    by_cases e : x = i
    · rw [if_pos e, e, ot_ViI, if_neg (by rw [hz]; decide)]
    · rw [if_neg e]
  · by_cases e : j = i
    · rw [e, pk_us]
    · rw [pk_un (by omega)]
      exact h3 j (by omega) j2 j3
  · rw [pk_un (by omega)]
    exact h4
theorem ot_XI0 {S V PS PV H C : Nat → Int32} {b i : Nat} (hi : i < 85) (h : ot_XI S V PS PV b i H C) (hz : PS i = 0) : ot_XI S V PS PV b (i + 1) H C := by
  obtain ⟨hk, ⟨F, hv⟩, h3, h4⟩ := h
  refine ⟨hk, ⟨F, ot_Vc (fun x _ => ?_) (fun x _ _ => ?_) hv⟩, fun j j1 j2 j3 => ?_, h4⟩
  · rw [ot_SiE]
    by_cases e : x = i
    · rw [if_pos e, e, ot_SiI, if_neg (by rw [hz]; decide)]
    · rw [if_neg e]
  · rw [ot_ViE]
    by_cases e : x = i
    · rw [if_pos e, e, ot_ViI, if_neg (by rw [hz]; decide)]
    · rw [if_neg e]
  · have ne : j ≠ i := fun e => by rw [e, hz] at j3; exact absurd j3 (by decide)
    exact h3 j (by omega) j2 j3
theorem ot_mx59 {m fl flo r : Int32} {S V W PS PV : Nat → Int32} {b : Nat} {post : Int32 → SX → Prop} (P : ot_PF S PS b) (J : ∀ H C, ot_XI S V PS PV b 85 H C → post r (m, fl, flo, H, C, W, PS, PV)) :
    ∀ (n i : Nat) (H C : Nat → Int32), i ≤ 85 → 85 - i < n → ot_XI S V PS PV b i H C → wX_move_59 post r n (nI i) m fl flo H C W PS PV := by
  intro n
  induction n with
  | zero => intro i H C _ hn; omega
  | succ n ih =>
    intro i H C hi hn h
    refine pk_le 85 i (fun z => ?_) (fun z => ?_)
    · have e : i = 85 := by omega
      subst e
      exact J H C h
    · have hin : vp_in (nI i) 85 := vp_in_nI z (by omega)
      refine And.intro hin ?_
      rw [nI_clamp (by omega)]
      rcases P.1 i z with w | w | w
      · exact br_f (by rw [w]; decide) (And.intro hin (br_f (by rw [w]; decide) (nm_r (nI_1 i) (ih (i + 1) H C (by omega) (by omega) (ot_XI0 z h w)))))
      · exact br_t w (And.intro hin (ot_put z (nm_r (nI_1 i) (ih (i + 1) _ _ (by omega) (by omega) (ot_XI1 P z h w)))))
      · exact br_f (by rw [w]; decide) (And.intro hin (br_t w (ot_put z (nm_r (nI_1 i) (ih (i + 1) _ _ (by omega) (by omega) (ot_XI2 P z h w))))))
theorem ot_under0 {H C S V : Nat → Int32} {F : Nat → Nat} {b j : Nat} (h : ot_View H C S V F) (hb : 1 ≤ b) (hs : S b ≠ 2) (hj : j < 85) (hu : ot_un j b) : S j = 0 := by
  have := ot_unLt hb hu
  rcases hu with z | z
  · refine (h.2.2.2.2 j (by omega) hj).1 ?_
    rw [z]
    exact hs
  · refine (h.2.2.2.2 j (by omega) hj).1 ?_
    rw [(h.2.2.2.2 ((j - 1) / 4) (by omega) (by omega)).1 (by rw [z]; exact hs)]
    decide
/-- what copyPart has listed -/
theorem ot_PFof {H C S V PS PV : Nat → Int32} {F : Nat → Nat} {a b : Nat} (h : ot_View H C S V F) (h1 : 1 ≤ a) (ha : a < 85) (hb1 : 1 ≤ b) (hb : b < 85) (hsb : S b = 0) (hd : S ((b - 1) / 4) = 2)
    (hab : ¬ ot_sub a b) (out : ∀ x, x < 85 → ot_sub a x → S x ≠ 0 → ¬ ot_sub a (ot_im a b x)) (c : ot_CI S V a b 85 PS PV) : ot_PF (ot_rem S a) PS b := by
  have get : ∀ j, j < 85 → PS j ≠ 0 → ∃ x, x < 85 ∧ ot_sub a x ∧ S x ≠ 0 ∧ ot_im a b x = j ∧ PS j = S x := by
    intro j hj hz
    rcases c.2 j hj with z | ⟨x, _, x2, x3, x4, x5⟩
    · exact absurd z hz
    · refine ⟨x, x2, x3, x4, x5, ?_⟩
      rw [← x5]
      exact (c.1 x x2 x2 x3 x4).2.1
  have hpb : ¬ ot_sub a ((b - 1) / 4) := fun z => hab ((ot_subPar h1 hb (fun e => hab (Or.inl e))).mpr z)
  refine ⟨fun j hj => ?_, fun j hj hz => ?_, ?_, (ot_remO hpb).trans hd⟩
  · by_cases z : PS j = 0
    · exact Or.inl z
    · obtain ⟨x, x1, x2, x3, x4, x5⟩ := get j hj z
      rw [x5]
      exact ot_v012 h x1
  · obtain ⟨x, x1, x2, x3, x4, x5⟩ := get j hj hz
    have ge := ot_imGe (b := b) h1 hb1 x2
    rw [x4] at ge
    refine ⟨by omega, ?_, ?_⟩
    · have o := out x x1 x2 x3
      rw [x4] at o
      rw [ot_remO o]
      have k := ot_imUn (b := b) h1 x2
      rw [x4] at k
      rcases k with k | k
      · rw [k]; exact hsb
      · exact ot_under0 h hb1 (by rw [hsb]; decide) hj k
    · by_cases e : x = a
      · subst e
        exact Or.inl (x4.symm.trans ot_imA)
      · right
        have hxa := ot_subGe h1 x2
        have up := ot_imUp (b := b) h1 x1 e x2
        rw [x4] at up
        have sp : S ((x - 1) / 4) = 2 := ot_parDir h (by omega) x1 x3
        rw [up, (c.1 ((x - 1) / 4) (by omega) (by omega) ((ot_subPar h1 x1 e).mp x2) (by rw [sp]; decide)).2.1]
        exact sp
  · apply Classical.byContradiction
    intro z
    obtain ⟨x, x1, x2, x3, x4, x5⟩ := get _ (by omega) z
    have ge := ot_imGe (b := b) h1 hb1 x2
    omega
/-- what X has put is what Y has moved -/
theorem ot_same {S V PS PV S2 V2 : Nat → Int32} {a b : Nat} (c : ot_CI S V a b 85 PS PV) (y : ot_MY S V a b 85 S2 V2) :
    (∀ x, x < 85 → S2 x = ot_Si (ot_rem S a) PS 85 x) ∧ (∀ x, x < 85 → ot_Si (ot_rem S a) PS 85 x = 1 → V2 x = ot_Vi V PS PV 85 x) := by
  have key : ∀ x, x < 85 → S2 x = ot_Si (ot_rem S a) PS 85 x ∧ (ot_Si (ot_rem S a) PS 85 x = 1 → V2 x = ot_Vi V PS PV 85 x) := by
    intro x hx
    by_cases z : PS x = 0
    · have e1 : ot_Si (ot_rem S a) PS 85 x = ot_rem S a x := if_neg (fun w => w.2 z)
      have e2 : ot_Vi V PS PV 85 x = V x := if_neg (fun w => absurd (z.symm.trans w.2) (by decide))
      rw [e1, e2]
      by_cases hs : ot_sub a x
      · rw [ot_remI hs]
        exact ⟨y.1 x hx hx hs, fun w => absurd w (by decide)⟩
      · rw [ot_remO hs]
        have k := y.2.2.2 x hx hs (fun u u1 u2 u3 u4 e => by
          have q := (c.1 u u1 u2 u3 u4).2.1
          rw [e, z] at q
          exact u4 q.symm)
        exact ⟨k.1, fun _ => k.2⟩
    · have e1 : ot_Si (ot_rem S a) PS 85 x = PS x := if_pos ⟨hx, z⟩
      rw [e1]
      rcases c.2 x hx with w | ⟨u, u1, u2, u3, u4, u5⟩
      · exact absurd w z
      · subst u5
        have q := c.1 u u1 u2 u3 u4
        have k := y.2.2.1 u u1 u2 u3 u4
        refine ⟨k.1.trans q.2.1.symm, fun w => ?_⟩
        have e2 : ot_Vi V PS PV 85 (ot_im a b u) = PV (ot_im a b u) := if_pos ⟨hx, w⟩
        rw [e2, k.2, q.2.2 (q.2.1.symm.trans w)]
  exact ⟨fun x hx => (key x hx).1, fun x hx => (key x hx).2⟩
end
section
theorem i_vc_move {k : Nat} {u : SX} {v : SY} (I : i_Rel k u v) (hk : k + 5 ≤ 2560) (v1 : Int32) (v2 : Int32) : wpX_move (fun r u' => wpY_move (fun r' v' => r' = r ∧ i_Rel (k + 5) u' v') v v1 v2) u v1 v2 := by
  obtain ⟨m, fl, flo, H, C, W, PS, PV⟩ := u
  obtain ⟨m', LS, LV, S, V, Im⟩ := v
  obtain ⟨e, R⟩ := I
  have e : m' = m := e
  subst e
  have R : ot_R m' H C LS LV S V := R
  unfold wpX_move
  rcases ot_path v1 with hb | ⟨a, ha, rfl⟩
  · refine ot_sortBad hb (br_t (by decide) ?_)
    show wpY_move _ _ _ _
    unfold wpY_move
    exact br_c (fun _ => ⟨rfl, rfl, R⟩) (fun _ => br_c (fun _ => ⟨rfl, rfl, R⟩) (fun _ => ot_badY1 hb (br_f (by decide) ⟨rfl, rfl, R⟩)))
  · refine ot_sort ha (ot_rv R) ?_
    intro fl flo W _
    by_cases hs0 : S a = 0
    · refine br_t (by rw [hs0]; decide) ?_
      show wpY_move _ _ _ _
      unfold wpY_move
      refine br_c (fun _ => ⟨rfl, rfl, R⟩) (fun _ => br_c (fun _ => ⟨rfl, rfl, R⟩) (fun _ => ot_badY ha (br_t rfl (And.intro (vp_in_nI ha (by omega)) ?_))))
      rw [nI_clamp (by omega)]
      exact br_t hs0 ⟨rfl, rfl, R⟩
    · refine br_f (ot_nle0 (ot_012 (ot_rv R) ha) hs0) ?_
      rcases R.2 with z | ⟨rfl, F, hv⟩
      · exact absurd (z.2.2.2 a ha) hs0
      · by_cases h0 : a = 0
        · subst h0
          refine br_t rfl ?_
          show wpY_move _ _ _ _
          unfold wpY_move
          exact br_f (by decide) (br_t (by decide) ⟨rfl, rfl, R⟩)
        · have h1 : 1 ≤ a := by omega
          have hda := ot_parDir hv h1 ha hs0
          refine br_f (nI_ne0 (by omega) (by omega)) ?_
          obtain ⟨r, hr, hX, hY⟩ := ot_room (ot_rv R) v2
          refine hX _ _ _ _ _ _ ?_
          intro fl flo W
          rcases hr with rfl | ⟨rfl, b, hb, rfl, _, hb1, hsb, hd⟩
          · refine br_t rfl ?_
            show wpY_move _ _ _ _
            unfold wpY_move
            refine br_f (by decide) (br_f (nI_nlt (b := 1) (by omega) (by omega)) (ot_badY ha (br_t rfl (And.intro (vp_in_nI ha (by omega)) ?_))))
            rw [nI_clamp (by omega)]
            exact br_f hs0 (hY _ _ _ _ (br_t rfl ⟨rfl, rfl, R⟩))
          · refine br_f (by decide) ?_
            have Rn : ∀ fl flo W PS PV Im, i_Rel (k + 5) (1, fl, flo, H, C, W, PS, PV) (1, LS, LV, S, V, Im) := fun _ _ _ _ _ _ => And.intro rfl R
            have nba : b ≠ a := fun e => hs0 (by rw [← e]; exact hsb)
            refine ot_isUnder hb hb1 h1 ha (fun hu => br_f (by decide) ?_) (fun hu => br_t rfl ?_)
            · exact ot_moveY (by decide) h1 ha hb1 hb hs0 hY (fun _ Im => ⟨rfl, Rn _ _ _ _ _ _⟩) (fun z => absurd (Or.inr hu) z)
            · have hab : ¬ ot_sub a b := fun z => z.elim nba hu
              have hba : ¬ ot_un a b := fun z => hs0 (ot_under0 hv hb1 (by rw [hsb]; decide) ha z)
              refine ot_copyPart (ot_rv R) h1 ha hb1 hb ?_ ?_
              · intro hf fl flo W PS PV
                refine br_f (by decide) ?_
                refine ot_moveY (by decide) h1 ha hb1 hb hs0 hY (fun _ Im => ⟨rfl, Rn _ _ _ _ _ _⟩) (fun _ ok => ?_)
                obtain ⟨x, x1, x2, x3, x4⟩ := hf
                have := ot_subGe h1 x2
                have := ok x (by omega) x1 x2 x3
                omega
              · intro fl flo W PS PV c
                have hct : ot_ct S a 85 < 2 ^ 31 := by
                  have key : ∀ i, ot_ct S a i ≤ i := by
                    intro i
                    induction i with
                    | zero => exact Nat.le_refl 0
                    | succ i ih =>
                      show (if ot_sub a i ∧ S i ≠ 0 then ot_ct S a i + 1 else ot_ct S a i) ≤ i + 1
                      split <;> omega
                  have := key 85
                  omega
                have out : ∀ x, x < 85 → ot_sub a x → S x ≠ 0 → ¬ ot_sub a (ot_im a b x) := fun x x1 x2 x3 => ot_imOut h1 hb1 hab hba x2 (c.1 x x1 x1 x2 x3).1
                have P := ot_PFof hv h1 ha hb1 hb hsb hd hab out c
                refine br_t (nI_pos' hct) (ot_take (by decide) R.1 hv h1 ha hda ?_)
                intro fl flo W H' C' k' v'
                have cu := ot_cuOK k' v' (p := (b - 1) / 4) (by omega) P.2.2.2
                refine ot_parX hb1 (by omega) (ot_copyUp (by omega) ⟨86, ?_⟩)
                refine ot_mx59 (V := V) P ?_ 86 0 _ _ (by omega) (by omega) ⟨cu.1, ⟨F, ot_Vc (fun x _ => ?_) (fun x _ _ => ?_) cu.2.1⟩, fun j hj => absurd hj (Nat.not_lt_zero j), cu.2.2⟩
                · intro H2 C2 X
                  refine ot_moveY (by decide) h1 ha hb1 hb hs0 hY (fun z => ?_) (fun _ _ => ⟨out, fun S' V' Im y => ⟨rfl, rfl, ?_⟩⟩)
                  · exfalso
                    rcases z with z | ⟨x, x1, x2, x3, x4⟩
                    · exact hab z
                    · have := (c.1 x x1 x1 x2 x3).1
                      omega
                  · obtain ⟨xk, ⟨F2, xv⟩, _, _⟩ := X
                    have sm := ot_same c y
                    exact And.intro xk (Or.inr ⟨rfl, F2, ot_Vc sm.1 sm.2 xv⟩)
                · exact if_neg (fun w => by omega)
                · exact if_neg (fun w => by omega)
end
