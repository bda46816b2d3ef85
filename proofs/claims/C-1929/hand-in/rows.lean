section
/-! rows of the kit's rows to paste (a starting text) -/
theorem pk_us {f : Nat → Int32} {k : Nat} {x : Int32} : upd f k x k = x := if_pos rfl
theorem pk_un {f : Nat → Int32} {k j : Nat} {x : Int32} (h : j ≠ k) : upd f k x j = f j := if_neg h
theorem pk_uLs {f : Nat → Int64} {k : Nat} {x : Int64} : vp_updL f k x k = x := if_pos rfl
theorem pk_uLn {f : Nat → Int64} {k j : Nat} {x : Int64} (h : j ≠ k) : vp_updL f k x j = f j := if_neg h
theorem pk_sub {a b : Nat} (h : b ≤ a) : nI a - nI b = nI (a - b) := by
  obtain ⟨c, rfl⟩ : ∃ c, a = c + b := ⟨a - b, by omega⟩
  rw [← nI_add, Int32.add_sub_cancel, Nat.add_sub_cancel]
theorem pk_m1 (n : Nat) : nI (n + 1) + (-1) = nI n := by
  rw [← nI_1, Int32.add_assoc, show (1 : Int32) + (-1) = 0 from rfl, Int32.add_zero]
theorem pk_mul (a b : Nat) : nI a * nI b = nI (a * b) := (Int32.ofNat_mul a b).symm
theorem pk_le {x y : Int32} {A B : Prop} (a b : Nat) (f : a ≤ b → A) (g : b < a → B) (hx : x = nI a := by rfl) (hy : y = nI b := by rfl) (ha : a < 2 ^ 31 := by omega) (hb : b < 2 ^ 31 := by omega) : (x ≤ y → A) ∧ (¬ x ≤ y → B) := by
  subst hx hy
  rw [nI_leI ha hb]
  exact ⟨f, fun z => g (by omega)⟩
theorem pk_lt {x y : Int32} {A B : Prop} (a b : Nat) (f : a < b → A) (g : b ≤ a → B) (hx : x = nI a := by rfl) (hy : y = nI b := by rfl) (ha : a < 2 ^ 31 := by omega) (hb : b < 2 ^ 31 := by omega) : (x < y → A) ∧ (¬ x < y → B) := by
  subst hx hy
  rw [nI_ltI ha hb]
  exact ⟨f, fun z => g (by omega)⟩
theorem pk_eq {x y : Int32} {A B : Prop} (a b : Nat) (f : a = b → A) (g : a ≠ b → B) (hx : x = nI a := by rfl) (hy : y = nI b := by rfl) (ha : a < 2 ^ 31 := by omega) (hb : b < 2 ^ 31 := by omega) : (x = y → A) ∧ (¬ x = y → B) := by
  subst hx hy
  rw [nI_eq ha hb]
  exact ⟨f, g⟩
theorem pk_in {x : Int32} (n N : Nat) (h : n < N) (hx : x = nI n := by rfl) (hN : N < 2 ^ 31 := by omega) : vp_in x N := by
  subst hx
  exact vp_in_nI h hN
theorem pk_cl {x : Int32} (n : Nat) (hx : x = nI n := by rfl) (h : n < 2 ^ 31 := by omega) : x.toNatClampNeg = n := by
  subst hx
  exact nI_clamp h
theorem ts_nf {x : Bool} (h : ¬ x = false) : x = true := by cases x <;> first | rfl | exact absurd rfl h
theorem ts_nt {x : Bool} (h : ¬ x = true) : x = false := by cases x <;> first | rfl | exact absurd rfl h
theorem ts_bit {w : Int64} {s : UInt64} {j : Nat} (hj : j < 64) (hs : s.toNat = j) : ((w.toUInt64 >>> s).toInt64 &&& 1) = 0 ↔ w.toBitVec.getLsbD j = false := by
  have e : (w.toUInt64 >>> s).toInt64.toBitVec = w.toBitVec >>> j := by
    apply BitVec.eq_of_toNat_eq
    show (w.toUInt64 >>> s).toNat = _
    rw [UInt64.toNat_shiftRight, hs, Nat.mod_eq_of_lt hj, BitVec.toNat_ushiftRight]
    rfl
  rw [← Int64.toBitVec_inj, Int64.toBitVec_and, e]
  show w.toBitVec >>> j &&& 1#64 = 0#64 ↔ _
  constructor
  · intro h
    have t := congrArg (fun x => x.getLsbD 0) h
    simpa using t
  · intro h
    apply BitVec.eq_of_getLsbD_eq
    intro i hi
    cases i with
    | zero => simp [h]
    | succ i => simp
theorem wb_c : ∀ k, k < 64 → ((nI k).toInt64 &&& 63) = lN k := by decide +kernel
theorem wb_cu : ∀ k, k < 64 → ((nI k).toInt64.toUInt64 &&& Int64.toUInt64 63) = UInt64.ofNat k := by decide +kernel
end
section
/-! the order: one path against another -/
def rg_lx (k : Nat → Nat) : List Nat → List Nat → Bool
  | [], [] => false
  | _ :: _, [] => false
  | [], _ :: _ => true
  | a :: s, b :: t => decide (k b < k a) || (decide (a = b) && rg_lx k s t)
theorem rg_lx_n (k : Nat → Nat) (s : List Nat) : rg_lx k s [] = false := by cases s <;> simp [rg_lx]
theorem rg_lx_0 (k : Nat → Nat) (b : Nat) (t : List Nat) : rg_lx k [] (b :: t) = true := by simp [rg_lx]
theorem rg_lx_c (k : Nat → Nat) (a b : Nat) (s t : List Nat) : rg_lx k (a :: s) (b :: t) = true ↔ k b < k a ∨ (a = b ∧ rg_lx k s t = true) := by
  simp [rg_lx]
theorem rg_lx_ir (k : Nat → Nat) (s : List Nat) : rg_lx k s s = false := by
  induction s with
  | nil => exact rg_lx_n k []
  | cons a s ih => simp [rg_lx, ih]
theorem rg_lx_tr (k : Nat → Nat) : ∀ s t u : List Nat, rg_lx k s t = true → rg_lx k t u = true → rg_lx k s u = true := by
  intro s
  induction s with
  | nil =>
    intro t u h1 h2
    cases u with
    | nil => rw [rg_lx_n] at h2; cases h2
    | cons c u => exact rg_lx_0 k c u
  | cons a s ih =>
    intro t u h1 h2
    cases t with
    | nil => rw [rg_lx_n] at h1; cases h1
    | cons b t =>
      cases u with
      | nil => rw [rg_lx_n] at h2; cases h2
      | cons c u =>
        rw [rg_lx_c] at h1 h2 ⊢
        rcases h1 with h1 | ⟨rfl, h1⟩
        · rcases h2 with h2 | ⟨rfl, h2⟩
          · exact Or.inl (by omega)
          · exact Or.inl h1
        · rcases h2 with h2 | ⟨rfl, h2⟩
          · exact Or.inl h2
          · exact Or.inr ⟨rfl, ih _ _ h1 h2⟩
theorem rg_lx_as (k : Nat → Nat) (s t : List Nat) (h : rg_lx k s t = true) : rg_lx k t s = false := by
  cases h2 : rg_lx k t s with
  | false => rfl
  | true =>
    have h3 := rg_lx_tr k s t s h h2
    rw [rg_lx_ir] at h3
    cases h3
theorem rg_lx_to (k : Nat → Nat) : ∀ s t : List Nat, (∀ x, x ∈ s → ∀ y, y ∈ t → k x = k y → x = y) → s ≠ t → rg_lx k s t = true ∨ rg_lx k t s = true := by
  intro s
  induction s with
  | nil =>
    intro t _ hne
    cases t with
    | nil => exact absurd rfl hne
    | cons b t => exact Or.inl (rg_lx_0 k b t)
  | cons a s ih =>
    intro t hk hne
    cases t with
    | nil => exact Or.inr (rg_lx_0 k a s)
    | cons b t =>
      rw [rg_lx_c, rg_lx_c]
      rcases Nat.lt_trichotomy (k a) (k b) with h | h | h
      · exact Or.inr (Or.inl h)
      · have e : a = b := hk a (by simp) b (by simp) h
        subst e
        have hne' : s ≠ t := fun z => hne (by rw [z])
        rcases ih t (fun x hx y hy => hk x (by simp [hx]) y (by simp [hy])) hne' with h2 | h2
        · exact Or.inl (Or.inr ⟨rfl, h2⟩)
        · exact Or.inr (Or.inr ⟨rfl, h2⟩)
      · exact Or.inl (Or.inl h)
theorem rg_lx_ap (k : Nat → Nat) (p s t : List Nat) : rg_lx k (p ++ s) (p ++ t) = rg_lx k s t := by
  induction p with
  | nil => rfl
  | cons a p ih => simp [rg_lx, ih]
theorem rg_lx_cg {k k' : Nat → Nat} : ∀ s t : List Nat, (∀ x, x ∈ s → k x = k' x) → (∀ x, x ∈ t → k x = k' x) → rg_lx k s t = rg_lx k' s t := by
  intro s
  induction s with
  | nil =>
    intro t _ _
    cases t with
    | nil => rw [rg_lx_n, rg_lx_n]
    | cons b t => rw [rg_lx_0, rg_lx_0]
  | cons a s ih =>
    intro t hs ht
    cases t with
    | nil => rw [rg_lx_n, rg_lx_n]
    | cons b t =>
      have h1 := hs a (by simp)
      have h2 := ht b (by simp)
      have h3 := ih t (fun x hx => hs x (by simp [hx])) (fun x hx => ht x (by simp [hx]))
      simp only [rg_lx, h1, h2, h3]
theorem rg_lxA (k : Nat → Nat) (e : Nat) : ∀ p s : List Nat, rg_lx k p s = true → rg_lx k s (p ++ [e]) = true → ∃ c w, s = p ++ c :: w ∧ k e < k c := by
  intro p
  induction p with
  | nil =>
    intro s h1 h2
    cases s with
    | nil => rw [rg_lx_n] at h1; cases h1
    | cons c w =>
      refine ⟨c, w, rfl, ?_⟩
      have h3 : rg_lx k (c :: w) (e :: []) = true := h2
      rw [rg_lx_c] at h3
      rcases h3 with h3 | ⟨_, h3⟩
      · exact h3
      · rw [rg_lx_n] at h3; cases h3
  | cons a p ih =>
    intro s h1 h2
    cases s with
    | nil => rw [rg_lx_n] at h1; cases h1
    | cons b s =>
      have h3 : rg_lx k (b :: s) (a :: (p ++ [e])) = true := h2
      rw [rg_lx_c] at h1 h3
      rcases h1 with h1 | ⟨rfl, h1⟩
      · rcases h3 with h3 | ⟨rfl, h3⟩
        · omega
        · omega
      · rcases h3 with h3 | ⟨_, h3⟩
        · omega
        · obtain ⟨c, w, hw, hc⟩ := ih s h1 h3
          exact ⟨c, w, by rw [hw]; rfl, hc⟩
theorem rg_lxB (k : Nat → Nat) : ∀ t s : List Nat, rg_lx k t s = true → (¬ ∃ w, s = t ++ w) → ∃ p z t' y s', t = p ++ z :: t' ∧ s = p ++ y :: s' ∧ k y < k z := by
  intro t
  induction t with
  | nil => intro s _ h; exact absurd ⟨s, rfl⟩ h
  | cons a t ih =>
    intro s h1 h2
    cases s with
    | nil => rw [rg_lx_n] at h1; cases h1
    | cons b s =>
      rw [rg_lx_c] at h1
      rcases h1 with h1 | ⟨rfl, h1⟩
      · exact ⟨[], a, t, b, s, rfl, rfl, h1⟩
      · obtain ⟨p, z, t', y, s', e1, e2, h3⟩ := ih s h1 (fun ⟨w, hw⟩ => h2 ⟨w, by rw [hw]; rfl⟩)
        exact ⟨a :: p, z, t', y, s', by rw [e1]; rfl, by rw [e2]; rfl, h3⟩
/-! the path of an element: what stands above it, and itself -/
def rg_pa (B : Nat → Nat) (e : Nat) : List Nat := if h : B e < e then rg_pa B (B e) ++ [e] else [e]
termination_by e
def rg_up (B : Nat → Nat) (e : Nat) : List Nat := if B e < e then rg_pa B (B e) else []
theorem rg_pa_u (B : Nat → Nat) (e : Nat) : rg_pa B e = rg_up B e ++ [e] := by
  rw [rg_pa, rg_up]
  by_cases h : B e < e
  · rw [dif_pos h, if_pos h]
  · rw [dif_neg h, if_neg h]; rfl
theorem rg_up_t {B : Nat → Nat} {e : Nat} (h : B e < e) : rg_up B e = rg_pa B (B e) := by rw [rg_up, if_pos h]
theorem rg_up_f {B : Nat → Nat} {e : Nat} (h : ¬ B e < e) : rg_up B e = [] := by rw [rg_up, if_neg h]
theorem rg_pa_m (B : Nat → Nat) (x e : Nat) : x ∈ rg_pa B e ↔ x = e ∨ (B e < e ∧ x ∈ rg_pa B (B e)) := by
  rw [rg_pa_u, List.mem_append, List.mem_singleton]
  by_cases h : B e < e
  · rw [rg_up_t h]
    exact ⟨fun z => z.elim (fun a => Or.inr ⟨h, a⟩) Or.inl, fun z => z.elim Or.inr (fun a => Or.inl a.2)⟩
  · rw [rg_up_f h]
    exact ⟨fun z => z.elim (fun a => absurd a (by simp)) Or.inl, fun z => z.elim Or.inr (fun a => absurd a.1 h)⟩
theorem rg_pa_self (B : Nat → Nat) (e : Nat) : e ∈ rg_pa B e := (rg_pa_m B e e).mpr (Or.inl rfl)
theorem rg_pa_ne (B : Nat → Nat) (e : Nat) : rg_pa B e ≠ [] := fun z => by
  have h := rg_pa_self B e
  rw [z] at h
  cases h
theorem rg_pa_le (B : Nat → Nat) : ∀ n e x : Nat, e < n → x ∈ rg_pa B e → x ≤ e := by
  intro n
  induction n with
  | zero => intro e x h; omega
  | succ n ih =>
    intro e x h hx
    rcases (rg_pa_m B x e).mp hx with h1 | ⟨h1, h2⟩
    · omega
    · have := ih (B e) x (by omega) h2
      omega
theorem rg_pa_sp (B : Nat → Nat) : ∀ n s : Nat, s < n → ∀ (p : List Nat) (y : Nat) (w : List Nat), rg_pa B s = p ++ y :: w → rg_pa B y = p ++ [y] := by
  intro n
  induction n with
  | zero => intro s h; omega
  | succ n ih =>
    intro s hs p y w h
    rcases List.eq_nil_or_concat w with rfl | ⟨w', z, rfl⟩
    · rw [rg_pa_u] at h
      have h2 := List.append_inj' h rfl
      have h3 : s = y := by simpa using h2.2
      subst h3
      rw [rg_pa_u]
      exact h
    · rw [List.concat_eq_append] at h
      rw [rg_pa_u] at h
      have h1 : rg_up B s ++ [s] = (p ++ y :: w') ++ [z] := by rw [h]; simp
      have h2 := (List.append_inj' h1 rfl).1
      by_cases hB : B s < s
      · rw [rg_up_t hB] at h2
        exact ih (B s) (by omega) p y w' h2
      · rw [rg_up_f hB] at h2
        simp at h2
theorem rg_pa_bg {B : Nat → Nat} {x e : Nat} (h : x ∈ rg_pa B e) : ∃ w, rg_pa B e = rg_pa B x ++ w := by
  obtain ⟨p, w, hw⟩ := List.append_of_mem h
  refine ⟨w, ?_⟩
  rw [rg_pa_sp B (e + 1) e (by omega) p x w hw, hw]
  simp
theorem rg_pa_in {B : Nat → Nat} {a b : Nat} (h : rg_pa B a = rg_pa B b) : a = b := by
  rw [rg_pa_u, rg_pa_u] at h
  simpa using (List.append_inj' h rfl).2
theorem rg_pa_tr {B : Nat → Nat} {x y e : Nat} (h : x ∈ rg_pa B y) (h2 : y ∈ rg_pa B e) : x ∈ rg_pa B e := by
  obtain ⟨w, hw⟩ := rg_pa_bg h2
  rw [hw]
  exact List.mem_append_left w h
theorem rg_pa_cg {B B' : Nat → Nat} : ∀ n e : Nat, e < n → (∀ j, j ≤ e → B' j = B j) → rg_pa B' e = rg_pa B e := by
  intro n
  induction n with
  | zero => intro e h; omega
  | succ n ih =>
    intro e he hj
    rw [rg_pa_u, rg_pa_u]
    have h0 := hj e (Nat.le_refl e)
    by_cases h : B e < e
    · rw [rg_up_t h, rg_up_t (by rw [h0]; exact h), h0, ih (B e) (by omega) (fun j hj' => hj j (by omega))]
    · rw [rg_up_f h, rg_up_f (by rw [h0]; exact h)]
theorem rg_pa_k {B k : Nat → Nat} {E : Nat} (hk : ∀ e, e < E → B e < e → k (B e) < k e) : ∀ n e x : Nat, e < n → e < E → x ∈ rg_pa B e → k x ≤ k e := by
  intro n
  induction n with
  | zero => intro e x h; omega
  | succ n ih =>
    intro e x h hE hx
    rcases (rg_pa_m B x e).mp hx with h1 | ⟨h1, h2⟩
    · subst h1; exact Nat.le_refl _
    · have h3 := ih (B e) x (by omega) (by omega) h2
      have h4 := hk e hE h1
      omega
/-! the order of elements -/
def rg_bf (B k : Nat → Nat) (a b : Nat) : Bool := rg_lx k (rg_pa B a) (rg_pa B b)
theorem rg_bf_ir (B k : Nat → Nat) (a : Nat) : rg_bf B k a a = false := rg_lx_ir k _
theorem rg_bf_tr {B k : Nat → Nat} {a b c : Nat} (h : rg_bf B k a b = true) (h2 : rg_bf B k b c = true) : rg_bf B k a c = true := rg_lx_tr k _ _ _ h h2
theorem rg_bf_as {B k : Nat → Nat} {a b : Nat} (h : rg_bf B k a b = true) : rg_bf B k b a = false := rg_lx_as k _ _ h
theorem rg_bf_to {B k : Nat → Nat} {E a b : Nat} (hi : ∀ a b, a < E → b < E → k a = k b → a = b) (ha : a < E) (hb : b < E) (h : a ≠ b) : rg_bf B k a b = true ∨ rg_bf B k b a = true := by
  refine rg_lx_to k _ _ (fun x hx y hy => hi x y ?_ ?_) (fun z => h (rg_pa_in z))
  · have := rg_pa_le B (a + 1) a x (by omega) hx; omega
  · have := rg_pa_le B (b + 1) b y (by omega) hy; omega
theorem rg_bf_ab {B k : Nat → Nat} {a b : Nat} (h : a ∈ rg_pa B b) (hn : a ≠ b) : rg_bf B k a b = true := by
  obtain ⟨w, hw⟩ := rg_pa_bg h
  have h1 : rg_lx k (rg_pa B a ++ []) (rg_pa B a ++ w) = true := by
    rw [rg_lx_ap]
    cases w with
    | nil => exact absurd (rg_pa_in (hw.trans (List.append_nil _))).symm hn
    | cons c w => exact rg_lx_0 k c w
  rw [List.append_nil, ← hw] at h1
  exact h1
theorem rg_bfA {B k : Nat → Nat} {E q e : Nat} (hk : ∀ e, e < E → B e < e → k (B e) < k e) (hq : q < E) (h1 : rg_lx k (rg_up B e) (rg_pa B q) = true) (h2 : rg_bf B k q e = true) : k e < k q := by
  rw [rg_bf, rg_pa_u B e] at h2
  obtain ⟨c, w, hw, hc⟩ := rg_lxA k e _ _ h1 h2
  have h3 := rg_pa_k hk (q + 1) q c (by omega) hq (by rw [hw]; simp)
  omega
theorem rg_bfB {B k : Nat → Nat} {E e s : Nat} (hk : ∀ e, e < E → B e < e → k (B e) < k e) (he : e < E) (h1 : rg_bf B k e s = true) (h2 : ¬ e ∈ rg_pa B s) : ∃ y, y ∈ rg_pa B s ∧ rg_bf B k e y = true ∧ k y < k e := by
  obtain ⟨p, z, t', y, s', e1, e2, h3⟩ := rg_lxB k _ _ h1 (fun ⟨w, hw⟩ => h2 (by rw [hw]; exact List.mem_append_left w (rg_pa_self B e)))
  have hy : y ∈ rg_pa B s := by rw [e2]; simp
  have hz : z ∈ rg_pa B e := by rw [e1]; simp
  have h4 := rg_pa_k hk (e + 1) e z (by omega) he hz
  refine ⟨y, hy, ?_, by omega⟩
  rw [rg_bf, rg_pa_sp B (s + 1) s (by omega) p y s' e2, e1, rg_lx_ap, rg_lx_c]
  exact Or.inl h3
/-! the highest one above a that isn't above b -/
def rg_BR (B : Nat → Nat) (a b t : Nat) : Prop := t ∈ rg_pa B a ∧ (¬ t ∈ rg_pa B b) ∧ (B t < t → B t ∈ rg_pa B b)
theorem rg_BR_up {B : Nat → Nat} {a b t : Nat} (h : rg_BR B a b t) : ∃ w, rg_pa B b = rg_up B t ++ w := by
  by_cases hB : B t < t
  · rw [rg_up_t hB]; exact rg_pa_bg (h.2.2 hB)
  · rw [rg_up_f hB]; exact ⟨_, rfl⟩
theorem rg_BR_sp {B : Nat → Nat} {a b t : Nat} (h : rg_BR B a b t) : ∃ w, rg_pa B a = rg_up B t ++ t :: w := by
  obtain ⟨w, hw⟩ := rg_pa_bg h.1
  exact ⟨w, by rw [hw, rg_pa_u]; simp⟩
theorem rg_BR_ln {B : Nat → Nat} {a b t q : Nat} (h1 : rg_BR B a b t) (h2 : rg_BR B b a q) : ¬ (rg_up B t).length < (rg_up B q).length := by
  intro hl
  obtain ⟨w, hw⟩ := rg_BR_sp h1
  obtain ⟨w2, hw2⟩ := rg_BR_up h2
  obtain ⟨w3, hw3⟩ := rg_BR_sp h2
  have h3 : rg_up B t ++ t :: w = rg_up B q ++ w2 := by rw [← hw, ← hw2]
  rcases List.append_eq_append_iff.mp h3 with ⟨as, e1, e2⟩ | ⟨bs, e1, e2⟩
  · cases as with
    | nil => rw [e1] at hl; simp at hl
    | cons c as =>
      have hc : t = c := by
        have := List.cons.inj e2
        exact this.1
      apply h1.2.1
      rw [hw3, e1, hc]
      simp
  · rw [e1] at hl
    rw [List.length_append] at hl
    omega
theorem rg_BR_bf {B k : Nat → Nat} {a b t q : Nat} (h1 : rg_BR B a b t) (h2 : rg_BR B b a q) : rg_bf B k a b = decide (k q < k t) := by
  obtain ⟨w, hw⟩ := rg_BR_sp h1
  obtain ⟨w2, hw2⟩ := rg_BR_sp h2
  obtain ⟨w3, hw3⟩ := rg_BR_up h1
  have hl : (rg_up B t).length = (rg_up B q).length := by
    have z1 := rg_BR_ln h1 h2
    have z2 := rg_BR_ln h2 h1
    omega
  have hu : rg_up B t = rg_up B q := (List.append_inj (hw3.symm.trans hw2) hl).1
  have hne : t ≠ q := fun z => h2.2.1 (by rw [← z]; exact h1.1)
  rw [rg_bf, hw, hw2, hu, rg_lx_ap, rg_lx]
  simp [hne]
end
section
/-! the plain invariant, and what an insertion or a learned element does to it -/
def rg_u {α : Type} (f : Nat → α) (k : Nat) (x : α) : Nat → α := fun j => if j = k then x else f j
theorem rg_us {α : Type} {f : Nat → α} {k : Nat} {x : α} : rg_u f k x k = x := if_pos rfl
theorem rg_un {α : Type} {f : Nat → α} {k j : Nat} {x : α} (h : j ≠ k) : rg_u f k x j = f j := if_neg h
def rg_k (S O : Nat → Nat) (e : Nat) : Nat := S e * 4 + O e
def rg_P (E : Nat) (B S O C : Nat → Nat) (K : Nat → Nat → Bool) (L : Nat → List Nat) : Prop :=
  E ≤ 40 ∧
  (∀ e, e < E → (B e < e ∨ B e = 40) ∧ O e < 3 ∧ S e ≤ C (O e) ∧ (B e < e → S (B e) < S e)) ∧
  (∀ a b, a < E → b < E → S a = S b → O a = O b → a = b) ∧
  (∀ r, r < 3 → C r ≤ E) ∧
  (∀ r e, r < 3 → K r e = true → e < E ∧ S e ≤ C r ∧ (B e < e → K r (B e) = true)) ∧
  (∀ r, r < 3 → (L r).Pairwise (fun a b => rg_bf B (rg_k S O) a b = true) ∧ ∀ e, e ∈ L r ↔ K r e = true)
section
variable {E : Nat} {B S O C : Nat → Nat} {K : Nat → Nat → Bool} {L : Nat → List Nat}
theorem rg_P_ki (h : rg_P E B S O C K L) : ∀ a b, a < E → b < E → rg_k S O a = rg_k S O b → a = b := by
  obtain ⟨h1, h2, h3, h4, h5, h6⟩ := h
  intro a b ha hb hk
  have ya := (h2 a ha).2.1
  have yb := (h2 b hb).2.1
  unfold rg_k at hk
  exact h3 a b ha hb (by omega) (by omega)
theorem rg_P_kp (h : rg_P E B S O C K L) : ∀ e, e < E → B e < e → rg_k S O (B e) < rg_k S O e := by
  obtain ⟨h1, h2, h3, h4, h5, h6⟩ := h
  intro e he hB
  have y := (h2 (B e) (by omega)).2.1
  have z := (h2 e he).2.2.2 hB
  unfold rg_k
  omega
theorem rg_P_cl (h : rg_P E B S O C K L) {r x : Nat} (hr : r < 3) : ∀ n q : Nat, q < n → K r q = true → x ∈ rg_pa B q → K r x = true := by
  intro n
  induction n with
  | zero => intro q hq; omega
  | succ n ih =>
    intro q hq hK hx
    rcases (rg_pa_m B x q).mp hx with h1 | ⟨h1, h2⟩
    · rw [h1]; exact hK
    · exact ih (B q) (by omega) ((h.2.2.2.2.1 r q hr hK).2.2 h1) h2
theorem rg_P_m (h : rg_P E B S O C K L) {r : Nat} (hr : r < 3) : ∀ e, e ∈ L r ↔ K r e = true := (h.2.2.2.2.2 r hr).2
theorem rg_P_w (h : rg_P E B S O C K L) {r : Nat} (hr : r < 3) : (L r).Pairwise (fun a b => rg_bf B (rg_k S O) a b = true) := (h.2.2.2.2.2 r hr).1
theorem rg_P_lt (h : rg_P E B S O C K L) {r e : Nat} (hr : r < 3) (he : e ∈ L r) : e < E := (h.2.2.2.2.1 r e hr ((rg_P_m h hr e).mp he)).1
theorem rg_pw {R : Nat → Nat → Prop} {A T : List Nat} {e : Nat} (h : (A ++ T).Pairwise R) (hA : ∀ x, x ∈ A → R x e) (hT : ∀ x, x ∈ T → R e x) : (A ++ e :: T).Pairwise R := by
  rw [List.pairwise_append] at h ⊢
  obtain ⟨a, b, c⟩ := h
  refine ⟨a, List.pairwise_cons.mpr ⟨hT, b⟩, fun x hx y hy => ?_⟩
  rcases List.mem_cons.mp hy with rfl | hy
  · exact hA x hx
  · exact c x hx y hy
theorem rg_P_lrn (h : rg_P E B S O C K L) {r e : Nat} (hr : r < 3) (he : e < E) (hp : B e < e → K r (B e) = true) {A T : List Nat} (hL : L r = A ++ T)
    (hA : ∀ x, x ∈ A → rg_bf B (rg_k S O) x e = true) (hT : ∀ x, x ∈ T → rg_bf B (rg_k S O) e x = true)
    {C' : Nat → Nat} (hC1 : ∀ x, C x ≤ C' x) (hC2 : ∀ x, x < 3 → C' x ≤ E) (hC3 : S e ≤ C' r) :
    rg_P E B S O C' (rg_u K r (rg_u (K r) e true)) (rg_u L r (A ++ e :: T)) := by
  obtain ⟨h1, h2, h3, h4, h5, h6⟩ := h
  refine ⟨h1, fun x hx => ?_, h3, hC2, ?_, ?_⟩
  · obtain ⟨a, b, c, d⟩ := h2 x hx
    exact ⟨a, b, Nat.le_trans c (hC1 _), d⟩
  · intro s x hs hx
    by_cases es : s = r
    · subst es
      rw [rg_us] at hx ⊢
      by_cases ex : x = e
      · subst ex
        refine ⟨he, hC3, fun z => ?_⟩
        rw [rg_un (by omega)]
        exact hp z
      · rw [rg_un ex] at hx
        obtain ⟨a, b, c⟩ := h5 s x hs hx
        refine ⟨a, Nat.le_trans b (hC1 _), fun z => ?_⟩
        by_cases ey : B x = e
        · rw [ey, rg_us]
        · rw [rg_un ey]; exact c z
    · rw [rg_un es] at hx ⊢
      obtain ⟨a, b, c⟩ := h5 s x hs hx
      exact ⟨a, Nat.le_trans b (hC1 _), c⟩
  · intro s hs
    by_cases es : s = r
    · subst es
      rw [rg_us, rg_us]
      obtain ⟨p1, p2⟩ := h6 s hs
      rw [hL] at p1
      refine ⟨rg_pw p1 hA hT, fun x => ?_⟩
      by_cases ex : x = e
      · subst ex
        rw [rg_us]
        simp
      · rw [rg_un ex, ← p2 x, hL]
        simp [ex]
    · rw [rg_un es, rg_un es]
      exact h6 s hs
theorem rg_bf_cg {B' k k' : Nat → Nat} {a b : Nat} (hB : ∀ j, j < E → B' j = B j) (hk : ∀ j, j < E → k' j = k j) (ha : a < E) (hb : b < E) : rg_bf B' k' a b = rg_bf B k a b := by
  unfold rg_bf
  rw [rg_pa_cg (a + 1) a (by omega) (fun j hj => hB j (by omega)), rg_pa_cg (b + 1) b (by omega) (fun j hj => hB j (by omega))]
  refine rg_lx_cg _ _ (fun x hx => hk x ?_) (fun x hx => hk x ?_)
  · have := rg_pa_le B (a + 1) a x (by omega) hx; omega
  · have := rg_pa_le B (b + 1) b x (by omega) hx; omega
theorem rg_P_new (h : rg_P E B S O C K L) {r P : Nat} (hE : E < 40) (hr : r < 3) (hP : P = 40 ∨ (P < E ∧ K r P = true)) :
    rg_P (E + 1) (rg_u B E P) (rg_u S E (C r + 1)) (rg_u O E r) (rg_u C r (C r + 1)) K L := by
  have hh := h
  obtain ⟨h1, h2, h3, h4, h5, h6⟩ := h
  have hC : ∀ x, C x ≤ rg_u C r (C r + 1) x := by
    intro x
    by_cases ex : x = r
    · subst ex; rw [rg_us]; omega
    · rw [rg_un ex]; exact Nat.le_refl _
  refine ⟨by omega, ?_, ?_, ?_, ?_, ?_⟩
  · intro x hx
    by_cases ex : x = E
    · subst ex
      rw [rg_us, rg_us, rg_us, rg_us]
      refine ⟨?_, hr, Nat.le_refl _, fun z => ?_⟩
      · rcases hP with hP | ⟨hP, _⟩
        · exact Or.inr hP
        · exact Or.inl hP
      · rcases hP with hP | ⟨hP, hP2⟩
        · omega
        · rw [rg_un (by omega)]
          have := (h5 r P hr hP2).2.1
          omega
    · have hx' : x < E := by omega
      obtain ⟨a, b, c, d⟩ := h2 x hx'
      rw [rg_un ex, rg_un ex, rg_un ex]
      refine ⟨a, b, Nat.le_trans c (hC _), fun z => ?_⟩
      rw [rg_un (by omega)]
      exact d z
  · intro a b ha hb e1 e2
    by_cases ea : a = E
    · by_cases eb : b = E
      · omega
      · subst ea
        rw [rg_us, rg_un eb] at e1 e2
        have := (h2 b (by omega)).2.2.1
        rw [← e2] at this
        omega
    · by_cases eb : b = E
      · subst eb
        rw [rg_us, rg_un ea] at e1 e2
        have := (h2 a (by omega)).2.2.1
        rw [e2] at this
        omega
      · rw [rg_un ea, rg_un eb] at e1 e2
        exact h3 a b (by omega) (by omega) e1 e2
  · intro x hx
    by_cases ex : x = r
    · subst ex
      rw [rg_us]
      have := h4 x hx
      omega
    · rw [rg_un ex]
      have := h4 x hx
      omega
  · intro s x hs hx
    obtain ⟨a, b, c⟩ := h5 s x hs hx
    rw [rg_un (f := S) (show x ≠ E by omega), rg_un (f := B) (show x ≠ E by omega)]
    exact ⟨by omega, Nat.le_trans b (hC _), c⟩
  · intro s hs
    obtain ⟨p1, p2⟩ := h6 s hs
    refine ⟨p1.imp_of_mem (fun {a b} ha hb hab => ?_), p2⟩
    rw [rg_bf_cg (E := E) (B := B) (k := rg_k S O) (fun j hj => rg_un (by omega)) (fun j hj => ?_) (rg_P_lt hh hs ha) (rg_P_lt hh hs hb)]
    · exact hab
    · unfold rg_k
      rw [rg_un (by omega), rg_un (by omega)]
theorem rg_lx_nn (k : Nat → Nat) {s : List Nat} (h : s ≠ []) : rg_lx k [] s = true := by
  cases s with
  | nil => exact absurd rfl h
  | cons a s => exact rg_lx_0 k a s
/-- the place behind the one that e was inserted behind -/
def rg_At (B : Nat → Nat) (e : Nat) (A : List Nat) : Prop := ((¬ B e < e) ∧ A = []) ∨ (B e < e ∧ ∃ A0, A = A0 ++ [B e])
theorem rg_st0 (h : rg_P E B S O C K L) {r e : Nat} (hr : r < 3) {A T : List Nat} (hL : L r = A ++ T) (hA : rg_At B e A) :
    (∀ x, x ∈ A → rg_bf B (rg_k S O) x e = true) ∧ (∀ x, x ∈ T → rg_lx (rg_k S O) (rg_up B e) (rg_pa B x) = true) := by
  have hw := rg_P_w h hr
  rw [hL, List.pairwise_append] at hw
  obtain ⟨w1, w2, w3⟩ := hw
  rcases hA with ⟨h0, rfl⟩ | ⟨h0, A0, rfl⟩
  · refine ⟨fun x hx => absurd hx (by simp), fun x hx => ?_⟩
    rw [rg_up_f h0]
    exact rg_lx_nn _ (rg_pa_ne B x)
  · have hp : rg_bf B (rg_k S O) (B e) e = true := rg_bf_ab ((rg_pa_m B _ _).mpr (Or.inr ⟨h0, rg_pa_self B _⟩)) (by omega)
    rw [List.pairwise_append] at w1
    refine ⟨fun x hx => ?_, fun x hx => ?_⟩
    · rcases List.mem_append.mp hx with hx | hx
      · exact rg_bf_tr (w1.2.2 x hx (B e) (by simp)) hp
      · rw [List.mem_singleton.mp hx]; exact hp
    · rw [rg_up_t h0]
      exact w3 (B e) (by simp) x hx
theorem rg_stp (h : rg_P E B S O C K L) {r e : Nat} (hr : r < 3) (he : e < E) (hK : K r e = false) {A T : List Nat} {q : Nat} (hL : L r = A ++ q :: T)
    (hA : ∀ x, x ∈ A → rg_bf B (rg_k S O) x e = true) (hT : ∀ x, x ∈ q :: T → rg_lx (rg_k S O) (rg_up B e) (rg_pa B x) = true) :
    (rg_bf B (rg_k S O) q e = true ∧ rg_k S O e < rg_k S O q) ∨ (rg_k S O q < rg_k S O e ∧ ∀ x, x ∈ q :: T → rg_bf B (rg_k S O) e x = true) := by
  have hq : q ∈ L r := by rw [hL]; simp
  have hqE := rg_P_lt h hr hq
  have hqK := (rg_P_m h hr q).mp hq
  have hne : q ≠ e := fun z => by rw [z, hK] at hqK; cases hqK
  have hw := rg_P_w h hr
  rw [hL, List.pairwise_append, List.pairwise_cons] at hw
  obtain ⟨w1, ⟨w2, w4⟩, w3⟩ := hw
  rcases rg_bf_to (B := B) (rg_P_ki h) hqE he hne with h1 | h1
  · exact Or.inl ⟨h1, rg_bfA (rg_P_kp h) hqE (hT q (by simp)) h1⟩
  · right
    have hn : ¬ e ∈ rg_pa B q := fun z => by
      have := rg_P_cl h hr (q + 1) q (by omega) hqK z
      rw [hK] at this
      cases this
    refine ⟨?_, fun x hx => ?_⟩
    · obtain ⟨y, y1, y2, y3⟩ := rg_bfB (rg_P_kp h) he h1 hn
      by_cases ey : y = q
      · rw [← ey]; exact y3
      · exfalso
        have yq : rg_bf B (rg_k S O) y q = true := rg_bf_ab y1 ey
        have yL : y ∈ L r := (rg_P_m h hr y).mpr (rg_P_cl h hr (q + 1) q (by omega) hqK y1)
        rw [hL] at yL
        rcases List.mem_append.mp yL with z | z
        · have z2 := rg_bf_as (hA y z)
          rw [y2] at z2
          cases z2
        · rcases List.mem_cons.mp z with z | z
          · exact ey z
          · have z2 := rg_bf_as (w2 y z)
            rw [yq] at z2
            cases z2
    · rcases List.mem_cons.mp hx with z | z
      · rw [z]; exact h1
      · exact rg_bf_tr h1 (w2 x z)
theorem rg_P_ins (h : rg_P E B S O C K L) {r P : Nat} (hE : E < 40) (hr : r < 3) (hP : P = 40 ∨ (P < E ∧ K r P = true)) {A T : List Nat} (hL : L r = A ++ T)
    (hA : (P = 40 ∧ A = []) ∨ (∃ A0, A = A0 ++ [P])) :
    rg_P (E + 1) (rg_u B E P) (rg_u S E (C r + 1)) (rg_u O E r) (rg_u C r (C r + 1)) (rg_u K r (rg_u (K r) E true)) (rg_u L r (A ++ E :: T)) := by
  have h' := rg_P_new h hE hr hP
  have hAt : rg_At (rg_u B E P) E A := by
    unfold rg_At
    rw [rg_us]
    rcases hA with ⟨a1, a2⟩ | ⟨A0, a1⟩
    · exact Or.inl ⟨by omega, a2⟩
    · refine Or.inr ⟨?_, A0, a1⟩
      have : P ∈ L r := by rw [hL, a1]; simp
      exact rg_P_lt h hr this
  obtain ⟨s1, s2⟩ := rg_st0 h' hr hL hAt
  refine rg_P_lrn h' hr (by omega) (fun z => ?_) hL s1 (fun x hx => ?_) (fun x => Nat.le_refl _) h'.2.2.2.1 ?_
  · rw [rg_us] at z ⊢
    rcases hP with hP | ⟨_, hP⟩
    · omega
    · exact hP
  · have xL : x ∈ L r := by rw [hL]; simp [hx]
    have xE := rg_P_lt h hr xL
    have xK := (rg_P_m h hr x).mp xL
    rcases rg_bf_to (B := rg_u B E P) (rg_P_ki h') (show E < E + 1 by omega) (show x < E + 1 by omega) (show E ≠ x by omega) with z | z
    · exact z
    · exfalso
      have z2 := rg_bfA (rg_P_kp h') (show x < E + 1 by omega) (s2 x hx) z
      unfold rg_k at z2
      rw [rg_us, rg_us, rg_un (by omega), rg_un (by omega)] at z2
      have z3 := (h.2.2.2.2.1 r x hr xK).2.1
      have z4 := (h.2.1 x xE).2.1
      omega
  · rw [rg_us, rg_us]; exact Nat.le_refl _
end
/-! counting -/
def rg_cn (p : Nat → Bool) : Nat → Nat
  | 0 => 0
  | n + 1 => rg_cn p n + (if p n then 1 else 0)
theorem rg_cn_t {p : Nat → Bool} {n : Nat} (h : p n = true) : rg_cn p (n + 1) = rg_cn p n + 1 := by rw [rg_cn, if_pos h]
theorem rg_cn_f {p : Nat → Bool} {n : Nat} (h : p n = false) : rg_cn p (n + 1) = rg_cn p n := by
  rw [rg_cn, h]; rfl
theorem rg_cn_eq (p : Nat → Bool) (n : Nat) : rg_cn p n = (List.range n).countP p := by
  induction n with
  | zero => rfl
  | succ n ih => rw [rg_cn, ih, List.range_succ, List.countP_append, List.countP_singleton]
theorem rg_cn_cg {p q : Nat → Bool} : ∀ n, (∀ x, x < n → p x = q x) → rg_cn p n = rg_cn q n := by
  intro n
  induction n with
  | zero => intro _; rfl
  | succ n ih => intro h; rw [rg_cn, rg_cn, ih (fun x hx => h x (by omega)), h n (by omega)]
theorem rg_cn_le (p : Nat → Bool) (n : Nat) : rg_cn p n ≤ n := by
  induction n with
  | zero => exact Nat.le_refl _
  | succ n ih =>
    cases h : p n with
    | true => rw [rg_cn_t h]; omega
    | false => rw [rg_cn_f h]; omega
section
variable {E : Nat} {B S O C : Nat → Nat} {K : Nat → Nat → Bool} {L : Nat → List Nat}
theorem rg_P_nd (h : rg_P E B S O C K L) {r : Nat} (hr : r < 3) : (L r).Nodup :=
  (rg_P_w h hr).imp (fun {a b} hab z => by rw [z, rg_bf_ir] at hab; cases hab)
theorem rg_P_ct (h : rg_P E B S O C K L) {r : Nat} (hr : r < 3) (p : Nat → Bool) : rg_cn (fun x => p x && K r x) E = (L r).countP p := by
  have hp : List.Perm (L r) ((List.range E).filter (K r)) := by
    refine (List.perm_ext_iff_of_nodup (rg_P_nd h hr) (List.Nodup.sublist List.filter_sublist List.nodup_range)).mpr (fun a => ?_)
    rw [rg_P_m h hr, List.mem_filter, List.mem_range]
    exact ⟨fun z => ⟨(h.2.2.2.2.1 r a hr z).1, z⟩, fun z => z.2⟩
  rw [rg_cn_eq, hp.countP_eq, List.countP_filter]
theorem rg_P_ln (h : rg_P E B S O C K L) {r : Nat} (hr : r < 3) : (L r).length = rg_cn (K r) E := by
  have h1 := rg_P_ct h hr (fun _ => true)
  rw [List.countP_eq_length.mpr (fun _ _ => rfl)] at h1
  rw [← h1]
  exact rg_cn_cg E (fun x _ => (Bool.true_and _).symm)
theorem rg_P_rk (h : rg_P E B S O C K L) {r e : Nat} (hr : r < 3) {A T : List Nat} (hL : L r = A ++ e :: T) (p : Nat → Bool) :
    rg_cn (fun x => !decide (x = e) && (K r x && p x && rg_bf B (rg_k S O) x e)) E = A.countP p := by
  have h1 := rg_P_ct h hr (fun x => !decide (x = e) && (p x && rg_bf B (rg_k S O) x e))
  rw [hL, List.countP_append] at h1
  have hw := rg_P_w h hr
  rw [hL, List.pairwise_append, List.pairwise_cons] at hw
  obtain ⟨w1, ⟨w2, w4⟩, w3⟩ := hw
  have hA : A.countP (fun x => !decide (x = e) && (p x && rg_bf B (rg_k S O) x e)) = A.countP p := by
    refine List.countP_congr (fun x hx => ?_)
    have h2 := w3 x hx e (by simp)
    have h3 : x ≠ e := fun z => by rw [z, rg_bf_ir] at h2; cases h2
    simp [h2, h3]
  have hT : (e :: T).countP (fun x => !decide (x = e) && (p x && rg_bf B (rg_k S O) x e)) = 0 := by
    refine List.countP_eq_zero.mpr (fun x hx => ?_)
    rcases List.mem_cons.mp hx with z | z
    · simp [z]
    · simp [rg_bf_as (w2 x z)]
  rw [hA, hT, Nat.add_zero] at h1
  rw [← h1]
  refine rg_cn_cg E (fun x _ => ?_)
  cases K r x <;> cases p x <;> simp
end
end
section
/-! numbers, indices, bits, chains -/
def rg_lb : Bool → Int32
  | true => 1
  | false => 0
theorem rg_lt1 : ¬ rg_lb true = 0 := by decide
theorem rg_lf0 : rg_lb false = 0 := rfl
theorem rg_lb0 {b : Bool} : rg_lb b = 0 ↔ b = false := by cases b <;> decide
theorem rg_x41 (r e : Nat) : nI r * 41 + nI e = nI (r * 41 + e) := by
  rw [show (41 : Int32) = nI 41 from rfl, pk_mul, nI_add]
theorem rg_x40 (r e : Nat) : nI r * 40 + nI e = nI (r * 40 + e) := by
  rw [show (40 : Int32) = nI 40 from rfl, pk_mul, nI_add]
theorem rg_i41 {r e : Nat} (hr : r < 3) (he : e ≤ 40) : vp_in (nI r * 41 + nI e) 123 := by
  rw [rg_x41]; exact vp_in_nI (by omega) (by omega)
theorem rg_c41 {r e : Nat} (hr : r < 3) (he : e ≤ 40) : (nI r * 41 + nI e).toNatClampNeg = r * 41 + e := by
  rw [rg_x41]; exact nI_clamp (by omega)
theorem rg_i40 {r e : Nat} (hr : r < 3) (he : e < 40) : vp_in (nI r * 40 + nI e) 120 := by
  rw [rg_x40]; exact vp_in_nI (by omega) (by omega)
theorem rg_i16 {a e : Nat} (ha : a < 40) (he : e < 40) : vp_in (nI a * 40 + nI e) 1600 := by
  rw [rg_x40]; exact vp_in_nI (by omega) (by omega)
theorem rg_c40 {r e : Nat} (hr : r < 40) (he : e < 40) : (nI r * 40 + nI e).toNatClampNeg = r * 40 + e := by
  rw [rg_x40]; exact nI_clamp (by omega)
theorem rg_i3 {r : Nat} (hr : r < 3) : vp_in (nI r) 3 := vp_in_nI hr (by omega)
theorem rg_i4 {e : Nat} (he : e < 40) : vp_in (nI e) 40 := vp_in_nI he (by omega)
theorem rg_c {e : Nat} (he : e < 1000) : (nI e).toNatClampNeg = e := nI_clamp (by omega)
theorem rg_01 (x : Int64) : x &&& 1 = 0 ∨ x &&& 1 = 1 := by
  rw [← Int64.toBitVec_inj, ← Int64.toBitVec_inj, Int64.toBitVec_and]
  show x.toBitVec &&& 1#64 = 0#64 ∨ x.toBitVec &&& 1#64 = 1#64
  generalize x.toBitVec = y
  rcases Nat.mod_two_eq_zero_or_one y.toNat with h | h
  · left
    apply BitVec.eq_of_toNat_eq
    rw [BitVec.toNat_and]
    show y.toNat &&& 1 = 0
    rw [Nat.and_one_is_mod]; exact h
  · right
    apply BitVec.eq_of_toNat_eq
    rw [BitVec.toNat_and]
    show y.toNat &&& 1 = 1
    rw [Nat.and_one_is_mod]; exact h
theorem rg_b1 {w : Int64} {e : Nat} (he : e < 64) : ((w.toUInt64 >>> ((nI e).toInt64.toUInt64 &&& Int64.toUInt64 63)).toInt64 &&& 1) = 1 ↔ w.toBitVec.getLsbD e = true := by
  rw [wb_cu e he]
  have h0 := ts_bit (w := w) (s := UInt64.ofNat e) (j := e) he (by
    show (BitVec.ofNat 64 e).toNat = e
    rw [BitVec.toNat_ofNat, Nat.mod_eq_of_lt (by omega)])
  generalize (w.toUInt64 >>> UInt64.ofNat e).toInt64 = x at h0 ⊢
  have h1 : (0 : Int64) ≠ 1 := by decide
  rcases rg_01 x with h | h
  · have h2 := h0.mp h
    rw [h, h2]
    exact ⟨fun z => absurd z h1, fun z => by cases z⟩
  · refine ⟨fun _ => ts_nf (fun z => ?_), fun _ => h⟩
    have h3 := h0.mpr z
    rw [h] at h3
    exact h1 h3.symm
theorem rg_1s : ∀ k, k < 64 → ((1 : Int64) <<< ((nI k).toInt64 &&& 63)).toBitVec = BitVec.twoPow 64 k := by decide +kernel
theorem rg_or {w : Int64} {e : Nat} (he : e < 64) (j : Nat) : (w ||| ((1 : Int64) <<< ((nI e).toInt64 &&& 63))).toBitVec.getLsbD j = (w.toBitVec.getLsbD j || decide (j = e)) := by
  rw [Int64.toBitVec_or, BitVec.getLsbD_or, rg_1s e he, BitVec.getLsbD_twoPow]
  by_cases h : e = j
  · subst h; simp [he]
  · have h' : ¬ j = e := fun z => h z.symm
    simp [h, h']
def rg_hd : List Nat → Int32
  | [] => -1
  | e :: _ => nI e
def rg_ch (nx : Nat → Int32) (r : Nat) : Nat → List Nat → Prop
  | a, [] => nx (r * 41 + a) = -1
  | a, e :: t => nx (r * 41 + a) = nI e ∧ rg_ch nx r e t
def rg_fr (nx : Nat → Int32) (r : Nat) : List Nat → Prop
  | [] => True
  | e :: t => rg_ch nx r e t
def rg_la : Nat → List Nat → Nat
  | a, [] => a
  | _, b :: t => rg_la b t
section
variable {nx nx' : Nat → Int32} {r e : Nat}
theorem rg_ch_h {a : Nat} {l : List Nat} (h : rg_ch nx r a l) : nx (r * 41 + a) = rg_hd l := by
  cases l with
  | nil => exact h
  | cons b t => exact h.1
theorem rg_ch_f {a : Nat} {l : List Nat} (h : rg_ch nx r a l) : rg_fr nx r l := by
  cases l with
  | nil => exact True.intro
  | cons b t => exact h.2
theorem rg_ch_ap {T : List Nat} : ∀ (A : List Nat) (a : Nat), rg_ch nx r a (A ++ T) → rg_ch nx r (rg_la a A) T := by
  intro A
  induction A with
  | nil => intro a h; exact h
  | cons b A ih => intro a h; exact ih b h.2
theorem rg_la_ap (b : Nat) : ∀ (A : List Nat) (a : Nat), rg_la a (A ++ [b]) = b := by
  intro A
  induction A with
  | nil => intro a; rfl
  | cons c A ih => intro a; exact ih c
theorem rg_la_m : ∀ (A : List Nat) (a : Nat), rg_la a A ∈ a :: A := by
  intro A
  induction A with
  | nil => intro a; exact List.mem_cons_self
  | cons c A ih => intro a; exact List.mem_cons_of_mem a (ih c)
theorem rg_ch_cg : ∀ (l : List Nat) (a : Nat), (∀ x, x ∈ a :: l → nx' (r * 41 + x) = nx (r * 41 + x)) → rg_ch nx r a l → rg_ch nx' r a l := by
  intro l
  induction l with
  | nil => intro a h hc; exact (h a (by simp)).trans hc
  | cons b l ih => intro a h hc; exact ⟨(h a (by simp)).trans hc.1, ih b (fun x hx => h x (List.mem_cons_of_mem a hx)) hc.2⟩
theorem rg_ch_in {T : List Nat} : ∀ (A : List Nat) (a : Nat), rg_ch nx r a (A ++ T) → (a :: (A ++ T)).Nodup → (¬ e ∈ a :: (A ++ T)) → nx' (r * 41 + e) = nx (r * 41 + rg_la a A) →
    nx' (r * 41 + rg_la a A) = nI e → (∀ x, x ≠ e → x ≠ rg_la a A → nx' (r * 41 + x) = nx (r * 41 + x)) → rg_ch nx' r a (A ++ e :: T) := by
  intro A
  induction A with
  | nil =>
    intro a hc hn he h1 h2 h3
    refine ⟨h2, ?_⟩
    have hc' : rg_ch nx r a T := hc
    have hn' : (a :: T).Nodup := hn
    have he' : ¬ e ∈ a :: T := he
    have h1' : nx' (r * 41 + e) = nx (r * 41 + a) := h1
    cases T with
    | nil => exact h1'.trans hc'
    | cons b t =>
      refine ⟨h1'.trans hc'.1, rg_ch_cg t b (fun x hx => h3 x ?_ ?_) hc'.2⟩
      · exact fun z => he' (List.mem_cons_of_mem a (z ▸ hx))
      · exact fun z => (List.nodup_cons.mp hn').1 (by
          have z' : x = a := z
          rw [← z']; exact hx)
  | cons c A ih =>
    intro a hc hn he h1 h2 h3
    have hn2 := List.nodup_cons.mp hn
    have he2 : ¬ e ∈ c :: (A ++ T) := fun z => he (List.mem_cons_of_mem a z)
    refine ⟨(h3 a (fun z => he (by rw [z]; exact List.mem_cons_self)) (fun z => ?_)).trans hc.1, ih c hc.2 hn2.2 he2 h1 h2 h3⟩
    have hm : rg_la c A ∈ c :: A := rg_la_m A c
    have z' : a = rg_la c A := z
    rw [← z'] at hm
    apply hn2.1
    rcases List.mem_cons.mp hm with q | q
    · rw [q]; exact List.mem_cons_self
    · exact List.mem_cons_of_mem c (List.mem_append_left T q)
end
/-! what the arrays hold -/
def rg_A (E : Nat) (S O C : Nat → Nat) (st og ck : Nat → Int32) : Prop :=
  (∀ e, e < E → st e = nI (S e)) ∧ (∀ e, e < E → og e = nI (O e)) ∧ (∀ r, r < 3 → ck r = nI (C r))
def rg_X (E : Nat) (B : Nat → Nat) (K G : Nat → Nat → Bool) (L : Nat → List Nat) (bh : Nat → Int32) (kn gn : Nat → Int64) (nx : Nat → Int32) : Prop :=
  (∀ e, e < E → bh e = nI (B e)) ∧ (∀ r e, r < 3 → e < 40 → (kn r).toBitVec.getLsbD e = K r e) ∧ (∀ r e, r < 3 → e < 40 → (gn r).toBitVec.getLsbD e = G r e) ∧ (∀ r, r < 3 → rg_ch nx r 40 (L r))
def rg_Y (E : Nat) (B : Nat → Nat) (K G : Nat → Nat → Bool) (pr ab ky kd : Nat → Int32) : Prop :=
  (∀ e, e < E → pr e = if B e < e then nI (B e) else -5) ∧ (∀ a x, a < E → x < 40 → (ab (a * 40 + x) = 0 ↔ ¬ x ∈ rg_pa B a)) ∧ (∀ r e, r < 3 → e < 40 → ky (r * 40 + e) = rg_lb (K r e)) ∧ (∀ r e, r < 3 → e < 40 → kd (r * 40 + e) = rg_lb (G r e))
/-! a place in a text -/
def rg_at (l : List Nat) (x : Int32) : Option Nat := if x < 0 then none else l[x.toNatClampNeg]?
theorem rg_at_n {l : List Nat} {x : Int32} (h : x < 0) : rg_at l x = none := if_pos h
theorem rg_at_p {l : List Nat} {p : Nat} (h : p < 2 ^ 31) : rg_at l (nI p) = l[p]? := by
  rw [rg_at, if_neg (nI_pos h), nI_clamp h]
theorem rg_at_m {l : List Nat} {x : Int32} {e : Nat} (h : rg_at l x = some e) : e ∈ l := by
  unfold rg_at at h
  by_cases hx : x < 0
  · rw [if_pos hx] at h; cases h
  · rw [if_neg hx] at h
    exact List.mem_of_getElem? h
def rg_ox : Option Nat → Int32
  | none => -1
  | some e => nI e
def rg_oy : Option Nat → Int32
  | none => -5
  | some e => nI e
end
section
/-! the component's walks -/
theorem rg_xbad {r : Nat} (hr : r < 3) {post : Int32 → Prop} (h : post 0) : wpX_bad post (nI r) :=
  br_f (nI_pos (by omega)) (br_t (nI_le (a := r) (b := 2) (by omega) (by omega)) h)
theorem rg_ybad {r : Nat} (hr : r < 3) {post : Int32 → Prop} {v : SY} (h : post 1) : wpY_isReplica post v (nI r) :=
  br_f (nI_pos (by omega)) (br_f (nI_ge (a := r) (b := 3) (by omega) (by omega)) h)
theorem rg_rep (x : Int32) : (∃ r, r < 3 ∧ x = nI r) ∨ ((∀ post : Int32 → Prop, post 1 → wpX_bad post x) ∧ (∀ (post : Int32 → Prop) (v : SY), post 0 → wpY_isReplica post v x)) := by
  by_cases h0 : x < 0
  · exact Or.inr ⟨fun post h => br_t h0 h, fun post v h => br_t h0 h⟩
  · obtain ⟨j, hj, rfl⟩ := nI_of h0
    by_cases h3 : j < 3
    · exact Or.inl ⟨j, h3, rfl⟩
    · exact Or.inr ⟨fun post h => br_f h0 (br_f (nI_ge (a := 2) (b := j) (by omega) hj) h), fun post v h => br_f h0 (br_t (nI_le (a := 3) (b := j) (by omega) hj) h)⟩
theorem rg_xin {w : Int64} {e : Nat} {b : Bool} (he : e < 64) (hb : w.toBitVec.getLsbD e = b) {post : Int32 → Prop} (h : post (rg_lb b)) : wpX_in post w (nI e) := by
  cases b with
  | true => exact br_t ((rg_b1 he).mpr hb) h
  | false => exact br_f (fun z => by rw [rg_b1 he, hb] at z; cases z) h
section
variable {E : Nat} {B S O C : Nat → Nat} {K G : Nat → Nat → Bool} {L : Nat → List Nat} {le st og bh ck nx : Nat → Int32} {kn gn : Nat → Int64} {r : Nat}
theorem rg_xkn (hX : rg_X E B K G L bh kn gn nx) (hr : r < 3) {e : Nat} (he : e < 40) {post : Int32 → Prop} (h : post (rg_lb (K r e))) : wpX_in post (kn (nI r).toNatClampNeg) (nI e) :=
  rg_xin (by omega) (by rw [rg_c (by omega)]; exact hX.2.1 r e hr he) h
theorem rg_xgn (hX : rg_X E B K G L bh kn gn nx) (hr : r < 3) {e : Nat} (he : e < 40) {post : Int32 → Prop} (h : post (rg_lb (G r e))) : wpX_in post (gn (nI r).toNatClampNeg) (nI e) :=
  rg_xin (by omega) (by rw [rg_c (by omega)]; exact hX.2.2.1 r e hr he) h
theorem rg_xsh (hX : rg_X E B K G L bh kn gn nx) (hr : r < 3) {e : Nat} (he : e < 40) {post : Int32 → Prop} (h : post (rg_lb (!G r e))) : wpX_shows post ((nI E), le, st, og, bh, ck, kn, gn, nx) (nI r) (nI e) := by
  refine And.intro (rg_i3 hr) (rg_xgn hX hr he ?_)
  cases hG : G r e with
  | true => rw [hG] at h; exact br_f rg_lt1 h
  | false => rw [hG] at h; exact br_t rfl h
theorem rg_xtl (hX : rg_X E B K G L bh kn gn nx) (hE : E ≤ 40) (hr : r < 3) {post : Int32 → Prop} : ∀ d k : Nat, k + d = E → post (nI (rg_cn (fun x => K r x && !G r x) E)) →
    wX_textLength_4 post (nI r) (nI E) le st og bh ck kn gn nx (d + 1) (nI (rg_cn (fun x => K r x && !G r x) k)) (nI k) := by
  intro d
  induction d with
  | zero =>
    intro k hk hp
    obtain rfl : k = E := by omega
    exact br_t (nI_le (Nat.le_refl _) (by omega)) hp
  | succ d ih =>
    intro k hk hp
    have hn := ih (k + 1) (by omega) hp
    refine br_f (nI_ge (by omega) (by omega)) (And.intro (rg_i3 hr) (rg_xkn hX hr (by omega) ?_))
    cases hK : K r k with
    | false =>
      rw [rg_cn_f (by simp [hK])] at hn
      exact br_t rfl (nm_r (nI_1 k) hn)
    | true =>
      refine br_f rg_lt1 (rg_xsh hX hr (by omega) ?_)
      cases hG : G r k with
      | true =>
        rw [rg_cn_f (by simp [hG])] at hn
        exact br_t rfl (nm_r (nI_1 k) hn)
      | false =>
        rw [rg_cn_t (by simp [hK, hG])] at hn
        exact br_f rg_lt1 (nm_r (nI_1 _) (nm_r (nI_1 k) hn))
theorem rg_xtL (hX : rg_X E B K G L bh kn gn nx) (hE : E ≤ 40) (hr : r < 3) {post : Int32 → Prop} (h : post (nI (rg_cn (fun x => K r x && !G r x) E))) : wpX_textLength post ((nI E), le, st, og, bh, ck, kn, gn, nx) (nI r) :=
  Exists.intro (E + 1) (rg_xtl hX hE hr E 0 (by omega) h)
theorem rg_xkl (hX : rg_X E B K G L bh kn gn nx) (hE : E ≤ 40) (hr : r < 3) {post : Int32 → Prop} : ∀ d k : Nat, k + d = E → post (nI (rg_cn (K r) E)) →
    wX_known_13 post (nI r) (nI E) le st og bh ck kn gn nx (d + 1) (nI (rg_cn (K r) k)) (nI k) := by
  intro d
  induction d with
  | zero =>
    intro k hk hp
    obtain rfl : k = E := by omega
    exact br_t (nI_le (Nat.le_refl _) (by omega)) hp
  | succ d ih =>
    intro k hk hp
    have hn := ih (k + 1) (by omega) hp
    refine br_f (nI_ge (by omega) (by omega)) (And.intro (rg_i3 hr) (rg_xkn hX hr (by omega) ?_))
    cases hK : K r k with
    | false =>
      rw [rg_cn_f hK] at hn
      exact br_t rfl (nm_r (nI_1 k) hn)
    | true =>
      rw [rg_cn_t hK] at hn
      exact br_f rg_lt1 (nm_r (nI_1 _) (nm_r (nI_1 k) hn))
theorem rg_xsa (hX : rg_X E B K G L bh kn gn nx) (hr : r < 3) {post : Int32 → Prop} : ∀ (l : List Nat) (i p n : Nat), rg_fr nx r l → (∀ x, x ∈ l → x < 40) → i + l.length ≤ 40 → l.length < n → p < 2 ^ 31 →
    post (rg_ox ((l.filter (fun x => !G r x))[p]?)) → wX_shownAt_25 post (nI r) (nI E) le st og bh ck kn gn nx n (nI p) (rg_hd l) (nI i) := by
  intro l
  induction l with
  | nil =>
    intro i p n _ _ hi hn hp hpost
    cases n with
    | zero => exact absurd hn (Nat.not_lt_zero _)
    | succ n =>
      have hp' : post (-1) := by simpa [rg_ox] using hpost
      have hi' : i ≤ 40 := by simpa using hi
      exact pk_le 40 i (fun _ => hp') (fun _ => br_t (by decide) hp')
  | cons e t ih =>
    intro i p n hf hl hi hn hp hpost
    cases n with
    | zero => exact absurd hn (Nat.not_lt_zero _)
    | succ n =>
      show wX_shownAt_25 post (nI r) (nI E) le st og bh ck kn gn nx (n + 1) (nI p) (nI e) (nI i)
      simp only [List.length_cons] at hi hn
      have he : e < 40 := hl e (by simp)
      have hf' : rg_ch nx r e t := hf
      have hnx : nx (nI r * 41 + nI e).toNatClampNeg = rg_hd t := by rw [rg_c41 hr (by omega)]; exact rg_ch_h hf'
      refine br_f (nI_ge (b := 40) (by omega) (by decide)) (br_f (nI_pos (by omega)) (rg_xsh hX hr he ?_))
      cases hG : G r e with
      | true =>
        refine br_t rfl (And.intro (rg_i41 hr (by omega)) (nm_r hnx (nm_r (nI_1 i) ?_)))
        exact ih (i + 1) p n (rg_ch_f hf') (fun x hx => hl x (by simp [hx])) (by omega) (by omega) hp (by simpa [hG] using hpost)
      | false =>
        refine br_f rg_lt1 ?_
        cases p with
        | zero => exact br_t rfl (by simpa [hG, rg_ox] using hpost)
        | succ p =>
          refine br_f (nI_ne0 (by omega) hp) (nm_r (pk_m1 p) (And.intro (rg_i41 hr (by omega)) (nm_r hnx (nm_r (nI_1 i) ?_))))
          exact ih (i + 1) p n (rg_ch_f hf') (fun x hx => hl x (by simp [hx])) (by omega) (by omega) (by omega) (by simpa [hG] using hpost)
theorem rg_xhd (hX : rg_X E B K G L bh kn gn nx) (hr : r < 3) : nx (nI r * 41 + 40).toNatClampNeg = rg_hd (L r) := by
  have h : (nI r * 41 + 40).toNatClampNeg = r * 41 + 40 := rg_c41 hr (Nat.le_refl 40)
  rw [h]
  exact rg_ch_h (hX.2.2.2 r hr)
theorem rg_Pl (hP : rg_P E B S O C K L) (hr : r < 3) : (∀ x, x ∈ L r → x < 40) ∧ (L r).length ≤ 40 := by
  have h1 := hP.1
  have h2 := rg_cn_le (K r) E
  rw [← rg_P_ln hP hr] at h2
  exact ⟨fun x hx => by have := rg_P_lt hP hr hx; omega, by omega⟩
theorem rg_xsA (hP : rg_P E B S O C K L) (hX : rg_X E B K G L bh kn gn nx) (hr : r < 3) {post : Int32 → Prop} (x : Int32) (h : post (rg_ox (rg_at ((L r).filter (fun x => !G r x)) x))) : wpX_shownAt post ((nI E), le, st, og, bh, ck, kn, gn, nx) (nI r) x := by
  by_cases hx : x < 0
  · rw [rg_at_n hx] at h
    exact br_f (Int32.not_le.mpr hx) h
  · obtain ⟨p, hp, rfl⟩ := nI_of hx
    rw [rg_at_p hp] at h
    obtain ⟨q1, q2⟩ := rg_Pl hP hr
    exact br_t (nI_pos' hp) (And.intro (rg_i41 (e := 40) hr (Nat.le_refl 40)) (nm_r (rg_xhd hX hr) (Exists.intro 41 (rg_xsa hX hr (L r) 0 p 41 (rg_ch_f (hX.2.2.2 r hr)) q1 (by omega) (by omega) hp h))))
theorem rg_xah (hA : rg_A E S O C st og ck) (hP : rg_P E B S O C K L) {q e : Nat} (hq : q < E) (he : e < E) {post : Int32 → Prop} (h : post (rg_lb (decide (rg_k S O e < rg_k S O q)))) : wpX_ahead post ((nI E), le, st, og, bh, ck, kn, gn, nx) (nI q) (nI e) := by
  obtain ⟨hE, h2, -, h4, -, -⟩ := hP
  have b1 := h2 q hq
  have b2 := h2 e he
  have b3 := h4 _ b1.2.1
  have b4 := h4 _ b2.2.1
  have cq : (nI q).toNatClampNeg = q := rg_c (by omega)
  have ce : (nI e).toNatClampNeg = e := rg_c (by omega)
  have iq : vp_in (nI q) 40 := rg_i4 (by omega)
  have ie : vp_in (nI e) 40 := rg_i4 (by omega)
  unfold wpX_ahead
  dsimp only
  rw [cq, ce, hA.1 q hq, hA.1 e he, hA.2.1 q hq, hA.2.1 e he]
  refine ⟨iq, ie, pk_eq (S q) (S e) (fun z => ⟨iq, ie, pk_le (O q) (O e) (fun z2 => ?_) (fun z2 => ?_)⟩) (fun z => ⟨iq, ie, pk_le (S q) (S e) (fun z2 => ?_) (fun z2 => ?_)⟩)⟩
  · rw [decide_eq_false (by unfold rg_k; omega)] at h; exact h
  · rw [decide_eq_true (by unfold rg_k; omega)] at h; exact h
  · rw [decide_eq_false (by unfold rg_k; omega)] at h; exact h
  · rw [decide_eq_true (by unfold rg_k; omega)] at h; exact h
theorem rg_xig (hP : rg_P E B S O C K L) (hA : rg_A E S O C st og ck) (hX : rg_X E B K G L bh kn gn nx) (hr : r < 3) {e : Nat} (he : e < E) (hK : K r e = false) : ∀ (T A : List Nat) (i n : Nat), L r = A ++ T →
    (∀ x, x ∈ A → rg_bf B (rg_k S O) x e = true) → (∀ x, x ∈ T → rg_lx (rg_k S O) (rg_up B e) (rg_pa B x) = true) → i + T.length ≤ 40 → T.length < n →
    ∃ A' T', L r = A' ++ T' ∧ (∀ x, x ∈ A' → rg_bf B (rg_k S O) x e = true) ∧ (∀ x, x ∈ T' → rg_bf B (rg_k S O) e x = true) ∧
      ∀ post : SX → Prop, wX_integrate_68 post (nI r) (nI e) (nI (rg_la 40 A')) (nI E) le st og bh ck kn gn nx → wX_integrate_23 post (nI r) (nI e) (nI E) le st og bh ck kn gn nx n (nI (rg_la 40 A)) (rg_hd T) (nI i) := by
  intro T
  induction T with
  | nil =>
    intro A i n hL h1 h2 hi hn
    refine ⟨A, [], hL, h1, fun x hx => absurd hx (by simp), fun post J => ?_⟩
    cases n with
    | zero => exact absurd hn (Nat.not_lt_zero _)
    | succ n =>
      have hi' : i ≤ 40 := by simpa using hi
      exact pk_le 40 i (fun _ => J) (fun _ => br_t (by decide) J)
  | cons q T ih =>
    intro A i n hL h1 h2 hi hn
    cases n with
    | zero => exact absurd hn (Nat.not_lt_zero _)
    | succ n =>
      simp only [List.length_cons] at hi hn
      have hqL : q ∈ L r := by rw [hL]; simp
      have hqE := rg_P_lt hP hr hqL
      have hE := hP.1
      have hch : rg_ch nx r q T := by
        have c1 := hX.2.2.2 r hr
        rw [hL] at c1
        exact (rg_ch_ap A 40 c1).2
      have hnx : nx (nI r * 41 + nI q).toNatClampNeg = rg_hd T := by rw [rg_c41 hr (by omega)]; exact rg_ch_h hch
      rcases rg_stp hP hr he hK hL h1 h2 with ⟨s1, s2⟩ | ⟨s1, s2⟩
      · obtain ⟨A', T', g1, g2, g3, g4⟩ := ih (A ++ [q]) (i + 1) n (by rw [hL]; simp) (fun x hx => by
          rcases List.mem_append.mp hx with z | z
          · exact h1 x z
          · rw [List.mem_singleton.mp z]; exact s1) (fun x hx => h2 x (by simp [hx])) (by omega) (by omega)
        refine ⟨A', T', g1, g2, g3, fun post J => ?_⟩
        have g5 := g4 post J
        rw [rg_la_ap] at g5
        show wX_integrate_23 post (nI r) (nI e) (nI E) le st og bh ck kn gn nx (n + 1) (nI (rg_la 40 A)) (nI q) (nI i)
        refine br_f (nI_ge (b := 40) (by omega) (by decide)) (br_f (nI_pos (by omega)) (rg_xah hA hP hqE he ?_))
        rw [decide_eq_true s2]
        exact br_f rg_lt1 (And.intro (rg_i41 hr (by omega)) (nm_r hnx (nm_r (nI_1 i) g5)))
      · refine ⟨A, q :: T, hL, h1, s2, fun post J => ?_⟩
        show wX_integrate_23 post (nI r) (nI e) (nI E) le st og bh ck kn gn nx (n + 1) (nI (rg_la 40 A)) (nI q) (nI i)
        refine br_f (nI_ge (b := 40) (by omega) (by decide)) (br_f (nI_pos (by omega)) (rg_xah hA hP hqE he ?_))
        rw [decide_eq_false (by omega)]
        exact br_t rfl J
theorem rg_x68 (hr : r < 3) {e a : Nat} (he : e < 40) (ha : a ≤ 40) {post : SX → Prop}
    (h1 : st e ≤ ck r → post ((nI E), le, st, og, bh, ck, (vp_updL kn r (kn r ||| ((1 : Int64) <<< ((nI e).toInt64 &&& 63)))), gn, (upd (upd nx (r * 41 + e) (nx (r * 41 + a))) (r * 41 + a) (nI e))))
    (h2 : ¬ st e ≤ ck r → post ((nI E), le, st, og, bh, (upd ck r (st e)), (vp_updL kn r (kn r ||| ((1 : Int64) <<< ((nI e).toInt64 &&& 63)))), gn, (upd (upd nx (r * 41 + e) (nx (r * 41 + a))) (r * 41 + a) (nI e)))) :
    wX_integrate_68 post (nI r) (nI e) (nI a) (nI E) le st og bh ck kn gn nx := by
  unfold wX_integrate_68 wpX_linkBehind
  dsimp only
  rw [rg_c41 hr (by omega), rg_c41 hr ha, rg_c (show r < 1000 by omega), rg_c (show e < 1000 by omega)]
  exact ⟨rg_i41 hr ha, rg_i41 hr (by omega), nm_e ⟨rg_i41 hr ha, nm_e ⟨rg_i3 hr, rg_i3 hr, nm_e ⟨rg_i3 hr, rg_i4 he, br_c h1 (fun z => ⟨rg_i4 he, rg_i3 hr, nm_e (h2 z)⟩)⟩⟩⟩⟩
theorem rg_at0 (hP : rg_P E B S O C K L) (hr : r < 3) {e : Nat} (he : e < E) (hp : B e < e → K r (B e) = true) : ∃ A T, L r = A ++ T ∧ rg_At B e A ∧ rg_la 40 A = B e := by
  by_cases h : B e < e
  · obtain ⟨A0, T, hT⟩ := List.append_of_mem ((rg_P_m hP hr (B e)).mpr (hp h))
    exact ⟨A0 ++ [B e], T, by rw [hT]; simp, Or.inr ⟨h, A0, rfl⟩, rg_la_ap _ _ _⟩
  · refine ⟨[], L r, rfl, Or.inl ⟨h, rfl⟩, ?_⟩
    rcases (hP.2.1 e he).1 with z | z
    · exact absurd z h
    · exact z.symm
theorem rg_xit (hP : rg_P E B S O C K L) (hA : rg_A E S O C st og ck) (hX : rg_X E B K G L bh kn gn nx) (hr : r < 3) {e : Nat} (he : e < E) (hK : K r e = false) (hp : B e < e → K r (B e) = true) :
    ∃ A T, L r = A ++ T ∧ (∀ x, x ∈ A → rg_bf B (rg_k S O) x e = true) ∧ (∀ x, x ∈ T → rg_bf B (rg_k S O) e x = true) ∧
      ∀ post : SX → Prop, wX_integrate_68 post (nI r) (nI e) (nI (rg_la 40 A)) (nI E) le st og bh ck kn gn nx → wpX_integrate post ((nI E), le, st, og, bh, ck, kn, gn, nx) (nI r) (nI e) := by
  obtain ⟨A0, T0, hL, hAt, hla⟩ := rg_at0 hP hr he hp
  obtain ⟨s1, s2⟩ := rg_st0 hP hr hL hAt
  have hlen := (rg_Pl hP hr).2
  rw [hL, List.length_append] at hlen
  obtain ⟨A, T, g1, g2, g3, g4⟩ := rg_xig hP hA hX hr he hK T0 A0 0 41 hL s1 s2 (by omega) (by omega)
  refine ⟨A, T, g1, g2, g3, fun post J => ?_⟩
  have hE := hP.1
  have g5 := g4 post J
  rw [hla] at g5
  have hB : B e ≤ 40 := by
    rcases (hP.2.1 e he).1 with z | z <;> omega
  have hb : bh (nI e).toNatClampNeg = nI (B e) := by rw [rg_c (by omega)]; exact hX.1 e he
  have hnx : nx (nI r * 41 + nI (B e)).toNatClampNeg = rg_hd T0 := by
    rw [rg_c41 hr hB]
    have c1 := hX.2.2.2 r hr
    rw [hL] at c1
    have c2 := rg_ch_ap A0 40 c1
    rw [hla] at c2
    exact rg_ch_h c2
  exact And.intro (rg_i4 (by omega)) (nm_r hb (And.intro (rg_i41 hr hB) (nm_r hnx (Exists.intro 41 g5))))
/-! how many stand before one -/
theorem rg_xcb (hX : rg_X E B K G L bh kn gn nx) (hr : r < 3) {e : Nat} (he : e < 40) {so : Bool} {post : Int32 → Prop} : ∀ (A T : List Nat) (i m n : Nat), rg_fr nx r (A ++ e :: T) → (∀ x, x ∈ A → x < 40 ∧ x ≠ e) → i + A.length < 40 → A.length < n →
    post (nI (m + A.countP (fun x => !so || !G r x))) → wX_countBefore_20 post (nI r) (nI e) (rg_lb so) (nI E) le st og bh ck kn gn nx n (nI m) (rg_hd (A ++ e :: T)) (nI i) := by
  intro A
  induction A with
  | nil =>
    intro T i m n _ _ hi hn hp
    cases n with
    | zero => exact absurd hn (Nat.not_lt_zero _)
    | succ n =>
      have hi' : i < 40 := by simpa using hi
      have hp' : post (nI m) := by simpa using hp
      show wX_countBefore_20 post (nI r) (nI e) (rg_lb so) (nI E) le st og bh ck kn gn nx (n + 1) (nI m) (nI e) (nI i)
      exact br_f (nI_ge (b := 40) (by omega) (by decide)) (br_f (nI_pos (by omega)) (br_t rfl hp'))
  | cons a A ih =>
    intro T i m n hf hl hi hn hp
    cases n with
    | zero => exact absurd hn (Nat.not_lt_zero _)
    | succ n =>
      simp only [List.length_cons] at hi hn
      obtain ⟨ha, hne⟩ := hl a (by simp)
      have hf' : rg_ch nx r a (A ++ e :: T) := hf
      have hnx : nx (nI r * 41 + nI a).toNatClampNeg = rg_hd (A ++ e :: T) := by rw [rg_c41 hr (by omega)]; exact rg_ch_h hf'
      have hih := fun m' => ih T (i + 1) m' n (rg_ch_f hf') (fun x hx => hl x (by simp [hx])) (by omega) (by omega)
      show wX_countBefore_20 post (nI r) (nI e) (rg_lb so) (nI E) le st og bh ck kn gn nx (n + 1) (nI m) (nI a) (nI i)
      refine br_f (nI_ge (b := 40) (by omega) (by decide)) (br_f (nI_pos (by omega)) (br_f (fun z => hne ((nI_eq (by omega) (by omega)).mp z)) ?_))
      cases so with
      | false =>
        refine br_t rfl (nm_r (nI_1 m) (And.intro (rg_i41 hr (by omega)) (nm_r hnx (nm_r (nI_1 i) (hih (m + 1) ?_)))))
        rw [List.countP_cons] at hp
        simp at hp ⊢
        rw [show m + 1 + A.length = m + (A.length + 1) by omega]
        exact hp
      | true =>
        refine br_f rg_lt1 (rg_xsh hX hr ha ?_)
        cases hG : G r a with
        | true =>
          refine br_t rfl (And.intro (rg_i41 hr (by omega)) (nm_r hnx (nm_r (nI_1 i) (hih m ?_))))
          rw [List.countP_cons] at hp
          simpa [hG] using hp
        | false =>
          refine br_f rg_lt1 (nm_r (nI_1 m) (And.intro (rg_i41 hr (by omega)) (nm_r hnx (nm_r (nI_1 i) (hih (m + 1) ?_)))))
          rw [List.countP_cons] at hp
          simp [hG] at hp ⊢
          rw [show m + 1 + List.countP (fun x => !G r x) A = m + (List.countP (fun x => !G r x) A + 1) by omega]
          exact hp
theorem rg_xcB (hP : rg_P E B S O C K L) (hX : rg_X E B K G L bh kn gn nx) (hr : r < 3) {e : Nat} {A T : List Nat} (hL : L r = A ++ e :: T) (so : Bool) {post : Int32 → Prop} (h : post (nI (A.countP (fun x => !so || !G r x)))) : wpX_countBefore post ((nI E), le, st, og, bh, ck, kn, gn, nx) (nI r) (nI e) (rg_lb so) := by
  obtain ⟨q1, q2⟩ := rg_Pl hP hr
  have hx := rg_xhd hX hr
  have hf := rg_ch_f (hX.2.2.2 r hr)
  have hnd := rg_P_nd hP hr
  rw [hL] at hx hf q1 q2 hnd
  simp only [List.length_append, List.length_cons] at q2
  refine And.intro (rg_i41 (e := 40) hr (Nat.le_refl 40)) (nm_r hx (Exists.intro 41 (rg_xcb hX hr (q1 e (by simp)) A T 0 0 41 hf (fun x hx => ⟨q1 x (by simp [hx]), fun z => ?_⟩) (by omega) (by omega) (by rw [Nat.zero_add]; exact h))))
  rw [List.nodup_append] at hnd
  exact hnd.2.2 x hx e (by simp) z
/-! the next shown one -/
theorem rg_xns (hX : rg_X E B K G L bh kn gn nx) (hr : r < 3) {post : Int32 → Prop} : ∀ (l : List Nat) (i n : Nat), rg_fr nx r l → (∀ x, x ∈ l → x < 40) → i + l.length ≤ 40 → l.length < n →
    post (rg_hd (l.filter (fun x => !G r x))) → wX_nextShown_5 post (nI r) (nI E) le st og bh ck kn gn nx n (rg_hd l) (nI i) := by
  intro l
  induction l with
  | nil =>
    intro i n _ _ hi hn hpost
    cases n with
    | zero => exact absurd hn (Nat.not_lt_zero _)
    | succ n =>
      have hp' : post (-1) := by simpa [rg_hd] using hpost
      have hi' : i ≤ 40 := by simpa using hi
      exact pk_le 40 i (fun _ => hp') (fun _ => br_t (by decide) hp')
  | cons e t ih =>
    intro i n hf hl hi hn hpost
    cases n with
    | zero => exact absurd hn (Nat.not_lt_zero _)
    | succ n =>
      show wX_nextShown_5 post (nI r) (nI E) le st og bh ck kn gn nx (n + 1) (nI e) (nI i)
      simp only [List.length_cons] at hi hn
      have he : e < 40 := hl e (by simp)
      have hf' : rg_ch nx r e t := hf
      have hnx : nx (nI r * 41 + nI e).toNatClampNeg = rg_hd t := by rw [rg_c41 hr (by omega)]; exact rg_ch_h hf'
      refine br_f (nI_ge (b := 40) (by omega) (by decide)) (br_f (nI_pos (by omega)) (rg_xsh hX hr he ?_))
      cases hG : G r e with
      | true =>
        refine br_t rfl (And.intro (rg_i41 hr (by omega)) (nm_r hnx (nm_r (nI_1 i) ?_)))
        exact ih (i + 1) n (rg_ch_f hf') (fun x hx => hl x (by simp [hx])) (by omega) (by omega) (by simpa [hG] using hpost)
      | false => exact br_f rg_lt1 (by simpa [hG, rg_hd] using hpost)
theorem rg_xnS (hX : rg_X E B K G L bh kn gn nx) (hr : r < 3) {post : Int32 → Prop} {l : List Nat} {x : Int32} (hx : x = rg_hd l) (hf : rg_fr nx r l) (hl : ∀ x, x ∈ l → x < 40) (hn : l.length ≤ 40)
    (h : post (rg_hd (l.filter (fun x => !G r x)))) : wpX_nextShown post ((nI E), le, st, og, bh, ck, kn, gn, nx) (nI r) x := by
  subst hx
  exact Exists.intro 41 (rg_xns hX hr l 0 41 hf hl (by omega) (by omega) h)
end
end
section
/-! the reference's walks -/
section
variable {E : Nat} {B S O C : Nat → Nat} {K G : Nat → Nat → Bool} {L : Nat → List Nat} {le st og pr ab ky kd ck oo : Nat → Int32} {od : Int32} {r : Nat}
theorem rg_ykn (hY : rg_Y E B K G pr ab ky kd) (hE : E ≤ 40) (hr : r < 3) {e : Nat} (he : e < E) {post : Int32 → Prop} (h : post (rg_lb (K r e))) : wpY_isKnown post ((nI E), od, le, st, og, pr, ab, ky, kd, ck, oo) (nI r) (nI e) := by
  have hk : ky (nI r * 40 + nI e).toNatClampNeg = rg_lb (K r e) := by rw [rg_c40 (by omega) (by omega)]; exact hY.2.2.1 r e hr (by omega)
  refine br_f (nI_pos (by omega)) (br_f (nI_ge (by omega) (by omega)) (And.intro (rg_i40 hr (by omega)) ?_))
  cases hK : K r e with
  | false => rw [hK] at h hk; exact br_t hk h
  | true => rw [hK] at h hk; exact br_f (by rw [hk]; exact rg_lt1) h
theorem rg_ykx {x : Int32} (hE : E ≤ 40) (hx : x < 0 ∨ nI E ≤ x) {post : Int32 → Prop} (h : post 0) : wpY_isKnown post ((nI E), od, le, st, og, pr, ab, ky, kd, ck, oo) (nI r) x := by
  by_cases h0 : x < 0
  · exact br_t h0 h
  · rcases hx with hx | hx
    · exact absurd hx h0
    · exact br_f h0 (br_t hx h)
theorem rg_ysh (hY : rg_Y E B K G pr ab ky kd) (hE : E ≤ 40) (hr : r < 3) {e : Nat} (he : e < E) {post : Int32 → Prop} (h : post (rg_lb (K r e && !G r e))) : wpY_isShown post ((nI E), od, le, st, og, pr, ab, ky, kd, ck, oo) (nI r) (nI e) := by
  have hk : kd (nI r * 40 + nI e).toNatClampNeg = rg_lb (G r e) := by rw [rg_c40 (by omega) (by omega)]; exact hY.2.2.2 r e hr (by omega)
  unfold wpY_isShown
  dsimp only
  refine rg_ykn hY hE hr he ?_
  cases hK : K r e with
  | false => rw [hK] at h; exact br_t rfl h
  | true =>
    refine br_f rg_lt1 (And.intro (rg_i40 hr (by omega)) ?_)
    cases hG : G r e with
    | false => rw [hK, hG] at h; rw [hG] at hk; exact br_t hk h
    | true => rw [hK, hG] at h; rw [hG] at hk; exact br_f (by rw [hk]; exact rg_lt1) h
theorem rg_ysx {x : Int32} (hE : E ≤ 40) (hx : x < 0 ∨ nI E ≤ x) {post : Int32 → Prop} (h : post 0) : wpY_isShown post ((nI E), od, le, st, og, pr, ab, ky, kd, ck, oo) (nI r) x := by
  unfold wpY_isShown
  dsimp only
  exact rg_ykx hE hx (br_t rfl h)
theorem rg_ybr (hY : rg_Y E B K G pr ab ky kd) (hE : E ≤ 40) {a b : Nat} (hb : b < E) {post : Int32 → Prop} (hp : ∀ t, t < E → rg_BR B a b t → post (nI t)) : ∀ n t : Nat, t < n → t < E → t ∈ rg_pa B a → (¬ t ∈ rg_pa B b) →
    wY_branch_2 post (nI b) (nI E) od le st og pr ab ky kd ck oo n (nI t) := by
  intro n
  induction n with
  | zero => intro t h; omega
  | succ n ih =>
    intro t htn ht h1 h2
    have hct : (nI t).toNatClampNeg = t := rg_c (by omega)
    have hpr := hY.1 t ht
    refine And.intro (rg_i4 (by omega)) ?_
    rw [hct]
    by_cases hB : B t < t
    · rw [if_pos hB] at hpr
      rw [hpr]
      refine br_f (nI_pos (by omega)) (And.intro (rg_i4 (by omega)) (And.intro (rg_i16 (by omega) (by omega)) ?_))
      have hab := hY.2.1 b (B t) hb (by omega)
      rw [rg_c40 (by omega) (by omega)]
      by_cases hm : B t ∈ rg_pa B b
      · exact br_f (fun z => (hab.mp z) hm) (hp t ht ⟨h1, h2, fun _ => hm⟩)
      · refine br_t (hab.mpr hm) (And.intro (rg_i4 (by omega)) (nm_e ?_))
        exact ih (B t) (by omega) (by omega) (rg_pa_tr ((rg_pa_m B _ _).mpr (Or.inr ⟨hB, rg_pa_self B _⟩)) h1) hm
    · rw [if_neg hB] at hpr
      rw [hpr]
      exact br_t (by decide) (hp t ht ⟨h1, h2, fun z => absurd z hB⟩)
theorem rg_ybf (hY : rg_Y E B K G pr ab ky kd) (hP : rg_P E B S O C K L) (hA : rg_A E S O C st og ck) {a b : Nat} (ha : a < E) (hb : b < E) (hne : a ≠ b) {post : Int32 → Prop} (h : post (rg_lb (rg_bf B (rg_k S O) a b))) : wpY_before post ((nI E), od, le, st, og, pr, ab, ky, kd, ck, oo) (nI a) (nI b) := by
  obtain ⟨hE, h2, -, h4, -, -⟩ := hP
  have hab := hY.2.1 b a hb (by omega)
  have hba := hY.2.1 a b ha (by omega)
  unfold wpY_before
  dsimp only
  rw [rg_c40 (r := b) (e := a) (by omega) (by omega), rg_c40 (r := a) (e := b) (by omega) (by omega)]
  refine ⟨rg_i16 (by omega) (by omega), ?_⟩
  by_cases h1 : a ∈ rg_pa B b
  · rw [rg_bf_ab h1 hne] at h
    exact br_f (fun z => hab.mp z h1) h
  · refine br_t (hab.mpr h1) ⟨rg_i16 (by omega) (by omega), ?_⟩
    by_cases h3 : b ∈ rg_pa B a
    · rw [rg_bf_as (rg_bf_ab h3 (fun z => hne z.symm))] at h
      exact br_f (fun z => hba.mp z h3) h
    · refine br_t (hba.mpr h3) (Exists.intro 40 (rg_ybr hY hE hb (fun t ht bt => ?_) 40 a (by omega) ha (rg_pa_self B a) h1))
      refine Exists.intro 40 (rg_ybr hY hE ha (fun q hq bq => ?_) 40 b (by omega) hb (rg_pa_self B b) h3)
      rw [rg_BR_bf (k := rg_k S O) bt bq] at h
      have b1 := h2 q hq
      have b2 := h2 t ht
      have b3 := h4 _ b1.2.1
      have b4 := h4 _ b2.2.1
      have iq : vp_in (nI q) 40 := rg_i4 (by omega)
      have it : vp_in (nI t) 40 := rg_i4 (by omega)
      rw [rg_c (show t < 1000 by omega), rg_c (show q < 1000 by omega), hA.1 t ht, hA.1 q hq, hA.2.1 t ht, hA.2.1 q hq]
      refine ⟨it, iq, pk_lt (S q) (S t) (fun z => ?_) (fun z => ⟨it, iq, pk_eq (S t) (S q) (fun z2 => ⟨it, iq, pk_le (O t) (O q) (fun z3 => ?_) (fun z3 => ?_)⟩) (fun z2 => ?_)⟩)⟩
      · rw [decide_eq_true (by unfold rg_k; omega)] at h; exact h
      · rw [decide_eq_false (by unfold rg_k; omega)] at h; exact h
      · rw [decide_eq_true (by unfold rg_k; omega)] at h; exact h
      · rw [decide_eq_false (by unfold rg_k; omega)] at h; exact h
theorem rg_yrk (hY : rg_Y E B K G pr ab ky kd) (hP : rg_P E B S O C K L) (hA : rg_A E S O C st og ck) (hr : r < 3) {e : Nat} (he : e < E) {post : Int32 → Prop} : ∀ d k : Nat, k + d = E →
    post (nI (rg_cn (fun x => !decide (x = e) && (K r x && true && rg_bf B (rg_k S O) x e)) E)) →
    wY_rankOf_5 post (nI r) (nI e) (nI E) od le st og pr ab ky kd ck oo (d + 1) (nI (rg_cn (fun x => !decide (x = e) && (K r x && true && rg_bf B (rg_k S O) x e)) k)) (nI k) := by
  have hE := hP.1
  intro d
  induction d with
  | zero =>
    intro k hk hp
    obtain rfl : k = E := by omega
    exact br_t (nI_le (Nat.le_refl _) (by omega)) hp
  | succ d ih =>
    intro k hk hp
    have hn := ih (k + 1) (by omega) hp
    refine br_f (nI_ge (by omega) (by omega)) ?_
    by_cases hx : k = e
    · rw [rg_cn_f (by simp [hx])] at hn
      exact br_t (by rw [hx]) (nm_r (nI_1 k) hn)
    · refine br_f (fun z => hx ((nI_eq (by omega) (by omega)).mp z)) (rg_ykn hY hE hr (by omega) ?_)
      cases hK : K r k with
      | false =>
        rw [rg_cn_f (by simp [hK])] at hn
        exact br_t rfl (nm_r (nI_1 k) hn)
      | true =>
        refine br_f rg_lt1 (rg_ybf hY hP hA (by omega) he hx ?_)
        cases hb : rg_bf B (rg_k S O) k e with
        | false =>
          rw [rg_cn_f (by simp [hb])] at hn
          exact br_t rfl (nm_r (nI_1 k) hn)
        | true =>
          rw [rg_cn_t (by simp [hx, hK, hb])] at hn
          exact br_f rg_lt1 (nm_r (nI_1 _) (nm_r (nI_1 k) hn))
theorem rg_yrK (hY : rg_Y E B K G pr ab ky kd) (hP : rg_P E B S O C K L) (hA : rg_A E S O C st og ck) (hr : r < 3) {e : Nat} {A T : List Nat} (hL : L r = A ++ e :: T) {post : Int32 → Prop} (h : post (nI A.length)) : wpY_rankOf post ((nI E), od, le, st, og, pr, ab, ky, kd, ck, oo) (nI r) (nI e) := by
  have he : e < E := rg_P_lt hP hr (by rw [hL]; simp)
  have h1 := rg_P_rk hP hr hL (fun _ => true)
  rw [List.countP_eq_length.mpr (fun _ _ => rfl)] at h1
  rw [← h1] at h
  exact Exists.intro (E + 1) (rg_yrk hY hP hA hr he E 0 (by omega) h)
theorem rg_ypl (hY : rg_Y E B K G pr ab ky kd) (hP : rg_P E B S O C K L) (hA : rg_A E S O C st og ck) (hr : r < 3) {e : Nat} (he : e < E) {post : Int32 → Prop} : ∀ d k : Nat, k + d = E →
    post (nI (rg_cn (fun x => !decide (x = e) && (K r x && !G r x && rg_bf B (rg_k S O) x e)) E)) →
    wY_placeOf_27 post (nI r) (nI e) (nI E) od le st og pr ab ky kd ck oo (d + 1) (nI (rg_cn (fun x => !decide (x = e) && (K r x && !G r x && rg_bf B (rg_k S O) x e)) k)) (nI k) := by
  have hE := hP.1
  intro d
  induction d with
  | zero =>
    intro k hk hp
    obtain rfl : k = E := by omega
    exact br_t (nI_le (Nat.le_refl _) (by omega)) hp
  | succ d ih =>
    intro k hk hp
    have hn := ih (k + 1) (by omega) hp
    refine br_f (nI_ge (by omega) (by omega)) ?_
    by_cases hx : k = e
    · rw [rg_cn_f (by simp [hx])] at hn
      exact br_t (by rw [hx]) (nm_r (nI_1 k) hn)
    · refine br_f (fun z => hx ((nI_eq (by omega) (by omega)).mp z)) (rg_ysh hY hE hr (by omega) ?_)
      cases hK : (K r k && !G r k) with
      | false =>
        rw [rg_cn_f (by simp only [hK]; simp)] at hn
        exact br_t rfl (nm_r (nI_1 k) hn)
      | true =>
        refine br_f rg_lt1 (rg_ybf hY hP hA (by omega) he hx ?_)
        cases hb : rg_bf B (rg_k S O) k e with
        | false =>
          rw [rg_cn_f (by simp [hb])] at hn
          exact br_t rfl (nm_r (nI_1 k) hn)
        | true =>
          rw [rg_cn_t (by simp only [hK, hb]; simp [hx])] at hn
          exact br_f rg_lt1 (nm_r (nI_1 _) (nm_r (nI_1 k) hn))
theorem rg_yln (hY : rg_Y E B K G pr ab ky kd) (hE : E ≤ 40) (hr : r < 3) {post : Int32 → Prop} : ∀ d k : Nat, k + d = E → post (nI (rg_cn (fun x => K r x && !G r x) E)) →
    wY_length_14 post (nI r) (nI E) od le st og pr ab ky kd ck oo (d + 1) (nI (rg_cn (fun x => K r x && !G r x) k)) (nI k) := by
  intro d
  induction d with
  | zero =>
    intro k hk hp
    obtain rfl : k = E := by omega
    exact br_t (nI_le (Nat.le_refl _) (by omega)) hp
  | succ d ih =>
    intro k hk hp
    have hn := ih (k + 1) (by omega) hp
    refine br_f (nI_ge (by omega) (by omega)) (rg_ysh hY hE hr (by omega) ?_)
    cases hK : (K r k && !G r k) with
    | false =>
      rw [rg_cn_f hK] at hn
      exact br_t rfl (nm_r (nI_1 k) hn)
    | true =>
      rw [rg_cn_t hK] at hn
      exact br_f rg_lt1 (nm_r (nI_1 _) (nm_r (nI_1 k) hn))
theorem rg_ylN (hY : rg_Y E B K G pr ab ky kd) (hE : E ≤ 40) (hr : r < 3) {post : Int32 → Prop} (h : post (nI (rg_cn (fun x => K r x && !G r x) E))) : wpY_length post ((nI E), od, le, st, og, pr, ab, ky, kd, ck, oo) (nI r) := by
  unfold wpY_length
  dsimp only
  exact rg_ybad hr (br_f (by decide) (Exists.intro (E + 1) (rg_yln hY hE hr E 0 (by omega) h)))
theorem rg_ykl (hY : rg_Y E B K G pr ab ky kd) (hE : E ≤ 40) (hr : r < 3) {post : Int32 → Prop} : ∀ d k : Nat, k + d = E → post (nI (rg_cn (K r) E)) →
    wY_known_14 post (nI r) (nI E) od le st og pr ab ky kd ck oo (d + 1) (nI (rg_cn (K r) k)) (nI k) := by
  intro d
  induction d with
  | zero =>
    intro k hk hp
    obtain rfl : k = E := by omega
    exact br_t (nI_le (Nat.le_refl _) (by omega)) hp
  | succ d ih =>
    intro k hk hp
    have hn := ih (k + 1) (by omega) hp
    refine br_f (nI_ge (by omega) (by omega)) (rg_ykn hY hE hr (by omega) ?_)
    cases hK : K r k with
    | false =>
      rw [rg_cn_f hK] at hn
      exact br_t rfl (nm_r (nI_1 k) hn)
    | true =>
      rw [rg_cn_t hK] at hn
      exact br_f rg_lt1 (nm_r (nI_1 _) (nm_r (nI_1 k) hn))
/-! the document order -/
def rg_Or (L : List Nat) (oo : Nat → Int32) : Prop := ∀ A e T, L = A ++ e :: T → oo A.length = nI e
theorem rg_P_pos (hP : rg_P E B S O C K L) (hr : r < 3) {e : Nat} {A T A' T' : List Nat} (h : L r = A ++ e :: T) (h' : L r = A' ++ e :: T') : A.length = A'.length := by
  have h1 := rg_P_rk hP hr h (fun _ => true)
  have h2 := rg_P_rk hP hr h' (fun _ => true)
  rw [List.countP_eq_length.mpr (fun _ _ => rfl)] at h1 h2
  omega
theorem rg_yar (hY : rg_Y E B K G pr ab ky kd) (hP : rg_P E B S O C K L) (hA : rg_A E S O C st og ck) (hr : r < 3) {post : SY → Prop}
    (hpost : ∀ oo, rg_Or (L r) oo → post ((nI E), (nI (L r).length), le, st, og, pr, ab, ky, kd, ck, oo)) : ∀ (d k : Nat) (oo : Nat → Int32), k + d = E → (∀ A e T, L r = A ++ e :: T → e < k → oo A.length = nI e) →
    wY_arrange_7 post (nI r) (nI E) (d + 1) (nI k) (nI (rg_cn (K r) k)) le st og pr ab ky kd ck oo := by
  have hE := hP.1
  intro d
  induction d with
  | zero =>
    intro k oo hk ho
    obtain rfl : k = E := by omega
    rw [← rg_P_ln hP hr]
    exact br_t (nI_le (Nat.le_refl _) (by omega)) (hpost oo (fun A e T h => ho A e T h (rg_P_lt hP hr (by rw [h]; simp))))
  | succ d ih =>
    intro k oo hk ho
    refine br_f (nI_ge (by omega) (by omega)) (rg_ykn hY hE hr (by omega) ?_)
    cases hK : K r k with
    | false =>
      have hn := ih (k + 1) oo (by omega) (fun A e T h he => by
        by_cases ek : e = k
        · have h1 := (rg_P_m hP hr e).mp (by rw [h]; simp)
          rw [ek, hK] at h1
          cases h1
        · exact ho A e T h (by omega))
      rw [rg_cn_f hK] at hn
      exact br_t rfl (nm_r (nI_1 k) hn)
    | true =>
      obtain ⟨A0, T0, h0⟩ := List.append_of_mem ((rg_P_m hP hr k).mpr hK)
      have hl := (rg_Pl hP hr).2
      rw [h0, List.length_append, List.length_cons] at hl
      have hn := ih (k + 1) (upd oo A0.length (nI k)) (by omega) (fun A e T h he => by
        by_cases ek : e = k
        · subst ek
          rw [rg_P_pos hP hr h h0, pk_us]
        · have hne : A.length ≠ A0.length := fun z => by
            have := (List.append_inj (h.symm.trans h0) z).2
            exact ek (List.cons.inj this).1
          rw [pk_un hne]
          exact ho A e T h (by omega))
      rw [rg_cn_t hK] at hn
      refine br_f rg_lt1 (rg_yrK hY hP hA hr h0 (And.intro (rg_i4 (by omega)) (nm_r ?_ (nm_r (nI_1 _) (nm_r (nI_1 k) hn)))))
      rw [rg_c (by omega)]
theorem rg_yep (hY : rg_Y E B K G pr ab ky kd) (hP : rg_P E B S O C K L) (hr : r < 3) (ho : rg_Or (L r) oo) {x : Int32} {post : Int32 → SY → Prop} : ∀ (T A : List Nat) (m p n : Nat), L r = A ++ T → T.length < n → x = nI (m + p) → m + p < 2 ^ 31 →
    post (rg_oy ((T.filter (fun x => !G r x))[p]?)) ((nI E), (nI (L r).length), le, st, og, pr, ab, ky, kd, ck, oo) → wY_elementAt_20 post (nI r) x (nI E) (nI (L r).length) le st og pr ab ky kd ck oo n (nI m) (nI A.length) := by
  have hE := hP.1
  have hl := (rg_Pl hP hr).2
  intro T
  induction T with
  | nil =>
    intro A m p n hL hn hx hp hpost
    cases n with
    | zero => exact absurd hn (Nat.not_lt_zero _)
    | succ n =>
      have hA : (L r).length = A.length := by rw [hL, List.append_nil]
      exact br_t (nI_le (by omega) (by omega)) (by simpa [rg_oy] using hpost)
  | cons e T ih =>
    intro A m p n hL hn hx hp hpost
    cases n with
    | zero => exact absurd hn (Nat.not_lt_zero _)
    | succ n =>
      simp only [List.length_cons] at hn
      have hA : (L r).length = A.length + (T.length + 1) := by rw [hL, List.length_append, List.length_cons]
      have heL : e ∈ L r := by rw [hL]; simp
      have heE := rg_P_lt hP hr heL
      have heK := (rg_P_m hP hr e).mp heL
      have hoe : oo (nI A.length).toNatClampNeg = nI e := by rw [rg_c (by omega)]; exact ho A e T hL
      have hL2 : L r = (A ++ [e]) ++ T := by rw [hL]; simp
      have hA2 : (A ++ [e]).length = A.length + 1 := by simp
      refine br_f (nI_ge (by omega) (by omega)) (And.intro (rg_i4 (by omega)) ?_)
      rw [hoe]
      refine rg_ysh hY hE hr heE ?_
      rw [heK]
      cases hG : G r e with
      | true =>
        have hn' := ih (A ++ [e]) m p n hL2 (by omega) hx hp (by simpa [hG] using hpost)
        rw [hA2] at hn'
        exact br_t rfl (nm_r (nI_1 _) hn')
      | false =>
        refine br_f rg_lt1 ?_
        cases p with
        | zero => exact br_t hx.symm (And.intro (rg_i4 (by omega)) (by simpa [hG, rg_oy] using hpost))
        | succ p =>
          have hn' := ih (A ++ [e]) (m + 1) p n hL2 (by omega) (by rw [hx]; exact congrArg nI (by omega)) (by omega) (by simpa [hG] using hpost)
          rw [hA2] at hn'
          refine br_f (fun z => ?_) (nm_r (nI_1 m) (nm_r (nI_1 _) hn'))
          rw [hx] at z
          have := (nI_eq (by omega) (by omega)).mp z
          omega
theorem rg_yen (hY : rg_Y E B K G pr ab ky kd) (hP : rg_P E B S O C K L) (hr : r < 3) (ho : rg_Or (L r) oo) {x : Int32} (hx : x < 0) {post : Int32 → SY → Prop} (hpost : post (-5) ((nI E), (nI (L r).length), le, st, og, pr, ab, ky, kd, ck, oo)) : ∀ (T A : List Nat) (m n : Nat), L r = A ++ T → T.length < n → m + T.length ≤ 1000 →
    wY_elementAt_20 post (nI r) x (nI E) (nI (L r).length) le st og pr ab ky kd ck oo n (nI m) (nI A.length) := by
  have hE := hP.1
  have hl := (rg_Pl hP hr).2
  intro T
  induction T with
  | nil =>
    intro A m n hL hn hm
    cases n with
    | zero => exact absurd hn (Nat.not_lt_zero _)
    | succ n =>
      have hA : (L r).length = A.length := by rw [hL, List.append_nil]
      exact br_t (nI_le (by omega) (by omega)) hpost
  | cons e T ih =>
    intro A m n hL hn hm
    cases n with
    | zero => exact absurd hn (Nat.not_lt_zero _)
    | succ n =>
      simp only [List.length_cons] at hn hm
      have hA : (L r).length = A.length + (T.length + 1) := by rw [hL, List.length_append, List.length_cons]
      have heL : e ∈ L r := by rw [hL]; simp
      have heE := rg_P_lt hP hr heL
      have hoe : oo (nI A.length).toNatClampNeg = nI e := by rw [rg_c (by omega)]; exact ho A e T hL
      have hL2 : L r = (A ++ [e]) ++ T := by rw [hL]; simp
      have hA2 : (A ++ [e]).length = A.length + 1 := by simp
      refine br_f (nI_ge (by omega) (by omega)) (And.intro (rg_i4 (by omega)) ?_)
      rw [hoe]
      refine rg_ysh hY hE hr heE ?_
      cases hG : (K r e && !G r e) with
      | false =>
        have hn' := ih (A ++ [e]) m n hL2 (by omega) (by omega)
        rw [hA2] at hn'
        exact br_t rfl (nm_r (nI_1 _) hn')
      | true =>
        have hn' := ih (A ++ [e]) (m + 1) n hL2 (by omega) (by omega)
        rw [hA2] at hn'
        refine br_f rg_lt1 (br_f (fun z => ?_) (nm_r (nI_1 m) (nm_r (nI_1 _) hn')))
        rw [← z] at hx
        exact nI_pos (by omega) hx
theorem rg_yeA (hY : rg_Y E B K G pr ab ky kd) (hP : rg_P E B S O C K L) (hA : rg_A E S O C st og ck) (hr : r < 3) (x : Int32) {post : Int32 → SY → Prop}
    (h : ∀ od oo, post (rg_oy (rg_at ((L r).filter (fun x => !G r x)) x)) ((nI E), od, le, st, og, pr, ab, ky, kd, ck, oo)) : wpY_elementAt post ((nI E), od, le, st, og, pr, ab, ky, kd, ck, oo) (nI r) x := by
  have hl := (rg_Pl hP hr).2
  unfold wpY_elementAt
  dsimp only
  refine rg_ybad hr (br_f (by decide) (Exists.intro (E + 1) (rg_yar hY hP hA hr (fun oo' ho => ?_) E 0 oo (by omega) (fun _ _ _ _ z => absurd z (Nat.not_lt_zero _)))))
  by_cases hx : x < 0
  · have h' := fun od oo => h od oo
    rw [rg_at_n hx] at h'
    exact Exists.intro 41 (rg_yen hY hP hr ho hx (h' _ _) (L r) [] 0 41 rfl (by omega) (by omega))
  · obtain ⟨p, hp, rfl⟩ := nI_of hx
    have h' := fun od oo => h od oo
    rw [rg_at_p hp] at h'
    exact Exists.intro 41 (rg_yep hY hP hr ho (L r) [] 0 p 41 rfl (by omega) (by rw [Nat.zero_add]) (by omega) (h' _ _))
end
end
section
/-! the relation, and how a change of both sides keeps it -/
def rg_RR (E : Nat) (K G : Nat → Nat → Bool) (od : Int32) (u : SX) (v : SY) : Prop :=
  ∃ (B S O C : Nat → Nat) (L : Nat → List Nat) (le st og bh ck : Nat → Int32) (kn gn : Nat → Int64) (nx pr ab ky kd oo : Nat → Int32),
    u = ((nI E), le, st, og, bh, ck, kn, gn, nx) ∧ v = ((nI E), od, le, st, og, pr, ab, ky, kd, ck, oo) ∧ rg_P E B S O C K L ∧ rg_A E S O C st og ck ∧ rg_X E B K G L bh kn gn nx ∧ rg_Y E B K G pr ab ky kd
section
variable {E : Nat} {B S O C : Nat → Nat} {K G : Nat → Nat → Bool} {L : Nat → List Nat} {le st og bh ck nx pr ab ky kd oo : Nat → Int32} {kn gn : Nat → Int64} {od : Int32} {r e : Nat}
theorem rg_bset {w : Int64} {f : Nat → Bool} (he : e < 40) (h : ∀ j, j < 40 → w.toBitVec.getLsbD j = f j) (j : Nat) (hj : j < 40) : (w ||| ((1 : Int64) <<< ((nI e).toInt64 &&& 63))).toBitVec.getLsbD j = rg_u f e true j := by
  rw [rg_or (by omega), h j hj]
  by_cases ej : j = e
  · subst ej; rw [rg_us]; simp
  · rw [rg_un ej]; simp [ej]
theorem rg_Lset {a : Nat → Int64} {f : Nat → Nat → Bool} (hr : r < 3) (he : e < 40) (h : ∀ s j, s < 3 → j < 40 → (a s).toBitVec.getLsbD j = f s j) :
    ∀ s j, s < 3 → j < 40 → (vp_updL a r (a r ||| ((1 : Int64) <<< ((nI e).toInt64 &&& 63))) s).toBitVec.getLsbD j = rg_u f r (rg_u (f r) e true) s j := by
  intro s j hs hj
  by_cases es : s = r
  · subst es
    rw [pk_uLs, rg_us]
    exact rg_bset he (fun j hj => h s j hs hj) j hj
  · rw [pk_uLn es, rg_un es]
    exact h s j hs hj
theorem rg_Iset {a : Nat → Int32} {f : Nat → Nat → Bool} {x : Int32} (hx : x = 1) (hr : r < 3) (he : e < 40) (h : ∀ s j, s < 3 → j < 40 → a (s * 40 + j) = rg_lb (f s j)) :
    ∀ s j, s < 3 → j < 40 → upd a (r * 40 + e) x (s * 40 + j) = rg_lb (rg_u f r (rg_u (f r) e true) s j) := by
  intro s j hs hj
  by_cases es : s = r
  · subst es
    rw [rg_us]
    by_cases ej : j = e
    · subst ej
      rw [pk_us, rg_us]; exact hx
    · rw [pk_un (by omega), rg_un ej]
      exact h s j hs hj
  · rw [pk_un (by omega), rg_un es]
    exact h s j hs hj
theorem rg_nb1 : vp_nar .boolean 1 = 1 := rfl
theorem rg_nb0 : vp_nar .boolean 0 = 0 := rfl
theorem rg_X_g (hX : rg_X E B K G L bh kn gn nx) (hr : r < 3) (he : e < 40) : rg_X E B K (rg_u G r (rg_u (G r) e true)) L bh kn (vp_updL gn r (gn r ||| ((1 : Int64) <<< ((nI e).toInt64 &&& 63)))) nx :=
  ⟨hX.1, hX.2.1, rg_Lset hr he hX.2.2.1, hX.2.2.2⟩
theorem rg_Y_g (hY : rg_Y E B K G pr ab ky kd) (hr : r < 3) (he : e < 40) : rg_Y E B K (rg_u G r (rg_u (G r) e true)) pr ab ky (upd kd (r * 40 + e) (vp_nar .boolean 1)) :=
  ⟨hY.1, hY.2.1, hY.2.2.1, rg_Iset rg_nb1 hr he hY.2.2.2⟩
theorem rg_Y_k (hY : rg_Y E B K G pr ab ky kd) (hr : r < 3) (he : e < 40) : rg_Y E B (rg_u K r (rg_u (K r) e true)) G pr ab (upd ky (r * 40 + e) (vp_nar .boolean 1)) kd :=
  ⟨hY.1, hY.2.1, rg_Iset rg_nb1 hr he hY.2.2.1, hY.2.2.2⟩
theorem rg_X_l (hX : rg_X E B K G L bh kn gn nx) (hr : r < 3) (he : e < 40) {A T : List Nat} (hL : L r = A ++ T) (hn : (L r).Nodup) (hl : ∀ s x, s < 3 → x ∈ L s → x < 40) (hm : ¬ e ∈ L r) :
    rg_X E B (rg_u K r (rg_u (K r) e true)) G (rg_u L r (A ++ e :: T)) bh (vp_updL kn r (kn r ||| ((1 : Int64) <<< ((nI e).toInt64 &&& 63)))) gn
      (upd (upd nx (r * 41 + e) (nx (r * 41 + rg_la 40 A))) (r * 41 + rg_la 40 A) (nI e)) := by
  have ha : rg_la 40 A ≤ 40 := by
    rcases List.mem_cons.mp (rg_la_m A 40) with z | z
    · omega
    · have := hl r _ hr (by rw [hL]; exact List.mem_append_left T z)
      omega
  have hae : rg_la 40 A ≠ e := by
    rcases List.mem_cons.mp (rg_la_m A 40) with z | z
    · omega
    · exact fun q => hm (by rw [hL, ← q]; exact List.mem_append_left T z)
  refine ⟨hX.1, rg_Lset hr he hX.2.1, hX.2.2.1, fun s hs => ?_⟩
  by_cases es : s = r
  · subst es
    rw [rg_us]
    have hc := hX.2.2.2 s hs
    rw [hL] at hc
    refine rg_ch_in A 40 hc ?_ ?_ ?_ pk_us (fun x h1 h2 => ?_)
    · rw [← hL]
      refine List.nodup_cons.mpr ⟨fun z => ?_, hn⟩
      have := hl s 40 hs z
      omega
    · rw [← hL]
      intro z
      rcases List.mem_cons.mp z with z | z
      · omega
      · exact hm z
    · rw [pk_un (by omega), pk_us]
    · rw [pk_un (by omega), pk_un (by omega)]
  · rw [rg_un es]
    refine rg_ch_cg (L s) 40 (fun x hx => ?_) (hX.2.2.2 s hs)
    have hx' : x ≤ 40 := by
      rcases List.mem_cons.mp hx with z | z
      · omega
      · have := hl s x hs z
        omega
    rw [pk_un (by omega), pk_un (by omega)]
/-! an insertion: the component -/
theorem rg_x95 (hr : r < 3) (hE : E < 40) {P : Nat} (hP : P ≤ 40) {post : Int32 → SX → Prop}
    (h : post (nI E) ((nI (E + 1)), le, (upd st E (upd ck r (ck r + 1) r)), og, (upd bh E (nI P)), (upd ck r (ck r + 1)), (vp_updL kn r (kn r ||| ((1 : Int64) <<< ((nI E).toInt64 &&& 63)))), gn, (upd (upd nx (r * 41 + E) (nx (r * 41 + P))) (r * 41 + P) (nI E)))) :
    wX_insert_95 post (nI r) (nI E) (nI P) (nI E) (nI E) le st og bh ck kn gn nx := by
  unfold wX_insert_95 wpX_linkBehind
  dsimp only
  rw [rg_c (show r < 1000 by omega), rg_c (show E < 1000 by omega)]
  refine ⟨rg_i4 hE, nm_e ⟨rg_i3 hr, rg_i3 hr, nm_e ⟨rg_i3 hr, rg_i4 hE, nm_e (nm_r (nI_1 E) ⟨rg_i4 hE, ?_⟩)⟩⟩⟩
  rw [pk_us, rg_c41 hr hP, rg_c41 hr (show E ≤ 40 by omega)]
  exact ⟨rg_i41 hr hP, rg_i41 hr (by omega), nm_e ⟨rg_i41 hr hP, nm_e ⟨rg_i3 hr, rg_i3 hr, nm_e h⟩⟩⟩
/-! an insertion: the reference -/
def rg_Ab (E : Nat) (B : Nat → Nat) (ab ab' : Nat → Int32) (i : Nat) : Prop := (∀ j, j < E * 40 → ab' j = ab j) ∧ (∀ x, x < i → (ab' (E * 40 + x) = 0 ↔ ¬ x ∈ rg_pa B E))
theorem rg_Ab_s {ab' : Nat → Int32} {i : Nat} {x : Int32} (h : rg_Ab E B ab ab' i) (hx : x = 0 ↔ ¬ i ∈ rg_pa B E) : rg_Ab E B ab (upd ab' (E * 40 + i) x) (i + 1) := by
  refine ⟨fun j hj => ?_, fun y hy => ?_⟩
  · rw [pk_un (by omega)]; exact h.1 j hj
  · by_cases ey : y = i
    · subst ey; rw [pk_us]; exact hx
    · rw [pk_un (by omega)]; exact h.2 y (by omega)
theorem rg_y71 (hY : rg_Y E B K G pr ab ky kd) (hE : E < 40) (hr : r < 3) {P : Nat} (hP : P = 40 ∨ P < E) {c : Int32} {post : Int32 → SY → Prop}
    (h : ∀ ab', rg_Ab E (rg_u B E P) ab ab' 40 → post (nI E) ((nI (E + 1)), od, (upd le E (c &&& 255)), (upd st E (upd ck r (ck r + 1) r)), (upd og E (nI r)), (upd pr E (if P < E then nI P else -5)), ab', (upd ky (r * 40 + E) (vp_nar .boolean 1)), kd, (upd ck r (ck r + 1)), oo)) :
    ∀ (d i : Nat) (ab' : Nat → Int32), i + d = 40 → rg_Ab E (rg_u B E P) ab ab' i → wY_insert_71 post (nI r) c (nI E) (nI E) od (d + 1) (nI i) le st og (upd pr E (if P < E then nI P else -5)) ab' ky kd ck oo := by
  have cE : (nI E).toNatClampNeg = E := rg_c (by omega)
  have cr : (nI r).toNatClampNeg = r := rg_c (by omega)
  intro d
  induction d with
  | zero =>
    intro i ab' hi hab
    obtain rfl : i = 40 := by omega
    unfold wY_insert_71
    dsimp only
    rw [cE, cr, rg_c40 (by omega) hE]
    exact br_t (nI_le (a := 40) (b := 40) (by omega) (by omega)) ⟨rg_i3 hr, rg_i3 hr, nm_e ⟨rg_i4 hE, nm_e ⟨rg_i3 hr, rg_i4 hE, nm_e ⟨rg_i4 hE, nm_e ⟨rg_i40 hr hE, nm_e (nm_r (nI_1 E) (h ab' hab))⟩⟩⟩⟩⟩
  | succ d ih =>
    intro i ab' hi hab
    have hi' : i < 40 := by omega
    have hn : ∀ x : Int32, (x = 0 ↔ ¬ i ∈ rg_pa (rg_u B E P) E) → wY_insert_71 post (nI r) c (nI E) (nI E) od (d + 1) (nI (i + 1)) le st og (upd pr E (if P < E then nI P else -5)) (upd ab' (E * 40 + i) x) ky kd ck oo :=
      fun x hx => ih (i + 1) _ (by omega) (rg_Ab_s hab hx)
    unfold wY_insert_71
    rw [cE, rg_c40 hE hi', pk_us]
    refine br_f (nI_ge (b := 40) (by omega) (by decide)) (pk_eq i E (fun z => ?_) (fun z => ?_))
    · refine ⟨rg_i16 hE hi', nm_e (nm_r (nI_1 i) (hn _ ?_))⟩
      rw [z]
      exact ⟨fun q => absurd q (by decide), fun q => absurd (rg_pa_self _ E) q⟩
    · refine ⟨rg_i4 hE, ?_⟩
      have hm : i ∈ rg_pa (rg_u B E P) E ↔ (P < E ∧ i ∈ rg_pa (rg_u B E P) P) := by
        rw [rg_pa_m, rg_us]
        exact ⟨fun q => q.elim (fun w => absurd w z) id, Or.inr⟩
      by_cases hPE : P < E
      · rw [if_pos hPE] at hn ⊢
        refine br_f (nI_pos (by omega)) ⟨rg_i4 hE, rg_i16 (by omega) hi', ?_⟩
        rw [rg_c40 (by omega) hi']
        have h1 : ab' (P * 40 + i) = 0 ↔ ¬ i ∈ rg_pa B P := by
          rw [hab.1 (P * 40 + i) (by omega)]
          exact hY.2.1 P i hPE hi'
        have h2 : rg_pa (rg_u B E P) P = rg_pa B P := rg_pa_cg (P + 1) P (by omega) (fun j hj => rg_un (by omega))
        rw [h2] at hm
        refine br_c (fun q => ⟨rg_i16 hE hi', nm_e (nm_r (nI_1 i) (hn _ ?_))⟩) (fun q => ⟨rg_i16 hE hi', nm_e (nm_r (nI_1 i) (hn _ ?_))⟩)
        · exact ⟨fun _ w => (h1.mp q) (hm.mp w).2, fun _ => rg_nb0⟩
        · exact ⟨fun w => absurd w (by decide), fun w => absurd (h1.mpr (fun y => w (hm.mpr ⟨hPE, y⟩))) q⟩
      · rw [if_neg hPE] at hn ⊢
        refine br_t (by decide) ⟨rg_i16 hE hi', nm_e (nm_r (nI_1 i) (hn _ ?_))⟩
        exact ⟨fun _ w => hPE (hm.mp w).1, fun _ => rg_nb0⟩
theorem rg_Y_i (hY : rg_Y E B K G pr ab ky kd) (hE : E < 40) (hr : r < 3) {P : Nat} (hP : P = 40 ∨ P < E) {ab' : Nat → Int32} (hab : rg_Ab E (rg_u B E P) ab ab' 40) :
    rg_Y (E + 1) (rg_u B E P) (rg_u K r (rg_u (K r) E true)) G (upd pr E (if P < E then nI P else -5)) ab' (upd ky (r * 40 + E) (vp_nar .boolean 1)) kd := by
  refine ⟨fun x hx => ?_, fun a x ha hx => ?_, rg_Iset rg_nb1 hr hE hY.2.2.1, hY.2.2.2⟩
  · by_cases ex : x = E
    · subst ex
      rw [pk_us, rg_us]
    · rw [pk_un ex, rg_un ex]
      exact hY.1 x (by omega)
  · by_cases ea : a = E
    · subst ea
      exact hab.2 x hx
    · rw [hab.1 (a * 40 + x) (by omega), rg_pa_cg (B := B) (a + 1) a (by omega) (fun j hj => rg_un (by omega))]
      exact hY.2.1 a x (by omega) hx
end
/-! learning -/
def rg_WX (post : Int32 → SX → Prop) (x1 x2 : Int32) (n : Nat) (x3 x4 : Int32) (u : SX) : Prop := match u with
  | (f, a, b, c, d, e, g, h, i) => wX_learn_29 post x1 x2 n x3 x4 f a b c d e g h i
def rg_VX (post : Int32 → SX → Prop) (x1 x2 : Int32) (n : Nat) (x3 x4 : Int32) (u : SX) : Prop := match u with
  | (f, a, b, c, d, e, g, h, i) => wX_learn_76 post (wX_learn_29 post x1 x2 n) x1 x2 x3 x4 f a b c d e g h i
def rg_WY (post : Int32 → SY → Prop) (x1 x2 : Int32) (n : Nat) (x3 x4 : Int32) (v : SY) : Prop := match v with
  | (f, o, a, b, c, d, e, g, h, i, j) => wY_learn_31 post x1 x2 f o n x3 x4 a b c d e g h i j
def rg_VY (post : Int32 → SY → Prop) (x1 x2 : Int32) (n : Nat) (x3 x4 : Int32) (v : SY) : Prop := match v with
  | (f, o, a, b, c, d, e, g, h, i, j) => wY_learn_115 post (wY_learn_31 post x1 x2 f o n) x1 x2 x3 x4 f o a b c d e g h i j
theorem rg_ls1 {E : Nat} {K G : Nat → Nat → Bool} {od : Int32} {u : SX} {v : SY} (h : rg_RR E K G od u v) {t f e : Nat} (ht : t < 3) (hf : f < 3) (hne : f ≠ t) (he : e < E) (hp : ∀ j, j < e → K f j = true → K t j = true) :
    ∃ (K1 : Nat → Nat → Bool) (c : Nat) (u1 : SX) (v1 : SY), rg_RR E K1 G od u1 v1 ∧ (∀ j, j < e + 1 → K1 f j = true → K1 t j = true) ∧
      (∀ post m n, rg_VX post (nI t) (nI f) m (nI (n + c)) (nI e) u1 → rg_WX post (nI t) (nI f) (m + 1) (nI n) (nI e) u) ∧
      (∀ post m n, rg_VY post (nI t) (nI f) m (nI (n + c)) (nI e) v1 → rg_WY post (nI t) (nI f) (m + 1) (nI n) (nI e) v) := by
  have hh := h
  obtain ⟨B, S, O, C, L, le, st, og, bh, ck, kn, gn, nx, pr, ab, ky, kd, oo, rfl, rfl, hP, hA, hX, hY⟩ := h
  have hE := hP.1
  have ykf : ky (nI f * 40 + nI e).toNatClampNeg = rg_lb (K f e) := by rw [rg_c40 (by omega) (by omega)]; exact hY.2.2.1 f e hf (by omega)
  have ykt : ky (nI t * 40 + nI e).toNatClampNeg = rg_lb (K t e) := by rw [rg_c40 (by omega) (by omega)]; exact hY.2.2.1 t e ht (by omega)
  have hge : ¬ nI E ≤ nI e := nI_ge (by omega) (by omega)
  cases hKf : K f e with
  | false =>
    rw [hKf] at ykf
    refine ⟨K, 0, _, _, hh, fun j hj hK => ?_, fun post m n J => ?_, fun post m n J => ?_⟩
    · by_cases ej : j = e
      · rw [ej, hKf] at hK; cases hK
      · exact hp j (by omega) hK
    · refine br_f hge (And.intro (rg_i3 hf) (rg_xkn hX hf (by omega) ?_))
      rw [hKf]
      exact br_t rfl J
    · exact br_f hge (And.intro (rg_i40 hf (by omega)) (br_t ykf J))
  | true =>
    rw [hKf] at ykf
    have ykf' : ¬ ky (nI f * 40 + nI e).toNatClampNeg = 0 := by rw [ykf]; exact rg_lt1
    cases hKt : K t e with
    | true =>
      rw [hKt] at ykt
      have ykt' : ¬ ky (nI t * 40 + nI e).toNatClampNeg = 0 := by rw [ykt]; exact rg_lt1
      refine ⟨K, 0, _, _, hh, fun j hj hK => ?_, fun post m n J => ?_, fun post m n J => ?_⟩
      · by_cases ej : j = e
        · rw [ej]; exact hKt
        · exact hp j (by omega) hK
      · refine br_f hge (And.intro (rg_i3 hf) (rg_xkn hX hf (by omega) ?_))
        rw [hKf]
        refine br_f rg_lt1 (And.intro (rg_i3 ht) (rg_xkn hX ht (by omega) ?_))
        rw [hKt]
        exact br_f rg_lt1 J
      · exact br_f hge (And.intro (rg_i40 hf (by omega)) (br_f ykf' (And.intro (rg_i40 ht (by omega)) (br_f ykt' J))))
    | false =>
      rw [hKt] at ykt
      have hpB : B e < e → K t (B e) = true := fun z => hp (B e) z ((hP.2.2.2.2.1 f e hf hKf).2.2 z)
      obtain ⟨A, T, hL, g1, g2, g3⟩ := rg_xit hP hA hX (le := le) ht he hKt hpB
      have hSO := hP.2.1 e he
      have hCO := hP.2.2.2.1 _ hSO.2.1
      have hCt := hP.2.2.2.1 t ht
      have hlt : ∀ s x, s < 3 → x ∈ L s → x < 40 := fun s x hs hx => (rg_Pl hP hs).1 x hx
      have hm : ¬ e ∈ L t := fun z => by
        have z2 := (rg_P_m hP ht e).mp z
        rw [hKt] at z2
        cases z2
      have hX' := rg_X_l hX ht (show e < 40 by omega) hL (rg_P_nd hP ht) hlt hm
      have hY' := rg_Y_k hY ht (show e < 40 by omega)
      have hla : rg_la 40 A ≤ 40 := by
        rcases List.mem_cons.mp (rg_la_m A 40) with z | z
        · omega
        · have := hlt t _ ht (by rw [hL]; exact List.mem_append_left T z)
          omega
      have hKK : ∀ j, j < e + 1 → rg_u K t (rg_u (K t) e true) f j = true → rg_u K t (rg_u (K t) e true) t j = true := by
        intro j hj hK
        rw [rg_un hne] at hK
        rw [rg_us]
        by_cases ej : j = e
        · rw [ej, rg_us]
        · rw [rg_un ej]; exact hp j (by omega) hK
      have hst := hA.1 e he
      have hct := hA.2.2 t ht
      have ce : (nI e).toNatClampNeg = e := rg_c (by omega)
      have ctt : (nI t).toNatClampNeg = t := rg_c (by omega)
      have c40 : (nI t * 40 + nI e).toNatClampNeg = t * 40 + e := rg_c40 (by omega) (by omega)
      by_cases hsc : S e ≤ C t
      · have hsc' : st e ≤ ck t := by rw [hst, hct]; exact nI_le hsc (by omega)
        have hP' := rg_P_lrn hP ht he hpB hL g1 g2 (C' := C) (fun x => Nat.le_refl _) hP.2.2.2.1 hsc
        refine ⟨_, 1, _, _, ⟨B, S, O, C, _, le, st, og, bh, ck, _, gn, _, pr, ab, _, kd, oo, rfl, rfl, hP', hA, hX', hY'⟩, hKK, fun post m n J => ?_, fun post m n J => ?_⟩
        · refine br_f hge (And.intro (rg_i3 hf) (rg_xkn hX hf (by omega) ?_))
          rw [hKf]
          refine br_f rg_lt1 (And.intro (rg_i3 ht) (rg_xkn hX ht (by omega) ?_))
          rw [hKt]
          refine br_t rfl (g3 _ (rg_x68 ht (by omega) hla (fun _ => ?_) (fun z => absurd hsc' z)))
          exact nm_r (nI_1 n) J
        · refine br_f hge (And.intro (rg_i40 hf (by omega)) (br_f ykf' (And.intro (rg_i40 ht (by omega)) (br_t ykt (And.intro (rg_i40 ht (by omega)) ?_)))))
          rw [c40, ce, ctt]
          exact nm_e (And.intro (rg_i3 ht) (And.intro (rg_i4 (by omega)) (br_t hsc' (nm_r (nI_1 n) J))))
      · have hsc' : ¬ st e ≤ ck t := by rw [hst, hct]; exact nI_ge (by omega) (by omega)
        have hC1 : ∀ x, C x ≤ rg_u C t (S e) x := by
          intro x
          by_cases ex : x = t
          · subst ex; rw [rg_us]; omega
          · rw [rg_un ex]; exact Nat.le_refl _
        have hC2 : ∀ x, x < 3 → rg_u C t (S e) x ≤ E := by
          intro x hx
          by_cases ex : x = t
          · subst ex; rw [rg_us]; omega
          · rw [rg_un ex]; exact hP.2.2.2.1 x hx
        have hP' := rg_P_lrn hP ht he hpB hL g1 g2 (C' := rg_u C t (S e)) hC1 hC2 (by rw [rg_us]; exact Nat.le_refl _)
        have hA' : rg_A E S O (rg_u C t (S e)) st og (upd ck t (st e)) := by
          refine ⟨hA.1, hA.2.1, fun x hx => ?_⟩
          by_cases ex : x = t
          · subst ex; rw [rg_us, pk_us]; exact hst
          · rw [rg_un ex, pk_un ex]; exact hA.2.2 x hx
        refine ⟨_, 1, _, _, ⟨B, S, O, _, _, le, st, og, bh, _, _, gn, _, pr, ab, _, kd, oo, rfl, rfl, hP', hA', hX', hY'⟩, hKK, fun post m n J => ?_, fun post m n J => ?_⟩
        · refine br_f hge (And.intro (rg_i3 hf) (rg_xkn hX hf (by omega) ?_))
          rw [hKf]
          refine br_f rg_lt1 (And.intro (rg_i3 ht) (rg_xkn hX ht (by omega) ?_))
          rw [hKt]
          refine br_t rfl (g3 _ (rg_x68 ht (by omega) hla (fun z => absurd z hsc') (fun _ => ?_)))
          exact nm_r (nI_1 n) J
        · refine br_f hge (And.intro (rg_i40 hf (by omega)) (br_f ykf' (And.intro (rg_i40 ht (by omega)) (br_t ykt (And.intro (rg_i40 ht (by omega)) ?_)))))
          rw [c40, ce, ctt]
          exact nm_e (And.intro (rg_i3 ht) (And.intro (rg_i4 (by omega)) (br_f hsc' (And.intro (rg_i4 (by omega)) (And.intro (rg_i3 ht) (nm_e (nm_r (nI_1 n) J)))))))
theorem rg_ls2 {E : Nat} {K G : Nat → Nat → Bool} {od : Int32} {u : SX} {v : SY} (h : rg_RR E K G od u v) {t f e : Nat} (ht : t < 3) (hf : f < 3) (he : e < E) :
    ∃ (G1 : Nat → Nat → Bool) (c : Nat) (u1 : SX) (v1 : SY), rg_RR E K G1 od u1 v1 ∧
      (∀ post m n, rg_WX post (nI t) (nI f) m (nI (n + c)) (nI (e + 1)) u1 → rg_VX post (nI t) (nI f) m (nI n) (nI e) u) ∧
      (∀ post m n, rg_WY post (nI t) (nI f) m (nI (n + c)) (nI (e + 1)) v1 → rg_VY post (nI t) (nI f) m (nI n) (nI e) v) := by
  have hh := h
  obtain ⟨B, S, O, C, L, le, st, og, bh, ck, kn, gn, nx, pr, ab, ky, kd, oo, rfl, rfl, hP, hA, hX, hY⟩ := h
  have hE := hP.1
  have ykf : kd (nI f * 40 + nI e).toNatClampNeg = rg_lb (G f e) := by rw [rg_c40 (by omega) (by omega)]; exact hY.2.2.2 f e hf (by omega)
  have ykt : kd (nI t * 40 + nI e).toNatClampNeg = rg_lb (G t e) := by rw [rg_c40 (by omega) (by omega)]; exact hY.2.2.2 t e ht (by omega)
  cases hKf : G f e with
  | false =>
    rw [hKf] at ykf
    refine ⟨G, 0, _, _, hh, fun post m n J => ?_, fun post m n J => ?_⟩
    · refine And.intro (rg_i3 hf) (rg_xgn hX hf (by omega) ?_)
      rw [hKf]
      exact br_t rfl (nm_r (nI_1 e) J)
    · exact And.intro (rg_i40 hf (by omega)) (br_t ykf (nm_r (nI_1 e) J))
  | true =>
    rw [hKf] at ykf
    have ykf' : ¬ kd (nI f * 40 + nI e).toNatClampNeg = 0 := by rw [ykf]; exact rg_lt1
    cases hKt : G t e with
    | true =>
      rw [hKt] at ykt
      have ykt' : ¬ kd (nI t * 40 + nI e).toNatClampNeg = 0 := by rw [ykt]; exact rg_lt1
      refine ⟨G, 0, _, _, hh, fun post m n J => ?_, fun post m n J => ?_⟩
      · refine And.intro (rg_i3 hf) (rg_xgn hX hf (by omega) ?_)
        rw [hKf]
        refine br_f rg_lt1 (And.intro (rg_i3 ht) (rg_xgn hX ht (by omega) ?_))
        rw [hKt]
        exact br_f rg_lt1 (nm_r (nI_1 e) J)
      · exact And.intro (rg_i40 hf (by omega)) (br_f ykf' (And.intro (rg_i40 ht (by omega)) (br_f ykt' (nm_r (nI_1 e) J))))
    | false =>
      rw [hKt] at ykt
      have hX' := rg_X_g hX ht (show e < 40 by omega)
      have hY' := rg_Y_g hY ht (show e < 40 by omega)
      have ctt : (nI t).toNatClampNeg = t := rg_c (by omega)
      have c40 : (nI t * 40 + nI e).toNatClampNeg = t * 40 + e := rg_c40 (by omega) (by omega)
      refine ⟨_, 1, _, _, ⟨B, S, O, C, L, le, st, og, bh, ck, kn, _, nx, pr, ab, ky, _, oo, rfl, rfl, hP, hA, hX', hY'⟩, fun post m n J => ?_, fun post m n J => ?_⟩
      · refine And.intro (rg_i3 hf) (rg_xgn hX hf (by omega) ?_)
        rw [hKf]
        refine br_f rg_lt1 (And.intro (rg_i3 ht) (rg_xgn hX ht (by omega) ?_))
        rw [hKt]
        refine br_t rfl (And.intro (rg_i3 ht) (And.intro (rg_i3 ht) (nm_r ?_ (nm_r (nI_1 n) (nm_r (nI_1 e) J)))))
        rw [ctt]
      · refine And.intro (rg_i40 hf (by omega)) (br_f ykf' (And.intro (rg_i40 ht (by omega)) (br_t ykt (And.intro (rg_i40 ht (by omega)) (nm_r ?_ (nm_r (nI_1 n) (nm_r (nI_1 e) J)))))))
        rw [c40]
theorem rg_ll {E : Nat} {od : Int32} {t f : Nat} (ht : t < 3) (hf : f < 3) (hne : f ≠ t) : ∀ (d e n : Nat) (K G : Nat → Nat → Bool) (u : SX) (v : SY), rg_RR E K G od u v → e + d = E → (∀ j, j < e → K f j = true → K t j = true) →
    ∃ (x : Int32) (K' G' : Nat → Nat → Bool) (u' : SX) (v' : SY), rg_RR E K' G' od u' v' ∧
      (∀ post, post x u' → rg_WX post (nI t) (nI f) (d + 1) (nI n) (nI e) u) ∧ (∀ post, post x v' → rg_WY post (nI t) (nI f) (d + 1) (nI n) (nI e) v) := by
  intro d
  induction d with
  | zero =>
    intro e n K G u v h he hp
    obtain rfl : e = E := by omega
    refine ⟨nI n, K, G, u, v, h, fun post J => ?_, fun post J => ?_⟩
    · obtain ⟨B, S, O, C, L, le, st, og, bh, ck, kn, gn, nx, pr, ab, ky, kd, oo, rfl, rfl, hP, hA, hX, hY⟩ := h
      have hE := hP.1
      exact br_t (nI_le (Nat.le_refl _) (by omega)) J
    · obtain ⟨B, S, O, C, L, le, st, og, bh, ck, kn, gn, nx, pr, ab, ky, kd, oo, rfl, rfl, hP, hA, hX, hY⟩ := h
      have hE := hP.1
      exact br_t (nI_le (Nat.le_refl _) (by omega)) J
  | succ d ih =>
    intro e n K G u v h he hp
    obtain ⟨K1, c1, u1, v1, r1, p1, x1, y1⟩ := rg_ls1 h ht hf hne (e := e) (by omega) hp
    obtain ⟨G2, c2, u2, v2, r2, x2, y2⟩ := rg_ls2 r1 ht hf (e := e) (by omega)
    obtain ⟨x, K', G', u', v', r3, x3, y3⟩ := ih (e + 1) (n + c1 + c2) K1 G2 u2 v2 r2 (by omega) p1
    exact ⟨x, K', G', u', v', r3, fun post J => x1 post _ n (x2 post _ _ (x3 post J)), fun post J => y1 post _ n (y2 post _ _ (y3 post J))⟩
end
section
/-! two texts -/
def rg_sm (le : Nat → Int32) : List Nat → List Nat → Bool
  | [], [] => true
  | [], _ :: _ => false
  | _ :: _, [] => false
  | a :: s, b :: t => decide (le a = le b) && rg_sm le s t
theorem rg_sm_l {le : Nat → Int32} : ∀ s t : List Nat, s.length ≠ t.length → rg_sm le s t = false := by
  intro s
  induction s with
  | nil =>
    intro t h
    cases t with
    | nil => exact absurd rfl h
    | cons b t => simp [rg_sm]
  | cons a s ih =>
    intro t h
    cases t with
    | nil => simp [rg_sm]
    | cons b t =>
      have h' : s.length ≠ t.length := fun z => h (by simp [z])
      simp [rg_sm, ih t h']
def rg_oc (le : Nat → Int32) : Option Nat → Int32
  | none => -5
  | some e => le e
section
variable {E : Nat} {B S O C : Nat → Nat} {K G : Nat → Nat → Bool} {L : Nat → List Nat} {le st og bh ck nx pr ab ky kd oo : Nat → Int32} {kn gn : Nat → Int64} {od : Int32} {r : Nat}
theorem rg_F40 (hP : rg_P E B S O C K L) (hr : r < 3) {e : Nat} (h : e ∈ (L r).filter (fun x => !G r x)) : e < 40 := (rg_Pl hP hr).1 e (List.mem_filter.mp h).1
/-- what stands behind a shown one -/
theorem rg_xnx (hP : rg_P E B S O C K L) (hX : rg_X E B K G L bh kn gn nx) (hr : r < 3) {A T F : List Nat} {e : Nat} (hL : L r = A ++ T) (hF : T.filter (fun x => !G r x) = e :: F) :
    ∃ A' T', L r = A' ++ T' ∧ T'.filter (fun x => !G r x) = F ∧ e < 40 ∧ (∀ post : Int32 → Prop, post (rg_hd F) → wpX_nextShown post ((nI E), le, st, og, bh, ck, kn, gn, nx) (nI r) (nx (nI r * 41 + nI e).toNatClampNeg)) := by
  obtain ⟨l1, l2, e1, -, -, e4⟩ := List.filter_eq_cons_iff.mp hF
  have hL' : L r = (A ++ l1 ++ [e]) ++ l2 := by rw [hL, e1]; simp
  obtain ⟨q1, q2⟩ := rg_Pl hP hr
  have he : e < 40 := q1 e (by rw [hL']; simp)
  have hc := hX.2.2.2 r hr
  rw [hL'] at hc
  have hc2 := rg_ch_ap _ 40 hc
  rw [rg_la_ap] at hc2
  refine ⟨A ++ l1 ++ [e], l2, hL', e4, he, fun post hp => ?_⟩
  rw [rg_c41 hr (by omega)]
  refine rg_xnS hX hr (rg_ch_h hc2) (rg_ch_f hc2) (fun x hx => q1 x (by rw [hL']; simp [hx])) ?_ (by rw [e4]; exact hp)
  rw [hL', List.length_append] at q2
  omega
theorem rg_x132 {s t : List Nat} (h : s = [] ∨ t = []) (hs : ∀ x, x ∈ s → x < 40) (ht : ∀ x, x ∈ t → x < 40) {post : Int32 → Prop} (hp : post (rg_lb (rg_sm le s t))) : wX_sameText_132 post (rg_hd s) (rg_hd t) (nI E) le st og bh ck kn gn nx := by
  have m1 : ¬ (0 : Int32) ≤ -1 := by decide
  cases s with
  | nil =>
    cases t with
    | nil => exact br_f m1 (br_f m1 hp)
    | cons b t => exact br_f m1 (br_t (nI_pos' (n := b) (by have := ht b (by simp); omega)) hp)
  | cons a s =>
    cases t with
    | nil => exact br_t (nI_pos' (n := a) (by have := hs a (by simp); omega)) hp
    | cons b t => rcases h with h | h <;> cases h
theorem rg_xst (hP : rg_P E B S O C K L) (hX : rg_X E B K G L bh kn gn nx) {ra rb : Nat} (ha : ra < 3) (hb : rb < 3) {post : Int32 → Prop} : ∀ (Fa Aa Ta Fb Ab Tb : List Nat) (i n : Nat), L ra = Aa ++ Ta → Ta.filter (fun x => !G ra x) = Fa → L rb = Ab ++ Tb → Tb.filter (fun x => !G rb x) = Fb →
    i + Fa.length ≤ 40 → Fa.length < n → post (rg_lb (rg_sm le Fa Fb)) → wX_sameText_56 post (nI ra) (nI rb) (nI E) le st og bh ck kn gn nx n (rg_hd Fa) (rg_hd Fb) (nI i) := by
  have m1 : (-1 : Int32) < 0 := by decide
  intro Fa
  induction Fa with
  | nil =>
    intro Aa Ta Fb Ab Tb i n hLa hFa hLb hFb hi hn hp
    have hbm : ∀ x, x ∈ Fb → x < 40 := fun x hx => by
      rw [← hFb] at hx
      exact (rg_Pl hP hb).1 x (by rw [hLb]; exact List.mem_append_right Ab (List.mem_filter.mp hx).1)
    have hi' : i ≤ 40 := by simpa using hi
    have J : wX_sameText_132 post (rg_hd []) (rg_hd Fb) (nI E) le st og bh ck kn gn nx := rg_x132 (Or.inl rfl) (fun x hx => absurd hx (by simp)) hbm hp
    cases n with
    | zero => exact absurd hn (Nat.not_lt_zero _)
    | succ n => exact pk_le 40 i (fun _ => J) (fun _ => br_t m1 J)
  | cons a Fa ih =>
    intro Aa Ta Fb Ab Tb i n hLa hFa hLb hFb hi hn hp
    obtain ⟨Aa', Ta', ga1, ga2, ga3, ga4⟩ := rg_xnx hP hX ha (le := le) (st := st) (og := og) (ck := ck) hLa hFa
    simp only [List.length_cons] at hi hn
    cases n with
    | zero => exact absurd hn (Nat.not_lt_zero _)
    | succ n =>
      cases Fb with
      | nil =>
        have J : wX_sameText_132 post (nI a) (-1) (nI E) le st og bh ck kn gn nx := br_t (nI_pos' (by omega)) hp
        exact br_f (nI_ge (b := 40) (by omega) (by decide)) (br_f (nI_pos (n := a) (by omega)) (br_t m1 J))
      | cons b Fb =>
        obtain ⟨Ab', Tb', gb1, gb2, gb3, gb4⟩ := rg_xnx hP hX hb (le := le) (st := st) (og := og) (ck := ck) hLb hFb
        show wX_sameText_56 post (nI ra) (nI rb) (nI E) le st og bh ck kn gn nx (n + 1) (nI a) (nI b) (nI i)
        have ca : (nI a).toNatClampNeg = a := rg_c (by omega)
        have cb : (nI b).toNatClampNeg = b := rg_c (by omega)
        refine br_f (nI_ge (b := 40) (by omega) (by decide)) (br_f (nI_pos (by omega)) (br_f (nI_pos (by omega)) (And.intro (rg_i4 ga3) (And.intro (rg_i4 gb3) ?_))))
        rw [ca, cb]
        by_cases hab : le a = le b
        · refine br_t hab (And.intro (rg_i41 ha (by omega)) (ga4 _ (And.intro (rg_i41 hb (by omega)) (gb4 _ (nm_r (nI_1 i) ?_)))))
          exact ih Aa' Ta' Fb Ab' Tb' (i + 1) n ga1 ga2 gb1 gb2 (by omega) (by omega) (by simpa [rg_sm, hab] using hp)
        · exact br_f hab (by simpa [rg_sm, hab, rg_lb] using hp)
theorem rg_xsT (hP : rg_P E B S O C K L) (hX : rg_X E B K G L bh kn gn nx) {ra rb : Nat} (ha : ra < 3) (hb : rb < 3) {post : Int32 → Prop} (h : post (rg_lb (rg_sm le ((L ra).filter (fun x => !G ra x)) ((L rb).filter (fun x => !G rb x))))) : wpX_sameText post ((nI E), le, st, og, bh, ck, kn, gn, nx) (nI ra) (nI rb) := by
  obtain ⟨qa1, qa2⟩ := rg_Pl hP ha
  obtain ⟨qb1, qb2⟩ := rg_Pl hP hb
  have hlen : ((L ra).filter (fun x => !G ra x)).length ≤ 40 := Nat.le_trans (List.length_filter_le _ _) qa2
  unfold wpX_sameText
  dsimp only
  refine rg_xbad ha (br_t rfl (rg_xbad hb (br_t rfl (And.intro (rg_i41 (e := 40) ha (Nat.le_refl 40)) (rg_xnS hX ha (rg_xhd hX ha) (rg_ch_f (hX.2.2.2 ra ha)) qa1 qa2 (And.intro (rg_i41 (e := 40) hb (Nat.le_refl 40)) (rg_xnS hX hb (rg_xhd hX hb) (rg_ch_f (hX.2.2.2 rb hb)) qb1 qb2 (Exists.intro 41 ?_))))))))
  exact rg_xst hP hX ha hb _ [] (L ra) _ [] (L rb) 0 41 rfl rfl rfl rfl (by omega) (by omega) h
theorem rg_ych (hY : rg_Y E B K G pr ab ky kd) (hP : rg_P E B S O C K L) (hA : rg_A E S O C st og ck) (hr : r < 3) (x : Int32) {post : Int32 → SY → Prop}
    (h : ∀ od oo, post (rg_oc le (rg_at ((L r).filter (fun x => !G r x)) x)) ((nI E), od, le, st, og, pr, ab, ky, kd, ck, oo)) : wpY_charAt post ((nI E), od, le, st, og, pr, ab, ky, kd, ck, oo) (nI r) x := by
  unfold wpY_charAt
  dsimp only
  refine rg_yeA hY hP hA hr x (fun od' oo' => ?_)
  have h' := h od' oo'
  cases ho : rg_at ((L r).filter (fun x => !G r x)) x with
  | none =>
    rw [ho] at h'
    exact br_f (show ¬ (0 : Int32) ≤ -5 by decide) h'
  | some e =>
    rw [ho] at h'
    have he : e < 40 := rg_F40 hP hr (rg_at_m ho)
    refine br_t (nI_pos' (n := e) (by omega)) (And.intro (rg_i4 he) ?_)
    show post (le (nI e).toNatClampNeg) _
    rw [rg_c (by omega)]
    exact h'
theorem rg_len (hP : rg_P E B S O C K L) (hr : r < 3) : rg_cn (fun x => K r x && !G r x) E = ((L r).filter (fun x => !G r x)).length := by
  rw [← List.countP_eq_length_filter, ← rg_P_ct hP hr]
  exact rg_cn_cg E (fun x _ => Bool.and_comm _ _)
theorem rg_yst (hY : rg_Y E B K G pr ab ky kd) (hP : rg_P E B S O C K L) (hA : rg_A E S O C st og ck) {ra rb : Nat} (ha : ra < 3) (hb : rb < 3) {post : Int32 → SY → Prop} : ∀ (Ya Yb Xa Xb : List Nat) (n : Nat) (od : Int32) (oo : Nat → Int32),
    (L ra).filter (fun x => !G ra x) = Xa ++ Ya → (L rb).filter (fun x => !G rb x) = Xb ++ Yb → Xa.length = Xb.length → Ya.length = Yb.length → Ya.length < n → (∀ od oo, post (rg_lb (rg_sm le Ya Yb)) ((nI E), od, le, st, og, pr, ab, ky, kd, ck, oo)) →
    wY_sameText_33 post (nI ra) (nI rb) n (nI Xa.length) (nI E) od le st og pr ab ky kd ck oo := by
  have hE := hP.1
  intro Ya
  induction Ya with
  | nil =>
    intro Yb Xa Xb n od oo hFa hFb h1 h2 hn hp
    cases n with
    | zero => exact absurd hn (Nat.not_lt_zero _)
    | succ n =>
      cases Yb with
      | cons b Yb => simp at h2
      | nil =>
        unfold wY_sameText_33
        dsimp only
        refine rg_ylN hY hE ha ?_
        rw [rg_len hP ha, hFa, List.append_nil]
        have hq := (rg_Pl hP ha).2
        have hq2 := List.length_filter_le (fun x => !G ra x) (L ra)
        rw [hFa, List.append_nil] at hq2
        exact br_t (nI_le (Nat.le_refl _) (by omega)) (hp od oo)
  | cons a Ya ih =>
    intro Yb Xa Xb n od oo hFa hFb h1 h2 hn hp
    cases n with
    | zero => exact absurd hn (Nat.not_lt_zero _)
    | succ n =>
      cases Yb with
      | nil => simp at h2
      | cons b Yb =>
        have hq := (rg_Pl hP ha).2
        have hq2 := List.length_filter_le (fun x => !G ra x) (L ra)
        rw [hFa, List.length_append, List.length_cons] at hq2
        simp only [List.length_cons] at h2 hn
        have ea : rg_at ((L ra).filter (fun x => !G ra x)) (nI Xa.length) = some a := by
          rw [rg_at_p (by omega), hFa]
          simp
        have eb : rg_at ((L rb).filter (fun x => !G rb x)) (nI Xa.length) = some b := by
          rw [rg_at_p (by omega), hFb, h1]
          simp
        unfold wY_sameText_33
        dsimp only
        refine rg_ylN hY hE ha ?_
        rw [rg_len hP ha, hFa, List.length_append, List.length_cons]
        refine br_f (nI_ge (by omega) (by omega)) (rg_ych hY hP hA ha _ (fun od1 oo1 => ?_))
        refine rg_ych hY hP hA hb _ (fun od2 oo2 => ?_)
        rw [ea, eb]
        by_cases hab : le a = le b
        · refine br_t hab (nm_r (nI_1 _) ?_)
          have := ih Yb (Xa ++ [a]) (Xb ++ [b]) n od2 oo2 (by rw [hFa]; simp) (by rw [hFb]; simp) (by simp [h1]) (by omega) (by omega) (fun od oo => by
            have h3 := hp od oo
            simp only [rg_sm, hab, decide_true, Bool.true_and] at h3
            exact h3)
          rw [List.length_append] at this
          exact this
        · refine br_f hab ?_
          have h3 := hp od2 oo2
          simp only [rg_sm, hab, decide_false, Bool.false_and] at h3
          exact h3
theorem rg_ysT (hY : rg_Y E B K G pr ab ky kd) (hP : rg_P E B S O C K L) (hA : rg_A E S O C st og ck) {ra rb : Nat} (ha : ra < 3) (hb : rb < 3) {post : Int32 → SY → Prop}
    (h : ∀ od oo, post (rg_lb (rg_sm le ((L ra).filter (fun x => !G ra x)) ((L rb).filter (fun x => !G rb x)))) ((nI E), od, le, st, og, pr, ab, ky, kd, ck, oo)) : wpY_sameText post ((nI E), od, le, st, og, pr, ab, ky, kd, ck, oo) (nI ra) (nI rb) := by
  have hE := hP.1
  have la := rg_len (G := G) hP ha
  have lb := rg_len (G := G) hP hb
  have ba := rg_cn_le (fun x => K ra x && !G ra x) E
  have bb := rg_cn_le (fun x => K rb x && !G rb x) E
  unfold wpY_sameText
  dsimp only
  refine rg_ybad ha (br_f (by decide) (rg_ybad hb (br_f (by decide) (rg_ylN hY hE ha (rg_ylN hY hE hb ?_)))))
  by_cases hl : rg_cn (fun x => K ra x && !G ra x) E = rg_cn (fun x => K rb x && !G rb x) E
  · refine br_t (by rw [hl]) (Exists.intro 41 ?_)
    exact rg_yst hY hP hA ha hb _ _ [] [] 41 od oo rfl rfl rfl (by omega) (by omega) h
  · refine br_f (fun z => hl ((nI_eq (by omega) (by omega)).mp z)) ?_
    have h' := h od oo
    rw [rg_sm_l _ _ (by omega)] at h'
    exact h'
end
end
section
/-! what is owed -/
/-- the relation: one tree of elements with keys; for each replica what it knows and a list that holds just that, in the tree's order -/
def i_Rel (_ : Nat) (u : SX) (v : SY) : Prop := ∃ (E : Nat) (K G : Nat → Nat → Bool) (od : Int32), rg_RR E K G od u v
theorem i_up {k : Nat} {u : SX} {v : SY} (h : i_Rel k u v) : i_Rel (k + 4) u v := h
theorem rg_mk {k E : Nat} {K G : Nat → Nat → Bool} {od : Int32} {u : SX} {v : SY} (h : rg_RR E K G od u v) : i_Rel k u v := ⟨E, K, G, od, h⟩
/-- one way to take the relation apart -/
theorem rg_el {Q : SX → SY → Prop} (h : ∀ (E : Nat) (B S O C : Nat → Nat) (K G : Nat → Nat → Bool) (L : Nat → List Nat) (le st og bh ck : Nat → Int32) (kn gn : Nat → Int64) (nx : Nat → Int32) (od : Int32) (pr ab ky kd oo : Nat → Int32),
    rg_P E B S O C K L → rg_A E S O C st og ck → rg_X E B K G L bh kn gn nx → rg_Y E B K G pr ab ky kd → (∀ k od oo, i_Rel k ((nI E), le, st, og, bh, ck, kn, gn, nx) ((nI E), od, le, st, og, pr, ab, ky, kd, ck, oo)) → Q ((nI E), le, st, og, bh, ck, kn, gn, nx) ((nI E), od, le, st, og, pr, ab, ky, kd, ck, oo))
    {k : Nat} {u : SX} {v : SY} (I : i_Rel k u v) : Q u v := by
  obtain ⟨E, K, G, od, B, S, O, C, L, le, st, og, bh, ck, kn, gn, nx, pr, ab, ky, kd, oo, rfl, rfl, hP, hA, hX, hY⟩ := I
  exact h E B S O C K G L le st og bh ck kn gn nx od pr ab ky kd oo hP hA hX hY
    (fun k od oo => rg_mk ⟨B, S, O, C, L, le, st, og, bh, ck, kn, gn, nx, pr, ab, ky, kd, oo, rfl, rfl, hP, hA, hX, hY⟩)
theorem rg_init {post : SX → Prop} {z1 z2 z3 z4 z5 : Nat → Int32} {z6 z7 : Nat → Int64} (h : ∀ nx, (∀ j, j < 123 → nx j = -1) → post (0, z1, z2, z3, z4, z5, z6, z7, nx)) : ∀ (d i : Nat) (nx : Nat → Int32), i + d = 123 → (∀ j, j < i → nx j = -1) →
    wX_init_67 post 0 (d + 1) (nI i) z1 z2 z3 z4 z5 z6 z7 nx := by
  intro d
  induction d with
  | zero =>
    intro i nx hi hn
    obtain rfl : i = 123 := by omega
    exact br_t (nI_le (a := 123) (b := 123) (by omega) (by omega)) (h nx hn)
  | succ d ih =>
    intro i nx hi hn
    refine br_f (nI_ge (b := 123) (by omega) (by decide)) (And.intro (vp_in_nI (by omega) (by omega)) (nm_e (nm_r (nI_1 i) (ih (i + 1) _ (by omega) (fun j hj => ?_)))))
    rw [rg_c (by omega)]
    by_cases ej : j = i
    · subst ej; rw [pk_us]
    · rw [pk_un ej]; exact hn j (by omega)
theorem i_vc0 : wpX_init (fun u => wpY_init (fun v => i_Rel 0 u v)) := by
  refine Exists.intro 124 (rg_init (fun nx hn => ?_) 123 0 _ (by omega) (fun j hj => absurd hj (Nat.not_lt_zero _)))
  refine rg_mk (k := 0) (E := 0) (K := fun _ _ => false) (G := fun _ _ => false) (od := 0) ⟨fun _ => 0, fun _ => 0, fun _ => 0, fun _ => 0, fun _ => [], fun _ => 0, fun _ => 0, fun _ => 0, fun _ => 0, fun _ => 0, fun _ => 0, fun _ => 0, nx, fun _ => 0, fun _ => 0, fun _ => 0, fun _ => 0, fun _ => 0, rfl, rfl, ?_, ?_, ?_, ?_⟩
  · exact ⟨by omega, fun e he => absurd he (Nat.not_lt_zero _), fun a b ha => absurd ha (Nat.not_lt_zero _), fun r _ => Nat.le_refl 0, fun r e _ h => (by cases h), fun r _ => ⟨List.Pairwise.nil, fun e => ⟨fun h => (by cases h), fun h => (by cases h)⟩⟩⟩
  · exact ⟨fun e he => absurd he (Nat.not_lt_zero _), fun e he => absurd he (Nat.not_lt_zero _), fun r _ => rfl⟩
  · refine ⟨fun e he => absurd he (Nat.not_lt_zero _), fun r e _ _ => ?_, fun r e _ _ => ?_, fun r hr => hn _ (by omega)⟩
    · show (0 : Int64).toBitVec.getLsbD e = false
      exact BitVec.getLsbD_zero
    · show (0 : Int64).toBitVec.getLsbD e = false
      exact BitVec.getLsbD_zero
  · exact ⟨fun e he => absurd he (Nat.not_lt_zero _), fun a x ha => absurd ha (Nat.not_lt_zero _), fun r e _ _ => rfl, fun r e _ _ => rfl⟩
theorem i_vc_length {k : Nat} {u : SX} {v : SY} (I : i_Rel k u v) (hk : k + 4 ≤ 2048) (v1 : Int32) : wpX_length (fun r => wpY_length (fun r' => r' = r ∧ i_Rel (k + 4) u v) v v1) u v1 := by
  refine rg_el (Q := fun u v => wpX_length (fun r => wpY_length (fun r' => r' = r ∧ i_Rel (k + 4) u v) v v1) u v1) ?_ I
  intro E B S O C K G L le st og bh ck kn gn nx od pr ab ky kd oo hP hA hX hY hI
  unfold wpX_length
  dsimp only
  rcases rg_rep v1 with ⟨r, hr, rfl⟩ | ⟨hx, hy⟩
  · exact rg_xbad hr (br_t rfl (rg_xtL hX hP.1 hr (rg_ylN hY hP.1 hr ⟨rfl, hI _ _ _⟩)))
  · refine hx _ (br_f (by decide) ?_)
    unfold wpY_length
    dsimp only
    exact hy _ _ (br_t rfl ⟨rfl, hI _ _ _⟩)
theorem i_vc_known {k : Nat} {u : SX} {v : SY} (I : i_Rel k u v) (hk : k + 4 ≤ 2048) (v1 : Int32) : wpX_known (fun r => wpY_known (fun r' => r' = r ∧ i_Rel (k + 4) u v) v v1) u v1 := by
  refine rg_el (Q := fun u v => wpX_known (fun r => wpY_known (fun r' => r' = r ∧ i_Rel (k + 4) u v) v v1) u v1) ?_ I
  intro E B S O C K G L le st og bh ck kn gn nx od pr ab ky kd oo hP hA hX hY hI
  unfold wpX_known wpY_known
  dsimp only
  rcases rg_rep v1 with ⟨r, hr, rfl⟩ | ⟨hx, hy⟩
  · refine rg_xbad hr (br_t rfl (Exists.intro (E + 1) (rg_xkl hX hP.1 hr E 0 (by omega) ?_)))
    exact rg_ybad hr (br_f (by decide) (Exists.intro (E + 1) (rg_ykl hY hP.1 hr E 0 (by omega) ⟨rfl, hI _ _ _⟩)))
  · exact hx _ (br_f (by decide) (hy _ _ (br_t rfl ⟨rfl, hI _ _ _⟩)))
theorem i_vc_elementAt {k : Nat} {u : SX} {v : SY} (I : i_Rel k u v) (hk : k + 4 ≤ 2048) (v1 : Int32) (v2 : Int32) : wpX_elementAt (fun r => wpY_elementAt (fun r' v' => r' = r ∧ i_Rel (k + 4) u v') v v1 v2) u v1 v2 := by
  refine rg_el (Q := fun u v => wpX_elementAt (fun r => wpY_elementAt (fun r' v' => r' = r ∧ i_Rel (k + 4) u v') v v1 v2) u v1 v2) ?_ I
  intro E B S O C K G L le st og bh ck kn gn nx od pr ab ky kd oo hP hA hX hY hI
  unfold wpX_elementAt
  dsimp only
  rcases rg_rep v1 with ⟨r, hr, rfl⟩ | ⟨hx, hy⟩
  · refine rg_xbad hr (br_t rfl (rg_xsA hP hX hr v2 ?_))
    cases ho : rg_at ((L r).filter (fun x => !G r x)) v2 with
    | none =>
      refine br_f (show ¬ (0 : Int32) ≤ -1 by decide) (rg_yeA hY hP hA hr v2 (fun od oo => ?_))
      rw [ho]
      exact ⟨rfl, hI _ _ _⟩
    | some e =>
      have he : e < 40 := rg_F40 hP hr (rg_at_m ho)
      refine br_t (nI_pos' (n := e) (by omega)) (rg_yeA hY hP hA hr v2 (fun od oo => ?_))
      rw [ho]
      exact ⟨rfl, hI _ _ _⟩
  · refine hx _ (br_f (by decide) ?_)
    unfold wpY_elementAt
    dsimp only
    exact hy _ _ (br_t rfl ⟨rfl, hI _ _ _⟩)
theorem i_vc_charAt {k : Nat} {u : SX} {v : SY} (I : i_Rel k u v) (hk : k + 4 ≤ 2048) (v1 : Int32) (v2 : Int32) : wpX_charAt (fun r => wpY_charAt (fun r' v' => r' = r ∧ i_Rel (k + 4) u v') v v1 v2) u v1 v2 := by
  refine rg_el (Q := fun u v => wpX_charAt (fun r => wpY_charAt (fun r' v' => r' = r ∧ i_Rel (k + 4) u v') v v1 v2) u v1 v2) ?_ I
  intro E B S O C K G L le st og bh ck kn gn nx od pr ab ky kd oo hP hA hX hY hI
  unfold wpX_charAt
  dsimp only
  rcases rg_rep v1 with ⟨r, hr, rfl⟩ | ⟨hx, hy⟩
  · refine rg_xbad hr (br_t rfl (rg_xsA hP hX hr v2 ?_))
    cases ho : rg_at ((L r).filter (fun x => !G r x)) v2 with
    | none =>
      refine br_f (show ¬ (0 : Int32) ≤ -1 by decide) (rg_ych hY hP hA hr v2 (fun od oo => ?_))
      rw [ho]
      exact ⟨rfl, hI _ _ _⟩
    | some e =>
      have he : e < 40 := rg_F40 hP hr (rg_at_m ho)
      refine br_t (nI_pos' (n := e) (by omega)) (And.intro (rg_i4 he) (rg_ych hY hP hA hr v2 (fun od oo => ?_)))
      rw [ho]
      refine ⟨?_, hI _ _ _⟩
      show le e = le (nI e).toNatClampNeg
      rw [rg_c (by omega)]
  · refine hx _ (br_f (by decide) ?_)
    unfold wpY_charAt
    dsimp only
    unfold wpY_elementAt
    dsimp only
    exact hy _ _ (br_t rfl (br_f (show ¬ (0 : Int32) ≤ -1 by decide) ⟨rfl, hI _ _ _⟩))
theorem rg_ele (x : Int32) {E : Nat} (hE : E ≤ 40) : (x < 0 ∨ nI E ≤ x) ∨ ∃ e, e < E ∧ x = nI e := by
  by_cases h0 : x < 0
  · exact Or.inl (Or.inl h0)
  · obtain ⟨j, hj, rfl⟩ := nI_of h0
    by_cases h : j < E
    · exact Or.inr ⟨j, h, rfl⟩
    · exact Or.inl (Or.inr (nI_le (by omega) hj))
section
variable {E : Nat} {B S O C : Nat → Nat} {K G : Nat → Nat → Bool} {L : Nat → List Nat} {le st og bh ck nx pr ab ky kd oo : Nat → Int32} {kn gn : Nat → Int64} {od : Int32} {r : Nat}
theorem rg_xun (hX : rg_X E B K G L bh kn gn nx) (hE : E ≤ 40) (hr : r < 3) {e : Nat} (he : e < E) {post : Int32 → Prop} (h : post (rg_lb (!K r e))) : wpX_unknown post ((nI E), le, st, og, bh, ck, kn, gn, nx) (nI r) (nI e) := by
  refine br_f (nI_pos (by omega)) (br_f (nI_ge (by omega) (by omega)) (And.intro (rg_i3 hr) (rg_xkn hX hr (by omega) ?_)))
  cases hK : K r e with
  | false => rw [hK] at h; exact br_t rfl h
  | true => rw [hK] at h; exact br_f rg_lt1 h
theorem rg_xux {x : Int32} (hx : x < 0 ∨ nI E ≤ x) {post : Int32 → Prop} (h : post 1) : wpX_unknown post ((nI E), le, st, og, bh, ck, kn, gn, nx) (nI r) x := by
  by_cases h0 : x < 0
  · exact br_t h0 h
  · rcases hx with hx | hx
    · exact absurd hx h0
    · exact br_f h0 (br_t hx h)
end
theorem i_vc_rank {k : Nat} {u : SX} {v : SY} (I : i_Rel k u v) (hk : k + 4 ≤ 2048) (v1 : Int32) (v2 : Int32) : wpX_rank (fun r => wpY_rank (fun r' => r' = r ∧ i_Rel (k + 4) u v) v v1 v2) u v1 v2 := by
  refine rg_el (Q := fun u v => wpX_rank (fun r => wpY_rank (fun r' => r' = r ∧ i_Rel (k + 4) u v) v v1 v2) u v1 v2) ?_ I
  intro E B S O C K G L le st og bh ck kn gn nx od pr ab ky kd oo hP hA hX hY hI
  have hE := hP.1
  unfold wpX_rank wpY_rank
  dsimp only
  rcases rg_rep v1 with ⟨r, hr, rfl⟩ | ⟨hx, hy⟩
  · refine rg_xbad hr (br_t rfl ?_)
    rcases rg_ele v2 hE with hx | ⟨e, he, rfl⟩
    · refine rg_xux hx (br_f (by decide) (rg_ybad hr (br_f (by decide) (rg_ykx hE hx (br_t rfl ⟨rfl, hI _ _ _⟩)))))
    · refine rg_xun hX hE hr he ?_
      cases hK : K r e with
      | false =>
        refine br_f rg_lt1 (rg_ybad hr (br_f (by decide) (rg_ykn hY hE hr he ?_)))
        rw [hK]
        exact br_t rfl ⟨rfl, hI _ _ _⟩
      | true =>
        obtain ⟨A, T, hL⟩ := List.append_of_mem ((rg_P_m hP hr e).mpr hK)
        refine br_t rfl (rg_xcB hP hX hr hL false (rg_ybad hr (br_f (by decide) (rg_ykn hY hE hr he ?_))))
        rw [hK]
        refine br_f rg_lt1 (rg_yrK hY hP hA hr hL ⟨?_, hI _ _ _⟩)
        exact congrArg nI (List.countP_eq_length.mpr (fun _ _ => rfl)).symm
  · exact hx _ (br_f (by decide) (hy _ _ (br_t rfl ⟨rfl, hI _ _ _⟩)))
theorem i_vc_placeOf {k : Nat} {u : SX} {v : SY} (I : i_Rel k u v) (hk : k + 4 ≤ 2048) (v1 : Int32) (v2 : Int32) : wpX_placeOf (fun r => wpY_placeOf (fun r' => r' = r ∧ i_Rel (k + 4) u v) v v1 v2) u v1 v2 := by
  refine rg_el (Q := fun u v => wpX_placeOf (fun r => wpY_placeOf (fun r' => r' = r ∧ i_Rel (k + 4) u v) v v1 v2) u v1 v2) ?_ I
  intro E B S O C K G L le st og bh ck kn gn nx od pr ab ky kd oo hP hA hX hY hI
  have hE := hP.1
  unfold wpX_placeOf wpY_placeOf
  dsimp only
  rcases rg_rep v1 with ⟨r, hr, rfl⟩ | ⟨hx, hy⟩
  · refine rg_xbad hr (br_t rfl ?_)
    rcases rg_ele v2 hE with hx | ⟨e, he, rfl⟩
    · refine rg_xux hx (br_f (by decide) (rg_ybad hr (br_f (by decide) (rg_ysx hE hx (br_t rfl ⟨rfl, hI _ _ _⟩)))))
    · refine rg_xun hX hE hr he ?_
      cases hK : K r e with
      | false =>
        refine br_f rg_lt1 (rg_ybad hr (br_f (by decide) (rg_ysh hY hE hr he ?_)))
        rw [hK]
        exact br_t rfl ⟨rfl, hI _ _ _⟩
      | true =>
        refine br_t rfl (rg_xsh hX hr (by omega) ?_)
        cases hG : G r e with
        | true =>
          refine br_t rfl (rg_ybad hr (br_f (by decide) (rg_ysh hY hE hr he ?_)))
          rw [hK, hG]
          exact br_t rfl ⟨rfl, hI _ _ _⟩
        | false =>
          obtain ⟨A, T, hL⟩ := List.append_of_mem ((rg_P_m hP hr e).mpr hK)
          refine br_f rg_lt1 (rg_xcB hP hX hr hL true (rg_ybad hr (br_f (by decide) (rg_ysh hY hE hr he ?_))))
          rw [hK, hG]
          refine br_f rg_lt1 (Exists.intro (E + 1) (rg_ypl hY hP hA hr he E 0 (by omega) ⟨?_, hI _ _ _⟩))
          exact congrArg nI (rg_P_rk hP hr hL (fun x => !G r x))
  · exact hx _ (br_f (by decide) (hy _ _ (br_t rfl ⟨rfl, hI _ _ _⟩)))
theorem i_vc_sameText {k : Nat} {u : SX} {v : SY} (I : i_Rel k u v) (hk : k + 4 ≤ 2048) (v1 : Int32) (v2 : Int32) : wpX_sameText (fun r => wpY_sameText (fun r' v' => r' = r ∧ i_Rel (k + 4) u v') v v1 v2) u v1 v2 := by
  refine rg_el (Q := fun u v => wpX_sameText (fun r => wpY_sameText (fun r' v' => r' = r ∧ i_Rel (k + 4) u v') v v1 v2) u v1 v2) ?_ I
  intro E B S O C K G L le st og bh ck kn gn nx od pr ab ky kd oo hP hA hX hY hI
  rcases rg_rep v1 with ⟨ra, ha, rfl⟩ | ⟨hx, hy⟩
  · rcases rg_rep v2 with ⟨rb, hb, rfl⟩ | ⟨hx, hy⟩
    · exact rg_xsT hP hX ha hb (rg_ysT hY hP hA ha hb (fun od oo => ⟨rfl, hI _ _ _⟩))
    · unfold wpX_sameText wpY_sameText
      dsimp only
      exact rg_xbad ha (br_t rfl (hx _ (br_f (by decide) (rg_ybad ha (br_f (by decide) (hy _ _ (br_t rfl ⟨rfl, hI _ _ _⟩)))))))
  · unfold wpX_sameText wpY_sameText
    dsimp only
    exact hx _ (br_f (by decide) (hy _ _ (br_t rfl ⟨rfl, hI _ _ _⟩)))
theorem i_vc_delete {k : Nat} {u : SX} {v : SY} (I : i_Rel k u v) (hk : k + 4 ≤ 2048) (v1 : Int32) (v2 : Int32) : wpX_delete (fun r u' => wpY_delete (fun r' v' => r' = r ∧ i_Rel (k + 4) u' v') v v1 v2) u v1 v2 := by
  refine rg_el (Q := fun u v => wpX_delete (fun r u' => wpY_delete (fun r' v' => r' = r ∧ i_Rel (k + 4) u' v') v v1 v2) u v1 v2) ?_ I
  intro E B S O C K G L le st og bh ck kn gn nx od pr ab ky kd oo hP hA hX hY hI
  unfold wpX_delete wpY_delete
  dsimp only
  rcases rg_rep v1 with ⟨r, hr, rfl⟩ | ⟨hx, hy⟩
  · refine rg_xbad hr (br_t rfl (rg_xsA hP hX hr v2 ?_))
    cases ho : rg_at ((L r).filter (fun x => !G r x)) v2 with
    | none =>
      refine br_f (show ¬ (0 : Int32) ≤ -1 by decide) (rg_ybad hr (br_f (by decide) (rg_yeA hY hP hA hr v2 (fun od oo => ?_))))
      rw [ho]
      exact br_f (show ¬ (0 : Int32) ≤ -5 by decide) ⟨rfl, hI _ _ _⟩
    | some e =>
      have he : e < 40 := rg_F40 hP hr (rg_at_m ho)
      have cr : (nI r).toNatClampNeg = r := rg_c (by omega)
      have hX' := rg_X_g hX hr he
      have hY' := rg_Y_g hY hr he
      refine br_t (nI_pos' (n := e) (by omega)) (And.intro (rg_i3 hr) (And.intro (rg_i3 hr) (nm_r (e' := vp_updL gn r (gn r ||| ((1 : Int64) <<< ((nI e).toInt64 &&& 63)))) ?_ (rg_ybad hr (br_f (by decide) (rg_yeA hY hP hA hr v2 (fun od oo => ?_)))))))
      · show vp_updL gn (nI r).toNatClampNeg _ = _
        rw [cr]
        rfl
      · rw [ho]
        refine br_t (nI_pos' (n := e) (by omega)) (And.intro (rg_i40 hr he) (nm_r (e' := upd kd (r * 40 + e) (vp_nar .boolean 1)) ?_ ⟨rfl, rg_mk ⟨B, S, O, C, L, le, st, og, bh, ck, kn, _, nx, pr, ab, ky, _, oo, rfl, rfl, hP, hA, hX', hY'⟩⟩))
        show upd kd (nI r * 40 + nI e).toNatClampNeg _ = _
        rw [rg_c40 (by omega) he]
  · exact hx _ (br_f (by decide) (hy _ _ (br_t rfl ⟨rfl, hI _ _ _⟩)))
theorem i_vc_learn {k : Nat} {u : SX} {v : SY} (I : i_Rel k u v) (hk : k + 4 ≤ 2048) (v1 : Int32) (v2 : Int32) : wpX_learn (fun r u' => wpY_learn (fun r' v' => r' = r ∧ i_Rel (k + 4) u' v') v v1 v2) u v1 v2 := by
  refine rg_el (Q := fun u v => wpX_learn (fun r u' => wpY_learn (fun r' v' => r' = r ∧ i_Rel (k + 4) u' v') v v1 v2) u v1 v2) ?_ I
  intro E B S O C K G L le st og bh ck kn gn nx od pr ab ky kd oo hP hA hX hY hI
  unfold wpX_learn wpY_learn
  dsimp only
  rcases rg_rep v1 with ⟨t, ht, rfl⟩ | ⟨hx, hy⟩
  · rcases rg_rep v2 with ⟨f, hf, rfl⟩ | ⟨hx, hy⟩
    · refine rg_xbad ht (br_t rfl (rg_xbad hf (br_t rfl ?_)))
      by_cases htf : f = t
      · subst htf
        exact br_t rfl (rg_ybad ht (br_f (by decide) (rg_ybad hf (br_f (by decide) (br_t rfl ⟨rfl, hI _ _ _⟩)))))
      · have hne : ¬ nI t = nI f := fun z => htf ((nI_eq (by omega) (by omega)).mp z).symm
        obtain ⟨x, K', G', u', v', R, hx, hy⟩ := rg_ll ht hf htf E 0 0 K G _ _ (show rg_RR E K G od ((nI E), le, st, og, bh, ck, kn, gn, nx) ((nI E), od, le, st, og, pr, ab, ky, kd, ck, oo) from ⟨B, S, O, C, L, le, st, og, bh, ck, kn, gn, nx, pr, ab, ky, kd, oo, rfl, rfl, hP, hA, hX, hY⟩) (by omega) (fun j hj => absurd hj (Nat.not_lt_zero _))
        have hx' : ∀ post : Int32 → SX → Prop, post x u' → wX_learn_29 post (nI t) (nI f) (E + 1) 0 0 (nI E) le st og bh ck kn gn nx := hx
        have hy' : ∀ post : Int32 → SY → Prop, post x v' → wY_learn_31 post (nI t) (nI f) (nI E) od (E + 1) 0 0 le st og pr ab ky kd ck oo := hy
        refine br_f hne (Exists.intro (E + 1) (hx' _ ?_))
        exact rg_ybad ht (br_f (by decide) (rg_ybad hf (br_f (by decide) (br_f hne (Exists.intro (E + 1) (hy' _ ⟨rfl, rg_mk R⟩))))))
    · exact rg_xbad ht (br_t rfl (hx _ (br_f (by decide) (rg_ybad ht (br_f (by decide) (hy _ _ (br_t rfl ⟨rfl, hI _ _ _⟩)))))))
  · exact hx _ (br_f (by decide) (hy _ _ (br_t rfl ⟨rfl, hI _ _ _⟩)))
/-! an insertion, both sides -/
def rg_po : Option Nat → Nat
  | none => 40
  | some e => e
section
variable {E : Nat} {B S O C : Nat → Nat} {K G : Nat → Nat → Bool} {L : Nat → List Nat} {le st og bh ck nx pr ab ky kd oo : Nat → Int32} {kn gn : Nat → Int64} {od : Int32} {r : Nat}
theorem rg_pos (hP : rg_P E B S O C K L) (hr : r < 3) {o : Option Nat} (ho : ∀ e, o = some e → e ∈ L r) :
    ∃ A T, L r = A ++ T ∧ rg_la 40 A = rg_po o ∧ ((rg_po o = 40 ∧ A = []) ∨ ∃ A0, A = A0 ++ [rg_po o]) ∧ (rg_po o = 40 ∨ (rg_po o < E ∧ K r (rg_po o) = true)) := by
  cases o with
  | none => exact ⟨[], L r, rfl, rfl, Or.inl ⟨rfl, rfl⟩, Or.inl rfl⟩
  | some e =>
    have he := ho e rfl
    obtain ⟨A0, T, hT⟩ := List.append_of_mem he
    exact ⟨A0 ++ [e], T, by rw [hT]; simp, rg_la_ap _ _ _, Or.inr ⟨A0, rfl⟩, Or.inr ⟨rg_P_lt hP hr he, (rg_P_m hP hr e).mp he⟩⟩
theorem rg_yin (hY : rg_Y E B K G pr ab ky kd) (hP : rg_P E B S O C K L) (hA : rg_A E S O C st og ck) (hr : r < 3) (hE : E < 40) {x c : Int32} (h0 : ¬ x < 0) (h1 : x ≤ nI (rg_cn (fun x => K r x && !G r x) E))
    {P : Nat} (hPe : P = rg_po (rg_at ((L r).filter (fun x => !G r x)) (x - 1))) (hP40 : P = 40 ∨ P < E) {post : Int32 → SY → Prop}
    (h : ∀ od oo ab', rg_Ab E (rg_u B E P) ab ab' 40 → post (nI E) ((nI (E + 1)), od, (upd le E (c &&& 255)), (upd st E (upd ck r (ck r + 1) r)), (upd og E (nI r)), (upd pr E (if P < E then nI P else -5)), ab', (upd ky (r * 40 + E) (vp_nar .boolean 1)), kd, (upd ck r (ck r + 1)), oo)) :
    wpY_insert post ((nI E), od, le, st, og, pr, ab, ky, kd, ck, oo) (nI r) x c := by
  have hE' := hP.1
  have cE : (nI E).toNatClampNeg = E := rg_c (by omega)
  have hv : rg_oy (rg_at ((L r).filter (fun x => !G r x)) (x - 1)) = if P < E then nI P else -5 := by
    cases ho : rg_at ((L r).filter (fun x => !G r x)) (x - 1) with
    | none =>
      rw [ho] at hPe
      have : P = 40 := hPe
      rw [if_neg (by omega)]
      rfl
    | some e =>
      rw [ho] at hPe
      have hPe' : P = e := hPe
      have he := rg_P_lt hP hr (List.mem_filter.mp (rg_at_m ho)).1
      rw [hPe', if_pos he]
      rfl
  have ha0 : rg_Ab E (rg_u B E P) ab ab 0 := ⟨fun _ _ => rfl, fun x hx => absurd hx (Nat.not_lt_zero _)⟩
  unfold wpY_insert
  dsimp only
  refine rg_ybad hr (br_f (by decide) (br_f h0 (rg_ylN hY hE' hr (br_t h1 (br_f (fun z => ?_) ?_)))))
  · have := (nI_eq (a := E) (b := 40) (by omega) (by omega)).mp z
    omega
  · by_cases hz : x = 0
    · refine br_t hz (And.intro (rg_i4 hE) (nm_r (e' := upd pr E (if P < E then nI P else -5)) ?_ (Exists.intro 41 (rg_y71 hY hE hr hP40 (h od oo) 40 0 ab (by omega) ha0))))
      rw [← hv, hz, cE, rg_at_n (by decide)]
      rfl
    · refine br_f hz (rg_yeA hY hP hA hr (x - 1) (fun od oo => ?_))
      refine And.intro (rg_i4 hE) (nm_r (e' := upd pr E (if P < E then nI P else -5)) ?_ (Exists.intro 41 (rg_y71 hY hE hr hP40 (h od oo) 40 0 ab (by omega) ha0)))
      rw [← hv, cE]
theorem rg_A_i (hA : rg_A E S O C st og ck) (hr : r < 3) : rg_A (E + 1) (rg_u S E (C r + 1)) (rg_u O E r) (rg_u C r (C r + 1)) (upd st E (upd ck r (ck r + 1) r)) (upd og E (nI r)) (upd ck r (ck r + 1)) := by
  have hc : ck r + 1 = nI (C r + 1) := by rw [hA.2.2 r hr, nI_1]
  refine ⟨fun x hx => ?_, fun x hx => ?_, fun x hx => ?_⟩
  · by_cases ex : x = E
    · subst ex; rw [pk_us, pk_us, rg_us]; exact hc
    · rw [pk_un ex, rg_un ex]; exact hA.1 x (by omega)
  · by_cases ex : x = E
    · subst ex; rw [pk_us, rg_us]
    · rw [pk_un ex, rg_un ex]; exact hA.2.1 x (by omega)
  · by_cases ex : x = r
    · subst ex; rw [pk_us, rg_us]; exact hc
    · rw [pk_un ex, rg_un ex]; exact hA.2.2 x hx
end
theorem i_vc_insert {k : Nat} {u : SX} {v : SY} (I : i_Rel k u v) (hk : k + 4 ≤ 2048) (v1 : Int32) (v2 : Int32) (v3 : Int32) : wpX_insert (fun r u' => wpY_insert (fun r' v' => r' = r ∧ i_Rel (k + 4) u' v') v v1 v2 v3) u v1 v2 v3 := by
  refine rg_el (Q := fun u v => wpX_insert (fun r u' => wpY_insert (fun r' v' => r' = r ∧ i_Rel (k + 4) u' v') v v1 v2 v3) u v1 v2 v3) ?_ I
  intro E B S O C K G L le st og bh ck kn gn nx od pr ab ky kd oo hP hA hX hY hI
  have hE := hP.1
  unfold wpX_insert
  dsimp only
  rcases rg_rep v1 with ⟨r, hr, rfl⟩ | ⟨hx, hy⟩
  · refine rg_xbad hr (br_t rfl (rg_xtL hX hE hr ?_))
    by_cases h0 : v2 < 0
    · refine br_t h0 ?_
      unfold wpY_insert
      dsimp only
      exact rg_ybad hr (br_f (by decide) (br_t h0 ⟨rfl, hI _ _ _⟩))
    · refine br_f h0 ?_
      by_cases h1 : v2 ≤ nI (rg_cn (fun x => K r x && !G r x) E)
      · refine br_t h1 ?_
        by_cases h2 : E < 40
        · refine br_t (nI_lt (b := 40) h2 (by decide)) (rg_xsA hP hX hr (v2 - 1) ?_)
          obtain ⟨A, T, hL, hla, hAt, hPo⟩ := rg_pos hP hr (o := rg_at ((L r).filter (fun x => !G r x)) (v2 - 1)) (fun e he => (List.mem_filter.mp (rg_at_m he)).1)
          have cE : (nI E).toNatClampNeg = E := rg_c (by omega)
          generalize hPe : rg_po (rg_at ((L r).filter (fun x => !G r x)) (v2 - 1)) = P at hla hAt hPo
          have hP40 : P = 40 ∨ P < E := hPo.elim Or.inl (fun z => Or.inr z.1)
          have hlt : ∀ s x, s < 3 → x ∈ L s → x < 40 := fun s x hs hx => (rg_Pl hP hs).1 x hx
          have hm : ¬ E ∈ L r := fun z => by
            have := rg_P_lt hP hr z
            omega
          have hX' := rg_X_l hX hr h2 hL (rg_P_nd hP hr) hlt hm
          rw [hla] at hX'
          have hX2 : rg_X (E + 1) (rg_u B E P) (rg_u K r (rg_u (K r) E true)) G (rg_u L r (A ++ E :: T)) (upd bh E (nI P)) (vp_updL kn r (kn r ||| ((1 : Int64) <<< ((nI E).toInt64 &&& 63)))) gn
              (upd (upd nx (r * 41 + E) (nx (r * 41 + P))) (r * 41 + P) (nI E)) := by
            refine ⟨fun x hx => ?_, hX'.2⟩
            by_cases ex : x = E
            · subst ex; rw [pk_us, rg_us]
            · rw [pk_un ex, rg_un ex]; exact hX.1 x (by omega)
          have J : wX_insert_95 (fun y u' => wpY_insert (fun r' v' => r' = y ∧ i_Rel (k + 4) u' v') ((nI E), od, le, st, og, pr, ab, ky, kd, ck, oo) (nI r) v2 v3) (nI r) (nI E) (nI P) (nI E) (nI E) (upd le E (v3 &&& 255)) st (upd og E (nI r)) bh ck kn gn nx :=
            rg_x95 hr h2 (by omega) (rg_yin hY hP hA hr h2 h0 h1 hPe.symm hP40 (fun od oo ab' hab => ⟨rfl, rg_mk ⟨_, _, _, _, _, _, _, _, _, _, _, _, _, _, _, _, _, oo, rfl, rfl, rg_P_ins hP h2 hr hPo hL hAt, rg_A_i hA hr, hX2, rg_Y_i hY h2 hr hP40 hab⟩⟩))
          refine And.intro (rg_i4 h2) (nm_r (e' := upd le E (v3 &&& 255)) (by rw [cE]) (And.intro (rg_i4 h2) (nm_r (e' := upd og E (nI r)) (by rw [cE]) ?_)))
          cases ho : rg_at ((L r).filter (fun x => !G r x)) (v2 - 1) with
          | none =>
            rw [ho] at hPe
            have hq : 40 = P := hPe
            subst hq
            exact br_f (show ¬ (0 : Int32) ≤ -1 by decide) J
          | some e =>
            rw [ho] at hPe
            have hq : e = P := hPe
            subst hq
            exact br_t (nI_pos' (n := e) (by omega)) J
        · have h3 : E = 40 := by omega
          refine br_f (nI_nlt (b := 40) (by omega) (by omega)) ?_
          unfold wpY_insert
          dsimp only
          exact rg_ybad hr (br_f (by decide) (br_f h0 (rg_ylN hY hE hr (br_t h1 (br_t (by rw [h3]; rfl) ⟨rfl, hI _ _ _⟩)))))
      · refine br_f h1 ?_
        unfold wpY_insert
        dsimp only
        exact rg_ybad hr (br_f (by decide) (br_f h0 (rg_ylN hY hE hr (br_f h1 ⟨rfl, hI _ _ _⟩))))
  · refine hx _ (br_f (by decide) ?_)
    unfold wpY_insert
    dsimp only
    exact hy _ _ (br_t rfl ⟨rfl, hI _ _ _⟩)
end
