section
/-! pasted rows of kit/rows/PURE-ROWS (starting text): stores, numbers, branches -/
theorem pk_us {f : Nat → Int32} {k : Nat} {x : Int32} : upd f k x k = x := if_pos rfl
theorem pk_un {f : Nat → Int32} {k j : Nat} {x : Int32} (h : j ≠ k) : upd f k x j = f j := if_neg h
theorem pk_sub {a b : Nat} (h : b ≤ a) : nI a - nI b = nI (a - b) := by
  obtain ⟨c, rfl⟩ : ∃ c, a = c + b := ⟨a - b, by omega⟩
  rw [← nI_add, Int32.add_sub_cancel, Nat.add_sub_cancel]
theorem pk_m1 (n : Nat) : nI (n + 1) + (-1) = nI n := by
  rw [← nI_1, Int32.add_assoc, show (1 : Int32) + (-1) = 0 from rfl, Int32.add_zero]
theorem pk_mul (a b : Nat) : nI a * nI b = nI (a * b) := (Int32.ofNat_mul a b).symm
theorem pk_div {a d : Nat} (ha : a < 2 ^ 31) (h0 : 0 < d) (hd : d < 2 ^ 31) : nI a / nI d = nI (a / d) := by
  apply Int32.toInt_inj.mp
  rw [lg_idiv_nonneg (by rw [nI_toInt ha]; omega) (by rw [nI_toInt hd]; omega), nI_toInt ha, nI_toInt hd, nI_toInt (Nat.lt_of_le_of_lt (Nat.div_le_self a d) ha)]
  first | rfl | exact (Int.natCast_ediv _ _).symm
theorem pk_rem {a d : Nat} (ha : a < 2 ^ 31) (h0 : 0 < d) (hd : d < 2 ^ 31) : nI a - nI a / nI d * nI d = nI (a % d) := by
  rw [pk_div ha h0 hd, pk_mul, pk_sub (Nat.div_mul_le_self a d)]
  exact congrArg nI (by have := Nat.div_add_mod' a d; omega)
theorem pk_ix (x : Int32) {n : Nat} (hn : n < 2 ^ 31) : x < 0 ∨ nI n ≤ x ∨ ∃ j : Nat, j < n ∧ x = nI j := by
  by_cases h : x < 0
  · exact Or.inl h
  · obtain ⟨j, hj, rfl⟩ := nI_of h
    by_cases h2 : j < n
    · exact Or.inr (Or.inr ⟨j, h2, rfl⟩)
    · exact Or.inr (Or.inl (nI_le (by omega) hj))
theorem pk_le {x y : Int32} {A B : Prop} (a b : Nat) (f : a ≤ b → A) (g : b < a → B) (hx : x = nI a := by rfl) (hy : y = nI b := by rfl) (ha : a < 2 ^ 31 := by omega) (hb : b < 2 ^ 31 := by omega) : (x ≤ y → A) ∧ (¬ x ≤ y → B) := by
  subst hx hy
  rw [nI_leI ha hb]
  exact ⟨f, fun z => g (by omega)⟩
theorem pk_lt {x y : Int32} {A B : Prop} (a b : Nat) (f : a < b → A) (g : b ≤ a → B) (hx : x = nI a := by rfl) (hy : y = nI b := by rfl) (ha : a < 2 ^ 31 := by omega) (hb : b < 2 ^ 31 := by omega) : (x < y → A) ∧ (¬ x < y → B) := by
  subst hx hy
  rw [nI_ltI ha hb]
  exact ⟨f, fun z => g (by omega)⟩
theorem pk_eq {x y : Int32} {A B : Prop} (a b : Nat) (f : a = b → A) (g : a ≠ b → B) (hx : x = nI a := by rfl) (hy : y = nI b := by rfl) (ha : a < 2 ^ 31 := by omega) (hb : b < 2 ^ 31 := by omega) : (x = y → A) ∧ (¬ x = y → B) := by
  subst hx hy
  rw [nI_eq ha hb]
  exact ⟨f, g⟩
theorem pk_in {x : Int32} (n N : Nat) (h : n < N) (hx : x = nI n := by rfl) (hN : N < 2 ^ 31 := by omega) : vp_in x N := by
  subst hx
  exact vp_in_nI h hN
theorem pk_cl {x : Int32} (n : Nat) (hx : x = nI n := by rfl) (h : n < 2 ^ 31 := by omega) : x.toNatClampNeg = n := by
  subst hx
  exact nI_clamp h
/-! own rows: indices, bits of small masks, bytes -/
theorem qa_ix (k d : Nat) : nI k * 6 + nI d = nI (k * 6 + d) := by
  rw [show (6 : Int32) = nI 6 from rfl, pk_mul, nI_add]
theorem qa_xi (k d : Nat) : 6 * nI k + nI d = nI (6 * k + d) := by
  rw [show (6 : Int32) = nI 6 from rfl, pk_mul, nI_add]
theorem qa_xj (k d : Nat) : 6 * nI k + 6 + nI d = nI (6 * k + 6 + d) := by
  rw [show (6 : Int32) = nI 6 from rfl, pk_mul, nI_add, nI_add]
theorem qa_cx {k d : Nat} (h : k * 6 + d < 2 ^ 31) : (nI k * 6 + nI d).toNatClampNeg = k * 6 + d := pk_cl _ (qa_ix k d) h
theorem qa_cy {k d : Nat} (h : 6 * k + d < 2 ^ 31) : (6 * nI k + nI d).toNatClampNeg = 6 * k + d := pk_cl _ (qa_xi k d) h
theorem qa_cz {k d : Nat} (h : 6 * k + 6 + d < 2 ^ 31) : (6 * nI k + 6 + nI d).toNatClampNeg = 6 * k + 6 + d := pk_cl _ (qa_xj k d) h
theorem qa_d6 {i : Nat} (h : i < 2 ^ 31) : nI i / 6 = nI (i / 6) := pk_div (d := 6) h (by omega) (by omega)
theorem qa_m6 {i : Nat} (h : i < 2 ^ 31) : nI i - nI i / 6 * 6 = nI (i % 6) := pk_rem (d := 6) h (by omega) (by omega)
theorem qa_bt0 : ∀ u : Fin 64, ∀ e : Fin 6, (nI u.val >>> (nI e.val &&& 31)) &&& 1 = nI (u.val.testBit e.val).toNat := by decide +kernel
theorem qa_bt {u e : Nat} (hu : u < 64) (he : e < 6) : (nI u >>> (nI e &&& 31)) &&& 1 = nI (u.testBit e).toNat := qa_bt0 ⟨u, hu⟩ ⟨e, he⟩
theorem qa_n1 : ¬ (1 : Int32) = 0 := by decide
theorem qa_n0 : ¬ (0 : Int32) = 1 := by decide
theorem qa_n6 : ¬ (6 : Int32) = 0 := by decide
theorem qa_bif {u e : Nat} {A B : Prop} (hu : u < 64) (he : e < 6) (f : u.testBit e = false → A) (g : u.testBit e = true → B) : (((nI u >>> (nI e &&& 31)) &&& 1) = 0 → A) ∧ (¬ ((nI u >>> (nI e &&& 31)) &&& 1) = 0 → B) := by
  rw [qa_bt hu he]
  cases h : u.testBit e
  · exact br_t rfl (f h)
  · exact br_f qa_n1 (g h)
theorem qa_big {u e : Nat} {A B : Prop} (hu : u < 64) (he : e < 6) (f : u.testBit e = true → A) (g : u.testBit e = false → B) : (((nI u >>> (nI e &&& 31)) &&& 1) = 1 → A) ∧ (¬ ((nI u >>> (nI e &&& 31)) &&& 1) = 1 → B) := by
  rw [qa_bt hu he]
  cases h : u.testBit e
  · exact br_f qa_n0 (g h)
  · exact br_t rfl (f h)
theorem qa_or0 : ∀ u : Fin 64, ∀ e : Fin 6, nI u.val ||| ((1 : Int32) <<< (nI e.val &&& 31)) = nI (u.val ||| 2 ^ e.val) := by decide +kernel
theorem qa_or {u e : Nat} (hu : u < 64) (he : e < 6) : nI u ||| ((1 : Int32) <<< (nI e &&& 31)) = nI (u ||| 2 ^ e) := qa_or0 ⟨u, hu⟩ ⟨e, he⟩
theorem qa_cl0 : ∀ u : Fin 64, ∀ e : Fin 6, nI u.val &&& (((1 : Int32) <<< (nI e.val &&& 31)) ^^^ (-1)) = nI (u.val &&& (63 - 2 ^ e.val)) := by decide +kernel
theorem qa_cl {u e : Nat} (hu : u < 64) (he : e < 6) : nI u &&& (((1 : Int32) <<< (nI e &&& 31)) ^^^ (-1)) = nI (u &&& (63 - 2 ^ e)) := qa_cl0 ⟨u, hu⟩ ⟨e, he⟩
theorem qa_oc0 : ∀ u : Fin 64, ∀ e : Fin 6, u.val.testBit e.val = false → (u.val ||| 2 ^ e.val) &&& (63 - 2 ^ e.val) = u.val := by decide +kernel
theorem qa_oc {u e : Nat} (hu : u < 64) (he : e < 6) (h : u.testBit e = false) : (u ||| 2 ^ e) &&& (63 - 2 ^ e) = u := qa_oc0 ⟨u, hu⟩ ⟨e, he⟩ h
theorem qa_ol0 : ∀ u : Fin 64, ∀ e : Fin 6, u.val ||| 2 ^ e.val < 64 := by decide +kernel
theorem qa_ol {u e : Nat} (hu : u < 64) (he : e < 6) : u ||| 2 ^ e < 64 := qa_ol0 ⟨u, hu⟩ ⟨e, he⟩
theorem qa_al0 : ∀ u : Fin 64, ∀ e : Fin 6, u.val &&& (63 - 2 ^ e.val) < 64 := by decide +kernel
theorem qa_al {u e : Nat} (hu : u < 64) (he : e < 6) : u &&& (63 - 2 ^ e) < 64 := qa_al0 ⟨u, hu⟩ ⟨e, he⟩
theorem qa_ob0 : ∀ u : Fin 64, ∀ e f : Fin 6, (u.val ||| 2 ^ e.val).testBit f.val = (u.val.testBit f.val || decide (e.val = f.val)) := by decide +kernel
theorem qa_ob {u e f : Nat} (hu : u < 64) (he : e < 6) (hf : f < 6) : (u ||| 2 ^ e).testBit f = (u.testBit f || decide (e = f)) := qa_ob0 ⟨u, hu⟩ ⟨e, he⟩ ⟨f, hf⟩
theorem qa_obs {u e : Nat} (hu : u < 64) (he : e < 6) : (u ||| 2 ^ e).testBit e = true := by
  rw [qa_ob hu he he]; simp
theorem qa_obn {u e f : Nat} (hu : u < 64) (he : e < 6) (hf : f < 6) (h : e ≠ f) : (u ||| 2 ^ e).testBit f = u.testBit f := by
  rw [qa_ob hu he hf]; simp [h]
theorem qa_sh0 : ∀ e : Fin 7, (1 : Int32) <<< (nI e.val &&& 31) = nI (2 ^ e.val) := by decide +kernel
theorem qa_sh {e : Nat} (he : e < 7) : (1 : Int32) <<< (nI e &&& 31) = nI (2 ^ e) := qa_sh0 ⟨e, he⟩
theorem qa_fu0 : ∀ e : Fin 7, ((1 : Int32) <<< (nI e.val &&& 31)) - 1 = nI (2 ^ e.val - 1) := by decide +kernel
theorem qa_fu {e : Nat} (he : e < 7) : ((1 : Int32) <<< (nI e &&& 31)) - 1 = nI (2 ^ e - 1) := qa_fu0 ⟨e, he⟩
theorem qa_p20 : ∀ e : Fin 6, 2 ^ e.val < 64 := by decide +kernel
theorem qa_p2 {e : Nat} (he : e < 6) : 2 ^ e < 64 := qa_p20 ⟨e, he⟩
theorem qa_pb0 : ∀ e f : Fin 6, (2 ^ e.val).testBit f.val = decide (e.val = f.val) := by decide +kernel
theorem qa_pb {e f : Nat} (he : e < 6) (hf : f < 6) : (2 ^ e).testBit f = decide (e = f) := qa_pb0 ⟨e, he⟩ ⟨f, hf⟩
theorem qa_fb0 : ∀ n : Fin 7, ∀ f : Fin 6, (2 ^ n.val - 1).testBit f.val = decide (f.val < n.val) := by decide +kernel
theorem qa_fb {n f : Nat} (hn : n < 7) (hf : f < 6) : (2 ^ n - 1).testBit f = decide (f < n) := qa_fb0 ⟨n, hn⟩ ⟨f, hf⟩
theorem qa_f64 : ∀ n : Fin 7, 2 ^ n.val - 1 < 64 := by decide +kernel
theorem qa_f6 {n : Nat} (hn : n < 7) : 2 ^ n - 1 < 64 := qa_f64 ⟨n, hn⟩
theorem qa_zb (e : Nat) : (0 : Nat).testBit e = false := Nat.zero_testBit e
theorem qa_eq0 : ∀ u v : Fin 64, (∀ e : Fin 6, u.val.testBit e.val = v.val.testBit e.val) → u.val = v.val := by decide +kernel
theorem qa_eq {u v : Nat} (hu : u < 64) (hv : v < 64) (h : ∀ e, e < 6 → u.testBit e = v.testBit e) : u = v := qa_eq0 ⟨u, hu⟩ ⟨v, hv⟩ fun e => h e.val e.isLt
theorem qa_by0 : ∀ d : Fin 16, (nI d.val).toInt8.toInt32 = nI d.val := by decide +kernel
theorem qa_by {d : Nat} (h : d < 16) : (nI d).toInt8.toInt32 = nI d := qa_by0 ⟨d, h⟩
theorem qa_nb {d : Nat} (h : d < 16) : vp_nar .byte (nI d) = nI d := by rw [vp_nar_byte]; exact qa_by h
theorem qa_nm : vp_nar .byte (-1) = -1 := by rw [vp_nar_byte]; decide
theorem qa_ml : (-1 : Int32) < 0 := by decide
theorem qa_mg : ¬ (0 : Int32) ≤ -1 := by decide
theorem qa_m0 : (-1 : Int32) + 1 = 0 := by decide
theorem qa_cut {a b : Nat} (h : a ≤ b) : ∃ d, b = a + d := ⟨b - a, by omega⟩
/-! sums below n -/
def qs_sm (f : Nat → Nat) : Nat → Nat
  | 0 => 0
  | n + 1 => qs_sm f n + f n
theorem qs_s (f : Nat → Nat) (n : Nat) : qs_sm f (n + 1) = qs_sm f n + f n := rfl
theorem qs_cg {f g : Nat → Nat} {n : Nat} (h : ∀ i, i < n → f i = g i) : qs_sm f n = qs_sm g n := by
  induction n with
  | zero => rfl
  | succ n ih => rw [qs_s, qs_s, ih (fun i hi => h i (by omega)), h n (by omega)]
theorem qs_add (f g : Nat → Nat) (n : Nat) : qs_sm (fun i => f i + g i) n = qs_sm f n + qs_sm g n := by
  induction n with
  | zero => rfl
  | succ n ih => rw [qs_s, qs_s, qs_s, ih]; omega
theorem qs_le {f g : Nat → Nat} {n : Nat} (h : ∀ i, i < n → f i ≤ g i) : qs_sm f n ≤ qs_sm g n := by
  induction n with
  | zero => exact Nat.le_refl _
  | succ n ih =>
    rw [qs_s, qs_s]
    have := ih (fun i hi => h i (by omega))
    have := h n (by omega)
    omega
theorem qs_z {f : Nat → Nat} {n : Nat} (h : ∀ i, i < n → f i = 0) : qs_sm f n = 0 := by
  induction n with
  | zero => rfl
  | succ n ih => rw [qs_s, ih (fun i hi => h i (by omega)), h n (by omega)]
theorem qs_b {f : Nat → Nat} {n M : Nat} (h : ∀ i, i < n → f i ≤ M) : qs_sm f n ≤ n * M := by
  induction n with
  | zero => exact Nat.zero_le _
  | succ n ih =>
    rw [qs_s, Nat.succ_mul]
    have := ih (fun i hi => h i (by omega))
    have := h n (by omega)
    omega
theorem qs_1 {f : Nat → Nat} {e n : Nat} (h : ∀ i, i < n → i ≠ e → f i = 0) (he : e < n) : qs_sm f n = f e := by
  induction n with
  | zero => omega
  | succ n ih =>
    rw [qs_s]
    by_cases hn : e = n
    · subst hn
      rw [qs_z (fun i hi => h i (by omega) (by omega)), Nat.zero_add]
    · rw [ih (fun i hi hne => h i (by omega) hne) (by omega), h n (by omega) (fun z => hn z.symm)]; omega
theorem qs_z' {f : Nat → Nat} {n : Nat} (h : qs_sm f n = 0) : ∀ i, i < n → f i = 0 := by
  induction n with
  | zero => intro i hi; omega
  | succ n ih =>
    rw [qs_s] at h
    intro i hi
    by_cases hn : i = n
    · subst hn; omega
    · exact ih (by omega) i (by omega)
end
section
/-! masked sums: over the documents below n that are not in the mask u -/
def qm_ms (n u : Nat) (g : Nat → Nat) : Nat := qs_sm (fun b => if u.testBit b = true then 0 else g b) n
theorem qm_split {n u e : Nat} (hn : n ≤ 6) (hu : u < 64) (he : e < n) (hf : u.testBit e = false) (g : Nat → Nat) : qm_ms n u g = g e + qm_ms n (u ||| 2 ^ e) g := by
  have h1 : qs_sm (fun b => if u.testBit b = true then 0 else g b) n = qs_sm (fun b => (if b = e then g b else 0) + (if (u ||| 2 ^ e).testBit b = true then 0 else g b)) n := by
    refine qs_cg fun i hi => ?_
    show (if u.testBit i = true then 0 else g i) = (if i = e then g i else 0) + (if (u ||| 2 ^ e).testBit i = true then 0 else g i)
    by_cases h : i = e
    · subst h
      rw [qa_obs hu (by omega), hf, if_neg (by decide), if_pos rfl, if_pos rfl]
      rfl
    · rw [qa_obn hu (by omega) (by omega) (fun z => h z.symm), if_neg h, Nat.zero_add]
  show qs_sm (fun b => if u.testBit b = true then 0 else g b) n = g e + qs_sm (fun b => if (u ||| 2 ^ e).testBit b = true then 0 else g b) n
  rw [h1, qs_add (fun b => if b = e then g b else 0) (fun b => if (u ||| 2 ^ e).testBit b = true then 0 else g b) n]
  rw [qs_1 (f := fun b => if b = e then g b else 0) (e := e) (fun i _ hne => if_neg hne) he]
  show (if e = e then g e else 0) + _ = _
  rw [if_pos rfl]
theorem qm_zero {n u : Nat} (h : qm_ms n u (fun _ => 1) = 0) : ∀ i, i < n → u.testBit i = true := by
  intro i hi
  have h1 := qs_z' (f := fun b => if u.testBit b = true then 0 else 1) h i hi
  cases hb : u.testBit i
  · have h2 : (if u.testBit i = true then 0 else 1) = 0 := h1
    rw [hb] at h2
    exact absurd h2 (by decide)
  · rfl
theorem qm_zero' {n u : Nat} (h : qm_ms n u (fun _ => 1) = 0) (g : Nat → Nat) : qm_ms n u g = 0 :=
  qs_z fun i hi => if_pos (qm_zero h i hi)
theorem qm_le {n u : Nat} {g h : Nat → Nat} (hgh : ∀ i, i < n → g i ≤ h i) : qm_ms n u g ≤ qm_ms n u h := by
  refine qs_le fun i hi => ?_
  show (if u.testBit i = true then 0 else g i) ≤ (if u.testBit i = true then 0 else h i)
  split
  · exact Nat.le_refl _
  · exact hgh i hi
theorem qm_0 (n : Nat) : qm_ms n 0 (fun _ => 1) = n := by
  show qs_sm (fun b => if (0 : Nat).testBit b = true then 0 else 1) n = n
  induction n with
  | zero => rfl
  | succ n ih => rw [qs_s, ih, qa_zb, if_neg (by decide)]
/-! the orders, one by one, as the search meets them -/
def qe_c (al : Nat → Nat → Bool) (u e : Nat) : Bool := !u.testBit e && al u e
theorem qe_c1 {al : Nat → Nat → Bool} {u e : Nat} (h : qe_c al u e = true) : u.testBit e = false := by
  unfold qe_c at h
  cases hb : u.testBit e
  · rfl
  · rw [hb] at h; exact absurd h (by simp)
def qe_up {α : Type} (n : Nat) (h : Nat → List α) : Nat → List α
  | 0 => []
  | j + 1 => h (n - (j + 1)) ++ qe_up n h j
def qe_en (n : Nat) (al : Nat → Nat → Bool) : Nat → Nat → List (List Nat)
  | 0, _ => [[]]
  | f + 1, u => qe_up n (fun e => if qe_c al u e = true then (qe_en n al f (u ||| 2 ^ e)).map (fun r => e :: r) else []) n
theorem qe_ens (n : Nat) (al : Nat → Nat → Bool) (f u : Nat) : qe_en n al (f + 1) u = qe_up n (fun e => if qe_c al u e = true then (qe_en n al f (u ||| 2 ^ e)).map (fun r => e :: r) else []) n := rfl
def qe_nf (n : Nat) (p : Nat → Bool) : Nat → Option Nat
  | 0 => none
  | j + 1 => if p (n - (j + 1)) = true then some (n - (j + 1)) else qe_nf n p j
theorem qe_nfs (n : Nat) (p : Nat → Bool) (j : Nat) : qe_nf n p (j + 1) = if p (n - (j + 1)) = true then some (n - (j + 1)) else qe_nf n p j := rfl
theorem qe_nf0 {α : Type} {n : Nat} {p : Nat → Bool} {h : Nat → List α} (hh : ∀ e, p e = false → h e = []) {j : Nat} (H : qe_nf n p j = none) : qe_up n h j = [] := by
  induction j with
  | zero => rfl
  | succ j ih =>
    rw [qe_nfs] at H
    cases hp : p (n - (j + 1))
    · rw [hp, if_neg (by decide)] at H
      show h (n - (j + 1)) ++ qe_up n h j = []
      rw [hh _ hp, ih H]; rfl
    · rw [hp, if_pos rfl] at H; cases H
theorem qe_nf1 {n : Nat} {p : Nat → Bool} {j e : Nat} (hj : j ≤ n) (H : qe_nf n p j = some e) : e < n ∧ p e = true ∧ n - j ≤ e := by
  induction j with
  | zero => cases H
  | succ j ih =>
    rw [qe_nfs] at H
    cases hp : p (n - (j + 1))
    · rw [hp, if_neg (by decide)] at H
      obtain ⟨a, b, c⟩ := ih (by omega) H
      exact ⟨a, b, by omega⟩
    · rw [hp, if_pos rfl] at H
      cases H
      exact ⟨by omega, hp, Nat.le_refl _⟩
theorem qe_nf2 {α : Type} {n : Nat} {p : Nat → Bool} {h : Nat → List α} (hh : ∀ e, p e = false → h e = []) {j e : Nat} (hj : j ≤ n) (H : qe_nf n p j = some e) : qe_up n h j = h e ++ qe_up n h (n - 1 - e) := by
  induction j with
  | zero => cases H
  | succ j ih =>
    rw [qe_nfs] at H
    cases hp : p (n - (j + 1))
    · rw [hp, if_neg (by decide)] at H
      show h (n - (j + 1)) ++ qe_up n h j = _
      rw [hh _ hp, ih (by omega) H]; rfl
    · rw [hp, if_pos rfl] at H
      cases H
      rw [show n - 1 - (n - (j + 1)) = j by omega]; rfl
/-! the rounds that the search takes at most -/
def qe_rk (n : Nat) (h : Nat → Nat) : Nat → Nat
  | 0 => 1
  | j + 1 => h (n - (j + 1)) + qe_rk n h j
def qe_rd (n : Nat) (al : Nat → Nat → Bool) : Nat → Nat → Nat
  | 0, _ => 0
  | f + 1, u => qe_rk n (fun e => if qe_c al u e = true then 1 + qe_rd n al f (u ||| 2 ^ e) else 0) n
theorem qe_rds (n : Nat) (al : Nat → Nat → Bool) (f u : Nat) : qe_rd n al (f + 1) u = qe_rk n (fun e => if qe_c al u e = true then 1 + qe_rd n al f (u ||| 2 ^ e) else 0) n := rfl
theorem qe_rk1 (n : Nat) (h : Nat → Nat) (j : Nat) : 1 ≤ qe_rk n h j := by
  induction j with
  | zero => exact Nat.le_refl _
  | succ j ih => show 1 ≤ h (n - (j + 1)) + qe_rk n h j; omega
theorem qe_rk2 {n : Nat} {p : Nat → Bool} {h : Nat → Nat} {j e : Nat} (hj : j ≤ n) (H : qe_nf n p j = some e) : h e + qe_rk n h (n - 1 - e) ≤ qe_rk n h j := by
  induction j with
  | zero => cases H
  | succ j ih =>
    rw [qe_nfs] at H
    show _ ≤ h (n - (j + 1)) + qe_rk n h j
    cases hp : p (n - (j + 1))
    · rw [hp, if_neg (by decide)] at H
      have := ih (by omega) H
      omega
    · rw [hp, if_pos rfl] at H
      cases H
      rw [show n - 1 - (n - (j + 1)) = j by omega]
      exact Nat.le_refl _
theorem qe_rkm {n : Nat} {h h' : Nat → Nat} (hh : ∀ e, h e ≤ h' e) (j : Nat) : qe_rk n h j ≤ qe_rk n h' j := by
  induction j with
  | zero => exact Nat.le_refl _
  | succ j ih =>
    show h (n - (j + 1)) + qe_rk n h j ≤ h' (n - (j + 1)) + qe_rk n h' j
    have := hh (n - (j + 1))
    omega
def qe_tt : Nat → Nat → Bool := fun _ _ => true
def qe_ab (a b : Nat) : Nat → Nat → Bool := fun u e => !(e == b && !u.testBit a)
theorem qe_rdm {n : Nat} {al : Nat → Nat → Bool} (f : Nat) : ∀ u, qe_rd n al f u ≤ qe_rd n qe_tt f u := by
  induction f with
  | zero => intro u; exact Nat.le_refl _
  | succ f ih =>
    intro u
    rw [qe_rds, qe_rds]
    refine qe_rkm (fun e => ?_) n
    by_cases h : qe_c al u e = true
    · have h2 : qe_c qe_tt u e = true := by
        have := qe_c1 h
        unfold qe_c qe_tt
        rw [this]; rfl
      rw [if_pos h, if_pos h2]
      have := ih (u ||| 2 ^ e)
      omega
    · rw [if_neg h]; exact Nat.zero_le _
/-! what an order of the list is -/
theorem qe_mu {α : Type} {n : Nat} {h : Nat → List α} {x : α} {j : Nat} (hj : j ≤ n) (H : x ∈ qe_up n h j) : ∃ e, e < n ∧ x ∈ h e := by
  induction j with
  | zero => cases H
  | succ j ih =>
    have H' : x ∈ h (n - (j + 1)) ++ qe_up n h j := H
    rcases List.mem_append.mp H' with h1 | h1
    · exact ⟨_, by omega, h1⟩
    · exact ih (by omega) h1
theorem qe_me {n : Nat} {al : Nat → Nat → Bool} {f u : Nat} {r : List Nat} (H : r ∈ qe_en n al (f + 1) u) : ∃ e r', e < n ∧ u.testBit e = false ∧ qe_c al u e = true ∧ r = e :: r' ∧ r' ∈ qe_en n al f (u ||| 2 ^ e) := by
  rw [qe_ens] at H
  obtain ⟨e, he, h⟩ := qe_mu (Nat.le_refl n) H
  by_cases hc : qe_c al u e = true
  · rw [if_pos hc] at h
    obtain ⟨r', hr, e'⟩ := List.mem_map.mp h
    exact ⟨e, r', he, qe_c1 hc, hc, e'.symm, hr⟩
  · rw [if_neg hc] at h; cases h
theorem qe_ok {n : Nat} {al : Nat → Nat → Bool} (hn : n ≤ 6) (f : Nat) : ∀ u r, u < 64 → r ∈ qe_en n al f u → (∀ x, x ∈ r → x < n ∧ u.testBit x = false) ∧ r.Nodup ∧ r.length = f := by
  induction f with
  | zero =>
    intro u r _ H
    have : r = [] := List.mem_singleton.mp H
    subst this
    exact ⟨fun x hx => (by cases hx), List.nodup_nil, rfl⟩
  | succ f ih =>
    intro u r hu H
    obtain ⟨e, r', he, hb, -, rfl, hr⟩ := qe_me H
    obtain ⟨h1, h2, h3⟩ := ih (u ||| 2 ^ e) r' (qa_ol hu (by omega)) hr
    refine ⟨fun x hx => ?_, List.nodup_cons.mpr ⟨fun hx => ?_, h2⟩, by rw [List.length_cons, h3]⟩
    · rcases List.mem_cons.mp hx with rfl | hx
      · exact ⟨he, hb⟩
      · obtain ⟨a, b⟩ := h1 x hx
        rw [qa_ob hu (by omega) (by omega)] at b
        exact ⟨a, (Bool.or_eq_false_iff.mp b).1⟩
    · have := (h1 e hx).2
      rw [qa_obs hu (by omega)] at this
      cases this
theorem qe_sum {n : Nat} {al : Nat → Nat → Bool} (hn : n ≤ 6) (f : Nat) : ∀ u r, u < 64 → qm_ms n u (fun _ => 1) = f → r ∈ qe_en n al f u → ∀ g : Nat → Nat, qm_ms n u g = (r.map g).sum := by
  induction f with
  | zero =>
    intro u r _ hf H g
    have : r = [] := List.mem_singleton.mp H
    subst this
    rw [qm_zero' hf g]; rfl
  | succ f ih =>
    intro u r hu hf H g
    obtain ⟨e, r', he, hb, -, rfl, hr⟩ := qe_me H
    rw [qm_split hn hu he hb] at hf
    rw [qm_split hn hu he hb g, ih (u ||| 2 ^ e) r' (qa_ol hu (by omega)) (by omega) hr g, List.map_cons, List.sum_cons]
/-! the distance of an order -/
def qe_ds (P : Nat → Nat → Nat) : List Nat → Nat
  | [] => 0
  | e :: r => (r.map (fun x => P x e)).sum + qe_ds P r
theorem qe_dss (P : Nat → Nat → Nat) (e : Nat) (r : List Nat) : qe_ds P (e :: r) = (r.map (fun x => P x e)).sum + qe_ds P r := rfl
theorem qe_sb {g : Nat → Nat} {M : Nat} (h : ∀ x, g x ≤ M) (r : List Nat) : (r.map g).sum ≤ r.length * M := by
  induction r with
  | nil => exact Nat.zero_le _
  | cons e r ih =>
    rw [List.map_cons, List.sum_cons, List.length_cons, Nat.succ_mul]
    have := h e
    omega
theorem qe_db {P : Nat → Nat → Nat} (h : ∀ a b, P a b ≤ 45) (r : List Nat) : r.length ≤ 6 → qe_ds P r ≤ r.length * 270 := by
  induction r with
  | nil => intro _; exact Nat.zero_le _
  | cons e r ih =>
    intro hl
    rw [List.length_cons] at hl
    rw [qe_dss, List.length_cons, Nat.succ_mul]
    have h1 := qe_sb (g := fun x => P x e) (M := 45) (fun x => h x e) r
    have h2 := ih (by omega)
    omega
theorem qe_da (P : Nat → Nat → Nat) (x : Nat) (q : List Nat) : qe_ds P (q ++ [x]) = qe_ds P q + (q.map (fun y => P x y)).sum := by
  induction q with
  | nil => rfl
  | cons e q ih =>
    rw [List.cons_append, qe_dss, qe_dss, ih, List.map_append, List.sum_append_nat, List.map_cons, List.map_cons, List.sum_cons, List.sum_cons, List.map_nil, List.sum_nil]
    omega
theorem qe_ts (g : Nat → Nat) (r : List Nat) : ∀ k, k ≤ r.length → ((r.take k).map g).sum = qs_sm (fun i => g (r.getD i 0)) k := by
  intro k
  induction k with
  | zero => intro _; rfl
  | succ k ih =>
    intro hk
    have hg : r.getD k 0 = r[k] := by
      rw [List.getD_eq_getElem?_getD, List.getElem?_eq_getElem (by omega)]; rfl
    rw [List.take_succ_eq_append_getElem (by omega), List.map_append, List.sum_append_nat, ih (by omega), qs_s, hg, List.map_cons, List.sum_cons, List.map_nil, List.sum_nil, Nat.add_zero]
def qe_dy (P : Nat → Nat → Nat) (o : Nat → Nat) (n : Nat) : Nat := qs_sm (fun k => qs_sm (fun i => P (o k) (o i)) k) n
theorem qe_dk (P : Nat → Nat → Nat) (r : List Nat) : ∀ k, k ≤ r.length → qe_ds P (r.take k) = qe_dy P (fun i => r.getD i 0) k := by
  intro k
  induction k with
  | zero => intro _; rfl
  | succ k ih =>
    intro hk
    have hg : r.getD k 0 = r[k] := by
      rw [List.getD_eq_getElem?_getD, List.getElem?_eq_getElem (by omega)]; rfl
    have h1 := qe_ts (fun y => P r[k] y) r k (by omega)
    rw [List.take_succ_eq_append_getElem (by omega), qe_da, ih (by omega), h1, ← hg]
    rfl
theorem qe_dl (P : Nat → Nat → Nat) (r : List Nat) : qe_ds P r = qe_dy P (fun i => r.getD i 0) r.length := by
  have := qe_dk P r r.length (Nat.le_refl _)
  rw [List.take_length] at this
  exact this
end
section
/-! what the documents that are not used have among themselves at least -/
def qe_lr (n : Nat) (P : Nat → Nat → Nat) (u : Nat) : Nat := qs_sm (fun a => qs_sm (fun b => if a < b ∧ u.testBit a = false ∧ u.testBit b = false then min (P a b) (P b a) else 0) n) n
theorem qe_lrp {n u e : Nat} (hn : n ≤ 6) (hu : u < 64) (he : e < n) (hf : u.testBit e = false) (m : Nat → Nat → Nat) {a b : Nat} (ha : a < n) (hb : b < n) :
    (if a < b ∧ u.testBit a = false ∧ u.testBit b = false then m a b else 0) =
    (if a < b ∧ (u ||| 2 ^ e).testBit a = false ∧ (u ||| 2 ^ e).testBit b = false then m a b else 0) +
    ((if a = e then (if e < b ∧ (u ||| 2 ^ e).testBit b = false then m e b else 0) else 0) +
     (if b = e then (if a < e ∧ (u ||| 2 ^ e).testBit a = false then m a e else 0) else 0)) := by
  have hs : (u ||| 2 ^ e).testBit e = true := qa_obs hu (by omega)
  by_cases h1 : a = e
  · subst h1
    rw [hs, hf, if_pos rfl]
    by_cases h2 : b = a
    · subst h2
      simp
    · rw [qa_obn hu (by omega) (by omega) (fun z => h2 z.symm), if_neg h2]
      simp
  · by_cases h2 : b = e
    · subst h2
      rw [hs, hf, if_neg h1, if_pos rfl, qa_obn hu (by omega) (by omega) (fun z => h1 z.symm)]
      simp
    · rw [if_neg h1, if_neg h2, qa_obn hu (by omega) (by omega) (fun z => h1 z.symm), qa_obn hu (by omega) (by omega) (fun z => h2 z.symm)]
      simp
theorem qe_lrs {n u e : Nat} (hn : n ≤ 6) (hu : u < 64) (he : e < n) (hf : u.testBit e = false) (P : Nat → Nat → Nat) : qe_lr n P u = qe_lr n P (u ||| 2 ^ e) + qm_ms n (u ||| 2 ^ e) (fun b => min (P b e) (P e b)) := by
  have hs : (u ||| 2 ^ e).testBit e = true := qa_obs hu (by omega)
  generalize hv : u ||| 2 ^ e = v at hs
  have H1 : qe_lr n P u = qs_sm (fun a => qs_sm (fun b => (if a < b ∧ v.testBit a = false ∧ v.testBit b = false then min (P a b) (P b a) else 0)) n + (qs_sm (fun b => if a = e then (if e < b ∧ v.testBit b = false then min (P e b) (P b e) else 0) else 0) n + qs_sm (fun b => if b = e then (if a < e ∧ v.testBit a = false then min (P a e) (P e a) else 0) else 0) n)) n := by
    refine qs_cg fun a ha => ?_
    rw [← qs_add, ← qs_add]
    refine qs_cg fun b hb => ?_
    have := qe_lrp hn hu he hf (fun a b => min (P a b) (P b a)) ha hb
    rw [hv] at this
    exact this
  have H2 : qs_sm (fun a => qs_sm (fun b => if a = e then (if e < b ∧ v.testBit b = false then min (P e b) (P b e) else 0) else 0) n) n = qs_sm (fun b => if e < b ∧ v.testBit b = false then min (P e b) (P b e) else 0) n := by
    rw [qs_1 (e := e) (fun i _ hne => qs_z fun j _ => if_neg hne) he]
    exact qs_cg fun b _ => if_pos rfl
  have H3 : qs_sm (fun a => qs_sm (fun b => if b = e then (if a < e ∧ v.testBit a = false then min (P a e) (P e a) else 0) else 0) n) n = qs_sm (fun a => if a < e ∧ v.testBit a = false then min (P a e) (P e a) else 0) n := by
    refine qs_cg fun a _ => ?_
    rw [qs_1 (e := e) (fun i _ hne => if_neg hne) he]
    exact if_pos rfl
  rw [H1, qs_add, qs_add, H2, H3, ← qs_add]
  show qe_lr n P v + _ = _
  refine congrArg (qe_lr n P v + ·) (qs_cg fun b hb => ?_)
  show (if e < b ∧ v.testBit b = false then min (P e b) (P b e) else 0) + (if b < e ∧ v.testBit b = false then min (P b e) (P e b) else 0) = if v.testBit b = true then 0 else min (P b e) (P e b)
  cases hb : v.testBit b
  · have hne : b ≠ e := by intro z; rw [z, hs] at hb; cases hb
    rw [Nat.min_comm (P e b)]
    rcases Nat.lt_or_gt_of_ne hne with h | h
    · rw [if_neg (by omega), if_pos ⟨h, rfl⟩, if_neg (by decide), Nat.zero_add]
    · rw [if_pos ⟨h, rfl⟩, if_neg (by omega), if_neg (by decide), Nat.add_zero]
  · simp
theorem qe_lb {n : Nat} {al : Nat → Nat → Bool} {P : Nat → Nat → Nat} (hn : n ≤ 6) (f : Nat) : ∀ u r, u < 64 → qm_ms n u (fun _ => 1) = f → r ∈ qe_en n al f u → qe_lr n P u ≤ qe_ds P r := by
  induction f with
  | zero =>
    intro u r _ hf _
    have : qe_lr n P u = 0 := by
      refine qs_z fun a ha => qs_z fun b _ => if_neg fun z => ?_
      have := qm_zero hf a ha
      rw [z.2.1] at this
      cases this
    rw [this]; exact Nat.zero_le _
  | succ f ih =>
    intro u r hu hf H
    obtain ⟨e, r', he, hb, -, rfl, hr⟩ := qe_me H
    rw [qm_split hn hu he hb] at hf
    have hu' := qa_ol hu (show e < 6 by omega)
    have h1 := ih (u ||| 2 ^ e) r' hu' (by omega) hr
    have h2 := qe_sum hn f (u ||| 2 ^ e) r' hu' (by omega) hr (fun x => P x e)
    have h3 : qm_ms n (u ||| 2 ^ e) (fun b => min (P b e) (P e b)) ≤ qm_ms n (u ||| 2 ^ e) (fun x => P x e) := qm_le fun i _ => Nat.min_le_left _ _
    rw [qe_lrs hn hu he hb, qe_dss]
    omega
theorem qe_lrb {n : Nat} {P : Nat → Nat → Nat} (hn : n ≤ 6) (hP : ∀ a b, P a b ≤ 45) (u : Nat) : qe_lr n P u ≤ 1620 := by
  have h : qe_lr n P u ≤ n * (n * 45) := by
    refine qs_b fun a _ => qs_b fun b _ => ?_
    show (if a < b ∧ u.testBit a = false ∧ u.testBit b = false then min (P a b) (P b a) else 0) ≤ 45
    split
    · exact Nat.le_trans (Nat.min_le_left _ _) (hP a b)
    · exact Nat.zero_le _
  have h2 : n * (n * 45) ≤ 6 * (6 * 45) := Nat.mul_le_mul hn (Nat.mul_le_mul hn (Nat.le_refl _))
  omega
/-! what it costs to put e next -/
def qe_cs (n : Nat) (P : Nat → Nat → Nat) (u e : Nat) : Nat := qm_ms n (u ||| 2 ^ e) (fun b => P b e)
theorem qe_csb {n : Nat} {P : Nat → Nat → Nat} (hn : n ≤ 6) (hP : ∀ a b, P a b ≤ 45) (u e : Nat) : qe_cs n P u e ≤ 270 := by
  have h : qe_cs n P u e ≤ n * 45 := by
    refine qs_b fun b _ => ?_
    show (if (u ||| 2 ^ e).testBit b = true then 0 else P b e) ≤ 45
    split
    · exact Nat.zero_le _
    · exact hP b e
  omega
/-! the best so far -/
def qe_st (P : Nat → Nat → Nat) (c0 : Nat) (p : List Nat) (s : Nat × List Nat) (r : List Nat) : Nat × List Nat := if c0 + qe_ds P r < s.1 then (c0 + qe_ds P r, p ++ r) else s
theorem qe_fc {α β : Type} {f g : β → α → β} {l : List α} (h : ∀ x, x ∈ l → ∀ s, f s x = g s x) : ∀ s, l.foldl f s = l.foldl g s := by
  induction l with
  | nil => intro s; rfl
  | cons x l ih =>
    intro s
    rw [List.foldl_cons, List.foldl_cons, h x (List.mem_cons_self ..), ih (fun y hy => h y (List.mem_cons_of_mem _ hy))]
theorem qe_fi {α β : Type} {f : β → α → β} {l : List α} {s : β} (h : ∀ x, x ∈ l → f s x = s) : l.foldl f s = s := by
  induction l with
  | nil => rfl
  | cons x l ih =>
    rw [List.foldl_cons, h x (List.mem_cons_self ..), ih (fun y hy => h y (List.mem_cons_of_mem _ hy))]
theorem qe_ch {n : Nat} {al : Nat → Nat → Bool} {P : Nat → Nat → Nat} (hn : n ≤ 6) {f u e c0 : Nat} {p : List Nat} (hu : u < 64) (he : e < n) (hf : qm_ms n (u ||| 2 ^ e) (fun _ => 1) = f) (s : Nat × List Nat) :
    ((qe_en n al f (u ||| 2 ^ e)).map (fun r => e :: r)).foldl (qe_st P c0 p) s = (qe_en n al f (u ||| 2 ^ e)).foldl (qe_st P (c0 + qe_cs n P u e) (p ++ [e])) s := by
  rw [List.foldl_map]
  refine qe_fc (fun r hr s => ?_) s
  have h := qe_sum hn f (u ||| 2 ^ e) r (qa_ol hu (by omega)) hf hr (fun x => P x e)
  show qe_st P c0 p s (e :: r) = _
  unfold qe_st qe_cs
  rw [qe_dss, ← h, Nat.add_assoc, List.append_assoc]
  rfl
theorem qe_pr {n : Nat} {al : Nat → Nat → Bool} {P : Nat → Nat → Nat} (hn : n ≤ 6) {f u c0 : Nat} {p : List Nat} (hu : u < 64) (hf : qm_ms n u (fun _ => 1) = f) {s : Nat × List Nat} (h : s.1 ≤ c0 + qe_lr n P u) :
    (qe_en n al f u).foldl (qe_st P c0 p) s = s := by
  refine qe_fi fun r hr => ?_
  have := qe_lb (P := P) hn f u r hu hf hr
  unfold qe_st
  rw [if_neg (by omega)]
/-! the search's answer -/
def qe_R (P : Nat → Nat → Nat) (n : Nat) (al : Nat → Nat → Bool) : Nat × List Nat := (qe_en n al n 0).foldl (qe_st P 0 []) (1000000, [])
def qe_mn (P : Nat → Nat → Nat) (m : Nat) (l : List (List Nat)) : Nat := l.foldl (fun m r => if qe_ds P r < m then qe_ds P r else m) m
theorem qe_mnc (P : Nat → Nat → Nat) (m : Nat) (r : List Nat) (l : List (List Nat)) : qe_mn P m (r :: l) = qe_mn P (if qe_ds P r < m then qe_ds P r else m) l := rfl
theorem qe_R1 (P : Nat → Nat → Nat) (l : List (List Nat)) : ∀ s, (l.foldl (qe_st P 0 []) s).1 = qe_mn P s.1 l := by
  induction l with
  | nil => intro s; rfl
  | cons r l ih =>
    intro s
    rw [List.foldl_cons, ih, qe_mnc]
    refine congrArg (fun m => qe_mn P m l) ?_
    unfold qe_st
    rw [Nat.zero_add]
    split <;> rfl
theorem qe_mn2 {P : Nat → Nat → Nat} {l : List (List Nat)} (h0 : l ≠ []) (h : ∀ r, r ∈ l → qe_ds P r < 100000) : qe_mn P 1000000 l = qe_mn P 100000 l := by
  cases l with
  | nil => exact absurd rfl h0
  | cons r l =>
    have := h r (List.mem_cons_self ..)
    rw [qe_mnc, qe_mnc, if_pos (by omega), if_pos this]
theorem qe_mnl (P : Nat → Nat → Nat) (l : List (List Nat)) : ∀ m, qe_mn P m l ≤ m := by
  induction l with
  | nil => intro m; exact Nat.le_refl _
  | cons r l ih =>
    intro m
    rw [qe_mnc]
    have := ih (if qe_ds P r < m then qe_ds P r else m)
    by_cases h : qe_ds P r < m
    · rw [if_pos h] at this ⊢; omega
    · rw [if_neg h] at this ⊢; exact this
def qe_ff (P : Nat → Nat → Nat) (b : Nat) : List (List Nat) → List Nat
  | [] => []
  | r :: l => if qe_ds P r = b then r else qe_ff P b l
theorem qe_ffs (P : Nat → Nat → Nat) (b : Nat) (r : List Nat) (l : List (List Nat)) : qe_ff P b (r :: l) = if qe_ds P r = b then r else qe_ff P b l := rfl
theorem qe_R2 (P : Nat → Nat → Nat) (l : List (List Nat)) : ∀ m p, (qe_mn P m l = m → (l.foldl (qe_st P 0 []) (m, p)).2 = p) ∧ (qe_mn P m l < m → (l.foldl (qe_st P 0 []) (m, p)).2 = qe_ff P (qe_mn P m l) l) := by
  induction l with
  | nil => intro m p; exact ⟨fun _ => rfl, fun h => absurd h (Nat.lt_irrefl _)⟩
  | cons r l ih =>
    intro m p
    rw [List.foldl_cons, qe_mnc, qe_ffs]
    by_cases h : qe_ds P r < m
    · have e : qe_st P 0 [] (m, p) r = (qe_ds P r, r) := by
        unfold qe_st
        rw [Nat.zero_add, if_pos h]; rfl
      rw [e, if_pos h]
      obtain ⟨h1, h2⟩ := ih (qe_ds P r) r
      have h3 := qe_mnl P l (qe_ds P r)
      refine ⟨fun z => by omega, fun z => ?_⟩
      by_cases h4 : qe_ds P r = qe_mn P (qe_ds P r) l
      · rw [if_pos h4]; exact h1 h4.symm
      · rw [if_neg h4]; exact h2 (by omega)
    · have e : qe_st P 0 [] (m, p) r = (m, p) := by
        unfold qe_st
        rw [Nat.zero_add, if_neg h]
      rw [e, if_neg h]
      obtain ⟨h1, h2⟩ := ih m p
      refine ⟨h1, fun z => ?_⟩
      rw [if_neg (by omega)]
      exact h2 z
/-! the reference's orders: by number -/
def qe_nt (left skip : Nat) : Nat → Nat → Nat
  | 0, _ => 0
  | j + 1, less => if left.testBit (6 - (j + 1)) = true then (if less = skip then 6 - (j + 1) else qe_nt left skip j (less + 1)) else qe_nt left skip j less
theorem qe_ntl (left skip : Nat) (j : Nat) : ∀ less, j ≤ 6 → qe_nt left skip j less < 6 := by
  induction j with
  | zero => intro _ _; exact (by decide : (0 : Nat) < 6)
  | succ j ih =>
    intro less hj
    show (if left.testBit (6 - (j + 1)) = true then (if less = skip then 6 - (j + 1) else qe_nt left skip j (less + 1)) else qe_nt left skip j less) < 6
    split
    · split
      · omega
      · exact ih _ (by omega)
    · exact ih _ (by omega)
def qe_sp : Nat → Nat → Nat → Nat → List Nat
  | 0, _, _, _ => []
  | j + 1, rest, block, left =>
    qe_nt left (if block / (j + 1) = 0 then 0 else rest / (block / (j + 1))) 6 0 ::
      qe_sp j (if block / (j + 1) = 0 then 0 else rest % (block / (j + 1))) (block / (j + 1)) (left &&& (63 - 2 ^ (qe_nt left (if block / (j + 1) = 0 then 0 else rest / (block / (j + 1))) 6 0)))
theorem qe_sps (j rest block left : Nat) : qe_sp (j + 1) rest block left = qe_nt left (if block / (j + 1) = 0 then 0 else rest / (block / (j + 1))) 6 0 ::
      qe_sp j (if block / (j + 1) = 0 then 0 else rest % (block / (j + 1))) (block / (j + 1)) (left &&& (63 - 2 ^ (qe_nt left (if block / (j + 1) = 0 then 0 else rest / (block / (j + 1))) 6 0))) := rfl
def qe_fa : Nat → Nat
  | 0 => 1
  | n + 1 => qe_fa n * (n + 1)
def qe_sl (n c : Nat) : List Nat := qe_sp n c (qe_fa n) (2 ^ n - 1)
def qe_ps (o : Nat → Nat) (a : Nat) : Nat → Nat
  | 0 => 6
  | k + 1 => if o k = a then k else qe_ps o a k
def qe_bf (n a b : Nat) (r : List Nat) : Bool := decide (qe_ps (fun k => r.getD k 0) a n < qe_ps (fun k => r.getD k 0) b n)
end
section
/-! closed tables, by computation -/
theorem qe_al2 : (List.range (qe_fa 2)).map (qe_sl 2) = qe_en 2 qe_tt 2 0 := by decide +kernel
theorem qe_al3 : (List.range (qe_fa 3)).map (qe_sl 3) = qe_en 3 qe_tt 3 0 := by decide +kernel
theorem qe_al4 : (List.range (qe_fa 4)).map (qe_sl 4) = qe_en 4 qe_tt 4 0 := by decide +kernel
theorem qe_al5 : (List.range (qe_fa 5)).map (qe_sl 5) = qe_en 5 qe_tt 5 0 := by decide +kernel
theorem qe_al6 : (List.range (qe_fa 6)).map (qe_sl 6) = qe_en 6 qe_tt 6 0 := by decide +kernel
theorem qe_all {n : Nat} (h2 : 2 ≤ n) (h6 : n ≤ 6) : (List.range (qe_fa n)).map (qe_sl n) = qe_en n qe_tt n 0 := by
  obtain rfl | rfl | rfl | rfl | rfl : n = 2 ∨ n = 3 ∨ n = 4 ∨ n = 5 ∨ n = 6 := by omega
  · exact qe_al2
  · exact qe_al3
  · exact qe_al4
  · exact qe_al5
  · exact qe_al6
theorem qe_rt0 : ∀ n : Fin 7, qe_rd n.val qe_tt n.val 0 ≤ 4000 := by decide +kernel
theorem qe_rt {n : Nat} (h6 : n ≤ 6) (al : Nat → Nat → Bool) : qe_rd n al n 0 ≤ 4000 := Nat.le_trans (qe_rdm n 0) (qe_rt0 ⟨n, by omega⟩)
theorem qe_fl2 : ∀ a b : Fin 2, a ≠ b → qe_en 2 (qe_ab a.val b.val) 2 0 = (qe_en 2 qe_tt 2 0).filter (qe_bf 2 a.val b.val) := by decide +kernel
theorem qe_fl3 : ∀ a b : Fin 3, a ≠ b → qe_en 3 (qe_ab a.val b.val) 3 0 = (qe_en 3 qe_tt 3 0).filter (qe_bf 3 a.val b.val) := by decide +kernel
theorem qe_fl4 : ∀ a b : Fin 4, a ≠ b → qe_en 4 (qe_ab a.val b.val) 4 0 = (qe_en 4 qe_tt 4 0).filter (qe_bf 4 a.val b.val) := by decide +kernel
theorem qe_fl5 : ∀ a b : Fin 5, a ≠ b → qe_en 5 (qe_ab a.val b.val) 5 0 = (qe_en 5 qe_tt 5 0).filter (qe_bf 5 a.val b.val) := by decide +kernel
theorem qe_fl6 : ∀ a b : Fin 6, a ≠ b → qe_en 6 (qe_ab a.val b.val) 6 0 = (qe_en 6 qe_tt 6 0).filter (qe_bf 6 a.val b.val) := by decide +kernel
theorem qe_fl {n a b : Nat} (h2 : 2 ≤ n) (h6 : n ≤ 6) (ha : a < n) (hb : b < n) (hab : a ≠ b) : qe_en n (qe_ab a b) n 0 = (qe_en n qe_tt n 0).filter (qe_bf n a b) := by
  obtain rfl | rfl | rfl | rfl | rfl : n = 2 ∨ n = 3 ∨ n = 4 ∨ n = 5 ∨ n = 6 := by omega
  · exact qe_fl2 ⟨a, ha⟩ ⟨b, hb⟩ fun z => hab (congrArg Fin.val z)
  · exact qe_fl3 ⟨a, ha⟩ ⟨b, hb⟩ fun z => hab (congrArg Fin.val z)
  · exact qe_fl4 ⟨a, ha⟩ ⟨b, hb⟩ fun z => hab (congrArg Fin.val z)
  · exact qe_fl5 ⟨a, ha⟩ ⟨b, hb⟩ fun z => hab (congrArg Fin.val z)
  · exact qe_fl6 ⟨a, ha⟩ ⟨b, hb⟩ fun z => hab (congrArg Fin.val z)
theorem qe_ne2 : ∀ a b : Fin 2, a ≠ b → (qe_en 2 (qe_ab a.val b.val) 2 0).isEmpty = false := by decide +kernel
theorem qe_ne3 : ∀ a b : Fin 3, a ≠ b → (qe_en 3 (qe_ab a.val b.val) 3 0).isEmpty = false := by decide +kernel
theorem qe_ne4 : ∀ a b : Fin 4, a ≠ b → (qe_en 4 (qe_ab a.val b.val) 4 0).isEmpty = false := by decide +kernel
theorem qe_ne5 : ∀ a b : Fin 5, a ≠ b → (qe_en 5 (qe_ab a.val b.val) 5 0).isEmpty = false := by decide +kernel
theorem qe_ne6 : ∀ a b : Fin 6, a ≠ b → (qe_en 6 (qe_ab a.val b.val) 6 0).isEmpty = false := by decide +kernel
theorem qe_nea {n a b : Nat} (h2 : 2 ≤ n) (h6 : n ≤ 6) (ha : a < n) (hb : b < n) (hab : a ≠ b) : qe_en n (qe_ab a b) n 0 ≠ [] := by
  have h : (qe_en n (qe_ab a b) n 0).isEmpty = false := by
    obtain rfl | rfl | rfl | rfl | rfl : n = 2 ∨ n = 3 ∨ n = 4 ∨ n = 5 ∨ n = 6 := by omega
    · exact qe_ne2 ⟨a, ha⟩ ⟨b, hb⟩ fun z => hab (congrArg Fin.val z)
    · exact qe_ne3 ⟨a, ha⟩ ⟨b, hb⟩ fun z => hab (congrArg Fin.val z)
    · exact qe_ne4 ⟨a, ha⟩ ⟨b, hb⟩ fun z => hab (congrArg Fin.val z)
    · exact qe_ne5 ⟨a, ha⟩ ⟨b, hb⟩ fun z => hab (congrArg Fin.val z)
    · exact qe_ne6 ⟨a, ha⟩ ⟨b, hb⟩ fun z => hab (congrArg Fin.val z)
  intro z
  rw [z] at h
  cases h
theorem qe_net0 : ∀ n : Fin 7, (qe_en n.val qe_tt n.val 0).isEmpty = false := by decide +kernel
theorem qe_net {n : Nat} (h6 : n ≤ 6) : qe_en n qe_tt n 0 ≠ [] := by
  intro z
  have h := qe_net0 ⟨n, by omega⟩
  rw [show (qe_en (⟨n, by omega⟩ : Fin 7).val qe_tt (⟨n, by omega⟩ : Fin 7).val 0) = [] from z] at h
  cases h
theorem qe_fa0 : ∀ n : Fin 7, qe_fa n.val ≤ 720 := by decide +kernel
theorem qe_fal {n : Nat} (h : n ≤ 6) : qe_fa n ≤ 720 := qe_fa0 ⟨n, by omega⟩
end
section
/-! sets that grow pass by pass -/
def qc_ps (ad : Nat → Nat → Nat) (M : Nat) : Nat → Nat → Nat
  | 0, g => g
  | j + 1, g => qc_ps ad M j (ad (M - (j + 1)) g)
theorem qc_pss (ad : Nat → Nat → Nat) (M j g : Nat) : qc_ps ad M (j + 1) g = qc_ps ad M j (ad (M - (j + 1)) g) := rfl
def qc_it (ad : Nat → Nat → Nat) (M : Nat) : Nat → Nat → Nat
  | 0, g => g
  | j + 1, g => qc_it ad M j (qc_ps ad M M g)
theorem qc_its (ad : Nat → Nat → Nat) (M j g : Nat) : qc_it ad M (j + 1) g = qc_it ad M j (qc_ps ad M M g) := rfl
def qc_A (n M : Nat) (ad : Nat → Nat → Nat) : Prop := ∀ i g, i < M → g < 64 → ad i g = g ∨ ∃ y, y < n ∧ g.testBit y = false ∧ ad i g = g ||| 2 ^ y
theorem qc_al {n M : Nat} {ad : Nat → Nat → Nat} (hn : n ≤ 6) (H : qc_A n M ad) {i g : Nat} (hi : i < M) (hg : g < 64) : ad i g < 64 := by
  rcases H i g hi hg with h | ⟨y, hy, _, h⟩
  · rw [h]; exact hg
  · rw [h]; exact qa_ol hg (by omega)
theorem qc_psm {n M : Nat} {ad : Nat → Nat → Nat} (hn : n ≤ 6) (H : qc_A n M ad) (j : Nat) : ∀ g, j ≤ M → g < 64 → qc_ps ad M j g < 64 ∧ qm_ms n (qc_ps ad M j g) (fun _ => 1) ≤ qm_ms n g (fun _ => 1) ∧ (qm_ms n (qc_ps ad M j g) (fun _ => 1) = qm_ms n g (fun _ => 1) → qc_ps ad M j g = g ∧ ∀ i, M - j ≤ i → i < M → ad i g = g) := by
  induction j with
  | zero => intro g _ hg; exact ⟨hg, Nat.le_refl _, fun _ => ⟨rfl, fun i h1 h2 => by omega⟩⟩
  | succ j ih =>
    intro g hj hg
    rw [qc_pss]
    obtain ⟨h1, h2, h3⟩ := ih (ad (M - (j + 1)) g) (by omega) (qc_al hn H (by omega) hg)
    refine ⟨h1, ?_⟩
    rcases H (M - (j + 1)) g (by omega) hg with h | ⟨y, hy, hb, h⟩
    · rw [h] at h2 h3 ⊢
      refine ⟨h2, fun z => ?_⟩
      obtain ⟨h4, h5⟩ := h3 z
      refine ⟨h4, fun i hi hM => ?_⟩
      by_cases hi' : i = M - (j + 1)
      · rw [hi']; exact h
      · exact h5 i (by omega) hM
    · have h6 := qm_split hn hg hy hb (fun _ => 1)
      rw [← h] at h6
      refine ⟨by omega, fun z => ?_⟩
      omega
theorem qc_st {M : Nat} {ad : Nat → Nat → Nat} {g : Nat} (h : ∀ i, i < M → ad i g = g) (j : Nat) (hj : j ≤ M) : qc_ps ad M j g = g := by
  induction j with
  | zero => rfl
  | succ j ih => rw [qc_pss, h _ (by omega), ih (by omega)]
theorem qc_si {M : Nat} {ad : Nat → Nat → Nat} {g : Nat} (h : ∀ i, i < M → ad i g = g) (k : Nat) : qc_it ad M k g = g := by
  induction k with
  | zero => rfl
  | succ k ih => rw [qc_its, qc_st h M (Nat.le_refl _), ih]
theorem qc_itm {n M : Nat} {ad : Nat → Nat → Nat} (hn : n ≤ 6) (H : qc_A n M ad) (k : Nat) : ∀ g, g < 64 → qc_it ad M k g < 64 ∧ ((∀ i, i < M → ad i (qc_it ad M k g) = qc_it ad M k g) ∨ qm_ms n (qc_it ad M k g) (fun _ => 1) + k ≤ qm_ms n g (fun _ => 1)) := by
  induction k with
  | zero => intro g hg; exact ⟨hg, Or.inr (Nat.le_refl _)⟩
  | succ k ih =>
    intro g hg
    rw [qc_its]
    obtain ⟨h1, h2, h3⟩ := qc_psm hn H M g (Nat.le_refl _) hg
    by_cases hq : qm_ms n (qc_ps ad M M g) (fun _ => 1) = qm_ms n g (fun _ => 1)
    · obtain ⟨h4, h5⟩ := h3 hq
      have h6 : ∀ i, i < M → ad i g = g := fun i hi => h5 i (by omega) hi
      rw [h4, qc_si h6]
      exact ⟨hg, Or.inl h6⟩
    · obtain ⟨h7, h8⟩ := ih _ h1
      refine ⟨h7, ?_⟩
      rcases h8 with h8 | h8
      · exact Or.inl h8
      · exact Or.inr (by omega)
theorem qc_stable {n M : Nat} {ad : Nat → Nat → Nat} (hn : n ≤ 6) (H : qc_A n M ad) {k a : Nat} (ha : a < n) (hk : n ≤ k) : qc_it ad M k (2 ^ a) < 64 ∧ ∀ i, i < M → ad i (qc_it ad M k (2 ^ a)) = qc_it ad M k (2 ^ a) := by
  obtain ⟨h1, h2⟩ := qc_itm hn H k (2 ^ a) (qa_p2 (by omega))
  refine ⟨h1, ?_⟩
  rcases h2 with h2 | h2
  · exact h2
  · exfalso
    have h3 := qm_split hn (u := 0) (by omega) ha (qa_zb a) (fun _ => 1)
    rw [qm_0, Nat.zero_or] at h3
    omega
theorem qc_pq {M : Nat} {ad : Nat → Nat → Nat} {Q : Nat → Prop} (H : ∀ i g, i < M → Q g → Q (ad i g)) (j : Nat) : ∀ g, j ≤ M → Q g → Q (qc_ps ad M j g) := by
  induction j with
  | zero => intro g _ h; exact h
  | succ j ih => intro g hj h; exact ih _ (by omega) (H _ _ (by omega) h)
theorem qc_iq {M : Nat} {ad : Nat → Nat → Nat} {Q : Nat → Prop} (H : ∀ i g, i < M → Q g → Q (ad i g)) (k : Nat) : ∀ g, Q g → Q (qc_it ad M k g) := by
  induction k with
  | zero => intro g h; exact h
  | succ k ih => intro g h; exact ih _ (qc_pq H M g (Nat.le_refl _) h)
/-! paths of victories -/
def qw_w (P : Nat → Nat → Nat) : Nat → Nat → Nat → Nat
  | 0, a, b => if P b a < P a b then P a b else 0
  | c + 1, a, b => max (qw_w P c a b) (min (qw_w P c a c) (qw_w P c c b))
theorem qw_0 (P : Nat → Nat → Nat) (a b : Nat) : qw_w P 0 a b = if P b a < P a b then P a b else 0 := rfl
theorem qw_s (P : Nat → Nat → Nat) (c a b : Nat) : qw_w P (c + 1) a b = max (qw_w P c a b) (min (qw_w P c a c) (qw_w P c c b)) := rfl
theorem qw_ac (P : Nat → Nat → Nat) (c a : Nat) : qw_w P (c + 1) a c = qw_w P c a c := by rw [qw_s]; omega
theorem qw_cb (P : Nat → Nat → Nat) (c b : Nat) : qw_w P (c + 1) c b = qw_w P c c b := by rw [qw_s]; omega
theorem qw_b {P : Nat → Nat → Nat} (hP : ∀ a b, P a b ≤ 45) (c : Nat) : ∀ a b, qw_w P c a b ≤ 45 := by
  induction c with
  | zero =>
    intro a b
    rw [qw_0]
    have := hP a b
    split <;> omega
  | succ c ih =>
    intro a b
    rw [qw_s]
    have h1 := ih a b
    have h2 := ih a c
    omega
theorem qw_mo (P : Nat → Nat → Nat) (a b c : Nat) : ∀ d, qw_w P c a b ≤ qw_w P (c + d) a b := by
  intro d
  induction d with
  | zero => exact Nat.le_refl _
  | succ d ih =>
    have : qw_w P (c + (d + 1)) a b = max (qw_w P (c + d) a b) (min (qw_w P (c + d) a (c + d)) (qw_w P (c + d) (c + d) b)) := rfl
    rw [this]
    omega
theorem qw_tr (P : Nat → Nat → Nat) (c : Nat) : ∀ a b j, j < c → min (qw_w P c a j) (qw_w P c j b) ≤ qw_w P c a b := by
  induction c with
  | zero => intro a b j h; omega
  | succ c ih =>
    intro a b j hj
    by_cases h : j = c
    · subst h
      rw [qw_ac, qw_cb, qw_s]
      omega
    · have h1 := ih a b j (by omega)
      have h2 := ih a c j (by omega)
      have h3 := ih c b j (by omega)
      rw [qw_s, qw_s, qw_s]
      generalize qw_w P c a b = x1 at *
      generalize qw_w P c a j = x2 at *
      generalize qw_w P c j b = x3 at *
      generalize qw_w P c a c = x4 at *
      generalize qw_w P c c b = x5 at *
      generalize qw_w P c j c = x6 at *
      generalize qw_w P c c j = x7 at *
      clear ih
      omega
theorem qw_z {P : Nat → Nat → Nat} {a : Nat} (h : ∀ y, P a y = 0) (c : Nat) : ∀ y, qw_w P c a y = 0 := by
  induction c with
  | zero => intro y; rw [qw_0, if_neg (by rw [h y]; omega)]
  | succ c ih => intro y; rw [qw_s, ih y, ih c]; omega
/-! the documents that paths of strength s lead to -/
def qw_ad (n : Nat) (P : Nat → Nat → Nat) (s : Nat) (i g : Nat) : Nat :=
  if g.testBit (i / 6) = true ∧ g.testBit (i % 6) = false ∧ i % 6 < n ∧ s ≤ P (i / 6) (i % 6) ∧ P (i % 6) (i / 6) < P (i / 6) (i % 6) then g ||| 2 ^ (i % 6) else g
theorem qw_A (n : Nat) (P : Nat → Nat → Nat) (s : Nat) : qc_A n 36 (qw_ad n P s) := by
  intro i g _ _
  unfold qw_ad
  by_cases h : g.testBit (i / 6) = true ∧ g.testBit (i % 6) = false ∧ i % 6 < n ∧ s ≤ P (i / 6) (i % 6) ∧ P (i % 6) (i / 6) < P (i / 6) (i % 6)
  · rw [if_pos h]; exact Or.inr ⟨i % 6, h.2.2.1, h.2.1, rfl⟩
  · rw [if_neg h]; exact Or.inl rfl
def qw_re (n : Nat) (P : Nat → Nat → Nat) (s a : Nat) : Nat := qc_it (qw_ad n P s) 36 6 (2 ^ a)
theorem qw_rel {n : Nat} {P : Nat → Nat → Nat} {s a : Nat} (hn : n ≤ 6) (ha : a < n) : qw_re n P s a < 64 := (qc_stable hn (qw_A n P s) ha hn).1
theorem qw_ren {n : Nat} {P : Nat → Nat → Nat} {s a : Nat} (hn : n ≤ 6) (ha : a < n) : ∀ y, y < 6 → (qw_re n P s a).testBit y = true → y < n := by
  have h := qc_iq (M := 36) (ad := qw_ad n P s) (Q := fun g => g < 64 ∧ ∀ y, y < 6 → g.testBit y = true → y < n) ?_ 6 (2 ^ a) ⟨qa_p2 (by omega), ?_⟩
  · exact h.2
  · intro i g hi hq
    refine ⟨qc_al hn (qw_A n P s) hi hq.1, fun y hy hb => ?_⟩
    rcases qw_A n P s i g hi hq.1 with h | ⟨x, hx, _, h⟩
    · rw [h] at hb; exact hq.2 y hy hb
    · rw [h] at hb
      by_cases hxy : x = y
      · omega
      · rw [qa_obn hq.1 (by omega) hy hxy] at hb; exact hq.2 y hy hb
  · intro y hy hb
    rw [qa_pb (by omega) hy] at hb
    have := of_decide_eq_true hb
    omega
theorem qw_so {n : Nat} {P : Nat → Nat → Nat} {s a : Nat} (hn : n ≤ 6) (ha : a < n) : ∀ y, y < 6 → (qw_re n P s a).testBit y = true → y = a ∨ s ≤ qw_w P 6 a y := by
  have h := qc_iq (M := 36) (ad := qw_ad n P s) (Q := fun g => g < 64 ∧ ∀ y, y < 6 → g.testBit y = true → y = a ∨ s ≤ qw_w P 6 a y) ?_ 6 (2 ^ a) ⟨qa_p2 (by omega), ?_⟩
  · exact h.2
  · intro i g hi hq
    refine ⟨qc_al hn (qw_A n P s) hi hq.1, fun y hy hb => ?_⟩
    unfold qw_ad at hb
    by_cases h : g.testBit (i / 6) = true ∧ g.testBit (i % 6) = false ∧ i % 6 < n ∧ s ≤ P (i / 6) (i % 6) ∧ P (i % 6) (i / 6) < P (i / 6) (i % 6)
    · rw [if_pos h] at hb
      by_cases hxy : i % 6 = y
      · obtain ⟨h1, _, _, h4, h5⟩ := h
        rw [hxy] at h4 h5
        have hx : i / 6 < 6 := by omega
        have e0 : qw_w P 0 (i / 6) y = P (i / 6) y := by rw [qw_0, if_pos h5]
        have e1 := qw_mo P (i / 6) y 0 6
        have e2 : s ≤ qw_w P 6 (i / 6) y := by
          have : qw_w P (0 + 6) (i / 6) y = qw_w P 6 (i / 6) y := rfl
          omega
        rcases hq.2 _ hx h1 with h6 | h6
        · rw [h6] at e2; exact Or.inr e2
        · have := qw_tr P 6 a y (i / 6) hx
          exact Or.inr (by omega)
      · rw [qa_obn hq.1 (by omega) hy hxy] at hb; exact hq.2 y hy hb
    · rw [if_neg h] at hb; exact hq.2 y hy hb
  · intro y hy hb
    rw [qa_pb (by omega) hy] at hb
    exact Or.inl (of_decide_eq_true hb).symm
theorem qw_sa {n : Nat} {P : Nat → Nat → Nat} {s a : Nat} (hn : n ≤ 6) (ha : a < n) : (qw_re n P s a).testBit a = true := by
  have h := qc_iq (M := 36) (ad := qw_ad n P s) (Q := fun g => g < 64 ∧ g.testBit a = true) ?_ 6 (2 ^ a) ⟨qa_p2 (by omega), ?_⟩
  · exact h.2
  · intro i g hi hq
    refine ⟨qc_al hn (qw_A n P s) hi hq.1, ?_⟩
    rcases qw_A n P s i g hi hq.1 with h | ⟨x, hx, _, h⟩
    · rw [h]; exact hq.2
    · rw [h, qa_ob hq.1 (by omega) (by omega), hq.2]; rfl
  · rw [qa_pb (by omega) (by omega)]; exact decide_eq_true rfl
theorem qw_cl {n : Nat} {P : Nat → Nat → Nat} {s a : Nat} (hn : n ≤ 6) (ha : a < n) {x y : Nat} (hx : x < 6) (hy : y < n) (hb : (qw_re n P s a).testBit x = true) (h1 : s ≤ P x y) (h2 : P y x < P x y) : (qw_re n P s a).testBit y = true := by
  obtain ⟨hl, hs⟩ := qc_stable hn (qw_A n P s) ha hn
  have h := hs (x * 6 + y) (by omega)
  change qw_ad n P s (x * 6 + y) (qw_re n P s a) = qw_re n P s a at h
  change qw_re n P s a < 64 at hl
  unfold qw_ad at h
  rw [show (x * 6 + y) / 6 = x by omega, show (x * 6 + y) % 6 = y by omega] at h
  cases hc : (qw_re n P s a).testBit y
  · rw [if_pos ⟨hb, hc, hy, h1, h2⟩] at h
    have h3 := qa_obs (e := y) hl (by omega)
    rw [h, hc] at h3
    exact h3
  · rfl
theorem qw_co {n : Nat} {P : Nat → Nat → Nat} {s a : Nat} (hn : n ≤ 6) (ha : a < n) (hs : 1 ≤ s) (hz : ∀ x y, n ≤ x → P x y = 0) (c : Nat) : c ≤ 6 → ∀ x y, x < 6 → y < n → (qw_re n P s a).testBit x = true → s ≤ qw_w P c x y → (qw_re n P s a).testBit y = true := by
  induction c with
  | zero =>
    intro _ x y hx hy hb h
    rw [qw_0] at h
    by_cases h2 : P y x < P x y
    · rw [if_pos h2] at h; exact qw_cl hn ha hx hy hb h h2
    · rw [if_neg h2] at h; omega
  | succ c ih =>
    intro hc x y hx hy hb h
    rw [qw_s] at h
    by_cases h1 : s ≤ qw_w P c x y
    · exact ih (by omega) x y hx hy hb h1
    · have h2 : s ≤ qw_w P c x c := by omega
      have h3 : s ≤ qw_w P c c y := by omega
      have h4 : c < n := by
        rcases Nat.lt_or_ge c n with h4 | h4
        · exact h4
        · have := qw_z (fun y => hz c y h4) c y
          omega
      exact ih (by omega) c y (by omega) hy (ih (by omega) x c hx h4 hb h2) h3
theorem qw_iff {n : Nat} {P : Nat → Nat → Nat} {s a b : Nat} (hn : n ≤ 6) (ha : a < n) (hb : b < n) (hab : a ≠ b) (hs : 1 ≤ s) (hz : ∀ x y, n ≤ x → P x y = 0) : (qw_re n P s a).testBit b = true ↔ s ≤ qw_w P 6 a b := by
  constructor
  · intro h
    rcases qw_so hn ha b (by omega) h with h1 | h1
    · exact absurd h1.symm hab
    · exact h1
  · intro h
    exact qw_co hn ha hs hz 6 (Nat.le_refl _) a b (by omega) hb (qw_sa hn ha) h
end
section
/-! top sets -/
def qt_D (n : Nat) (P : Nat → Nat → Nat) (g : Nat) : Prop := ∀ a b, a < n → b < n → g.testBit a = true → g.testBit b = false → P b a < P a b
def qt_sz (n g : Nat) : Nat := qs_sm (fun d => (g.testBit d).toNat) n
def qt_T (n : Nat) (P : Nat → Nat → Nat) (A : Nat) : Prop := 1 ≤ A ∧ A < 2 ^ n ∧ qt_D n P A ∧ ∀ T, 1 ≤ T → T < 2 ^ n → qt_D n P T → qt_sz n A ≤ qt_sz n T
theorem qt_p64 : ∀ n : Fin 7, 2 ^ n.val ≤ 64 := by decide +kernel
theorem qt_64 {n g : Nat} (hn : n ≤ 6) (h : g < 2 ^ n) : g < 64 := Nat.lt_of_lt_of_le h (qt_p64 ⟨n, by omega⟩)
theorem qt_hi {n g i : Nat} (h : g < 2 ^ n) (hi : n ≤ i) : g.testBit i = false := Nat.testBit_lt_two_pow (Nat.lt_of_lt_of_le h (Nat.pow_le_pow_right (by decide) hi))
theorem qt_lt0 : ∀ n : Fin 7, ∀ g : Fin 64, (∀ i : Fin 6, n.val ≤ i.val → g.val.testBit i.val = false) → g.val < 2 ^ n.val := by decide +kernel
theorem qt_lt {n g : Nat} (hn : n ≤ 6) (hg : g < 64) (h : ∀ i, i < 6 → n ≤ i → g.testBit i = false) : g < 2 ^ n := qt_lt0 ⟨n, by omega⟩ ⟨g, hg⟩ fun i hi => h i.val i.isLt hi
theorem qt_ex {n g : Nat} (hn : n ≤ 6) (h : g < 2 ^ n) (h1 : 1 ≤ g) : ∃ d, d < n ∧ g.testBit d = true := by
  rcases Classical.em (∃ d, d < n ∧ g.testBit d = true) with h2 | h2
  · exact h2
  · exfalso
    have : g = 0 := by
      refine qa_eq (qt_64 hn h) (by omega) fun e he => ?_
      rw [qa_zb]
      cases hb : g.testBit e
      · rfl
      · exfalso
        rcases Nat.lt_or_ge e n with h3 | h3
        · exact h2 ⟨e, h3, hb⟩
        · rw [qt_hi h h3] at hb; cases hb
    omega
theorem qt_szl {n g h : Nat} (H : ∀ d, d < n → g.testBit d = true → h.testBit d = true) : qt_sz n g ≤ qt_sz n h := by
  refine qs_le fun d hd => ?_
  show (g.testBit d).toNat ≤ (h.testBit d).toNat
  cases hb : g.testBit d
  · exact Nat.zero_le _
  · rw [H d hd hb]; exact Nat.le_refl _
theorem qt_sze {n g h : Nat} (H : ∀ d, d < n → g.testBit d = true → h.testBit d = true) (e : qt_sz n g = qt_sz n h) : ∀ d, d < n → g.testBit d = h.testBit d := by
  induction n with
  | zero => intro d hd; omega
  | succ n ih =>
    have e' : qt_sz n g + (g.testBit n).toNat = qt_sz n h + (h.testBit n).toNat := e
    have h1 := qt_szl (n := n) (fun d hd => H d (by omega))
    have h2 : (g.testBit n).toNat ≤ (h.testBit n).toNat := by
      cases hb : g.testBit n
      · exact Nat.zero_le _
      · rw [H n (by omega) hb]; exact Nat.le_refl _
    intro d hd
    by_cases hn : d = n
    · subst hn
      have h3 : (g.testBit d).toNat = (h.testBit d).toNat := by omega
      cases ha : g.testBit d <;> cases hb : h.testBit d
      · rfl
      · rw [ha, hb] at h3; cases h3
      · rw [ha, hb] at h3; cases h3
      · rfl
    · exact ih (fun d hd => H d (by omega)) (by omega) d (by omega)
theorem qt_ch {n : Nat} {P : Nat → Nat → Nat} {g h : Nat} (hg : qt_D n P g) (hh : qt_D n P h) : (∀ d, d < n → g.testBit d = true → h.testBit d = true) ∨ (∀ d, d < n → h.testBit d = true → g.testBit d = true) := by
  rcases Classical.em (∀ d, d < n → g.testBit d = true → h.testBit d = true) with h1 | h1
  · exact Or.inl h1
  · refine Or.inr fun d hd hb => ?_
    cases hc : g.testBit d
    · exfalso
      refine h1 fun a ha hba => ?_
      cases hd' : h.testBit a
      · have e1 := hg a d ha hd hba hc
        have e2 := hh d a hd ha hb hd'
        omega
      · rfl
    · rfl
theorem qt_uq {n : Nat} {P : Nat → Nat → Nat} (hn : n ≤ 6) {A B : Nat} (hA : qt_T n P A) (hB : qt_T n P B) : A = B := by
  obtain ⟨a1, a2, a3, a4⟩ := hA
  obtain ⟨b1, b2, b3, b4⟩ := hB
  have e : qt_sz n A = qt_sz n B := Nat.le_antisymm (a4 B b1 b2 b3) (b4 A a1 a2 a3)
  have h : ∀ d, d < n → A.testBit d = B.testBit d := by
    rcases qt_ch a3 b3 with h | h
    · exact qt_sze h e
    · intro d hd; exact (qt_sze h e.symm d hd).symm
  refine qa_eq (qt_64 hn a2) (qt_64 hn b2) fun d hd => ?_
  rcases Nat.lt_or_ge d n with h3 | h3
  · exact h d h3
  · rw [qt_hi a2 h3, qt_hi b2 h3]
theorem qt_full0 : ∀ n : Fin 7, 2 ≤ n.val → 1 ≤ 2 ^ n.val - 1 ∧ 2 ^ n.val - 1 < 2 ^ n.val ∧ qt_sz n.val (2 ^ n.val - 1) = n.val := by decide +kernel
theorem qt_full {n : Nat} (h2 : 2 ≤ n) (hn : n ≤ 6) : 1 ≤ 2 ^ n - 1 ∧ 2 ^ n - 1 < 2 ^ n ∧ qt_sz n (2 ^ n - 1) = n := qt_full0 ⟨n, by omega⟩ h2
theorem qt_fD {n : Nat} (P : Nat → Nat → Nat) (hn : n ≤ 6) : qt_D n P (2 ^ n - 1) := by
  intro a b _ hb _ h
  rw [qa_fb (by omega) (by omega), decide_eq_true hb] at h
  cases h
theorem qt_one0 : ∀ n : Fin 7, ∀ d : Fin 6, d.val < n.val → 1 ≤ 2 ^ d.val ∧ 2 ^ d.val < 2 ^ n.val ∧ qt_sz n.val (2 ^ d.val) = 1 := by decide +kernel
theorem qt_one {n d : Nat} (hn : n ≤ 6) (hd : d < n) : 1 ≤ 2 ^ d ∧ 2 ^ d < 2 ^ n ∧ qt_sz n (2 ^ d) = 1 := qt_one0 ⟨n, by omega⟩ ⟨d, by omega⟩ hd
theorem qt_pos {n T : Nat} (hn : n ≤ 6) (h1 : 1 ≤ T) (h2 : T < 2 ^ n) : 1 ≤ qt_sz n T := by
  obtain ⟨d, hd, hb⟩ := qt_ex hn h2 h1
  rw [← (qt_one hn hd).2.2]
  refine qt_szl fun x hx h => ?_
  rw [qa_pb (by omega) (by omega)] at h
  rw [← of_decide_eq_true h]
  exact hb
theorem qt_ch1 {n : Nat} {P : Nat → Nat → Nat} (hn : n ≤ 6) {A d : Nat} (hd : d < n) (hA : qt_T n P A) : qt_D n P (2 ^ d) ↔ A = 2 ^ d := by
  obtain ⟨h1, h2, h3⟩ := qt_one hn hd
  constructor
  · intro h
    exact qt_uq hn hA ⟨h1, h2, h, fun T t1 t2 _ => by rw [h3]; exact qt_pos hn t1 t2⟩
  · intro h
    rw [← h]; exact hA.2.2.1
/-! the least top set around a document -/
def qt_ad (n : Nat) (P : Nat → Nat → Nat) (b g : Nat) : Nat :=
  if g.testBit b = false ∧ ¬ (∀ a, a < n → g.testBit a = true → P b a < P a b) then g ||| 2 ^ b else g
theorem qt_A (n : Nat) (P : Nat → Nat → Nat) : qc_A n n (qt_ad n P) := by
  intro i g hi _
  unfold qt_ad
  by_cases h : g.testBit i = false ∧ ¬ (∀ a, a < n → g.testBit a = true → P i a < P a i)
  · rw [if_pos h]; exact Or.inr ⟨i, hi, h.1, rfl⟩
  · rw [if_neg h]; exact Or.inl rfl
def qt_cl (n : Nat) (P : Nat → Nat → Nat) (d : Nat) : Nat := qc_it (qt_ad n P) n n (2 ^ d)
theorem qt_cl1 {n : Nat} {P : Nat → Nat → Nat} (hn : n ≤ 6) {d : Nat} (hd : d < n) : qt_cl n P d < 64 ∧ (∀ i, i < 6 → n ≤ i → (qt_cl n P d).testBit i = false) ∧ (qt_cl n P d).testBit d = true := by
  refine qc_iq (M := n) (ad := qt_ad n P) (Q := fun g => g < 64 ∧ (∀ i, i < 6 → n ≤ i → g.testBit i = false) ∧ g.testBit d = true) ?_ n (2 ^ d) ⟨qa_p2 (by omega), ?_, ?_⟩
  · intro i g hi hq
    refine ⟨qc_al hn (qt_A n P) hi hq.1, ?_⟩
    rcases qt_A n P i g hi hq.1 with h | ⟨x, hx, _, h⟩
    · rw [h]; exact hq.2
    · rw [h]
      refine ⟨fun y hy hny => ?_, ?_⟩
      · rw [qa_obn hq.1 (by omega) hy (by omega)]; exact hq.2.1 y hy hny
      · rw [qa_ob hq.1 (by omega) (by omega), hq.2.2]; rfl
  · intro i hi hni
    rw [qa_pb (by omega) hi]
    exact decide_eq_false (by omega)
  · rw [qa_pb (by omega) (by omega)]; exact decide_eq_true rfl
theorem qt_cl2 {n : Nat} {P : Nat → Nat → Nat} (hn : n ≤ 6) {d : Nat} (hd : d < n) : qt_D n P (qt_cl n P d) := by
  obtain ⟨hl, hs⟩ := qc_stable hn (qt_A n P) hd (Nat.le_refl n)
  intro a b ha hb hba hbb
  have h := hs b hb
  change qt_ad n P b (qt_cl n P d) = qt_cl n P d at h
  change qt_cl n P d < 64 at hl
  unfold qt_ad at h
  by_cases hc : ∀ a, a < n → (qt_cl n P d).testBit a = true → P b a < P a b
  · exact hc a ha hba
  · rw [if_pos ⟨hbb, hc⟩] at h
    have h3 := qa_obs (e := b) hl (by omega)
    rw [h, hbb] at h3
    cases h3
theorem qt_cl3 {n : Nat} {P : Nat → Nat → Nat} (hn : n ≤ 6) {d T : Nat} (hd : d < n) (hT : qt_D n P T) (hdT : T.testBit d = true) : ∀ x, x < n → (qt_cl n P d).testBit x = true → T.testBit x = true := by
  have h := qc_iq (M := n) (ad := qt_ad n P) (Q := fun g => g < 64 ∧ ∀ x, x < n → g.testBit x = true → T.testBit x = true) ?_ n (2 ^ d) ⟨qa_p2 (by omega), ?_⟩
  · exact h.2
  · intro i g hi hq
    refine ⟨qc_al hn (qt_A n P) hi hq.1, fun x hx hb => ?_⟩
    unfold qt_ad at hb
    by_cases h : g.testBit i = false ∧ ¬ (∀ a, a < n → g.testBit a = true → P i a < P a i)
    · rw [if_pos h] at hb
      by_cases hix : i = x
      · subst hix
        cases hc : T.testBit i
        · exfalso
          exact h.2 fun a ha hga => hT a i ha hi (hq.2 a ha hga) hc
        · rfl
      · rw [qa_obn hq.1 (by omega) (by omega) hix] at hb; exact hq.2 x hx hb
    · rw [if_neg h] at hb; exact hq.2 x hx hb
  · intro x hx hb
    rw [qa_pb (by omega) (by omega)] at hb
    rw [← of_decide_eq_true hb]
    exact hdT
theorem qt_cl4 {n : Nat} {P : Nat → Nat → Nat} (hn : n ≤ 6) {d : Nat} (hd : d < n) : 1 ≤ qt_cl n P d ∧ qt_cl n P d < 2 ^ n := by
  obtain ⟨h1, h2, h3⟩ := qt_cl1 (P := P) hn hd
  refine ⟨?_, qt_lt hn h1 h2⟩
  rcases Nat.eq_zero_or_pos (qt_cl n P d) with h | h
  · rw [h, qa_zb] at h3; cases h3
  · exact h
/-- a top set that is no greater than any of the closed ones is the least of all -/
theorem qt_fin {n : Nat} {P : Nat → Nat → Nat} (hn : n ≤ 6) {A : Nat} (h1 : 1 ≤ A) (h2 : A < 2 ^ n) (h3 : qt_D n P A) (h4 : ∀ d, d < n → qt_sz n A ≤ qt_sz n (qt_cl n P d)) : qt_T n P A := by
  refine ⟨h1, h2, h3, fun T t1 t2 t3 => ?_⟩
  obtain ⟨d, hd, hb⟩ := qt_ex hn t2 t1
  exact Nat.le_trans (h4 d hd) (qt_szl (qt_cl3 hn hd t3 hb))
theorem qt_szb (n g : Nat) : qt_sz n g ≤ n := by
  have := qs_b (f := fun d => (g.testBit d).toNat) (n := n) (M := 1) (fun i _ => Bool.toNat_le _)
  rw [Nat.mul_one] at this
  exact this
theorem qt_szx {n g : Nat} (h : g < 2 ^ n) (d : Nat) : qt_sz (n + d) g = qt_sz n g := by
  induction d with
  | zero => rfl
  | succ d ih =>
    show qt_sz (n + d) g + (g.testBit (n + d)).toNat = qt_sz n g
    rw [ih, qt_hi h (by omega)]; rfl
theorem qt_sz6 {n g : Nat} (hn : n ≤ 6) (h : g < 2 ^ n) : qt_sz 6 g = qt_sz n g := by
  have := qt_szx h (6 - n)
  rw [show n + (6 - n) = 6 by omega] at this
  exact this
end
section
/-! places by score -/
def qk_a (z : Nat → Int) (b d : Nat) : Prop := z d < z b ∨ (z b = z d ∧ b < d)
theorem qk_tri (z : Nat → Int) {b d : Nat} (h : b ≠ d) : qk_a z b d ∨ qk_a z d b := by
  unfold qk_a; omega
theorem qk_asy (z : Nat → Int) {b d : Nat} (h : qk_a z b d) : ¬ qk_a z d b := by
  unfold qk_a at *; omega
theorem qk_trn (z : Nat → Int) {a b d : Nat} (h : qk_a z a b) (h' : qk_a z b d) : qk_a z a d := by
  unfold qk_a at *; omega
def qk_i (z : Nat → Int) (b d : Nat) : Nat := if z d < z b ∨ (z b = z d ∧ b < d) then 1 else 0
theorem qk_i1 {z : Nat → Int} {b d : Nat} (h : qk_a z b d) : qk_i z b d = 1 := if_pos h
theorem qk_i0 {z : Nat → Int} {b d : Nat} (h : ¬ qk_a z b d) : qk_i z b d = 0 := if_neg h
def qk_r (z : Nat → Int) (n d : Nat) : Nat := qs_sm (fun b => qk_i z b d) n
theorem qk_il (z : Nat → Int) (b d : Nat) : qk_i z b d ≤ 1 := by
  unfold qk_i; split <;> omega
theorem qk_lt {z : Nat → Int} {n d : Nat} (hd : d < n) : qk_r z n d < n := by
  have h1 : ∀ m, m ≤ n → qk_r z m d ≤ m := by
    intro m _
    have := qs_b (f := fun b => qk_i z b d) (n := m) (M := 1) (fun i _ => qk_il z i d)
    rw [Nat.mul_one] at this
    exact this
  have h2 : ∀ m, d < m → qk_r z m d < m := by
    intro m
    induction m with
    | zero => intro h; omega
    | succ m ih =>
      intro h
      have e : qk_r z (m + 1) d = qk_r z m d + qk_i z m d := rfl
      by_cases hm : d = m
      · subst hm
        have e0 : qk_i z d d = 0 := qk_i0 (by unfold qk_a; omega)
        have : qk_r z d d ≤ d := by
          have := qs_b (f := fun b => qk_i z b d) (n := d) (M := 1) (fun i _ => qk_il z i d)
          rw [Nat.mul_one] at this
          exact this
        omega
      · have := ih (by omega)
        have := qk_il z m d
        omega
  exact h2 n hd
theorem qk_mono {z : Nat → Int} {n d e : Nat} (hd : d < n) (h : qk_a z d e) : qk_r z n d < qk_r z n e := by
  have h1 : ∀ b, qk_i z b d ≤ qk_i z b e := by
    intro b
    rcases Classical.em (qk_a z b d) with hb | hb
    · rw [qk_i1 hb, qk_i1 (qk_trn z hb h)]; exact Nat.le_refl _
    · rw [qk_i0 hb]; exact Nat.zero_le _
  have h2 : ∀ m, d < m → qk_r z m d < qk_r z m e := by
    intro m
    induction m with
    | zero => intro h; omega
    | succ m ih =>
      intro hm
      show qk_r z m d + qk_i z m d < qk_r z m e + qk_i z m e
      by_cases hq : d = m
      · subst hq
        rw [qk_i0 (show ¬ qk_a z d d by unfold qk_a; omega), qk_i1 h]
        have : qk_r z d d ≤ qk_r z d e := qs_le fun i _ => h1 i
        omega
      · have := ih (by omega)
        have := h1 m
        omega
  exact h2 n hd
theorem qk_inj {z : Nat → Int} {n d e : Nat} (hd : d < n) (he : e < n) (h : qk_r z n d = qk_r z n e) : d = e := by
  rcases Classical.em (d = e) with h1 | h1
  · exact h1
  · rcases qk_tri z h1 with h2 | h2
    · have := qk_mono hd h2; omega
    · have := qk_mono he h2; omega
/-- the first r documents by score are taken -/
def qk_I (z : Nat → Int) (n r t : Nat) : Prop := t < 64 ∧ qt_sz n t = r ∧ ∀ x y, x < n → y < n → t.testBit x = true → t.testBit y = false → qk_a z x y
/-- g is the first of those that are not taken -/
def qk_G (z : Nat → Int) (n t g : Nat) : Prop := g < n ∧ t.testBit g = false ∧ ∀ y, y < n → t.testBit y = false → y ≠ g → qk_a z g y
theorem qk_I0 (z : Nat → Int) (n : Nat) : qk_I z n 0 0 := by
  refine ⟨by omega, ?_, fun x y _ _ h => ?_⟩
  · exact qs_z fun i _ => by rw [qa_zb]; rfl
  · rw [qa_zb] at h; cases h
theorem qk_sz {n t g : Nat} (hn : n ≤ 6) (ht : t < 64) (hg : g < n) (hb : t.testBit g = false) : qt_sz n (t ||| 2 ^ g) = qt_sz n t + 1 := by
  have h1 : qt_sz n (t ||| 2 ^ g) = qs_sm (fun d => (t.testBit d).toNat + (if d = g then 1 else 0)) n := by
    refine qs_cg fun d hd => ?_
    show ((t ||| 2 ^ g).testBit d).toNat = (t.testBit d).toNat + (if d = g then 1 else 0)
    by_cases h : d = g
    · subst h; rw [qa_obs ht (by omega), hb, if_pos rfl]; rfl
    · rw [qa_obn ht (by omega) (by omega) (fun z => h z.symm), if_neg h, Nat.add_zero]
  rw [h1, qs_add (fun d => (t.testBit d).toNat) (fun d => if d = g then 1 else 0), qs_1 (f := fun d => if d = g then 1 else 0) (e := g) (fun i _ h => if_neg h) hg]
  show qt_sz n t + (if g = g then 1 else 0) = _
  rw [if_pos rfl]
theorem qk_st {z : Nat → Int} {n r t g : Nat} (hn : n ≤ 6) (hI : qk_I z n r t) (hG : qk_G z n t g) : qk_r z n g = r ∧ qk_I z n (r + 1) (t ||| 2 ^ g) := by
  obtain ⟨h1, h2, h3⟩ := hI
  obtain ⟨g1, g2, g3⟩ := hG
  constructor
  · rw [← h2]
    refine qs_cg fun b hb => ?_
    show qk_i z b g = (t.testBit b).toNat
    cases ht : t.testBit b
    · by_cases hbg : b = g
      · subst hbg; exact qk_i0 (by unfold qk_a; omega)
      · exact qk_i0 (qk_asy z (g3 b hb ht hbg))
    · exact qk_i1 (h3 b g hb g1 ht g2)
  · refine ⟨qa_ol h1 (by omega), by rw [qk_sz hn h1 g1 g2, h2], fun x y hx hy hbx hby => ?_⟩
    rw [qa_ob h1 (by omega) (by omega)] at hbx hby
    obtain ⟨hy1, hy2⟩ := Bool.or_eq_false_iff.mp hby
    have hyg : y ≠ g := fun z => (of_decide_eq_false hy2) z.symm
    rcases Bool.or_eq_true_iff.mp hbx with h | h
    · exact h3 x y hx hy h hy1
    · rw [← of_decide_eq_true h]; exact g3 y hy hy1 hyg
theorem qk_free {z : Nat → Int} {n r t : Nat} (hI : qk_I z n r t) (hr : r < n) : ∃ y, y < n ∧ t.testBit y = false := by
  rcases Classical.em (∃ y, y < n ∧ t.testBit y = false) with h | h
  · exact h
  · exfalso
    have : qt_sz n t = qs_sm (fun _ => 1) n := by
      refine qs_cg fun d hd => ?_
      show (t.testBit d).toNat = 1
      cases hb : t.testBit d
      · exact absurd ⟨d, hd, hb⟩ h
      · rfl
    have e : ∀ m, qs_sm (fun _ => 1) m = m := by
      intro m
      induction m with
      | zero => rfl
      | succ m ih => rw [qs_s, ih]
    rw [hI.2.1, e] at this
    omega
/-- scanning: the first of those below i that are not taken, if there is one -/
def qk_S (z : Nat → Int) (t i : Nat) : Option Nat → Prop
  | none => ∀ y, y < i → t.testBit y = true
  | some g => g < i ∧ t.testBit g = false ∧ ∀ y, y < i → t.testBit y = false → y ≠ g → qk_a z g y
theorem qk_S0 {z : Nat → Int} {t i : Nat} {o : Option Nat} (h : qk_S z t i o) (hb : t.testBit i = true) : qk_S z t (i + 1) o := by
  cases o with
  | none =>
    intro y hy
    by_cases h1 : y = i
    · subst h1; exact hb
    · exact h y (by omega)
  | some g =>
    obtain ⟨h1, h2, h3⟩ := h
    refine ⟨by omega, h2, fun y hy hby hne => ?_⟩
    by_cases h4 : y = i
    · subst h4; rw [hb] at hby; cases hby
    · exact h3 y (by omega) hby hne
theorem qk_S1 {z : Nat → Int} {t i : Nat} (h : qk_S z t i none) (hb : t.testBit i = false) : qk_S z t (i + 1) (some i) := by
  refine ⟨by omega, hb, fun y hy hby hne => ?_⟩
  have := h y (by omega)
  rw [hby] at this
  cases this
theorem qk_S2 {z : Nat → Int} {t i g : Nat} (h : qk_S z t i (some g)) (hb : t.testBit i = false) (hz : z g < z i) : qk_S z t (i + 1) (some i) := by
  obtain ⟨h1, h2, h3⟩ := h
  refine ⟨by omega, hb, fun y hy hby hne => ?_⟩
  by_cases h4 : y = g
  · subst h4; exact Or.inl hz
  · have := h3 y (by omega) hby h4
    unfold qk_a at *
    omega
theorem qk_S3 {z : Nat → Int} {t i g : Nat} (h : qk_S z t i (some g)) (hz : z i ≤ z g) : qk_S z t (i + 1) (some g) := by
  obtain ⟨h1, h2, h3⟩ := h
  refine ⟨by omega, h2, fun y hy hby hne => ?_⟩
  by_cases h4 : y = i
  · subst h4; unfold qk_a; omega
  · exact h3 y (by omega) hby hne
end
section
/-! what the two objects hold: weights w, places pl (6: not named) -/
def qp_P (c : Nat) (w : Nat → Nat) (pl : Nat → Nat → Nat) (a b : Nat) : Nat := qs_sm (fun k => if pl k a < pl k b then w k else 0) c
theorem qp_s (c : Nat) (w : Nat → Nat) (pl : Nat → Nat → Nat) (a b : Nat) : qp_P (c + 1) w pl a b = qp_P c w pl a b + (if pl c a < pl c b then w c else 0) := rfl
def qp_c (f : Nat → Nat) : Nat := qs_sm (fun d => if f d < 6 then 1 else 0) 6
def qp_i (p : Nat) : Int32 := if p < 6 then nI p else -1
theorem qp_il {p : Nat} (h : p ≤ 6) : qp_i p < 0 ↔ p = 6 := by
  unfold qp_i
  by_cases h1 : p < 6
  · rw [if_pos h1]
    exact ⟨fun z => absurd z (nI_pos (by omega)), fun z => by omega⟩
  · rw [if_neg h1]
    exact ⟨fun _ => by omega, fun _ => qa_ml⟩
theorem qp_ii {p q : Nat} (hp : p < 6) (hq : q < 6) : qp_i q ≤ qp_i p ↔ q ≤ p := by
  unfold qp_i
  rw [if_pos hp, if_pos hq]
  exact nI_leI (by omega) (by omega)
theorem qp_i6 : qp_i 6 = -1 := rfl
theorem qp_nb {p : Nat} : vp_nar .byte (qp_i p) = qp_i p := by
  unfold qp_i
  by_cases h : p < 6
  · rw [if_pos h]; exact qa_nb (by omega)
  · rw [if_neg h]; exact qa_nm
theorem qp_cl (f : Nat → Nat) : qp_c f ≤ 6 := by
  have := qs_b (f := fun d => if f d < 6 then 1 else 0) (n := 6) (M := 1) (fun i _ => by show (if f i < 6 then 1 else 0) ≤ 1; split <;> omega)
  exact this
theorem qp_ce (f : Nat → Nat) : qp_c f = (if f 0 < 6 then 1 else 0) + (if f 1 < 6 then 1 else 0) + (if f 2 < 6 then 1 else 0) + (if f 3 < 6 then 1 else 0) + (if f 4 < 6 then 1 else 0) + (if f 5 < 6 then 1 else 0) := by
  show 0 + (if f 0 < 6 then 1 else 0) + (if f 1 < 6 then 1 else 0) + (if f 2 < 6 then 1 else 0) + (if f 3 < 6 then 1 else 0) + (if f 4 < 6 then 1 else 0) + (if f 5 < 6 then 1 else 0) = _
  rw [Nat.zero_add]
theorem qp_cu {f g : Nat → Nat} {d : Nat} (hd : d < 6) (h0 : f d = 6) (h1 : g d < 6) (h2 : ∀ x, x ≠ d → g x = f x) : qp_c g = qp_c f + 1 := by
  have e : qp_c g = qs_sm (fun x => (if f x < 6 then 1 else 0) + (if x = d then 1 else 0)) 6 := by
    refine qs_cg fun x _ => ?_
    show (if g x < 6 then 1 else 0) = (if f x < 6 then 1 else 0) + (if x = d then 1 else 0)
    by_cases h : x = d
    · subst h; rw [if_pos h1, if_neg (by omega), if_pos rfl]
    · rw [h2 x h, if_neg h]; rfl
  rw [e, qs_add (fun x => if f x < 6 then 1 else 0) (fun x => if x = d then 1 else 0), qs_1 (f := fun x => if x = d then 1 else 0) (e := d) (fun i _ h => if_neg h) hd]
  show qp_c f + (if d = d then 1 else 0) = _
  rw [if_pos rfl]
def qr_D (n c : Nat) (w : Nat → Nat) (pl : Nat → Nat → Nat) : Prop :=
  2 ≤ n ∧ n ≤ 6 ∧ c ≤ 5 ∧ (∀ k, k < c → w k ≤ 9) ∧ (∀ k d, k < c → pl k d ≤ 6) ∧ (∀ k d, k < c → n ≤ d → pl k d = 6)
def qr_X (c : Nat) (w : Nat → Nat) (pl : Nat → Nat → Nat) (xW xN xL : Nat → Int32) : Prop :=
  ∀ k, k < c → xW k = nI (w k) ∧ xN k = nI (qp_c (pl k)) ∧ ∀ d, d < 6 → xL (k * 6 + d) = qp_i (pl k d)
def qr_Y (n c : Nat) (w : Nat → Nat) (pl : Nat → Nat → Nat) (yW yN yL : Nat → Int32) : Prop :=
  ∀ k, k < c → yW k = nI (w k) ∧ yN k = nI (qp_c (pl k)) ∧ (∀ d, d < n → pl k d < 6 → pl k d < qp_c (pl k) ∧ yL (6 * k + pl k d) = nI d) ∧ (∀ p, p < qp_c (pl k) → ∃ d, d < n ∧ yL (6 * k + p) = nI d ∧ pl k d = p)
def qr_K (n : Nat) (P : Nat → Nat → Nat) (B : Int32) (xP xQ xE : Nat → Int32) : Prop :=
  (∀ i, i < 36 → xP i = nI (P (i / 6) (i % 6))) ∧ (∀ i, i < 36 → xQ i = nI (qw_w P 6 (i / 6) (i % 6))) ∧ B = nI (qe_R P n qe_tt).1 ∧ ∀ k, k < n → xE k = nI ((qe_R P n qe_tt).2.getD k 0)
theorem qp_45 {n c : Nat} {w : Nat → Nat} {pl : Nat → Nat → Nat} (D : qr_D n c w pl) (a b : Nat) : qp_P c w pl a b ≤ 45 := by
  obtain ⟨-, -, hc, hw, -, -⟩ := D
  have h : qp_P c w pl a b ≤ c * 9 := by
    refine qs_b fun k hk => ?_
    show (if pl k a < pl k b then w k else 0) ≤ 9
    split
    · exact hw k hk
    · exact Nat.zero_le _
  omega
theorem qp_z {n c : Nat} {w : Nat → Nat} {pl : Nat → Nat → Nat} (D : qr_D n c w pl) (a b : Nat) (ha : n ≤ a) : qp_P c w pl a b = 0 := by
  obtain ⟨-, -, -, -, hl, h6⟩ := D
  refine qs_z fun k hk => ?_
  show (if pl k a < pl k b then w k else 0) = 0
  have h1 := h6 k a hk ha
  have h2 := hl k b hk
  exact if_neg (by omega)
theorem qp_k {k c : Nat} {w : Nat → Nat} {pl : Nat → Nat → Nat} (h : ∀ k, k < c → w k ≤ 9) (hc : c ≤ 5) (hk : k ≤ c) (a b : Nat) : qp_P k w pl a b ≤ 45 := by
  have h : qp_P k w pl a b ≤ k * 9 := by
    refine qs_b fun j hj => ?_
    show (if pl j a < pl j b then w j else 0) ≤ 9
    split
    · exact h j (by omega)
    · exact Nat.zero_le _
  omega
section QX
variable {n c : Nat} {w : Nat → Nat} {pl : Nat → Nat → Nat} {xC xK xB : Int32} {xW xN xL xP xQ xE xT xS xF : Nat → Int32} {P : Nat → Nat → Nat}
/-! X: preferences -/
theorem qx_c85 {post : SX → Prop} {J23 J33 : Int32 → (Nat → Int32) → (Nat → Int32) → (Nat → Int32) → (Nat → Int32) → (Nat → Int32) → (Nat → Int32) → (Nat → Int32) → (Nat → Int32) → (Nat → Int32) → Prop} {k i : Nat} (hk : k < 5) (hi : i < 36)
    (h : J33 (nI (i + 1)) xW xN xL (upd xP i (xP i + xW k)) xQ xE xT xS xF) : wX_countPreferences_85 post J23 J33 (nI k) (nI i) (nI n) xC xK xB xW xN xL xP xQ xE xT xS xF := by
  unfold wX_countPreferences_85
  have e1 : (nI i).toNatClampNeg = i := nI_clamp (by omega)
  have e2 : (nI k).toNatClampNeg = k := nI_clamp (by omega)
  rw [e1, e2]
  have hv : vp_in (nI i) 36 := vp_in_nI hi (by decide)
  exact ⟨hv, vp_in_nI hk (by decide), hv, nm_e (nm_r (nI_1 i) h)⟩
theorem qx_c33 {post : SX → Prop} {J23 : Int32 → (Nat → Int32) → (Nat → Int32) → (Nat → Int32) → (Nat → Int32) → (Nat → Int32) → (Nat → Int32) → (Nat → Int32) → (Nat → Int32) → (Nat → Int32) → Prop} {k : Nat} (D : qr_D n c w pl) (X : qr_X c w pl xW xN xL) (hk : k < c)
    (hJ : ∀ xP, (∀ j, j < 36 → xP j = nI (qp_P (k + 1) w pl (j / 6) (j % 6))) → J23 (nI (k + 1)) xW xN xL xP xQ xE xT xS xF) :
    ∀ m i xP, i ≤ 36 → 36 < m + i → (∀ j, j < 36 → xP j = nI (qp_P (if j < i then k + 1 else k) w pl (j / 6) (j % 6))) → wX_countPreferences_33 post J23 (nI k) (nI n) xC xK xB m (nI i) xW xN xL xP xQ xE xT xS xF := by
  obtain ⟨h2, h6, hc, hw, hl, h7⟩ := D
  obtain ⟨eW, -, eL⟩ := X k hk
  intro m
  induction m with
  | zero => intro i xP h1 h2; omega
  | succ m ih =>
    intro i xP hi hm hP
    rw [wX_countPreferences_33]
    refine pk_le 36 i (fun h => nm_r (nI_1 k) (hJ xP fun j hj => ?_)) (fun h => ?_)
    · rw [hP j hj, if_pos (by omega)]
    · have hd : i / 6 < 6 := by omega
      have hr : i % 6 < 6 := by omega
      rw [qa_m6 (by omega), qa_d6 (by omega), qa_ix, qa_ix, nI_clamp (n := k * 6 + i / 6) (by omega), nI_clamp (n := k * 6 + i % 6) (by omega)]
      refine ⟨qa_n6, vp_in_nI (by omega) (by decide), nm_r (eL _ hd) ⟨qa_n6, vp_in_nI (by omega) (by decide), nm_r (eL _ hr) ?_⟩⟩
      have ha := hl k (i / 6) hk
      have hb := hl k (i % 6) hk
      have hs : ¬ pl k (i / 6) < pl k (i % 6) → wX_countPreferences_33 post J23 (nI k) (nI n) xC xK xB m (nI (i + 1)) xW xN xL xP xQ xE xT xS xF := by
        intro hq
        refine ih (i + 1) xP (by omega) (by omega) fun j hj => ?_
        rw [hP j hj]
        by_cases hji : j = i
        · subst hji
          rw [if_neg (by omega), if_pos (by omega), qp_s, if_neg hq]
          rfl
        · by_cases hlt : j < i
          · rw [if_pos hlt, if_pos (by omega)]
          · rw [if_neg hlt, if_neg (by omega)]
      have ht : pl k (i / 6) < pl k (i % 6) → wX_countPreferences_85 post J23 (wX_countPreferences_33 post J23 (nI k) (nI n) xC xK xB m) (nI k) (nI i) (nI n) xC xK xB xW xN xL xP xQ xE xT xS xF := by
        intro hq
        refine qx_c85 (by omega) h (ih (i + 1) _ (by omega) (by omega) fun j hj => ?_)
        by_cases hji : j = i
        · subst hji
          rw [pk_us, hP j hj, eW, nI_add, if_neg (by omega), if_pos (by omega), qp_s, if_pos hq]
        · rw [pk_un hji, hP j hj]
          by_cases hlt : j < i
          · rw [if_pos hlt, if_pos (by omega)]
          · rw [if_neg hlt, if_neg (by omega)]
      refine br_c (fun z => nm_r (nI_1 i) (hs ?_)) (fun z => br_c (fun z2 => ht ?_) (fun z2 => br_c (fun z3 => nm_r (nI_1 i) (hs ?_)) (fun z3 => ht ?_)))
      · have := (qp_il ha).mp z; omega
      · have h8 := (qp_il hb).mp z2
        have h9 : pl k (i / 6) ≠ 6 := fun e => z ((qp_il ha).mpr e)
        omega
      · have h8 : pl k (i % 6) ≠ 6 := fun e => z2 ((qp_il hb).mpr e)
        have h9 : pl k (i / 6) ≠ 6 := fun e => z ((qp_il ha).mpr e)
        have := (qp_ii (p := pl k (i / 6)) (q := pl k (i % 6)) (by omega) (by omega)).mp z3
        omega
      · have h8 : pl k (i % 6) ≠ 6 := fun e => z2 ((qp_il hb).mpr e)
        have h9 : pl k (i / 6) ≠ 6 := fun e => z ((qp_il ha).mpr e)
        have h10 := mt (qp_ii (p := pl k (i / 6)) (q := pl k (i % 6)) (by omega) (by omega)).mpr z3
        omega
theorem qx_c23 {post : SX → Prop} (D : qr_D n c w pl) (X : qr_X c w pl xW xN xL)
    (hp : ∀ xP, (∀ j, j < 36 → xP j = nI (qp_P c w pl (j / 6) (j % 6))) → post ((nI n), (nI c), xK, xB, xW, xN, xL, xP, xQ, xE, xT, xS, xF)) :
    ∀ m k xP, k ≤ c → c < m + k → (∀ j, j < 36 → xP j = nI (qp_P k w pl (j / 6) (j % 6))) → wX_countPreferences_23 post (nI n) (nI c) xK xB m (nI k) xW xN xL xP xQ xE xT xS xF := by
  have hc : c ≤ 5 := D.2.2.1
  intro m
  induction m with
  | zero => intro k xP h1 h2; omega
  | succ m ih =>
    intro k xP hk hm hP
    rw [wX_countPreferences_23]
    refine pk_le c k (fun h => ?_) (fun h => ⟨37, ?_⟩)
    · have e : k = c := by omega
      subst e
      exact hp xP hP
    · exact qx_c33 D X h (fun xP' h' => ih (k + 1) xP' (by omega) (by omega) h') 37 0 xP (by omega) (by omega) (fun j hj => by rw [if_neg (by omega)]; exact hP j hj)
theorem qx_c2 {post : SX → Prop} (D : qr_D n c w pl) (X : qr_X c w pl xW xN xL)
    (hp : ∀ xP, (∀ j, j < 36 → xP j = nI (qp_P c w pl (j / 6) (j % 6))) → post ((nI n), (nI c), xK, xB, xW, xN, xL, xP, xQ, xE, xT, xS, xF)) :
    ∀ m i xP, i ≤ 36 → 36 < m + i → (∀ j, j < i → xP j = 0) → wX_countPreferences_2 post (nI n) (nI c) xK xB m (nI i) xW xN xL xP xQ xE xT xS xF := by
  intro m
  induction m with
  | zero => intro i xP h1 h2; omega
  | succ m ih =>
    intro i xP hi hm hP
    rw [wX_countPreferences_2]
    refine pk_le 36 i (fun h => ⟨c + 1, ?_⟩) (fun h => ?_)
    · refine qx_c23 D X hp (c + 1) 0 xP (by omega) (by omega) (fun j hj => ?_)
      rw [hP j (by omega)]; rfl
    · rw [nI_clamp (n := i) (by omega)]
      refine ⟨vp_in_nI h (by decide), nm_e (nm_r (nI_1 i) (ih (i + 1) _ (by omega) (by omega) fun j hj => ?_))⟩
      by_cases hji : j = i
      · subst hji; exact pk_us
      · rw [pk_un hji]; exact hP j (by omega)
theorem qx_count {post : SX → Prop} (D : qr_D n c w pl) (X : qr_X c w pl xW xN xL)
    (hp : ∀ xP, (∀ j, j < 36 → xP j = nI (qp_P c w pl (j / 6) (j % 6))) → post ((nI n), (nI c), xK, xB, xW, xN, xL, xP, xQ, xE, xT, xS, xF)) : wpX_countPreferences post ((nI n), (nI c), xK, xB, xW, xN, xL, xP, xQ, xE, xT, xS, xF) :=
  ⟨37, qx_c2 D X hp 37 0 xP (by omega) (by omega) (fun j hj => absurd hj (by omega))⟩
/-! X: victories, paths -/
theorem qx_pr (hP : ∀ i, i < 36 → xP i = nI (P (i / 6) (i % 6))) {a b : Nat} (ha : a < 6) (hb : b < 6) : xP (a * 6 + b) = nI (P a b) := by
  rw [hP _ (by omega), show (a * 6 + b) / 6 = a by omega, show (a * 6 + b) % 6 = b by omega]
theorem qx_beats {post : Int32 → Prop} (h45 : ∀ a b, P a b ≤ 45) (hP : ∀ i, i < 36 → xP i = nI (P (i / 6) (i % 6))) {a b : Nat} (ha : a < 6) (hb : b < 6) (h0 : P a b ≤ P b a → post 0) (h1 : P b a < P a b → post 1) : wpX_beats post ((nI n), xC, xK, xB, xW, xN, xL, xP, xQ, xE, xT, xS, xF) (nI a) (nI b) := by
  have e1 := qx_pr hP ha hb
  have e2 := qx_pr hP hb ha
  have b1 := h45 a b
  have b2 := h45 b a
  show vp_in (nI a * 6 + nI b) 36 ∧ (vp_in (nI b * 6 + nI a) 36 ∧ ((xP (nI a * 6 + nI b).toNatClampNeg ≤ xP (nI b * 6 + nI a).toNatClampNeg → post 0) ∧ (¬ xP (nI a * 6 + nI b).toNatClampNeg ≤ xP (nI b * 6 + nI a).toNatClampNeg → post 1)))
  rw [qa_ix, qa_ix, nI_clamp (n := a * 6 + b) (by omega), nI_clamp (n := b * 6 + a) (by omega), e1, e2]
  exact ⟨vp_in_nI (by omega) (by decide), vp_in_nI (by omega) (by decide), pk_le (P a b) (P b a) h0 h1⟩
theorem qx_w108 {post : SX → Prop} {J51 J59 : Int32 → (Nat → Int32) → (Nat → Int32) → (Nat → Int32) → (Nat → Int32) → (Nat → Int32) → (Nat → Int32) → (Nat → Int32) → (Nat → Int32) → (Nat → Int32) → Prop} {x1 : Int32} {i z q : Nat} (hi : i < 36) (hz : z ≤ 45) (hq : q ≤ 45) (e : xQ i = nI q)
    (h : ∀ xQ', xQ' i = nI (max q z) → (∀ j, j ≠ i → xQ' j = xQ j) → J59 (nI (i + 1)) xW xN xL xP xQ' xE xT xS xF) : wX_widen_108 post J51 J59 x1 (nI i) (nI z) (nI n) xC xK xB xW xN xL xP xQ xE xT xS xF := by
  unfold wX_widen_108
  rw [nI_clamp (n := i) (by omega), e]
  have hv : vp_in (nI i) 36 := vp_in_nI hi (by decide)
  refine ⟨hv, pk_le z q (fun h1 => nm_r (nI_1 i) (h xQ ?_ fun _ _ => rfl)) (fun h1 => ⟨hv, nm_e (nm_r (nI_1 i) (h _ ?_ fun j hj => pk_un hj))⟩)⟩
  · rw [e]; exact congrArg nI (by omega)
  · rw [pk_us]; exact congrArg nI (by omega)
theorem qx_w59 {post : SX → Prop} {J51 : Int32 → (Nat → Int32) → (Nat → Int32) → (Nat → Int32) → (Nat → Int32) → (Nat → Int32) → (Nat → Int32) → (Nat → Int32) → (Nat → Int32) → (Nat → Int32) → Prop} {k : Nat} (h45 : ∀ a b, P a b ≤ 45) (hk : k < 6)
    (hJ : ∀ xQ, (∀ j, j < 36 → xQ j = nI (qw_w P (k + 1) (j / 6) (j % 6))) → J51 (nI (k + 1)) xW xN xL xP xQ xE xT xS xF) :
    ∀ m i xQ, i ≤ 36 → 36 < m + i → (∀ j, j < 36 → xQ j = nI (qw_w P (if j < i then k + 1 else k) (j / 6) (j % 6))) → wX_widen_59 post J51 (nI k) (nI n) xC xK xB m (nI i) xW xN xL xP xQ xE xT xS xF := by
  intro m
  induction m with
  | zero => intro i xQ h1 h2; omega
  | succ m ih =>
    intro i xQ hi hm hQ
    rw [wX_widen_59]
    refine pk_le 36 i (fun h => nm_r (nI_1 k) (hJ xQ fun j hj => ?_)) (fun h => ?_)
    · rw [hQ j hj, if_pos (by omega)]
    · have hd : i / 6 < 6 := by omega
      have hr : i % 6 < 6 := by omega
      have e1 : xQ (i / 6 * 6 + k) = nI (qw_w P k (i / 6) k) := by
        rw [hQ _ (by omega), show (i / 6 * 6 + k) / 6 = i / 6 by omega, show (i / 6 * 6 + k) % 6 = k by omega]
        by_cases hlt : i / 6 * 6 + k < i
        · rw [if_pos hlt, qw_ac]
        · rw [if_neg hlt]
      have e2 : xQ (k * 6 + i % 6) = nI (qw_w P k k (i % 6)) := by
        rw [hQ _ (by omega), show (k * 6 + i % 6) / 6 = k by omega, show (k * 6 + i % 6) % 6 = i % 6 by omega]
        by_cases hlt : k * 6 + i % 6 < i
        · rw [if_pos hlt, qw_cb]
        · rw [if_neg hlt]
      have e3 : xQ i = nI (qw_w P k (i / 6) (i % 6)) := by rw [hQ i h, if_neg (by omega)]
      rw [qa_m6 (by omega), qa_d6 (by omega), qa_ix, qa_ix, nI_clamp (n := i / 6 * 6 + k) (by omega), nI_clamp (n := k * 6 + i % 6) (by omega)]
      refine ⟨qa_n6, vp_in_nI (by omega) (by decide), nm_r e1 ⟨qa_n6, vp_in_nI (by omega) (by decide), nm_r e2 ?_⟩⟩
      have b1 := qw_b h45 k (i / 6) k
      have b2 := qw_b h45 k k (i % 6)
      have b3 := qw_b h45 k (i / 6) (i % 6)
      have fin : ∀ z xQ', z = min (qw_w P k (i / 6) k) (qw_w P k k (i % 6)) → xQ' i = nI (max (qw_w P k (i / 6) (i % 6)) z) → (∀ j, j ≠ i → xQ' j = xQ j) → wX_widen_59 post J51 (nI k) (nI n) xC xK xB m (nI (i + 1)) xW xN xL xP xQ' xE xT xS xF := by
        intro z xQ' hz h1 h3
        refine ih (i + 1) xQ' (by omega) (by omega) fun j hj => ?_
        by_cases hji : j = i
        · subst hji
          rw [h1, if_pos (by omega), qw_s, hz]
        · rw [h3 j hji, hQ j hj]
          by_cases hlt : j < i
          · rw [if_pos hlt, if_pos (by omega)]
          · rw [if_neg hlt, if_neg (by omega)]
      refine pk_le (qw_w P k k (i % 6)) (qw_w P k (i / 6) k) (fun h1 => ?_) (fun h1 => ?_)
      · exact qx_w108 h b2 b3 e3 (fun xQ' => fin _ xQ' (by omega))
      · exact qx_w108 h b1 b3 e3 (fun xQ' => fin _ xQ' (by omega))
theorem qx_w51 {post : SX → Prop} (h45 : ∀ a b, P a b ≤ 45)
    (hp : ∀ xQ, (∀ j, j < 36 → xQ j = nI (qw_w P 6 (j / 6) (j % 6))) → post ((nI n), xC, xK, xB, xW, xN, xL, xP, xQ, xE, xT, xS, xF)) :
    ∀ m k xQ, k ≤ 6 → 6 < m + k → (∀ j, j < 36 → xQ j = nI (qw_w P k (j / 6) (j % 6))) → wX_widen_51 post (nI n) xC xK xB m (nI k) xW xN xL xP xQ xE xT xS xF := by
  intro m
  induction m with
  | zero => intro k xQ h1 h2; omega
  | succ m ih =>
    intro k xQ hk hm hQ
    rw [wX_widen_51]
    refine pk_le 6 k (fun h => ?_) (fun h => ⟨37, ?_⟩)
    · have e : k = 6 := by omega
      subst e
      exact hp xQ hQ
    · exact qx_w59 h45 h (fun xQ' h' => ih (k + 1) xQ' (by omega) (by omega) h') 37 0 xQ (by omega) (by omega) (fun j hj => by rw [if_neg (by omega)]; exact hQ j hj)
theorem qx_w2 {post : SX → Prop} (h45 : ∀ a b, P a b ≤ 45) (hP : ∀ i, i < 36 → xP i = nI (P (i / 6) (i % 6)))
    (hp : ∀ xQ, (∀ j, j < 36 → xQ j = nI (qw_w P 6 (j / 6) (j % 6))) → post ((nI n), xC, xK, xB, xW, xN, xL, xP, xQ, xE, xT, xS, xF)) :
    ∀ m i xQ, i ≤ 36 → 36 < m + i → (∀ j, j < i → xQ j = nI (qw_w P 0 (j / 6) (j % 6))) → wX_widen_2 post (nI n) xC xK xB m (nI i) xW xN xL xP xQ xE xT xS xF := by
  intro m
  induction m with
  | zero => intro i xQ h1 h2; omega
  | succ m ih =>
    intro i xQ hi hm hQ
    rw [wX_widen_2]
    refine pk_le 36 i (fun h => ⟨7, ?_⟩) (fun h => ?_)
    · exact qx_w51 h45 hp 7 0 xQ (by omega) (by omega) (fun j hj => hQ j (by omega))
    · rw [qa_m6 (by omega), qa_d6 (by omega), nI_clamp (n := i) (by omega)]
      have hv : vp_in (nI i) 36 := vp_in_nI h (by decide)
      refine ⟨qa_n6, nm_e ⟨qa_n6, nm_e (qx_beats h45 hP (by omega) (by omega) (fun h1 => ?_) (fun h1 => ?_))⟩⟩
      · refine br_t rfl ⟨hv, nm_e (nm_r (nI_1 i) (ih (i + 1) _ (by omega) (by omega) fun j hj => ?_))⟩
        by_cases hji : j = i
        · subst hji; rw [pk_us, qw_0, if_neg (by omega)]; rfl
        · rw [pk_un hji]; exact hQ j (by omega)
      · refine br_f qa_n1 ⟨hv, hv, nm_e (nm_r (nI_1 i) (ih (i + 1) _ (by omega) (by omega) fun j hj => ?_))⟩
        by_cases hji : j = i
        · subst hji; rw [pk_us, qw_0, if_pos h1, hP j h]
        · rw [pk_un hji]; exact hQ j (by omega)
theorem qx_widen {post : SX → Prop} (h45 : ∀ a b, P a b ≤ 45) (hP : ∀ i, i < 36 → xP i = nI (P (i / 6) (i % 6)))
    (hp : ∀ xQ, (∀ j, j < 36 → xQ j = nI (qw_w P 6 (j / 6) (j % 6))) → post ((nI n), xC, xK, xB, xW, xN, xL, xP, xQ, xE, xT, xS, xF)) : wpX_widen post ((nI n), xC, xK, xB, xW, xN, xL, xP, xQ, xE, xT, xS, xF) :=
  ⟨37, qx_w2 h45 hP hp 37 0 xQ (by omega) (by omega) (fun j hj => absurd hj (by omega))⟩
end QX
end
section
/-! X's search: its helpers -/
def qn_v : Option Nat → Int32
  | none => -1
  | some e => nI e
def qe_kd (n : Nat) (al : Nat → Nat → Bool) (f u e : Nat) : List (List Nat) := if qe_c al u e = true then (qe_en n al f (u ||| 2 ^ e)).map (fun r => e :: r) else []
def qe_kr (n : Nat) (al : Nat → Nat → Bool) (f u e : Nat) : Nat := if qe_c al u e = true then 1 + qe_rd n al f (u ||| 2 ^ e) else 0
theorem qe_enk (n : Nat) (al : Nat → Nat → Bool) (f u : Nat) : qe_en n al (f + 1) u = qe_up n (qe_kd n al f u) n := rfl
theorem qe_rdk (n : Nat) (al : Nat → Nat → Bool) (f u : Nat) : qe_rd n al (f + 1) u = qe_rk n (qe_kr n al f u) n := rfl
theorem qe_kd0 {n : Nat} {al : Nat → Nat → Bool} {f u : Nat} : ∀ e, qe_c al u e = false → qe_kd n al f u e = [] := by
  intro e h
  unfold qe_kd
  rw [h]; rfl
theorem qe_kd1 {n : Nat} {al : Nat → Nat → Bool} {f u e : Nat} (h : qe_c al u e = true) : qe_kd n al f u e = (qe_en n al f (u ||| 2 ^ e)).map (fun r => e :: r) := if_pos h
theorem qe_kr1 {n : Nat} {al : Nat → Nat → Bool} {f u e : Nat} (h : qe_c al u e = true) : qe_kr n al f u e = 1 + qe_rd n al f (u ||| 2 ^ e) := if_pos h
theorem qe_stl (P : Nat → Nat → Nat) (c0 : Nat) (p : List Nat) (l : List (List Nat)) : ∀ s, (l.foldl (qe_st P c0 p) s).1 ≤ s.1 := by
  induction l with
  | nil => intro s; exact Nat.le_refl _
  | cons r l ih =>
    intro s
    rw [List.foldl_cons]
    refine Nat.le_trans (ih _) ?_
    unfold qe_st
    split
    · exact Nat.le_of_lt (by assumption)
    · exact Nat.le_refl _
theorem qx_ga {p : List Nat} {e i : Nat} (h : i < p.length) : (p ++ [e]).getD i 0 = p.getD i 0 := by
  rw [List.getD_eq_getElem?_getD, List.getD_eq_getElem?_getD, List.getElem?_append_left h]
theorem qx_gb {p : List Nat} {e i : Nat} (h : i = p.length) : (p ++ [e]).getD i 0 = e := by
  subst h
  rw [List.getD_eq_getElem?_getD, List.getElem?_append_right (Nat.le_refl _), Nat.sub_self]; rfl
section QX
variable {n c : Nat} {w : Nat → Nat} {pl : Nat → Nat → Nat} {xC xK xB : Int32} {xW xN xL xP xQ xE xT xS xF : Nat → Int32} {P : Nat → Nat → Nat}
theorem qx_nf36 {post : Int32 → Prop} {J3 : Int32 → Prop} {x3 x4 z0 : Int32} {u e : Nat} (hu : u < 64) (he : e < 6) (h1 : u.testBit e = false → z0 = 0 → post (nI e)) (h2 : (u.testBit e = true ∨ ¬ z0 = 0) → J3 (nI (e + 1))) : wX_nextFree_36 post J3 (nI u) x3 x4 (nI e) z0 (nI n) xC xK xB xW xN xL xP xQ xE xT xS xF := by
  unfold wX_nextFree_36
  exact qa_bif hu he (fun hb => br_c (fun z => h1 hb z) (fun z => nm_r (nI_1 e) (h2 (Or.inr z)))) (fun hb => nm_r (nI_1 e) (h2 (Or.inl hb)))
theorem qx_nm {e : Nat} (h : e < 2 ^ 31) : ¬ nI e = -1 := by
  intro z
  have := nI_pos (n := e) h
  rw [z] at this
  exact this qa_ml
theorem qx_nft {post : Int32 → Prop} {u : Nat} (h2 : 2 ≤ n) (hn : n ≤ 6) (hu : u < 64) : ∀ m j, j ≤ n → j < m → post (qn_v (qe_nf n (qe_c qe_tt u) j)) → wX_nextFree_3 post (nI u) (-1) (-1) (nI n) xC xK xB xW xN xL xP xQ xE xT xS xF m (nI (n - j)) := by
  intro m
  induction m with
  | zero => intro j h1 h2; omega
  | succ m ih =>
    intro j hj hm hp
    rw [wX_nextFree_3]
    refine pk_le n (n - j) (fun h => ?_) (fun h => br_f (qx_nm (by omega)) ?_)
    · have e : j = 0 := by omega
      subst e
      exact hp
    · obtain ⟨i, rfl⟩ : ∃ i, j = i + 1 := ⟨j - 1, by omega⟩
      rw [qe_nfs] at hp
      unfold wX_nextFree_35
      refine qx_nf36 hu (by omega) (fun hb _ => ?_) (fun hb => ?_)
      · rw [show qe_c qe_tt u (n - (i + 1)) = true by unfold qe_c qe_tt; rw [hb]; rfl, if_pos rfl] at hp
        exact hp
      · have hb' : u.testBit (n - (i + 1)) = true := hb.resolve_right (fun z => z rfl)
        rw [show qe_c qe_tt u (n - (i + 1)) = false by unfold qe_c qe_tt; rw [hb']; rfl, if_neg (by decide)] at hp
        rw [show n - (i + 1) + 1 = n - i by omega]
        exact ih i (by omega) (by omega) hp
theorem qx_nfa {post : Int32 → Prop} {u a b : Nat} (h2 : 2 ≤ n) (hn : n ≤ 6) (hu : u < 64) (ha : a < n) (hb : b < n) : ∀ m j, j ≤ n → j < m → post (qn_v (qe_nf n (qe_c (qe_ab a b) u) j)) → wX_nextFree_3 post (nI u) (nI a) (nI b) (nI n) xC xK xB xW xN xL xP xQ xE xT xS xF m (nI (n - j)) := by
  intro m
  induction m with
  | zero => intro j h1 h2; omega
  | succ m ih =>
    intro j hj hm hp
    rw [wX_nextFree_3]
    refine pk_le n (n - j) (fun h => ?_) (fun h => ?_)
    · have e : j = 0 := by omega
      subst e
      exact hp
    · obtain ⟨i, rfl⟩ : ∃ i, j = i + 1 := ⟨j - 1, by omega⟩
      rw [qe_nfs] at hp
      generalize he : n - (i + 1) = e at hp h ⊢
      have hgo : qe_c (qe_ab a b) u e = false → wX_nextFree_3 post (nI u) (nI a) (nI b) (nI n) xC xK xB xW xN xL xP xQ xE xT xS xF m (nI (e + 1)) := by
        intro hc
        rw [hc, if_neg (by decide)] at hp
        rw [show e + 1 = n - i by omega]
        exact ih i (by omega) (by omega) hp
      have hyes : qe_c (qe_ab a b) u e = true → post (nI e) := by
        intro hc
        rw [hc, if_pos rfl] at hp
        exact hp
      have c35 : qe_ab a b u e = true → wX_nextFree_35 post (wX_nextFree_3 post (nI u) (nI a) (nI b) (nI n) xC xK xB xW xN xL xP xQ xE xT xS xF m) (nI u) (nI a) (nI b) (nI e) (nI n) xC xK xB xW xN xL xP xQ xE xT xS xF := by
        intro hab
        unfold wX_nextFree_35
        refine qx_nf36 hu (by omega) (fun hbb _ => hyes ?_) (fun hbb => hgo ?_)
        · unfold qe_c; rw [hbb, hab]; rfl
        · have hb' : u.testBit e = true := hbb.resolve_right (fun z => z rfl)
          unfold qe_c; rw [hb']; rfl
      have c36 : qe_ab a b u e = false → wX_nextFree_36 post (wX_nextFree_3 post (nI u) (nI a) (nI b) (nI n) xC xK xB xW xN xL xP xQ xE xT xS xF m) (nI u) (nI a) (nI b) (nI e) 1 (nI n) xC xK xB xW xN xL xP xQ xE xT xS xF := by
        intro hab
        refine qx_nf36 hu (by omega) (fun _ z => absurd z qa_n1) (fun hbb => hgo ?_)
        unfold qe_c; rw [hab, Bool.and_false]
      refine pk_eq e b (fun heb => br_f (nI_pos (by omega)) (qa_bif hu (by omega) (fun hua => c36 ?_) (fun hua => c35 ?_))) (fun heb => c35 ?_)
      · subst heb; unfold qe_ab; rw [hua]; simp
      · unfold qe_ab; rw [hua]; simp
      · unfold qe_ab; simp [heb]
/-! costs -/
theorem qx_cost {post : Int32 → Prop} {u e : Nat} (hn : n ≤ 6) (hP : ∀ i, i < 36 → xP i = nI (P (i / 6) (i % 6))) (hu : u < 64) (he : e < n) (hp : post (nI (qe_cs n P u e))) : wpX_costOfNext post ((nI n), xC, xK, xB, xW, xN, xL, xP, xQ, xE, xT, xS, xF) (nI e) (nI u) := by
  have main : ∀ m i, i ≤ n → n < m + i → wX_costOfNext_5 post (nI e) (nI u) (nI n) xC xK xB xW xN xL xP xQ xE xT xS xF m (nI (qs_sm (fun b => if (u ||| 2 ^ e).testBit b = true then 0 else P b e) i)) (nI i) := by
    intro m
    induction m with
    | zero => intro i h1 h2; omega
    | succ m ih =>
      intro i hi hm
      rw [wX_costOfNext_5]
      refine pk_le n i (fun h => ?_) (fun h => ?_)
      · have e' : i = n := by omega
        subst e'
        exact hp
      · have hz := ih (i + 1) (by omega) (by omega)
        rw [qs_s] at hz
        refine pk_eq i e (fun h1 => nm_r (nI_1 i) ?_) (fun h1 => qa_bif hu (by omega) (fun hb => ?_) (fun hb => nm_r (nI_1 i) ?_))
        · subst h1
          rw [qa_obs hu (by omega), if_pos rfl, Nat.add_zero] at hz
          exact hz
        · rw [qa_obn hu (by omega) (by omega) (fun z => h1 z.symm), hb, if_neg (by decide)] at hz
          rw [qa_ix, nI_clamp (n := i * 6 + e) (by omega), qx_pr hP (by omega) (by omega)]
          exact ⟨vp_in_nI (by omega) (by decide), nm_r (nI_add _ _) (nm_r (nI_1 i) hz)⟩
        · rw [qa_obn hu (by omega) (by omega) (fun z => h1 z.symm), hb, if_pos rfl, Nat.add_zero] at hz
          exact hz
  exact ⟨n + 1, main (n + 1) 0 (by omega) (by omega)⟩
def qx_h (P : Nat → Nat → Nat) (u a b : Nat) : Nat := if a < b ∧ u.testBit a = false ∧ u.testBit b = false then min (P a b) (P b a) else 0
theorem qx_lr17 {post : Int32 → Prop} {J4 : Int32 → Int32 → Prop} {u a s : Nat} (hn : n ≤ 6) (h45 : ∀ a b, P a b ≤ 45) (hP : ∀ i, i < 36 → xP i = nI (P (i / 6) (i % 6))) (hu : u < 64) (ha : a < n) (hJ : J4 (nI (s + qs_sm (qx_h P u a) n)) (nI (a + 1))) :
    ∀ m b, a < b → b ≤ n → n < m + b → wX_leastRest_17 post J4 (nI u) (nI a) (nI n) xC xK xB xW xN xL xP xQ xE xT xS xF m (nI (s + qs_sm (qx_h P u a) b)) (nI b) := by
  intro m
  induction m with
  | zero => intro b h1 h2; omega
  | succ m ih =>
    intro b hab hb hm
    rw [wX_leastRest_17]
    refine pk_le n b (fun h => nm_r (nI_1 a) ?_) (fun h => ?_)
    · have e : b = n := by omega
      subst e
      exact hJ
    · have hz := ih (b + 1) (by omega) (by omega) (by omega)
      rw [qs_s, ← Nat.add_assoc] at hz
      refine qa_bif hu (by omega) (fun h1 => qa_bif hu (by omega) (fun h2 => ?_) (fun h2 => nm_r (nI_1 b) ?_)) (fun h1 => nm_r (nI_1 b) ?_)
      · rw [show qx_h P u a b = min (P a b) (P b a) from if_pos ⟨hab, h1, h2⟩] at hz
        have b1 := h45 a b
        have b2 := h45 b a
        rw [qa_ix, qa_ix, nI_clamp (n := a * 6 + b) (by omega), nI_clamp (n := b * 6 + a) (by omega), qx_pr hP (show a < 6 by omega) (show b < 6 by omega), qx_pr hP (show b < 6 by omega) (show a < 6 by omega)]
        refine ⟨vp_in_nI (by omega) (by decide), nm_e ⟨vp_in_nI (by omega) (by decide), nm_e (pk_le (P b a) (P a b) (fun h3 => nm_r (nI_add _ _) (nm_r (nI_1 b) ?_)) (fun h3 => nm_r (nI_add _ _) (nm_r (nI_1 b) ?_)))⟩⟩
        · rw [Nat.min_eq_right h3] at hz; exact hz
        · rw [Nat.min_eq_left (Nat.le_of_lt h3)] at hz; exact hz
      · rw [show qx_h P u a b = 0 from if_neg (fun z => by rw [z.2.2] at h2; cases h2), Nat.add_zero] at hz
        exact hz
      · rw [show qx_h P u a b = 0 from if_neg (fun z => by rw [z.2.1] at h1; cases h1), Nat.add_zero] at hz
        exact hz
theorem qx_lrest {post : Int32 → Prop} {u : Nat} (hn : n ≤ 6) (h45 : ∀ a b, P a b ≤ 45) (hP : ∀ i, i < 36 → xP i = nI (P (i / 6) (i % 6))) (hu : u < 64) (hp : post (nI (qe_lr n P u))) : wpX_leastRest post ((nI n), xC, xK, xB, xW, xN, xL, xP, xQ, xE, xT, xS, xF) (nI u) := by
  have main : ∀ m a, a ≤ n → n < m + a → wX_leastRest_4 post (nI u) (nI n) xC xK xB xW xN xL xP xQ xE xT xS xF m (nI (qs_sm (fun a => qs_sm (qx_h P u a) n) a)) (nI a) := by
    intro m
    induction m with
    | zero => intro i h1 h2; omega
    | succ m ih =>
      intro a ha hm
      rw [wX_leastRest_4]
      refine pk_le n a (fun h => ?_) (fun h => nm_r (nI_1 a) ⟨n + 1, ?_⟩)
      · have e : a = n := by omega
        subst e
        exact hp
      · have h0 : qs_sm (qx_h P u a) (a + 1) = 0 := qs_z fun i hi => if_neg (fun z => by omega)
        have := qx_lr17 (post := post) (J4 := wX_leastRest_4 post (nI u) (nI n) xC xK xB xW xN xL xP xQ xE xT xS xF m) (s := qs_sm (fun a => qs_sm (qx_h P u a) n) a) (xC := xC) (xK := xK) (xB := xB) (xW := xW) (xN := xN) (xL := xL) (xQ := xQ) (xE := xE) (xT := xT) (xS := xS) (xF := xF) hn h45 hP hu h (ih (a + 1) (by omega) (by omega)) (n + 1) (a + 1) (by omega) (by omega) (by omega)
        rw [h0, Nat.add_zero] at this
        exact this
  exact ⟨n + 1, main (n + 1) 0 (by omega) (by omega)⟩
theorem qx_keep {post : SX → Prop} (hn : n ≤ 6) (hT : ∀ i, i < n → ∃ d, d < 6 ∧ xT i = nI d) (hp : ∀ xF, (∀ i, i < n → xF i = xT i) → post ((nI n), xC, xK, xB, xW, xN, xL, xP, xQ, xE, xT, xS, xF)) : wpX_keep post ((nI n), xC, xK, xB, xW, xN, xL, xP, xQ, xE, xT, xS, xF) := by
  have main : ∀ m i xF, i ≤ n → n < m + i → (∀ j, j < i → xF j = xT j) → wX_keep_2 post (nI n) xC xK xB m (nI i) xW xN xL xP xQ xE xT xS xF := by
    intro m
    induction m with
    | zero => intro i _ h1 h2; omega
    | succ m ih =>
      intro i xF hi hm hF
      rw [wX_keep_2]
      refine pk_le n i (fun h => hp xF fun j hj => hF j (by omega)) (fun h => ?_)
      obtain ⟨d, hd, e⟩ := hT i h
      rw [nI_clamp (n := i) (by omega)]
      refine ⟨vp_in_nI (by omega) (by decide), vp_in_nI (by omega) (by decide), nm_e (nm_r (nI_1 i) (ih (i + 1) _ (by omega) (by omega) fun j hj => ?_))⟩
      by_cases hji : j = i
      · subst hji; rw [pk_us, e]; exact qa_nb (by omega)
      · rw [pk_un hji]; exact hF j (by omega)
  exact ⟨n + 1, main (n + 1) 0 xF (by omega) (by omega) (fun j hj => absurd hj (by omega))⟩
end QX
end
section
/-! X's search: node by node -/
section QX
variable {n c : Nat} {w : Nat → Nat} {pl : Nat → Nat → Nat} {xC xK xB : Int32} {xW xN xL xP xQ xE xT xS xF : Nat → Int32} {P : Nat → Nat → Nat}
def qx_O (n : Nat) (q : List Nat) (xF : Nat → Int32) : Prop := q = [] ∨ ∀ i, i < n → xF i = nI (q.getD i 0)
def qx_NF (n : Nat) (xC xK xB : Int32) (xW xN xL xP xQ xE : Nat → Int32) (x1 x2 : Int32) (al : Nat → Nat → Bool) : Prop :=
  ∀ (post : Int32 → Prop) (xT xS xF : Nat → Int32) (u j : Nat), u < 64 → j ≤ n → post (qn_v (qe_nf n (qe_c al u) j)) → wpX_nextFree post ((nI n), xC, xK, xB, xW, xN, xL, xP, xQ, xE, xT, xS, xF) (nI (n - j)) (nI u) x1 x2
/-- what is asked of the search when it leaves the node at level l -/
def qx_L (post : Int32 → SX → Prop) (x1 x2 : Int32) (n : Nat) (xC xK xB : Int32) (xW xN xL xP xQ xE : Nat → Int32) (l u R : Nat) (s : Nat × List Nat) (xT xS : Nat → Int32) : Prop :=
  ∀ (xT' xS' xF' : Nat → Int32) (r g : Nat), (∀ i, i < l → xT' i = xT i) → (∀ i, i < l → xS' i = xS i) → qx_O n s.2 xF' → r ≤ R → g + r = 16385 → wX_search_26 post x1 x2 g (nI s.1) (nI l + (-1)) (nI u) (nI r) (nI n) xC xK xB xW xN xL xP xQ xE xT' xS' xF'
def qx_N (post : Int32 → SX → Prop) (x1 x2 : Int32) (n : Nat) (xC xK xB : Int32) (xW xN xL xP xQ xE : Nat → Int32) (al : Nat → Nat → Bool) (P : Nat → Nat → Nat) (f j : Nat) : Prop :=
  ∀ (u ux l c0 r g : Nat) (p : List Nat) (s : Nat × List Nat) (xT xS xF : Nat → Int32),
    l + (f + 1) = n → u < 64 → qm_ms n u (fun _ => 1) = f + 1 → p.length = l → (∀ i, p.getD i 0 < 6) → (∀ i, i < l → xT i = nI (p.getD i 0)) → xS l = nI c0 → c0 ≤ 1000 * l → s.1 ≤ 1000000 →
    ((xT l = -1 ∧ j = n ∧ ux = u) ∨ (∃ e, e < n ∧ u.testBit e = false ∧ xT l = nI e ∧ ux = u ||| 2 ^ e ∧ j = n - 1 - e)) →
    r + qe_rk n (qe_kr n al f u) j ≤ 16000 → g + r = 16385 → qx_O n s.2 xF →
    qx_L post x1 x2 n xC xK xB xW xN xL xP xQ xE l u (r + qe_rk n (qe_kr n al f u) j) ((qe_up n (qe_kd n al f u) j).foldl (qe_st P c0 p) s) xT xS →
    wX_search_26 post x1 x2 g (nI s.1) (nI l) (nI ux) (nI r) (nI n) xC xK xB xW xN xL xP xQ xE xT xS xF
theorem qx_node {post : Int32 → SX → Prop} {x1 x2 : Int32} {al : Nat → Nat → Bool} (h2 : 2 ≤ n) (hn : n ≤ 6) (h45 : ∀ a b, P a b ≤ 45) (hP : ∀ i, i < 36 → xP i = nI (P (i / 6) (i % 6)))
    (hNF : qx_NF n xC xK xB xW xN xL xP xQ xE x1 x2 al) :
    ∀ f j, j ≤ n → qx_N post x1 x2 n xC xK xB xW xN xL xP xQ xE al P f j := by
  intro f
  induction f using Nat.strongRecOn with
  | ind f ihf =>
  intro j
  induction j using Nat.strongRecOn with
  | ind j ihj =>
  intro hj u ux l c0 r g p s xT xS xF hl hu hm hp hp6 hT hS hc0 hs hd hr hg hO hK
  have hrk := qe_rk1 n (qe_kr n al f u) j
  obtain ⟨g, rfl⟩ : ∃ g', g = g' + 1 := ⟨g - 1, by omega⟩
  have hv : vp_in (nI l) 8 := vp_in_nI (by omega) (by decide)
  have K65 : xT l + 1 = nI (n - j) → wX_search_65 post (wX_search_26 post x1 x2 g) x1 x2 (nI s.1) (nI l) (nI u) (nI r) (nI n) xC xK xB xW xN xL xP xQ xE xT xS xF := by
    intro hT1
    unfold wX_search_65
    rw [nI_clamp (n := l) (by omega), hT1]
    refine ⟨hv, hNF _ xT xS xF u j hu hj ?_⟩
    cases hnf : qe_nf n (qe_c al u) j with
    | none =>
      rw [qe_nf0 qe_kd0 hnf] at hK
      refine ⟨hv, nm_e (br_f qa_mg (nm_e (nm_r (nI_1 r) ?_)))⟩
      exact hK _ xS xF (r + 1) g (fun i hi => pk_un (by omega)) (fun _ _ => rfl) hO (by omega) (by omega)
    | some e =>
      obtain ⟨he, hc, hje⟩ := qe_nf1 hj hnf
      have hb := qe_c1 hc
      have hu' : u ||| 2 ^ e < 64 := qa_ol hu (by omega)
      have hm' : qm_ms n (u ||| 2 ^ e) (fun _ => 1) = f := by
        have := qm_split hn hu he hb (fun _ => 1)
        omega
      have hup := qe_nf2 (h := qe_kd n al f u) qe_kd0 hj hnf
      have hrk2 := qe_rk2 (h := qe_kr n al f u) hj hnf
      rw [qe_kr1 hc] at hrk2
      have hfold : (qe_up n (qe_kd n al f u) j).foldl (qe_st P c0 p) s = (qe_up n (qe_kd n al f u) (n - 1 - e)).foldl (qe_st P c0 p) ((qe_en n al f (u ||| 2 ^ e)).foldl (qe_st P (c0 + qe_cs n P u e) (p ++ [e])) s) := by
        rw [hup, List.foldl_append, qe_kd1 hc, qe_ch hn hu he hm']
      rw [hfold] at hK
      have hcs := qe_csb hn h45 u e
      have hlr := qe_lrb hn h45 (u ||| 2 ^ e)
      have hby : vp_nar .byte (nI e).toInt8.toInt32 = nI e := by rw [qa_by (by omega), qa_nb (by omega)]
      have hTe : ∀ i, i < l + 1 → upd xT l (nI e) i = nI ((p ++ [e]).getD i 0) := by
        intro i hi
        by_cases h : i = l
        · subst h; rw [pk_us, qx_gb hp.symm]
        · rw [pk_un h, hT i (by omega), qx_ga (by omega)]
      have hp6' : ∀ i, (p ++ [e]).getD i 0 < 6 := by
        intro i
        rcases Nat.lt_trichotomy i p.length with h | h | h
        · rw [qx_ga h]; exact hp6 i
        · rw [qx_gb h]; omega
        · rw [List.getD_eq_getElem?_getD, List.getElem?_eq_none (by rw [List.length_append]; exact h)]; exact (by decide : (0 : Nat) < 6)
      -- go on behind e
      have next : ∀ (s1 : Nat × List Nat) (r1 g1 : Nat) (xT' xS' xF' : Nat → Int32), s1 = (qe_en n al f (u ||| 2 ^ e)).foldl (qe_st P (c0 + qe_cs n P u e) (p ++ [e])) s → (∀ i, i < l + 1 → xT' i = upd xT l (nI e) i) → (∀ i, i < l + 1 → xS' i = xS i) → qx_O n s1.2 xF' → r1 ≤ r + (1 + qe_rd n al f (u ||| 2 ^ e)) → g1 + r1 = 16385 → wX_search_26 post x1 x2 g1 (nI s1.1) (nI l) (nI (u ||| 2 ^ e)) (nI r1) (nI n) xC xK xB xW xN xL xP xQ xE xT' xS' xF' := by
        intro s1 r1 g1 xT' xS' xF' es hT' hS' hO' hr1 hg1
        refine ihj (n - 1 - e) (by omega) (by omega) u (u ||| 2 ^ e) l c0 r1 g1 p s1 xT' xS' xF' hl hu hm hp hp6 (fun i hi => ?_) ?_ hc0 ?_ (Or.inr ⟨e, he, hb, ?_, rfl, rfl⟩) (by omega) hg1 hO' ?_
        · rw [hT' i (by omega), pk_un (by omega), hT i hi]
        · rw [hS' l (by omega), hS]
        · rw [es]; exact Nat.le_trans (qe_stl _ _ _ _ _) hs
        · rw [hT' l (by omega), pk_us]
        · intro xT2 xS2 xF2 r2 g2 k1 k2 k3 k4 k5
          rw [es] at k3 ⊢
          refine hK xT2 xS2 xF2 r2 g2 (fun i hi => ?_) (fun i hi => ?_) k3 (by omega) k5
          · rw [k1 i hi, hT' i (by omega), pk_un (by omega)]
          · rw [k2 i hi, hS' i (by omega)]
      refine ⟨hv, nm_r (congrArg (upd xT l) hby) (br_t (nI_pos' (by omega)) ⟨hv, qx_cost hn hP hu he ?_⟩)⟩
      refine nm_r (e' := nI (c0 + qe_cs n P u e)) (by rw [hS, nI_add]) (nm_r (qa_or hu (by omega)) (qx_lrest hn h45 hP hu' ?_))
      refine pk_le s.1 (c0 + qe_cs n P u e + qe_lr n P (u ||| 2 ^ e)) (fun h1 => ?_) (fun h1 => ?_) rfl (nI_add _ _) (by omega) (by omega)
      · unfold wX_search_150
        refine br_t rfl ?_
        unfold wX_search_178
        refine br_t rfl (nm_r (nI_1 r) ?_)
        exact next s (r + 1) g (upd xT l (nI e)) xS xF (qe_pr hn hu' hm' h1).symm (fun _ _ => rfl) (fun _ _ => rfl) hO (by omega) (by omega)
      · unfold wX_search_150
        refine br_f qa_n1 (pk_eq l (n - 1) (fun h3 => ?_) (fun h3 => ?_) rfl (pk_sub (b := 1) (by omega)) (by omega) (by omega))
        · have f0 : f = 0 := by omega
          subst f0
          refine qx_keep hn (fun i hi => ⟨_, hp6' i, hTe i (by omega)⟩) (fun xF' hF' => nm_r (nI_1 r) ?_)
          refine next (c0 + qe_cs n P u e, p ++ [e]) (r + 1) g (upd xT l (nI e)) xS xF' ?_ (fun _ _ => rfl) (fun _ _ => rfl) (Or.inr fun i hi => ?_) (by omega) (by omega)
          · show _ = qe_st P (c0 + qe_cs n P u e) (p ++ [e]) s []
            unfold qe_st
            rw [show qe_ds P [] = 0 from rfl, Nat.add_zero, if_pos (by omega), List.append_nil]
          · rw [hF' i hi]; exact hTe i (by omega)
        · obtain ⟨f', rfl⟩ : ∃ f', f = f' + 1 := ⟨f - 1, by omega⟩
          have hv1 : vp_in (nI (l + 1)) 8 := vp_in_nI (by omega) (by decide)
          unfold wX_search_178
          refine br_f qa_n1 (nm_r (nI_1 l) ?_)
          rw [nI_clamp (n := l + 1) (by omega), qa_nm]
          refine ⟨hv1, nm_e ⟨hv1, nm_e (nm_r (nI_1 r) ?_)⟩⟩
          rw [qe_rdk] at hrk2
          refine ihf f' (by omega) n (Nat.le_refl _) (u ||| 2 ^ e) (u ||| 2 ^ e) (l + 1) (c0 + qe_cs n P u e) (r + 1) g (p ++ [e]) s _ _ xF (by omega) hu' hm' (by rw [List.length_append, hp]; rfl) hp6' (fun i hi => ?_) pk_us (by omega) hs (Or.inl ⟨pk_us, rfl, rfl⟩) (by omega) (by omega) hO ?_
          · rw [pk_un (by omega)]; exact hTe i hi
          · intro xT2 xS2 xF2 r2 g2 k1 k2 k3 k4 k5
            rw [pk_m1]
            rw [← qe_enk] at k3 ⊢
            refine next _ r2 g2 xT2 xS2 xF2 rfl (fun i hi => ?_) (fun i hi => ?_) k3 (by rw [qe_rdk]; omega) k5
            · rw [k1 i hi, pk_un (by omega)]
            · rw [k2 i hi, pk_un (by omega)]
  rw [wX_search_26]
  refine pk_le 16384 r (fun h => absurd h (by omega)) (fun h => br_f (nI_pos (by omega)) ⟨hv, ?_⟩)
  rw [nI_clamp (n := l) (by omega)]
  rcases hd with ⟨eT, ej, eu⟩ | ⟨e, he, hb, eT, eu, ej⟩
  · subst ej eu
    have := K65 (by rw [eT, Nat.sub_self]; rfl)
    rw [eT]
    exact br_t qa_ml this
  · subst eu
    have := K65 (by rw [eT, nI_1, ej]; exact congrArg nI (by omega))
    rw [eT]
    exact br_f (nI_pos (by omega)) ⟨hv, nm_r (by rw [qa_cl (qa_ol hu (by omega)) (by omega), qa_oc hu (by omega) hb]) this⟩
theorem qx_search {post : Int32 → SX → Prop} {x1 x2 : Int32} {al : Nat → Nat → Bool} (h2 : 2 ≤ n) (hn : n ≤ 6) (h45 : ∀ a b, P a b ≤ 45) (hP : ∀ i, i < 36 → xP i = nI (P (i / 6) (i % 6)))
    (hNF : qx_NF n xC xK xB xW xN xL xP xQ xE x1 x2 al) (hp : ∀ xT xS xF, qx_O n (qe_R P n al).2 xF → post (nI (qe_R P n al).1) ((nI n), xC, xK, xB, xW, xN, xL, xP, xQ, xE, xT, xS, xF)) : wpX_search post ((nI n), xC, xK, xB, xW, xN, xL, xP, xQ, xE, xT, xS, xF) x1 x2 := by
  refine nm_r (congrArg (upd xT 0) qa_nm) (nm_e ⟨16385, ?_⟩)
  obtain ⟨f, rfl⟩ : ∃ f, n = f + 1 := ⟨n - 1, by omega⟩
  have hrt := qe_rt hn al
  rw [qe_rdk] at hrt
  refine qx_node h2 hn h45 hP hNF f (f + 1) (Nat.le_refl _) 0 0 0 0 0 16385 [] (1000000, []) _ _ xF (by omega) (by omega) (qm_0 _) rfl (fun i => (by decide : (0 : Nat) < 6)) (fun i hi => absurd hi (by omega)) pk_us (by omega) (Nat.le_refl _) (Or.inl ⟨pk_us, rfl, rfl⟩) (by omega) (by omega) (Or.inl rfl) ?_
  intro xT' xS' xF' r g _ _ k3 k4 k5
  rw [← qe_enk] at k3 ⊢
  obtain ⟨g, rfl⟩ : ∃ g', g = g' + 1 := ⟨g - 1, by omega⟩
  rw [wX_search_26]
  exact pk_le 16384 r (fun h => absurd h (by omega)) (fun h => br_t (by decide) (hp xT' xS' xF' k3))
theorem qx_NFt (h2 : 2 ≤ n) (hn : n ≤ 6) : qx_NF n xC xK xB xW xN xL xP xQ xE (-1) (-1) qe_tt :=
  fun post _ _ _ u j hu hj hp => ⟨j + 1, qx_nft h2 hn hu (j + 1) j hj (by omega) hp⟩
theorem qx_NFa {a b : Nat} (h2 : 2 ≤ n) (hn : n ≤ 6) (ha : a < n) (hb : b < n) : qx_NF n xC xK xB xW xN xL xP xQ xE (nI a) (nI b) (qe_ab a b) :=
  fun post _ _ _ u j hu hj hp => ⟨j + 1, qx_nfa h2 hn hu ha hb (j + 1) j hj (by omega) hp⟩
/-! find -/
theorem qe_Rne {al : Nat → Nat → Bool} (hn : n ≤ 6) (h45 : ∀ a b, P a b ≤ 45) (h0 : qe_en n al n 0 ≠ []) : (qe_R P n al).1 = qe_mn P 100000 (qe_en n al n 0) ∧ (qe_R P n al).2 = qe_ff P (qe_R P n al).1 (qe_en n al n 0) ∧ (qe_R P n al).1 ≤ 1620 ∧ (qe_R P n al).2 ∈ qe_en n al n 0 := by
  have hb : ∀ r, r ∈ qe_en n al n 0 → qe_ds P r ≤ 1620 := by
    intro r hr
    obtain ⟨-, -, hl⟩ := qe_ok hn n 0 r (by omega) hr
    have := qe_db h45 r (by omega)
    omega
  have e1 : (qe_R P n al).1 = qe_mn P 1000000 (qe_en n al n 0) := qe_R1 P _ _
  have e2 : (qe_R P n al).1 = qe_mn P 100000 (qe_en n al n 0) := by
    rw [e1]; exact qe_mn2 h0 fun r hr => by have := hb r hr; omega
  have e3 : qe_mn P 1000000 (qe_en n al n 0) ≤ 1620 := by
    generalize qe_en n al n 0 = L at h0 hb
    cases L with
    | nil => exact absurd rfl h0
    | cons r L =>
      have := hb r (List.mem_cons_self ..)
      rw [qe_mnc, if_pos (by omega)]
      exact Nat.le_trans (qe_mnl P L _) this
  have e4 := (qe_R2 P (qe_en n al n 0) 1000000 []).2 (by omega)
  have e5 : (qe_R P n al).2 = qe_ff P (qe_R P n al).1 (qe_en n al n 0) := by rw [e1]; exact e4
  have e6 : ∀ L m p, (List.foldl (qe_st P 0 []) (m, p) L).2 = p ∨ (List.foldl (qe_st P 0 []) (m, p) L).2 ∈ L := by
    intro L
    induction L with
    | nil => intro m p; exact Or.inl rfl
    | cons r L ih =>
      intro m p
      rw [List.foldl_cons]
      unfold qe_st
      by_cases hq : 0 + qe_ds P r < (m, p).1
      · rw [if_pos hq]
        rcases ih (0 + qe_ds P r) ([] ++ r) with h | h
        · right; unfold qe_st at h; rw [h]; exact List.mem_cons_self ..
        · right; unfold qe_st at h; exact List.mem_cons_of_mem _ h
      · rw [if_neg hq]
        rcases ih m p with h | h
        · left; unfold qe_st at h; exact h
        · right; unfold qe_st at h; exact List.mem_cons_of_mem _ h
  refine ⟨e2, e5, by omega, ?_⟩
  -- the first best one is in the list
  have e7 : ∀ L : List (List Nat), ∀ m, L ≠ [] → (∀ r, r ∈ L → qe_ds P r < m) → ∀ p, (List.foldl (qe_st P 0 []) (m, p) L).2 ∈ L := by
    intro L m h0 hb p
    cases L with
    | nil => exact absurd rfl h0
    | cons r L =>
      rw [List.foldl_cons]
      have h1 : qe_st P 0 [] (m, p) r = (qe_ds P r, r) := by
        unfold qe_st
        rw [Nat.zero_add, if_pos (hb r (List.mem_cons_self ..))]; rfl
      rw [h1]
      rcases e6 L (qe_ds P r) r with h | h
      · rw [h]; exact List.mem_cons_self ..
      · exact List.mem_cons_of_mem _ h
  exact e7 _ 1000000 h0 (fun r hr => by have := hb r hr; omega) []
theorem qx_find {post : SX → Prop} (D : qr_D n c w pl) (X : qr_X c w pl xW xN xL) (hK : ¬ xK = 0 → qr_K n (qp_P c w pl) xB xP xQ xE)
    (hp : ∀ xK xB xP xQ xE xT xS xF, qr_K n (qp_P c w pl) xB xP xQ xE → post ((nI n), (nI c), xK, xB, xW, xN, xL, xP, xQ, xE, xT, xS, xF)) : wpX_find post ((nI n), (nI c), xK, xB, xW, xN, xL, xP, xQ, xE, xT, xS, xF) := by
  have h45 := qp_45 D
  have h2 := D.1
  have h6 := D.2.1
  refine br_c (fun h0 => qx_count D X fun xP hP => qx_widen h45 hP fun xQ hQ => qx_search h2 h6 h45 hP (qx_NFt h2 h6) fun xT xS xF hF => ⟨n + 1, ?_⟩) (fun h0 => hp _ _ _ _ _ _ _ _ (hK h0))
  obtain ⟨-, -, -, hmem⟩ := qe_Rne h6 h45 (qe_net h6)
  obtain ⟨hx, -, hlen⟩ := qe_ok h6 n 0 _ (by omega) hmem
  have hF' : ∀ i, i < n → xF i = nI ((qe_R (qp_P c w pl) n qe_tt).2.getD i 0) := by
    rcases hF with h | h
    · exfalso; rw [h] at hlen; simp at hlen; omega
    · exact h
  have h16 : ∀ i, i < n → (qe_R (qp_P c w pl) n qe_tt).2.getD i 0 < 16 := by
    intro i hi
    rw [List.getD_eq_getElem?_getD, List.getElem?_eq_getElem (by omega)]
    have := (hx _ (List.getElem_mem (by omega : i < (qe_R (qp_P c w pl) n qe_tt).2.length))).1
    show (qe_R (qp_P c w pl) n qe_tt).2[i] < 16
    omega
  have main : ∀ m i xE, i ≤ n → n < m + i → (∀ j, j < i → xE j = nI ((qe_R (qp_P c w pl) n qe_tt).2.getD j 0)) → wX_find_33 post (nI n) (nI c) 1 (nI (qe_R (qp_P c w pl) n qe_tt).1) m (nI i) xW xN xL xP xQ xE xT xS xF := by
    intro m
    induction m with
    | zero => intro i _ h1 h2; omega
    | succ m ih =>
      intro i xE hi hm hE
      rw [wX_find_33]
      refine pk_le n i (fun h => hp _ _ _ _ _ _ _ _ ⟨hP, hQ, rfl, fun k hk => hE k (by omega)⟩) (fun h => ?_)
      rw [nI_clamp (n := i) (by omega)]
      refine ⟨vp_in_nI (by omega) (by decide), vp_in_nI (by omega) (by decide), nm_e (nm_r (nI_1 i) (ih (i + 1) _ (by omega) (by omega) fun j hj => ?_))⟩
      by_cases hji : j = i
      · subst hji; rw [pk_us, hF' j h]; exact qa_nb (h16 j h)
      · rw [pk_un hji]; exact hE j (by omega)
  exact main (n + 1) 0 xE (by omega) (by omega) (fun j hj => absurd hj (by omega))
end QX
end
section
/-! X's questions behind find: scores -/
def qk_b (P : Nat → Nat → Nat) (d : Nat) : Nat → Int32
  | 0 => 0
  | b + 1 => qk_b P d b + (nI (P d b) - nI (P b d))
theorem qk_bs (P : Nat → Nat → Nat) (d b : Nat) : qk_b P d (b + 1) = qk_b P d b + (nI (P d b) - nI (P b d)) := rfl
def qk_z (P : Nat → Nat → Nat) (n d : Nat) : Int := (qk_b P d n).toInt
def qt_cv (A n : Nat) : Nat → Int32
  | 0 => -1
  | j + 1 => if A = 2 ^ (n - (j + 1)) then nI (n - (j + 1)) else qt_cv A n j
theorem qt_cvs (A n j : Nat) : qt_cv A n (j + 1) = if A = 2 ^ (n - (j + 1)) then nI (n - (j + 1)) else qt_cv A n j := rfl
def qw_wi (P : Nat → Nat → Nat) (a : Nat) : Nat → Bool
  | 0 => true
  | b + 1 => qw_wi P a b && (decide (a = b) || decide (qw_w P 6 b a ≤ qw_w P 6 a b))
theorem qw_wis (P : Nat → Nat → Nat) (a b : Nat) : qw_wi P a (b + 1) = (qw_wi P a b && (decide (a = b) || decide (qw_w P 6 b a ≤ qw_w P 6 a b))) := rfl
def qw_pw (P : Nat → Nat → Nat) (n : Nat) : Nat → Nat
  | 0 => 0
  | a + 1 => if qw_wi P a n = true then qw_pw P n a ||| 2 ^ a else qw_pw P n a
theorem qw_pws (P : Nat → Nat → Nat) (n a : Nat) : qw_pw P n (a + 1) = if qw_wi P a n = true then qw_pw P n a ||| 2 ^ a else qw_pw P n a := rfl
theorem qw_pwl (P : Nat → Nat → Nat) (n : Nat) : ∀ a, a ≤ 6 → qw_pw P n a < 64 := by
  intro a
  induction a with
  | zero => intro _; exact (by decide : (0 : Nat) < 64)
  | succ a ih =>
    intro ha
    rw [qw_pws]
    split
    · exact qa_ol (ih (by omega)) (by omega)
    · exact ih (by omega)
section QX
variable {n c : Nat} {w : Nat → Nat} {pl : Nat → Nat → Nat} {xC xK xB : Int32} {xW xN xL xP xQ xE xT xS xF : Nat → Int32} {P : Nat → Nat → Nat}
theorem qx_bal {post : Int32 → Prop} {d : Nat} (hn : n ≤ 6) (hP : ∀ i, i < 36 → xP i = nI (P (i / 6) (i % 6))) (hd : d < n) (hp : post (qk_b P d n)) : wpX_balance post ((nI n), xC, xK, xB, xW, xN, xL, xP, xQ, xE, xT, xS, xF) (nI d) := by
  have main : ∀ m i, i ≤ n → n < m + i → wX_balance_4 post (nI d) (nI n) xC xK xB xW xN xL xP xQ xE xT xS xF m (qk_b P d i) (nI i) := by
    intro m
    induction m with
    | zero => intro i h1 h2; omega
    | succ m ih =>
      intro i hi hm
      rw [wX_balance_4]
      refine pk_le n i (fun h => ?_) (fun h => ?_)
      · have e : i = n := by omega
        subst e
        exact hp
      · rw [qa_ix, qa_ix, nI_clamp (n := d * 6 + i) (by omega), nI_clamp (n := i * 6 + d) (by omega), qx_pr hP (show d < 6 by omega) (show i < 6 by omega), qx_pr hP (show i < 6 by omega) (show d < 6 by omega)]
        exact ⟨vp_in_nI (by omega) (by decide), vp_in_nI (by omega) (by decide), nm_e (nm_r (nI_1 i) (ih (i + 1) (by omega) (by omega)))⟩
  exact ⟨n + 1, main (n + 1) 0 (by omega) (by omega)⟩
theorem qx_great {post : Int32 → Prop} {t : Nat} (hn : n ≤ 6) (hP : ∀ i, i < 36 → xP i = nI (P (i / 6) (i % 6))) (ht : t < 64) (hp : ∀ o, qk_S (qk_z P n) t n o → post (qn_v o)) : wpX_greatestBut post ((nI n), xC, xK, xB, xW, xN, xL, xP, xQ, xE, xT, xS, xF) (nI t) := by
  have main : ∀ m i o x3, i ≤ n → n < m + i → qk_S (qk_z P n) t i o → (∀ g, o = some g → x3 = qk_b P g n) → wX_greatestBut_7 post (nI t) (nI n) xC xK xB xW xN xL xP xQ xE xT xS xF m (qn_v o) x3 (nI i) := by
    intro m
    induction m with
    | zero => intro i _ _ h1 h2; omega
    | succ m ih =>
      intro i o x3 hi hm hS h3
      rw [wX_greatestBut_7]
      refine pk_le n i (fun h => ?_) (fun h => qx_bal hn hP h ?_)
      · have e : i = n := by omega
        subst e
        exact hp o hS
      · refine qa_bif ht (by omega) (fun hb => ?_) (fun hb => nm_r (nI_1 i) (ih (i + 1) o x3 (by omega) (by omega) (qk_S0 hS hb) h3))
        cases o with
        | none =>
          refine br_t qa_ml (nm_r (nI_1 i) ?_)
          exact ih (i + 1) (some i) _ (by omega) (by omega) (qk_S1 hS hb) (fun g hg => by cases hg; rfl)
        | some g =>
          have hg : g < i := hS.1
          have e3 := h3 g rfl
          refine br_f (nI_pos (n := g) (by omega)) (br_c (fun hz => nm_r (nI_1 i) ?_) (fun hz => nm_r (nI_1 i) ?_))
          · rw [e3, Int32.le_iff_toInt_le] at hz
            exact ih (i + 1) (some g) x3 (by omega) (by omega) (qk_S3 hS hz) h3
          · rw [e3, Int32.le_iff_toInt_le] at hz
            exact ih (i + 1) (some i) _ (by omega) (by omega) (qk_S2 hS hb (Int.not_le.mp hz)) (fun g hg => by cases hg; rfl)
  exact ⟨n + 1, main (n + 1) 0 none 0 (by omega) (by omega) (fun y hy => absurd hy (by omega)) (fun g hg => by cases hg)⟩
theorem qx_scoreAt {post : Int32 → SX → Prop} {k : Nat} (hn : n ≤ 6) (hP : ∀ i, i < 36 → xP i = nI (P (i / 6) (i % 6))) (hk : k < n) (hp : ∀ d, d < n → qk_r (qk_z P n) n d = k → post (nI d) ((nI n), xC, xK, xB, xW, xN, xL, xP, xQ, xE, xT, xS, xF)) : ∃ m, wX_scoreAt_25 post (nI k) (nI n) xC xK xB xW xN xL xP xQ xE xT xS xF m 0 0 0 := by
  have main : ∀ m r t (x3 : Int32), r ≤ k + 1 → k + 1 < m + r → qk_I (qk_z P n) n r t → (r = 0 ∨ ∃ d, d < n ∧ x3 = nI d ∧ qk_r (qk_z P n) n d + 1 = r) → wX_scoreAt_25 post (nI k) (nI n) xC xK xB xW xN xL xP xQ xE xT xS xF m (nI t) x3 (nI r) := by
    intro m
    induction m with
    | zero => intro r _ _ h1 h2; omega
    | succ m ih =>
      intro r t x3 hr hm hI hL
      rw [wX_scoreAt_25]
      refine pk_lt k r (fun h => ?_) (fun h => qx_great hn hP hI.1 fun o hS => ?_)
      · rcases hL with h0 | ⟨d, hd, e, h1⟩
        · omega
        · rw [e]; exact hp d hd (by omega)
      · cases o with
        | none =>
          obtain ⟨y, hy, hb⟩ := qk_free hI (by omega)
          have := hS y hy
          rw [hb] at this
          cases this
        | some g =>
          have hG : qk_G (qk_z P n) n t g := hS
          obtain ⟨h1, h2⟩ := qk_st hn hI hG
          have hg := hG.1
          exact nm_r (qa_or hI.1 (by omega)) (nm_r (nI_1 r) (ih (r + 1) _ _ (by omega) (by omega) h2 (Or.inr ⟨g, hG.1, rfl, by omega⟩)))
  exact ⟨k + 2, main (k + 2) 0 0 0 (by omega) (by omega) (qk_I0 _ _) (Or.inl rfl)⟩
/-! X's top sets -/
theorem qx_bba {post : Int32 → Prop} {b g : Nat} (hn : n ≤ 6) (h45 : ∀ a b, P a b ≤ 45) (hP : ∀ i, i < 36 → xP i = nI (P (i / 6) (i % 6))) (hb : b < n) (hg : g < 64) (h1 : (∀ a, a < n → g.testBit a = true → P b a < P a b) → post 1) (h0 : ¬ (∀ a, a < n → g.testBit a = true → P b a < P a b) → post 0) : wpX_beatenByAll post ((nI n), xC, xK, xB, xW, xN, xL, xP, xQ, xE, xT, xS, xF) (nI b) (nI g) := by
  have main : ∀ m i, i ≤ n → n < m + i → (∀ a, a < i → g.testBit a = true → P b a < P a b) → wX_beatenByAll_2 post (nI b) (nI g) (nI n) xC xK xB xW xN xL xP xQ xE xT xS xF m (nI i) := by
    intro m
    induction m with
    | zero => intro i h1 h2; omega
    | succ m ih =>
      intro i hi hm hA
      rw [wX_beatenByAll_2]
      refine pk_le n i (fun h => h1 fun a ha => hA a (by omega)) (fun h => qa_bif hg (by omega) (fun hbi => nm_r (nI_1 i) (ih (i + 1) (by omega) (by omega) fun a ha hga => ?_)) (fun hbi => qx_beats h45 hP (by omega) (by omega) (fun h2 => br_t rfl (h0 fun H => ?_)) (fun h2 => br_f qa_n1 (nm_r (nI_1 i) (ih (i + 1) (by omega) (by omega) fun a ha hga => ?_)))))
      · by_cases hai : a = i
        · subst hai; rw [hbi] at hga; cases hga
        · exact hA a (by omega) hga
      · have := H i h hbi
        omega
      · by_cases hai : a = i
        · subst hai; exact h2
        · exact hA a (by omega) hga
  exact ⟨n + 1, main (n + 1) 0 (by omega) (by omega) (fun a ha => absurd ha (by omega))⟩
theorem qx_cl15 {post : Int32 → Prop} {J4 : Int32 → Int32 → Prop} {r : Nat} (hn : n ≤ 6) (h45 : ∀ a b, P a b ≤ 45) (hP : ∀ i, i < 36 → xP i = nI (P (i / 6) (i % 6))) :
    ∀ m j g, j ≤ n → j < m → g < 64 → J4 (nI (qc_ps (qt_ad n P) n j g)) (nI (r + 1)) → wX_closed_15 post J4 (nI r) (nI n) xC xK xB xW xN xL xP xQ xE xT xS xF m (nI g) (nI (n - j)) := by
  intro m
  induction m with
  | zero => intro j g h1 h2; omega
  | succ m ih =>
    intro j g hj hm hg hJ
    rw [wX_closed_15]
    refine pk_le n (n - j) (fun h => nm_r (nI_1 r) ?_) (fun h => ?_)
    · have e : j = 0 ∨ n = 0 := by omega
      rcases e with rfl | rfl
      · exact hJ
      · have e : j = 0 := by omega
        subst e
        exact hJ
    · obtain ⟨i, rfl⟩ : ∃ i, j = i + 1 := ⟨j - 1, by omega⟩
      rw [qc_pss] at hJ
      generalize he : n - (i + 1) = e at hJ h ⊢
      have e1 : e + 1 = n - i := by omega
      refine qa_bif hg (by omega) (fun hb => qx_bba hn h45 hP h hg (fun hA => br_f qa_n1 (nm_r (nI_1 e) ?_)) (fun hA => br_t rfl (nm_r (qa_or hg (by omega)) (nm_r (nI_1 e) ?_)))) (fun hb => nm_r (nI_1 e) ?_)
      · rw [show qt_ad n P e g = g from if_neg (fun z => z.2 hA)] at hJ
        rw [e1]; exact ih i g (by omega) (by omega) hg hJ
      · rw [show qt_ad n P e g = g ||| 2 ^ e from if_pos ⟨hb, hA⟩] at hJ
        rw [e1]; exact ih i _ (by omega) (by omega) (qa_ol hg (by omega)) hJ
      · rw [show qt_ad n P e g = g from if_neg (fun z => by rw [z.1] at hb; cases hb)] at hJ
        rw [e1]; exact ih i g (by omega) (by omega) hg hJ
theorem qx_closed {post : Int32 → Prop} {d : Nat} (hn : n ≤ 6) (h45 : ∀ a b, P a b ≤ 45) (hP : ∀ i, i < 36 → xP i = nI (P (i / 6) (i % 6))) (hd : d < n) (hp : post (nI (qt_cl n P d))) : wpX_closed post ((nI n), xC, xK, xB, xW, xN, xL, xP, xQ, xE, xT, xS, xF) (nI (2 ^ d)) := by
  have main : ∀ m j g, j ≤ n → j < m → g < 64 → post (nI (qc_it (qt_ad n P) n j g)) → wX_closed_4 post (nI n) xC xK xB xW xN xL xP xQ xE xT xS xF m (nI g) (nI (n - j)) := by
    intro m
    induction m with
    | zero => intro j g h1 h2; omega
    | succ m ih =>
      intro j g hj hm hg hJ
      rw [wX_closed_4]
      refine pk_le n (n - j) (fun h => ?_) (fun h => ⟨n + 1, ?_⟩)
      · have e : j = 0 := by omega
        subst e
        exact hJ
      · obtain ⟨i, rfl⟩ : ∃ i, j = i + 1 := ⟨j - 1, by omega⟩
        rw [qc_its] at hJ
        have := qx_cl15 (post := post) (J4 := wX_closed_4 post (nI n) xC xK xB xW xN xL xP xQ xE xT xS xF m) (r := n - (i + 1)) (n := n) (xC := xC) (xK := xK) (xB := xB) (xW := xW) (xN := xN) (xL := xL) (xP := xP) (xQ := xQ) (xE := xE) (xT := xT) (xS := xS) (xF := xF) hn h45 hP (n + 1) n g (Nat.le_refl _) (by omega) hg (by
          rw [show n - (i + 1) + 1 = n - i by omega]
          exact ih i _ (by omega) (by omega) (qc_psm hn (qt_A n P) n g (Nat.le_refl _) hg).1 hJ)
        rw [Nat.sub_self] at this
        exact this
  have h := main (n + 1) n (2 ^ d) (Nat.le_refl _) (by omega) (qa_p2 (by omega)) hp
  rw [Nat.sub_self] at h
  exact ⟨n + 1, h⟩
theorem qx_size {post : Int32 → Prop} {g : Nat} (hn : n ≤ 6) (hg : g < 64) (hp : post (nI (qt_sz n g))) : wpX_sizeOf post ((nI n), xC, xK, xB, xW, xN, xL, xP, xQ, xE, xT, xS, xF) (nI g) := by
  have main : ∀ m i, i ≤ n → n < m + i → wX_sizeOf_4 post (nI g) (nI n) xC xK xB xW xN xL xP xQ xE xT xS xF m (nI (qt_sz i g)) (nI i) := by
    intro m
    induction m with
    | zero => intro i h1 h2; omega
    | succ m ih =>
      intro i hi hm
      rw [wX_sizeOf_4]
      refine pk_le n i (fun h => ?_) (fun h => ?_)
      · have e : i = n := by omega
        subst e
        exact hp
      · rw [qa_bt hg (by omega)]
        exact nm_r (nI_add _ _) (nm_r (nI_1 i) (ih (i + 1) (by omega) (by omega)))
  exact ⟨n + 1, main (n + 1) 0 (by omega) (by omega)⟩
theorem qx_top20 {post : Int32 → SX → Prop} (hn : n ≤ 6) (h45 : ∀ a b, P a b ≤ 45) (hP : ∀ i, i < 36 → xP i = nI (P (i / 6) (i % 6))) (hp : ∀ A, qt_T n P A → post (nI A) ((nI n), xC, xK, xB, xW, xN, xL, xP, xQ, xE, xT, xS, xF)) :
    ∀ m i A, i ≤ n → n < m + i → 1 ≤ A → A < 2 ^ n → qt_D n P A → (∀ d, d < i → qt_sz n A ≤ qt_sz n (qt_cl n P d)) → wX_topSet_20 post (nI n) xC xK xB xW xN xL xP xQ xE xT xS xF m (nI A) (nI (qt_sz n A)) (nI i) := by
  intro m
  induction m with
  | zero => intro i A h1 h2; omega
  | succ m ih =>
    intro i A hi hm a1 a2 a3 a4
    rw [wX_topSet_20]
    refine pk_le n i (fun h => hp A (qt_fin hn a1 a2 a3 fun d hd => a4 d (by omega))) (fun h => ?_)
    rw [qa_sh (by omega)]
    refine qx_closed hn h45 hP h (qx_size hn (qt_cl1 hn h).1 ?_)
    have b1 := qt_szb n A
    have b2 := qt_szb n (qt_cl n P i)
    refine pk_le (qt_sz n A) (qt_sz n (qt_cl n P i)) (fun h1 => nm_r (nI_1 i) (ih (i + 1) A (by omega) (by omega) a1 a2 a3 fun d hd => ?_)) (fun h1 => nm_r (nI_1 i) (ih (i + 1) (qt_cl n P i) (by omega) (by omega) (qt_cl4 hn h).1 (qt_cl4 hn h).2 (qt_cl2 hn h) fun d hd => ?_))
    · by_cases hdi : d = i
      · subst hdi; exact h1
      · exact a4 d (by omega)
    · by_cases hdi : d = i
      · subst hdi; exact Nat.le_refl _
      · have := a4 d (by omega); omega
theorem qx_topSet {post : Int32 → SX → Prop} (D : qr_D n c w pl) (X : qr_X c w pl xW xN xL) (hK : ¬ xK = 0 → qr_K n (qp_P c w pl) xB xP xQ xE)
    (hp : ∀ xK xB xP xQ xE xT xS xF A, qr_K n (qp_P c w pl) xB xP xQ xE → qt_T n (qp_P c w pl) A → post (nI A) ((nI n), (nI c), xK, xB, xW, xN, xL, xP, xQ, xE, xT, xS, xF)) : wpX_topSet post ((nI n), (nI c), xK, xB, xW, xN, xL, xP, xQ, xE, xT, xS, xF) := by
  have h2 := D.1
  have h6 := D.2.1
  refine qx_find D X hK fun xK xB xP xQ xE xT xS xF hK' => nm_r (qa_fu (by omega)) ⟨n + 1, ?_⟩
  obtain ⟨f1, f2, f3⟩ := qt_full h2 h6
  have := qx_top20 (post := post) (xC := nI c) (xK := xK) (xB := xB) (xW := xW) (xN := xN) (xL := xL) (xQ := xQ) (xE := xE) (xT := xT) (xS := xS) (xF := xF) h6 (qp_45 D) hK'.1 (fun A hA => hp _ _ _ _ _ _ _ _ A hK' hA) (n + 1) 0 (2 ^ n - 1) (by omega) (by omega) f1 f2 (qt_fD _ h6) (fun d hd => absurd hd (by omega))
  rw [f3] at this
  exact this
theorem qx_ch7 {post : Int32 → SX → Prop} {A : Nat} (hn : n ≤ 6) (hA : A < 64) : ∀ m j, j ≤ n → j < m → post (qt_cv A n j) ((nI n), xC, xK, xB, xW, xN, xL, xP, xQ, xE, xT, xS, xF) → wX_champion_7 post (nI A) (nI n) xC xK xB xW xN xL xP xQ xE xT xS xF m (nI (n - j)) := by
  intro m
  induction m with
  | zero => intro j h1 h2; omega
  | succ m ih =>
    intro j hj hm hp
    rw [wX_champion_7]
    refine pk_le n (n - j) (fun h => ?_) (fun h => ?_)
    · have e : j = 0 ∨ n = 0 := by omega
      rcases e with rfl | rfl
      · exact hp
      · have e : j = 0 := by omega
        subst e
        exact hp
    · obtain ⟨i, rfl⟩ : ∃ i, j = i + 1 := ⟨j - 1, by omega⟩
      rw [qt_cvs] at hp
      generalize he : n - (i + 1) = e at hp h ⊢
      have e1 : e + 1 = n - i := by omega
      have h64 : 2 ^ e < 64 := qa_p2 (by omega)
      rw [qa_sh (by omega)]
      refine pk_eq A (2 ^ e) (fun h1 => ?_) (fun h1 => nm_r (nI_1 e) ?_)
      · rw [if_pos h1] at hp; exact hp
      · rw [if_neg h1] at hp
        rw [e1]; exact ih i (by omega) (by omega) hp
/-! X's path winners -/
theorem qx_pw21 {post : Int32 → SX → Prop} {J8 : Int32 → Int32 → Prop} {S a : Nat} (hn : n ≤ 6) (h45 : ∀ a b, P a b ≤ 45) (hQ : ∀ i, i < 36 → xQ i = nI (qw_w P 6 (i / 6) (i % 6))) (hS : S < 64) (ha : a < n) (hJ : J8 (nI (if qw_wi P a n = true then S ||| 2 ^ a else S)) (nI (a + 1))) :
    ∀ m b, b ≤ n → n < m + b → wX_pathWinners_21 post J8 (nI S) (nI a) (nI n) xC xK xB xW xN xL xP xQ xE xT xS xF m (nI (qw_wi P a b).toNat) (nI b) := by
  intro m
  induction m with
  | zero => intro b h1 h2; omega
  | succ m ih =>
    intro b hb hm
    rw [wX_pathWinners_21]
    refine pk_le n b (fun h => ?_) (fun h => ?_)
    · have e : b = n := by omega
      subst e
      cases hw : qw_wi P a b
      · rw [hw, if_neg (by decide)] at hJ
        exact br_t rfl (nm_r (nI_1 a) hJ)
      · rw [hw, if_pos rfl] at hJ
        exact br_f qa_n1 (nm_r (qa_or hS (by omega)) (nm_r (nI_1 a) hJ))
    · have hz := ih (b + 1) (by omega) (by omega)
      rw [qw_wis] at hz
      refine pk_eq a b (fun h1 => nm_r (nI_1 b) ?_) (fun h1 => ?_)
      · rw [decide_eq_true h1, Bool.true_or, Bool.and_true] at hz
        exact hz
      · have q1 : xQ (a * 6 + b) = nI (qw_w P 6 a b) := by rw [hQ _ (by omega), show (a * 6 + b) / 6 = a by omega, show (a * 6 + b) % 6 = b by omega]
        have q2 : xQ (b * 6 + a) = nI (qw_w P 6 b a) := by rw [hQ _ (by omega), show (b * 6 + a) / 6 = b by omega, show (b * 6 + a) % 6 = a by omega]
        have b1 := qw_b h45 6 a b
        have b2 := qw_b h45 6 b a
        rw [decide_eq_false h1, Bool.false_or] at hz
        rw [qa_ix, qa_ix, nI_clamp (n := a * 6 + b) (by omega), nI_clamp (n := b * 6 + a) (by omega), q1, q2]
        refine ⟨vp_in_nI (by omega) (by decide), vp_in_nI (by omega) (by decide), pk_le (qw_w P 6 b a) (qw_w P 6 a b) (fun h2 => nm_r (nI_1 b) ?_) (fun h2 => nm_r (nI_1 b) ?_)⟩
        · rw [decide_eq_true h2, Bool.and_true] at hz; exact hz
        · rw [decide_eq_false (by omega), Bool.and_false] at hz; exact hz
theorem qx_pw8 {post : Int32 → SX → Prop} (hn : n ≤ 6) (h45 : ∀ a b, P a b ≤ 45) (hQ : ∀ i, i < 36 → xQ i = nI (qw_w P 6 (i / 6) (i % 6))) (hp : post (nI (qw_pw P n n)) ((nI n), xC, xK, xB, xW, xN, xL, xP, xQ, xE, xT, xS, xF)) :
    ∀ m a, a ≤ n → n < m + a → wX_pathWinners_8 post (nI n) xC xK xB xW xN xL xP xQ xE xT xS xF m (nI (qw_pw P n a)) (nI a) := by
  intro m
  induction m with
  | zero => intro a h1 h2; omega
  | succ m ih =>
    intro a ha hm
    rw [wX_pathWinners_8]
    refine pk_le n a (fun h => ?_) (fun h => ⟨n + 1, ?_⟩)
    · have e : a = n := by omega
      subst e
      exact hp
    · exact qx_pw21 hn h45 hQ (qw_pwl P n a (by omega)) h (ih (a + 1) (by omega) (by omega)) (n + 1) 0 (by omega) (by omega)
end QX
end
section
/-! the reference: places, preferences, orders -/
section QY
variable {n c : Nat} {w : Nat → Nat} {pl : Nat → Nat → Nat} {yZ : Int32} {yW yN yL yO : Nat → Int32}
theorem qy_place {post : Int32 → Prop} (D : qr_D n c w pl) (Y : qr_Y n c w pl yW yN yL) {k d : Nat} (hk : k < c) (hd : d < n) (hp : post (nI (pl k d))) : wpY_place post ((nI n), (nI c), yZ, yW, yN, yL, yO) (nI k) (nI d) := by
  obtain ⟨h2, h6, hc, -, hl, -⟩ := D
  obtain ⟨-, eN, hA, hB⟩ := Y k hk
  have hm := qp_cl (pl k)
  have hld := hl k d hk
  have main : ∀ m p, p ≤ pl k d → p ≤ qp_c (pl k) → 6 < m + p → wY_place_2 post (nI k) (nI d) (nI n) (nI c) yZ yW yN yL yO m (nI p) := by
    intro m
    induction m with
    | zero => intro p _ _ h; omega
    | succ m ih =>
      intro p h1 h3 h4
      rw [wY_place_2, nI_clamp (n := k) (by omega), eN]
      refine ⟨vp_in_nI (by omega) (by decide), pk_le (qp_c (pl k)) p (fun h => ?_) (fun h => pk_le 6 p (fun h' => absurd h' (by omega)) (fun h' => ?_))⟩
      · have e : pl k d = 6 := by
          rcases Nat.lt_or_ge (pl k d) 6 with h7 | h7
          · have := (hA d hd h7).1; omega
          · omega
        rw [e] at hp
        exact hp
      · rw [qa_xi, nI_clamp (n := 6 * k + p) (by omega)]
        obtain ⟨d', hd', e, ep⟩ := hB p h
        rw [e]
        refine ⟨vp_in_nI (by omega) (by decide), pk_eq d' d (fun h5 => ?_) (fun h5 => nm_r (nI_1 p) (ih (p + 1) ?_ (by omega) (by omega)))⟩
        · subst h5; rw [ep] at hp; exact hp
        · rcases Nat.lt_or_ge p (pl k d) with h7 | h7
          · exact h7
          · exfalso
            have e2 : pl k d = p := by omega
            have h8 := (hA d hd (by omega)).2
            rw [e2, e] at h8
            exact h5 ((nI_eq (by omega) (by omega)).mp h8)
  exact ⟨7, main 7 0 (by omega) (by omega) (by omega)⟩
theorem qy_doc1 {post : Int32 → Prop} (hn : n ≤ 6) {a : Nat} (ha : a < n) (hp : post 1) : wpY_document post ((nI n), (nI c), yZ, yW, yN, yL, yO) (nI a) :=
  br_f (nI_pos (by omega)) (br_f (nI_ge ha (by omega)) hp)
theorem qy_doc0 {post : Int32 → Prop} {v : Int32} (h : v < 0 ∨ nI n ≤ v) (hp : post 0) : wpY_document post ((nI n), (nI c), yZ, yW, yN, yL, yO) v := by
  by_cases h0 : v < 0
  · exact br_t h0 hp
  · exact br_f h0 (br_t (h.resolve_left h0) hp)
theorem qy_pref {post : Int32 → Prop} (D : qr_D n c w pl) (Y : qr_Y n c w pl yW yN yL) {a b : Nat} (ha : a < n) (hb : b < n) (hab : a ≠ b) (hp : post (nI (qp_P c w pl a b))) : wpY_prefers post ((nI n), (nI c), yZ, yW, yN, yL, yO) (nI a) (nI b) := by
  obtain ⟨h2, h6, hc, -, hl, -⟩ := id D
  have main : ∀ m k, k ≤ c → c < m + k → wY_prefers_28 post (nI a) (nI b) (nI n) (nI c) yZ yW yN yL yO m (nI (qp_P k w pl a b)) (nI k) := by
    intro m
    induction m with
    | zero => intro k h1 h2; omega
    | succ m ih =>
      intro k hk hm
      rw [wY_prefers_28]
      refine pk_le c k (fun h => ?_) (fun h => qy_place D Y h ha (qy_place D Y h hb ?_))
      · have e : k = c := by omega
        subst e
        exact hp
      · have la := hl k a h
        have lb := hl k b h
        have hz := ih (k + 1) (by omega) (by omega)
        rw [qp_s] at hz
        refine pk_le (pl k b) (pl k a) (fun h3 => nm_r (Int32.add_zero _) (nm_r (nI_1 k) ?_)) (fun h3 => ?_)
        · rw [if_neg (by omega), Nat.add_zero] at hz; exact hz
        · rw [if_pos h3] at hz
          rw [nI_clamp (n := k) (by omega), (Y k h).1]
          exact ⟨vp_in_nI (by omega) (by decide), nm_r (nI_add _ _) (nm_r (nI_1 k) hz)⟩
  refine br_f (fun z => hab ((nI_eq (by omega) (by omega)).mp z)) (qy_doc1 h6 ha (br_f qa_n1 (qy_doc1 h6 hb (br_f qa_n1 ⟨c + 1, ?_⟩))))
  exact main (c + 1) 0 (by omega) (by omega)
theorem qy_beats {post : Int32 → Prop} (D : qr_D n c w pl) (Y : qr_Y n c w pl yW yN yL) {a b : Nat} (ha : a < n) (hb : b < n) (hab : a ≠ b) (h0 : qp_P c w pl a b ≤ qp_P c w pl b a → post 0) (h1 : qp_P c w pl b a < qp_P c w pl a b → post 1) : wpY_beats post ((nI n), (nI c), yZ, yW, yN, yL, yO) (nI a) (nI b) := by
  have b1 := qp_45 D a b
  have b2 := qp_45 D b a
  unfold wpY_beats
  dsimp only
  refine qy_pref D Y ha hb hab ?_
  refine qy_pref D Y hb ha (fun z => hab z.symm) ?_
  exact pk_le (qp_P c w pl a b) (qp_P c w pl b a) h0 h1
theorem qy_nth {post : Int32 → Prop} {left skip : Nat} (hl : left < 64) (hs : skip < 2 ^ 31) (hp : post (nI (qe_nt left skip 6 0))) : wpY_nth post ((nI n), (nI c), yZ, yW, yN, yL, yO) (nI left) (nI skip) := by
  have main : ∀ m j less, j ≤ 6 → j < m → less ≤ 6 - j → post (nI (qe_nt left skip j less)) → wY_nth_5 post (nI left) (nI skip) (nI n) (nI c) yZ yW yN yL yO m (nI less) (nI (6 - j)) := by
    intro m
    induction m with
    | zero => intro j less h1 h2; omega
    | succ m ih =>
      intro j less hj hm hle hp
      rw [wY_nth_5]
      refine pk_le 6 (6 - j) (fun h => ?_) (fun h => ?_)
      · have e : j = 0 := by omega
        subst e
        exact hp
      · obtain ⟨i, rfl⟩ : ∃ i, j = i + 1 := ⟨j - 1, by omega⟩
        have hp' : post (nI (if left.testBit (6 - (i + 1)) = true then (if less = skip then 6 - (i + 1) else qe_nt left skip i (less + 1)) else qe_nt left skip i less)) := hp
        have e1 : 6 - (i + 1) + 1 = 6 - i := by omega
        refine qa_big hl (by omega) (fun hb => pk_eq less skip (fun h1 => ?_) (fun h1 => nm_r (nI_1 less) (nm_r (nI_1 _) ?_))) (fun hb => nm_r (nI_1 _) ?_)
        · rw [if_pos hb, if_pos h1] at hp'; exact hp'
        · rw [if_pos hb, if_neg h1] at hp'
          rw [e1]; exact ih i (less + 1) (by omega) (by omega) (by omega) hp'
        · rw [hb, if_neg (by decide)] at hp'
          rw [e1]; exact ih i less (by omega) (by omega) (by omega) hp'
  exact ⟨7, main 7 6 0 (by omega) (by omega) (by omega) hp⟩
theorem qy_sp63 {post : SY → Prop} {J20 : Int32 → Int32 → Int32 → Int32 → (Nat → Int32) → (Nat → Int32) → (Nat → Int32) → (Nat → Int32) → Prop} {b left k skip : Nat} {z0 : Int32} (hl : left < 64) (hk : k < 6) (hs : skip < 2 ^ 31)
    (h : J20 z0 (nI b) (nI (left &&& (63 - 2 ^ qe_nt left skip 6 0))) (nI (k + 1)) yW yN yL (upd yO k (nI (qe_nt left skip 6 0)))) : wY_spell_63 post J20 (nI b) (nI left) (nI k) (nI skip) z0 (nI n) (nI c) yZ yW yN yL yO := by
  unfold wY_spell_63
  refine qy_nth hl hs ?_
  rw [nI_clamp (n := k) (by omega)]
  exact ⟨vp_in_nI hk (by decide), nm_e (nm_r (qa_cl hl (qe_ntl _ _ _ _ (Nat.le_refl _))) (nm_r (nI_1 k) h))⟩
theorem qy_sp50 {post : SY → Prop} {J20 : Int32 → Int32 → Int32 → Int32 → (Nat → Int32) → (Nat → Int32) → (Nat → Int32) → (Nat → Int32) → Prop} {rest b left k skip : Nat} (hr : rest < 2 ^ 31) (hb : b < 2 ^ 31) (hl : left < 64) (hk : k < 6) (hs : skip < 2 ^ 31)
    (h : J20 (nI (if b = 0 then 0 else rest % b)) (nI b) (nI (left &&& (63 - 2 ^ qe_nt left skip 6 0))) (nI (k + 1)) yW yN yL (upd yO k (nI (qe_nt left skip 6 0)))) : wY_spell_50 post J20 (nI rest) (nI b) (nI left) (nI k) (nI skip) (nI n) (nI c) yZ yW yN yL yO := by
  unfold wY_spell_50
  refine pk_le b 0 (fun h1 => qy_sp63 hl hk hs ?_) (fun h1 => ⟨nI_ne0 h1 hb, ?_⟩)
  · rw [if_pos (by omega)] at h; exact h
  · rw [if_neg (by omega)] at h
    rw [pk_rem hr h1 hb]
    exact qy_sp63 hl hk hs h
theorem qy_sp20 {post : SY → Prop} (h2 : 2 ≤ n) (hn : n ≤ 6) :
    ∀ m j rest block left yO, j ≤ n → j < m → rest ≤ 720 → block ≤ 720 → left < 64 → (∀ yO', (∀ i, i < n - j → yO' i = yO i) → (∀ i, i < j → yO' (n - j + i) = nI ((qe_sp j rest block left).getD i 0)) → post ((nI n), (nI c), yZ, yW, yN, yL, yO')) → wY_spell_20 post (nI n) (nI c) yZ m (nI rest) (nI block) (nI left) (nI (n - j)) yW yN yL yO := by
  intro m
  induction m with
  | zero => intro j rest block left yO h1 h2; omega
  | succ m ih =>
    intro j rest block left yO hj hm hr hb hl hp
    rw [wY_spell_20]
    refine pk_le n (n - j) (fun h => hp yO (fun _ _ => rfl) (fun i hi => absurd hi (by omega))) (fun h => ?_)
    obtain ⟨i, rfl⟩ : ∃ i, j = i + 1 := ⟨j - 1, by omega⟩
    rw [pk_sub (by omega), show n - (n - (i + 1)) = i + 1 by omega, pk_div (by omega) (by omega) (by omega)]
    have hbb : block / (i + 1) ≤ block := Nat.div_le_self _ _
    rw [qe_sps] at hp
    generalize block / (i + 1) = b at hp hbb ⊢
    have go : ∀ skip, skip = (if b = 0 then 0 else rest / b) → wY_spell_50 post (wY_spell_20 post (nI n) (nI c) yZ m) (nI rest) (nI b) (nI left) (nI (n - (i + 1))) (nI skip) (nI n) (nI c) yZ yW yN yL yO := by
      intro skip hs
      have hs' : skip ≤ rest := by
        rw [hs]
        split
        · omega
        · exact Nat.div_le_self _ _
      rw [← hs] at hp
      have hd : qe_nt left skip 6 0 < 6 := qe_ntl _ _ _ _ (Nat.le_refl _)
      refine qy_sp50 (by omega) (by omega) hl (by omega) (by omega) ?_
      rw [show n - (i + 1) + 1 = n - i by omega]
      have hr' : (if b = 0 then 0 else rest % b) ≤ 720 := by
        split
        · omega
        · exact Nat.le_trans (Nat.mod_le _ _) hr
      refine ih i _ b _ _ (by omega) (by omega) hr' (by omega) (qa_al hl hd) (fun yO' k1 k2 => hp yO' (fun x hx => ?_) (fun x hx => ?_))
      · rw [k1 x (by omega), pk_un (by omega)]
      · cases x with
        | zero => rw [Nat.add_zero, k1 _ (by omega), pk_us]; rfl
        | succ x =>
          have := k2 x (by omega)
          rw [show n - (i + 1) + (x + 1) = n - i + x by omega, this]
          rfl
    refine ⟨nI_ne0 (by omega) (by omega), nm_e (pk_le b 0 (fun h1 => ?_) (fun h1 => ⟨nI_ne0 h1 (by omega), ?_⟩))⟩
    · exact go 0 (by rw [if_pos (by omega)])
    · rw [pk_div (by omega) h1 (by omega)]
      exact go (rest / b) (by rw [if_neg (by omega)])
theorem qy_spell {post : SY → Prop} (h2 : 2 ≤ n) (hn : n ≤ 6) {q : Nat} (hq : q < qe_fa n) (hp : ∀ yO, (∀ i, i < n → yO i = nI ((qe_sl n q).getD i 0)) → post ((nI n), (nI c), (nI (qe_fa n)), yW, yN, yL, yO)) : wpY_spell post ((nI n), (nI c), (nI (qe_fa n)), yW, yN, yL, yO) (nI q) := by
  have h720 := qe_fal hn
  refine nm_r (qa_fu (by omega)) ⟨n + 1, ?_⟩
  have := qy_sp20 (post := post) (c := c) (yZ := nI (qe_fa n)) (yW := yW) (yN := yN) (yL := yL) h2 hn (n + 1) n q (qe_fa n) (2 ^ n - 1) yO (Nat.le_refl _) (by omega) (by omega) h720 (qa_f6 (by omega)) (fun yO' _ k2 => hp yO' fun i hi => by
    have := k2 i hi
    rw [Nat.sub_self, Nat.zero_add] at this
    exact this)
  rw [Nat.sub_self] at this
  exact this
theorem qy_d14 {post : Int32 → Prop} {J4 : Int32 → Int32 → Prop} (D : qr_D n c w pl) (Y : qr_Y n c w pl yW yN yL) {o : Nat → Nat} {k s : Nat} (hO : ∀ i, i < n → yO i = nI (o i)) (ho : ∀ i, i < n → o i < n) (hne : ∀ i k, i < k → k < n → o k ≠ o i) (hk : k < n)
    (hJ : J4 (nI (s + qs_sm (fun i => qp_P c w pl (o k) (o i)) k)) (nI (k + 1))) :
    ∀ m i, i ≤ k → k < m + i → wY_distance_14 post J4 (nI k) (nI n) (nI c) yZ yW yN yL yO m (nI (s + qs_sm (fun i => qp_P c w pl (o k) (o i)) i)) (nI i) := by
  have h6 := D.2.1
  intro m
  induction m with
  | zero => intro i h1 h2; omega
  | succ m ih =>
    intro i hi hm
    rw [wY_distance_14]
    refine pk_le k i (fun h => nm_r (nI_1 k) ?_) (fun h => ?_)
    · have e : i = k := by omega
      subst e
      exact hJ
    · have hz := ih (i + 1) (by omega) (by omega)
      rw [qs_s, ← Nat.add_assoc] at hz
      rw [nI_clamp (n := k) (by omega), nI_clamp (n := i) (by omega), hO k hk, hO i (by omega)]
      exact ⟨vp_in_nI (by omega) (by decide), vp_in_nI (by omega) (by decide), qy_pref D Y (ho k hk) (ho i (by omega)) (hne i k h hk) (nm_r (nI_add _ _) (nm_r (nI_1 i) hz))⟩
theorem qy_dist {post : Int32 → Prop} (D : qr_D n c w pl) (Y : qr_Y n c w pl yW yN yL) {o : Nat → Nat} (hO : ∀ i, i < n → yO i = nI (o i)) (ho : ∀ i, i < n → o i < n) (hne : ∀ i k, i < k → k < n → o k ≠ o i) (hp : post (nI (qe_dy (qp_P c w pl) o n))) : wpY_distance post ((nI n), (nI c), yZ, yW, yN, yL, yO) := by
  have h6 := D.2.1
  have main : ∀ m k, k ≤ n → n < m + k → wY_distance_4 post (nI n) (nI c) yZ yW yN yL yO m (nI (qe_dy (qp_P c w pl) o k)) (nI k) := by
    intro m
    induction m with
    | zero => intro i h1 h2; omega
    | succ m ih =>
      intro k hk hm
      rw [wY_distance_4]
      refine pk_le n k (fun h => ?_) (fun h => ⟨k + 1, ?_⟩)
      · have e : k = n := by omega
        subst e
        exact hp
      · exact qy_d14 D Y hO ho hne h (ih (k + 1) (by omega) (by omega)) (k + 1) 0 (by omega) (by omega)
  exact ⟨n + 1, main (n + 1) 0 (by omega) (by omega)⟩
theorem qe_psl (o : Nat → Nat) (a : Nat) : ∀ k, k ≤ 6 → qe_ps o a k ≤ 6 := by
  intro k
  induction k with
  | zero => intro _; exact Nat.le_refl _
  | succ k ih =>
    intro hk
    show (if o k = a then k else qe_ps o a k) ≤ 6
    split
    · omega
    · exact ih (by omega)
theorem qy_before {post : Int32 → Prop} (hn : n ≤ 6) {o : Nat → Nat} {a b : Nat} (ha : a < n) (hb : b < n) (hO : ∀ i, i < n → yO i = nI (o i)) (ho : ∀ i, i < n → o i < n) (h0 : qe_ps o b n ≤ qe_ps o a n → post 0) (h1 : qe_ps o a n < qe_ps o b n → post 1) : wpY_before post ((nI n), (nI c), yZ, yW, yN, yL, yO) (nI a) (nI b) := by
  have main : ∀ m k, k ≤ n → n < m + k → wY_before_10 post (nI a) (nI b) (nI n) (nI c) yZ yW yN yL yO m (nI (qe_ps o a k)) (nI (qe_ps o b k)) (nI k) := by
    intro m
    induction m with
    | zero => intro i h1 h2; omega
    | succ m ih =>
      intro k hk hm
      rw [wY_before_10]
      have p1 := qe_psl o a k (by omega)
      have p2 := qe_psl o b k (by omega)
      refine pk_le n k (fun h => ?_) (fun h => ?_)
      · have e : k = n := by omega
        subst e
        exact pk_le _ _ h0 h1
      · have hz := ih (k + 1) (by omega) (by omega)
        have hok := ho k h
        have c36 : ∀ z, z = qe_ps o a (k + 1) → wY_before_36 post (wY_before_10 post (nI a) (nI b) (nI n) (nI c) yZ yW yN yL yO m) (nI a) (nI b) (nI (qe_ps o b k)) (nI k) (nI z) (nI n) (nI c) yZ yW yN yL yO := by
          intro z ez
          unfold wY_before_36
          rw [nI_clamp (n := k) (by omega), hO k h, ez]
          have e2 : qe_ps o b (k + 1) = if o k = b then k else qe_ps o b k := rfl
          rw [e2] at hz
          refine ⟨vp_in_nI (by omega) (by decide), pk_eq (o k) b (fun h3 => nm_r (nI_1 k) ?_) (fun h3 => nm_r (nI_1 k) ?_)⟩
          · rw [if_pos h3] at hz; exact hz
          · rw [if_neg h3] at hz; exact hz
        have e1 : qe_ps o a (k + 1) = if o k = a then k else qe_ps o a k := rfl
        rw [nI_clamp (n := k) (by omega), hO k h]
        refine ⟨vp_in_nI (by omega) (by decide), pk_eq (o k) a (fun h3 => c36 k ?_) (fun h3 => c36 (qe_ps o a k) ?_)⟩
        · rw [e1, if_pos h3]
        · rw [e1, if_neg h3]
  exact ⟨n + 1, main (n + 1) 0 (by omega) (by omega)⟩
/-! the reference's least distances -/
theorem qe_di {i : Nat} (h2 : 2 ≤ n) (hn : n ≤ 6) (hi : i < qe_fa n) : (qe_en n qe_tt n 0).drop i = qe_sl n i :: (qe_en n qe_tt n 0).drop (i + 1) := by
  rw [← qe_all h2 hn]
  have hl : i < ((List.range (qe_fa n)).map (qe_sl n)).length := by rw [List.length_map, List.length_range]; exact hi
  rw [List.drop_eq_getElem_cons hl]
  rw [List.getElem_map, List.getElem_range]
theorem qe_dn {i : Nat} (h2 : 2 ≤ n) (hn : n ≤ 6) (hi : qe_fa n ≤ i) : (qe_en n qe_tt n 0).drop i = [] := by
  rw [← qe_all h2 hn]
  exact List.drop_eq_nil_of_le (by rw [List.length_map, List.length_range]; exact hi)
theorem qe_sm {i : Nat} (h2 : 2 ≤ n) (hn : n ≤ 6) (hi : i < qe_fa n) : qe_sl n i ∈ qe_en n qe_tt n 0 := by
  rw [← qe_all h2 hn]
  exact List.mem_map.mpr ⟨i, List.mem_range.mpr hi, rfl⟩
theorem qe_so {i : Nat} (h2 : 2 ≤ n) (hn : n ≤ 6) (hi : i < qe_fa n) : (∀ k, k < n → (qe_sl n i).getD k 0 < n) ∧ (∀ j k, j < k → k < n → (qe_sl n i).getD k 0 ≠ (qe_sl n i).getD j 0) ∧ ∀ P, qe_dy P (fun k => (qe_sl n i).getD k 0) n = qe_ds P (qe_sl n i) := by
  obtain ⟨h3, h4, h5⟩ := qe_ok hn n 0 _ (by omega) (qe_sm h2 hn hi)
  have hg : ∀ k (hk : k < (qe_sl n i).length), (qe_sl n i).getD k 0 = (qe_sl n i)[k] := by
    intro k hk
    rw [List.getD_eq_getElem?_getD, List.getElem?_eq_getElem hk]; rfl
  refine ⟨fun k hk => ?_, fun j k hjk hk => ?_, fun P => ?_⟩
  · rw [hg k (by omega)]
    exact (h3 _ (List.getElem_mem _)).1
  · rw [hg k (by omega), hg j (by omega)]
    have := List.pairwise_iff_getElem.mp h4 j k (by omega) (by omega) hjk
    exact fun z => this z.symm
  · have := qe_dl P (qe_sl n i)
    rw [h5] at this
    exact this.symm
theorem qy_least {post : Int32 → SY → Prop} (D : qr_D n c w pl) (Y : qr_Y n c w pl yW yN yL) (hp : ∀ yO, post (nI (qe_mn (qp_P c w pl) 100000 (qe_en n qe_tt n 0))) ((nI n), (nI c), (nI (qe_fa n)), yW, yN, yL, yO)) : wpY_least post ((nI n), (nI c), (nI (qe_fa n)), yW, yN, yL, yO) := by
  have h2 := D.1
  have h6 := D.2.1
  have h720 := qe_fal h6
  have main : ∀ m i v yO, i ≤ qe_fa n → qe_fa n < m + i → v ≤ 100000 → (∀ yO, post (nI (qe_mn (qp_P c w pl) v ((qe_en n qe_tt n 0).drop i))) ((nI n), (nI c), (nI (qe_fa n)), yW, yN, yL, yO)) → wY_least_5 post m (nI v) (nI i) (nI n) (nI c) (nI (qe_fa n)) yW yN yL yO := by
    intro m
    induction m with
    | zero => intro i v yO h1 h2; omega
    | succ m ih =>
      intro i v yO hi hm hv hq
      rw [wY_least_5]
      refine pk_le (qe_fa n) i (fun h => ?_) (fun h => pk_le 720 i (fun h' => absurd h' (by omega)) (fun h' => qy_spell h2 h6 h fun yO' hO => ?_))
      · rw [qe_dn h2 h6 h] at hq; exact hq yO
      · obtain ⟨o1, o2, o3⟩ := qe_so h2 h6 h
        refine qy_dist D Y hO o1 o2 ?_
        rw [o3]
        rw [qe_di h2 h6 h, qe_mnc] at hq
        have hmem := (qe_ok h6 n 0 _ (by omega) (qe_sm h2 h6 h)).2.2
        have hdb := qe_db (qp_45 D) (qe_sl n i) (by omega)
        refine pk_le v (qe_ds (qp_P c w pl) (qe_sl n i)) (fun h3 => nm_r (nI_1 i) ?_) (fun h3 => nm_r (nI_1 i) ?_)
        · rw [if_neg (by omega)] at hq
          exact ih (i + 1) v yO' (by omega) (by omega) hv hq
        · rw [if_pos h3] at hq
          exact ih (i + 1) _ yO' (by omega) (by omega) (by omega) hq
  exact ⟨qe_fa n + 1, main _ 0 100000 yO (by omega) (by omega) (Nat.le_refl _) hp⟩
theorem qy_leastWith {post : Int32 → SY → Prop} (D : qr_D n c w pl) (Y : qr_Y n c w pl yW yN yL) {a b : Nat} (ha : a < n) (hb : b < n) (hab : a ≠ b) (hp : ∀ yO, post (nI (qe_mn (qp_P c w pl) 100000 ((qe_en n qe_tt n 0).filter (qe_bf n a b)))) ((nI n), (nI c), (nI (qe_fa n)), yW, yN, yL, yO)) : wpY_leastWith post ((nI n), (nI c), (nI (qe_fa n)), yW, yN, yL, yO) (nI a) (nI b) := by
  have h2 := D.1
  have h6 := D.2.1
  have h720 := qe_fal h6
  have main : ∀ m i v yO, i ≤ qe_fa n → qe_fa n < m + i → v ≤ 100000 → (∀ yO, post (nI (qe_mn (qp_P c w pl) v (((qe_en n qe_tt n 0).drop i).filter (qe_bf n a b)))) ((nI n), (nI c), (nI (qe_fa n)), yW, yN, yL, yO)) → wY_leastWith_29 post (nI a) (nI b) m (nI v) (nI i) (nI n) (nI c) (nI (qe_fa n)) yW yN yL yO := by
    intro m
    induction m with
    | zero => intro i v yO h1 h2; omega
    | succ m ih =>
      intro i v yO hi hm hv hq
      rw [wY_leastWith_29]
      refine pk_le (qe_fa n) i (fun h => ?_) (fun h => pk_le 720 i (fun h' => absurd h' (by omega)) (fun h' => qy_spell h2 h6 h fun yO' hO => ?_))
      · rw [qe_dn h2 h6 h] at hq; exact hq yO
      · obtain ⟨o1, o2, o3⟩ := qe_so h2 h6 h
        rw [qe_di h2 h6 h, List.filter_cons] at hq
        refine qy_before h6 ha hb hO o1 (fun hbf => br_t rfl (nm_r (nI_1 i) ?_)) (fun hbf => br_f qa_n1 (qy_dist D Y hO o1 o2 ?_))
        · rw [show qe_bf n a b (qe_sl n i) = false from decide_eq_false (by omega), if_neg (by decide)] at hq
          exact ih (i + 1) v yO' (by omega) (by omega) hv hq
        · rw [show qe_bf n a b (qe_sl n i) = true from decide_eq_true hbf, if_pos rfl, qe_mnc] at hq
          rw [o3]
          have hmem := (qe_ok h6 n 0 _ (by omega) (qe_sm h2 h6 h)).2.2
          have hdb := qe_db (qp_45 D) (qe_sl n i) (by omega)
          refine pk_le v (qe_ds (qp_P c w pl) (qe_sl n i)) (fun h3 => nm_r (nI_1 i) ?_) (fun h3 => nm_r (nI_1 i) ?_)
          · rw [if_neg (by omega)] at hq
            exact ih (i + 1) v yO' (by omega) (by omega) hv hq
          · rw [if_pos h3] at hq
            exact ih (i + 1) _ yO' (by omega) (by omega) (by omega) hq
  refine br_f (fun z => hab ((nI_eq (by omega) (by omega)).mp z)) (qy_doc1 h6 ha (br_f qa_n1 (qy_doc1 h6 hb (br_f qa_n1 ⟨qe_fa n + 1, ?_⟩))))
  exact main _ 0 100000 yO (by omega) (by omega) (Nat.le_refl _) hp
theorem qe_mna (P : Nat → Nat → Nat) (L : List (List Nat)) : ∀ m, qe_mn P m L = m ∨ ∃ r, r ∈ L ∧ qe_ds P r = qe_mn P m L := by
  induction L with
  | nil => intro m; exact Or.inl rfl
  | cons r L ih =>
    intro m
    rw [qe_mnc]
    by_cases h : qe_ds P r < m
    · rw [if_pos h]
      rcases ih (qe_ds P r) with h1 | ⟨x, hx, e⟩
      · exact Or.inr ⟨r, List.mem_cons_self .., h1.symm⟩
      · exact Or.inr ⟨x, List.mem_cons_of_mem _ hx, e⟩
    · rw [if_neg h]
      rcases ih m with h1 | ⟨x, hx, e⟩
      · exact Or.inl h1
      · exact Or.inr ⟨x, List.mem_cons_of_mem _ hx, e⟩
theorem qy_ba21 {post : Int32 → SY → Prop} (D : qr_D n c w pl) (Y : qr_Y n c w pl yW yN yL) {k b : Nat} (hk : k < n) (hb : b ≤ 100000) :
    ∀ m i yO, i ≤ qe_fa n → qe_fa n < m + i → (∃ r, r ∈ (qe_en n qe_tt n 0).drop i ∧ qe_ds (qp_P c w pl) r = b) → (∀ yO, post (nI ((qe_ff (qp_P c w pl) b ((qe_en n qe_tt n 0).drop i)).getD k 0)) ((nI n), (nI c), (nI (qe_fa n)), yW, yN, yL, yO)) → wY_bestAt_21 post (nI k) (nI b) m (nI i) (nI n) (nI c) (nI (qe_fa n)) yW yN yL yO := by
  have h2 := D.1
  have h6 := D.2.1
  have h720 := qe_fal h6
  intro m
  induction m with
  | zero => intro i yO h1 h2; omega
  | succ m ih =>
    intro i yO hi hm hx hq
    rw [wY_bestAt_21]
    refine pk_le (qe_fa n) i (fun h => ?_) (fun h => pk_le 720 i (fun h' => absurd h' (by omega)) (fun h' => qy_spell h2 h6 h fun yO' hO => ?_))
    · obtain ⟨r, hr, -⟩ := hx
      rw [qe_dn h2 h6 h] at hr
      cases hr
    · obtain ⟨o1, o2, o3⟩ := qe_so h2 h6 h
      rw [qe_di h2 h6 h, qe_ffs] at hq
      rw [qe_di h2 h6 h] at hx
      have hmem := (qe_ok h6 n 0 _ (by omega) (qe_sm h2 h6 h)).2.2
      have hdb := qe_db (qp_45 D) (qe_sl n i) (by omega)
      refine qy_dist D Y hO o1 o2 ?_
      rw [o3]
      refine pk_eq (qe_ds (qp_P c w pl) (qe_sl n i)) b (fun h3 => ?_) (fun h3 => nm_r (nI_1 i) ?_)
      · rw [if_pos h3] at hq
        rw [nI_clamp (n := k) (by omega), hO k hk]
        exact ⟨vp_in_nI (by omega) (by decide), hq yO'⟩
      · rw [if_neg h3] at hq
        refine ih (i + 1) yO' (by omega) (by omega) ?_ hq
        obtain ⟨r, hr, e⟩ := hx
        rcases List.mem_cons.mp hr with h4 | h4
        · rw [h4] at e; exact absurd e h3
        · exact ⟨r, h4, e⟩
theorem qy_bestAt {post : Int32 → SY → Prop} (D : qr_D n c w pl) (Y : qr_Y n c w pl yW yN yL) {k : Nat} (hk : k < n) (hp : ∀ yO, post (nI ((qe_R (qp_P c w pl) n qe_tt).2.getD k 0)) ((nI n), (nI c), (nI (qe_fa n)), yW, yN, yL, yO)) : wpY_bestAt post ((nI n), (nI c), (nI (qe_fa n)), yW, yN, yL, yO) (nI k) := by
  have h2 := D.1
  have h6 := D.2.1
  obtain ⟨e1, e2, e3, e4⟩ := qe_Rne (P := qp_P c w pl) (al := qe_tt) h6 (qp_45 D) (qe_net h6)
  refine br_f (nI_pos (by omega)) (br_t (nI_lt hk (by omega)) (qy_least D Y fun yO' => ⟨qe_fa n + 1, ?_⟩))
  refine qy_ba21 D Y hk (by omega) (qe_fa n + 1) 0 yO' (by omega) (by omega) ?_ (fun yO => ?_)
  · rcases qe_mna (qp_P c w pl) (qe_en n qe_tt n 0) 100000 with h | h
    · omega
    · exact h
  · rw [← e1]
    have := hp yO
    rw [e2] at this
    exact this
end QY
end
section
/-! the reference: scores, top sets, paths -/
theorem qk_as (a b c : Int32) : a + b - c = a + (b - c) := by
  rw [Int32.sub_eq_add_neg, Int32.sub_eq_add_neg, Int32.add_assoc]
section QY
variable {n c : Nat} {w : Nat → Nat} {pl : Nat → Nat → Nat} {yZ : Int32} {yW yN yL yO : Nat → Int32}
theorem qy_score {post : Int32 → Prop} (D : qr_D n c w pl) (Y : qr_Y n c w pl yW yN yL) {d : Nat} (hd : d < n) (hp : post (qk_b (qp_P c w pl) d n)) : wpY_score post ((nI n), (nI c), yZ, yW, yN, yL, yO) (nI d) := by
  have h6 := D.2.1
  have main : ∀ m i, i ≤ n → n < m + i → wY_score_16 post (nI d) (nI n) (nI c) yZ yW yN yL yO m (qk_b (qp_P c w pl) d i) (nI i) := by
    intro m
    induction m with
    | zero => intro i h1 h2; omega
    | succ m ih =>
      intro i hi hm
      rw [wY_score_16]
      refine pk_le n i (fun h => ?_) (fun h => ?_)
      · have e : i = n := by omega
        subst e
        exact hp
      · have hz := ih (i + 1) (by omega) (by omega)
        rw [qk_bs] at hz
        refine pk_eq i d (fun h1 => nm_r (nI_1 i) ?_) (fun h1 => ?_)
        · subst h1
          rw [Int32.sub_self, Int32.add_zero] at hz
          exact hz
        · refine qy_pref D Y hd h (fun z => h1 z.symm) ?_
          refine qy_pref D Y h hd h1 ?_
          exact nm_r (qk_as _ _ _) (nm_r (nI_1 i) hz)
  unfold wpY_score
  dsimp only
  refine qy_doc1 h6 hd ?_
  exact br_f qa_n1 ⟨n + 1, main (n + 1) 0 (by omega) (by omega)⟩
theorem qy_sA22 {post : Int32 → Prop} {J2 : Int32 → Prop} (D : qr_D n c w pl) (Y : qr_Y n c w pl yW yN yL) {d : Nat} {v : Int32} (hd : d < n)
    (h1 : nI (qk_r (qk_z (qp_P c w pl) n) n d) = v → post (nI d)) (h0 : ¬ nI (qk_r (qk_z (qp_P c w pl) n) n d) = v → J2 (nI (d + 1))) :
    ∀ m i, i ≤ n → n < m + i → wY_scoreAt_22 post J2 v (nI d) (qk_b (qp_P c w pl) d n) (nI n) (nI c) yZ yW yN yL yO m (nI (qk_r (qk_z (qp_P c w pl) n) i d)) (nI i) := by
  have h6 := D.2.1
  intro m
  induction m with
  | zero => intro i h1 h2; omega
  | succ m ih =>
    intro i hi hm
    rw [wY_scoreAt_22]
    refine pk_le n i (fun h => ?_) (fun h => ?_)
    · have e : i = n := by omega
      subst e
      exact br_c h1 (fun z => nm_r (nI_1 d) (h0 z))
    · have hz := ih (i + 1) (by omega) (by omega)
      have e0 : qk_r (qk_z (qp_P c w pl) n) (i + 1) d = qk_r (qk_z (qp_P c w pl) n) i d + qk_i (qk_z (qp_P c w pl) n) i d := rfl
      rw [e0] at hz
      have yes : qk_a (qk_z (qp_P c w pl) n) i d → wY_scoreAt_22 post J2 v (nI d) (qk_b (qp_P c w pl) d n) (nI n) (nI c) yZ yW yN yL yO m (nI (qk_r (qk_z (qp_P c w pl) n) i d + 1)) (nI (i + 1)) := by
        intro h; rw [qk_i1 h] at hz; exact hz
      have no : ¬ qk_a (qk_z (qp_P c w pl) n) i d → wY_scoreAt_22 post J2 v (nI d) (qk_b (qp_P c w pl) d n) (nI n) (nI c) yZ yW yN yL yO m (nI (qk_r (qk_z (qp_P c w pl) n) i d)) (nI (i + 1)) := by
        intro h; rw [qk_i0 h] at hz; exact hz
      refine qy_score D Y h ?_
      refine br_c (fun k1 => nm_r (nI_1 _) (nm_r (nI_1 i) (yes (Or.inl ?_)))) (fun k1 => br_c (fun k2 => pk_le d i (fun k3 => nm_r (Int32.add_zero _) (nm_r (nI_1 i) (no ?_))) (fun k3 => nm_r (nI_1 _) (nm_r (nI_1 i) (yes (Or.inr ⟨?_, k3⟩))))) (fun k2 => nm_r (Int32.add_zero _) (nm_r (nI_1 i) (no ?_))))
      · exact Int32.lt_iff_toInt_lt.mp k1
      · have e : qk_z (qp_P c w pl) n i = qk_z (qp_P c w pl) n d := congrArg Int32.toInt k2
        unfold qk_a
        omega
      · exact congrArg Int32.toInt k2
      · rw [Int32.lt_iff_toInt_lt] at k1
        rw [← Int32.toInt_inj] at k2
        intro z
        rcases z with z | z
        · exact k1 z
        · exact k2 z.1
theorem qy_sAt1 {post : Int32 → Prop} (D : qr_D n c w pl) (Y : qr_Y n c w pl yW yN yL) {e k : Nat} (he : e < n) (hk : k < n) (hr : qk_r (qk_z (qp_P c w pl) n) n e = k) (hp : post (nI e)) : wpY_scoreAt post ((nI n), (nI c), yZ, yW, yN, yL, yO) (nI k) := by
  have h6 := D.2.1
  have main : ∀ m d, d ≤ e → e < m + d → wY_scoreAt_2 post (nI k) (nI n) (nI c) yZ yW yN yL yO m (nI d) := by
    intro m
    induction m with
    | zero => intro i h1 h2; omega
    | succ m ih =>
      intro d hd hm
      rw [wY_scoreAt_2]
      refine pk_le n d (fun h => absurd h (by omega)) (fun h => ?_)
      refine qy_score D Y h ?_
      have hlt := qk_lt (z := qk_z (qp_P c w pl) n) h
      refine ⟨n + 1, qy_sA22 D Y h (fun z => ?_) (fun z => ih (d + 1) ?_ (by omega)) (n + 1) 0 (by omega) (by omega)⟩
      · have z' := (nI_eq (by omega) (by omega)).mp z
        rw [qk_inj h he (z'.trans hr.symm)]
        exact hp
      · rcases Nat.lt_or_ge d e with h1 | h1
        · exact h1
        · exfalso
          have e' : d = e := by omega
          subst e'
          exact z (congrArg nI hr)
  exact ⟨n + 1, main (n + 1) 0 (by omega) (by omega)⟩
theorem qy_sAt0 {post : Int32 → Prop} (D : qr_D n c w pl) (Y : qr_Y n c w pl yW yN yL) {v : Int32} (hv : v < 0 ∨ nI n ≤ v) (hp : post (-1)) : wpY_scoreAt post ((nI n), (nI c), yZ, yW, yN, yL, yO) v := by
  have h6 := D.2.1
  have main : ∀ m d, d ≤ n → n < m + d → wY_scoreAt_2 post v (nI n) (nI c) yZ yW yN yL yO m (nI d) := by
    intro m
    induction m with
    | zero => intro i h1 h2; omega
    | succ m ih =>
      intro d hd hm
      rw [wY_scoreAt_2]
      refine pk_le n d (fun h => hp) (fun h => ?_)
      refine qy_score D Y h ?_
      have hlt := qk_lt (z := qk_z (qp_P c w pl) n) h
      refine ⟨n + 1, qy_sA22 D Y h (fun z => ?_) (fun z => ih (d + 1) (by omega) (by omega)) (n + 1) 0 (by omega) (by omega)⟩
      exfalso
      rw [← z] at hv
      rcases hv with hv | hv
      · exact nI_pos (by omega) hv
      · exact nI_ge hlt (by omega) hv
  exact ⟨n + 1, main (n + 1) 0 (by omega) (by omega)⟩
/-! top sets -/
def qt_F (n : Nat) (P : Nat → Nat → Nat) (g a b : Nat) (x : Int32) : Prop :=
  (x = 1 ∧ ∀ a' b', a' < n → b' < n → (a' < a ∨ (a' = a ∧ b' < b)) → g.testBit a' = true → g.testBit b' = false → P b' a' < P a' b') ∨ (x = 0 ∧ ¬ qt_D n P g)
theorem qt_F1 {n : Nat} {P : Nat → Nat → Nat} {g a b : Nat} {x : Int32} (h : qt_F n P g a b x) (h2 : ¬ (g.testBit a = true ∧ g.testBit b = false)) : qt_F n P g a (b + 1) x := by
  rcases h with ⟨hx, h⟩ | h
  · refine Or.inl ⟨hx, fun a' b' ha hb hlt h3 h4 => ?_⟩
    by_cases he : a' = a ∧ b' = b
    · obtain ⟨rfl, rfl⟩ := he
      exact absurd ⟨h3, h4⟩ h2
    · exact h a' b' ha hb (by omega) h3 h4
  · exact Or.inr h
theorem qt_F2 {n : Nat} {P : Nat → Nat → Nat} {g a b : Nat} {x : Int32} (h : qt_F n P g a b x) (h2 : P b a < P a b) : qt_F n P g a (b + 1) x := by
  rcases h with ⟨hx, h⟩ | h
  · refine Or.inl ⟨hx, fun a' b' ha hb hlt h3 h4 => ?_⟩
    by_cases he : a' = a ∧ b' = b
    · obtain ⟨rfl, rfl⟩ := he
      exact h2
    · exact h a' b' ha hb (by omega) h3 h4
  · exact Or.inr h
theorem qt_F3 {n : Nat} {P : Nat → Nat → Nat} {g a : Nat} {x : Int32} (h : qt_F n P g a n x) : qt_F n P g (a + 1) 0 x := by
  rcases h with ⟨hx, h⟩ | h
  · exact Or.inl ⟨hx, fun a' b' ha hb hlt h3 h4 => h a' b' ha hb (by omega) h3 h4⟩
  · exact Or.inr h
theorem qy_top {post : Int32 → Prop} (D : qr_D n c w pl) (Y : qr_Y n c w pl yW yN yL) {g : Nat} (hg : g < 64) (h1 : qt_D n (qp_P c w pl) g → post 1) (h0 : ¬ qt_D n (qp_P c w pl) g → post 0) : wpY_top post ((nI n), (nI c), yZ, yW, yN, yL, yO) (nI g) := by
  have h6 := D.2.1
  have inner : ∀ (J4 : Int32 → Int32 → Prop) (a : Nat), a < n → (∀ x, qt_F n (qp_P c w pl) g (a + 1) 0 x → J4 x (nI (a + 1))) → ∀ m b x, b ≤ n → n < m + b → qt_F n (qp_P c w pl) g a b x → wY_top_15 post J4 (nI g) (nI a) (nI n) (nI c) yZ yW yN yL yO m x (nI b) := by
    intro J4 a ha hJ m
    induction m with
    | zero => intro b x h1 h2; omega
    | succ m ih =>
      intro b x hb hm hF
      rw [wY_top_15]
      refine pk_le n b (fun h => nm_r (nI_1 a) (hJ x ?_)) (fun h => qa_big hg (by omega) (fun k1 => qa_bif hg (by omega) (fun k2 => ?_) (fun k2 => nm_r (nI_1 b) (ih (b + 1) x (by omega) (by omega) (qt_F1 hF fun z => ?_)))) (fun k1 => nm_r (nI_1 b) (ih (b + 1) x (by omega) (by omega) (qt_F1 hF fun z => ?_))))
      · have e : b = n := by omega
        subst e
        exact qt_F3 hF
      · refine br_c (fun z => nm_r (nI_1 b) (ih (b + 1) 0 (by omega) (by omega) ?_)) (fun z => ?_)
        · rcases hF with ⟨hx, -⟩ | ⟨-, hF⟩
          · rw [hx] at z; exact absurd z qa_n1
          · exact Or.inr ⟨rfl, hF⟩
        · have hab : a ≠ b := by
            intro e
            rw [e, k2] at k1
            cases k1
          have hx : x = 1 := by
            rcases hF with hF | hF
            · exact hF.1
            · exact absurd hF.1 z
          refine qy_beats D Y ha h hab (fun k3 => br_t rfl (nm_r (nI_1 b) (ih (b + 1) 0 (by omega) (by omega) (Or.inr ⟨rfl, fun H => ?_⟩)))) (fun k3 => br_f qa_n1 (nm_r (nI_1 b) (ih (b + 1) 1 (by omega) (by omega) ?_)))
          · have := H a b ha h k1 k2
            omega
          · rw [← hx]; exact qt_F2 hF k3
      · rw [z.2] at k2; cases k2
      · rw [z.1] at k1; cases k1
  have main : ∀ m a x, a ≤ n → n < m + a → qt_F n (qp_P c w pl) g a 0 x → wY_top_4 post (nI g) (nI n) (nI c) yZ yW yN yL yO m x (nI a) := by
    intro m
    induction m with
    | zero => intro a x h1 h2; omega
    | succ m ih =>
      intro a x ha hm hF
      rw [wY_top_4]
      refine pk_le n a (fun h => ?_) (fun h => ⟨n + 1, ?_⟩)
      · rcases hF with ⟨hx, hF⟩ | ⟨hx, hF⟩
        · rw [hx]
          exact ⟨rfl, h1 fun a' b' k1 k2 k3 k4 => hF a' b' k1 k2 (by omega) k3 k4⟩
        · rw [hx]
          exact ⟨rfl, h0 hF⟩
      · exact inner _ a h (fun x hx => ih (a + 1) x (by omega) (by omega) hx) (n + 1) 0 x (by omega) (by omega) hF
  exact ⟨n + 1, main (n + 1) 0 1 (by omega) (by omega) (Or.inl ⟨rfl, fun a' b' _ _ hlt => absurd hlt (by omega)⟩)⟩
theorem qy_size {post : Int32 → Prop} {g : Nat} (hg : g < 64) (hp : post (nI (qt_sz 6 g))) : wpY_sizeOf post ((nI n), (nI c), yZ, yW, yN, yL, yO) (nI g) := by
  have main : ∀ m i, i ≤ 6 → 6 < m + i → wY_sizeOf_4 post (nI g) (nI n) (nI c) yZ yW yN yL yO m (nI (qt_sz i g)) (nI i) := by
    intro m
    induction m with
    | zero => intro i h1 h2; omega
    | succ m ih =>
      intro i hi hm
      rw [wY_sizeOf_4]
      refine pk_le 6 i (fun h => ?_) (fun h => ?_)
      · have e : i = 6 := by omega
        subst e
        exact hp
      · rw [qa_bt hg (by omega)]
        exact nm_r (nI_add _ _) (nm_r (nI_1 i) (ih (i + 1) (by omega) (by omega)))
  exact ⟨7, main 7 0 (by omega) (by omega)⟩
theorem qy_champion {post : Int32 → Prop} (D : qr_D n c w pl) (Y : qr_Y n c w pl yW yN yL) {A : Nat} (hA : qt_T n (qp_P c w pl) A) (hp : post (qt_cv A n n)) : wpY_champion post ((nI n), (nI c), yZ, yW, yN, yL, yO) := by
  have h6 := D.2.1
  have main : ∀ m j, j ≤ n → j < m → post (qt_cv A n j) → wY_champion_2 post (nI n) (nI c) yZ yW yN yL yO m (nI (n - j)) := by
    intro m
    induction m with
    | zero => intro j h1 h2; omega
    | succ m ih =>
      intro j hj hm hp
      rw [wY_champion_2]
      refine pk_le n (n - j) (fun h => ?_) (fun h => ?_)
      · have h2 := D.1
        have e : j = 0 := by omega
        subst e
        exact hp
      · obtain ⟨i, rfl⟩ : ∃ i, j = i + 1 := ⟨j - 1, by omega⟩
        rw [qt_cvs] at hp
        generalize he : n - (i + 1) = e at hp h ⊢
        have e1 : e + 1 = n - i := by omega
        rw [qa_sh (by omega)]
        refine qy_top D Y (qa_p2 (by omega)) (fun k1 => br_f qa_n1 ?_) (fun k1 => br_t rfl (nm_r (nI_1 e) ?_))
        · rw [if_pos ((qt_ch1 h6 h hA).mp k1)] at hp; exact hp
        · rw [if_neg (fun z => k1 ((qt_ch1 h6 h hA).mpr z))] at hp
          rw [e1]; exact ih i (by omega) (by omega) hp
  have h := main (n + 1) n (Nat.le_refl _) (by omega) hp
  rw [Nat.sub_self] at h
  exact ⟨n + 1, h⟩
theorem qy_topSet {post : Int32 → Prop} (D : qr_D n c w pl) (Y : qr_Y n c w pl yW yN yL) (hp : ∀ B, qt_T n (qp_P c w pl) B → post (nI B)) : wpY_topSet post ((nI n), (nI c), yZ, yW, yN, yL, yO) := by
  have h2 := D.1
  have h6 := D.2.1
  have h64 : 2 ^ n ≤ 64 := qt_p64 ⟨n, by omega⟩
  have main : ∀ m s B, 1 ≤ s → s ≤ 2 ^ n → 2 ^ n < m + s → 1 ≤ B → B < 2 ^ n → qt_D n (qp_P c w pl) B → (∀ T, 1 ≤ T → T < s → qt_D n (qp_P c w pl) T → qt_sz n B ≤ qt_sz n T) → wY_topSet_11 post (nI n) (nI c) yZ yW yN yL yO m (nI B) (nI s) := by
    intro m
    induction m with
    | zero => intro s B _ h1 h2; omega
    | succ m ih =>
      intro s B hs1 hs hm b1 b2 b3 b4
      rw [wY_topSet_11, qa_sh (by omega)]
      refine pk_le (2 ^ n) s (fun h => hp B ⟨b1, b2, b3, fun T t1 t2 t3 => b4 T t1 (by omega) t3⟩) (fun h => ?_)
      refine qy_top D Y (by omega) (fun k1 => br_f qa_n1 ?_) (fun k1 => br_t rfl (nm_r (nI_1 s) (ih (s + 1) B (by omega) (by omega) (by omega) b1 b2 b3 fun T t1 t2 t3 => ?_)))
      · refine qy_size (by omega) ?_
        refine qy_size (by omega) ?_
        rw [qt_sz6 h6 h, qt_sz6 h6 b2]
        have q1 := qt_szb n B
        have q2 := qt_szb n s
        refine pk_le (qt_sz n B) (qt_sz n s) (fun k2 => nm_r (nI_1 s) (ih (s + 1) B (by omega) (by omega) (by omega) b1 b2 b3 fun T t1 t2 t3 => ?_)) (fun k2 => nm_r (nI_1 s) (ih (s + 1) s (by omega) (by omega) (by omega) hs1 h k1 fun T t1 t2 t3 => ?_))
        · by_cases e : T = s
          · rw [e]; exact k2
          · exact b4 T t1 (by omega) t3
        · by_cases e : T = s
          · rw [e]; exact Nat.le_refl _
          · have := b4 T t1 (by omega) t3; omega
      · by_cases e : T = s
        · rw [e] at t3; exact absurd t3 k1
        · exact b4 T t1 (by omega) t3
  obtain ⟨f1, f2, f3⟩ := qt_full h2 h6
  exact nm_r (qa_fu (by omega)) ⟨2 ^ n + 1, main _ 1 (2 ^ n - 1) (by omega) (by omega) (by omega) f1 f2 (qt_fD _ h6) (fun T t1 t2 => absurd t2 (by omega))⟩
/-! paths -/
def qw_Q (n g : Nat) : Prop := g < 64 ∧ ∀ y, y < 6 → g.testBit y = true → y < n
theorem qw_Qa {n : Nat} {P : Nat → Nat → Nat} {s : Nat} (hn : n ≤ 6) : ∀ i g, i < 36 → qw_Q n g → qw_Q n (qw_ad n P s i g) := by
  intro i g hi hq
  refine ⟨qc_al hn (qw_A n P s) hi hq.1, fun y hy hb => ?_⟩
  rcases qw_A n P s i g hi hq.1 with h | ⟨x, hx, _, h⟩
  · rw [h] at hb; exact hq.2 y hy hb
  · rw [h] at hb
    by_cases hxy : x = y
    · omega
    · rw [qa_obn hq.1 (by omega) hy hxy] at hb; exact hq.2 y hy hb
theorem qy_re17 {post : Int32 → Prop} {J7 : Int32 → Int32 → Prop} (D : qr_D n c w pl) (Y : qr_Y n c w pl yW yN yL) {s r : Nat} (hs : s ≤ 45) :
    ∀ m j g, j ≤ 36 → j < m → qw_Q n g → J7 (nI (qc_ps (qw_ad n (qp_P c w pl) s) 36 j g)) (nI (r + 1)) → wY_reached_17 post J7 (nI s) (nI r) (nI n) (nI c) yZ yW yN yL yO m (nI g) (nI (36 - j)) := by
  have h6 := D.2.1
  intro m
  induction m with
  | zero => intro j g h1 h2; omega
  | succ m ih =>
    intro j g hj hm hq hJ
    rw [wY_reached_17]
    refine pk_le 36 (36 - j) (fun h => nm_r (nI_1 r) ?_) (fun h => ?_)
    · have e : j = 0 := by omega
      subst e
      exact hJ
    · obtain ⟨k, rfl⟩ : ∃ k, j = k + 1 := ⟨j - 1, by omega⟩
      rw [qc_pss] at hJ
      have hQ' := qw_Qa (P := qp_P c w pl) (s := s) h6 (36 - (k + 1)) g (by omega) hq
      generalize he : 36 - (k + 1) = i at hJ h hQ' ⊢
      have e1 : i + 1 = 36 - k := by omega
      rw [qa_m6 (by omega), qa_d6 (by omega)]
      have hx : i / 6 < 6 := by omega
      have hy : i % 6 < 6 := by omega
      have skip : ¬ (g.testBit (i / 6) = true ∧ g.testBit (i % 6) = false ∧ i % 6 < n ∧ s ≤ qp_P c w pl (i / 6) (i % 6) ∧ qp_P c w pl (i % 6) (i / 6) < qp_P c w pl (i / 6) (i % 6)) → wY_reached_17 post J7 (nI s) (nI r) (nI n) (nI c) yZ yW yN yL yO m (nI g) (nI (i + 1)) := by
        intro hne
        rw [show qw_ad n (qp_P c w pl) s i g = g from if_neg hne] at hJ
        rw [e1]; exact ih k g (by omega) (by omega) hq hJ
      have take : (g.testBit (i / 6) = true ∧ g.testBit (i % 6) = false ∧ i % 6 < n ∧ s ≤ qp_P c w pl (i / 6) (i % 6) ∧ qp_P c w pl (i % 6) (i / 6) < qp_P c w pl (i / 6) (i % 6)) → wY_reached_17 post J7 (nI s) (nI r) (nI n) (nI c) yZ yW yN yL yO m (nI (g ||| 2 ^ (i % 6))) (nI (i + 1)) := by
        intro hyes
        rw [show qw_ad n (qp_P c w pl) s i g = g ||| 2 ^ (i % 6) from if_pos hyes] at hJ hQ'
        rw [e1]; exact ih k _ (by omega) (by omega) hQ' hJ
      refine ⟨qa_n6, nm_e ⟨qa_n6, nm_e (qa_big hq.1 hx (fun k1 => qa_bif hq.1 hy (fun k2 => pk_le n (i % 6) (fun k3 => nm_r (nI_1 i) (skip fun z => ?_)) (fun k3 => ?_)) (fun k2 => nm_r (nI_1 i) (skip fun z => ?_))) (fun k1 => nm_r (nI_1 i) (skip fun z => ?_)))⟩⟩
      · omega
      · have hxn := hq.2 _ hx k1
        have hne : i / 6 ≠ i % 6 := by
          intro e
          rw [e, k2] at k1
          cases k1
        have b1 := qp_45 D (i / 6) (i % 6)
        refine qy_pref D Y hxn k3 hne ?_
        refine pk_lt (qp_P c w pl (i / 6) (i % 6)) s (fun k4 => nm_r (nI_1 i) (skip fun z => ?_)) (fun k4 => ?_)
        · omega
        · refine qy_beats D Y hxn k3 hne (fun k5 => br_t rfl (nm_r (nI_1 i) (skip fun z => ?_))) (fun k5 => br_f qa_n1 (nm_r (qa_or hq.1 hy) (nm_r (nI_1 i) (take ⟨k1, k2, k3, k4, k5⟩))))
          omega
      · rw [z.2.1] at k2; cases k2
      · rw [z.1] at k1; cases k1
theorem qy_reached {post : Int32 → Prop} (D : qr_D n c w pl) (Y : qr_Y n c w pl yW yN yL) {a s : Nat} (ha : a < n) (hs : s ≤ 45) (hp : post (nI (qw_re n (qp_P c w pl) s a))) : wpY_reached post ((nI n), (nI c), yZ, yW, yN, yL, yO) (nI a) (nI s) := by
  have h6 := D.2.1
  have main : ∀ m j g, j ≤ 6 → j < m → qw_Q n g → post (nI (qc_it (qw_ad n (qp_P c w pl) s) 36 j g)) → wY_reached_7 post (nI s) (nI n) (nI c) yZ yW yN yL yO m (nI g) (nI (6 - j)) := by
    intro m
    induction m with
    | zero => intro j g h1 h2; omega
    | succ m ih =>
      intro j g hj hm hq hJ
      rw [wY_reached_7]
      refine pk_le 6 (6 - j) (fun h => ?_) (fun h => ⟨37, ?_⟩)
      · have e : j = 0 := by omega
        subst e
        exact hJ
      · obtain ⟨i, rfl⟩ : ∃ i, j = i + 1 := ⟨j - 1, by omega⟩
        rw [qc_its] at hJ
        exact qy_re17 D Y hs 37 36 g (by omega) (by omega) hq (by
          rw [show 6 - (i + 1) + 1 = 6 - i by omega]
          exact ih i _ (by omega) (by omega) (qc_pq (qw_Qa h6) 36 g (Nat.le_refl _) hq) hJ)
  refine nm_r (qa_sh (by omega)) ⟨7, main 7 6 (2 ^ a) (by omega) (by omega) ⟨qa_p2 (by omega), fun y hy hb => ?_⟩ hp⟩
  rw [qa_pb (by omega) hy] at hb
  have := of_decide_eq_true hb
  omega
theorem qy_strength {post : Int32 → Prop} (D : qr_D n c w pl) (Y : qr_Y n c w pl yW yN yL) {a b : Nat} (ha : a < n) (hb : b < n) (hab : a ≠ b) (hp : post (nI (qw_w (qp_P c w pl) 6 a b))) : wpY_strength post ((nI n), (nI c), yZ, yW, yN, yL, yO) (nI a) (nI b) := by
  have h6 := D.2.1
  have h45 := qw_b (qp_45 D) 6 a b
  have main : ∀ m s, s ≤ 45 → s < m → qw_w (qp_P c w pl) 6 a b ≤ s → wY_strength_26 post (nI a) (nI b) (nI n) (nI c) yZ yW yN yL yO m (nI s) := by
    intro m
    induction m with
    | zero => intro s h1 h2; omega
    | succ m ih =>
      intro s hs hm hw
      rw [wY_strength_26]
      refine pk_lt s 1 (fun h => ?_) (fun h => ?_)
      · have e : qw_w (qp_P c w pl) 6 a b = 0 := by omega
        rw [e] at hp
        exact hp
      · refine qy_reached D Y ha hs ?_
        have hi := qw_iff (P := qp_P c w pl) h6 ha hb hab h (fun x y hx => qp_z D x y hx)
        refine qa_big (qw_rel h6 ha) (by omega) (fun k1 => ?_) (fun k1 => nm_r (e' := nI (s - 1)) ?_ (ih (s - 1) (by omega) (by omega) ?_))
        · have := hi.mp k1
          have e : qw_w (qp_P c w pl) 6 a b = s := by omega
          rw [e] at hp
          exact hp
        · obtain ⟨t, rfl⟩ : ∃ t, s = t + 1 := ⟨s - 1, by omega⟩
          exact pk_m1 t
        · have : ¬ s ≤ qw_w (qp_P c w pl) 6 a b := by
            intro z
            rw [hi.mpr z] at k1
            cases k1
          omega
  refine br_f (fun z => hab ((nI_eq (by omega) (by omega)).mp z)) (qy_doc1 h6 ha (br_f qa_n1 (qy_doc1 h6 hb (br_f qa_n1 ⟨46, ?_⟩))))
  exact main 46 45 (by omega) (by omega) h45
theorem qy_pw17 {post : Int32 → Prop} {J4 : Int32 → Int32 → Prop} (D : qr_D n c w pl) (Y : qr_Y n c w pl yW yN yL) {S a : Nat} (hS : S < 64) (ha : a < n) (hJ : J4 (nI (if qw_wi (qp_P c w pl) a n = true then S ||| 2 ^ a else S)) (nI (a + 1))) :
    ∀ m b, b ≤ n → n < m + b → wY_pathWinners_17 post J4 (nI S) (nI a) (nI n) (nI c) yZ yW yN yL yO m (nI (qw_wi (qp_P c w pl) a b).toNat) (nI b) := by
  have h6 := D.2.1
  intro m
  induction m with
  | zero => intro b h1 h2; omega
  | succ m ih =>
    intro b hb hm
    rw [wY_pathWinners_17]
    refine pk_le n b (fun h => ?_) (fun h => ?_)
    · have e : b = n := by omega
      subst e
      cases hw : qw_wi (qp_P c w pl) a b
      · rw [hw, if_neg (by decide)] at hJ
        exact br_t rfl (nm_r (nI_1 a) hJ)
      · rw [hw, if_pos rfl] at hJ
        exact br_f qa_n1 (nm_r (qa_or hS (by omega)) (nm_r (nI_1 a) hJ))
    · have hz := ih (b + 1) (by omega) (by omega)
      rw [qw_wis] at hz
      have fin : ∀ one two : Int32, (one < two ↔ ¬ (a = b ∨ qw_w (qp_P c w pl) 6 b a ≤ qw_w (qp_P c w pl) 6 a b)) → ((nI (qw_wi (qp_P c w pl) a b).toNat = 0 → ∀ x4 : Int32, x4 = nI b + 1 → wY_pathWinners_17 post J4 (nI S) (nI a) (nI n) (nI c) yZ yW yN yL yO m 0 x4) ∧ (¬ nI (qw_wi (qp_P c w pl) a b).toNat = 0 → ((one < two → ∀ x4 : Int32, x4 = nI b + 1 → wY_pathWinners_17 post J4 (nI S) (nI a) (nI n) (nI c) yZ yW yN yL yO m 0 x4) ∧ (¬ one < two → ∀ x4 : Int32, x4 = nI b + 1 → wY_pathWinners_17 post J4 (nI S) (nI a) (nI n) (nI c) yZ yW yN yL yO m 1 x4)))) := by
        intro one two hot
        cases hw : qw_wi (qp_P c w pl) a b
        · rw [hw, Bool.false_and] at hz
          exact br_t rfl (nm_r (nI_1 b) hz)
        · rw [hw, Bool.true_and] at hz
          refine br_f qa_n1 (br_c (fun k1 => nm_r (nI_1 b) ?_) (fun k1 => nm_r (nI_1 b) ?_))
          · have k2 := hot.mp k1
            rw [decide_eq_false (fun z => k2 (Or.inl z)), decide_eq_false (fun z => k2 (Or.inr z))] at hz
            exact hz
          · have k2 : a = b ∨ qw_w (qp_P c w pl) 6 b a ≤ qw_w (qp_P c w pl) 6 a b := Classical.byContradiction fun z => k1 (hot.mpr z)
            have k3 : (decide (a = b) || decide (qw_w (qp_P c w pl) 6 b a ≤ qw_w (qp_P c w pl) 6 a b)) = true := by
              rcases k2 with k2 | k2
              · rw [decide_eq_true k2]; rfl
              · rw [decide_eq_true k2, Bool.or_true]
            rw [k3] at hz
            exact hz
      by_cases hab : a = b
      · subst hab
        refine br_t rfl ?_
        refine br_t rfl ?_
        refine fin (-1) (-1) ⟨fun z => absurd z (by decide), fun z => absurd (Or.inl rfl) z⟩
      · have b1 := qw_b (qp_45 D) 6 a b
        have b2 := qw_b (qp_45 D) 6 b a
        refine qy_strength D Y ha h hab ?_
        refine qy_strength D Y h ha (fun z => hab z.symm) ?_
        refine fin _ _ ?_
        rw [nI_ltI (by omega) (by omega)]
        constructor
        · intro z z2
          rcases z2 with z2 | z2
          · exact hab z2
          · omega
        · intro z
          exact Nat.not_le.mp fun z2 => z (Or.inr z2)
theorem qy_pw {post : Int32 → Prop} (D : qr_D n c w pl) (Y : qr_Y n c w pl yW yN yL) (hp : post (nI (qw_pw (qp_P c w pl) n n))) : wpY_pathWinners post ((nI n), (nI c), yZ, yW, yN, yL, yO) := by
  have h6 := D.2.1
  have main : ∀ m a, a ≤ n → n < m + a → wY_pathWinners_4 post (nI n) (nI c) yZ yW yN yL yO m (nI (qw_pw (qp_P c w pl) n a)) (nI a) := by
    intro m
    induction m with
    | zero => intro a h1 h2; omega
    | succ m ih =>
      intro a ha hm
      rw [wY_pathWinners_4]
      refine pk_le n a (fun h => ?_) (fun h => ⟨n + 1, ?_⟩)
      · have e : a = n := by omega
        subst e
        exact hp
      · exact qy_pw17 D Y (qw_pwl _ n a (by omega)) h (ih (a + 1) (by omega) (by omega)) (n + 1) 0 (by omega) (by omega)
  exact ⟨n + 1, main (n + 1) 0 (by omega) (by omega)⟩
end QY
end
section
/-! the relation -/
def i_Rel (k : Nat) (u : SX) (v : SY) : Prop := match u, v with
  | (xD, xC, xK, xB, xW, xN, xL, xP, xQ, xE, _, _, _), (yD, yC, yZ, yW, yN, yL, _) =>
    ∃ (n c : Nat) (w : Nat → Nat) (pl : Nat → Nat → Nat), xD = nI n ∧ xC = nI c ∧ yD = nI n ∧ yC = nI c ∧ yZ = nI (qe_fa n) ∧ qr_D n c w pl ∧ qr_X c w pl xW xN xL ∧ qr_Y n c w pl yW yN yL ∧ (¬ xK = 0 → qr_K n (qp_P c w pl) xB xP xQ xE)
theorem qz_in {k n c : Nat} {w : Nat → Nat} {pl : Nat → Nat → Nat} {xK xB : Int32} {xW xN xL xP xQ xE xT xS xF yW yN yL yO : Nat → Int32} (D : qr_D n c w pl) (X : qr_X c w pl xW xN xL) (Y : qr_Y n c w pl yW yN yL) (K : ¬ xK = 0 → qr_K n (qp_P c w pl) xB xP xQ xE) : i_Rel k ((nI n), (nI c), xK, xB, xW, xN, xL, xP, xQ, xE, xT, xS, xF) ((nI n), (nI c), (nI (qe_fa n)), yW, yN, yL, yO) :=
  ⟨n, c, w, pl, rfl, rfl, rfl, rfl, rfl, D, X, Y, K⟩
theorem qz_el {Q : SX → SY → Prop} {k : Nat} {u : SX} {v : SY} (I : i_Rel k u v)
    (h : ∀ (n c : Nat) (w : Nat → Nat) (pl : Nat → Nat → Nat) (xK xB : Int32) (xW xN xL xP xQ xE xT xS xF yW yN yL yO : Nat → Int32), qr_D n c w pl → qr_X c w pl xW xN xL → qr_Y n c w pl yW yN yL → (¬ xK = 0 → qr_K n (qp_P c w pl) xB xP xQ xE) → Q ((nI n), (nI c), xK, xB, xW, xN, xL, xP, xQ, xE, xT, xS, xF) ((nI n), (nI c), (nI (qe_fa n)), yW, yN, yL, yO)) : Q u v := by
  obtain ⟨xD, xC, xK, xB, xW, xN, xL, xP, xQ, xE, xT, xS, xF⟩ := u
  obtain ⟨yD, yC, yZ, yW, yN, yL, yO⟩ := v
  obtain ⟨n, c, w, pl, rfl, rfl, rfl, rfl, rfl, D, X, Y, K⟩ := I
  exact h n c w pl xK xB xW xN xL xP xQ xE xT xS xF yW yN yL yO D X Y K
theorem i_up {k : Nat} {u : SX} {v : SY} (h : i_Rel k u v) : i_Rel (k + 3) u v := h
/-! the constructors -/
theorem qz_init {post : SY → Prop} {n : Nat} (h2 : 2 ≤ n) (hn : n ≤ 6) (hp : post (nI n, 0, nI (qe_fa n), (fun _ => 0), (fun _ => 0), (fun _ => 0), (fun _ => 0))) : ∃ m, wY_init_66 post (nI n) 0 (fun _ => 0) (fun _ => 0) (fun _ => 0) (fun _ => 0) m 2 1 := by
  have main : ∀ m j, j ≤ n → n < m + j → wY_init_66 post (nI n) 0 (fun _ => 0) (fun _ => 0) (fun _ => 0) (fun _ => 0) m (nI (j + 1)) (nI (qe_fa j)) := by
    intro m
    induction m with
    | zero => intro j h1 h2; omega
    | succ m ih =>
      intro j hj hm
      rw [wY_init_66]
      refine pk_lt n (j + 1) (fun h => ?_) (fun h => ?_)
      · have e : j = n := by omega
        subst e
        exact hp
      · exact nm_r (pk_mul (qe_fa j) (j + 1)) (nm_r (nI_1 (j + 1)) (ih (j + 1) (by omega) (by omega)))
  exact ⟨n + 1, main (n + 1) 1 (by omega) (by omega)⟩
theorem qz_0 {n : Nat} (h2 : 2 ≤ n) (hn : n ≤ 6) : i_Rel 1 (nI n, 0, 0, 0, (fun _ => 0), (fun _ => 0), (fun _ => 0), (fun _ => 0), (fun _ => 0), (fun _ => 0), (fun _ => 0), (fun _ => 0), (fun _ => 0)) (nI n, 0, nI (qe_fa n), (fun _ => 0), (fun _ => 0), (fun _ => 0), (fun _ => 0)) :=
  ⟨n, 0, fun _ => 0, fun _ _ => 6, rfl, rfl, rfl, rfl, rfl, ⟨h2, hn, by omega, fun k hk => absurd hk (by omega), fun k _ hk => absurd hk (by omega), fun k _ hk => absurd hk (by omega)⟩, fun k hk => absurd hk (by omega), fun k hk => absurd hk (by omega), fun h => absurd rfl h⟩
theorem i_vc0 (k0 : Int32) : wpX_init (fun u => wpY_init (fun v => i_Rel 1 u v) k0) k0 := by
  by_cases h2 : 2 ≤ k0
  · by_cases h6 : k0 ≤ 6
    · obtain ⟨n, hn, rfl⟩ := nI_of2 (x := k0) (M := 6) (n := 6) (by decide) (fun z => by
        rw [Int32.lt_iff_toInt_lt] at z
        rw [Int32.le_iff_toInt_le] at h2
        have e0 : (0 : Int32).toInt = 0 := by decide
        have e2 : (2 : Int32).toInt = 2 := by decide
        omega) h6
      have hn2 : 2 ≤ n := by
        have : nI 2 ≤ nI n := h2
        rw [nI_leI (by omega) (by omega)] at this
        exact this
      exact br_t h2 (br_t h6 (br_t h2 (br_t h6 (qz_init hn2 hn (qz_0 hn2 hn)))))
    · exact br_t h2 (br_f h6 (br_t h2 (br_f h6 (qz_init (n := 6) (by omega) (by omega) (qz_0 (n := 6) (by omega) (by omega))))))
  · exact br_f h2 (br_f h2 (qz_init (n := 2) (by omega) (by omega) (qz_0 (n := 2) (by omega) (by omega))))
/-! begin -/
section QB
variable {n c : Nat} {w : Nat → Nat} {pl : Nat → Nat → Nat} {xC xK xB : Int32} {xW xN xL xP xQ xE xT xS xF : Nat → Int32} {yW yN yL yO : Nat → Int32}
theorem qz_b47 {post : Int32 → SX → Prop} (hc : c < 5) {xL0 : Nat → Int32} (hp : ∀ xL, (∀ j, j < 6 → xL (c * 6 + j) = -1) → (∀ j, j < c * 6 → xL j = xL0 j) → post (nI c) ((nI n), (nI (c + 1)), 0, xB, xW, xN, xL, xP, xQ, xE, xT, xS, xF)) :
    ∀ m i xL, i ≤ 6 → 6 < m + i → (∀ j, j < i → xL (c * 6 + j) = -1) → (∀ j, j < c * 6 → xL j = xL0 j) → wX_begin_47 post (nI n) (nI c) xK xB m (nI i) xW xN xL xP xQ xE xT xS xF := by
  intro m
  induction m with
  | zero => intro i xL h1 h2; omega
  | succ m ih =>
    intro i xL hi hm h1 h2
    rw [wX_begin_47]
    refine pk_le 6 i (fun h => nm_r (nI_1 c) ?_) (fun h => ?_)
    · rw [nI_pred]
      exact hp xL (fun j hj => h1 j (by omega)) h2
    · rw [qa_ix, nI_clamp (n := c * 6 + i) (by omega), qa_nm]
      refine ⟨vp_in_nI (by omega) (by decide), nm_e (nm_r (nI_1 i) (ih (i + 1) _ (by omega) (by omega) (fun j hj => ?_) (fun j hj => ?_)))⟩
      · by_cases e : j = i
        · subst e; exact pk_us
        · rw [pk_un (by omega)]; exact h1 j (by omega)
      · rw [pk_un (by omega)]; exact h2 j hj
theorem qz_bD {t : Nat} (D : qr_D n c w pl) (hc : c < 5) (ht : t ≤ 9) : qr_D n (c + 1) (fun k => if k = c then t else w k) (fun k => if k = c then (fun _ => 6) else pl k) := by
  obtain ⟨h2, h6, _, hw, hl, h7⟩ := D
  refine ⟨h2, h6, by omega, fun k hk => ?_, fun k d hk => ?_, fun k d hk hd => ?_⟩
  · show (if k = c then t else w k) ≤ 9
    by_cases e : k = c
    · rw [if_pos e]; exact ht
    · rw [if_neg e]; exact hw k (by omega)
  · show (if k = c then (fun _ => 6) else pl k) d ≤ 6
    by_cases e : k = c
    · rw [if_pos e]; exact Nat.le_refl 6
    · rw [if_neg e]; exact hl k d (by omega)
  · show (if k = c then (fun _ => 6) else pl k) d = 6
    by_cases e : k = c
    · rw [if_pos e]
    · rw [if_neg e]; exact h7 k d (by omega) hd
theorem qz_bX {t : Nat} {xL' : Nat → Int32} (X : qr_X c w pl xW xN xL) (h1 : ∀ j, j < 6 → xL' (c * 6 + j) = -1) (h2 : ∀ j, j < c * 6 → xL' j = xL j) : qr_X (c + 1) (fun k => if k = c then t else w k) (fun k => if k = c then (fun _ => 6) else pl k) (upd xW c (nI t)) (upd xN c 0) xL' := by
  intro k hk
  show upd xW c (nI t) k = nI (if k = c then t else w k) ∧ upd xN c 0 k = nI (qp_c (if k = c then (fun _ => 6) else pl k)) ∧ ∀ d, d < 6 → xL' (k * 6 + d) = qp_i ((if k = c then (fun _ => 6) else pl k) d)
  by_cases e : k = c
  · subst e
    rw [if_pos rfl, if_pos rfl, pk_us, pk_us]
    exact ⟨rfl, rfl, fun d hd => h1 d hd⟩
  · rw [if_neg e, if_neg e, pk_un e, pk_un e]
    obtain ⟨a, b, d⟩ := X k (by omega)
    refine ⟨a, b, fun x hx => ?_⟩
    rw [h2 _ (by omega)]
    exact d x hx
theorem qz_bY {t : Nat} (Y : qr_Y n c w pl yW yN yL) : qr_Y n (c + 1) (fun k => if k = c then t else w k) (fun k => if k = c then (fun _ => 6) else pl k) (upd yW c (nI t)) (upd yN c 0) yL := by
  intro k hk
  dsimp only
  by_cases e : k = c
  · subst e
    rw [if_pos rfl, if_pos rfl, pk_us, pk_us]
    exact ⟨rfl, rfl, fun d _ h => absurd h (Nat.lt_irrefl 6), fun p hp => absurd hp (Nat.not_lt_zero p)⟩
  · rw [if_neg e, if_neg e, pk_un e, pk_un e]
    exact Y k (by omega)
end QB
theorem i_vc_begin {k : Nat} {u : SX} {v : SY} (I : i_Rel k u v) (hk : k + 3 ≤ 1537) (v1 : Int32) : wpX_begin (fun r u' => wpY_begin (fun r' v' => r' = r ∧ i_Rel (k + 3) u' v') v v1) u v1 := by
  refine qz_el (Q := fun u v => wpX_begin (fun r u' => wpY_begin (fun r' v' => r' = r ∧ i_Rel (k + 3) u' v') v v1) u v1) I ?_
  intro n c w pl xK xB xW xN xL xP xQ xE xT xS xF yW yN yL yO D X Y K
  have hc := D.2.2.1
  by_cases h1 : v1 < 1
  · exact br_t h1 (br_t h1 ⟨rfl, qz_in D X Y K⟩)
  · by_cases h9 : v1 ≤ 9
    · by_cases h5 : c < 5
      · have l5 : nI c < 5 := nI_lt (b := 5) h5 (by decide)
        obtain ⟨t, ht, rfl⟩ := nI_of2 (x := v1) (M := 9) (n := 9) (by decide) (fun z => h1 (by
          rw [Int32.lt_iff_toInt_lt] at z ⊢
          have e0 : (0 : Int32).toInt = 0 := by decide
          have e2 : (1 : Int32).toInt = 1 := by decide
          omega)) h9
        have hv : vp_in (nI c) 5 := vp_in_nI h5 (by decide)
        have ec : (nI c).toNatClampNeg = c := nI_clamp (by omega)
        have eb : vp_nar .byte (nI t).toInt8.toInt32 = nI t := by rw [qa_by (by omega), qa_nb (by omega)]
        have e0 : vp_nar .byte (0 : Int32) = 0 := qa_nb (d := 0) (by omega)
        refine br_f h1 (br_t h9 (br_t l5 ⟨hv, nm_r (e' := upd xW c (nI t)) (by rw [ec, eb]) ⟨hv, nm_r (e' := upd xN c 0) (by rw [ec, e0]) ⟨7, ?_⟩⟩⟩))
        refine qz_b47 h5 (xL0 := xL) (fun xL' k1 k2 => ?_) 7 0 xL (by omega) (by omega) (fun j hj => absurd hj (by omega)) (fun _ _ => rfl)
        refine br_f h1 (br_t h9 (br_t l5 ⟨hv, nm_r (e' := upd yW c (nI t)) (by rw [ec]) ⟨hv, nm_r (e' := upd yN c 0) (by rw [ec]) (nm_r (nI_1 c) ⟨nI_pred c, ?_⟩)⟩⟩))
        exact qz_in (qz_bD D h5 ht) (qz_bX X k1 k2) (qz_bY Y) (fun z => absurd rfl z)
      · have l5 : ¬ nI c < 5 := nI_nlt (b := 5) (by omega) (by omega)
        exact br_f h1 (br_t h9 (br_f l5 (br_f h1 (br_t h9 (br_f l5 ⟨rfl, qz_in D X Y K⟩)))))
    · exact br_f h1 (br_f h9 (br_f h1 (br_f h9 ⟨rfl, qz_in D X Y K⟩)))
theorem i_vc_rankings {k : Nat} {u : SX} {v : SY} (I : i_Rel k u v) (hk : k + 3 ≤ 1537) : wpX_rankings (fun r => wpY_rankings (fun r' => r' = r ∧ i_Rel (k + 3) u v) v) u := by
  have I' : i_Rel (k + 3) u v := I
  revert I'
  refine qz_el (Q := fun u v => i_Rel (k + 3) u v → wpX_rankings (fun r => wpY_rankings (fun r' => r' = r ∧ i_Rel (k + 3) u v) v) u) I ?_
  intro n c w pl xK xB xW xN xL xP xQ xE xT xS xF yW yN yL yO D X Y K I'
  exact ⟨rfl, I'⟩
end
section
/-! documents and pairs -/
def qz_np (n : Nat) (v1 v2 : Int32) : Prop := v1 = v2 ∨ (v1 < 0 ∨ nI n ≤ v1) ∨ (v2 < 0 ∨ nI n ≤ v2)
theorem qz_nd {n j : Nat} (hn : n ≤ 6) (hj : j < n) : ¬ (nI j < 0 ∨ nI n ≤ nI j) := by
  rintro (h | h)
  · exact nI_pos (by omega) h
  · exact nI_ge hj (by omega) h
theorem qz_dd (v : Int32) {n : Nat} (hn : n ≤ 6) : (v < 0 ∨ nI n ≤ v) ∨ ∃ j, j < n ∧ v = nI j := by
  rcases pk_ix v (n := n) (by omega) with h | h | h
  · exact Or.inl (Or.inl h)
  · exact Or.inl (Or.inr h)
  · exact Or.inr h
theorem qz_pp (v1 v2 : Int32) {n : Nat} (hn : n ≤ 6) : (∃ a b, a < n ∧ b < n ∧ a ≠ b ∧ v1 = nI a ∧ v2 = nI b) ∨ qz_np n v1 v2 := by
  rcases qz_dd v1 hn with h | ⟨a, ha, rfl⟩
  · exact Or.inr (Or.inr (Or.inl h))
  · rcases qz_dd v2 hn with h | ⟨b, hb, rfl⟩
    · exact Or.inr (Or.inr (Or.inr h))
    · by_cases hab : a = b
      · subst hab; exact Or.inr (Or.inl rfl)
      · exact Or.inl ⟨a, b, ha, hb, hab, rfl, rfl⟩
section QP
variable {n c : Nat} {w : Nat → Nat} {pl : Nat → Nat → Nat} {xC xK xB yZ : Int32} {xW xN xL xP xQ xE xT xS xF : Nat → Int32} {yW yN yL yO : Nat → Int32}
theorem qx_doc1 {post : Int32 → Prop} (hn : n ≤ 6) {a : Nat} (ha : a < n) (hp : post 1) : wpX_isDocument post ((nI n), xC, xK, xB, xW, xN, xL, xP, xQ, xE, xT, xS, xF) (nI a) :=
  br_f (nI_pos (by omega)) (br_f (nI_ge ha (by omega)) hp)
theorem qx_doc0 {post : Int32 → Prop} {v : Int32} (h : v < 0 ∨ nI n ≤ v) (hp : post 0) : wpX_isDocument post ((nI n), xC, xK, xB, xW, xN, xL, xP, xQ, xE, xT, xS, xF) v := by
  by_cases h0 : v < 0
  · exact br_t h0 hp
  · exact br_f h0 (br_t (h.resolve_left h0) hp)
theorem qx_pair1 {post : Int32 → Prop} (hn : n ≤ 6) {a b : Nat} (ha : a < n) (hb : b < n) (hab : a ≠ b) (hp : post 1) : wpX_isPair post ((nI n), xC, xK, xB, xW, xN, xL, xP, xQ, xE, xT, xS, xF) (nI a) (nI b) := by
  unfold wpX_isPair
  dsimp only
  refine qx_doc1 hn ha ?_
  refine br_f qa_n1 ?_
  refine qx_doc1 hn hb ?_
  exact br_f qa_n1 (br_f (fun z => hab ((nI_eq (by omega) (by omega)).mp z)) hp)
theorem qx_pair0 {post : Int32 → Prop} (hn : n ≤ 6) {v1 v2 : Int32} (h : qz_np n v1 v2) (hp : post 0) : wpX_isPair post ((nI n), xC, xK, xB, xW, xN, xL, xP, xQ, xE, xT, xS, xF) v1 v2 := by
  unfold wpX_isPair
  dsimp only
  rcases qz_dd v1 hn with h1 | ⟨a, ha, rfl⟩
  · refine qx_doc0 h1 ?_
    exact br_t rfl hp
  · refine qx_doc1 hn ha ?_
    refine br_f qa_n1 ?_
    rcases qz_dd v2 hn with h2 | ⟨b, hb, rfl⟩
    · refine qx_doc0 h2 ?_
      exact br_t rfl hp
    · refine qx_doc1 hn hb ?_
      rcases h with h | h | h
      · exact br_f qa_n1 (br_t h hp)
      · exact absurd h (qz_nd hn ha)
      · exact absurd h (qz_nd hn hb)
theorem qy_np {A B : Prop} (hn : n ≤ 6) {v1 v2 : Int32} (h : qz_np n v1 v2) (hp : A) : (v1 = v2 → A) ∧ (¬ v1 = v2 → wpY_document (fun r_2 => (r_2 = 0 → A) ∧ (¬ r_2 = 0 → wpY_document (fun r_11 => (r_11 = 0 → A) ∧ (¬ r_11 = 0 → B)) ((nI n), (nI c), yZ, yW, yN, yL, yO) v2)) ((nI n), (nI c), yZ, yW, yN, yL, yO) v1) := by
  by_cases he : v1 = v2
  · exact br_t he hp
  · refine br_f he ?_
    rcases qz_dd v1 hn with h1 | ⟨a, ha, rfl⟩
    · exact qy_doc0 h1 (br_t rfl hp)
    · refine qy_doc1 hn ha (br_f qa_n1 ?_)
      rcases qz_dd v2 hn with h2 | ⟨b, hb, rfl⟩
      · exact qy_doc0 h2 (br_t rfl hp)
      · rcases h with h | h | h
        · exact absurd h he
        · exact absurd h (qz_nd hn ha)
        · exact absurd h (qz_nd hn hb)
/-! name -/
theorem qp_c5 {f : Nat → Nat} {d : Nat} (hd : d < 6) (h : f d = 6) : qp_c f ≤ 5 := by
  have h1 := qp_cu (f := f) (g := fun x => if x = d then 0 else f x) hd h (by show (if d = d then 0 else f d) < 6; rw [if_pos rfl]; omega) (fun x hx => if_neg hx)
  have h2 := qp_cl (fun x => if x = d then 0 else f x)
  omega
def qz_pl (pl : Nat → Nat → Nat) (k d : Nat) : Nat → Nat → Nat := fun k' x => if k' = k ∧ x = d then qp_c (pl k) else pl k' x
theorem qz_ne {k d k' : Nat} (h : k' ≠ k) : qz_pl pl k d k' = pl k' := by
  funext x
  exact if_neg (fun z => h z.1)
theorem qz_ns {k d : Nat} : qz_pl pl k d k d = qp_c (pl k) := if_pos ⟨rfl, rfl⟩
theorem qz_nx {k d x : Nat} (h : x ≠ d) : qz_pl pl k d k x = pl k x := if_neg (fun z => h z.2)
theorem qz_nc {k d : Nat} (hd : d < 6) (h : pl k d = 6) : qp_c (qz_pl pl k d k) = qp_c (pl k) + 1 := by
  have h5 := qp_c5 hd h
  exact qp_cu hd h (by rw [qz_ns]; omega) (fun x hx => qz_nx hx)
theorem qz_nD {k d : Nat} (D : qr_D n c w pl) (hd : d < n) : qr_D n c w (qz_pl pl k d) := by
  obtain ⟨h2, h6, hc, hw, hl, h7⟩ := D
  refine ⟨h2, h6, hc, hw, fun k' x hk' => ?_, fun k' x hk' hx => ?_⟩
  · by_cases e : k' = k
    · subst e
      by_cases ex : x = d
      · subst ex; rw [qz_ns]; exact qp_cl _
      · rw [qz_nx ex]; exact hl k' x hk'
    · rw [qz_ne e]; exact hl k' x hk'
  · by_cases e : k' = k
    · subst e
      rw [qz_nx (by omega)]; exact h7 k' x hk' hx
    · rw [qz_ne e]; exact h7 k' x hk' hx
theorem qz_nX {k d : Nat} (X : qr_X c w pl xW xN xL) (hk : k < c) (hd : d < 6) (h : pl k d = 6) : qr_X c w (qz_pl pl k d) xW (upd xN k (nI (qp_c (pl k) + 1))) (upd xL (k * 6 + d) (nI (qp_c (pl k)))) := by
  have h5 := qp_c5 hd h
  intro k' hk'
  obtain ⟨e1, e2, e3⟩ := X k' hk'
  by_cases e : k' = k
  · subst e
    refine ⟨e1, by rw [pk_us, qz_nc hd h], fun x hx => ?_⟩
    by_cases ex : x = d
    · subst ex
      rw [pk_us, qz_ns]
      exact (if_pos (by omega)).symm
    · rw [pk_un (by omega), qz_nx ex]; exact e3 x hx
  · refine ⟨e1, by rw [pk_un e, qz_ne e]; exact e2, fun x hx => ?_⟩
    rw [pk_un (by omega), qz_ne e]; exact e3 x hx
theorem qz_nY {k d : Nat} (D : qr_D n c w pl) (Y : qr_Y n c w pl yW yN yL) (hk : k < c) (hd : d < n) (h : pl k d = 6) : qr_Y n c w (qz_pl pl k d) yW (upd yN k (nI (qp_c (pl k) + 1))) (upd yL (6 * k + qp_c (pl k)) (nI d)) := by
  have h6 := D.2.1
  have h5 := qp_c5 (show d < 6 by omega) h
  intro k' hk'
  obtain ⟨e1, e2, e3, e4⟩ := Y k' hk'
  by_cases e : k' = k
  · subst e
    rw [qz_nc (show d < 6 by omega) h]
    refine ⟨e1, pk_us, fun x hx hlt => ?_, fun p hp => ?_⟩
    · by_cases ex : x = d
      · subst ex
        rw [qz_ns]
        exact ⟨by omega, pk_us⟩
      · rw [qz_nx ex] at hlt ⊢
        obtain ⟨f1, f2⟩ := e3 x hx hlt
        refine ⟨by omega, ?_⟩
        rw [pk_un (by omega)]; exact f2
    · by_cases ep : p = qp_c (pl k')
      · subst ep
        exact ⟨d, hd, pk_us, qz_ns⟩
      · obtain ⟨x, hx, f1, f2⟩ := e4 p (by omega)
        refine ⟨x, hx, ?_, ?_⟩
        · rw [pk_un (by omega)]; exact f1
        · rw [qz_nx (fun z => by rw [z, h] at f2; omega)]; exact f2
  · rw [qz_ne e, pk_un e]
    have hb := qp_cl (pl k')
    refine ⟨e1, e2, fun x hx hlt => ?_, fun p hp => ?_⟩
    · obtain ⟨f1, f2⟩ := e3 x hx hlt
      refine ⟨f1, ?_⟩
      rw [pk_un (by omega)]; exact f2
    · obtain ⟨x, hx, f1, f2⟩ := e4 p hp
      refine ⟨x, hx, ?_, f2⟩
      rw [pk_un (by omega)]; exact f1
end QP
theorem i_vc_name {k : Nat} {u : SX} {v : SY} (I : i_Rel k u v) (hk : k + 3 ≤ 1537) (v1 : Int32) (v2 : Int32) : wpX_name (fun r u' => wpY_name (fun r' v' => r' = r ∧ i_Rel (k + 3) u' v') v v1 v2) u v1 v2 := by
  refine qz_el (Q := fun u v => wpX_name (fun r u' => wpY_name (fun r' v' => r' = r ∧ i_Rel (k + 3) u' v') v v1 v2) u v1 v2) I ?_
  intro n c w pl xK xB xW xN xL xP xQ xE xT xS xF yW yN yL yO D X Y K
  have h6 := D.2.1
  have hc := D.2.2.1
  have R0 : i_Rel (k + 3) ((nI n), (nI c), xK, xB, xW, xN, xL, xP, xQ, xE, xT, xS, xF) ((nI n), (nI c), (nI (qe_fa n)), yW, yN, yL, yO) := qz_in D X Y K
  rcases pk_ix v1 (n := c) (by omega) with h | h | ⟨q, hq, rfl⟩
  · exact br_t h (br_t h ⟨rfl, R0⟩)
  · by_cases h0 : v1 < 0
    · exact br_t h0 (br_t h0 ⟨rfl, R0⟩)
    · exact br_f h0 (br_t h (br_f h0 (br_t h ⟨rfl, R0⟩)))
  · have h0 : ¬ nI q < 0 := nI_pos (by omega)
    have h1 : ¬ nI c ≤ nI q := nI_ge hq (by omega)
    refine br_f h0 (br_f h1 ?_)
    rcases qz_dd v2 h6 with h | ⟨d, hd, rfl⟩
    · refine qx_doc0 h ?_
      refine br_t rfl (br_f h0 (br_f h1 ?_))
      refine qy_doc0 h ?_
      exact br_t rfl ⟨rfl, R0⟩
    · refine qx_doc1 h6 hd ?_
      refine br_f qa_n1 ?_
      have hl := D.2.2.2.2.1 q d hq
      obtain ⟨eW, eN, eL⟩ := X q hq
      obtain ⟨fW, fN, -, -⟩ := Y q hq
      rw [qa_ix, nI_clamp (n := q * 6 + d) (by omega), nI_clamp (n := q) (by omega), eL d (by omega)]
      refine ⟨vp_in_nI (by omega) (by decide), ?_⟩
      have hv : vp_in (nI q) 5 := vp_in_nI (by omega) (by decide)
      by_cases e : pl q d = 6
      · have h5 := qp_c5 (show d < 6 by omega) e
        refine br_t ((qp_il hl).mpr e) ⟨hv, vp_in_nI (by omega) (by decide), nm_r (e' := upd xL (q * 6 + d) (nI (qp_c (pl q)))) (by rw [eN, qa_nb (by omega)]) ⟨hv, hv, nm_r (e' := upd xN q (nI (qp_c (pl q) + 1))) (by rw [eN, nI_1, qa_by (by omega), qa_nb (by omega)]) ?_⟩⟩
        refine br_f h0 (br_f h1 ?_)
        refine qy_doc1 h6 hd ?_
        refine br_f qa_n1 ?_
        refine qy_place D Y hq hd ?_
        rw [e]
        refine br_f (by decide) ?_
        rw [nI_clamp (n := q) (by omega), fN, qa_xi, nI_clamp (n := 6 * q + qp_c (pl q)) (by omega)]
        refine ⟨hv, br_t (nI_lt (b := 6) (by omega) (by decide)) ⟨hv, vp_in_nI (by omega) (by decide), nm_e ⟨hv, hv, nm_r (e' := upd yN q (nI (qp_c (pl q) + 1))) (by rw [nI_1]) ⟨rfl, ?_⟩⟩⟩⟩
        exact qz_in (qz_nD D hd) (qz_nX X hq (by omega) e) (qz_nY D Y hq hd e) (fun z => absurd rfl z)
      · refine br_f (fun z => e ((qp_il hl).mp z)) ?_
        refine br_f h0 (br_f h1 ?_)
        refine qy_doc1 h6 hd ?_
        refine br_f qa_n1 ?_
        refine qy_place D Y hq hd ?_
        exact br_t (nI_lt (b := 6) (by omega) (by decide)) ⟨rfl, R0⟩
/-! remove -/
def qz_sg (k i j : Nat) : Nat := if j < k then j else if j < i then j + 1 else j
theorem qz_sg0 (k j : Nat) : qz_sg k k j = j := by
  unfold qz_sg; split <;> rfl
theorem qz_sgi {k i : Nat} (h : k ≤ i) : qz_sg k (i + 1) i = i + 1 := by
  unfold qz_sg; rw [if_neg (by omega), if_pos (by omega)]
theorem qz_sgn {k i j : Nat} (h : j ≠ i) : qz_sg k (i + 1) j = qz_sg k i j := by
  unfold qz_sg
  by_cases h1 : j < k
  · rw [if_pos h1, if_pos h1]
  · rw [if_neg h1, if_neg h1]
    by_cases h2 : j < i
    · rw [if_pos h2, if_pos (by omega)]
    · rw [if_neg h2, if_neg (by omega)]
theorem qz_sgx {k i : Nat} (h : k ≤ i) : qz_sg k i (i + 1) = i + 1 := by
  unfold qz_sg; rw [if_neg (by omega), if_neg (by omega)]
theorem qz_sgl {k i j c : Nat} (hj : j + 1 < c) : qz_sg k i j < c := by
  unfold qz_sg
  split
  · omega
  · split <;> omega
section QR
variable {n c : Nat} {w : Nat → Nat} {pl : Nat → Nat → Nat} {xC xK xB yZ : Int32} {xW xN xL xP xQ xE xT xS xF : Nat → Int32} {yW yN yL yO : Nat → Int32}
theorem qz_r56 {post : Int32 → SX → Prop} {J16 : Int32 → (Nat → Int32) → (Nat → Int32) → (Nat → Int32) → (Nat → Int32) → (Nat → Int32) → (Nat → Int32) → (Nat → Int32) → (Nat → Int32) → (Nat → Int32) → Prop} {i : Nat} (hi : i < 4) {xL0 : Nat → Int32} (hb : ∀ x, x < 6 → ∃ p, xL0 ((i + 1) * 6 + x) = qp_i p)
    (hJ : ∀ xL, (∀ x, x < 6 → xL (i * 6 + x) = xL0 ((i + 1) * 6 + x)) → (∀ q, (q < i * 6 ∨ i * 6 + 6 ≤ q) → xL q = xL0 q) → J16 (nI (i + 1)) xW xN xL xP xQ xE xT xS xF) :
    ∀ m d xL, d ≤ 6 → 6 < m + d → (∀ x, x < d → xL (i * 6 + x) = xL0 ((i + 1) * 6 + x)) → (∀ q, (q < i * 6 ∨ i * 6 + d ≤ q) → xL q = xL0 q) → wX_remove_56 post J16 (nI i) (nI n) xC xK xB m (nI d) xW xN xL xP xQ xE xT xS xF := by
  intro m
  induction m with
  | zero => intro d xL h1 h2; omega
  | succ m ih =>
    intro d xL hd hm h1 h2
    rw [wX_remove_56]
    refine pk_le 6 d (fun h => nm_r (nI_1 i) (hJ xL (fun x hx => h1 x (by omega)) (fun q hq => h2 q (by omega)))) (fun h => ?_)
    obtain ⟨p, ep⟩ := hb d h
    rw [nI_1, qa_ix, qa_ix, nI_clamp (n := (i + 1) * 6 + d) (by omega), nI_clamp (n := i * 6 + d) (by omega), h2 ((i + 1) * 6 + d) (by omega), ep, qp_nb]
    refine ⟨vp_in_nI (by omega) (by decide), vp_in_nI (by omega) (by decide), nm_e (nm_r (nI_1 d) (ih (d + 1) _ (by omega) (by omega) (fun x hx => ?_) (fun q hq => ?_)))⟩
    · by_cases e : x = d
      · subst e; rw [pk_us, ep]
      · rw [pk_un (by omega)]; exact h1 x (by omega)
    · rw [pk_un (by omega)]; exact h2 q (by omega)
theorem qz_r16 {post : Int32 → SX → Prop} {k : Nat} (hc : c ≤ 5) (hw : ∀ k, k < c → w k ≤ 9) (hk : k < c)
    (hp : ∀ xW xN xL, qr_X (c - 1) (fun j => w (qz_sg k (c - 1) j)) (fun j => pl (qz_sg k (c - 1) j)) xW xN xL → post 1 ((nI n), (nI (c - 1)), 0, xB, xW, xN, xL, xP, xQ, xE, xT, xS, xF)) :
    ∀ m i xW xN xL, k ≤ i → i < c → c ≤ m + i → qr_X c (fun j => w (qz_sg k i j)) (fun j => pl (qz_sg k i j)) xW xN xL → wX_remove_16 post (nI n) (nI c) xK xB m (nI i) xW xN xL xP xQ xE xT xS xF := by
  intro m
  induction m with
  | zero => intro i xW xN xL h1 h2 h3; omega
  | succ m ih =>
    intro i xW xN xL hki hic hm X
    rw [wX_remove_16]
    dsimp only
    rw [show nI c - 1 = nI (c - 1) from pk_sub (b := 1) (show 1 ≤ c by omega)]
    refine pk_le (c - 1) i (fun h => nm_e ?_) (fun h => ?_)
    · have e : i = c - 1 := by omega
      subst e
      exact hp xW xN xL (fun j hj => X j (by omega))
    · obtain ⟨e1, e2, e3⟩ := X (i + 1) (by omega)
      dsimp only at e1 e2 e3
      rw [qz_sgx hki] at e1 e2 e3
      have b1 := hw (i + 1) (by omega)
      have b2 := qp_cl (pl (i + 1))
      have v1 : vp_in (nI (i + 1)) 5 := vp_in_nI (by omega) (by decide)
      have v2 : vp_in (nI i) 5 := vp_in_nI (by omega) (by decide)
      rw [nI_1, nI_clamp (n := i + 1) (by omega), nI_clamp (n := i) (by omega), e1, e2, qa_nb (by omega), qa_nb (by omega)]
      refine ⟨v1, v2, nm_e ⟨v1, v2, nm_e ⟨7, qz_r56 (xL0 := xL) (by omega) (fun x hx => ⟨_, e3 x hx⟩) (fun xL' k1 k2 => ?_) 7 0 xL (by omega) (by omega) (fun x hx => absurd hx (by omega)) (fun _ _ => rfl)⟩⟩⟩
      refine ih (i + 1) _ _ xL' (by omega) (by omega) (by omega) (fun j hj => ?_)
      dsimp only
      by_cases e : j = i
      · subst e
        rw [qz_sgi hki]
        refine ⟨pk_us, pk_us, fun x hx => ?_⟩
        rw [k1 x hx]; exact e3 x hx
      · rw [qz_sgn e]
        obtain ⟨f1, f2, f3⟩ := X j hj
        refine ⟨by rw [pk_un e]; exact f1, by rw [pk_un e]; exact f2, fun x hx => ?_⟩
        rw [k2 _ (by omega)]; exact f3 x hx
theorem qz_q56 {post : Int32 → SY → Prop} {J16 : Int32 → (Nat → Int32) → (Nat → Int32) → (Nat → Int32) → (Nat → Int32) → Prop} {i : Nat} (hi : i < 4) {yL0 : Nat → Int32}
    (hJ : ∀ yL, (∀ x, x < 6 → yL (6 * i + x) = yL0 (6 * (i + 1) + x)) → (∀ q, (q < 6 * i ∨ 6 * i + 6 ≤ q) → yL q = yL0 q) → J16 (nI (i + 1)) yW yN yL yO) :
    ∀ m d yL, d ≤ 6 → 6 < m + d → (∀ x, x < d → yL (6 * i + x) = yL0 (6 * (i + 1) + x)) → (∀ q, (q < 6 * i ∨ 6 * i + d ≤ q) → yL q = yL0 q) → wY_remove_56 post J16 (nI i) (nI n) (nI c) yZ m (nI d) yW yN yL yO := by
  intro m
  induction m with
  | zero => intro d yL h1 h2; omega
  | succ m ih =>
    intro d yL hd hm h1 h2
    rw [wY_remove_56]
    refine pk_le 6 d (fun h => nm_r (nI_1 i) (hJ yL (fun x hx => h1 x (by omega)) (fun q hq => h2 q (by omega)))) (fun h => ?_)
    rw [qa_xj, qa_xi, nI_clamp (n := 6 * i + 6 + d) (by omega), nI_clamp (n := 6 * i + d) (by omega), h2 (6 * i + 6 + d) (by omega)]
    refine ⟨vp_in_nI (by omega) (by decide), vp_in_nI (by omega) (by decide), nm_e (nm_r (nI_1 d) (ih (d + 1) _ (by omega) (by omega) (fun x hx => ?_) (fun q hq => ?_)))⟩
    · by_cases e : x = d
      · subst e; rw [pk_us]; exact congrArg yL0 (by omega)
      · rw [pk_un (by omega)]; exact h1 x (by omega)
    · rw [pk_un (by omega)]; exact h2 q (by omega)
theorem qz_q16 {post : Int32 → SY → Prop} {k : Nat} (hc : c ≤ 5) (hl : ∀ k d, k < c → pl k d ≤ 6) (hk : k < c)
    (hp : ∀ yW yN yL, qr_Y n (c - 1) (fun j => w (qz_sg k (c - 1) j)) (fun j => pl (qz_sg k (c - 1) j)) yW yN yL → post 1 ((nI n), (nI (c - 1)), yZ, yW, yN, yL, yO)) :
    ∀ m i yW yN yL, k ≤ i → i < c → c ≤ m + i → qr_Y n c (fun j => w (qz_sg k i j)) (fun j => pl (qz_sg k i j)) yW yN yL → wY_remove_16 post (nI n) (nI c) yZ m (nI i) yW yN yL yO := by
  intro m
  induction m with
  | zero => intro i yW yN yL h1 h2 h3; omega
  | succ m ih =>
    intro i yW yN yL hki hic hm Y
    rw [wY_remove_16]
    dsimp only
    rw [nI_1]
    refine pk_le c (i + 1) (fun h => nm_r (pk_sub (b := 1) (show 1 ≤ c by omega)) ?_) (fun h => ?_)
    · have e : i = c - 1 := by omega
      subst e
      exact hp yW yN yL (fun j hj => Y j (by omega))
    · obtain ⟨e1, e2, e3, e4⟩ := Y (i + 1) (by omega)
      dsimp only at e1 e2 e3 e4
      rw [qz_sgx hki] at e1 e2 e3 e4
      have b2 := qp_cl (pl (i + 1))
      have v1 : vp_in (nI (i + 1)) 5 := vp_in_nI (by omega) (by decide)
      have v2 : vp_in (nI i) 5 := vp_in_nI (by omega) (by decide)
      rw [nI_clamp (n := i + 1) (by omega), nI_clamp (n := i) (by omega), e1, e2]
      refine ⟨v1, v2, nm_e ⟨v1, v2, nm_e ⟨7, qz_q56 (yL0 := yL) (by omega) (fun yL' k1 k2 => ?_) 7 0 yL (by omega) (by omega) (fun x hx => absurd hx (by omega)) (fun _ _ => rfl)⟩⟩⟩
      refine ih (i + 1) _ _ yL' (by omega) (by omega) (by omega) (fun j hj => ?_)
      dsimp only
      by_cases e : j = i
      · subst e
        rw [qz_sgi hki]
        refine ⟨pk_us, pk_us, fun x hx hlt => ?_, fun p hp => ?_⟩
        · obtain ⟨f1, f2⟩ := e3 x hx hlt
          refine ⟨f1, ?_⟩
          rw [k1 _ hlt]; exact f2
        · obtain ⟨x, hx, f1, f2⟩ := e4 p hp
          refine ⟨x, hx, ?_, f2⟩
          rw [k1 _ (by omega)]; exact f1
      · rw [qz_sgn e]
        obtain ⟨f1, f2, f3, f4⟩ := Y j hj
        have b3 := qp_cl (pl (qz_sg k i j))
        refine ⟨by rw [pk_un e]; exact f1, by rw [pk_un e]; exact f2, fun x hx hlt => ?_, fun p hp => ?_⟩
        · obtain ⟨g1, g2⟩ := f3 x hx hlt
          refine ⟨g1, ?_⟩
          rw [k2 _ (by omega)]; exact g2
        · obtain ⟨x, hx, g1, g2⟩ := f4 p hp
          refine ⟨x, hx, ?_, g2⟩
          rw [k2 _ (by omega)]; exact g1
theorem qz_rD {k : Nat} (D : qr_D n c w pl) : qr_D n (c - 1) (fun j => w (qz_sg k (c - 1) j)) (fun j => pl (qz_sg k (c - 1) j)) := by
  obtain ⟨h2, h6, hc, hw, hl, h7⟩ := D
  exact ⟨h2, h6, by omega, fun j hj => hw _ (qz_sgl (by omega)), fun j d hj => hl _ d (qz_sgl (by omega)), fun j d hj hd => h7 _ d (qz_sgl (by omega)) hd⟩
end QR
theorem i_vc_remove {k : Nat} {u : SX} {v : SY} (I : i_Rel k u v) (hk : k + 3 ≤ 1537) (v1 : Int32) : wpX_remove (fun r u' => wpY_remove (fun r' v' => r' = r ∧ i_Rel (k + 3) u' v') v v1) u v1 := by
  refine qz_el (Q := fun u v => wpX_remove (fun r u' => wpY_remove (fun r' v' => r' = r ∧ i_Rel (k + 3) u' v') v v1) u v1) I ?_
  intro n c w pl xK xB xW xN xL xP xQ xE xT xS xF yW yN yL yO D X Y K
  have hc := D.2.2.1
  have R0 : i_Rel (k + 3) ((nI n), (nI c), xK, xB, xW, xN, xL, xP, xQ, xE, xT, xS, xF) ((nI n), (nI c), (nI (qe_fa n)), yW, yN, yL, yO) := qz_in D X Y K
  rcases pk_ix v1 (n := c) (by omega) with h | h | ⟨q, hq, rfl⟩
  · exact br_t h (br_t h ⟨rfl, R0⟩)
  · by_cases h0 : v1 < 0
    · exact br_t h0 (br_t h0 ⟨rfl, R0⟩)
    · have h' : ¬ v1 < nI c := Int32.not_lt.mpr h
      exact br_f h0 (br_f h' (br_f h0 (br_f h' ⟨rfl, R0⟩)))
  · have h0 : ¬ nI q < 0 := nI_pos (by omega)
    have h1 : nI q < nI c := nI_lt hq (by omega)
    have X0 : qr_X c (fun j => w (qz_sg q q j)) (fun j => pl (qz_sg q q j)) xW xN xL := by
      intro j hj
      dsimp only
      rw [qz_sg0]
      exact X j hj
    have Y0 : qr_Y n c (fun j => w (qz_sg q q j)) (fun j => pl (qz_sg q q j)) yW yN yL := by
      intro j hj
      dsimp only
      rw [qz_sg0]
      exact Y j hj
    refine br_f h0 (br_t h1 ⟨c, qz_r16 hc D.2.2.2.1 hq (fun xW' xN' xL' X' => ?_) c q xW xN xL (Nat.le_refl _) hq (by omega) X0⟩)
    refine br_f h0 (br_t h1 ⟨c, qz_q16 hc D.2.2.2.2.1 hq (fun yW' yN' yL' Y' => ⟨rfl, ?_⟩) c q yW yN yL (Nat.le_refl _) hq (by omega) Y0⟩)
    exact qz_in (qz_rD D) X' Y' (fun z => absurd rfl z)
end
section
/-! the questions -/
theorem i_vc_prefers {k : Nat} {u : SX} {v : SY} (I : i_Rel k u v) (hk : k + 3 ≤ 1537) (v1 : Int32) (v2 : Int32) : wpX_prefers (fun r u' => wpY_prefers (fun r' => r' = r ∧ i_Rel (k + 3) u' v) v v1 v2) u v1 v2 := by
  refine qz_el (Q := fun u v => wpX_prefers (fun r u' => wpY_prefers (fun r' => r' = r ∧ i_Rel (k + 3) u' v) v v1 v2) u v1 v2) I ?_
  intro n c w pl xK xB xW xN xL xP xQ xE xT xS xF yW yN yL yO D X Y K
  have h2 := D.1
  have h6 := D.2.1
  unfold wpX_prefers
  dsimp only
  rcases qz_pp v1 v2 h6 with ⟨a, b, ha, hb, hab, rfl, rfl⟩ | h
  · refine qx_pair1 h6 ha hb hab ?_
    refine br_f qa_n1 ?_
    refine qx_find D X K fun xK xB xP xQ xE xT xS xF hK => ?_
    dsimp only
    rw [qa_ix, nI_clamp (n := a * 6 + b) (by omega), qx_pr hK.1 (show a < 6 by omega) (show b < 6 by omega)]
    exact ⟨vp_in_nI (by omega) (by decide), qy_pref D Y ha hb hab ⟨rfl, qz_in D X Y fun _ => hK⟩⟩
  · refine qx_pair0 h6 h ?_
    exact br_t rfl (qy_np h6 h ⟨rfl, qz_in D X Y K⟩)
theorem i_vc_least {k : Nat} {u : SX} {v : SY} (I : i_Rel k u v) (hk : k + 3 ≤ 1537) : wpX_least (fun r u' => wpY_least (fun r' v' => r' = r ∧ i_Rel (k + 3) u' v') v) u := by
  refine qz_el (Q := fun u v => wpX_least (fun r u' => wpY_least (fun r' v' => r' = r ∧ i_Rel (k + 3) u' v') v) u) I ?_
  intro n c w pl xK xB xW xN xL xP xQ xE xT xS xF yW yN yL yO D X Y K
  have h2 := D.1
  have h6 := D.2.1
  unfold wpX_least
  dsimp only
  refine qx_find D X K fun xK xB xP xQ xE xT xS xF hK => ?_
  dsimp only
  refine qy_least D Y fun yO => ⟨?_, qz_in D X Y fun _ => hK⟩
  rw [hK.2.2.1, (qe_Rne h6 (qp_45 D) (qe_net h6)).1]
theorem i_vc_bestAt {k : Nat} {u : SX} {v : SY} (I : i_Rel k u v) (hk : k + 3 ≤ 1537) (v1 : Int32) : wpX_bestAt (fun r u' => wpY_bestAt (fun r' v' => r' = r ∧ i_Rel (k + 3) u' v') v v1) u v1 := by
  refine qz_el (Q := fun u v => wpX_bestAt (fun r u' => wpY_bestAt (fun r' v' => r' = r ∧ i_Rel (k + 3) u' v') v v1) u v1) I ?_
  intro n c w pl xK xB xW xN xL xP xQ xE xT xS xF yW yN yL yO D X Y K
  have h2 := D.1
  have h6 := D.2.1
  have R0 : i_Rel (k + 3) ((nI n), (nI c), xK, xB, xW, xN, xL, xP, xQ, xE, xT, xS, xF) ((nI n), (nI c), (nI (qe_fa n)), yW, yN, yL, yO) := qz_in D X Y K
  rcases pk_ix v1 (n := n) (by omega) with h | h | ⟨q, hq, rfl⟩
  · exact br_t h (br_t h ⟨rfl, R0⟩)
  · by_cases h0 : v1 < 0
    · exact br_t h0 (br_t h0 ⟨rfl, R0⟩)
    · have h' : ¬ v1 < nI n := Int32.not_lt.mpr h
      exact br_f h0 (br_f h' (br_f h0 (br_f h' ⟨rfl, R0⟩)))
  · refine br_f (nI_pos (by omega)) (br_t (nI_lt hq (by omega)) ?_)
    refine qx_find D X K fun xK xB xP xQ xE xT xS xF hK => ?_
    dsimp only
    rw [nI_clamp (n := q) (by omega), hK.2.2.2 q hq]
    exact ⟨vp_in_nI (by omega) (by decide), qy_bestAt D Y hq fun yO => ⟨rfl, qz_in D X Y fun _ => hK⟩⟩
theorem i_vc_leastWith {k : Nat} {u : SX} {v : SY} (I : i_Rel k u v) (hk : k + 3 ≤ 1537) (v1 : Int32) (v2 : Int32) : wpX_leastWith (fun r u' => wpY_leastWith (fun r' v' => r' = r ∧ i_Rel (k + 3) u' v') v v1 v2) u v1 v2 := by
  refine qz_el (Q := fun u v => wpX_leastWith (fun r u' => wpY_leastWith (fun r' v' => r' = r ∧ i_Rel (k + 3) u' v') v v1 v2) u v1 v2) I ?_
  intro n c w pl xK xB xW xN xL xP xQ xE xT xS xF yW yN yL yO D X Y K
  have h2 := D.1
  have h6 := D.2.1
  unfold wpX_leastWith
  dsimp only
  rcases qz_pp v1 v2 h6 with ⟨a, b, ha, hb, hab, rfl, rfl⟩ | h
  · refine qx_pair1 h6 ha hb hab ?_
    refine br_f qa_n1 ?_
    refine qx_find D X K fun xK xB xP xQ xE xT xS xF hK => ?_
    dsimp only
    refine qx_search h2 h6 (qp_45 D) hK.1 (qx_NFa h2 h6 ha hb) fun xT xS xF _ => ?_
    dsimp only
    refine qy_leastWith D Y ha hb hab fun yO => ⟨?_, qz_in D X Y fun _ => hK⟩
    rw [(qe_Rne h6 (qp_45 D) (qe_nea h2 h6 ha hb hab)).1, qe_fl h2 h6 ha hb hab]
  · refine qx_pair0 h6 h ?_
    exact br_t rfl (qy_np h6 h ⟨rfl, qz_in D X Y K⟩)
theorem i_vc_score {k : Nat} {u : SX} {v : SY} (I : i_Rel k u v) (hk : k + 3 ≤ 1537) (v1 : Int32) : wpX_score (fun r u' => wpY_score (fun r' => r' = r ∧ i_Rel (k + 3) u' v) v v1) u v1 := by
  refine qz_el (Q := fun u v => wpX_score (fun r u' => wpY_score (fun r' => r' = r ∧ i_Rel (k + 3) u' v) v v1) u v1) I ?_
  intro n c w pl xK xB xW xN xL xP xQ xE xT xS xF yW yN yL yO D X Y K
  have h2 := D.1
  have h6 := D.2.1
  unfold wpX_score
  dsimp only
  rcases qz_dd v1 h6 with h | ⟨d, hd, rfl⟩
  · refine qx_doc0 h ?_
    refine br_t rfl ?_
    unfold wpY_score
    dsimp only
    refine qy_doc0 h ?_
    exact br_t rfl ⟨rfl, qz_in D X Y K⟩
  · refine qx_doc1 h6 hd ?_
    refine br_f qa_n1 ?_
    refine qx_find D X K fun xK xB xP xQ xE xT xS xF hK => ?_
    dsimp only
    refine qx_bal h6 hK.1 hd ?_
    exact qy_score D Y hd ⟨rfl, qz_in D X Y fun _ => hK⟩
theorem i_vc_scoreAt {k : Nat} {u : SX} {v : SY} (I : i_Rel k u v) (hk : k + 3 ≤ 1537) (v1 : Int32) : wpX_scoreAt (fun r u' => wpY_scoreAt (fun r' => r' = r ∧ i_Rel (k + 3) u' v) v v1) u v1 := by
  refine qz_el (Q := fun u v => wpX_scoreAt (fun r u' => wpY_scoreAt (fun r' => r' = r ∧ i_Rel (k + 3) u' v) v v1) u v1) I ?_
  intro n c w pl xK xB xW xN xL xP xQ xE xT xS xF yW yN yL yO D X Y K
  have h2 := D.1
  have h6 := D.2.1
  have R0 : i_Rel (k + 3) ((nI n), (nI c), xK, xB, xW, xN, xL, xP, xQ, xE, xT, xS, xF) ((nI n), (nI c), (nI (qe_fa n)), yW, yN, yL, yO) := qz_in D X Y K
  rcases pk_ix v1 (n := n) (by omega) with h | h | ⟨q, hq, rfl⟩
  · exact br_t h (qy_sAt0 D Y (Or.inl h) ⟨rfl, R0⟩)
  · by_cases h0 : v1 < 0
    · exact br_t h0 (qy_sAt0 D Y (Or.inl h0) ⟨rfl, R0⟩)
    · have h' : ¬ v1 < nI n := Int32.not_lt.mpr h
      exact br_f h0 (br_f h' (qy_sAt0 D Y (Or.inr h) ⟨rfl, R0⟩))
  · refine br_f (nI_pos (by omega)) (br_t (nI_lt hq (by omega)) ?_)
    refine qx_find D X K fun xK xB xP xQ xE xT xS xF hK => ?_
    dsimp only
    refine qx_scoreAt h6 hK.1 hq fun d hd hr => ?_
    exact qy_sAt1 D Y hd hq hr ⟨rfl, qz_in D X Y fun _ => hK⟩
theorem i_vc_champion {k : Nat} {u : SX} {v : SY} (I : i_Rel k u v) (hk : k + 3 ≤ 1537) : wpX_champion (fun r u' => wpY_champion (fun r' => r' = r ∧ i_Rel (k + 3) u' v) v) u := by
  refine qz_el (Q := fun u v => wpX_champion (fun r u' => wpY_champion (fun r' => r' = r ∧ i_Rel (k + 3) u' v) v) u) I ?_
  intro n c w pl xK xB xW xN xL xP xQ xE xT xS xF yW yN yL yO D X Y K
  have h2 := D.1
  have h6 := D.2.1
  unfold wpX_champion
  dsimp only
  refine qx_topSet D X K fun xK xB xP xQ xE xT xS xF A hK hA => ?_
  dsimp only
  have h := qx_ch7 (post := fun r u' => wpY_champion (fun r' => r' = r ∧ i_Rel (k + 3) u' ((nI n), (nI c), (nI (qe_fa n)), yW, yN, yL, yO)) ((nI n), (nI c), (nI (qe_fa n)), yW, yN, yL, yO)) (n := n) (A := A) (xC := nI c) (xK := xK) (xB := xB) (xW := xW) (xN := xN) (xL := xL) (xP := xP) (xQ := xQ) (xE := xE) (xT := xT) (xS := xS) (xF := xF) h6 (qt_64 h6 hA.2.1) (n + 1) n (Nat.le_refl _) (by omega) (qy_champion D Y hA ⟨rfl, qz_in D X Y fun _ => hK⟩)
  rw [Nat.sub_self] at h
  exact ⟨n + 1, h⟩
theorem i_vc_topSet {k : Nat} {u : SX} {v : SY} (I : i_Rel k u v) (hk : k + 3 ≤ 1537) : wpX_topSet (fun r u' => wpY_topSet (fun r' => r' = r ∧ i_Rel (k + 3) u' v) v) u := by
  refine qz_el (Q := fun u v => wpX_topSet (fun r u' => wpY_topSet (fun r' => r' = r ∧ i_Rel (k + 3) u' v) v) u) I ?_
  intro n c w pl xK xB xW xN xL xP xQ xE xT xS xF yW yN yL yO D X Y K
  have h2 := D.1
  have h6 := D.2.1
  refine qx_topSet D X K fun xK xB xP xQ xE xT xS xF A hK hA => ?_
  exact qy_topSet D Y fun B hB => ⟨congrArg nI (qt_uq h6 hB hA), qz_in D X Y fun _ => hK⟩
theorem i_vc_strength {k : Nat} {u : SX} {v : SY} (I : i_Rel k u v) (hk : k + 3 ≤ 1537) (v1 : Int32) (v2 : Int32) : wpX_strength (fun r u' => wpY_strength (fun r' => r' = r ∧ i_Rel (k + 3) u' v) v v1 v2) u v1 v2 := by
  refine qz_el (Q := fun u v => wpX_strength (fun r u' => wpY_strength (fun r' => r' = r ∧ i_Rel (k + 3) u' v) v v1 v2) u v1 v2) I ?_
  intro n c w pl xK xB xW xN xL xP xQ xE xT xS xF yW yN yL yO D X Y K
  have h2 := D.1
  have h6 := D.2.1
  unfold wpX_strength
  dsimp only
  rcases qz_pp v1 v2 h6 with ⟨a, b, ha, hb, hab, rfl, rfl⟩ | h
  · refine qx_pair1 h6 ha hb hab ?_
    refine br_f qa_n1 ?_
    refine qx_find D X K fun xK xB xP xQ xE xT xS xF hK => ?_
    dsimp only
    rw [qa_ix, nI_clamp (n := a * 6 + b) (by omega), hK.2.1 _ (show a * 6 + b < 36 by omega), show (a * 6 + b) / 6 = a by omega, show (a * 6 + b) % 6 = b by omega]
    exact ⟨vp_in_nI (by omega) (by decide), qy_strength D Y ha hb hab ⟨rfl, qz_in D X Y fun _ => hK⟩⟩
  · refine qx_pair0 h6 h ?_
    exact br_t rfl (qy_np h6 h ⟨rfl, qz_in D X Y K⟩)
theorem i_vc_pathWinners {k : Nat} {u : SX} {v : SY} (I : i_Rel k u v) (hk : k + 3 ≤ 1537) : wpX_pathWinners (fun r u' => wpY_pathWinners (fun r' => r' = r ∧ i_Rel (k + 3) u' v) v) u := by
  refine qz_el (Q := fun u v => wpX_pathWinners (fun r u' => wpY_pathWinners (fun r' => r' = r ∧ i_Rel (k + 3) u' v) v) u) I ?_
  intro n c w pl xK xB xW xN xL xP xQ xE xT xS xF yW yN yL yO D X Y K
  have h2 := D.1
  have h6 := D.2.1
  unfold wpX_pathWinners
  dsimp only
  refine qx_find D X K fun xK xB xP xQ xE xT xS xF hK => ?_
  dsimp only
  refine ⟨n + 1, qx_pw8 h6 (qp_45 D) hK.2.1 ?_ (n + 1) 0 (by omega) (by omega)⟩
  exact qy_pw D Y ⟨rfl, qz_in D X Y fun _ => hK⟩
end
