section
theorem pk_us {f : Nat → Int32} {k : Nat} {x : Int32} : upd f k x k = x := if_pos rfl
theorem pk_un {f : Nat → Int32} {k j : Nat} {x : Int32} (h : j ≠ k) : upd f k x j = f j := if_neg h
theorem pk_sub {a b : Nat} (h : b ≤ a) : nI a - nI b = nI (a - b) := by
  obtain ⟨c, rfl⟩ : ∃ c, a = c + b := ⟨a - b, by omega⟩
  rw [← nI_add, Int32.add_sub_cancel, Nat.add_sub_cancel]
theorem pk_mul (a b : Nat) : nI a * nI b = nI (a * b) := (Int32.ofNat_mul a b).symm
theorem pk_ix (x : Int32) {n : Nat} (hn : n < 2 ^ 31) : x < 0 ∨ nI n ≤ x ∨ ∃ j : Nat, j < n ∧ x = nI j := by
  by_cases h : x < 0
  · exact Or.inl h
  · obtain ⟨j, hj, rfl⟩ := nI_of h
    by_cases h2 : j < n
    · exact Or.inr (Or.inr ⟨j, h2, rfl⟩)
    · exact Or.inr (Or.inl (nI_le (by omega) hj))
theorem pk_le {x y : Int32} {A B : Prop} (a b : Nat) (f : a ≤ b → A) (g : b < a → B) (hx : x = nI a := by rfl) (hy : y = nI b := by rfl) (ha : a < 2 ^ 31 := by omega) (hb : b < 2 ^ 31 := by omega) : (x ≤ y → A) ∧ (¬ x ≤ y → B) := by
  subst hx hy
  rw [nI_leI ha hb]
  exact ⟨f, fun z => g (by omega)⟩
theorem pk_lt {x y : Int32} {A B : Prop} (a b : Nat) (f : a < b → A) (g : b ≤ a → B) (hx : x = nI a := by rfl) (hy : y = nI b := by rfl) (ha : a < 2 ^ 31 := by omega) (hb : b < 2 ^ 31 := by omega) : (x < y → A) ∧ (¬ x < y → B) := by
  subst hx hy
  rw [nI_ltI ha hb]
  exact ⟨f, fun z => g (by omega)⟩
theorem pk_eq {x y : Int32} {A B : Prop} (a b : Nat) (f : a = b → A) (g : a ≠ b → B) (hx : x = nI a := by rfl) (hy : y = nI b := by rfl) (ha : a < 2 ^ 31 := by omega) (hb : b < 2 ^ 31 := by omega) : (x = y → A) ∧ (¬ x = y → B) := by
  subst hx hy
  rw [nI_eq ha hb]
  exact ⟨f, g⟩
abbrev mt_FS : Type := (Nat → Int32) × (Nat → Int32) × Nat
abbrev mt_f (f : Nat → Nat) : Nat → Int32 := fun j => nI (f j)
def mt_u (f : Nat → Nat) (k x : Nat) : Nat → Nat := fun j => if j = k then x else f j
theorem mt_us {f : Nat → Nat} {k x : Nat} : mt_u f k x k = x := if_pos rfl
theorem mt_un {f : Nat → Nat} {k j x : Nat} (h : j ≠ k) : mt_u f k x j = f j := if_neg h
theorem mt_ue {f : Nat → Nat} {k j x : Nat} (h : j = k) : mt_u f k x j = x := if_pos h
theorem mt_uf (f : Nat → Nat) (k x : Nat) : upd (mt_f f) k (nI x) = mt_f (mt_u f k x) := by
  funext j
  show (if j = k then nI x else nI (f j)) = nI (if j = k then x else f j)
  split <;> rfl
theorem mt_uu (f : Nat → Nat) (k : Nat) : mt_u f k (f k) = f := by
  funext j
  by_cases h : j = k
  · rw [mt_ue h, h]
  · exact mt_un h
theorem mt_ix (a r k : Nat) : nI a * nI r + nI k = nI (a * r + k) := by rw [pk_mul, nI_add]
theorem mt_i60 (r k : Nat) : (60 : Int32) * nI r + nI k = nI (60 * r + k) := mt_ix 60 r k
theorem mt_i61 (r k : Nat) : (61 : Int32) * nI r + nI k = nI (61 * r + k) := mt_ix 61 r k
theorem mt_i10 (r k : Nat) : (10 : Int32) * nI r + nI k = nI (10 * r + k) := mt_ix 10 r k
theorem mt_i3 (r k : Nat) : (3 : Int32) * nI r + nI k = nI (3 * r + k) := mt_ix 3 r k
theorem mt_vb0 : vp_nar .boolean 0 = 0 := by decide
theorem mt_vb1 : vp_nar .boolean 1 = 1 := by decide
theorem mt_10 : ¬ (1 : Int32) = 0 := by decide
theorem mt_dec (k : Nat) : nI k + (-1) = nI k - 1 := (Int32.sub_eq_add_neg _ _).symm
theorem mt_neg : nI 0 - 1 < 0 := by decide
theorem mt_m1 : (-1 : Int32) < 0 := by decide
end
section
/-- going up from a by p at most n steps, does one meet x -/
def mt_up (p : Nat → Int32) (x : Int32) : Nat → Int32 → Bool
  | 0, _ => false
  | n + 1, a => if a < 0 then false else if a = x then true else mt_up p x n (p a.toNatClampNeg)
theorem mt_up_s {p : Nat → Int32} {x a : Int32} {n : Nat} : mt_up p x (n + 1) a = if a < 0 then false else if a = x then true else mt_up p x n (p a.toNatClampNeg) := rfl
/-- one change carried out on parents, labels, count of skips -/
def mt_s (mv ar : Nat → Int32) (D : Nat → Nat) (c : Nat) (s : mt_FS) : mt_FS :=
  if mv c = 0 then (s.1, upd s.2.1 (D c) (ar c), s.2.2) else if mt_up s.1 (nI (D c)) 10 (ar c) = true then (s.1, s.2.1, s.2.2 + 1) else (upd s.1 (D c) (ar c), s.2.1, s.2.2)
def mt_o (mv : Nat → Int32) (D : Nat → Nat) (c : Nat) (s : mt_FS) : Int32 := if mv c = 0 then s.2.1 (D c) else s.1 (D c)
def mt_q (mv ar : Nat → Int32) (D : Nat → Nat) (c : Nat) (s : mt_FS) : Int32 := if mv c = 0 then 0 else if mt_up s.1 (nI (D c)) 10 (ar c) = true then 1 else 0
/-- the first k changes of the log that begins at b, carried out from the start -/
def mt_d (mv ar : Nat → Int32) (D L : Nat → Nat) (b : Nat) : Nat → mt_FS
  | 0 => ((fun _ => -1), (fun _ => 0), 0)
  | k + 1 => mt_s mv ar D (L (b + k)) (mt_d mv ar D L b k)
theorem mt_d_s {mv ar : Nat → Int32} {D L : Nat → Nat} {b k : Nat} : mt_d mv ar D L b (k + 1) = mt_s mv ar D (L (b + k)) (mt_d mv ar D L b k) := rfl
/-- whether the change named x is skipped among the first k -/
def mt_h (mv ar : Nat → Int32) (D L : Nat → Nat) (b : Nat) (x : Int32) : Nat → Int32
  | 0 => 0
  | k + 1 => if mt_q mv ar D (L (b + k)) (mt_d mv ar D L b k) = 1 ∧ nI (L (b + k)) = x then 1 else mt_h mv ar D L b x k
theorem mt_h_s {mv ar : Nat → Int32} {D L : Nat → Nat} {b k : Nat} {x : Int32} : mt_h mv ar D L b x (k + 1) = if mt_q mv ar D (L (b + k)) (mt_d mv ar D L b k) = 1 ∧ nI (L (b + k)) = x then 1 else mt_h mv ar D L b x k := rfl
def mt_w (p : Nat → Int32) : Prop := ∀ n, p n < 0 ∨ ∃ a, a < 10 ∧ p n = nI a
def mt_k (S O : Nat → Nat) (c : Nat) : Nat := 3 * S c + O c
/-- the picture of replica r at place k of its log -/
def mt_V (mv ar : Nat → Int32) (D L : Nat → Nat) (bf sk sc pa la : Nat → Int32) (r k : Nat) : Prop :=
  (∀ j, j < k → bf (60 * r + j) = mt_o mv D (L (60 * r + j)) (mt_d mv ar D L (60 * r) j) ∧ sk (60 * r + j) = mt_q mv ar D (L (60 * r + j)) (mt_d mv ar D L (60 * r) j)) ∧
  (∀ n, n < 10 → pa (10 * r + n) = (mt_d mv ar D L (60 * r) k).1 n ∧ la (10 * r + n) = (mt_d mv ar D L (60 * r) k).2.1 n) ∧
  sc r = nI (mt_d mv ar D L (60 * r) k).2.2
/-- nothing outside of replica r has changed -/
def mt_E (r : Nat) (bf sk sc pa la bf' sk' sc' pa' la' : Nat → Int32) : Prop :=
  ∀ q, q ≠ r → (∀ j, j < 60 → bf' (60 * q + j) = bf (60 * q + j) ∧ sk' (60 * q + j) = sk (60 * q + j)) ∧ (∀ n, n < 10 → pa' (10 * q + n) = pa (10 * q + n) ∧ la' (10 * q + n) = la (10 * q + n)) ∧ sc' q = sc q
/-- the changes made -/
def mt_I (m : Nat) (mv ar : Nat → Int32) (D S O N MB CO : Nat → Nat) : Prop :=
  m ≤ 60 ∧ MB 0 + MB 1 + MB 2 = m ∧ (∀ c, D c < 10 ∧ O c < 3 ∧ S c ≤ m ∧ N c ≤ m) ∧
  (∀ c, c < m → mv c ≠ 0 → ∃ a, a < 10 ∧ ar c = nI a) ∧
  (∀ c, c < m → 1 ≤ N c ∧ N c ≤ MB (O c)) ∧
  (∀ o n, o < 3 → 1 ≤ n → n ≤ MB o → CO (61 * o + n) < m ∧ O (CO (61 * o + n)) = o ∧ N (CO (61 * o + n)) = n) ∧
  (∀ c d, c < d → d < m → O c = O d → N c < N d ∧ S c < S d)
/-- what replica r knows, and its log -/
def mt_G (m : Nat) (S O N MB K GR LL LC : Nat → Nat) (r : Nat) : Prop :=
  (∀ o, o < 3 → K (3 * r + o) ≤ MB o) ∧ LL r = K (3 * r + 0) + K (3 * r + 1) + K (3 * r + 2) ∧
  (∀ c, c < m → N c ≤ K (3 * r + O c) → S c ≤ GR r) ∧
  (GR r = 0 ∨ ∃ c, c < m ∧ N c ≤ K (3 * r + O c) ∧ S c = GR r) ∧
  (∀ i j, i < j → j < LL r → mt_k S O (LC (60 * r + i)) < mt_k S O (LC (60 * r + j))) ∧
  (∀ k, k < LL r → LC (60 * r + k) < m ∧ N (LC (60 * r + k)) ≤ K (3 * r + O (LC (60 * r + k)))) ∧
  (∀ c, c < m → N c ≤ K (3 * r + O c) → ∃ k, k < LL r ∧ LC (60 * r + k) = c)
/-- what the reference knows -/
def mt_Y (m : Nat) (O N K : Nat → Nat) (yk : Nat → Int32) : Prop :=
  ∀ r c, r < 3 → c < 60 → (yk (60 * r + c) = 0 ↔ ¬ (c < m ∧ N c ≤ K (3 * r + O c)))
section
variable {mv ar mv' ar' : Nat → Int32} {D L D' L' : Nat → Nat} {c b k r q : Nat} {s : mt_FS} {bf sk sc pa la bf' sk' sc' pa' la' bf'' sk'' sc'' pa'' la'' : Nat → Int32}
theorem mt_s0 (h : mv c = 0) : mt_s mv ar D c s = (s.1, upd s.2.1 (D c) (ar c), s.2.2) := if_pos h
theorem mt_s1 (h : ¬ mv c = 0) (h2 : mt_up s.1 (nI (D c)) 10 (ar c) = true) : mt_s mv ar D c s = (s.1, s.2.1, s.2.2 + 1) := by
  unfold mt_s; rw [if_neg h, if_pos h2]
theorem mt_s2 (h : ¬ mv c = 0) (h2 : ¬ mt_up s.1 (nI (D c)) 10 (ar c) = true) : mt_s mv ar D c s = (upd s.1 (D c) (ar c), s.2.1, s.2.2) := by
  unfold mt_s; rw [if_neg h, if_neg h2]
theorem mt_q0 (h : mv c = 0) : mt_q mv ar D c s = 0 := if_pos h
theorem mt_q1 (h : ¬ mv c = 0) (h2 : mt_up s.1 (nI (D c)) 10 (ar c) = true) : mt_q mv ar D c s = 1 := by
  unfold mt_q; rw [if_neg h, if_pos h2]
theorem mt_q2 (h : ¬ mv c = 0) (h2 : ¬ mt_up s.1 (nI (D c)) 10 (ar c) = true) : mt_q mv ar D c s = 0 := by
  unfold mt_q; rw [if_neg h, if_neg h2]
theorem mt_q01 : mt_q mv ar D c s = 0 ∨ mt_q mv ar D c s = 1 := by
  unfold mt_q
  split
  · exact Or.inl rfl
  · split
    · exact Or.inr rfl
    · exact Or.inl rfl
theorem mt_o0 (h : mv c = 0) : mt_o mv D c s = s.2.1 (D c) := if_pos h
theorem mt_o1 (h : ¬ mv c = 0) : mt_o mv D c s = s.1 (D c) := if_neg h
theorem mt_h01 (x : Int32) : ∀ k, mt_h mv ar D L b x k = 0 ∨ mt_h mv ar D L b x k = 1 := by
  intro k
  induction k with
  | zero => exact Or.inl rfl
  | succ k ih =>
    rw [mt_h_s]
    split
    · exact Or.inr rfl
    · exact ih
theorem mt_hn (x : Int32) : ∀ k, (∀ i, i < k → ¬ nI (L (b + i)) = x) → mt_h mv ar D L b x k = 0 := by
  intro k
  induction k with
  | zero => intro _; rfl
  | succ k ih =>
    intro h
    rw [mt_h_s, if_neg (fun z => h k (by omega) z.2)]
    exact ih (fun i hi => h i (by omega))
theorem mt_dc : ∀ k, (∀ i, i < k → L' (b + i) = L (b + i) ∧ mv' (L (b + i)) = mv (L (b + i)) ∧ ar' (L (b + i)) = ar (L (b + i)) ∧ D' (L (b + i)) = D (L (b + i))) → mt_d mv' ar' D' L' b k = mt_d mv ar D L b k := by
  intro k
  induction k with
  | zero => intro _; rfl
  | succ k ih =>
    intro h
    obtain ⟨e1, e2, e3, e4⟩ := h k (by omega)
    rw [mt_d_s, mt_d_s, ih (fun i hi => h i (by omega)), e1]
    unfold mt_s
    rw [e2, e3, e4]
theorem mt_dw : ∀ k, (∀ i, i < k → ¬ mv (L (b + i)) = 0 → ∃ a, a < 10 ∧ ar (L (b + i)) = nI a) → mt_w (mt_d mv ar D L b k).1 := by
  intro k
  induction k with
  | zero => intro _ n; exact Or.inl mt_m1
  | succ k ih =>
    intro h
    have w := ih (fun i hi => h i (by omega))
    rw [mt_d_s]
    by_cases h0 : mv (L (b + k)) = 0
    · rw [mt_s0 h0]; exact w
    · by_cases h1 : mt_up (mt_d mv ar D L b k).1 (nI (D (L (b + k)))) 10 (ar (L (b + k))) = true
      · rw [mt_s1 h0 h1]; exact w
      · rw [mt_s2 h0 h1]
        intro n
        show upd (mt_d mv ar D L b k).1 (D (L (b + k))) (ar (L (b + k))) n < 0 ∨ ∃ a, a < 10 ∧ upd (mt_d mv ar D L b k).1 (D (L (b + k))) (ar (L (b + k))) n = nI a
        by_cases e : n = D (L (b + k))
        · subst e; rw [pk_us]; exact Or.inr (h k (by omega) h0)
        · rw [pk_un e]; exact w n
theorem mt_Vc (h : ∀ i, i < k → L' (60 * r + i) = L (60 * r + i) ∧ mv' (L (60 * r + i)) = mv (L (60 * r + i)) ∧ ar' (L (60 * r + i)) = ar (L (60 * r + i)) ∧ D' (L (60 * r + i)) = D (L (60 * r + i))) (hV : mt_V mv ar D L bf sk sc pa la r k) : mt_V mv' ar' D' L' bf sk sc pa la r k := by
  have hd : ∀ j, j ≤ k → mt_d mv' ar' D' L' (60 * r) j = mt_d mv ar D L (60 * r) j := fun j hj => mt_dc j (fun i hi => h i (by omega))
  obtain ⟨h1, h2, h3⟩ := hV
  refine ⟨fun j hj => ?_, ?_, ?_⟩
  · obtain ⟨e1, e2, e3, e4⟩ := h j hj
    have g := h1 j hj
    unfold mt_o mt_q at g
    unfold mt_o mt_q
    rw [hd j (by omega), e1, e2, e3, e4]
    exact g
  · rw [hd k (Nat.le_refl k)]; exact h2
  · rw [hd k (Nat.le_refl k)]; exact h3
theorem mt_E_rf : mt_E r bf sk sc pa la bf sk sc pa la := fun _ _ => ⟨fun _ _ => ⟨rfl, rfl⟩, fun _ _ => ⟨rfl, rfl⟩, rfl⟩
theorem mt_E_tr (h : mt_E r bf sk sc pa la bf' sk' sc' pa' la') (g : mt_E r bf' sk' sc' pa' la' bf'' sk'' sc'' pa'' la'') : mt_E r bf sk sc pa la bf'' sk'' sc'' pa'' la'' := by
  intro q hq
  obtain ⟨a1, a2, a3⟩ := h q hq
  obtain ⟨b1, b2, b3⟩ := g q hq
  exact ⟨fun j hj => ⟨(b1 j hj).1.trans (a1 j hj).1, (b1 j hj).2.trans (a1 j hj).2⟩, fun n hn => ⟨(b2 n hn).1.trans (a2 n hn).1, (b2 n hn).2.trans (a2 n hn).2⟩, b3.trans a3⟩
theorem mt_VE (h : mt_E r bf sk sc pa la bf' sk' sc' pa' la') (hq : q ≠ r) (hk : k ≤ 60) (hV : mt_V mv ar D L bf sk sc pa la q k) : mt_V mv ar D L bf' sk' sc' pa' la' q k := by
  obtain ⟨a1, a2, a3⟩ := h q hq
  obtain ⟨h1, h2, h3⟩ := hV
  exact ⟨fun j hj => ⟨(a1 j (by omega)).1.trans (h1 j hj).1, (a1 j (by omega)).2.trans (h1 j hj).2⟩, fun n hn => ⟨(a2 n hn).1.trans (h2 n hn).1, (a2 n hn).2.trans (h2 n hn).2⟩, a3.trans h3⟩
/-! undo: back from place k + 1 to place k -/
theorem mt_Vb0 (hV : mt_V mv ar D L bf sk sc pa la r (k + 1)) (h0 : mv (L (60 * r + k)) = 0) (hD : D (L (60 * r + k)) < 10) : mt_V mv ar D L bf sk sc pa (upd la (10 * r + D (L (60 * r + k))) (bf (60 * r + k))) r k ∧ mt_E r bf sk sc pa la bf sk sc pa (upd la (10 * r + D (L (60 * r + k))) (bf (60 * r + k))) := by
  obtain ⟨h1, h2, h3⟩ := hV
  rw [mt_d_s, mt_s0 h0] at h2 h3
  have hb := (h1 k (by omega)).1
  rw [mt_o0 h0] at hb
  refine ⟨⟨fun j hj => h1 j (by omega), fun n hn => ⟨(h2 n hn).1, ?_⟩, h3⟩, fun q hq => ⟨fun _ _ => ⟨rfl, rfl⟩, fun n hn => ⟨rfl, pk_un (by omega)⟩, rfl⟩⟩
  by_cases e : n = D (L (60 * r + k))
  · rw [e, pk_us, hb]
  · rw [pk_un (by omega)]; exact (h2 n hn).2.trans (pk_un e)
theorem mt_Vb1 (hV : mt_V mv ar D L bf sk sc pa la r (k + 1)) (h0 : ¬ mv (L (60 * r + k)) = 0) (h9 : sk (60 * r + k) = 0) (hD : D (L (60 * r + k)) < 10) : mt_V mv ar D L bf sk sc (upd pa (10 * r + D (L (60 * r + k))) (bf (60 * r + k))) la r k ∧ mt_E r bf sk sc pa la bf sk sc (upd pa (10 * r + D (L (60 * r + k))) (bf (60 * r + k))) la := by
  obtain ⟨h1, h2, h3⟩ := hV
  have hb := (h1 k (by omega)).1
  have hs := (h1 k (by omega)).2
  have hu : ¬ mt_up (mt_d mv ar D L (60 * r) k).1 (nI (D (L (60 * r + k)))) 10 (ar (L (60 * r + k))) = true := by
    intro z
    rw [mt_q1 h0 z, h9] at hs
    exact mt_10 hs.symm
  rw [mt_d_s, mt_s2 h0 hu] at h2 h3
  rw [mt_o1 h0] at hb
  refine ⟨⟨fun j hj => h1 j (by omega), fun n hn => ⟨?_, (h2 n hn).2⟩, h3⟩, fun q hq => ⟨fun _ _ => ⟨rfl, rfl⟩, fun n hn => ⟨pk_un (by omega), rfl⟩, rfl⟩⟩
  by_cases e : n = D (L (60 * r + k))
  · rw [e, pk_us, hb]
  · rw [pk_un (by omega)]; exact (h2 n hn).1.trans (pk_un e)
theorem mt_Vb2 (hV : mt_V mv ar D L bf sk sc pa la r (k + 1)) (h0 : ¬ mv (L (60 * r + k)) = 0) (h9 : ¬ sk (60 * r + k) = 0) : mt_V mv ar D L bf sk (upd sc r (sc r - 1)) pa la r k ∧ mt_E r bf sk sc pa la bf sk (upd sc r (sc r - 1)) pa la := by
  obtain ⟨h1, h2, h3⟩ := hV
  have hs := (h1 k (by omega)).2
  have hu : mt_up (mt_d mv ar D L (60 * r) k).1 (nI (D (L (60 * r + k)))) 10 (ar (L (60 * r + k))) = true := by
    refine Classical.byContradiction fun z => ?_
    rw [mt_q2 h0 z] at hs
    exact h9 hs
  rw [mt_d_s, mt_s1 h0 hu] at h2 h3
  refine ⟨⟨fun j hj => h1 j (by omega), h2, ?_⟩, fun q hq => ⟨fun _ _ => ⟨rfl, rfl⟩, fun n hn => ⟨rfl, rfl⟩, pk_un hq⟩⟩
  rw [pk_us, h3]
  exact nI_pred _
/-! carry out: from place k to place k + 1 -/
theorem mt_Vf0 (hV : mt_V mv ar D L bf sk sc pa la r k) (h0 : mv (L (60 * r + k)) = 0) (hk : k < 60) (hD : D (L (60 * r + k)) < 10) : mt_V mv ar D L (upd bf (60 * r + k) (la (10 * r + D (L (60 * r + k))))) (upd sk (60 * r + k) 0) sc pa (upd la (10 * r + D (L (60 * r + k))) (ar (L (60 * r + k)))) r (k + 1) ∧ mt_E r bf sk sc pa la (upd bf (60 * r + k) (la (10 * r + D (L (60 * r + k))))) (upd sk (60 * r + k) 0) sc pa (upd la (10 * r + D (L (60 * r + k))) (ar (L (60 * r + k)))) := by
  obtain ⟨h1, h2, h3⟩ := hV
  refine ⟨⟨fun j hj => ?_, fun n hn => ?_, ?_⟩, fun q hq => ⟨fun j hj => ⟨pk_un (by omega), pk_un (by omega)⟩, fun n hn => ⟨rfl, pk_un (by omega)⟩, rfl⟩⟩
  · by_cases e : j = k
    · rw [e, pk_us, pk_us, mt_o0 h0, mt_q0 h0]
      exact ⟨(h2 _ hD).2, rfl⟩
    · rw [pk_un (by omega), pk_un (by omega)]
      exact h1 j (by omega)
  · rw [mt_d_s, mt_s0 h0]
    refine ⟨(h2 n hn).1, ?_⟩
    show _ = upd (mt_d mv ar D L (60 * r) k).2.1 (D (L (60 * r + k))) (ar (L (60 * r + k))) n
    by_cases e : n = D (L (60 * r + k))
    · rw [e, pk_us, pk_us]
    · rw [pk_un (by omega), pk_un e]; exact (h2 n hn).2
  · rw [mt_d_s, mt_s0 h0]; exact h3
theorem mt_Vf1 (hV : mt_V mv ar D L bf sk sc pa la r k) (h0 : ¬ mv (L (60 * r + k)) = 0) (hu : mt_up (mt_d mv ar D L (60 * r) k).1 (nI (D (L (60 * r + k)))) 10 (ar (L (60 * r + k))) = true) (hk : k < 60) (hD : D (L (60 * r + k)) < 10) : mt_V mv ar D L (upd bf (60 * r + k) (pa (10 * r + D (L (60 * r + k))))) (upd (upd sk (60 * r + k) 0) (60 * r + k) 1) (upd sc r (sc r + 1)) pa la r (k + 1) ∧ mt_E r bf sk sc pa la (upd bf (60 * r + k) (pa (10 * r + D (L (60 * r + k))))) (upd (upd sk (60 * r + k) 0) (60 * r + k) 1) (upd sc r (sc r + 1)) pa la := by
  obtain ⟨h1, h2, h3⟩ := hV
  refine ⟨⟨fun j hj => ?_, fun n hn => ?_, ?_⟩, fun q hq => ⟨fun j hj => ⟨pk_un (by omega), by rw [pk_un (by omega), pk_un (by omega)]⟩, fun n hn => ⟨rfl, rfl⟩, pk_un hq⟩⟩
  · by_cases e : j = k
    · rw [e, pk_us, pk_us, mt_o1 h0, mt_q1 h0 hu]
      exact ⟨(h2 _ hD).1, rfl⟩
    · rw [pk_un (by omega), pk_un (by omega), pk_un (by omega)]
      exact h1 j (by omega)
  · rw [mt_d_s, mt_s1 h0 hu]
    exact h2 n hn
  · rw [mt_d_s, mt_s1 h0 hu, pk_us, h3]
    exact nI_1 _
theorem mt_Vf2 (hV : mt_V mv ar D L bf sk sc pa la r k) (h0 : ¬ mv (L (60 * r + k)) = 0) (hu : ¬ mt_up (mt_d mv ar D L (60 * r) k).1 (nI (D (L (60 * r + k)))) 10 (ar (L (60 * r + k))) = true) (hk : k < 60) (hD : D (L (60 * r + k)) < 10) : mt_V mv ar D L (upd bf (60 * r + k) (pa (10 * r + D (L (60 * r + k))))) (upd sk (60 * r + k) 0) sc (upd pa (10 * r + D (L (60 * r + k))) (ar (L (60 * r + k)))) la r (k + 1) ∧ mt_E r bf sk sc pa la (upd bf (60 * r + k) (pa (10 * r + D (L (60 * r + k))))) (upd sk (60 * r + k) 0) sc (upd pa (10 * r + D (L (60 * r + k))) (ar (L (60 * r + k)))) la := by
  obtain ⟨h1, h2, h3⟩ := hV
  refine ⟨⟨fun j hj => ?_, fun n hn => ?_, ?_⟩, fun q hq => ⟨fun j hj => ⟨pk_un (by omega), pk_un (by omega)⟩, fun n hn => ⟨pk_un (by omega), rfl⟩, rfl⟩⟩
  · by_cases e : j = k
    · rw [e, pk_us, pk_us, mt_o1 h0, mt_q2 h0 hu]
      exact ⟨(h2 _ hD).1, rfl⟩
    · rw [pk_un (by omega), pk_un (by omega)]
      exact h1 j (by omega)
  · rw [mt_d_s, mt_s2 h0 hu]
    refine ⟨?_, (h2 n hn).2⟩
    show _ = upd (mt_d mv ar D L (60 * r) k).1 (D (L (60 * r + k))) (ar (L (60 * r + k))) n
    by_cases e : n = D (L (60 * r + k))
    · rw [e, pk_us, pk_us]
    · rw [pk_un (by omega), pk_un e]; exact (h2 n hn).1
  · rw [mt_d_s, mt_s2 h0 hu]; exact h3
end
end
section
/-! the log with one change put in; facts on what is known -/
def mt_sh (L : Nat → Nat) (b p l : Nat) : Nat → Nat := fun i => if b + p < i ∧ i ≤ b + l then L (i - 1) else L i
def mt_in (L : Nat → Nat) (b p l c : Nat) : Nat → Nat := mt_u (mt_sh L b p l) (b + p) c
section
variable {L : Nat → Nat} {b p l c k i j : Nat}
theorem mt_sh_0 : mt_sh L b l l = L := by
  funext i
  exact if_neg (by omega)
theorem mt_sh_lo (h : i ≤ b + p) : mt_sh L b p l i = L i := if_neg (by omega)
theorem mt_sh_hi (h : b + p < i) (h2 : i ≤ b + l) : mt_sh L b p l i = L (i - 1) := if_pos ⟨h, h2⟩
theorem mt_sh_out (h : b + l < i) : mt_sh L b p l i = L i := if_neg (by omega)
theorem mt_sh_s (hk : k < l) : mt_u (mt_sh L b (k + 1) l) (b + k + 1) (mt_sh L b (k + 1) l (b + k)) = mt_sh L b k l := by
  funext i
  by_cases e : i = b + k + 1
  · rw [mt_ue e, mt_sh_lo (by omega), mt_sh_hi (by omega) (by omega), e]
    rfl
  · rw [mt_un e]
    by_cases h1 : i ≤ b + k
    · rw [mt_sh_lo (by omega), mt_sh_lo h1]
    · by_cases h2 : i ≤ b + l
      · rw [mt_sh_hi (by omega) h2, mt_sh_hi (by omega) h2]
      · rw [mt_sh_out (by omega), mt_sh_out (by omega)]
theorem mt_in_lo (h : j < p) : mt_in L b p l c (b + j) = L (b + j) := by
  unfold mt_in; rw [mt_un (by omega), mt_sh_lo (by omega)]
theorem mt_in_at : mt_in L b p l c (b + p) = c := mt_us
theorem mt_in_hi (h : p < j) (h2 : j ≤ l) : mt_in L b p l c (b + j) = L (b + (j - 1)) := by
  unfold mt_in; rw [mt_un (by omega), mt_sh_hi (by omega) (by omega)]
  exact congrArg L (by omega)
theorem mt_in_out (hp : p ≤ l) (h : i < b ∨ b + l < i) : mt_in L b p l c i = L i := by
  unfold mt_in; rw [mt_un (by omega)]
  rcases h with h | h
  · exact mt_sh_lo (by omega)
  · exact mt_sh_out h
end
section
variable {m r c q p : Nat} {mv ar bf sk sc pa la : Nat → Int32} {D S O N MB CO K GR LL LC K' GR' LL' LC' : Nat → Nat}
theorem mt_ky (hI : mt_I m mv ar D S O N MB CO) (hc : c < m) {d : Nat} (hd : d < m) (hn : c ≠ d) : mt_k S O c ≠ mt_k S O d := by
  obtain ⟨hm, hs, hB, hA, hN, hC, hM⟩ := hI
  obtain ⟨_, oc, _, _⟩ := hB c
  obtain ⟨_, od, _, _⟩ := hB d
  unfold mt_k
  intro e
  have eo : O c = O d := by omega
  by_cases h : c < d
  · have := hM c d h hd eo; omega
  · have := hM d c (by omega) hc eo.symm; omega
theorem mt_Gl (hI : mt_I m mv ar D S O N MB CO) (hG : mt_G m S O N MB K GR LL LC r) : LL r ≤ m ∧ m ≤ 60 := by
  obtain ⟨hm, hs, _⟩ := hI
  obtain ⟨g1, g2, _⟩ := hG
  have a := g1 0 (by omega)
  have b := g1 1 (by omega)
  have c := g1 2 (by omega)
  omega
theorem mt_Gs (hI : mt_I m mv ar D S O N MB CO) (hG : mt_G m S O N MB K GR LL LC r) : GR r ≤ m := by
  obtain ⟨hm, hs, hB, _⟩ := hI
  obtain ⟨g1, g2, g3, g4, _⟩ := hG
  rcases g4 with h | ⟨c, _, _, h⟩
  · omega
  · have := hB c; omega
theorem mt_K3 {a b c : Nat} (h : LL r = K (3 * r + 0) + K (3 * r + 1) + K (3 * r + 2)) (o : Nat) (ho : o < 3) (a0 : K (3 * r + 0) ≤ a) (a1 : K (3 * r + 1) ≤ b) (a2 : K (3 * r + 2) ≤ c) (hx : o = 0 ∧ K (3 * r + 0) < a ∨ o = 1 ∧ K (3 * r + 1) < b ∨ o = 2 ∧ K (3 * r + 2) < c) : LL r < a + b + c := by omega
theorem mt_o3 {o : Nat} (h : o < 3) : o = 0 ∨ o = 1 ∨ o = 2 := by omega
theorem mt_Gl1 (hI : mt_I m mv ar D S O N MB CO) (hG : mt_G m S O N MB K GR LL LC r) (hc : c < m) (hn : N c = K (3 * r + O c) + 1) : LL r < m := by
  obtain ⟨hm, hs, hB, hA, hN, hC, hM⟩ := hI
  obtain ⟨g1, g2, _⟩ := hG
  have a0 := g1 0 (by omega)
  have a1 := g1 1 (by omega)
  have a2 := g1 2 (by omega)
  have h := (hN c hc).2
  have ho := (hB c).2.1
  rcases mt_o3 ho with e | e | e <;> rw [e] at h hn <;> omega
theorem mt_Gc (hO : ∀ c, O c < 3) (hK : ∀ o, o < 3 → K' (3 * q + o) = K (3 * q + o)) (hR : GR' q = GR q) (hL : LL' q = LL q) (hC : ∀ j, j < LL q → LC' (60 * q + j) = LC (60 * q + j)) (hG : mt_G m S O N MB K GR LL LC q) : mt_G m S O N MB K' GR' LL' LC' q := by
  obtain ⟨g1, g2, g3, g4, g5, g6, g7⟩ := hG
  have hk : ∀ c, K' (3 * q + O c) = K (3 * q + O c) := fun c => hK _ (hO c)
  refine ⟨fun o ho => by rw [hK o ho]; exact g1 o ho, by rw [hL, hK 0 (by omega), hK 1 (by omega), hK 2 (by omega)]; exact g2, fun c hc h => ?_, ?_, fun i j hij hj => ?_, fun k hk' => ?_, fun c hc h => ?_⟩
  · rw [hk] at h; rw [hR]; exact g3 c hc h
  · rw [hR]
    rcases g4 with h | ⟨c, a, b, e⟩
    · exact Or.inl h
    · exact Or.inr ⟨c, a, by rw [hk]; exact b, e⟩
  · rw [hL] at hj
    rw [hC i (by omega), hC j hj]
    exact g5 i j hij hj
  · rw [hL] at hk'
    rw [hC k hk', hk]
    exact g6 k hk'
  · rw [hk] at h
    obtain ⟨k, a, b⟩ := g7 c hc h
    exact ⟨k, by rw [hL]; exact a, by rw [hC k a]; exact b⟩
/-- the log of replica r with change c at place p -/
theorem mt_Gin (hI : mt_I m mv ar D S O N MB CO) (hG : mt_G m S O N MB K GR LL LC r) (hr : r < 3) (hc : c < m) (hn : N c = K (3 * r + O c) + 1) (hp : p ≤ LL r) (h1 : ∀ j, j < p → mt_k S O (LC (60 * r + j)) ≤ mt_k S O c) (h2 : ∀ j, p ≤ j → j < LL r → mt_k S O c < mt_k S O (LC (60 * r + j))) : mt_G m S O N MB (mt_u K (3 * r + O c) (N c)) (mt_u GR r (if S c ≤ GR r then GR r else S c)) (mt_u LL r (LL r + 1)) (mt_in LC (60 * r) p (LL r) c) r := by
  have hky := fun d (hd : d < m) (hne : c ≠ d) => mt_ky hI hc hd hne
  have hgl := mt_Gl hI hG
  obtain ⟨hm, hs, hB, hA, hN, hC, hM⟩ := hI
  obtain ⟨g1, g2, g3, g4, g5, g6, g7⟩ := hG
  have hoc := (hB c).2.1
  have hKc : mt_u K (3 * r + O c) (N c) (3 * r + O c) = N c := mt_us
  have hKn : ∀ o, o ≠ O c → mt_u K (3 * r + O c) (N c) (3 * r + o) = K (3 * r + o) := fun o ho => mt_un (by omega)
  have kmono : ∀ o, K (3 * r + o) ≤ mt_u K (3 * r + O c) (N c) (3 * r + o) := by
    intro o
    by_cases e : o = O c
    · rw [e, hKc]; omega
    · rw [hKn o e]; exact Nat.le_refl _
  have kold : ∀ d, d < m → N d ≤ mt_u K (3 * r + O c) (N c) (3 * r + O d) → d = c ∨ N d ≤ K (3 * r + O d) := by
    intro d hd h
    by_cases e : O d = O c
    · rw [e, hKc] at h
      rw [e]
      by_cases e2 : d = c
      · exact Or.inl e2
      · right
        by_cases h3 : d < c
        · have := hM d c h3 hc e; omega
        · have := hM c d (by omega) hd e.symm; omega
    · rw [hKn _ e] at h; exact Or.inr h
  have e1 : mt_u LL r (LL r + 1) r = LL r + 1 := mt_us
  have e2 : mt_u GR r (if S c ≤ GR r then GR r else S c) r = (if S c ≤ GR r then GR r else S c) := mt_us
  have ge1 : GR r ≤ (if S c ≤ GR r then GR r else S c) := by split <;> omega
  have ge2 : S c ≤ (if S c ≤ GR r then GR r else S c) := by split <;> omega
  have hne : ∀ j, j < LL r → c ≠ LC (60 * r + j) := by
    intro j hj e
    have := (g6 j hj).2
    rw [← e] at this
    omega
  refine ⟨fun o ho => ?_, ?_, fun d hd h => ?_, ?_, fun i j hij hj => ?_, fun k hk => ?_, fun d hd h => ?_⟩
  · by_cases e : o = O c
    · rw [e, hKc]; exact (hN c hc).2
    · rw [hKn o e]; exact g1 o ho
  · rw [e1, g2]
    rcases mt_o3 hoc with e | e | e
    · rw [hKn 1 (by omega), hKn 2 (by omega), show (0 : Nat) = O c from e.symm, hKc, hn]; omega
    · rw [hKn 0 (by omega), hKn 2 (by omega), show (1 : Nat) = O c from e.symm, hKc, hn]; omega
    · rw [hKn 0 (by omega), hKn 1 (by omega), show (2 : Nat) = O c from e.symm, hKc, hn]; omega
  · rw [e2]
    rcases kold d hd h with e | e
    · rw [e]; exact ge2
    · exact Nat.le_trans (g3 d hd e) ge1
  · rw [e2]
    by_cases h : S c ≤ GR r
    · rw [if_pos h]
      rcases g4 with h | ⟨d, a, b, e⟩
      · exact Or.inl h
      · exact Or.inr ⟨d, a, Nat.le_trans b (kmono _), e⟩
    · rw [if_neg h]
      exact Or.inr ⟨c, hc, by rw [hKc]; exact Nat.le_refl _, rfl⟩
  · rw [e1] at hj
    by_cases a : j < p
    · rw [mt_in_lo a, mt_in_lo (by omega)]; exact g5 i j hij (by omega)
    · by_cases a2 : j = p
      · rw [a2, mt_in_at, mt_in_lo (by omega)]
        have x := h1 i (by omega)
        have y := hky _ (g6 i (by omega)).1 (hne i (by omega))
        omega
      · rw [mt_in_hi (j := j) (by omega) (by omega)]
        by_cases b : i < p
        · rw [mt_in_lo b]; exact g5 i (j - 1) (by omega) (by omega)
        · by_cases b2 : i = p
          · rw [b2, mt_in_at]; exact h2 (j - 1) (by omega) (by omega)
          · rw [mt_in_hi (j := i) (by omega) (by omega)]; exact g5 (i - 1) (j - 1) (by omega) (by omega)
  · rw [e1] at hk
    by_cases a : k < p
    · rw [mt_in_lo a]; exact ⟨(g6 k (by omega)).1, Nat.le_trans (g6 k (by omega)).2 (kmono _)⟩
    · by_cases a2 : k = p
      · rw [a2, mt_in_at, hKc]; exact ⟨hc, Nat.le_refl _⟩
      · rw [mt_in_hi (by omega) (by omega)]; exact ⟨(g6 (k - 1) (by omega)).1, Nat.le_trans (g6 (k - 1) (by omega)).2 (kmono _)⟩
  · rw [e1]
    rcases kold d hd h with e | e
    · exact ⟨p, by omega, by rw [mt_in_at]; exact e.symm⟩
    · obtain ⟨k, a, b⟩ := g7 d hd e
      by_cases x : k < p
      · exact ⟨k, by omega, by rw [mt_in_lo x]; exact b⟩
      · exact ⟨k + 1, by omega, by rw [mt_in_hi (by omega) (by omega)]; exact b⟩
end
end
section
/-! the component's small methods -/
section
variable {m r c k : Nat} {mv ar bf sk sc pa la : Nat → Int32} {D S O N MB CO K GR LL LC : Nat → Nat}
theorem mt_isE {post : Int32 → Prop} {a b : Nat} (hI : mt_I m mv ar D S O N MB CO) (ha : a < 60) (hb : b < 60) (h1 : mt_k S O a < mt_k S O b → post 1) (h0 : mt_k S O b ≤ mt_k S O a → post 0) : wpX_isEarlier post (nI m, mv, mt_f D, ar, mt_f S, mt_f O, mt_f N, mt_f MB, mt_f CO, mt_f K, mt_f GR, mt_f LL, mt_f LC, bf, sk, sc, pa, la) (nI a) (nI b) := by
  obtain ⟨hm, _, hB, _⟩ := hI
  obtain ⟨_, oa, sa, _⟩ := hB a
  obtain ⟨_, ob, sb, _⟩ := hB b
  unfold mt_k at h1 h0
  have ia : vp_in (nI a) 60 := vp_in_nI ha (by omega)
  have ib : vp_in (nI b) 60 := vp_in_nI hb (by omega)
  have ca : (nI a).toNatClampNeg = a := nI_clamp (by omega)
  have cb : (nI b).toNatClampNeg = b := nI_clamp (by omega)
  unfold wpX_isEarlier
  dsimp only
  rw [ca, cb]
  exact ⟨ia, ib, pk_eq (S a) (S b) (fun e => ⟨ia, ib, pk_le (O b) (O a) (fun h => h0 (by omega)) (fun h => h1 (by omega))⟩) (fun e => ⟨ia, ib, pk_le (S b) (S a) (fun h => h0 (by omega)) (fun h => h1 (by omega))⟩)⟩
theorem mt_undo {post : SX → Prop} (hI : mt_I m mv ar D S O N MB CO) (hr : r < 3) (hk : k < 60) (hc : LC (60 * r + k) < m) (hV : mt_V mv ar D LC bf sk sc pa la r (k + 1)) (H : ∀ sc' pa' la' : Nat → Int32, mt_V mv ar D LC bf sk sc' pa' la' r k → mt_E r bf sk sc pa la bf sk sc' pa' la' → post (nI m, mv, mt_f D, ar, mt_f S, mt_f O, mt_f N, mt_f MB, mt_f CO, mt_f K, mt_f GR, mt_f LL, mt_f LC, bf, sk, sc', pa', la')) : wpX_undo post (nI m, mv, mt_f D, ar, mt_f S, mt_f O, mt_f N, mt_f MB, mt_f CO, mt_f K, mt_f GR, mt_f LL, mt_f LC, bf, sk, sc, pa, la) (nI r) (nI k) := by
  obtain ⟨hm, _, hB, _⟩ := hI
  obtain ⟨hD, _, _, _⟩ := hB (LC (60 * r + k))
  have c1 : (nI (60 * r + k)).toNatClampNeg = 60 * r + k := nI_clamp (by omega)
  have i1 : vp_in (nI (60 * r + k)) 180 := vp_in_nI (by omega) (by omega)
  have c2 : (nI (LC (60 * r + k))).toNatClampNeg = LC (60 * r + k) := nI_clamp (by omega)
  have i2 : vp_in (nI (LC (60 * r + k))) 60 := vp_in_nI (by omega) (by omega)
  have c3 : (nI (10 * r + D (LC (60 * r + k)))).toNatClampNeg = 10 * r + D (LC (60 * r + k)) := nI_clamp (by omega)
  have i3 : vp_in (nI (10 * r + D (LC (60 * r + k)))) 30 := vp_in_nI (by omega) (by omega)
  have c4 : (nI r).toNatClampNeg = r := nI_clamp (by omega)
  have i4 : vp_in (nI r) 3 := vp_in_nI (by omega) (by omega)
  unfold wpX_undo
  dsimp only
  refine nm_r (mt_i60 r k) ⟨i1, nm_r (e' := nI (LC (60 * r + k))) (by rw [c1]) ⟨i2, nm_r (e' := nI (10 * r + D (LC (60 * r + k)))) (by rw [c2]; exact mt_i10 _ _) ⟨i2, ?_⟩⟩⟩
  rw [c1, c2, c3, c4]
  refine br_c (fun h0 => ⟨i1, i3, nm_e ?_⟩) (fun h0 => ⟨i1, br_c (fun h9 => ⟨i1, i3, nm_e ?_⟩) (fun h9 => ⟨i4, i4, nm_e ?_⟩)⟩)
  · obtain ⟨a, b⟩ := mt_Vb0 hV h0 hD
    exact H _ _ _ a b
  · obtain ⟨a, b⟩ := mt_Vb1 hV h0 h9 hD
    exact H _ _ _ a b
  · obtain ⟨a, b⟩ := mt_Vb2 hV h0 h9
    exact H _ _ _ a b
theorem mt_lead {post : Int32 → Prop} {p : Nat → Int32} {x : Int32} (hr : r < 3) (hw : mt_w p) (hp : ∀ n, n < 10 → pa (10 * r + n) = p n) : ∀ (t i : Nat) (a : Int32), i + t = 10 → (a < 0 ∨ ∃ b, b < 10 ∧ a = nI b) → (mt_up p x t a = true → post 1) → (¬ mt_up p x t a = true → post 0) → wX_leadsUpTo_6 post (nI r) x (nI m) mv (mt_f D) ar (mt_f S) (mt_f O) (mt_f N) (mt_f MB) (mt_f CO) (mt_f K) (mt_f GR) (mt_f LL) (mt_f LC) bf sk sc pa la (t + 1) a (nI i) := by
  intro t
  induction t with
  | zero =>
    intro i a hi ha h1 h0
    exact br_t (nI_le (a := 10) (by omega) (by omega)) (h0 Bool.false_ne_true)
  | succ t ih =>
    intro i a hi ha h1 h0
    rw [mt_up_s] at h1 h0
    have h10 : ¬ (10 : Int32) ≤ nI i := nI_ge (b := 10) (by omega) (by omega)
    refine br_f h10 ?_
    by_cases hn : a < 0
    · rw [if_pos hn] at h0
      exact br_t hn (h0 Bool.false_ne_true)
    · rw [if_neg hn] at h1 h0
      refine br_f hn ?_
      by_cases hx : a = x
      · rw [if_pos hx] at h1
        exact br_t hx (h1 rfl)
      · rw [if_neg hx] at h1 h0
        obtain ⟨b, hb, rfl⟩ : ∃ b, b < 10 ∧ a = nI b := by
          rcases ha with h | h
          · exact absurd h hn
          · exact h
        rw [nI_clamp (by omega)] at h1 h0
        exact br_f hx ⟨by rw [mt_i10]; exact vp_in_nI (by omega) (by omega), nm_r (e' := p b) (by rw [mt_i10, nI_clamp (by omega)]; exact hp b hb) (nm_r (nI_1 i) (ih (i + 1) (p b) (by omega) (hw b) h1 h0))⟩
theorem mt_leads {post : Int32 → Prop} {p : Nat → Int32} {x a : Int32} (hr : r < 3) (hw : mt_w p) (hp : ∀ n, n < 10 → pa (10 * r + n) = p n) (ha : a < 0 ∨ ∃ b, b < 10 ∧ a = nI b) (h1 : mt_up p x 10 a = true → post 1) (h0 : ¬ mt_up p x 10 a = true → post 0) : wpX_leadsUpTo post (nI m, mv, mt_f D, ar, mt_f S, mt_f O, mt_f N, mt_f MB, mt_f CO, mt_f K, mt_f GR, mt_f LL, mt_f LC, bf, sk, sc, pa, la) (nI r) a x := by
  unfold wpX_leadsUpTo
  dsimp only
  exact ⟨11, mt_lead hr hw hp 10 0 a rfl ha h1 h0⟩
theorem mt_carry {post : SX → Prop} (hI : mt_I m mv ar D S O N MB CO) (hr : r < 3) (hk : k < 60) (hc : ∀ j, j ≤ k → LC (60 * r + j) < m) (hV : mt_V mv ar D LC bf sk sc pa la r k) (H : ∀ bf' sk' sc' pa' la' : Nat → Int32, mt_V mv ar D LC bf' sk' sc' pa' la' r (k + 1) → mt_E r bf sk sc pa la bf' sk' sc' pa' la' → post (nI m, mv, mt_f D, ar, mt_f S, mt_f O, mt_f N, mt_f MB, mt_f CO, mt_f K, mt_f GR, mt_f LL, mt_f LC, bf', sk', sc', pa', la')) : wpX_carryOut post (nI m, mv, mt_f D, ar, mt_f S, mt_f O, mt_f N, mt_f MB, mt_f CO, mt_f K, mt_f GR, mt_f LL, mt_f LC, bf, sk, sc, pa, la) (nI r) (nI k) := by
  obtain ⟨hm, _, hB, hA, _⟩ := hI
  obtain ⟨hD, _, _, _⟩ := hB (LC (60 * r + k))
  have hck := hc k (Nat.le_refl k)
  have c1 : (nI (60 * r + k)).toNatClampNeg = 60 * r + k := nI_clamp (by omega)
  have i1 : vp_in (nI (60 * r + k)) 180 := vp_in_nI (by omega) (by omega)
  have c2 : (nI (LC (60 * r + k))).toNatClampNeg = LC (60 * r + k) := nI_clamp (by omega)
  have i2 : vp_in (nI (LC (60 * r + k))) 60 := vp_in_nI (by omega) (by omega)
  have c3 : (nI (10 * r + D (LC (60 * r + k)))).toNatClampNeg = 10 * r + D (LC (60 * r + k)) := nI_clamp (by omega)
  have i3 : vp_in (nI (10 * r + D (LC (60 * r + k)))) 30 := vp_in_nI (by omega) (by omega)
  have c4 : (nI r).toNatClampNeg = r := nI_clamp (by omega)
  have i4 : vp_in (nI r) 3 := vp_in_nI (by omega) (by omega)
  unfold wpX_carryOut
  dsimp only
  refine nm_r (mt_i60 r k) ⟨i1, nm_r (e' := nI (LC (60 * r + k))) (by rw [c1]) ⟨i2, nm_r (e' := nI (10 * r + D (LC (60 * r + k)))) (by rw [c2]; exact mt_i10 _ _) ⟨i1, nm_e ⟨i2, ?_⟩⟩⟩⟩
  rw [c1, c2, c3, c4, mt_vb0, mt_vb1]
  refine br_c (fun h0 => ⟨i3, i1, nm_e ⟨i2, i3, nm_e ?_⟩⟩) (fun h0 => ⟨i3, i1, nm_e ⟨i2, i2, ?_⟩⟩)
  · obtain ⟨a, b⟩ := mt_Vf0 hV h0 hk hD
    exact H _ _ _ _ _ a b
  · refine mt_leads (p := (mt_d mv ar D LC (60 * r) k).1) hr (mt_dw k (fun i hi => hA _ (hc i (by omega)))) (fun n hn => (hV.2.1 n hn).1) (Or.inr (hA _ hck h0)) (fun hu => br_f mt_10 ⟨i1, nm_e ⟨i4, i4, nm_e ?_⟩⟩) (fun hu => br_t rfl ⟨i2, i3, nm_e ?_⟩)
    · obtain ⟨a, b⟩ := mt_Vf1 hV h0 hu hk hD
      exact H _ _ _ _ _ a b
    · obtain ⟨a, b⟩ := mt_Vf2 hV h0 hu hk hD
      exact H _ _ _ _ _ a b
end
end
section
/-! learn -/
section
variable {m r c k : Nat} {mv ar : Nat → Int32} {D S O N MB CO K GR LL LC : Nat → Nat}
theorem mt_L109 {post : SX → Prop} (hI : mt_I m mv ar D S O N MB CO) (hr : r < 3) (hl : LL r ≤ 60) (hc : c < m) (hL : ∀ j, j < LL r → LC (60 * r + j) < m) (hR : GR r ≤ m) : ∀ (t k : Nat) (bf sk sc pa la : Nat → Int32), k + t = LL r → mt_V mv ar D LC bf sk sc pa la r k → (∀ bf' sk' sc' pa' la' : Nat → Int32, mt_V mv ar D LC bf' sk' sc' pa' la' r (LL r) → mt_E r bf sk sc pa la bf' sk' sc' pa' la' → post (nI m, mv, mt_f D, ar, mt_f S, mt_f O, mt_f N, mt_f MB, mt_f CO, mt_f (mt_u K (3 * r + O c) (N c)), mt_f (mt_u GR r (if S c ≤ GR r then GR r else S c)), mt_f LL, mt_f LC, bf', sk', sc', pa', la')) → wX_learn_109 post (nI r) (nI c) (t + 1) (nI k) (nI m) mv (mt_f D) ar (mt_f S) (mt_f O) (mt_f N) (mt_f MB) (mt_f CO) (mt_f K) (mt_f GR) (mt_f LL) (mt_f LC) bf sk sc pa la := by
  have hI' := hI
  obtain ⟨hm, _, hB, _⟩ := hI'
  obtain ⟨_, oc, sc', nc⟩ := hB c
  have c1 : (nI r).toNatClampNeg = r := nI_clamp (by omega)
  have i1 : vp_in (nI r) 3 := vp_in_nI (by omega) (by omega)
  have c2 : (nI c).toNatClampNeg = c := nI_clamp (by omega)
  have i2 : vp_in (nI c) 60 := vp_in_nI (by omega) (by omega)
  have c3 : (nI (3 * r + O c)).toNatClampNeg = 3 * r + O c := nI_clamp (by omega)
  have i3 : vp_in (nI (3 * r + O c)) 9 := vp_in_nI (by omega) (by omega)
  intro t
  induction t with
  | zero =>
    intro k bf sk sc pa la hk hV H
    have e : k = LL r := by omega
    subst e
    unfold wX_learn_109
    rw [c1, c2]
    refine ⟨i1, br_t (nI_le (Nat.le_refl _) (by omega)) ⟨i2, i2, by rw [mt_i3]; exact i3, nm_r (e' := mt_f (mt_u K (3 * r + O c) (N c))) (by rw [mt_i3, c3]; exact mt_uf _ _ _) ⟨i2, i1, pk_le (S c) (GR r) (fun h => ?_) (fun h => ⟨i2, i1, nm_r (e' := mt_f (mt_u GR r (S c))) (mt_uf _ _ _) ?_⟩)⟩⟩⟩
    · have h2 := H bf sk sc pa la hV mt_E_rf
      rw [if_pos h, mt_uu] at h2
      exact h2
    · have h2 := H bf sk sc pa la hV mt_E_rf
      rw [if_neg (by omega)] at h2
      exact h2
  | succ t ih =>
    intro k bf sk sc pa la hk hV H
    unfold wX_learn_109
    rw [c1]
    refine ⟨i1, br_f (nI_ge (by omega) (by omega)) (mt_carry hI hr (by omega) (fun j hj => hL j (by omega)) hV (fun bf' sk' sc' pa' la' hV' hE => ?_))⟩
    exact nm_r (nI_1 k) (ih (k + 1) bf' sk' sc' pa' la' (by omega) hV' (fun bf2 sk2 sc2 pa2 la2 h2 e2 => H bf2 sk2 sc2 pa2 la2 h2 (mt_E_tr hE e2)))
section
variable {bf sk sc pa la : Nat → Int32}
theorem mt_L17B {post : SX → Prop} {p : Nat} (hI : mt_I m mv ar D S O N MB CO) (hr : r < 3) (hc : c < m) (hp : p < 60) (HF : ∃ n109, wX_learn_109 post (nI r) (nI c) n109 (nI p) (nI m) mv (mt_f D) ar (mt_f S) (mt_f O) (mt_f N) (mt_f MB) (mt_f CO) (mt_f K) (mt_f GR) (mt_f (mt_u LL r (LL r + 1))) (mt_f (mt_u LC (60 * r + p) c)) bf sk sc pa la) : ∀ (q n : Nat), q < n → q ≤ 60 → (∀ j, j < q → LC (60 * r + j) < m ∧ mt_k S O (LC (60 * r + j)) ≤ mt_k S O c) → wX_learn_17 post (nI r) (nI c) n (nI p) (nI q - 1) (nI m) mv (mt_f D) ar (mt_f S) (mt_f O) (mt_f N) (mt_f MB) (mt_f CO) (mt_f K) (mt_f GR) (mt_f LL) (mt_f LC) bf sk sc pa la := by
  have hm : m ≤ 60 := hI.1
  have c1 : (nI r).toNatClampNeg = r := nI_clamp (by omega)
  have i1 : vp_in (nI r) 3 := vp_in_nI (by omega) (by omega)
  intro q
  induction q with
  | zero =>
    intro n hn _ _
    obtain ⟨n, rfl⟩ : ∃ n', n = n' + 1 := ⟨n - 1, by omega⟩
    exact br_t mt_neg ⟨by rw [mt_i60]; exact vp_in_nI (by omega) (by omega), nm_r (e' := mt_f (mt_u LC (60 * r + p) c)) (by rw [mt_i60, nI_clamp (by omega)]; exact mt_uf _ _ _) ⟨i1, i1, nm_r (e' := mt_f (mt_u LL r (LL r + 1))) (by rw [c1, nI_1]; exact mt_uf _ _ _) HF⟩⟩
  | succ q ih =>
    intro n hn hq hL
    obtain ⟨n, rfl⟩ : ∃ n', n = n' + 1 := ⟨n - 1, by omega⟩
    have hq' := hL q (by omega)
    have e : mt_f LC (60 * nI r + nI q).toNatClampNeg = nI (LC (60 * r + q)) := by rw [mt_i60, nI_clamp (by omega)]
    rw [nI_pred]
    refine br_f (nI_pos (by omega)) ⟨by rw [mt_i60]; exact vp_in_nI (by omega) (by omega), ?_⟩
    rw [e]
    refine mt_isE hI (by omega) (by omega) (fun h => absurd h (by omega)) (fun _ => br_t rfl (nm_r (mt_dec q) (ih n (by omega) (by omega) (fun j hj => hL j (by omega)))))
theorem mt_L17 {post : SX → Prop} (hI : mt_I m mv ar D S O N MB CO) (hr : r < 3) (hc : c < m) (hl : LL r < 60) (hL : ∀ j, j < LL r → LC (60 * r + j) < m) (hS : ∀ i j, i < j → j < LL r → mt_k S O (LC (60 * r + i)) < mt_k S O (LC (60 * r + j))) (HF : ∀ (p : Nat) (sc' pa' la' : Nat → Int32), p ≤ LL r → (∀ j, j < p → mt_k S O (LC (60 * r + j)) ≤ mt_k S O c) → (∀ j, p ≤ j → j < LL r → mt_k S O c < mt_k S O (LC (60 * r + j))) → mt_V mv ar D (mt_sh LC (60 * r) p (LL r)) bf sk sc' pa' la' r p → mt_E r bf sk sc pa la bf sk sc' pa' la' → ∃ n109, wX_learn_109 post (nI r) (nI c) n109 (nI p) (nI m) mv (mt_f D) ar (mt_f S) (mt_f O) (mt_f N) (mt_f MB) (mt_f CO) (mt_f K) (mt_f GR) (mt_f (mt_u LL r (LL r + 1))) (mt_f (mt_in LC (60 * r) p (LL r) c)) bf sk sc' pa' la') : ∀ (q n : Nat) (sc' pa' la' : Nat → Int32), q < n → q ≤ LL r → (∀ j, q ≤ j → j < LL r → mt_k S O c < mt_k S O (LC (60 * r + j))) → mt_V mv ar D (mt_sh LC (60 * r) q (LL r)) bf sk sc' pa' la' r q → mt_E r bf sk sc pa la bf sk sc' pa' la' → wX_learn_17 post (nI r) (nI c) n (nI q) (nI q - 1) (nI m) mv (mt_f D) ar (mt_f S) (mt_f O) (mt_f N) (mt_f MB) (mt_f CO) (mt_f K) (mt_f GR) (mt_f LL) (mt_f (mt_sh LC (60 * r) q (LL r))) bf sk sc' pa' la' := by
  have hm : m ≤ 60 := hI.1
  intro q
  induction q with
  | zero =>
    intro n sc' pa' la' hn hq hk hV hE
    exact mt_L17B (LC := mt_sh LC (60 * r) 0 (LL r)) hI hr hc (by omega) (HF 0 sc' pa' la' hq (fun j hj => absurd hj (by omega)) hk hV hE) 0 n hn (by omega) (fun j hj => absurd hj (by omega))
  | succ q ih =>
    intro n sc' pa' la' hn hq hk hV hE
    have hn' : ∃ n', n = n' + 1 := ⟨n - 1, by omega⟩
    obtain ⟨n, rfl⟩ := hn'
    have hsq : mt_sh LC (60 * r) (q + 1) (LL r) (60 * r + q) = LC (60 * r + q) := mt_sh_lo (by omega)
    by_cases hx : mt_k S O c < mt_k S O (LC (60 * r + q))
    · have e : mt_f (mt_sh LC (60 * r) (q + 1) (LL r)) (60 * nI r + nI q).toNatClampNeg = nI (LC (60 * r + q)) := by
        rw [mt_i60, nI_clamp (by omega)]; exact congrArg nI hsq
      have hL1 := hL q (by omega)
      rw [nI_pred]
      refine br_f (nI_pos (by omega)) ⟨by rw [mt_i60]; exact vp_in_nI (by omega) (by omega), ?_⟩
      rw [e]
      refine mt_isE hI (by omega) (by omega) (fun _ => br_f mt_10 ?_) (fun h => absurd h (by omega))
      refine mt_undo hI hr (by omega) (by rw [hsq]; exact hL1) hV (fun sc2 pa2 la2 hV2 hE2 => ?_)
      refine ⟨by rw [mt_i60]; exact vp_in_nI (by omega) (by omega), by rw [mt_i60, nI_1]; exact vp_in_nI (by omega) (by omega), nm_r (e' := mt_f (mt_sh LC (60 * r) q (LL r))) ?_ (nm_r (mt_dec q) (ih n sc2 pa2 la2 (by omega) (by omega) ?_ ?_ (mt_E_tr hE hE2)))⟩
      · rw [mt_i60, nI_1, nI_clamp (by omega), nI_clamp (by omega), ← mt_sh_s (by omega : q < LL r)]
        exact mt_uf _ _ _
      · intro j h1 h2
        by_cases ej : j = q
        · rw [ej]; exact hx
        · exact hk j (by omega) h2
      · exact mt_Vc (fun i hi => ⟨by rw [mt_sh_lo (by omega), mt_sh_lo (by omega)], rfl, rfl, rfl⟩) hV2
    · refine mt_L17B (LC := mt_sh LC (60 * r) (q + 1) (LL r)) hI hr hc (by omega) (HF (q + 1) sc' pa' la' hq (fun j hj => ?_) hk hV hE) (q + 1) (n + 1) hn (by omega) (fun j hj => ?_)
      · by_cases ej : j = q
        · rw [ej]; omega
        · have := hS j q (by omega) (by omega); omega
      · rw [mt_sh_lo (by omega)]
        refine ⟨hL j (by omega), ?_⟩
        by_cases ej : j = q
        · rw [ej]; omega
        · have := hS j q (by omega) (by omega); omega
theorem mt_learn {post : SX → Prop} (hI : mt_I m mv ar D S O N MB CO) (hG : ∀ q, q < 3 → mt_G m S O N MB K GR LL LC q) (hV : ∀ q, q < 3 → mt_V mv ar D LC bf sk sc pa la q (LL q)) (hr : r < 3) (hc : c < m) (hn : N c = K (3 * r + O c) + 1) (H : ∀ (GR' LL' LC' : Nat → Nat) (bf' sk' sc' pa' la' : Nat → Int32), (∀ q, q < 3 → mt_G m S O N MB (mt_u K (3 * r + O c) (N c)) GR' LL' LC' q) → (∀ q, q < 3 → mt_V mv ar D LC' bf' sk' sc' pa' la' q (LL' q)) → post (nI m, mv, mt_f D, ar, mt_f S, mt_f O, mt_f N, mt_f MB, mt_f CO, mt_f (mt_u K (3 * r + O c) (N c)), mt_f GR', mt_f LL', mt_f LC', bf', sk', sc', pa', la')) : wpX_learn post (nI m, mv, mt_f D, ar, mt_f S, mt_f O, mt_f N, mt_f MB, mt_f CO, mt_f K, mt_f GR, mt_f LL, mt_f LC, bf, sk, sc, pa, la) (nI r) (nI c) := by
  have hGr := hG r hr
  have hl1 := mt_Gl1 hI hGr hc hn
  have hgs := mt_Gs hI hGr
  have hI' := hI
  obtain ⟨hm, _, hB, _⟩ := hI'
  have hoc := (hB c).2.1
  have hGr' := hGr
  obtain ⟨_, _, _, _, g5, g6, _⟩ := hGr'
  have c1 : (nI r).toNatClampNeg = r := nI_clamp (by omega)
  have i1 : vp_in (nI r) 3 := vp_in_nI (by omega) (by omega)
  have e1 : mt_u LL r (LL r + 1) r = LL r + 1 := mt_us
  unfold wpX_learn
  dsimp only
  rw [c1]
  refine ⟨i1, nm_e ⟨i1, nm_e ⟨LL r + 1, ?_⟩⟩⟩
  have hsh : mt_sh LC (60 * r) (LL r) (LL r) = LC := mt_sh_0
  have key := mt_L17 (post := post) (bf := bf) (sk := sk) (sc := sc) (pa := pa) (la := la) (K := K) (GR := GR) (N := N) (MB := MB) (CO := CO) (D := D) hI hr hc (by omega) (fun j hj => (g6 j hj).1) g5 ?_ (LL r) (LL r + 1) sc pa la (by omega) (Nat.le_refl _) (fun j h1 h2 => absurd h2 (by omega)) (by rw [hsh]; exact hV r hr) mt_E_rf
  · rw [hsh] at key
    exact key
  · intro p sc' pa' la' hp h1 h2 hVp hE
    have hGin := mt_Gin hI hGr hr hc hn hp h1 h2
    refine ⟨LL r + 1 - p + 1, mt_L109 (LL := mt_u LL r (LL r + 1)) (LC := mt_in LC (60 * r) p (LL r) c) hI hr (by rw [e1]; omega) hc (fun j hj => ?_) hgs (LL r + 1 - p) p bf sk sc' pa' la' (by rw [e1]; omega) ?_ (fun bf2 sk2 sc2 pa2 la2 hV2 hE2 => H _ _ _ bf2 sk2 sc2 pa2 la2 (fun q hq => ?_) (fun q hq => ?_))⟩
    · exact (hGin.2.2.2.2.2.1 j hj).1
    · exact mt_Vc (fun i hi => ⟨by rw [mt_in_lo hi, mt_sh_lo (by omega)], rfl, rfl, rfl⟩) hVp
    · by_cases e : q = r
      · rw [e]; exact hGin
      · have hlq := mt_Gl hI (hG q hq)
        exact mt_Gc (fun c => (hB c).2.1) (fun o ho => mt_un (by omega)) (mt_un e) (mt_un e) (fun j hj => mt_in_out hp (by omega)) (hG q hq)
    · by_cases e : q = r
      · rw [e]; exact hV2
      · have hlq := mt_Gl hI (hG q hq)
        have e2 : mt_u LL r (LL r + 1) q = LL q := mt_un e
        rw [e2]
        exact mt_Vc (fun i hi => ⟨mt_in_out hp (by omega), rfl, rfl, rfl⟩) (mt_VE (mt_E_tr hE hE2) e (by omega) (hV q hq))
end
end
end
section
/-! a new change -/
section
variable {m r c k x q : Nat} {mv ar bf sk sc pa la yk : Nat → Int32} {D S O N MB CO K GR LL LC : Nat → Nat} {b w : Int32}
theorem mt_Imk (hI : mt_I m mv ar D S O N MB CO) (hG : mt_G m S O N MB K GR LL LC r) (hw : K (3 * r + r) = MB r) (hr : r < 3) (hm : m < 60) (hx : x < 10) (hb : ¬ b = 0 → ∃ a, a < 10 ∧ w = nI a) : mt_I (m + 1) (upd mv m b) (upd ar m w) (mt_u D m x) (mt_u S m (GR r + 1)) (mt_u O m r) (mt_u N m (MB r + 1)) (mt_u MB r (MB r + 1)) (mt_u CO (61 * r + (MB r + 1)) m) := by
  have hgs := mt_Gs hI hG
  obtain ⟨_, hs, hB, hA, hN, hC, hM⟩ := hI
  obtain ⟨g1, g2, g3, g4, g5, g6, g7⟩ := hG
  have hMBr : MB r ≤ m := by
    rcases mt_o3 hr with e | e | e <;> rw [e] <;> omega
  have hmb : ∀ o, o < 3 → MB o ≤ m := by
    intro o ho
    rcases mt_o3 ho with e | e | e <;> rw [e] <;> omega
  have em : ∀ o, MB o ≤ mt_u MB r (MB r + 1) o := by
    intro o
    by_cases e : o = r
    · rw [mt_ue e, e]; omega
    · rw [mt_un e]; exact Nat.le_refl _
  refine ⟨by omega, ?_, fun c => ?_, fun c hc h => ?_, fun c hc => ?_, fun o n ho h1 h2 => ?_, fun c d hcd hd ho => ?_⟩
  · rcases mt_o3 hr with e | e | e <;> subst e
    · rw [mt_us, mt_un (by omega), mt_un (by omega)]; omega
    · rw [mt_us, mt_un (by omega), mt_un (by omega)]; omega
    · rw [mt_us, mt_un (by omega), mt_un (by omega)]; omega
  · obtain ⟨b1, b2, b3, b4⟩ := hB c
    by_cases e : c = m
    · rw [mt_ue e, mt_ue e, mt_ue e, mt_ue e]; exact ⟨hx, hr, by omega, by omega⟩
    · rw [mt_un e, mt_un e, mt_un e, mt_un e]; exact ⟨b1, b2, by omega, by omega⟩
  · by_cases e : c = m
    · rw [e, pk_us] at h
      rw [e, pk_us]; exact hb h
    · rw [pk_un e] at h
      rw [pk_un e]; exact hA c (by omega) h
  · by_cases e : c = m
    · rw [mt_ue e, mt_ue e, mt_us]; omega
    · rw [mt_un e, mt_un e]
      have a := hN c (by omega)
      exact ⟨a.1, Nat.le_trans a.2 (em _)⟩
  · by_cases e : o = r ∧ n = MB r + 1
    · rw [e.1, e.2, mt_us, mt_us, mt_us]; exact ⟨by omega, rfl, rfl⟩
    · have hn : n ≤ MB o := by
        by_cases e2 : o = r
        · rw [mt_ue e2] at h2; rw [e2]; omega
        · rw [mt_un e2] at h2; exact h2
      have ho2 := hmb o ho
      have hne : 61 * o + n ≠ 61 * r + (MB r + 1) := by omega
      obtain ⟨a1, a2, a3⟩ := hC o n ho h1 hn
      rw [mt_un hne, mt_un (by omega), mt_un (by omega)]
      exact ⟨by omega, a2, a3⟩
  · have hcm : c ≠ m := by omega
    rw [mt_un hcm, mt_un hcm]
    rw [mt_un hcm] at ho
    by_cases e : d = m
    · rw [mt_ue e] at ho
      rw [mt_ue e, mt_ue e]
      have a := (hN c (by omega)).2
      rw [ho] at a
      have a2 := g3 c (by omega) (by rw [ho, hw]; exact a)
      exact ⟨by omega, by omega⟩
    · rw [mt_un e] at ho
      rw [mt_un e, mt_un e]
      exact hM c d hcd (by omega) ho
theorem mt_Gmk (hI : mt_I m mv ar D S O N MB CO) (hG : mt_G m S O N MB K GR LL LC q) (hr : r < 3) (s : Nat) : mt_G (m + 1) (mt_u S m s) (mt_u O m r) (mt_u N m (MB r + 1)) (mt_u MB r (MB r + 1)) K GR LL LC q := by
  obtain ⟨_, hs, hB, hA, hN, hC, hM⟩ := hI
  obtain ⟨g1, g2, g3, g4, g5, g6, g7⟩ := hG
  have hmr := g1 r hr
  have em : ∀ o, MB o ≤ mt_u MB r (MB r + 1) o := by
    intro o
    by_cases e : o = r
    · rw [mt_ue e, e]; omega
    · rw [mt_un e]; exact Nat.le_refl _
  have hnm : ∀ c, c < m + 1 → mt_u N m (MB r + 1) c ≤ K (3 * q + mt_u O m r c) → c < m ∧ N c ≤ K (3 * q + O c) := by
    intro c hc h
    by_cases e : c = m
    · rw [mt_ue e, mt_ue e] at h; omega
    · rw [mt_un e, mt_un e] at h; exact ⟨by omega, h⟩
  have hne : ∀ k, k < LL q → LC (60 * q + k) ≠ m := fun k hk => by have := (g6 k hk).1; omega
  refine ⟨fun o ho => Nat.le_trans (g1 o ho) (em o), g2, fun c hc h => ?_, ?_, fun i j hij hj => ?_, fun k hk => ?_, fun c hc h => ?_⟩
  · obtain ⟨a, e⟩ := hnm c hc h
    rw [mt_un (by omega)]
    exact g3 c a e
  · rcases g4 with h | ⟨c, a1, a2, a3⟩
    · exact Or.inl h
    · exact Or.inr ⟨c, by omega, by rw [mt_un (by omega), mt_un (by omega)]; exact a2, by rw [mt_un (by omega)]; exact a3⟩
  · have a := g5 i j hij hj
    unfold mt_k at a
    unfold mt_k
    rw [mt_un (hne i (by omega)), mt_un (hne i (by omega)), mt_un (hne j hj), mt_un (hne j hj)]
    exact a
  · rw [mt_un (hne k hk), mt_un (hne k hk)]
    exact ⟨by have := (g6 k hk).1; omega, (g6 k hk).2⟩
  · obtain ⟨a, e⟩ := hnm c hc h
    exact g7 c a e
theorem mt_kold (hI : mt_I m mv ar D S O N MB CO) (hc : c < m) (hn : N c = K (3 * r + O c) + 1) {d : Nat} (hd : d < m) : N d ≤ mt_u K (3 * r + O c) (N c) (3 * r + O d) ↔ d = c ∨ N d ≤ K (3 * r + O d) := by
  obtain ⟨_, hs, hB, hA, hN, hC, hM⟩ := hI
  by_cases e : O d = O c
  · rw [e, mt_us]
    by_cases e2 : d = c
    · rw [e2]; exact ⟨fun _ => Or.inl rfl, fun _ => Nat.le_refl _⟩
    · refine ⟨fun h => Or.inr ?_, fun h => ?_⟩
      · by_cases h3 : d < c
        · have := hM d c h3 hc e; omega
        · have := hM c d (by omega) hd e.symm; omega
      · rcases h with h | h
        · exact absurd h e2
        · omega
  · rw [mt_un (by omega)]
    refine ⟨fun h => Or.inr h, fun h => ?_⟩
    rcases h with h | h
    · rw [h] at e; exact absurd rfl e
    · exact h
theorem mt_Yin (hI : mt_I m mv ar D S O N MB CO) (hr : r < 3) (hc : c < m) (hn : N c = K (3 * r + O c) + 1) (hY : mt_Y m O N K yk) : mt_Y m O N (mt_u K (3 * r + O c) (N c)) (upd yk (60 * r + c) 1) := by
  intro q d hq hd
  have ho : ∀ c, O c < 3 := fun c => (hI.2.2.1 c).2.1
  have hoc := ho c
  have hm : m ≤ 60 := hI.1
  by_cases e : q = r
  · subst e
    by_cases e2 : d = c
    · subst e2
      rw [pk_us, mt_us]
      exact ⟨fun h => absurd h mt_10, fun h => absurd ⟨hc, Nat.le_refl _⟩ h⟩
    · rw [pk_un (by omega), hY q d hq hd]
      refine ⟨fun h z => h ⟨z.1, ?_⟩, fun h z => h ⟨z.1, (mt_kold hI hc hn z.1).mpr (Or.inr z.2)⟩⟩
      rcases (mt_kold hI hc hn z.1).mp z.2 with h2 | h2
      · exact absurd h2 e2
      · exact h2
  · have hod := ho d
    rw [pk_un (by omega), mt_un (by omega)]
    exact hY q d hq hd
theorem mt_Ymk (hI : mt_I m mv ar D S O N MB CO) (hG : ∀ q, q < 3 → mt_G m S O N MB K GR LL LC q) (hw : K (3 * r + r) = MB r) (hr : r < 3) (hm : m < 60) (hY : mt_Y m O N K yk) : mt_Y (m + 1) (mt_u O m r) (mt_u N m (MB r + 1)) (mt_u K (3 * r + r) (MB r + 1)) (upd yk (60 * r + m) 1) := by
  intro q d hq hd
  obtain ⟨_, hs, hB, hA, hN, hC, hM⟩ := hI
  have hgr := (hG q hq).1 r hr
  by_cases e2 : d = m
  · subst e2
    rw [mt_us, mt_us]
    by_cases e : q = r
    · subst e
      rw [pk_us, mt_us]
      exact ⟨fun h => absurd h mt_10, fun h => absurd ⟨Nat.lt_succ_self _, Nat.le_refl _⟩ h⟩
    · rw [pk_un (by omega), mt_un (by omega), hY q d hq hd]
      exact ⟨fun _ z => absurd z.2 (by omega), fun _ z => absurd z.1 (by omega)⟩
  · rw [pk_un (by omega), mt_un e2, mt_un e2, hY q d hq hd]
    have hod := (hB d).2.1
    by_cases e : q = r
    · subst e
      by_cases e3 : O d = q
      · rw [mt_ue (by omega)]
        refine ⟨fun h z => h ⟨by omega, ?_⟩, fun h z => h ⟨by omega, ?_⟩⟩
        · have := (hN d (by omega)).2
          rw [e3] at this
          rw [e3, hw]; exact this
        · have := z.2
          rw [e3, hw] at this
          omega
      · rw [mt_un (by omega)]
        exact ⟨fun h z => h ⟨by omega, z.2⟩, fun h z => h ⟨by omega, z.2⟩⟩
    · rw [mt_un (by omega)]
      exact ⟨fun h z => h ⟨by omega, z.2⟩, fun h z => h ⟨by omega, z.2⟩⟩
theorem mt_make {post : SX → Prop} (hI : mt_I m mv ar D S O N MB CO) (hG : ∀ q, q < 3 → mt_G m S O N MB K GR LL LC q) (hV : ∀ q, q < 3 → mt_V mv ar D LC bf sk sc pa la q (LL q)) (hw : ∀ q, q < 3 → K (3 * q + q) = MB q) (hr : r < 3) (hm : m < 60) (hx : x < 10) (hb : ¬ vp_nar .boolean b = 0 → ∃ a, a < 10 ∧ w = nI a)
    (H : ∀ (GR' LL' LC' : Nat → Nat) (bf' sk' sc' pa' la' : Nat → Int32), (∀ q, q < 3 → mt_G (m + 1) (mt_u S m (GR r + 1)) (mt_u O m r) (mt_u N m (MB r + 1)) (mt_u MB r (MB r + 1)) (mt_u K (3 * r + r) (MB r + 1)) GR' LL' LC' q) → (∀ q, q < 3 → mt_V (upd mv m (vp_nar .boolean b)) (upd ar m w) (mt_u D m x) LC' bf' sk' sc' pa' la' q (LL' q)) → post (nI (m + 1), upd mv m (vp_nar .boolean b), mt_f (mt_u D m x), upd ar m w, mt_f (mt_u S m (GR r + 1)), mt_f (mt_u O m r), mt_f (mt_u N m (MB r + 1)), mt_f (mt_u MB r (MB r + 1)), mt_f (mt_u CO (61 * r + (MB r + 1)) m), mt_f (mt_u K (3 * r + r) (MB r + 1)), mt_f GR', mt_f LL', mt_f LC', bf', sk', sc', pa', la')) : wpX_make post (nI m, mv, mt_f D, ar, mt_f S, mt_f O, mt_f N, mt_f MB, mt_f CO, mt_f K, mt_f GR, mt_f LL, mt_f LC, bf, sk, sc, pa, la) (nI r) b (nI x) w := by
  have hI2 := mt_Imk (b := vp_nar .boolean b) hI (hG r hr) (hw r hr) hr hm hx hb
  have hmbm : MB r ≤ m := by
    obtain ⟨_, hs, _⟩ := hI
    rcases mt_o3 hr with e | e | e <;> rw [e] <;> omega
  have c1 : (nI m).toNatClampNeg = m := nI_clamp (by omega)
  have i1 : vp_in (nI m) 60 := vp_in_nI (by omega) (by omega)
  have c2 : (nI r).toNatClampNeg = r := nI_clamp (by omega)
  have i2 : vp_in (nI r) 3 := vp_in_nI (by omega) (by omega)
  have c3 : (nI (61 * r + (MB r + 1))).toNatClampNeg = 61 * r + (MB r + 1) := nI_clamp (by omega)
  have i3 : vp_in (nI (61 * r + (MB r + 1))) 183 := vp_in_nI (by omega) (by omega)
  have eN : mt_f (mt_u MB r (MB r + 1)) r = nI (MB r + 1) := congrArg nI mt_us
  unfold wpX_make
  dsimp only
  rw [c1, c2]
  refine nm_r (nI_1 m) ⟨i1, nm_e ⟨i1, nm_r (mt_uf _ _ _) ⟨i1, nm_e ⟨i2, i1, nm_r (e' := mt_f (mt_u S m (GR r + 1))) (by rw [nI_1]; exact mt_uf _ _ _) ⟨i1, nm_r (mt_uf _ _ _) ⟨i2, i2, nm_r (e' := mt_f (mt_u MB r (MB r + 1))) (by rw [nI_1]; exact mt_uf _ _ _) ⟨i2, i1, nm_r (e' := mt_f (mt_u N m (MB r + 1))) (by rw [eN]; exact mt_uf _ _ _) ⟨i2, ?_⟩⟩⟩⟩⟩⟩⟩⟩
  rw [eN, mt_i61, c3]
  refine ⟨i3, nm_r (e' := mt_f (mt_u CO (61 * r + (MB r + 1)) m)) (mt_uf _ _ _) ?_⟩
  refine mt_learn hI2 (fun q hq => mt_Gmk hI (hG q hq) hr (GR r + 1)) (fun q hq => ?_) hr (Nat.lt_succ_self m) ?_ (fun GR' LL' LC' bf' sk' sc' pa' la' g v => ?_)
  · have g6 := (hG q hq).2.2.2.2.2.1
    exact mt_Vc (fun i hi => by
      have := (g6 i hi).1
      exact ⟨rfl, pk_un (by omega), pk_un (by omega), mt_un (by omega)⟩) (hV q hq)
  · rw [mt_us, mt_us, hw r hr]
  · rw [mt_us, mt_us] at g
    have h := H GR' LL' LC' bf' sk' sc' pa' la' g v
    dsimp only
    rw [mt_us, mt_us]
    exact h
end
end
section
/-! the reference's private methods -/
section
variable {m r c x : Nat} {mv ar yk yp yl yd yo yq : Nat → Int32} {D S O N MB CO K GR LL LC : Nat → Nat} {ys b w : Int32}
theorem mt_ymk6 {post : Int32 → SY → Prop} (hI : mt_I m mv ar D S O N MB CO) (hG : mt_G m S O N MB K GR LL LC r) (hY : mt_Y m O N K yk) (hr : r < 3) (hm : m < 60) (H : post (nI m) (nI (m + 1), ys, mt_f (mt_u O m r), mt_f (mt_u S m (GR r + 1)), upd mv m (vp_nar .boolean b), mt_f (mt_u D m x), upd ar m w, upd yk (60 * r + m) 1, yp, yl, yd, yo, yq)) : ∀ (t i g : Nat), i + t = m → g ≤ m → (∀ c, c < i → N c ≤ K (3 * r + O c) → S c ≤ g) → (g = 0 ∨ ∃ c, c < i ∧ N c ≤ K (3 * r + O c) ∧ S c = g) → wY_make_6 post (nI r) b (nI x) w (nI m) ys (mt_f O) (mt_f S) mv (mt_f D) ar yk yp yl yd yo yq (t + 1) (nI g) (nI i) := by
  have hB := hI.2.2.1
  have c1 : (nI m).toNatClampNeg = m := nI_clamp (by omega)
  have i1 : vp_in (nI m) 60 := vp_in_nI (by omega) (by omega)
  intro t
  induction t with
  | zero =>
    intro i g hi hg h1 h2
    have e : i = m := by omega
    subst e
    obtain ⟨_, _, g3, g4, _⟩ := hG
    have eg : g = GR r := by
      have a : g ≤ GR r := by
        rcases h2 with h | ⟨c, a1, a2, a3⟩
        · omega
        · have := g3 c a1 a2; omega
      have a' : GR r ≤ g := by
        rcases g4 with h | ⟨c, a1, a2, a3⟩
        · omega
        · have := h1 c a1 a2; omega
      omega
    subst eg
    have c2 : (nI (60 * r + i)).toNatClampNeg = 60 * r + i := nI_clamp (by omega)
    refine br_t (nI_le (Nat.le_refl _) (by omega)) ?_
    rw [c1, mt_i60, c2, mt_vb1]
    refine ⟨i1, nm_r (mt_uf _ _ _) ⟨i1, nm_r (e' := mt_f (mt_u S i (GR r + 1))) (by rw [nI_1]; exact mt_uf _ _ _) ⟨i1, nm_e ⟨i1, nm_r (mt_uf _ _ _) ⟨i1, nm_e ⟨vp_in_nI (by omega) (by omega), nm_e (nm_r (nI_1 _) ?_)⟩⟩⟩⟩⟩⟩
    rw [nI_pred]
    exact H
  | succ t ih =>
    intro i g hi hg h1 h2
    have c2 : (nI (60 * r + i)).toNatClampNeg = 60 * r + i := nI_clamp (by omega)
    have c3 : (nI i).toNatClampNeg = i := nI_clamp (by omega)
    have i3 : vp_in (nI i) 60 := vp_in_nI (by omega) (by omega)
    have hSi := (hB i).2.2.1
    have hy := hY r i hr (by omega)
    refine br_f (nI_ge (by omega) (by omega)) ?_
    rw [mt_i60, c2, c3]
    refine ⟨vp_in_nI (by omega) (by omega), br_c (fun z => nm_r (nI_1 i) (ih (i + 1) g (by omega) hg (fun c hc h => ?_) ?_)) (fun z => ⟨i3, pk_le (S i) g (fun h => nm_r (nI_1 i) (ih (i + 1) g (by omega) hg (fun c hc h' => ?_) ?_)) (fun h => ⟨i3, nm_e (nm_r (nI_1 i) (ih (i + 1) (S i) (by omega) hSi (fun c hc h' => ?_) ?_))⟩)⟩)⟩
    · have hne : c ≠ i := by
        intro e
        rw [e] at h
        exact (hy.mp z) ⟨by omega, h⟩
      exact h1 c (by omega) h
    · rcases h2 with h | ⟨c, a1, a2, a3⟩
      · exact Or.inl h
      · exact Or.inr ⟨c, by omega, a2, a3⟩
    · by_cases e : c = i
      · rw [e]; exact h
      · exact h1 c (by omega) h'
    · rcases h2 with h | ⟨c, a1, a2, a3⟩
      · exact Or.inl h
      · exact Or.inr ⟨c, by omega, a2, a3⟩
    · by_cases e : c = i
      · rw [e]; exact Nat.le_refl _
      · have := h1 c (by omega) h'; omega
    · refine Or.inr ⟨i, by omega, ?_, rfl⟩
      exact (Classical.byContradiction fun y => z (hy.mpr y) : i < m ∧ N i ≤ K (3 * r + O i)).2
theorem mt_ymk {post : Int32 → SY → Prop} (hI : mt_I m mv ar D S O N MB CO) (hG : mt_G m S O N MB K GR LL LC r) (hY : mt_Y m O N K yk) (hr : r < 3) (hm : m < 60) (H : post (nI m) (nI (m + 1), ys, mt_f (mt_u O m r), mt_f (mt_u S m (GR r + 1)), upd mv m (vp_nar .boolean b), mt_f (mt_u D m x), upd ar m w, upd yk (60 * r + m) 1, yp, yl, yd, yo, yq)) : wpY_make post (nI m, ys, mt_f O, mt_f S, mv, mt_f D, ar, yk, yp, yl, yd, yo, yq) (nI r) b (nI x) w := by
  unfold wpY_make
  dsimp only
  exact ⟨m + 1, mt_ymk6 hI hG hY hr hm H m 0 0 (by omega) (by omega) (fun c hc _ => absurd hc (by omega)) (Or.inl rfl)⟩
theorem mt_yE {post : Int32 → Prop} {a b : Nat} (hI : mt_I m mv ar D S O N MB CO) (ha : a < 60) (hb : b < 60) (h1 : mt_k S O a < mt_k S O b → post 1) (h0 : mt_k S O b ≤ mt_k S O a → post 0) : wpY_earlier post (nI m, ys, mt_f O, mt_f S, mv, mt_f D, ar, yk, yp, yl, yd, yo, yq) (nI a) (nI b) := by
  obtain ⟨hm, _, hB, _⟩ := hI
  obtain ⟨_, oa, sa, _⟩ := hB a
  obtain ⟨_, ob, sb, _⟩ := hB b
  unfold mt_k at h1 h0
  have ia : vp_in (nI a) 60 := vp_in_nI ha (by omega)
  have ib : vp_in (nI b) 60 := vp_in_nI hb (by omega)
  have ca : (nI a).toNatClampNeg = a := nI_clamp (by omega)
  have cb : (nI b).toNatClampNeg = b := nI_clamp (by omega)
  unfold wpY_earlier
  dsimp only
  rw [ca, cb]
  exact ⟨ia, ib, pk_lt (S a) (S b) (fun e => h1 (by omega)) (fun e => ⟨ia, ib, pk_eq (S a) (S b) (fun h => ⟨ia, ib, pk_le (O b) (O a) (fun h => h0 (by omega)) (fun h => h1 (by omega))⟩) (fun h => h0 (by omega))⟩)⟩
/-- the best candidate below i -/
def mt_B (m : Nat) (S O : Nat → Nat) (yk yd : Nat → Int32) (r i : Nat) (x : Int32) : Prop :=
  (x = -1 ∧ ∀ c, c < i → yk (60 * r + c) = 0 ∨ ¬ yd c = 0) ∨
  (∃ b, b < i ∧ x = nI b ∧ ¬ yk (60 * r + b) = 0 ∧ yd b = 0 ∧ ∀ c, c < i → ¬ yk (60 * r + c) = 0 → yd c = 0 → mt_k S O b ≤ mt_k S O c)
theorem mt_B_n {i : Nat} {z : Int32} (h : mt_B m S O yk yd r i z) (hn : yk (60 * r + i) = 0 ∨ ¬ yd i = 0) : mt_B m S O yk yd r (i + 1) z := by
  rcases h with ⟨e, h⟩ | ⟨b, hb, e, h1, h2, h3⟩
  · refine Or.inl ⟨e, fun c hc => ?_⟩
    by_cases ec : c = i
    · rw [ec]; exact hn
    · exact h c (by omega)
  · refine Or.inr ⟨b, by omega, e, h1, h2, fun c hc a1 a2 => ?_⟩
    by_cases ec : c = i
    · rw [ec] at a1 a2
      rcases hn with z | z
      · exact absurd z a1
      · exact absurd a2 z
    · exact h3 c (by omega) a1 a2
theorem mt_ey4 {post : Int32 → Prop} (hI : mt_I m mv ar D S O N MB CO) (hr : r < 3) (H : ∀ z, mt_B m S O yk yd r m z → post z) : ∀ (t i : Nat) (z : Int32), i + t = m → mt_B m S O yk yd r i z → wY_earliest_4 post (nI r) (nI m) ys (mt_f O) (mt_f S) mv (mt_f D) ar yk yp yl yd yo yq (t + 1) z (nI i) := by
  have hm := hI.1
  intro t
  induction t with
  | zero =>
    intro i z hi hz
    have e : i = m := by omega
    subst e
    exact br_t (nI_le (Nat.le_refl _) (by omega)) (H z hz)
  | succ t ih =>
    intro i z hi hz
    have c2 : (nI (60 * r + i)).toNatClampNeg = 60 * r + i := nI_clamp (by omega)
    have c3 : (nI i).toNatClampNeg = i := nI_clamp (by omega)
    have i3 : vp_in (nI i) 60 := vp_in_nI (by omega) (by omega)
    refine br_f (nI_ge (by omega) (by omega)) ?_
    rw [mt_i60, c2, c3]
    refine ⟨vp_in_nI (by omega) (by omega), br_c (fun h => nm_r (nI_1 i) (ih (i + 1) z (by omega) (mt_B_n hz (Or.inl h)))) (fun h => ⟨i3, br_c (fun h2 => ?_) (fun h2 => nm_r (nI_1 i) (ih (i + 1) z (by omega) (mt_B_n hz (Or.inr h2))))⟩)⟩
    rcases hz with ⟨e, hz⟩ | ⟨b, hb, e, h3, h4, h5⟩
    · subst e
      refine br_t mt_m1 (nm_r (nI_1 i) (ih (i + 1) (nI i) (by omega) (Or.inr ⟨i, by omega, rfl, h, h2, fun c hc a1 a2 => ?_⟩)))
      by_cases ec : c = i
      · rw [ec]; exact Nat.le_refl _
      · rcases hz c (by omega) with y | y
        · exact absurd y a1
        · exact absurd a2 y
    · subst e
      refine br_f (nI_pos (by omega)) (mt_yE hI (by omega) (by omega) (fun hk => br_f mt_10 (nm_r (nI_1 i) (ih (i + 1) (nI i) (by omega) (Or.inr ⟨i, by omega, rfl, h, h2, fun c hc a1 a2 => ?_⟩)))) (fun hk => br_t rfl (nm_r (nI_1 i) (ih (i + 1) (nI b) (by omega) (Or.inr ⟨b, by omega, rfl, h3, h4, fun c hc a1 a2 => ?_⟩)))))
      · by_cases ec : c = i
        · rw [ec]; exact Nat.le_refl _
        · have := h5 c (by omega) a1 a2; omega
      · by_cases ec : c = i
        · rw [ec]; exact hk
        · exact h5 c (by omega) a1 a2
theorem mt_ey {post : Int32 → Prop} (hI : mt_I m mv ar D S O N MB CO) (hr : r < 3) (H : ∀ z, mt_B m S O yk yd r m z → post z) : wpY_earliest post (nI m, ys, mt_f O, mt_f S, mv, mt_f D, ar, yk, yp, yl, yd, yo, yq) (nI r) := by
  unfold wpY_earliest
  dsimp only
  exact ⟨m + 1, mt_ey4 hI hr H m 0 (-1) (by omega) (Or.inl ⟨rfl, fun c hc => absurd hc (by omega)⟩)⟩
theorem mt_abv {post : Int32 → Prop} {p : Nat → Int32} {x : Int32} (hw : mt_w p) (hp : ∀ n, n < 10 → yp n = p n) : ∀ (t i : Nat) (a : Int32), i + t = 10 → (a < 0 ∨ ∃ b, b < 10 ∧ a = nI b) → (mt_up p x t a = true → post 1) → (¬ mt_up p x t a = true → post 0) → wY_above_5 post x (nI m) ys (mt_f O) (mt_f S) mv (mt_f D) ar yk yp yl yd yo yq (t + 1) a (nI i) := by
  intro t
  induction t with
  | zero =>
    intro i a hi ha h1 h0
    exact br_t (nI_le (a := 10) (by omega) (by omega)) (h0 Bool.false_ne_true)
  | succ t ih =>
    intro i a hi ha h1 h0
    rw [mt_up_s] at h1 h0
    have h10 : ¬ (10 : Int32) ≤ nI i := nI_ge (b := 10) (by omega) (by omega)
    refine br_f h10 ?_
    by_cases hn : a < 0
    · rw [if_pos hn] at h0
      exact br_t hn (h0 Bool.false_ne_true)
    · rw [if_neg hn] at h1 h0
      refine br_f hn ?_
      by_cases hx : a = x
      · rw [if_pos hx] at h1
        exact br_t hx (h1 rfl)
      · rw [if_neg hx] at h1 h0
        obtain ⟨b, hb, rfl⟩ : ∃ b, b < 10 ∧ a = nI b := by
          rcases ha with h | h
          · exact absurd h hn
          · exact h
        rw [nI_clamp (by omega)] at h1 h0
        exact br_f hx ⟨vp_in_nI (by omega) (by omega), nm_r (e' := p b) (by rw [nI_clamp (by omega)]; exact hp b hb) (nm_r (nI_1 i) (ih (i + 1) (p b) (by omega) (hw b) h1 h0))⟩
theorem mt_above {post : Int32 → Prop} {p : Nat → Int32} {x a : Int32} (hw : mt_w p) (hp : ∀ n, n < 10 → yp n = p n) (ha : a < 0 ∨ ∃ b, b < 10 ∧ a = nI b) (h1 : mt_up p x 10 a = true → post 1) (h0 : ¬ mt_up p x 10 a = true → post 0) : wpY_above post (nI m, ys, mt_f O, mt_f S, mv, mt_f D, ar, yk, yp, yl, yd, yo, yq) x a := by
  unfold wpY_above
  dsimp only
  exact ⟨11, mt_abv hw hp 10 0 a rfl ha h1 h0⟩
end
end
section
/-! the reference carries all out -/
section
variable {m r c i : Nat} {mv ar yk yp yl yd yo yq : Nat → Int32} {D S O N MB CO K GR LL LC : Nat → Nat} {ys : Int32}
theorem mt_c0 {post : Int32 → SY → Prop} {J : Int32 → Int32 → Int32 → (Nat → Int32) → (Nat → Int32) → (Nat → Int32) → (Nat → Int32) → (Nat → Int32) → (Nat → Int32) → (Nat → Int32) → (Nat → Int32) → (Nat → Int32) → (Nat → Int32) → (Nat → Int32) → Prop} {x1 x2 x3 : Int32} (hc : c < 60) (hD : D c < 10) (h0 : mv c = 0) (H : J x3 (nI (i + 1)) ys (mt_f O) (mt_f S) mv (mt_f D) ar yk yp (upd yl (D c) (ar c)) yd yo yq) : wY_carryOut_130 post J x1 x2 x3 (nI i) (nI c) (nI m) ys (mt_f O) (mt_f S) mv (mt_f D) ar yk yp yl yd yo yq := by
  have c1 : (nI c).toNatClampNeg = c := nI_clamp (by omega)
  have i1 : vp_in (nI c) 60 := vp_in_nI (by omega) (by omega)
  have c2 : (nI (D c)).toNatClampNeg = D c := nI_clamp (by omega)
  unfold wY_carryOut_130 wY_carryOut_131
  refine br_t rfl ?_
  unfold wY_carryOut_148
  refine br_t rfl ?_
  unfold wY_carryOut_161
  rw [c1]
  refine ⟨i1, br_t h0 ?_⟩
  unfold wY_carryOut_195
  rw [c1]
  refine ⟨i1, br_t h0 ⟨i1, i1, vp_in_nI (by omega) (by omega), nm_e (nm_r (nI_1 i) ?_)⟩⟩
  rw [c2]
  exact H
theorem mt_c2 {post : Int32 → SY → Prop} {J : Int32 → Int32 → Int32 → (Nat → Int32) → (Nat → Int32) → (Nat → Int32) → (Nat → Int32) → (Nat → Int32) → (Nat → Int32) → (Nat → Int32) → (Nat → Int32) → (Nat → Int32) → (Nat → Int32) → (Nat → Int32) → Prop} {x1 x2 x3 : Int32} (hc : c < 60) (hD : D c < 10) (h0 : ¬ mv c = 0) (H : J x3 (nI (i + 1)) ys (mt_f O) (mt_f S) mv (mt_f D) ar yk (upd yp (D c) (ar c)) yl yd yo yq) : wY_carryOut_130 post J x1 x2 x3 (nI i) (nI c) (nI m) ys (mt_f O) (mt_f S) mv (mt_f D) ar yk yp yl yd yo yq := by
  have c1 : (nI c).toNatClampNeg = c := nI_clamp (by omega)
  have i1 : vp_in (nI c) 60 := vp_in_nI (by omega) (by omega)
  have c2 : (nI (D c)).toNatClampNeg = D c := nI_clamp (by omega)
  unfold wY_carryOut_130 wY_carryOut_131
  refine br_t rfl ?_
  unfold wY_carryOut_148
  refine br_t rfl ?_
  unfold wY_carryOut_161
  rw [c1]
  refine ⟨i1, br_f h0 (br_t rfl ⟨i1, i1, vp_in_nI (by omega) (by omega), nm_e ?_⟩)⟩
  unfold wY_carryOut_195
  rw [c1]
  refine ⟨i1, br_f h0 (nm_r (nI_1 i) ?_)⟩
  rw [c2]
  exact H
theorem mt_c1 {post : Int32 → SY → Prop} {J : Int32 → Int32 → Int32 → (Nat → Int32) → (Nat → Int32) → (Nat → Int32) → (Nat → Int32) → (Nat → Int32) → (Nat → Int32) → (Nat → Int32) → (Nat → Int32) → (Nat → Int32) → (Nat → Int32) → (Nat → Int32) → Prop} {x1 x2 x3 : Int32} (hc : c < 60) (h0 : ¬ mv c = 0) (H : J (if nI c = x2 then 1 else x3) (nI (i + 1)) (ys + 1) (mt_f O) (mt_f S) mv (mt_f D) ar yk yp yl yd yo yq) : wY_carryOut_131 post J x1 x2 x3 (nI i) (nI c) 1 (nI m) ys (mt_f O) (mt_f S) mv (mt_f D) ar yk yp yl yd yo yq := by
  have c1 : (nI c).toNatClampNeg = c := nI_clamp (by omega)
  have i1 : vp_in (nI c) 60 := vp_in_nI (by omega) (by omega)
  unfold wY_carryOut_131
  refine br_f mt_10 (nm_e ?_)
  unfold wY_carryOut_148
  refine br_f mt_10 (br_c (fun e => ?_) (fun e => ?_))
  · unfold wY_carryOut_161
    rw [c1]
    refine ⟨i1, br_f h0 (br_f mt_10 ?_)⟩
    unfold wY_carryOut_195
    rw [c1]
    rw [if_pos e] at H
    exact ⟨i1, br_f h0 (nm_r (nI_1 i) H)⟩
  · unfold wY_carryOut_161
    rw [c1]
    refine ⟨i1, br_f h0 (br_f mt_10 ?_)⟩
    unfold wY_carryOut_195
    rw [c1]
    rw [if_neg e] at H
    exact ⟨i1, br_f h0 (nm_r (nI_1 i) H)⟩
/-- what the reference holds after the first j changes of the log -/
def mt_P (mv ar : Nat → Int32) (D LC : Nat → Nat) (r j : Nat) (ys : Int32) (yp yl yd : Nat → Int32) : Prop :=
  (∀ c, c < 60 → (yd c = 0 ↔ ∀ k, k < j → LC (60 * r + k) ≠ c)) ∧ (∀ n, n < 10 → yp n = (mt_d mv ar D LC (60 * r) j).1 n ∧ yl n = (mt_d mv ar D LC (60 * r) j).2.1 n) ∧ ys = nI (mt_d mv ar D LC (60 * r) j).2.2
theorem mt_Pd {j : Nat} (hd : ∀ c, c < 60 → (yd c = 0 ↔ ∀ k, k < j → LC (60 * r + k) ≠ c)) : ∀ c, c < 60 → (upd yd (LC (60 * r + j)) 1 c = 0 ↔ ∀ k, k < j + 1 → LC (60 * r + k) ≠ c) := by
  intro c hc
  by_cases e : c = LC (60 * r + j)
  · rw [e, pk_us]
    exact ⟨fun h => absurd h mt_10, fun h => absurd rfl (h j (by omega))⟩
  · rw [pk_un e, hd c hc]
    refine ⟨fun h k hk => ?_, fun h k hk => h k (by omega)⟩
    by_cases ek : k = j
    · rw [ek]; exact fun z => e z.symm
    · exact h k (by omega)
/-- the earliest one is the next of the log -/
theorem mt_nx {j : Nat} {z : Int32} (hI : mt_I m mv ar D S O N MB CO) (hG : mt_G m S O N MB K GR LL LC r) (hY : mt_Y m O N K yk) (hr : r < 3) (hj : j ≤ LL r) (hd : ∀ c, c < 60 → (yd c = 0 ↔ ∀ k, k < j → LC (60 * r + k) ≠ c)) (hz : mt_B m S O yk yd r m z) : (j = LL r ∧ z = -1) ∨ (j < LL r ∧ z = nI (LC (60 * r + j))) := by
  have hm := hI.1
  obtain ⟨g1, g2, g3, g4, g5, g6, g7⟩ := hG
  have kn : ∀ k, k < LL r → ¬ yk (60 * r + LC (60 * r + k)) = 0 := by
    intro k hk h
    have a := g6 k hk
    exact (hY r _ hr (by omega)).mp h a
  have nd : ∀ k, j ≤ k → k < LL r → yd (LC (60 * r + k)) = 0 := by
    intro k h1 h2
    have a := (g6 k h2).1
    refine (hd _ (by omega)).mpr (fun i hi e => ?_)
    have := g5 i k (by omega) h2
    rw [e] at this
    omega
  rcases hz with ⟨e, h⟩ | ⟨b, hb, e, h1, h2, h3⟩
  · by_cases hl : j = LL r
    · exact Or.inl ⟨hl, e⟩
    · rcases h _ (g6 j (by omega)).1 with y | y
      · exact absurd y (kn j (by omega))
      · exact absurd (nd j (by omega) (by omega)) y
  · have hb2 : b < m ∧ N b ≤ K (3 * r + O b) := Classical.byContradiction fun y => h1 ((hY r b hr (by omega)).mpr y)
    obtain ⟨k, hk, ek⟩ := g7 b hb hb2.2
    have hjk : j ≤ k := by
      refine Nat.not_lt.mp fun hkj => ?_
      exact (hd b (by omega)).mp h2 k hkj ek
    refine Or.inr ⟨by omega, ?_⟩
    by_cases e2 : k = j
    · rw [e, ← ek, e2]
    · have a := g5 j k (by omega) hk
      have a2 := h3 _ (g6 j (by omega)).1 (kn j (by omega)) (nd j (by omega) (by omega))
      rw [← ek] at a2
      omega
theorem mt_c66 {post : Int32 → SY → Prop} {x2 : Int32} (hI : mt_I m mv ar D S O N MB CO) (hG : mt_G m S O N MB K GR LL LC r) (hY : mt_Y m O N K yk) (hr : r < 3) (H : ∀ (ys : Int32) (yp yl yd : Nat → Int32), mt_P mv ar D LC r (LL r) ys yp yl yd → post (mt_h mv ar D LC (60 * r) x2 (LL r)) (nI m, ys, mt_f O, mt_f S, mv, mt_f D, ar, yk, yp, yl, yd, yo, yq)) : ∀ (t i j : Nat) (ys : Int32) (yp yl yd : Nat → Int32), i + t = m → (i ≤ LL r ∧ j = i ∨ LL r ≤ i ∧ j = LL r) → mt_P mv ar D LC r j ys yp yl yd → wY_carryOut_66 post (nI r) x2 (nI m) (t + 1) (mt_h mv ar D LC (60 * r) x2 j) (nI i) ys (mt_f O) (mt_f S) mv (mt_f D) ar yk yp yl yd yo yq := by
  have hgl := mt_Gl hI hG
  have hB := hI.2.2.1
  have hA := hI.2.2.2.1
  have g6 := hG.2.2.2.2.2.1
  intro t
  induction t with
  | zero =>
    intro i j ys yp yl yd hi hj hP
    have e : i = m := by omega
    have ej : j = LL r := by omega
    subst e ej
    refine br_t (nI_le (Nat.le_refl _) (by omega)) ⟨?_, H ys yp yl yd hP⟩
    rcases mt_h01 (mv := mv) (ar := ar) (D := D) (L := LC) (b := 60 * r) x2 (LL r) with h | h <;> rw [h] <;> rfl
  | succ t ih =>
    intro i j ys yp yl yd hi hj hP
    refine br_f (nI_ge (by omega) (by omega)) (mt_ey hI hr (fun z hz => ?_))
    obtain ⟨hd, hp, hs⟩ := hP
    rcases mt_nx hI hG hY hr (by omega) hd hz with ⟨ej, ez⟩ | ⟨ej, ez⟩
    · subst ez
      exact br_t mt_m1 (nm_r (nI_1 i) (ih (i + 1) j ys yp yl yd (by omega) (by omega) ⟨hd, hp, hs⟩))
    · subst ez
      have eij : j = i := by omega
      subst eij
      have hcm := (g6 j ej).1
      have hD := (hB (LC (60 * r + j))).1
      have c1 : (nI (LC (60 * r + j))).toNatClampNeg = LC (60 * r + j) := nI_clamp (by omega)
      have i1 : vp_in (nI (LC (60 * r + j))) 60 := vp_in_nI (by omega) (by omega)
      refine br_f (nI_pos (by omega)) ?_
      rw [c1, mt_vb1]
      refine ⟨i1, nm_e ⟨i1, br_c (fun h0 => ?_) (fun h0 => ⟨i1, i1, ?_⟩)⟩⟩
      · refine mt_c0 (by omega) hD h0 ?_
        have hq := mt_q0 (ar := ar) (D := D) (s := mt_d mv ar D LC (60 * r) j) h0
        have hh : mt_h mv ar D LC (60 * r) x2 (j + 1) = mt_h mv ar D LC (60 * r) x2 j := by
          rw [mt_h_s, if_neg]
          rw [hq]; exact fun z => mt_10 z.1.symm
        have k := ih (j + 1) (j + 1) ys yp (upd yl (D (LC (60 * r + j))) (ar (LC (60 * r + j)))) (upd yd (LC (60 * r + j)) 1) (by omega) (by omega) ⟨mt_Pd hd, fun n hn => ?_, ?_⟩
        · rw [hh] at k; exact k
        · rw [mt_d_s, mt_s0 h0]
          refine ⟨(hp n hn).1, ?_⟩
          show _ = upd (mt_d mv ar D LC (60 * r) j).2.1 (D (LC (60 * r + j))) (ar (LC (60 * r + j))) n
          by_cases e : n = D (LC (60 * r + j))
          · rw [e, pk_us, pk_us]
          · rw [pk_un e, pk_un e]; exact (hp n hn).2
        · rw [mt_d_s, mt_s0 h0]; exact hs
      · refine mt_above (p := (mt_d mv ar D LC (60 * r) j).1) (mt_dw j (fun i hi => hA _ (g6 i (by omega)).1)) (fun n hn => (hp n hn).1) (Or.inr (hA _ hcm h0)) (fun hu => br_f mt_10 ?_) (fun hu => br_t rfl ?_)
        · refine mt_c1 (by omega) h0 ?_
          have hq := mt_q1 (ar := ar) (D := D) (s := mt_d mv ar D LC (60 * r) j) h0 hu
          have hh : mt_h mv ar D LC (60 * r) x2 (j + 1) = if nI (LC (60 * r + j)) = x2 then 1 else mt_h mv ar D LC (60 * r) x2 j := by
            rw [mt_h_s, hq]
            by_cases e : nI (LC (60 * r + j)) = x2
            · rw [if_pos ⟨rfl, e⟩, if_pos e]
            · rw [if_neg (fun z => e z.2), if_neg e]
          have k := ih (j + 1) (j + 1) (ys + 1) yp yl (upd yd (LC (60 * r + j)) 1) (by omega) (by omega) ⟨mt_Pd hd, fun n hn => ?_, ?_⟩
          · rw [hh] at k; exact k
          · rw [mt_d_s, mt_s1 h0 hu]; exact hp n hn
          · rw [mt_d_s, mt_s1 h0 hu, hs]; exact nI_1 _
        · refine mt_c2 (by omega) hD h0 ?_
          have hq := mt_q2 (ar := ar) (D := D) (s := mt_d mv ar D LC (60 * r) j) h0 hu
          have hh : mt_h mv ar D LC (60 * r) x2 (j + 1) = mt_h mv ar D LC (60 * r) x2 j := by
            rw [mt_h_s, if_neg]
            rw [hq]; exact fun z => mt_10 z.1.symm
          have k := ih (j + 1) (j + 1) ys (upd yp (D (LC (60 * r + j))) (ar (LC (60 * r + j)))) yl (upd yd (LC (60 * r + j)) 1) (by omega) (by omega) ⟨mt_Pd hd, fun n hn => ?_, ?_⟩
          · rw [hh] at k; exact k
          · rw [mt_d_s, mt_s2 h0 hu]
            refine ⟨?_, (hp n hn).2⟩
            show _ = upd (mt_d mv ar D LC (60 * r) j).1 (D (LC (60 * r + j))) (ar (LC (60 * r + j))) n
            by_cases e : n = D (LC (60 * r + j))
            · rw [e, pk_us, pk_us]
            · rw [pk_un e, pk_un e]; exact (hp n hn).1
          · rw [mt_d_s, mt_s2 h0 hu]; exact hs
theorem mt_c34 {post : Int32 → SY → Prop} {x1 x2 x3 f : Int32} (H : ∀ yp yl : Nat → Int32, (∀ n, n < 10 → yp n = -1 ∧ yl n = 0) → ∃ n66, wY_carryOut_66 post x1 x2 f n66 x3 0 ys (mt_f O) (mt_f S) mv (mt_f D) ar yk yp yl yd yo yq) : ∀ (t i : Nat) (yp yl : Nat → Int32), i + t = 10 → (∀ n, n < i → yp n = -1 ∧ yl n = 0) → wY_carryOut_34 post x1 x2 x3 f ys (t + 1) (nI i) (mt_f O) (mt_f S) mv (mt_f D) ar yk yp yl yd yo yq := by
  intro t
  induction t with
  | zero =>
    intro i yp yl hi h
    exact br_t (nI_le (a := 10) (by omega) (by omega)) (H yp yl (fun n hn => h n (by omega)))
  | succ t ih =>
    intro i yp yl hi h
    have c1 : (nI i).toNatClampNeg = i := nI_clamp (by omega)
    have i1 : vp_in (nI i) 10 := vp_in_nI (by omega) (by omega)
    refine br_f (nI_ge (b := 10) (by omega) (by omega)) ?_
    rw [c1]
    refine ⟨i1, nm_e ⟨i1, nm_e (nm_r (nI_1 i) (ih (i + 1) _ _ (by omega) (fun n hn => ?_)))⟩⟩
    by_cases e : n = i
    · rw [e, pk_us, pk_us]; exact ⟨rfl, rfl⟩
    · rw [pk_un e, pk_un e]; exact h n (by omega)
theorem mt_c10 {post : Int32 → SY → Prop} {x1 x2 x3 f : Int32} (H : ∀ yd : Nat → Int32, (∀ n, n < 60 → yd n = 0) → ∃ n34, wY_carryOut_34 post x1 x2 x3 f ys n34 0 (mt_f O) (mt_f S) mv (mt_f D) ar yk yp yl yd yo yq) : ∀ (t i : Nat) (yd : Nat → Int32), i + t = 60 → (∀ n, n < i → yd n = 0) → wY_carryOut_10 post x1 x2 x3 f ys (t + 1) (nI i) (mt_f O) (mt_f S) mv (mt_f D) ar yk yp yl yd yo yq := by
  intro t
  induction t with
  | zero =>
    intro i yd hi h
    exact br_t (nI_le (a := 60) (by omega) (by omega)) (H yd (fun n hn => h n (by omega)))
  | succ t ih =>
    intro i yd hi h
    have c1 : (nI i).toNatClampNeg = i := nI_clamp (by omega)
    have i1 : vp_in (nI i) 60 := vp_in_nI (by omega) (by omega)
    refine br_f (nI_ge (b := 60) (by omega) (by omega)) ?_
    rw [c1, mt_vb0]
    refine ⟨i1, nm_e (nm_r (nI_1 i) (ih (i + 1) _ (by omega) (fun n hn => ?_)))⟩
    by_cases e : n = i
    · rw [e, pk_us]
    · rw [pk_un e]; exact h n (by omega)
/-- carryOut: what the reference shows is the fold over the component's log -/
theorem mt_yc {post : Int32 → SY → Prop} {x2 : Int32} (hI : mt_I m mv ar D S O N MB CO) (hG : mt_G m S O N MB K GR LL LC r) (hY : mt_Y m O N K yk) (hr : r < 3) (H : ∀ (ys : Int32) (yp yl yd : Nat → Int32), (∀ n, n < 10 → yp n = (mt_d mv ar D LC (60 * r) (LL r)).1 n ∧ yl n = (mt_d mv ar D LC (60 * r) (LL r)).2.1 n) → ys = nI (mt_d mv ar D LC (60 * r) (LL r)).2.2 → post (mt_h mv ar D LC (60 * r) x2 (LL r)) (nI m, ys, mt_f O, mt_f S, mv, mt_f D, ar, yk, yp, yl, yd, yo, yq)) : wpY_carryOut post (nI m, ys, mt_f O, mt_f S, mv, mt_f D, ar, yk, yp, yl, yd, yo, yq) (nI r) x2 := by
  unfold wpY_carryOut
  dsimp only
  refine ⟨61, mt_c10 (fun yd hd => ⟨11, mt_c34 (fun yp yl hp => ⟨m + 1, ?_⟩) 10 0 yp yl rfl (fun n hn => absurd hn (by omega))⟩) 60 0 yd rfl (fun n hn => absurd hn (by omega))⟩
  exact mt_c66 hI hG hY hr (fun ys yp yl yd h => H ys yp yl yd h.2.1 h.2.2) m 0 0 0 yp yl yd (by omega) (by omega) ⟨fun c hc => ⟨fun _ k hk => absurd hk (by omega), fun _ => hd c hc⟩, hp, rfl⟩
end
end
section
/-! the relation -/
def mt_R (m : Nat) (mv ar bf sk sc pa la : Nat → Int32) (D S O N MB CO K GR LL LC : Nat → Nat) (yk : Nat → Int32) : Prop :=
  mt_I m mv ar D S O N MB CO ∧ (∀ q, q < 3 → mt_G m S O N MB K GR LL LC q) ∧ (∀ q, q < 3 → mt_V mv ar D LC bf sk sc pa la q (LL q)) ∧ (∀ q, q < 3 → K (3 * q + q) = MB q) ∧ mt_Y m O N K yk
/-- the relation: the same changes, and each replica's log is what the reference knows, in the order of stamps -/
def i_Rel (k : Nat) (u : SX) (v : SY) : Prop :=
  ∃ m : Nat, ∃ mv : Nat → Int32, ∃ ar : Nat → Int32, ∃ bf : Nat → Int32, ∃ sk : Nat → Int32, ∃ sc : Nat → Int32, ∃ pa : Nat → Int32, ∃ la : Nat → Int32, ∃ D : Nat → Nat, ∃ S : Nat → Nat, ∃ O : Nat → Nat, ∃ N : Nat → Nat, ∃ MB : Nat → Nat, ∃ CO : Nat → Nat, ∃ K : Nat → Nat, ∃ GR : Nat → Nat, ∃ LL : Nat → Nat, ∃ LC : Nat → Nat, ∃ ys : Int32, ∃ yk : Nat → Int32, ∃ yp : Nat → Int32, ∃ yl : Nat → Int32, ∃ yd : Nat → Int32, ∃ yo : Nat → Int32, ∃ yq : Nat → Int32,
    u = (nI m, mv, mt_f D, ar, mt_f S, mt_f O, mt_f N, mt_f MB, mt_f CO, mt_f K, mt_f GR, mt_f LL, mt_f LC, bf, sk, sc, pa, la) ∧ v = (nI m, ys, mt_f O, mt_f S, mv, mt_f D, ar, yk, yp, yl, yd, yo, yq) ∧ mt_R m mv ar bf sk sc pa la D S O N MB CO K GR LL LC yk
theorem mt_mk {k : Nat} {m : Nat} {mv : Nat → Int32} {ar : Nat → Int32} {bf : Nat → Int32} {sk : Nat → Int32} {sc : Nat → Int32} {pa : Nat → Int32} {la : Nat → Int32} {D : Nat → Nat} {S : Nat → Nat} {O : Nat → Nat} {N : Nat → Nat} {MB : Nat → Nat} {CO : Nat → Nat} {K : Nat → Nat} {GR : Nat → Nat} {LL : Nat → Nat} {LC : Nat → Nat} {ys : Int32} {yk : Nat → Int32} {yp : Nat → Int32} {yl : Nat → Int32} {yd : Nat → Int32} {yo : Nat → Int32} {yq : Nat → Int32} (hR : mt_R m mv ar bf sk sc pa la D S O N MB CO K GR LL LC yk) : i_Rel k (nI m, mv, mt_f D, ar, mt_f S, mt_f O, mt_f N, mt_f MB, mt_f CO, mt_f K, mt_f GR, mt_f LL, mt_f LC, bf, sk, sc, pa, la) (nI m, ys, mt_f O, mt_f S, mv, mt_f D, ar, yk, yp, yl, yd, yo, yq) :=
  ⟨m, mv, ar, bf, sk, sc, pa, la, D, S, O, N, MB, CO, K, GR, LL, LC, ys, yk, yp, yl, yd, yo, yq, rfl, rfl, hR⟩
theorem mt_el {k : Nat} {u : SX} {v : SY} {P : SX → SY → Prop} (h : ∀ (m : Nat) (mv : Nat → Int32) (ar : Nat → Int32) (bf : Nat → Int32) (sk : Nat → Int32) (sc : Nat → Int32) (pa : Nat → Int32) (la : Nat → Int32) (D : Nat → Nat) (S : Nat → Nat) (O : Nat → Nat) (N : Nat → Nat) (MB : Nat → Nat) (CO : Nat → Nat) (K : Nat → Nat) (GR : Nat → Nat) (LL : Nat → Nat) (LC : Nat → Nat) (ys : Int32) (yk : Nat → Int32) (yp : Nat → Int32) (yl : Nat → Int32) (yd : Nat → Int32) (yo : Nat → Int32) (yq : Nat → Int32), mt_R m mv ar bf sk sc pa la D S O N MB CO K GR LL LC yk → P (nI m, mv, mt_f D, ar, mt_f S, mt_f O, mt_f N, mt_f MB, mt_f CO, mt_f K, mt_f GR, mt_f LL, mt_f LC, bf, sk, sc, pa, la) (nI m, ys, mt_f O, mt_f S, mv, mt_f D, ar, yk, yp, yl, yd, yo, yq)) (I : i_Rel k u v) : P u v :=
  Exists.elim I fun m I => Exists.elim I fun mv I => Exists.elim I fun ar I => Exists.elim I fun bf I => Exists.elim I fun sk I => Exists.elim I fun sc I => Exists.elim I fun pa I => Exists.elim I fun la I => Exists.elim I fun D I => Exists.elim I fun S I => Exists.elim I fun O I => Exists.elim I fun N I => Exists.elim I fun MB I => Exists.elim I fun CO I => Exists.elim I fun K I => Exists.elim I fun GR I => Exists.elim I fun LL I => Exists.elim I fun LC I => Exists.elim I fun ys I => Exists.elim I fun yk I => Exists.elim I fun yp I => Exists.elim I fun yl I => Exists.elim I fun yd I => Exists.elim I fun yo I => Exists.elim I fun yq I =>
    I.1.symm ▸ I.2.1.symm ▸ h m mv ar bf sk sc pa la D S O N MB CO K GR LL LC ys yk yp yl yd yo yq I.2.2
theorem i_up {k : Nat} {u : SX} {v : SY} (h : i_Rel k u v) : i_Rel (k + 4) u v := h
theorem mt_lt3 {v : Int32} (h : nI 3 ≤ v) : 2 < v := by
  rw [Int32.le_iff_toInt_le, nI_toInt (by omega)] at h
  rw [Int32.lt_iff_toInt_lt, show (2 : Int32).toInt = 2 from by decide]
  omega
theorem mt_lt10 {v : Int32} (h : nI 10 ≤ v) : 9 < v := by
  rw [Int32.le_iff_toInt_le, nI_toInt (by omega)] at h
  rw [Int32.lt_iff_toInt_lt, show (9 : Int32).toInt = 9 from by decide]
  omega
theorem mt_rep (v : Int32) : (v < 0 ∨ 2 < v) ∨ ∃ r, r < 3 ∧ v = nI r := by
  rcases pk_ix v (n := 3) (by omega) with h | h | h
  · exact Or.inl (Or.inl h)
  · exact Or.inl (Or.inr (mt_lt3 h))
  · exact Or.inr h
theorem mt_nod (v : Int32) : (v < 0 ∨ 9 < v) ∨ ∃ r, r < 10 ∧ v = nI r := by
  rcases pk_ix v (n := 10) (by omega) with h | h | h
  · exact Or.inl (Or.inl h)
  · exact Or.inl (Or.inr (mt_lt10 h))
  · exact Or.inr h
section
variable {post : Int32 → Prop} {v : Int32} {r : Nat}
theorem mt_xr1 (hr : r < 3) (h : post 1) : wpX_isReplica post (nI r) := by
  unfold wpX_isReplica
  exact br_f (nI_pos (by omega)) (br_f (nI_nlt (a := 2) (b := r) (by omega) (by omega)) h)
theorem mt_xr0 (hv : v < 0 ∨ 2 < v) (h : post 0) : wpX_isReplica post v := by
  unfold wpX_isReplica
  refine br_c (fun _ => h) (fun z => ?_)
  rcases hv with a | a
  · exact absurd a z
  · exact br_t a h
theorem mt_xn1 (hr : r < 10) (h : post 1) : wpX_isNode post (nI r) := by
  unfold wpX_isNode
  exact br_f (nI_pos (by omega)) (br_f (nI_nlt (a := 9) (b := r) (by omega) (by omega)) h)
theorem mt_xn0 (hv : v < 0 ∨ 9 < v) (h : post 0) : wpX_isNode post v := by
  unfold wpX_isNode
  refine br_c (fun _ => h) (fun z => ?_)
  rcases hv with a | a
  · exact absurd a z
  · exact br_t a h
theorem mt_yb0 (hr : r < 3) (h : post 0) : wpY_bad post (nI r) := by
  unfold wpY_bad
  exact br_f (nI_pos (by omega)) (br_t (nI_le (a := r) (b := 2) (by omega) (by omega)) h)
theorem mt_yb1 (hv : v < 0 ∨ 2 < v) (h : post 1) : wpY_bad post v := by
  unfold wpY_bad
  refine br_c (fun _ => h) (fun z => ?_)
  rcases hv with a | a
  · exact absurd a z
  · exact br_f (Int32.not_le.mpr a) h
theorem mt_yn0 (hr : r < 10) (h : post 0) : wpY_badNode post (nI r) := by
  unfold wpY_badNode
  exact br_f (nI_pos (by omega)) (br_t (nI_le (a := r) (b := 9) (by omega) (by omega)) h)
theorem mt_yn1 (hv : v < 0 ∨ 9 < v) (h : post 1) : wpY_badNode post v := by
  unfold wpY_badNode
  refine br_c (fun _ => h) (fun z => ?_)
  rcases hv with a | a
  · exact absurd a z
  · exact br_f (Int32.not_le.mpr a) h
end
end
section
/-! the questions -/
def mt_dp (p : Nat → Int32) : Nat → Nat → Nat → Int32
  | 0, i, _ => nI i
  | t + 1, i, a => if p a < 0 then nI i else mt_dp p t (i + 1) (p a).toNatClampNeg
theorem mt_dp_s {p : Nat → Int32} {t i a : Nat} : mt_dp p (t + 1) i a = if p a < 0 then nI i else mt_dp p t (i + 1) (p a).toNatClampNeg := rfl
def mt_ch (p : Nat → Int32) (x : Int32) : Nat → Nat → Int32 → Int32
  | 0, _, n => n
  | t + 1, i, n => if p i = x then mt_ch p x t (i + 1) (n + 1) else mt_ch p x t (i + 1) n
theorem mt_ch_s {p : Nat → Int32} {x n : Int32} {t i : Nat} : mt_ch p x (t + 1) i n = if p i = x then mt_ch p x t (i + 1) (n + 1) else mt_ch p x t (i + 1) n := rfl
def mt_al (p p' l l' : Nat → Int32) : Nat → Nat → Int32
  | 0, _ => 1
  | t + 1, i => if p i = p' i then (if l i = l' i then mt_al p p' l l' t (i + 1) else 0) else 0
theorem mt_al_s {p p' l l' : Nat → Int32} {t i : Nat} : mt_al p p' l l' (t + 1) i = if p i = p' i then (if l i = l' i then mt_al p p' l l' t (i + 1) else 0) else 0 := rfl
section
variable {m r a b x : Nat} {mv ar bf sk sc pa la yk yp yl yd yo yq p p' l l' : Nat → Int32} {D S O N MB CO K GR LL LC : Nat → Nat} {ys : Int32}
theorem mt_xdp {post : Int32 → Prop} (hr : r < 3) (hw : mt_w p) (hp : ∀ n, n < 10 → pa (10 * r + n) = p n) : ∀ (t i a : Nat), i + t = 10 → a < 10 → post (mt_dp p t i a) → wX_depth_24 post (nI r) (nI m) mv (mt_f D) ar (mt_f S) (mt_f O) (mt_f N) (mt_f MB) (mt_f CO) (mt_f K) (mt_f GR) (mt_f LL) (mt_f LC) bf sk sc pa la (t + 1) (nI i) (nI a) (nI i) := by
  intro t
  induction t with
  | zero =>
    intro i a hi ha h
    exact br_t (nI_le (a := 10) (by omega) (by omega)) h
  | succ t ih =>
    intro i a hi ha h
    rw [mt_dp_s] at h
    have c1 : (nI (10 * r + a)).toNatClampNeg = 10 * r + a := nI_clamp (by omega)
    have i1 : vp_in (nI (10 * r + a)) 30 := vp_in_nI (by omega) (by omega)
    refine br_f (nI_ge (b := 10) (by omega) (by omega)) ?_
    rw [mt_i10, c1, hp a ha]
    refine ⟨i1, br_c (fun z => ?_) (fun z => ⟨i1, ?_⟩)⟩
    · rw [if_pos z] at h; exact h
    · rw [if_neg z] at h
      rcases hw a with y | ⟨b, hb, e⟩
      · exact absurd y z
      · rw [e, nI_clamp (by omega)] at h
        exact nm_r e (nm_r (nI_1 i) (nm_r (nI_1 i) (ih (i + 1) b (by omega) hb h)))
theorem mt_ydp {post : Int32 → SY → Prop} (hw : mt_w p) (hp : ∀ n, n < 10 → yp n = p n) : ∀ (t i a : Nat), i + t = 10 → a < 10 → post (mt_dp p t i a) (nI m, ys, mt_f O, mt_f S, mv, mt_f D, ar, yk, yp, yl, yd, yo, yq) → wY_depth_28 post (nI m) ys (mt_f O) (mt_f S) mv (mt_f D) ar yk yp yl yd yo yq (t + 1) (nI i) (nI a) := by
  intro t
  induction t with
  | zero =>
    intro i a hi ha h
    have e : i = 10 := by omega
    subst e
    exact br_t (nI_le (a := 10) (by omega) (by omega)) h
  | succ t ih =>
    intro i a hi ha h
    rw [mt_dp_s] at h
    have c1 : (nI a).toNatClampNeg = a := nI_clamp (by omega)
    have i1 : vp_in (nI a) 10 := vp_in_nI (by omega) (by omega)
    refine br_f (nI_ge (b := 10) (by omega) (by omega)) ?_
    rw [c1, hp a ha]
    refine ⟨i1, br_c (fun z => ?_) (fun z => ⟨i1, ?_⟩)⟩
    · rw [if_pos z] at h; exact h
    · rw [if_neg z] at h
      rcases hw a with y | ⟨b, hb, e⟩
      · exact absurd y z
      · rw [e, nI_clamp (by omega)] at h
        exact nm_r e (nm_r (nI_1 i) (ih (i + 1) b (by omega) hb h))
theorem mt_xch {post : Int32 → Prop} {x : Int32} (hr : r < 3) (hp : ∀ n, n < 10 → pa (10 * r + n) = p n) : ∀ (t i : Nat) (n : Int32), i + t = 10 → post (mt_ch p x t i n) → wX_children_24 post (nI r) x (nI m) mv (mt_f D) ar (mt_f S) (mt_f O) (mt_f N) (mt_f MB) (mt_f CO) (mt_f K) (mt_f GR) (mt_f LL) (mt_f LC) bf sk sc pa la (t + 1) n (nI (10 * r + i)) := by
  intro t
  induction t with
  | zero =>
    intro i n hi h
    have e : (10 : Int32) * nI r + 10 = nI (10 * r + 10) := mt_i10 r 10
    refine br_t ?_ h
    rw [e]; exact nI_le (by omega) (by omega)
  | succ t ih =>
    intro i n hi h
    rw [mt_ch_s] at h
    have e : (10 : Int32) * nI r + 10 = nI (10 * r + 10) := mt_i10 r 10
    have c1 : (nI (10 * r + i)).toNatClampNeg = 10 * r + i := nI_clamp (by omega)
    have i1 : vp_in (nI (10 * r + i)) 30 := vp_in_nI (by omega) (by omega)
    refine br_f (by rw [e]; exact nI_ge (by omega) (by omega)) ?_
    rw [c1, hp i (by omega)]
    refine ⟨i1, br_c (fun z => ?_) (fun z => ?_)⟩
    · rw [if_pos z] at h
      exact nm_e (nm_r (nI_1 _) (ih (i + 1) _ (by omega) h))
    · rw [if_neg z] at h
      exact nm_r (Int32.add_zero n) (nm_r (nI_1 _) (ih (i + 1) _ (by omega) h))
theorem mt_ych {post : Int32 → SY → Prop} {x : Int32} (hp : ∀ n, n < 10 → yp n = p n) : ∀ (t i : Nat) (n : Int32), i + t = 10 → post (mt_ch p x t i n) (nI m, ys, mt_f O, mt_f S, mv, mt_f D, ar, yk, yp, yl, yd, yo, yq) → wY_children_28 post x (nI m) ys (mt_f O) (mt_f S) mv (mt_f D) ar yk yp yl yd yo yq (t + 1) n (nI i) := by
  intro t
  induction t with
  | zero =>
    intro i n hi h
    exact br_t (nI_le (a := 10) (by omega) (by omega)) h
  | succ t ih =>
    intro i n hi h
    rw [mt_ch_s] at h
    have c1 : (nI i).toNatClampNeg = i := nI_clamp (by omega)
    have i1 : vp_in (nI i) 10 := vp_in_nI (by omega) (by omega)
    refine br_f (nI_ge (b := 10) (by omega) (by omega)) ?_
    rw [c1, hp i (by omega)]
    refine ⟨i1, br_c (fun z => ?_) (fun z => ?_)⟩
    · rw [if_pos z] at h
      exact nm_e (nm_r (nI_1 _) (ih (i + 1) _ (by omega) h))
    · rw [if_neg z] at h
      exact nm_r (nI_1 _) (ih (i + 1) _ (by omega) h)
theorem mt_xal {post : Int32 → Prop} (ha : a < 3) (hb : b < 3) (hp : ∀ n, n < 10 → pa (10 * a + n) = p n ∧ la (10 * a + n) = l n) (hp' : ∀ n, n < 10 → pa (10 * b + n) = p' n ∧ la (10 * b + n) = l' n) : ∀ (t i : Nat), i + t = 10 → post (mt_al p p' l l' t i) → wX_alike_18 post (nI a) (nI b) (nI m) mv (mt_f D) ar (mt_f S) (mt_f O) (mt_f N) (mt_f MB) (mt_f CO) (mt_f K) (mt_f GR) (mt_f LL) (mt_f LC) bf sk sc pa la (t + 1) (nI i) := by
  intro t
  induction t with
  | zero =>
    intro i hi h
    exact br_t (nI_le (a := 10) (by omega) (by omega)) h
  | succ t ih =>
    intro i hi h
    rw [mt_al_s] at h
    have c1 : (nI (10 * a + i)).toNatClampNeg = 10 * a + i := nI_clamp (by omega)
    have i1 : vp_in (nI (10 * a + i)) 30 := vp_in_nI (by omega) (by omega)
    have c2 : (nI (10 * b + i)).toNatClampNeg = 10 * b + i := nI_clamp (by omega)
    have i2 : vp_in (nI (10 * b + i)) 30 := vp_in_nI (by omega) (by omega)
    refine br_f (nI_ge (b := 10) (by omega) (by omega)) ?_
    rw [mt_i10, mt_i10, c1, c2, (hp i (by omega)).1, (hp i (by omega)).2, (hp' i (by omega)).1, (hp' i (by omega)).2]
    refine ⟨i1, i2, br_c (fun z => ⟨i1, i2, br_c (fun y => ?_) (fun y => ?_)⟩) (fun z => ?_)⟩
    · rw [if_pos z, if_pos y] at h
      exact nm_r (nI_1 _) (ih (i + 1) (by omega) h)
    · rw [if_pos z, if_neg y] at h
      exact h
    · rw [if_neg z] at h
      exact h
theorem mt_yal {post : Int32 → SY → Prop} (hp : ∀ n, n < 10 → yo n = p n ∧ yq n = l n) (hp' : ∀ n, n < 10 → yp n = p' n ∧ yl n = l' n) : ∀ (t i : Nat), i + t = 10 → post (mt_al p p' l l' t i) (nI m, ys, mt_f O, mt_f S, mv, mt_f D, ar, yk, yp, yl, yd, yo, yq) → wY_alike_70 post (nI m) ys (mt_f O) (mt_f S) mv (mt_f D) ar yk yp yl yd yo yq (t + 1) (nI i) := by
  intro t
  induction t with
  | zero =>
    intro i hi h
    exact br_t (nI_le (a := 10) (by omega) (by omega)) h
  | succ t ih =>
    intro i hi h
    rw [mt_al_s] at h
    have c1 : (nI i).toNatClampNeg = i := nI_clamp (by omega)
    have i1 : vp_in (nI i) 10 := vp_in_nI (by omega) (by omega)
    refine br_f (nI_ge (b := 10) (by omega) (by omega)) ?_
    rw [c1, (hp i (by omega)).1, (hp i (by omega)).2, (hp' i (by omega)).1, (hp' i (by omega)).2]
    refine ⟨i1, i1, br_c (fun z => ⟨i1, i1, br_c (fun y => ?_) (fun y => ?_)⟩) (fun z => ?_)⟩
    · rw [if_pos z, if_pos y] at h
      exact nm_r (nI_1 _) (ih (i + 1) (by omega) h)
    · rw [if_pos z, if_neg y] at h
      exact h
    · rw [if_neg z] at h
      exact h
theorem mt_al25 {post : Int32 → SY → Prop} {x2 : Int32} (H : ∀ (yo yq : Nat → Int32) (f : Nat), (∀ n, n < 10 → yo n = yp n ∧ yq n = yl n) → wY_alike_25 post x2 (nI m) ys (f + 1) (nI 10) (mt_f O) (mt_f S) mv (mt_f D) ar yk yp yl yd yo yq) : ∀ (t i : Nat) (yo yq : Nat → Int32), i + t = 10 → (∀ n, n < i → yo n = yp n ∧ yq n = yl n) → wY_alike_25 post x2 (nI m) ys (t + 1) (nI i) (mt_f O) (mt_f S) mv (mt_f D) ar yk yp yl yd yo yq := by
  intro t
  induction t with
  | zero =>
    intro i yo yq hi h
    have e : i = 10 := by omega
    subst e
    exact H yo yq 0 h
  | succ t ih =>
    intro i yo yq hi h
    have c1 : (nI i).toNatClampNeg = i := nI_clamp (by omega)
    have i1 : vp_in (nI i) 10 := vp_in_nI (by omega) (by omega)
    refine br_f (nI_ge (b := 10) (by omega) (by omega)) ?_
    rw [c1]
    refine ⟨i1, i1, nm_e ⟨i1, i1, nm_e (nm_r (nI_1 i) (ih (i + 1) _ _ (by omega) (fun n hn => ?_)))⟩⟩
    by_cases e : n = i
    · rw [e, pk_us, pk_us]; exact ⟨rfl, rfl⟩
    · rw [pk_un e, pk_un e]; exact h n (by omega)
end
end
section
/-! the owed statements, first half -/
section
variable {post : SX → Prop}
theorem mt_init (H : ∀ pa : Nat → Int32, (∀ j, j < 30 → pa j = -1) → post (0, (fun _ => 0), (fun _ => 0), (fun _ => 0), (fun _ => 0), (fun _ => 0), (fun _ => 0), (fun _ => 0), (fun _ => 0), (fun _ => 0), (fun _ => 0), (fun _ => 0), (fun _ => 0), (fun _ => 0), (fun _ => 0), (fun _ => 0), pa, (fun _ => 0))) : ∀ (t i : Nat) (pa : Nat → Int32), i + t = 30 → (∀ j, j < i → pa j = -1) → wX_init_142 post 0 (t + 1) (nI i) (fun _ => 0) (fun _ => 0) (fun _ => 0) (fun _ => 0) (fun _ => 0) (fun _ => 0) (fun _ => 0) (fun _ => 0) (fun _ => 0) (fun _ => 0) (fun _ => 0) (fun _ => 0) (fun _ => 0) (fun _ => 0) (fun _ => 0) pa (fun _ => 0) := by
  intro t
  induction t with
  | zero =>
    intro i pa hi h
    exact br_t (nI_le (a := 30) (by omega) (by omega)) (H pa (fun j hj => h j (by omega)))
  | succ t ih =>
    intro i pa hi h
    have c1 : (nI i).toNatClampNeg = i := nI_clamp (by omega)
    refine br_f (nI_ge (b := 30) (by omega) (by omega)) ⟨vp_in_nI (by omega) (by omega), nm_e (nm_r (nI_1 i) (ih (i + 1) _ (by omega) (fun n hn => ?_)))⟩
    rw [c1]
    by_cases e : n = i
    · rw [e, pk_us]
    · rw [pk_un e]; exact h n (by omega)
end
theorem i_vc0 : wpX_init (fun u => wpY_init (fun v => i_Rel 0 u v)) := by
  unfold wpX_init
  refine ⟨31, mt_init (fun pa hp => ?_) 30 0 (fun _ => 0) rfl (fun j hj => absurd hj (by omega))⟩
  unfold wpY_init
  refine mt_mk (m := 0) (mv := fun _ => 0) (ar := fun _ => 0) (bf := fun _ => 0) (sk := fun _ => 0) (sc := fun _ => 0) (pa := pa) (la := fun _ => 0) (D := fun _ => 0) (S := fun _ => 0) (O := fun _ => 0) (N := fun _ => 0) (MB := fun _ => 0) (CO := fun _ => 0) (K := fun _ => 0) (GR := fun _ => 0) (LL := fun _ => 0) (LC := fun _ => 0) (ys := 0) (yk := fun _ => 0) (yp := fun _ => 0) (yl := fun _ => 0) (yd := fun _ => 0) (yo := fun _ => 0) (yq := fun _ => 0) ⟨?_, fun q hq => ?_, fun q hq => ?_, fun q hq => rfl, fun r c hr hc => ?_⟩
  · refine ⟨by omega, rfl, fun c => ⟨(by decide : (0 : Nat) < 10), (by decide : (0 : Nat) < 3), Nat.le_refl _, Nat.le_refl _⟩, fun c hc => absurd hc (by omega), fun c hc => absurd hc (by omega), fun o n ho h1 h2 => ?_, fun c d h1 h2 => absurd h2 (by omega)⟩
    have h3 : n ≤ 0 := h2
    omega
  · exact ⟨fun o ho => Nat.le_refl _, rfl, fun c hc => absurd hc (by omega), Or.inl rfl, fun i j h1 h2 => absurd (show j < 0 from h2) (by omega), fun k h2 => absurd (show k < 0 from h2) (by omega), fun c hc => absurd hc (by omega)⟩
  · exact ⟨fun j hj => absurd (show j < 0 from hj) (by omega), fun n hn => ⟨hp _ (by omega), rfl⟩, rfl⟩
  · exact ⟨fun _ z => absurd z.1 (by omega), fun _ => rfl⟩
theorem i_vc_parent {k : Nat} {u : SX} {v : SY} (I : i_Rel k u v) (hk : k + 4 ≤ 2048) (v1 : Int32) (v2 : Int32) : wpX_parent (fun r => wpY_parent (fun r' v' => r' = r ∧ i_Rel (k + 4) u v') v v1 v2) u v1 v2 := by
  refine mt_el (P := fun u v => wpX_parent (fun r => wpY_parent (fun r' v' => r' = r ∧ i_Rel (k + 4) u v') v v1 v2) u v1 v2) ?_ I
  intro m mv ar bf sk sc pa la D S O N MB CO K GR LL LC ys yk yp yl yd yo yq hR
  have hR' := hR
  obtain ⟨hI, hG, hV, hW, hY⟩ := hR'
  show wpX_parent (fun r => wpY_parent (fun r' v' => r' = r ∧ i_Rel (k + 4) (nI m, mv, mt_f D, ar, mt_f S, mt_f O, mt_f N, mt_f MB, mt_f CO, mt_f K, mt_f GR, mt_f LL, mt_f LC, bf, sk, sc, pa, la) v') (nI m, ys, mt_f O, mt_f S, mv, mt_f D, ar, yk, yp, yl, yd, yo, yq) v1 v2) (nI m, mv, mt_f D, ar, mt_f S, mt_f O, mt_f N, mt_f MB, mt_f CO, mt_f K, mt_f GR, mt_f LL, mt_f LC, bf, sk, sc, pa, la) v1 v2
  rcases mt_rep v1 with h | ⟨r, hr, rfl⟩
  · unfold wpX_parent
    refine mt_xr0 h (br_t rfl ?_)
    unfold wpY_parent
    exact mt_yb1 h (br_f mt_10 ⟨rfl, mt_mk hR⟩)
  · rcases mt_nod v2 with h | ⟨n, hn, rfl⟩
    · unfold wpX_parent
      refine mt_xr1 hr (br_f mt_10 (mt_xn0 h (br_t rfl ?_)))
      unfold wpY_parent
      exact mt_yb0 hr (br_t rfl (mt_yn1 h (br_f mt_10 ⟨rfl, mt_mk hR⟩)))
    · have c1 : (nI (10 * r + n)).toNatClampNeg = 10 * r + n := nI_clamp (by omega)
      unfold wpX_parent
      refine mt_xr1 hr (br_f mt_10 (mt_xn1 hn (br_f mt_10 ⟨by rw [mt_i10]; exact vp_in_nI (by omega) (by omega), ?_⟩)))
      rw [mt_i10, c1]
      unfold wpY_parent
      refine mt_yb0 hr (br_t rfl (mt_yn0 hn (br_t rfl (mt_yc hI (hG r hr) hY hr (fun ys yp yl yd hp hs => ⟨vp_in_nI (by omega) (by omega), ?_, mt_mk hR⟩)))))
      rw [nI_clamp (by omega)]
      exact (hp n hn).1.trans ((hV r hr).2.1 n hn).1.symm
theorem i_vc_label {k : Nat} {u : SX} {v : SY} (I : i_Rel k u v) (hk : k + 4 ≤ 2048) (v1 : Int32) (v2 : Int32) : wpX_label (fun r => wpY_label (fun r' v' => r' = r ∧ i_Rel (k + 4) u v') v v1 v2) u v1 v2 := by
  refine mt_el (P := fun u v => wpX_label (fun r => wpY_label (fun r' v' => r' = r ∧ i_Rel (k + 4) u v') v v1 v2) u v1 v2) ?_ I
  intro m mv ar bf sk sc pa la D S O N MB CO K GR LL LC ys yk yp yl yd yo yq hR
  have hR' := hR
  obtain ⟨hI, hG, hV, hW, hY⟩ := hR'
  show wpX_label (fun r => wpY_label (fun r' v' => r' = r ∧ i_Rel (k + 4) (nI m, mv, mt_f D, ar, mt_f S, mt_f O, mt_f N, mt_f MB, mt_f CO, mt_f K, mt_f GR, mt_f LL, mt_f LC, bf, sk, sc, pa, la) v') (nI m, ys, mt_f O, mt_f S, mv, mt_f D, ar, yk, yp, yl, yd, yo, yq) v1 v2) (nI m, mv, mt_f D, ar, mt_f S, mt_f O, mt_f N, mt_f MB, mt_f CO, mt_f K, mt_f GR, mt_f LL, mt_f LC, bf, sk, sc, pa, la) v1 v2
  rcases mt_rep v1 with h | ⟨r, hr, rfl⟩
  · unfold wpX_label
    refine mt_xr0 h (br_t rfl ?_)
    unfold wpY_label
    exact mt_yb1 h (br_f mt_10 ⟨rfl, mt_mk hR⟩)
  · rcases mt_nod v2 with h | ⟨n, hn, rfl⟩
    · unfold wpX_label
      refine mt_xr1 hr (br_f mt_10 (mt_xn0 h (br_t rfl ?_)))
      unfold wpY_label
      exact mt_yb0 hr (br_t rfl (mt_yn1 h (br_f mt_10 ⟨rfl, mt_mk hR⟩)))
    · have c1 : (nI (10 * r + n)).toNatClampNeg = 10 * r + n := nI_clamp (by omega)
      unfold wpX_label
      refine mt_xr1 hr (br_f mt_10 (mt_xn1 hn (br_f mt_10 ⟨by rw [mt_i10]; exact vp_in_nI (by omega) (by omega), ?_⟩)))
      rw [mt_i10, c1]
      unfold wpY_label
      refine mt_yb0 hr (br_t rfl (mt_yn0 hn (br_t rfl (mt_yc hI (hG r hr) hY hr (fun ys yp yl yd hp hs => ⟨vp_in_nI (by omega) (by omega), ?_, mt_mk hR⟩)))))
      rw [nI_clamp (by omega)]
      exact (hp n hn).2.trans ((hV r hr).2.1 n hn).2.symm
theorem i_vc_children {k : Nat} {u : SX} {v : SY} (I : i_Rel k u v) (hk : k + 4 ≤ 2048) (v1 : Int32) (v2 : Int32) : wpX_children (fun r => wpY_children (fun r' v' => r' = r ∧ i_Rel (k + 4) u v') v v1 v2) u v1 v2 := by
  refine mt_el (P := fun u v => wpX_children (fun r => wpY_children (fun r' v' => r' = r ∧ i_Rel (k + 4) u v') v v1 v2) u v1 v2) ?_ I
  intro m mv ar bf sk sc pa la D S O N MB CO K GR LL LC ys yk yp yl yd yo yq hR
  have hR' := hR
  obtain ⟨hI, hG, hV, hW, hY⟩ := hR'
  show wpX_children (fun r => wpY_children (fun r' v' => r' = r ∧ i_Rel (k + 4) (nI m, mv, mt_f D, ar, mt_f S, mt_f O, mt_f N, mt_f MB, mt_f CO, mt_f K, mt_f GR, mt_f LL, mt_f LC, bf, sk, sc, pa, la) v') (nI m, ys, mt_f O, mt_f S, mv, mt_f D, ar, yk, yp, yl, yd, yo, yq) v1 v2) (nI m, mv, mt_f D, ar, mt_f S, mt_f O, mt_f N, mt_f MB, mt_f CO, mt_f K, mt_f GR, mt_f LL, mt_f LC, bf, sk, sc, pa, la) v1 v2
  rcases mt_rep v1 with h | ⟨r, hr, rfl⟩
  · unfold wpX_children
    refine mt_xr0 h (br_t rfl ?_)
    unfold wpY_children
    exact mt_yb1 h (br_f mt_10 ⟨rfl, mt_mk hR⟩)
  · rcases mt_nod v2 with h | ⟨n, hn, rfl⟩
    · unfold wpX_children
      refine mt_xr1 hr (br_f mt_10 (mt_xn0 h (br_t rfl ?_)))
      unfold wpY_children
      exact mt_yb0 hr (br_t rfl (mt_yn1 h (br_f mt_10 ⟨rfl, mt_mk hR⟩)))
    · unfold wpX_children
      refine mt_xr1 hr (br_f mt_10 (mt_xn1 hn (br_f mt_10 (nm_r (e' := nI (10 * r + 0)) (pk_mul 10 r) ⟨11, mt_xch (p := (mt_d mv ar D LC (60 * r) (LL r)).1) hr (fun n hn => ((hV r hr).2.1 n hn).1) 10 0 0 rfl ?_⟩))))
      unfold wpY_children
      exact mt_yb0 hr (br_t rfl (mt_yn0 hn (br_t rfl (mt_yc hI (hG r hr) hY hr (fun ys yp yl yd hp hs => ⟨11, mt_ych (p := (mt_d mv ar D LC (60 * r) (LL r)).1) (fun n hn => (hp n hn).1) 10 0 0 rfl ⟨rfl, mt_mk hR⟩⟩)))))
theorem i_vc_depth {k : Nat} {u : SX} {v : SY} (I : i_Rel k u v) (hk : k + 4 ≤ 2048) (v1 : Int32) (v2 : Int32) : wpX_depth (fun r => wpY_depth (fun r' v' => r' = r ∧ i_Rel (k + 4) u v') v v1 v2) u v1 v2 := by
  refine mt_el (P := fun u v => wpX_depth (fun r => wpY_depth (fun r' v' => r' = r ∧ i_Rel (k + 4) u v') v v1 v2) u v1 v2) ?_ I
  intro m mv ar bf sk sc pa la D S O N MB CO K GR LL LC ys yk yp yl yd yo yq hR
  have hR' := hR
  obtain ⟨hI, hG, hV, hW, hY⟩ := hR'
  show wpX_depth (fun r => wpY_depth (fun r' v' => r' = r ∧ i_Rel (k + 4) (nI m, mv, mt_f D, ar, mt_f S, mt_f O, mt_f N, mt_f MB, mt_f CO, mt_f K, mt_f GR, mt_f LL, mt_f LC, bf, sk, sc, pa, la) v') (nI m, ys, mt_f O, mt_f S, mv, mt_f D, ar, yk, yp, yl, yd, yo, yq) v1 v2) (nI m, mv, mt_f D, ar, mt_f S, mt_f O, mt_f N, mt_f MB, mt_f CO, mt_f K, mt_f GR, mt_f LL, mt_f LC, bf, sk, sc, pa, la) v1 v2
  rcases mt_rep v1 with h | ⟨r, hr, rfl⟩
  · unfold wpX_depth
    refine mt_xr0 h (br_t rfl ?_)
    unfold wpY_depth
    exact mt_yb1 h (br_f mt_10 ⟨rfl, mt_mk hR⟩)
  · rcases mt_nod v2 with h | ⟨n, hn, rfl⟩
    · unfold wpX_depth
      refine mt_xr1 hr (br_f mt_10 (mt_xn0 h (br_t rfl ?_)))
      unfold wpY_depth
      exact mt_yb0 hr (br_t rfl (mt_yn1 h (br_f mt_10 ⟨rfl, mt_mk hR⟩)))
    · have hw : mt_w (mt_d mv ar D LC (60 * r) (LL r)).1 := mt_dw (LL r) (fun i hi => hI.2.2.2.1 _ ((hG r hr).2.2.2.2.2.1 i hi).1)
      unfold wpX_depth
      refine mt_xr1 hr (br_f mt_10 (mt_xn1 hn (br_f mt_10 ⟨11, mt_xdp (p := (mt_d mv ar D LC (60 * r) (LL r)).1) hr hw (fun n hn => ((hV r hr).2.1 n hn).1) 10 0 n rfl hn ?_⟩)))
      unfold wpY_depth
      exact mt_yb0 hr (br_t rfl (mt_yn0 hn (br_t rfl (mt_yc hI (hG r hr) hY hr (fun ys yp yl yd hp hs => ⟨11, mt_ydp (p := (mt_d mv ar D LC (60 * r) (LL r)).1) hw (fun n hn => (hp n hn).1) 10 0 n rfl hn ⟨rfl, mt_mk hR⟩⟩)))))
theorem i_vc_skipped {k : Nat} {u : SX} {v : SY} (I : i_Rel k u v) (hk : k + 4 ≤ 2048) (v1 : Int32) : wpX_skipped (fun r => wpY_skipped (fun r' v' => r' = r ∧ i_Rel (k + 4) u v') v v1) u v1 := by
  refine mt_el (P := fun u v => wpX_skipped (fun r => wpY_skipped (fun r' v' => r' = r ∧ i_Rel (k + 4) u v') v v1) u v1) ?_ I
  intro m mv ar bf sk sc pa la D S O N MB CO K GR LL LC ys yk yp yl yd yo yq hR
  have hR' := hR
  obtain ⟨hI, hG, hV, hW, hY⟩ := hR'
  show wpX_skipped (fun r => wpY_skipped (fun r' v' => r' = r ∧ i_Rel (k + 4) (nI m, mv, mt_f D, ar, mt_f S, mt_f O, mt_f N, mt_f MB, mt_f CO, mt_f K, mt_f GR, mt_f LL, mt_f LC, bf, sk, sc, pa, la) v') (nI m, ys, mt_f O, mt_f S, mv, mt_f D, ar, yk, yp, yl, yd, yo, yq) v1) (nI m, mv, mt_f D, ar, mt_f S, mt_f O, mt_f N, mt_f MB, mt_f CO, mt_f K, mt_f GR, mt_f LL, mt_f LC, bf, sk, sc, pa, la) v1
  rcases mt_rep v1 with h | ⟨r, hr, rfl⟩
  · unfold wpX_skipped
    refine mt_xr0 h (br_t rfl ?_)
    unfold wpY_skipped
    exact mt_yb1 h (br_f mt_10 ⟨rfl, mt_mk hR⟩)
  · have c1 : (nI r).toNatClampNeg = r := nI_clamp (by omega)
    unfold wpX_skipped
    refine mt_xr1 hr (br_f mt_10 ⟨vp_in_nI (by omega) (by omega), ?_⟩)
    rw [c1]
    unfold wpY_skipped
    exact mt_yb0 hr (br_t rfl (mt_yc hI (hG r hr) hY hr (fun ys yp yl yd hp hs => ⟨hs.trans (hV r hr).2.2.symm, mt_mk hR⟩)))
theorem i_vc_alike {k : Nat} {u : SX} {v : SY} (I : i_Rel k u v) (hk : k + 4 ≤ 2048) (v1 : Int32) (v2 : Int32) : wpX_alike (fun r => wpY_alike (fun r' v' => r' = r ∧ i_Rel (k + 4) u v') v v1 v2) u v1 v2 := by
  refine mt_el (P := fun u v => wpX_alike (fun r => wpY_alike (fun r' v' => r' = r ∧ i_Rel (k + 4) u v') v v1 v2) u v1 v2) ?_ I
  intro m mv ar bf sk sc pa la D S O N MB CO K GR LL LC ys yk yp yl yd yo yq hR
  have hR' := hR
  obtain ⟨hI, hG, hV, hW, hY⟩ := hR'
  show wpX_alike (fun r => wpY_alike (fun r' v' => r' = r ∧ i_Rel (k + 4) (nI m, mv, mt_f D, ar, mt_f S, mt_f O, mt_f N, mt_f MB, mt_f CO, mt_f K, mt_f GR, mt_f LL, mt_f LC, bf, sk, sc, pa, la) v') (nI m, ys, mt_f O, mt_f S, mv, mt_f D, ar, yk, yp, yl, yd, yo, yq) v1 v2) (nI m, mv, mt_f D, ar, mt_f S, mt_f O, mt_f N, mt_f MB, mt_f CO, mt_f K, mt_f GR, mt_f LL, mt_f LC, bf, sk, sc, pa, la) v1 v2
  rcases mt_rep v1 with h | ⟨a, ha, rfl⟩
  · unfold wpX_alike
    refine mt_xr0 h (br_t rfl ?_)
    unfold wpY_alike
    exact mt_yb1 h (br_f mt_10 ⟨rfl, mt_mk hR⟩)
  · rcases mt_rep v2 with h | ⟨b, hb, rfl⟩
    · unfold wpX_alike
      refine mt_xr1 ha (br_f mt_10 (mt_xr0 h (br_t rfl ?_)))
      unfold wpY_alike
      exact mt_yb0 ha (br_t rfl (mt_yb1 h (br_f mt_10 ⟨rfl, mt_mk hR⟩)))
    · unfold wpX_alike
      refine mt_xr1 ha (br_f mt_10 (mt_xr1 hb (br_f mt_10 ⟨11, mt_xal ha hb (hV a ha).2.1 (hV b hb).2.1 10 0 rfl ?_⟩)))
      unfold wpY_alike
      refine mt_yb0 ha (br_t rfl (mt_yb0 hb (br_t rfl (mt_yc hI (hG a ha) hY ha (fun ys yp yl yd hp hs => ⟨11, mt_al25 (fun yo yq f hc => ?_) 10 0 yo yq rfl (fun n hn => absurd hn (by omega))⟩)))))
      refine br_t (nI_le (a := 10) (by omega) (by omega)) (mt_yc hI (hG b hb) hY hb (fun ys2 yp2 yl2 yd2 hp2 hs2 => ⟨11, mt_yal (fun n hn => ⟨(hc n hn).1.trans (hp n hn).1, (hc n hn).2.trans (hp n hn).2⟩) hp2 10 0 rfl ⟨rfl, mt_mk hR⟩⟩))
end
section
/-! the owed statements: move and name -/
section
variable {m r c : Nat} {mv ar : Nat → Int32} {D S O N MB CO K GR LL LC : Nat → Nat}
/-- the last of the log is the one with the greatest stamp -/
theorem mt_last (hG : mt_G m S O N MB K GR LL LC r) (hc : c < m) (hm : m ≤ 60) (hk : N c ≤ K (3 * r + O c)) (hS : ∀ d, d < m → N d ≤ K (3 * r + O d) → d ≠ c → mt_k S O d < mt_k S O c) : ∃ l, LL r = l + 1 ∧ LC (60 * r + l) = c ∧ mt_h mv ar D LC (60 * r) (nI c) (LL r) = mt_q mv ar D (LC (60 * r + l)) (mt_d mv ar D LC (60 * r) l) := by
  obtain ⟨g1, g2, g3, g4, g5, g6, g7⟩ := hG
  obtain ⟨k, hk1, hk2⟩ := g7 c hc hk
  have e : LL r = (LL r - 1) + 1 := by omega
  have el : LC (60 * r + (LL r - 1)) = c := by
    refine Classical.byContradiction fun z => ?_
    have a := g6 (LL r - 1) (by omega)
    have b := hS _ a.1 a.2 z
    by_cases e2 : k = LL r - 1
    · rw [e2] at hk2; exact z hk2
    · have d := g5 k (LL r - 1) (by omega) (by omega)
      rw [hk2] at d
      omega
  refine ⟨LL r - 1, e, el, ?_⟩
  have hne : ∀ i, i < LL r - 1 → ¬ nI (LC (60 * r + i)) = nI c := by
    intro i hi h
    have a := (g6 i (by omega)).1
    rw [nI_eq (by omega) (by omega)] at h
    have d := g5 i (LL r - 1) hi (by omega)
    rw [h, el] at d
    omega
  rw [e, mt_h_s, ← e, mt_hn (nI c) (LL r - 1) hne]
  rcases mt_q01 (mv := mv) (ar := ar) (D := D) (c := LC (60 * r + (LL r - 1))) (s := mt_d mv ar D LC (60 * r) (LL r - 1)) with h | h
  · rw [h, if_neg (fun z => mt_10 z.1.symm)]
  · rw [h, if_pos ⟨rfl, congrArg nI el⟩]
end
section
variable {m r x : Nat} {mv ar yk : Nat → Int32} {D S O N MB CO K GR LL LC : Nat → Nat}
theorem mt_own1 (hW : ∀ q, q < 3 → K (3 * q + q) = MB q) (hr : r < 3) : ∀ q, q < 3 → mt_u K (3 * r + r) (MB r + 1) (3 * q + q) = mt_u MB r (MB r + 1) q := by
  intro q hq
  by_cases e : q = r
  · rw [e, mt_us, mt_us]
  · rw [mt_un (by omega), mt_un e]; exact hW q hq
/-- the new change is the last of all that its maker knows -/
theorem mt_top (hI : mt_I m mv ar D S O N MB CO) (hG : mt_G m S O N MB K GR LL LC r) (hW : K (3 * r + r) = MB r) (hr : r < 3) : ∀ d, d < m + 1 → mt_u N m (MB r + 1) d ≤ mt_u K (3 * r + r) (MB r + 1) (3 * r + mt_u O m r d) → d ≠ m → mt_k (mt_u S m (GR r + 1)) (mt_u O m r) d < mt_k (mt_u S m (GR r + 1)) (mt_u O m r) m := by
  intro d hd h hne
  obtain ⟨_, hs, hB, hA, hN, hC, hM⟩ := hI
  unfold mt_k
  rw [mt_un hne, mt_un hne] at h
  rw [mt_un hne, mt_un hne, mt_us, mt_us]
  have ho := (hB d).2.1
  have hk : N d ≤ K (3 * r + O d) := by
    by_cases e : O d = r
    · have a := (hN d (by omega)).2
      rw [e] at a
      rw [e, hW]; exact a
    · rw [mt_un (by omega)] at h; exact h
  have := hG.2.2.1 d (by omega) hk
  omega
end
theorem i_vc_move {k : Nat} {u : SX} {v : SY} (I : i_Rel k u v) (hk : k + 4 ≤ 2048) (v1 : Int32) (v2 : Int32) (v3 : Int32) : wpX_move (fun r u' => wpY_move (fun r' v' => r' = r ∧ i_Rel (k + 4) u' v') v v1 v2 v3) u v1 v2 v3 := by
  refine mt_el (P := fun u v => wpX_move (fun r u' => wpY_move (fun r' v' => r' = r ∧ i_Rel (k + 4) u' v') v v1 v2 v3) u v1 v2 v3) ?_ I
  intro m mv ar bf sk sc pa la D S O N MB CO K GR LL LC ys yk yp yl yd yo yq hR
  have hR' := hR
  obtain ⟨hI, hG, hV, hW, hY⟩ := hR'
  show wpX_move (fun r u' => wpY_move (fun r' v' => r' = r ∧ i_Rel (k + 4) u' v') (nI m, ys, mt_f O, mt_f S, mv, mt_f D, ar, yk, yp, yl, yd, yo, yq) v1 v2 v3) (nI m, mv, mt_f D, ar, mt_f S, mt_f O, mt_f N, mt_f MB, mt_f CO, mt_f K, mt_f GR, mt_f LL, mt_f LC, bf, sk, sc, pa, la) v1 v2 v3
  rcases mt_rep v1 with h | ⟨r, hr, rfl⟩
  · unfold wpX_move
    refine mt_xr0 h (br_t rfl ?_)
    unfold wpY_move
    exact mt_yb1 h (br_f mt_10 ⟨rfl, mt_mk hR⟩)
  by_cases a1 : v2 < 1
  · unfold wpX_move
    refine mt_xr1 hr (br_f mt_10 (br_t a1 ?_))
    unfold wpY_move
    exact mt_yb0 hr (br_t rfl (br_t a1 ⟨rfl, mt_mk hR⟩))
  by_cases a2 : 9 < v2
  · unfold wpX_move
    refine mt_xr1 hr (br_f mt_10 (br_f a1 (br_t a2 ?_)))
    unfold wpY_move
    exact mt_yb0 hr (br_t rfl (br_f a1 (br_t a2 ⟨rfl, mt_mk hR⟩)))
  obtain ⟨x, hx, rfl⟩ : ∃ x, x < 10 ∧ v2 = nI x := by
    rcases mt_nod v2 with (h | h) | h
    · exact absurd (Int32.lt_trans h (by decide)) a1
    · exact absurd h a2
    · exact h
  rcases mt_nod v3 with h | ⟨y, hy, rfl⟩
  · unfold wpX_move
    refine mt_xr1 hr (br_f mt_10 (br_f a1 (br_f a2 (br_c (fun _ => ?_) (fun z => ?_)))))
    · unfold wpY_move
      exact mt_yb0 hr (br_t rfl (br_f a1 (br_f a2 (mt_yn1 h (br_f mt_10 ⟨rfl, mt_mk hR⟩)))))
    · refine br_t (by rcases h with h | h; exact absurd h z; exact h) ?_
      unfold wpY_move
      exact mt_yb0 hr (br_t rfl (br_f a1 (br_f a2 (mt_yn1 h (br_f mt_10 ⟨rfl, mt_mk hR⟩)))))
  have hm : m ≤ 60 := hI.1
  have b1 : ¬ nI y < 0 := nI_pos (by omega)
  have b2 : ¬ (9 : Int32) < nI y := nI_nlt (a := 9) (b := y) (by omega) (by omega)
  by_cases hm2 : m = 60
  · unfold wpX_move
    refine mt_xr1 hr (br_f mt_10 (br_f a1 (br_f a2 (br_f b1 (br_f b2 (br_f (nI_nlt (a := m) (b := 60) (by omega) (by omega)) ?_))))))
    unfold wpY_move
    exact mt_yb0 hr (br_t rfl (br_f a1 (br_f a2 (mt_yn0 hy (br_t rfl (br_t (by rw [hm2]; rfl) ⟨rfl, mt_mk hR⟩))))))
  have hm3 : m < 60 := by omega
  have c1 : (nI r).toNatClampNeg = r := nI_clamp (by omega)
  have i1 : vp_in (nI r) 3 := vp_in_nI (by omega) (by omega)
  unfold wpX_move
  refine mt_xr1 hr (br_f mt_10 (br_f a1 (br_f a2 (br_f b1 (br_f b2 (br_t (nI_lt (a := m) (b := 60) hm3 (by omega)) ?_))))))
  refine mt_make hI hG hV hW hr hm3 hx (fun _ => ⟨y, hy, rfl⟩) (fun GR' LL' LC' bf' sk' sc' pa' la' g v => ?_)
  have hI2 := mt_Imk (b := vp_nar .boolean 1) (w := nI y) hI (hG r hr) (hW r hr) hr hm3 hx (fun _ => ⟨y, hy, rfl⟩)
  obtain ⟨l, el, ec, eh⟩ := mt_last (mv := upd mv m (vp_nar .boolean 1)) (ar := upd ar m (nI y)) (D := mt_u D m x) (g r hr) (Nat.lt_succ_self m) (by omega) (by rw [mt_us, mt_us, mt_us]; exact Nat.le_refl _) (mt_top hI (hG r hr) (hW r hr) hr)
  have hl := mt_Gl hI2 (g r hr)
  have es := ((v r hr).1 l (by omega)).2
  have hR2 : mt_R (m + 1) (upd mv m (vp_nar .boolean 1)) (upd ar m (nI y)) bf' sk' sc' pa' la' (mt_u D m x) (mt_u S m (GR r + 1)) (mt_u O m r) (mt_u N m (MB r + 1)) (mt_u MB r (MB r + 1)) (mt_u CO (61 * r + (MB r + 1)) m) (mt_u K (3 * r + r) (MB r + 1)) GR' LL' LC' (upd yk (60 * r + m) 1) := ⟨hI2, g, v, mt_own1 hW hr, mt_Ymk hI hG (hW r hr) hr hm3 hY⟩
  have e3 : ((60 : Int32) * nI r + nI (LL' r)) - 1 = nI (60 * r + l) := by
    rw [mt_i60, el]; exact nI_pred (60 * r + l)
  dsimp only
  rw [c1]
  show vp_in (nI r) 3 ∧ _
  refine ⟨i1, ?_⟩
  rw [e3, nI_clamp (by omega)]
  have hY2 : ∀ rr : Int32, sk' (60 * r + l) = rr → wpY_move (fun r' v' => r' = rr ∧ i_Rel (k + 4) (nI (m + 1), upd mv m (vp_nar .boolean 1), mt_f (mt_u D m x), upd ar m (nI y), mt_f (mt_u S m (GR r + 1)), mt_f (mt_u O m r), mt_f (mt_u N m (MB r + 1)), mt_f (mt_u MB r (MB r + 1)), mt_f (mt_u CO (61 * r + (MB r + 1)) m), mt_f (mt_u K (3 * r + r) (MB r + 1)), mt_f GR', mt_f LL', mt_f LC', bf', sk', sc', pa', la') v') (nI m, ys, mt_f O, mt_f S, mv, mt_f D, ar, yk, yp, yl, yd, yo, yq) (nI r) (nI x) (nI y) := by
    intro rr hrr
    unfold wpY_move
    refine mt_yb0 hr (br_t rfl (br_f a1 (br_f a2 (mt_yn0 hy (br_t rfl (br_f (fun z => hm2 ((nI_eq (a := m) (b := 60) (by omega) (by omega)).mp z)) ?_))))))
    refine mt_ymk hI (hG r hr) hY hr hm3 ?_
    refine mt_yc hI2 (g r hr) hR2.2.2.2.2 hr (fun ys2 yp2 yl2 yd2 hp hs => ?_)
    rw [eh, ← es, hrr]
    refine br_c (fun z => ⟨z.symm, mt_mk hR2⟩) (fun z => ⟨?_, mt_mk hR2⟩)
    rcases mt_q01 (mv := upd mv m (vp_nar .boolean 1)) (ar := upd ar m (nI y)) (D := mt_u D m x) (c := LC' (60 * r + l)) (s := mt_d (upd mv m (vp_nar .boolean 1)) (upd ar m (nI y)) (mt_u D m x) LC' (60 * r) l) with h | h
    · rw [← es, hrr] at h; exact absurd h z
    · rw [← es, hrr] at h; exact h.symm
  refine ⟨vp_in_nI (by omega) (by omega), br_c (fun z => hY2 0 z) (fun z => hY2 1 ?_)⟩
  rcases mt_q01 (mv := upd mv m (vp_nar .boolean 1)) (ar := upd ar m (nI y)) (D := mt_u D m x) (c := LC' (60 * r + l)) (s := mt_d (upd mv m (vp_nar .boolean 1)) (upd ar m (nI y)) (mt_u D m x) LC' (60 * r) l) with h | h
  · rw [← es] at h; exact absurd h z
  · rw [← es] at h; exact h
theorem i_vc_name {k : Nat} {u : SX} {v : SY} (I : i_Rel k u v) (hk : k + 4 ≤ 2048) (v1 : Int32) (v2 : Int32) (v3 : Int32) : wpX_name (fun r u' => wpY_name (fun r' v' => r' = r ∧ i_Rel (k + 4) u' v') v v1 v2 v3) u v1 v2 v3 := by
  refine mt_el (P := fun u v => wpX_name (fun r u' => wpY_name (fun r' v' => r' = r ∧ i_Rel (k + 4) u' v') v v1 v2 v3) u v1 v2 v3) ?_ I
  intro m mv ar bf sk sc pa la D S O N MB CO K GR LL LC ys yk yp yl yd yo yq hR
  have hR' := hR
  obtain ⟨hI, hG, hV, hW, hY⟩ := hR'
  show wpX_name (fun r u' => wpY_name (fun r' v' => r' = r ∧ i_Rel (k + 4) u' v') (nI m, ys, mt_f O, mt_f S, mv, mt_f D, ar, yk, yp, yl, yd, yo, yq) v1 v2 v3) (nI m, mv, mt_f D, ar, mt_f S, mt_f O, mt_f N, mt_f MB, mt_f CO, mt_f K, mt_f GR, mt_f LL, mt_f LC, bf, sk, sc, pa, la) v1 v2 v3
  rcases mt_rep v1 with h | ⟨r, hr, rfl⟩
  · unfold wpX_name
    refine mt_xr0 h (br_t rfl ?_)
    unfold wpY_name
    exact mt_yb1 h (br_f mt_10 ⟨rfl, mt_mk hR⟩)
  rcases mt_nod v2 with h | ⟨x, hx, rfl⟩
  · unfold wpX_name
    refine mt_xr1 hr (br_f mt_10 (br_c (fun _ => ?_) (fun z => ?_)))
    · unfold wpY_name
      exact mt_yb0 hr (br_t rfl (mt_yn1 h (br_f mt_10 ⟨rfl, mt_mk hR⟩)))
    · refine br_t (by rcases h with h | h; exact absurd h z; exact h) ?_
      unfold wpY_name
      exact mt_yb0 hr (br_t rfl (mt_yn1 h (br_f mt_10 ⟨rfl, mt_mk hR⟩)))
  have hm : m ≤ 60 := hI.1
  have b1 : ¬ nI x < 0 := nI_pos (by omega)
  have b2 : ¬ (9 : Int32) < nI x := nI_nlt (a := 9) (b := x) (by omega) (by omega)
  by_cases hm2 : m = 60
  · unfold wpX_name
    refine mt_xr1 hr (br_f mt_10 (br_f b1 (br_f b2 (br_f (nI_nlt (a := m) (b := 60) (by omega) (by omega)) ?_))))
    unfold wpY_name
    exact mt_yb0 hr (br_t rfl (mt_yn0 hx (br_t rfl (br_t (by rw [hm2]; rfl) ⟨rfl, mt_mk hR⟩))))
  have hm3 : m < 60 := by omega
  have hb : ¬ vp_nar .boolean 0 = 0 → ∃ a, a < 10 ∧ v3 = nI a := fun z => absurd mt_vb0 z
  unfold wpX_name
  refine mt_xr1 hr (br_f mt_10 (br_f b1 (br_f b2 (br_t (nI_lt (a := m) (b := 60) hm3 (by omega)) ?_))))
  refine mt_make hI hG hV hW hr hm3 hx hb (fun GR' LL' LC' bf' sk' sc' pa' la' g v => ?_)
  have hI2 := mt_Imk (b := vp_nar .boolean 0) (w := v3) hI (hG r hr) (hW r hr) hr hm3 hx hb
  have hR2 : mt_R (m + 1) (upd mv m (vp_nar .boolean 0)) (upd ar m v3) bf' sk' sc' pa' la' (mt_u D m x) (mt_u S m (GR r + 1)) (mt_u O m r) (mt_u N m (MB r + 1)) (mt_u MB r (MB r + 1)) (mt_u CO (61 * r + (MB r + 1)) m) (mt_u K (3 * r + r) (MB r + 1)) GR' LL' LC' (upd yk (60 * r + m) 1) := ⟨hI2, g, v, mt_own1 hW hr, mt_Ymk hI hG (hW r hr) hr hm3 hY⟩
  dsimp only
  unfold wpY_name
  refine mt_yb0 hr (br_t rfl (mt_yn0 hx (br_t rfl (br_f (fun z => hm2 ((nI_eq (a := m) (b := 60) (by omega) (by omega)).mp z)) ?_))))
  exact mt_ymk hI (hG r hr) hY hr hm3 ⟨rfl, mt_mk hR2⟩
end
section
/-! the owed statements: deliver and sync -/
section
variable {m r c a b i : Nat} {mv ar bf sk sc pa la yk yp yl yd yo yq : Nat → Int32} {D S O N MB CO K GR LL LC : Nat → Nat} {ys : Int32}
theorem mt_Kle (hI : mt_I m mv ar D S O N MB CO) (hG : mt_G m S O N MB K GR LL LC r) {o : Nat} (ho : o < 3) : K (3 * r + o) ≤ m := by
  obtain ⟨hm, hs, _⟩ := hI
  have h := hG.1 o ho
  rcases mt_o3 ho with e | e | e <;> rw [e] at h ⊢ <;> omega
theorem mt_own (hI : mt_I m mv ar D S O N MB CO) (hW : ∀ q, q < 3 → K (3 * q + q) = MB q) (hr : r < 3) (hc : c < m) (hn : N c = K (3 * r + O c) + 1) : ∀ q, q < 3 → mt_u K (3 * r + O c) (N c) (3 * q + q) = MB q := by
  intro q hq
  obtain ⟨_, hs, hB, hA, hN, hC, hM⟩ := hI
  have ho := (hB c).2.1
  have h2 := (hN c hc).2
  by_cases e : q = r
  · subst e
    have hne : O c ≠ q := by
      intro z
      rw [z] at h2 hn
      rw [hW q hq] at hn
      omega
    rw [mt_un (by omega)]; exact hW q hq
  · rw [mt_un (by omega)]; exact hW q hq
/-- the change that deliver brings -/
theorem mt_dlv (hI : mt_I m mv ar D S O N MB CO) (ha : a < 3) (hk : K (3 * b + a) < MB a) : CO (61 * a + (K (3 * b + a) + 1)) < m ∧ O (CO (61 * a + (K (3 * b + a) + 1))) = a ∧ N (CO (61 * a + (K (3 * b + a) + 1))) = K (3 * b + a) + 1 ∧ ∀ d, d < CO (61 * a + (K (3 * b + a) + 1)) → O d = a → N d ≤ K (3 * b + O d) := by
  obtain ⟨_, hs, hB, hA, hN, hC, hM⟩ := hI
  obtain ⟨h1, h2, h3⟩ := hC a (K (3 * b + a) + 1) ha (by omega) (by omega)
  refine ⟨h1, h2, h3, fun d hd ho => ?_⟩
  have h := (hM d _ hd h1 (by rw [h2]; exact ho)).1
  rw [ho]
  omega
theorem mt_y18 {post : Int32 → SY → Prop} (hm : m ≤ 60) (hO : ∀ c, O c < 3) (hY : mt_Y m O N K yk) (ha : a < 3) (hb : b < 3) (hc : c ≤ m) (hn : ∀ d, d < c → O d = a → N d ≤ K (3 * b + O d)) (H : ∀ f, wY_deliver_18 post (nI a) (nI b) (nI m) ys (mt_f O) (mt_f S) mv (mt_f D) ar yk yp yl yd yo yq (f + 1) (nI c)) : ∀ (s i f : Nat), i + s = c → s ≤ f → wY_deliver_18 post (nI a) (nI b) (nI m) ys (mt_f O) (mt_f S) mv (mt_f D) ar yk yp yl yd yo yq (f + 1) (nI i) := by
  intro s
  induction s with
  | zero =>
    intro i f hi _
    have e : i = c := by omega
    rw [e]; exact H f
  | succ s ih =>
    intro i f hi hf
    obtain ⟨f, rfl⟩ : ∃ f', f = f' + 1 := ⟨f - 1, by omega⟩
    have c1 : (nI i).toNatClampNeg = i := nI_clamp (by omega)
    have i1 : vp_in (nI i) 60 := vp_in_nI (by omega) (by omega)
    have c2 : (nI (60 * b + i)).toNatClampNeg = 60 * b + i := nI_clamp (by omega)
    have hoi := hO i
    refine br_f (nI_ge (by omega) (by omega)) ?_
    rw [c1, mt_i60, c2]
    refine ⟨i1, pk_eq (O i) a (fun e => ⟨vp_in_nI (by omega) (by omega), br_f (fun z => ?_) (nm_r (nI_1 i) (ih (i + 1) f (by omega) (by omega)))⟩) (fun _ => nm_r (nI_1 i) (ih (i + 1) f (by omega) (by omega)))⟩
    exact (hY b i hb (by omega)).mp z ⟨by omega, hn i (by omega) e⟩
theorem mt_isK {post : Int32 → Prop} (hI : mt_I m mv ar D S O N MB CO) (hG : mt_G m S O N MB K GR LL LC r) (hr : r < 3) (hc : c < m) (h1 : N c ≤ K (3 * r + O c) → post 1) (h0 : K (3 * r + O c) < N c → post 0) : wpX_isKnown post (nI m, mv, mt_f D, ar, mt_f S, mt_f O, mt_f N, mt_f MB, mt_f CO, mt_f K, mt_f GR, mt_f LL, mt_f LC, bf, sk, sc, pa, la) (nI r) (nI c) := by
  have ho := (hI.2.2.1 c).2.1
  have hN := (hI.2.2.1 c).2.2.2
  have hK := mt_Kle hI hG ho
  have hm := hI.1
  have c1 : (nI c).toNatClampNeg = c := nI_clamp (by omega)
  have i1 : vp_in (nI c) 60 := vp_in_nI (by omega) (by omega)
  have c2 : (nI (3 * r + O c)).toNatClampNeg = 3 * r + O c := nI_clamp (by omega)
  unfold wpX_isKnown
  dsimp only
  rw [c1, mt_i3, c2]
  exact ⟨i1, i1, vp_in_nI (by omega) (by omega), pk_lt (K (3 * r + O c)) (N c) h0 h1⟩
/-- what sync meets next -/
theorem mt_nxt (hI : mt_I m mv ar D S O N MB CO) (ha : a < 3) (hb : b < 3) (hi : i < m) (hp : ∀ d, d < i → N d ≤ K (3 * a + O d) → N d ≤ K (3 * b + O d)) (h1 : N i ≤ K (3 * a + O i)) (h2 : K (3 * b + O i) < N i) : N i = K (3 * b + O i) + 1 := by
  obtain ⟨_, hs, hB, hA, hN, hC, hM⟩ := hI
  have ho := (hB i).2.1
  have h3 := (hN i hi).2
  by_cases e : N i = K (3 * b + O i) + 1
  · exact e
  · obtain ⟨d1, d2, d3⟩ := hC (O i) (K (3 * b + O i) + 1) ho (by omega) (by omega)
    have hd : CO (61 * O i + (K (3 * b + O i) + 1)) < i := by
      by_cases x : CO (61 * O i + (K (3 * b + O i) + 1)) < i
      · exact x
      · by_cases y : CO (61 * O i + (K (3 * b + O i) + 1)) = i
        · rw [y] at d3; omega
        · have := (hM i _ (by omega) d1 d2.symm).1; omega
    have := hp _ hd (by rw [d2, d3]; omega)
    rw [d2, d3] at this
    omega
end
section
variable {m a b k : Nat} {mv ar yp yl yd yo yq : Nat → Int32} {D S O N MB CO : Nat → Nat} {ys : Int32}
theorem mt_sync (hI : mt_I m mv ar D S O N MB CO) (ha : a < 3) (hb : b < 3) : ∀ (t i : Nat) (n : Int32) (K GR LL LC : Nat → Nat) (bf sk sc pa la yk : Nat → Int32), i + t = m → (∀ q, q < 3 → mt_G m S O N MB K GR LL LC q) → (∀ q, q < 3 → mt_V mv ar D LC bf sk sc pa la q (LL q)) → (∀ q, q < 3 → K (3 * q + q) = MB q) → mt_Y m O N K yk → (∀ d, d < i → N d ≤ K (3 * a + O d) → N d ≤ K (3 * b + O d)) → ∀ postX : Int32 → SX → Prop, (∀ (r' : Int32) (u' : SX) (v' : SY), i_Rel k u' v' → (∀ postY : Int32 → SY → Prop, postY r' v' → wY_sync_21 postY (nI a) (nI b) (nI m) ys (t + 1) n (nI i) (mt_f O) (mt_f S) mv (mt_f D) ar yk yp yl yd yo yq) → postX r' u') → wX_sync_21 postX (nI a) (nI b) (t + 1) n (nI i) (nI m) mv (mt_f D) ar (mt_f S) (mt_f O) (mt_f N) (mt_f MB) (mt_f CO) (mt_f K) (mt_f GR) (mt_f LL) (mt_f LC) bf sk sc pa la := by
  have hm := hI.1
  have hO : ∀ c, O c < 3 := fun c => (hI.2.2.1 c).2.1
  intro t
  induction t with
  | zero =>
    intro i n K GR LL LC bf sk sc pa la yk hi hG hV hW hY hp postX H
    have e : i = m := by omega
    subst e
    refine br_t (nI_le (Nat.le_refl _) (by omega)) (H n _ (nI i, ys, mt_f O, mt_f S, mv, mt_f D, ar, yk, yp, yl, yd, yo, yq) (mt_mk ⟨hI, hG, hV, hW, hY⟩) (fun postY h => ?_))
    exact br_t (nI_le (Nat.le_refl _) (by omega)) h
  | succ t ih =>
    intro i n K GR LL LC bf sk sc pa la yk hi hG hV hW hY hp postX H
    have him : i < m := by omega
    have hoi := hO i
    have c1 : (nI (60 * a + i)).toNatClampNeg = 60 * a + i := nI_clamp (by omega)
    have c2 : (nI (60 * b + i)).toNatClampNeg = 60 * b + i := nI_clamp (by omega)
    have i1 : vp_in (nI (60 * a + i)) 180 := vp_in_nI (by omega) (by omega)
    have i2 : vp_in (nI (60 * b + i)) 180 := vp_in_nI (by omega) (by omega)
    have ya := hY a i ha (by omega)
    have yb := hY b i hb (by omega)
    have hge : ¬ nI m ≤ nI i := nI_ge (by omega) (by omega)
    refine br_f hge (mt_isK hI (hG a ha) ha him (fun h1 => br_f mt_10 (mt_isK hI (hG b hb) hb him (fun h2 => br_f mt_10 (nm_r (nI_1 i) ?_)) (fun h2 => br_t rfl ?_))) (fun h1 => br_t rfl (nm_r (nI_1 i) ?_)))
    · refine ih (i + 1) n K GR LL LC bf sk sc pa la yk (by omega) hG hV hW hY (fun d hd h => ?_) postX (fun r' u' v' hr hy => H r' u' v' hr (fun postY h => ?_))
      · by_cases e : d = i
        · rw [e]; exact h2
        · exact hp d (by omega) h
      · refine br_f hge ?_
        rw [mt_i60, mt_i60, c1, c2]
        exact ⟨i1, br_f (fun z => ya.mp z ⟨him, h1⟩) ⟨i2, br_f (fun z => yb.mp z ⟨him, h2⟩) (nm_r (nI_1 i) (hy postY h))⟩⟩
    · have hn := mt_nxt hI ha hb him hp h1 h2
      have hab : a ≠ b := by
        intro e
        rw [e] at h1
        omega
      refine mt_learn hI hG hV hb him hn (fun GR' LL' LC' bf' sk' sc' pa' la' g v => ?_)
      refine nm_e (nm_r (nI_1 i) ?_)
      refine ih (i + 1) (n + 1) _ GR' LL' LC' bf' sk' sc' pa' la' (upd yk (60 * b + i) 1) (by omega) g v (mt_own hI hW hb him hn) (mt_Yin hI hb him hn hY) (fun d hd h => ?_) postX (fun r' u' v' hr hy => H r' u' v' hr (fun postY h => ?_))
      · have hod := hO d
        rw [mt_un (by omega)] at h
        refine (mt_kold hI him hn (by omega)).mpr ?_
        by_cases e : d = i
        · exact Or.inl e
        · exact Or.inr (hp d (by omega) h)
      · refine br_f hge ?_
        rw [mt_i60, mt_i60, c1, c2, mt_vb1]
        exact ⟨i1, br_f (fun z => ya.mp z ⟨him, h1⟩) ⟨i2, br_t (yb.mpr (fun z => absurd z.2 (by omega))) ⟨i2, nm_e (nm_e (nm_r (nI_1 i) (hy postY h)))⟩⟩⟩
    · refine ih (i + 1) n K GR LL LC bf sk sc pa la yk (by omega) hG hV hW hY (fun d hd h => ?_) postX (fun r' u' v' hr hy => H r' u' v' hr (fun postY h => ?_))
      · by_cases e : d = i
        · rw [e] at h; omega
        · exact hp d (by omega) h
      · refine br_f hge ?_
        rw [mt_i60, c1]
        exact ⟨i1, br_t (ya.mpr (fun z => absurd z.2 (by omega))) (nm_r (nI_1 i) (hy postY h))⟩
end
theorem i_vc_deliver {k : Nat} {u : SX} {v : SY} (I : i_Rel k u v) (hk : k + 4 ≤ 2048) (v1 : Int32) (v2 : Int32) : wpX_deliver (fun r u' => wpY_deliver (fun r' v' => r' = r ∧ i_Rel (k + 4) u' v') v v1 v2) u v1 v2 := by
  refine mt_el (P := fun u v => wpX_deliver (fun r u' => wpY_deliver (fun r' v' => r' = r ∧ i_Rel (k + 4) u' v') v v1 v2) u v1 v2) ?_ I
  intro m mv ar bf sk sc pa la D S O N MB CO K GR LL LC ys yk yp yl yd yo yq hR
  have hR' := hR
  obtain ⟨hI, hG, hV, hW, hY⟩ := hR'
  show wpX_deliver (fun r u' => wpY_deliver (fun r' v' => r' = r ∧ i_Rel (k + 4) u' v') (nI m, ys, mt_f O, mt_f S, mv, mt_f D, ar, yk, yp, yl, yd, yo, yq) v1 v2) (nI m, mv, mt_f D, ar, mt_f S, mt_f O, mt_f N, mt_f MB, mt_f CO, mt_f K, mt_f GR, mt_f LL, mt_f LC, bf, sk, sc, pa, la) v1 v2
  rcases mt_rep v1 with h | ⟨a, ha, rfl⟩
  · unfold wpX_deliver
    refine mt_xr0 h (br_t rfl ?_)
    unfold wpY_deliver
    exact mt_yb1 h (br_f mt_10 ⟨rfl, mt_mk hR⟩)
  rcases mt_rep v2 with h | ⟨b, hb, rfl⟩
  · unfold wpX_deliver
    refine mt_xr1 ha (br_f mt_10 (mt_xr0 h (br_t rfl ?_)))
    unfold wpY_deliver
    exact mt_yb0 ha (br_t rfl (mt_yb1 h (br_f mt_10 ⟨rfl, mt_mk hR⟩)))
  have hm := hI.1
  have hO : ∀ c, O c < 3 := fun c => (hI.2.2.1 c).2.1
  have hK := mt_Kle hI (hG b hb) ha
  have hMB : MB a ≤ m := by
    have hs := hI.2.1
    rcases mt_o3 ha with e | e | e <;> rw [e] <;> omega
  have c1 : (nI (3 * b + a)).toNatClampNeg = 3 * b + a := nI_clamp (by omega)
  have i1 : vp_in (nI (3 * b + a)) 9 := vp_in_nI (by omega) (by omega)
  have c2 : (nI a).toNatClampNeg = a := nI_clamp (by omega)
  have i2 : vp_in (nI a) 3 := vp_in_nI (by omega) (by omega)
  have c3 : (nI (61 * a + K (3 * b + a) + 1)).toNatClampNeg = 61 * a + K (3 * b + a) + 1 := nI_clamp (by omega)
  have c4 : (nI b).toNatClampNeg = b := nI_clamp (by omega)
  have i4 : vp_in (nI b) 3 := vp_in_nI (by omega) (by omega)
  unfold wpX_deliver
  refine mt_xr1 ha (br_f mt_10 (mt_xr1 hb (br_f mt_10 ?_)))
  rw [mt_i3, c1, c2, mt_i61, nI_1, c3]
  refine ⟨i1, i2, pk_lt (K (3 * b + a)) (MB a) (fun h => ⟨i1, vp_in_nI (by omega) (by omega), nm_r (e' := nI (CO (61 * a + (K (3 * b + a) + 1)))) rfl ?_⟩) (fun h => ?_)⟩
  · obtain ⟨d1, d2, d3, d4⟩ := mt_dlv hI ha h
    generalize CO (61 * a + (K (3 * b + a) + 1)) = c at d1 d2 d3 d4 ⊢
    have hn : N c = K (3 * b + O c) + 1 := by rw [d2]; exact d3
    refine mt_learn hI hG hV hb d1 hn (fun GR' LL' LC' bf' sk' sc' pa' la' g v => ?_)
    have hR2 : mt_R m mv ar bf' sk' sc' pa' la' D S O N MB CO (mt_u K (3 * b + O c) (N c)) GR' LL' LC' (upd yk (60 * b + c) 1) := ⟨hI, g, v, mt_own hI hW hb d1 hn, mt_Yin hI hb d1 hn hY⟩
    have c5 : (nI c).toNatClampNeg = c := nI_clamp (by omega)
    have c6 : (nI (60 * b + c)).toNatClampNeg = 60 * b + c := nI_clamp (by omega)
    have i6 : vp_in (nI (60 * b + c)) 180 := vp_in_nI (by omega) (by omega)
    dsimp only
    rw [c4]
    refine ⟨i4, ?_⟩
    unfold wpY_deliver
    refine mt_yb0 ha (br_t rfl (mt_yb0 hb (br_t rfl ⟨c + 1, mt_y18 hm hO hY ha hb (Nat.le_of_lt d1) d4 (fun f => ?_) c 0 c (by omega) (Nat.le_refl _)⟩)))
    refine br_f (nI_ge (by omega) (by omega)) ?_
    rw [c5, mt_i60, c6, mt_vb1]
    refine ⟨vp_in_nI (by omega) (by omega), br_t (congrArg nI d2) ⟨i6, br_t ((hY b c hb (by omega)).mpr (fun z => absurd z.2 (by rw [hn]; omega))) ⟨i6, nm_e ?_⟩⟩⟩
    unfold wpY_skipped
    exact mt_yb0 hb (br_t rfl (mt_yc hI (g b hb) hR2.2.2.2.2 hb (fun ys2 yp2 yl2 yd2 hp hs => ⟨hs.trans (v b hb).2.2.symm, mt_mk hR2⟩)))
  · unfold wpY_deliver
    refine mt_yb0 ha (br_t rfl (mt_yb0 hb (br_t rfl ⟨m + 1, mt_y18 hm hO hY ha hb (Nat.le_refl m) (fun d hd ho => ?_) (fun f => ?_) m 0 m (by omega) (Nat.le_refl _)⟩)))
    · have := (hI.2.2.2.2.1 d hd).2
      rw [ho] at this ⊢
      omega
    · exact br_t (nI_le (Nat.le_refl _) (by omega)) ⟨rfl, mt_mk hR⟩
theorem i_vc_sync {k : Nat} {u : SX} {v : SY} (I : i_Rel k u v) (hk : k + 4 ≤ 2048) (v1 : Int32) (v2 : Int32) : wpX_sync (fun r u' => wpY_sync (fun r' v' => r' = r ∧ i_Rel (k + 4) u' v') v v1 v2) u v1 v2 := by
  refine mt_el (P := fun u v => wpX_sync (fun r u' => wpY_sync (fun r' v' => r' = r ∧ i_Rel (k + 4) u' v') v v1 v2) u v1 v2) ?_ I
  intro m mv ar bf sk sc pa la D S O N MB CO K GR LL LC ys yk yp yl yd yo yq hR
  have hR' := hR
  obtain ⟨hI, hG, hV, hW, hY⟩ := hR'
  show wpX_sync (fun r u' => wpY_sync (fun r' v' => r' = r ∧ i_Rel (k + 4) u' v') (nI m, ys, mt_f O, mt_f S, mv, mt_f D, ar, yk, yp, yl, yd, yo, yq) v1 v2) (nI m, mv, mt_f D, ar, mt_f S, mt_f O, mt_f N, mt_f MB, mt_f CO, mt_f K, mt_f GR, mt_f LL, mt_f LC, bf, sk, sc, pa, la) v1 v2
  rcases mt_rep v1 with h | ⟨a, ha, rfl⟩
  · unfold wpX_sync
    refine mt_xr0 h (br_t rfl ?_)
    unfold wpY_sync
    exact mt_yb1 h (br_f mt_10 ⟨rfl, mt_mk hR⟩)
  rcases mt_rep v2 with h | ⟨b, hb, rfl⟩
  · unfold wpX_sync
    refine mt_xr1 ha (br_f mt_10 (mt_xr0 h (br_t rfl ?_)))
    unfold wpY_sync
    exact mt_yb0 ha (br_t rfl (mt_yb1 h (br_f mt_10 ⟨rfl, mt_mk hR⟩)))
  unfold wpX_sync
  refine mt_xr1 ha (br_f mt_10 (mt_xr1 hb (br_f mt_10 ⟨m + 1, ?_⟩)))
  refine mt_sync (k := k + 4) (ys := ys) (yp := yp) (yl := yl) (yd := yd) (yo := yo) (yq := yq) hI ha hb m 0 0 K GR LL LC bf sk sc pa la yk (by omega) hG hV hW hY (fun d hd => absurd hd (by omega)) _ (fun r' u' v' hr hy => ?_)
  unfold wpY_sync
  exact mt_yb0 ha (br_t rfl (mt_yb0 hb (br_t rfl ⟨m + 1, hy _ ⟨rfl, hr⟩⟩)))
end
