section
/-! naturals behind ints, counting, lists without repeats -/
def lm_nA (f : Nat → Nat) : Nat → Int32 := fun j => nI (f j)
def lm_u (f : Nat → Nat) (k x : Nat) : Nat → Nat := fun j => if j = k then x else f j
theorem lm_us (f : Nat → Nat) (k x : Nat) : lm_u f k x k = x := if_pos rfl
theorem lm_un {f : Nat → Nat} {k x j : Nat} (h : j ≠ k) : lm_u f k x j = f j := if_neg h
theorem lm_Us (f : Nat → Int32) (k : Nat) (x : Int32) : upd f k x k = x := if_pos rfl
theorem lm_Un {f : Nat → Int32} {k j : Nat} {x : Int32} (h : j ≠ k) : upd f k x j = f j := if_neg h
theorem lm_uA (f : Nat → Nat) (k x : Nat) : upd (lm_nA f) k (nI x) = lm_nA (lm_u f k x) := by
  funext j
  by_cases h : j = k
  · subst h; rw [lm_Us]; unfold lm_nA; rw [lm_us]
  · rw [lm_Un h]; unfold lm_nA; rw [lm_un h]
theorem lm_uu (f : Nat → Nat) (k : Nat) : lm_u f k (f k) = f := by
  funext j
  by_cases h : j = k
  · subst h; rw [lm_us]
  · rw [lm_un h]
noncomputable def lm_b (p : Prop) : Nat := @ite Nat p (Classical.propDecidable p) 1 0
theorem lm_bt {p : Prop} (h : p) : lm_b p = 1 := if_pos h
theorem lm_bf {p : Prop} (h : ¬ p) : lm_b p = 0 := if_neg h
theorem lm_bc {p q : Prop} (h : p ↔ q) : lm_b p = lm_b q := by
  by_cases hp : p
  · rw [lm_bt hp, lm_bt (h.mp hp)]
  · rw [lm_bf hp, lm_bf (fun z => hp (h.mpr z))]
noncomputable def lm_c (P : Nat → Prop) : Nat → Nat
  | 0 => 0
  | n + 1 => lm_c P n + lm_b (P n)
theorem lm_c0 (P : Nat → Prop) : lm_c P 0 = 0 := rfl
theorem lm_ct {P : Nat → Prop} {n : Nat} (h : P n) : lm_c P (n + 1) = lm_c P n + 1 := by
  show lm_c P n + lm_b (P n) = _
  rw [lm_bt h]
theorem lm_cf {P : Nat → Prop} {n : Nat} (h : ¬ P n) : lm_c P (n + 1) = lm_c P n := by
  show lm_c P n + lm_b (P n) = _
  rw [lm_bf h, Nat.add_zero]
theorem lm_cc {P Q : Nat → Prop} : ∀ n : Nat, (∀ m, m < n → (P m ↔ Q m)) → lm_c P n = lm_c Q n
  | 0, _ => rfl
  | n + 1, h => by
    show lm_c P n + lm_b (P n) = lm_c Q n + lm_b (Q n)
    rw [lm_cc n (fun m hm => h m (by omega)), lm_bc (h n (by omega))]
theorem lm_cle (P : Nat → Prop) : ∀ n : Nat, lm_c P n ≤ n
  | 0 => Nat.le_refl 0
  | n + 1 => by
    have := lm_cle P n
    by_cases h : P n
    · rw [lm_ct h]; omega
    · rw [lm_cf h]; omega
theorem lm_cz {P : Nat → Prop} : ∀ n : Nat, (∀ m, m < n → ¬ P m) → lm_c P n = 0
  | 0, _ => rfl
  | n + 1, h => by rw [lm_cf (h n (by omega))]; exact lm_cz n (fun m hm => h m (by omega))
theorem lm_cp {P : Nat → Prop} {m : Nat} (hP : P m) : ∀ n : Nat, m < n → 0 < lm_c P n
  | 0, h => by omega
  | n + 1, h => by
    by_cases e : m = n
    · subst e; rw [lm_ct hP]; omega
    · have := lm_cp hP n (by omega)
      show 0 < lm_c P n + lm_b (P n)
      omega
theorem lm_crem {P : Nat → Prop} {m : Nat} (hP : P m) : ∀ n : Nat, m < n → lm_c P n = lm_c (fun x => P x ∧ x ≠ m) n + 1
  | 0, h => by omega
  | n + 1, h => by
    by_cases e : m = n
    · subst e
      rw [lm_ct hP, lm_cf (P := fun x => P x ∧ x ≠ m) (n := m) (fun z => z.2 rfl), lm_cc (P := P) (Q := fun x => P x ∧ x ≠ m) m]
      intro x hx
      exact ⟨fun z => ⟨z, by omega⟩, fun z => z.1⟩
    · have i := lm_crem hP n (by omega)
      show lm_c P n + lm_b (P n) = lm_c (fun x => P x ∧ x ≠ m) n + lm_b (P n ∧ n ≠ m) + 1
      rw [i, lm_bc (p := P n) (q := P n ∧ n ≠ m) ⟨fun z => ⟨z, by omega⟩, fun z => z.1⟩]
      omega
theorem lm_cadd {P Q : Nat → Prop} {m n : Nat} (hP : ¬ P m) (hm : m < n) (hQ : ∀ x, x < n → (Q x ↔ (P x ∨ x = m))) : lm_c Q n = lm_c P n + 1 := by
  rw [lm_crem ((hQ m hm).mpr (Or.inr rfl)) n hm, lm_cc (P := fun x => Q x ∧ x ≠ m) (Q := P) n]
  intro x hx
  constructor
  · intro z
    rcases (hQ x hx).mp z.1 with h | h
    · exact h
    · exact absurd h z.2
  · intro z
    exact ⟨(hQ x hx).mpr (Or.inl z), fun e => hP (e ▸ z)⟩
theorem lm_cdel {P Q : Nat → Prop} {m n : Nat} (hP : P m) (hm : m < n) (hQ : ∀ x, x < n → (Q x ↔ (P x ∧ x ≠ m))) : lm_c P n = lm_c Q n + 1 := by
  rw [lm_crem hP n hm, lm_cc (P := Q) (Q := fun x => P x ∧ x ≠ m) n hQ]
theorem lm_clt {P : Nat → Prop} {m n : Nat} (hP : ¬ P m) (hm : m < n) : lm_c P n < n := by
  have h := lm_cadd (Q := fun x => P x ∨ x = m) hP hm (fun x _ => Iff.rfl)
  have := lm_cle (fun x => P x ∨ x = m) n
  omega
/-- a list without repeats: n places, the set S, the content g -/
def lm_L (n : Nat) (S : Nat → Prop) (g : Nat → Nat) : Prop := (∀ i j, i < j → j < n → g i ≠ g j) ∧ (∀ x, S x ↔ ∃ i, i < n ∧ g i = x)
theorem lm_Lc : ∀ (n : Nat) {S : Nat → Prop} {g : Nat → Nat} {N : Nat}, lm_L n S g → (∀ x, S x → x < N) → lm_c S N = n
  | 0, S, g, N, h, hN => lm_cz N (fun m _ z => by obtain ⟨i, hi, _⟩ := (h.2 m).mp z; omega)
  | n + 1, S, g, N, h, hN => by
    have hS : S (g n) := (h.2 (g n)).mpr ⟨n, by omega, rfl⟩
    rw [lm_crem hS N (hN _ hS), lm_Lc n (S := fun x => S x ∧ x ≠ g n) (g := g) (N := N) ?_ (fun x z => hN x z.1)]
    refine ⟨fun i j hi hj => h.1 i j hi (by omega), fun x => ⟨fun z => ?_, fun z => ?_⟩⟩
    · obtain ⟨i, hi, e⟩ := (h.2 x).mp z.1
      by_cases hin : i = n
      · subst hin; exact absurd e.symm z.2
      · exact ⟨i, by omega, e⟩
    · obtain ⟨i, hi, e⟩ := z
      refine ⟨(h.2 x).mpr ⟨i, by omega, e⟩, ?_⟩
      rw [← e]
      exact h.1 i n hi (by omega)
/-- the same with places named -/
def lm_B (n : Nat) (S : Nat → Prop) (g pos : Nat → Nat) : Prop := (∀ j, j < n → S (g j) ∧ pos (g j) = j) ∧ (∀ x, S x → pos x < n ∧ g (pos x) = x)
theorem lm_BL {n : Nat} {S : Nat → Prop} {g pos : Nat → Nat} (h : lm_B n S g pos) : lm_L n S g := by
  refine ⟨fun i j hi hj e => ?_, fun x => ⟨fun z => ⟨pos x, h.2 x z⟩, fun z => ?_⟩⟩
  · have a := (h.1 i (by omega)).2
    have b := (h.1 j hj).2
    rw [e] at a
    omega
  · obtain ⟨i, hi, e⟩ := z
    rw [← e]
    exact (h.1 i hi).1
theorem lm_Bc {n N : Nat} {S : Nat → Prop} {g pos : Nat → Nat} (h : lm_B n S g pos) (hN : ∀ x, S x → x < N) : lm_c S N = n := lm_Lc n (lm_BL h) hN
theorem lm_Ble {n N : Nat} {S : Nat → Prop} {g pos : Nat → Nat} (h : lm_B n S g pos) (hN : ∀ x, S x → x < N) : n ≤ N := by
  have := lm_Bc h hN
  have := lm_cle S N
  omega
theorem lm_Blt {n N m : Nat} {S : Nat → Prop} {g pos : Nat → Nat} (h : lm_B n S g pos) (hN : ∀ x, S x → x < N) (hm : m < N) (hS : ¬ S m) : n < N := by
  have := lm_Bc h hN
  have := lm_clt hS hm
  omega
theorem lm_Bcong {n : Nat} {S S' : Nat → Prop} {g g' pos pos' : Nat → Nat} (h : lm_B n S g pos) (hg : ∀ j, j < n → g' j = g j) (hp : ∀ x, S x → pos' x = pos x) (hS : ∀ x, S' x ↔ S x) : lm_B n S' g' pos' := by
  refine ⟨fun j hj => ?_, fun x hx => ?_⟩
  · rw [hg j hj]
    have a := h.1 j hj
    exact ⟨(hS _).mpr a.1, by rw [hp _ a.1]; exact a.2⟩
  · have a := h.2 x ((hS x).mp hx)
    rw [hp x ((hS x).mp hx), hg _ a.1]
    exact a
theorem lm_Bpush {n m : Nat} {S : Nat → Prop} {g pos : Nat → Nat} (h : lm_B n S g pos) (hm : ¬ S m) : lm_B (n + 1) (fun x => S x ∨ x = m) (lm_u g n m) (lm_u pos m n) := by
  refine ⟨fun j hj => ?_, fun x hx => ?_⟩
  · by_cases e : j = n
    · subst e; rw [lm_us, lm_us]; exact ⟨Or.inr rfl, rfl⟩
    · have a := h.1 j (by omega)
      rw [lm_un e]
      have ne : g j ≠ m := fun z => hm (z ▸ a.1)
      rw [lm_un ne]
      exact ⟨Or.inl a.1, a.2⟩
  · by_cases e : x = m
    · subst e; rw [lm_us, lm_us]; exact ⟨by omega, rfl⟩
    · have a := h.2 x (hx.resolve_right e)
      rw [lm_un e, lm_un (by omega : pos x ≠ n)]
      exact ⟨by omega, a.2⟩
theorem lm_Bpop {n : Nat} {S : Nat → Prop} {g pos : Nat → Nat} (h : lm_B (n + 1) S g pos) : lm_B n (fun x => S x ∧ x ≠ g n) g pos := by
  have hn := h.1 n (by omega)
  refine ⟨fun j hj => ?_, fun x hx => ?_⟩
  · have a := h.1 j (by omega)
    refine ⟨⟨a.1, fun e => ?_⟩, a.2⟩
    rw [e] at a
    omega
  · have a := h.2 x hx.1
    refine ⟨?_, a.2⟩
    by_cases e : pos x = n
    · exact absurd (by rw [← a.2, e] : x = g n) hx.2
    · omega
theorem lm_Bdel {n i : Nat} {S : Nat → Prop} {g pos : Nat → Nat} (h : lm_B (n + 1) S g pos) (hi : i < n) : lm_B n (fun x => S x ∧ x ≠ g i) (lm_u g i (g n)) (lm_u pos (g n) i) := by
  have hn := h.1 n (by omega)
  have hI := h.1 i (by omega)
  have ne : g n ≠ g i := by
    intro e
    rw [e] at hn
    omega
  refine ⟨fun j hj => ?_, fun x hx => ?_⟩
  · by_cases e : j = i
    · subst e; rw [lm_us, lm_us]; exact ⟨⟨hn.1, ne⟩, rfl⟩
    · have a := h.1 j (by omega)
      rw [lm_un e]
      have n1 : g j ≠ g n := by
        intro z
        rw [z] at a
        omega
      have n2 : g j ≠ g i := by
        intro z
        rw [z] at a
        omega
      rw [lm_un n1]
      exact ⟨⟨a.1, n2⟩, a.2⟩
  · have a := h.2 x hx.1
    by_cases e : x = g n
    · subst e; rw [lm_us, lm_us]; exact ⟨hi, rfl⟩
    · rw [lm_un e]
      have n1 : pos x ≠ n := fun z => e (by rw [← a.2, z])
      have n2 : pos x ≠ i := fun z => hx.2 (by rw [← a.2, z])
      rw [lm_un n2]
      exact ⟨by omega, a.2⟩
def lm_sw (g : Nat → Nat) (i p : Nat) : Nat → Nat := lm_u (lm_u g i (g p)) p (g i)
theorem lm_swi {g : Nat → Nat} {i p : Nat} (h : i ≠ p) : lm_sw g i p i = g p := by
  unfold lm_sw
  rw [lm_un h, lm_us]
theorem lm_swp {g : Nat → Nat} {i p : Nat} : lm_sw g i p p = g i := lm_us _ _ _
theorem lm_swo {g : Nat → Nat} {i p j : Nat} (hi : j ≠ i) (hp : j ≠ p) : lm_sw g i p j = g j := by
  unfold lm_sw
  rw [lm_un hp, lm_un hi]
theorem lm_Bsw {n i p : Nat} {S : Nat → Prop} {g pos : Nat → Nat} (h : lm_B n S g pos) (hi : i < n) (hp : p < n) (hne : i ≠ p) : lm_B n S (lm_sw g i p) (lm_u (lm_u pos (g p) i) (g i) p) := by
  have aI := h.1 i hi
  have aP := h.1 p hp
  have ne : g p ≠ g i := by
    intro e
    rw [e] at aP
    omega
  refine ⟨fun j hj => ?_, fun x hx => ?_⟩
  · by_cases e : j = i
    · subst e; rw [lm_swi hne, lm_un ne, lm_us]; exact ⟨aP.1, rfl⟩
    · by_cases e2 : j = p
      · subst e2; rw [lm_swp, lm_us]; exact ⟨aI.1, rfl⟩
      · have a := h.1 j hj
        have n1 : g j ≠ g i := by
          intro z
          rw [z] at a
          omega
        have n2 : g j ≠ g p := by
          intro z
          rw [z] at a
          omega
        rw [lm_swo e e2, lm_un n1, lm_un n2]
        exact a
  · by_cases e : x = g i
    · subst e; rw [lm_us, lm_swp]; exact ⟨hp, rfl⟩
    · by_cases e2 : x = g p
      · subst e2; rw [lm_un ne, lm_us, lm_swi hne]; exact ⟨hi, rfl⟩
      · have a := h.2 x hx
        have n1 : pos x ≠ i := fun z => e (by rw [← a.2, z])
        have n2 : pos x ≠ p := fun z => e2 (by rw [← a.2, z])
        rw [lm_un e, lm_un e2, lm_swo n1 n2]
        exact a
end
section
/-! heaps over a key into the integers, ties by the number itself -/
def lm_lt (K : Nat → Int) (a b : Nat) : Prop := K a < K b ∨ (K a = K b ∧ a < b)
theorem lm_lt_as {K : Nat → Int} {a b : Nat} (h : lm_lt K a b) : ¬ lm_lt K b a := by
  unfold lm_lt at *
  omega
theorem lm_lt_ir {K : Nat → Int} {a : Nat} : ¬ lm_lt K a a := by
  unfold lm_lt
  omega
theorem lm_lt_tr {K : Nat → Int} {a b c : Nat} (h : lm_lt K a b) (h' : lm_lt K b c) : lm_lt K a c := by
  unfold lm_lt at *
  omega
theorem lm_lt_nn {K : Nat → Int} {a b c : Nat} (h : ¬ lm_lt K a b) (h' : ¬ lm_lt K b c) : ¬ lm_lt K a c := by
  unfold lm_lt at *
  omega
theorem lm_lt_nt {K : Nat → Int} {a b c : Nat} (h : ¬ lm_lt K a b) (h' : lm_lt K c b) : ¬ lm_lt K a c := by
  unfold lm_lt at *
  omega
theorem lm_lt_tot {K : Nat → Int} {a b : Nat} (h : ¬ lm_lt K a b) (ne : a ≠ b) : lm_lt K b a := by
  unfold lm_lt at *
  omega
theorem lm_lt_cg {K K' : Nat → Int} {a b : Nat} (ha : K' a = K a) (hb : K' b = K b) : lm_lt K' a b ↔ lm_lt K a b := by
  unfold lm_lt
  rw [ha, hb]
def lm_H (K : Nat → Int) (n : Nat) (g : Nat → Nat) : Prop := ∀ j, 0 < j → j < n → ¬ lm_lt K (g j) (g ((j - 1) / 2))
/-- one that may still rise stands at i -/
def lm_R (K : Nat → Int) (n : Nat) (g : Nat → Nat) (i : Nat) : Prop := (∀ j, 0 < j → j < n → j ≠ i → ¬ lm_lt K (g j) (g ((j - 1) / 2))) ∧ (0 < i → ∀ j, 0 < j → j < n → (j - 1) / 2 = i → ¬ lm_lt K (g j) (g ((i - 1) / 2)))
/-- one that may still sink stands at i -/
def lm_D (K : Nat → Int) (n : Nat) (g : Nat → Nat) (i : Nat) : Prop := (∀ j, 0 < j → j < n → (j - 1) / 2 ≠ i → ¬ lm_lt K (g j) (g ((j - 1) / 2))) ∧ (0 < i → ∀ j, 0 < j → j < n → (j - 1) / 2 = i → ¬ lm_lt K (g j) (g ((i - 1) / 2)))
theorem lm_Hcong {K K' : Nat → Int} {n : Nat} {g g' : Nat → Nat} (h : lm_H K n g) (hg : ∀ j, j < n → g' j = g j) (hK : ∀ j, j < n → K' (g j) = K (g j)) : lm_H K' n g' := by
  intro j j0 jn
  rw [hg j jn, hg _ (by omega), lm_lt_cg (hK j jn) (hK _ (by omega))]
  exact h j j0 jn
theorem lm_Htop {K : Nat → Int} {n : Nat} {g : Nat → Nat} (h : lm_H K n g) : ∀ k j, j ≤ k → j < n → ¬ lm_lt K (g j) (g 0) := by
  intro k
  induction k with
  | zero =>
    intro j jk jn
    have e : j = 0 := by omega
    subst e
    exact lm_lt_ir
  | succ k ih =>
    intro j jk jn
    by_cases e : j = 0
    · subst e; exact lm_lt_ir
    · exact lm_lt_nn (h j (by omega) jn) (ih ((j - 1) / 2) (by omega) (by omega))
theorem lm_Rstep {K : Nat → Int} {n : Nat} {g : Nat → Nat} {i p : Nat} (h : lm_R K n g i) (ep : (i - 1) / 2 = p) (i0 : 0 < i) (hin : i < n) (hl : lm_lt K (g i) (g p)) : lm_R K n (lm_sw g i p) p := by
  have pi : p < i := by omega
  refine ⟨fun j j0 jn jp => ?_, fun p0 j j0 jn je => ?_⟩
  · by_cases e : j = i
    · subst e
      rw [ep, lm_swi (by omega), lm_swp]
      exact lm_lt_as hl
    · rw [lm_swo e jp]
      by_cases e1 : (j - 1) / 2 = i
      · rw [e1, lm_swi (by omega)]
        have z := h.2 i0 j j0 jn e1
        rw [ep] at z
        exact z
      · have z := h.1 j j0 jn e
        by_cases e2 : (j - 1) / 2 = p
        · rw [e2] at z ⊢
          rw [lm_swp]
          exact lm_lt_nt z hl
        · rw [lm_swo e1 e2]
          exact z
  · have hpp : (p - 1) / 2 ≠ p := by omega
    have hpi : (p - 1) / 2 ≠ i := by omega
    rw [lm_swo hpi hpp]
    have zp := h.1 p p0 (by omega) (by omega)
    by_cases e : j = i
    · subst e
      rw [lm_swi (by omega)]
      exact zp
    · rw [lm_swo e (by omega)]
      have z := h.1 j j0 jn e
      rw [je] at z
      exact lm_lt_nn z zp
theorem lm_Rend {K : Nat → Int} {n : Nat} {g : Nat → Nat} {i : Nat} (h : lm_R K n g i) (hl : 0 < i → ¬ lm_lt K (g i) (g ((i - 1) / 2))) : lm_H K n g := by
  intro j j0 jn
  by_cases e : j = i
  · subst e; exact hl j0
  · exact h.1 j j0 jn e
theorem lm_Dstep {K : Nat → Int} {n : Nat} {g : Nat → Nat} {i c : Nat} (h : lm_D K n g i) (c0 : 0 < c) (ec : (c - 1) / 2 = i) (cn : c < n) (hm : ∀ j, 0 < j → j < n → (j - 1) / 2 = i → ¬ lm_lt K (g j) (g c)) (hl : lm_lt K (g c) (g i)) : lm_D K n (lm_sw g i c) c := by
  have ic : i < c := by omega
  refine ⟨fun j j0 jn jp => ?_, fun _ j j0 jn je => ?_⟩
  · by_cases e : j = c
    · subst e
      rw [ec, lm_swi (by omega), lm_swp]
      exact lm_lt_as hl
    · by_cases e1 : j = i
      · subst e1
        rw [lm_swi (by omega), lm_swo (by omega) (by omega)]
        exact h.2 j0 c c0 cn ec
      · rw [lm_swo e1 e]
        by_cases e2 : (j - 1) / 2 = i
        · rw [e2, lm_swi (by omega)]
          exact hm j j0 jn e2
        · rw [lm_swo e2 jp]
          exact h.1 j j0 jn e2
  · rw [ec, lm_swi (by omega), lm_swo (by omega) (by omega)]
    have z := h.1 j j0 jn (by omega)
    rw [je] at z
    exact z
theorem lm_Dend {K : Nat → Int} {n : Nat} {g : Nat → Nat} {i : Nat} (h : lm_D K n g i) (hl : ∀ j, 0 < j → j < n → (j - 1) / 2 = i → ¬ lm_lt K (g j) (g i)) : lm_H K n g := by
  intro j j0 jn
  by_cases e : (j - 1) / 2 = i
  · rw [e]; exact hl j j0 jn e
  · exact h.1 j j0 jn e
theorem lm_Rpush {K : Nat → Int} {n m : Nat} {g : Nat → Nat} (h : lm_H K n g) : lm_R K (n + 1) (lm_u g n m) n := by
  refine ⟨fun j j0 jn je => ?_, fun _ j j0 jn je => ?_⟩
  · rw [lm_un je, lm_un (by omega)]
    exact h j j0 (by omega)
  · omega
theorem lm_Hpop {K : Nat → Int} {n : Nat} {g : Nat → Nat} (h : lm_H K (n + 1) g) : lm_H K n g := fun j j0 jn => h j j0 (by omega)
theorem lm_Ddel {K : Nat → Int} {n i l : Nat} {g : Nat → Nat} (h : lm_H K n g) (hi : i < n) (hl : 0 < i → ¬ lm_lt K l (g ((i - 1) / 2))) : lm_D K n (lm_u g i l) i := by
  refine ⟨fun j j0 jn je => ?_, fun i0 j j0 jn je => ?_⟩
  · rw [lm_un je]
    by_cases e : j = i
    · subst e; rw [lm_us]; exact hl j0
    · rw [lm_un e]; exact h j j0 jn
  · rw [lm_un (by omega), lm_un (by omega)]
    have a := h j j0 jn
    have b := h i i0 (by omega)
    rw [je] at a
    exact lm_lt_nn a b
theorem lm_Rdel {K : Nat → Int} {n i l : Nat} {g : Nat → Nat} (h : lm_H K n g) (hi : i < n) (i0 : 0 < i) (hl : lm_lt K l (g ((i - 1) / 2))) : lm_R K n (lm_u g i l) i := by
  have b := h i i0 hi
  refine ⟨fun j j0 jn je => ?_, fun _ j j0 jn je => ?_⟩
  · rw [lm_un je]
    have a := h j j0 jn
    by_cases e : (j - 1) / 2 = i
    · rw [e] at a ⊢
      rw [lm_us]
      exact lm_lt_nt (lm_lt_nn a b) hl
    · rw [lm_un e]; exact a
  · rw [lm_un (by omega), lm_un (by omega)]
    have a := h j j0 jn
    rw [je] at a
    exact lm_lt_nn a b
/-- a queue's part of the heap array -/
def lm_w (hp : Nat → Nat) (q : Nat) : Nat → Nat := fun j => hp (40 * q + j)
theorem lm_wu (hp : Nat → Nat) (q i x : Nat) : lm_w (lm_u hp (40 * q + i) x) q = lm_u (lm_w hp q) i x := by
  funext j
  unfold lm_w
  by_cases h : j = i
  · subst h; rw [lm_us, lm_us]
  · rw [lm_un h, lm_un (by omega)]
theorem lm_hole (w : Nat → Nat) {i p m : Nat} (h : p ≠ i) : lm_u (lm_u w i (w p)) p m = lm_sw (lm_u w i m) i p := by
  funext j
  by_cases e : j = p
  · subst e; rw [lm_us, lm_swp, lm_us]
  · rw [lm_un e]
    by_cases e2 : j = i
    · subst e2; rw [lm_us, lm_swi (by omega), lm_un h]
    · rw [lm_un e2, lm_swo e2 e, lm_un e2]
theorem lm_holeP (ps : Nat → Nat) (x m i p : Nat) : lm_u (lm_u ps x i) m p = lm_u (lm_u (lm_u ps m i) x i) m p := by
  funext j
  by_cases e : j = m
  · subst e; rw [lm_us, lm_us]
  · rw [lm_un e, lm_un e]
    by_cases e2 : j = x
    · subst e2; rw [lm_us, lm_us]
    · rw [lm_un e2, lm_un e2, lm_un e]
/-- a step of a hole: the one at p goes to i, the hole to p -/
theorem lm_Bhole {n i p m : Nat} {S : Nat → Prop} {w ps : Nat → Nat} (h : lm_B n S (lm_u w i m) (lm_u ps m i)) (hi : i < n) (hp : p < n) (hne : p ≠ i) : lm_B n S (lm_u (lm_u w i (w p)) p m) (lm_u (lm_u ps (w p) i) m p) := by
  have z := lm_Bsw h hi hp (by omega)
  rw [lm_un hne, lm_us] at z
  rw [lm_hole w hne, lm_holeP]
  exact z
theorem lm_Bin {n i m : Nat} {S : Nat → Prop} {w ps : Nat → Nat} (h : lm_B n S (lm_u w i m) (lm_u ps m i)) (hi : i < n) : S m := by
  have z := (h.1 i hi).1
  rw [lm_us] at z
  exact z
theorem lm_Bin2 {n i p m : Nat} {S : Nat → Prop} {w ps : Nat → Nat} (h : lm_B n S (lm_u w i m) (lm_u ps m i)) (hp : p < n) (hne : p ≠ i) : S (w p) := by
  have z := (h.1 p hp).1
  rw [lm_un hne] at z
  exact z
end
section
/-! small walks of the component: before, diesBefore, place; numbers -/
theorem lm_sub {a b : Nat} (h : b ≤ a) : nI a - nI b = nI (a - b) := by
  obtain ⟨c, rfl⟩ : ∃ c, a = c + b := ⟨a - b, by omega⟩
  rw [← nI_add, Int32.add_sub_cancel, Nat.add_sub_cancel]
theorem lm_mul (a b : Nat) : nI a * nI b = nI (a * b) := (Int32.ofNat_mul a b).symm
theorem lm_div {a d : Nat} (ha : a < 2 ^ 31) (h0 : 0 < d) (hd : d < 2 ^ 31) : nI a / nI d = nI (a / d) := by
  apply Int32.toInt_inj.mp
  rw [lg_idiv_nonneg (by rw [nI_toInt ha]; omega) (by rw [nI_toInt hd]; omega), nI_toInt ha, nI_toInt hd, nI_toInt (Nat.lt_of_le_of_lt (Nat.div_le_self a d) ha)]
  first | rfl | exact (Int.natCast_ediv _ _).symm
theorem lm_m1 {n : Nat} (h : 0 < n) : nI n + (-1) = nI (n - 1) := by
  obtain ⟨c, rfl⟩ : ∃ c, n = c + 1 := ⟨n - 1, by omega⟩
  rw [← nI_1, Int32.add_assoc, show (1 : Int32) + (-1) = 0 from rfl, Int32.add_zero, Nat.add_sub_cancel]
theorem lm_s1 {n : Nat} (h : 0 < n) : nI n - 1 = nI (n - 1) := by
  obtain ⟨c, rfl⟩ : ∃ c, n = c + 1 := ⟨n - 1, by omega⟩
  rw [nI_pred, Nat.add_sub_cancel]
theorem lm_par {i : Nat} (h : 0 < i) (hi : i < 2 ^ 31) : (nI i - 1) / 2 = nI ((i - 1) / 2) := by
  rw [lm_s1 h]
  exact lm_div (d := 2) (by omega) (by omega) (by omega)
theorem lm_ix (q i : Nat) : nI q * 40 + nI i = nI (40 * q + i) := by
  have e : nI q * 40 = nI (40 * q) := by
    rw [Nat.mul_comm]
    exact lm_mul q 40
  rw [e, nI_add]
theorem lm_2x1 (i : Nat) : 2 * nI i + 1 = nI (2 * i + 1) := by
  have e : 2 * nI i = nI (2 * i) := lm_mul 2 i
  rw [e, nI_1]
theorem lm_ap (f : Nat → Nat) (k : Nat) : lm_nA f k = nI (f k) := rfl
theorem lm_le {x y : Int32} {A B : Prop} (a b : Nat) (f : a ≤ b → A) (g : b < a → B) (hx : x = nI a := by rfl) (hy : y = nI b := by rfl) (ha : a < 2 ^ 31 := by omega) (hb : b < 2 ^ 31 := by omega) : (x ≤ y → A) ∧ (¬ x ≤ y → B) := by
  subst hx hy
  rw [nI_leI ha hb]
  exact ⟨f, fun z => g (by omega)⟩
theorem lm_ltb {x y : Int32} {A B : Prop} (a b : Nat) (f : a < b → A) (g : b ≤ a → B) (hx : x = nI a := by rfl) (hy : y = nI b := by rfl) (ha : a < 2 ^ 31 := by omega) (hb : b < 2 ^ 31 := by omega) : (x < y → A) ∧ (¬ x < y → B) := by
  subst hx hy
  rw [nI_ltI ha hb]
  exact ⟨f, fun z => g (by omega)⟩
theorem lm_eqb {x y : Int32} {A B : Prop} (a b : Nat) (f : a = b → A) (g : a ≠ b → B) (hx : x = nI a := by rfl) (hy : y = nI b := by rfl) (ha : a < 2 ^ 31 := by omega) (hb : b < 2 ^ 31 := by omega) : (x = y → A) ∧ (¬ x = y → B) := by
  subst hx hy
  rw [nI_eq ha hb]
  exact ⟨f, g⟩
/-- the keys: the greater priority first; the earlier expiry first -/
def lm_kp (pr : Nat → Int32) (m : Nat) : Int := - (pr m).toInt
def lm_ke (ex : Nat → Int32) (m : Nat) : Int := (ex m).toInt
section
variable {c oc lv t : Nat} {hs hp ps ol ho lh : Nat → Nat} {qo bd pr dl st co de ex pa li so : Nat → Int32}
theorem lm_before {post : Int32 → Prop} {a b : Nat} (ha : a < 40) (hb : b < 40) (h1 : lm_lt (lm_kp pr) a b → post 1) (h0 : ¬ lm_lt (lm_kp pr) a b → post 0) : wpX_before post (nI c, nI oc, nI lv, nI t, qo, bd, pr, dl, st, co, de, ex, lm_nA hs, lm_nA hp, lm_nA ps, pa, li, lm_nA ol, lm_nA ho, lm_nA lh, so) (nI a) (nI b) := by
  unfold wpX_before
  dsimp only
  rw [nI_clamp (show a < 2 ^ 31 by omega), nI_clamp (show b < 2 ^ 31 by omega)]
  have ia : vp_in (nI a) 40 := vp_in_nI ha (by decide)
  have ib : vp_in (nI b) 40 := vp_in_nI hb (by decide)
  refine ⟨ia, ib, br_c (fun e => ?_) (fun e => ⟨ia, ib, br_c (fun z => ?_) (fun z => ?_)⟩)⟩
  · refine lm_le b a (fun z => h0 ?_) (fun z => h1 ?_)
    · unfold lm_lt lm_kp
      rw [e]
      omega
    · unfold lm_lt lm_kp
      rw [e]
      omega
  · refine h0 ?_
    rw [Int32.le_iff_toInt_le] at z
    have e' : (pr a).toInt ≠ (pr b).toInt := fun w => e (Int32.toInt_inj.mp w)
    unfold lm_lt lm_kp
    omega
  · refine h1 ?_
    rw [Int32.le_iff_toInt_le] at z
    unfold lm_lt lm_kp
    omega
theorem lm_dies {post : Int32 → Prop} {a b : Nat} (ha : a < 40) (hb : b < 40) (h1 : lm_lt (lm_ke ex) a b → post 1) (h0 : ¬ lm_lt (lm_ke ex) a b → post 0) : wpX_diesBefore post (nI c, nI oc, nI lv, nI t, qo, bd, pr, dl, st, co, de, ex, lm_nA hs, lm_nA hp, lm_nA ps, pa, li, lm_nA ol, lm_nA ho, lm_nA lh, so) (nI a) (nI b) := by
  unfold wpX_diesBefore
  dsimp only
  rw [nI_clamp (show a < 2 ^ 31 by omega), nI_clamp (show b < 2 ^ 31 by omega)]
  have ia : vp_in (nI a) 40 := vp_in_nI ha (by decide)
  have ib : vp_in (nI b) 40 := vp_in_nI hb (by decide)
  refine ⟨ia, ib, br_c (fun e => ?_) (fun e => ⟨ia, ib, br_c (fun z => ?_) (fun z => ?_)⟩)⟩
  · refine lm_le b a (fun z => h0 ?_) (fun z => h1 ?_)
    · unfold lm_lt lm_ke
      rw [e]
      omega
    · unfold lm_lt lm_ke
      rw [e]
      omega
  · refine h0 ?_
    rw [Int32.le_iff_toInt_le] at z
    have e' : (ex a).toInt ≠ (ex b).toInt := fun w => e (Int32.toInt_inj.mp w)
    unfold lm_lt lm_ke
    omega
  · refine h1 ?_
    rw [Int32.le_iff_toInt_le] at z
    unfold lm_lt lm_ke
    omega
theorem lm_place {post : SX → Prop} {q i m : Nat} (hq : q < 3) (hi : i < 40) (hm : m < 40) (h : post (nI c, nI oc, nI lv, nI t, qo, bd, pr, dl, st, co, de, ex, lm_nA hs, lm_nA (lm_u hp (40 * q + i) m), lm_nA (lm_u ps m i), pa, li, lm_nA ol, lm_nA ho, lm_nA lh, so)) : wpX_place post (nI c, nI oc, nI lv, nI t, qo, bd, pr, dl, st, co, de, ex, lm_nA hs, lm_nA hp, lm_nA ps, pa, li, lm_nA ol, lm_nA ho, lm_nA lh, so) (nI q) (nI i) (nI m) := by
  unfold wpX_place
  dsimp only
  rw [lm_ix, nI_clamp (show 40 * q + i < 2 ^ 31 by omega), nI_clamp (show m < 2 ^ 31 by omega), lm_uA, lm_uA]
  exact ⟨vp_in_nI (by omega) (by decide), nm_e ⟨vp_in_nI hm (by decide), nm_e h⟩⟩
end
end
section
/-! rise and sink in a queue's heap -/
def lm_F1 (q n : Nat) (hp hp' : Nat → Nat) : Prop := ∀ j, (j < 40 * q ∨ 40 * q + n ≤ j) → hp' j = hp j
def lm_F2 (S : Nat → Prop) (ps ps' : Nat → Nat) : Prop := ∀ x, ¬ S x → ps' x = ps x
section
variable {c oc lv t : Nat} {hs hp ps ol ho lh : Nat → Nat} {qo bd pr dl st co de ex pa li so : Nat → Int32}
theorem lm_rise {post : SX → Prop} {q m n : Nat} {S : Nat → Prop} (hq : q < 3) (hn : n ≤ 40) (hS : ∀ x, S x → x < 40) : ∀ (f i : Nat) (hp ps : Nat → Nat), i < f → i < n → lm_B n S (lm_u (lm_w hp q) i m) (lm_u ps m i) → lm_R (lm_kp pr) n (lm_u (lm_w hp q) i m) i → ∀ (K : ∀ hp' ps' : Nat → Nat, lm_F1 q n hp hp' → lm_F2 S ps ps' → lm_B n S (lm_w hp' q) ps' → lm_H (lm_kp pr) n (lm_w hp' q) → post (nI c, nI oc, nI lv, nI t, qo, bd, pr, dl, st, co, de, ex, lm_nA hs, lm_nA hp', lm_nA ps', pa, li, lm_nA ol, lm_nA ho, lm_nA lh, so)), wX_rise_3 post (nI q) (nI m) f (nI i) (nI c) (nI oc) (nI lv) (nI t) qo bd pr dl st co de ex (lm_nA hs) (lm_nA hp) (lm_nA ps) pa li (lm_nA ol) (lm_nA ho) (lm_nA lh) so := by
  intro f
  induction f with
  | zero => intro i hp ps h; omega
  | succ f ih =>
    intro i hp ps hf hin hB hR K
    have hSm : S m := lm_Bin hB hin
    have hm := hS m hSm
    have fin : (0 < i → ¬ lm_lt (lm_kp pr) m (hp (40 * q + (i - 1) / 2))) → wX_rise_66 post (nI q) (nI m) (nI i) (nI c) (nI oc) (nI lv) (nI t) qo bd pr dl st co de ex (lm_nA hs) (lm_nA hp) (lm_nA ps) pa li (lm_nA ol) (lm_nA ho) (lm_nA lh) so := by
      intro hl
      unfold wX_rise_66
      refine lm_place hq (by omega) hm (K _ _ ?_ ?_ ?_ ?_)
      · intro j hj
        exact lm_un (by omega)
      · intro x hx
        exact lm_un (fun e => hx (e ▸ hSm))
      · rw [lm_wu]
        exact hB
      · rw [lm_wu]
        refine lm_Rend hR (fun i0 => ?_)
        rw [lm_us, lm_un (by omega)]
        exact hl i0
    by_cases i0 : i = 0
    · exact br_t (by rw [i0, nI_0]; decide) (fin (by omega))
    · obtain ⟨p, ep⟩ : ∃ p, p = (i - 1) / 2 := ⟨_, rfl⟩
      have e0 : (nI i - 1) / 2 = nI p := by rw [ep]; exact lm_par (by omega) (by omega)
      rw [← ep] at fin
      have hSp : S (hp (40 * q + p)) := lm_Bin2 (p := p) hB (by omega) (by omega)
      refine br_f (nI_nle (by omega) (by omega)) (And.intro (by decide) ?_)
      simp only [e0, lm_ix, lm_ap, nI_clamp (show 40 * q + p < 2 ^ 31 by omega)]
      refine And.intro (vp_in_nI (by omega) (by decide)) (lm_before hm (hS _ hSp) (fun hl => br_f (by decide) ?_) (fun hl => br_t rfl (fin (fun _ => hl))))
      refine And.intro (by decide) (And.intro (vp_in_nI (by omega) (by decide)) (lm_place hq (by omega) (hS _ hSp) (And.intro (by decide) (nm_e ?_))))
      refine ih p _ _ (by omega) (by omega) ?_ ?_ ?_
      · rw [lm_wu]
        exact lm_Bhole hB hin (by omega) (by omega)
      · rw [lm_wu, show lm_u (lm_u (lm_w hp q) i (hp (40 * q + p))) p m = lm_sw (lm_u (lm_w hp q) i m) i p from lm_hole (lm_w hp q) (by omega)]
        refine lm_Rstep hR ep.symm (by omega) hin ?_
        rw [lm_us, lm_un (by omega)]
        exact hl
      · intro hp' ps' f1 f2 b h
        refine K hp' ps' (fun j hj => ?_) (fun x hx => ?_) b h
        · rw [f1 j hj]
          exact lm_un (by omega)
        · rw [f2 x hx]
          exact lm_un (fun e => hx (e ▸ hSp))
theorem lm_sink {post : SX → Prop} {q m n : Nat} {S : Nat → Prop} (hq : q < 3) (hn : n ≤ 40) (hS : ∀ x, S x → x < 40) (ehs : hs q = n) : ∀ (f i : Nat) (hp ps : Nat → Nat), n + 2 ≤ f + i → i < n → lm_B n S (lm_u (lm_w hp q) i m) (lm_u ps m i) → lm_D (lm_kp pr) n (lm_u (lm_w hp q) i m) i → ∀ (K : ∀ hp' ps' : Nat → Nat, lm_F1 q n hp hp' → lm_F2 S ps ps' → lm_B n S (lm_w hp' q) ps' → lm_H (lm_kp pr) n (lm_w hp' q) → post (nI c, nI oc, nI lv, nI t, qo, bd, pr, dl, st, co, de, ex, lm_nA hs, lm_nA hp', lm_nA ps', pa, li, lm_nA ol, lm_nA ho, lm_nA lh, so)), wX_sink_11 post (nI q) (nI m) f (nI i) (nI (2 * i + 1)) (nI c) (nI oc) (nI lv) (nI t) qo bd pr dl st co de ex (lm_nA hs) (lm_nA hp) (lm_nA ps) pa li (lm_nA ol) (lm_nA ho) (lm_nA lh) so := by
  intro f
  induction f with
  | zero => intro i hp ps h; omega
  | succ f ih =>
    intro i hp ps hf hin hB hD K
    have hSm : S m := lm_Bin hB hin
    have hm := hS m hSm
    have iq : vp_in (nI q) 3 := vp_in_nI hq (by decide)
    have cq : (nI q).toNatClampNeg = q := nI_clamp (by omega)
    have fin : ∀ f' k, n ≤ k → k < 200 → lm_H (lm_kp pr) n (lm_u (lm_w hp q) i m) → wX_sink_11 post (nI q) (nI m) (f' + 1) (nI i) (nI k) (nI c) (nI oc) (nI lv) (nI t) qo bd pr dl st co de ex (lm_nA hs) (lm_nA hp) (lm_nA ps) pa li (lm_nA ol) (lm_nA ho) (lm_nA lh) so := by
      intro f' k hk hk2 hH
      refine And.intro iq (br_t ?_ (lm_place hq (by omega) hm (K _ _ ?_ ?_ ?_ ?_)))
      · rw [cq, lm_ap, ehs]
        exact nI_le hk (by omega)
      · intro j hj
        exact lm_un (by omega)
      · intro x hx
        exact lm_un (fun e => hx (e ▸ hSm))
      · rw [lm_wu]
        exact hB
      · rw [lm_wu]
        exact hH
    have cont : ∀ ch, (ch = 2 * i + 1 ∨ ch = 2 * i + 2) → ch < n → (∀ j, 0 < j → j < n → (j - 1) / 2 = i → ¬ lm_lt (lm_kp pr) (hp (40 * q + j)) (hp (40 * q + ch))) → wX_sink_71 post (wX_sink_11 post (nI q) (nI m) f) (nI q) (nI m) (nI i) (nI ch) (nI c) (nI oc) (nI lv) (nI t) qo bd pr dl st co de ex (lm_nA hs) (lm_nA hp) (lm_nA ps) pa li (lm_nA ol) (lm_nA ho) (lm_nA lh) so := by
      intro ch hc hcn hmin
      have hSc : S (hp (40 * q + ch)) := lm_Bin2 (p := ch) hB (by omega) (by omega)
      have lmj : ∀ j, 0 < j → (j - 1) / 2 = i → lm_u (lm_w hp q) i m j = hp (40 * q + j) := fun j j0 hj => lm_un (by omega)
      unfold wX_sink_71
      simp only [lm_ix, lm_ap, cq, lm_2x1, nI_clamp (show 40 * q + ch < 2 ^ 31 by omega)]
      refine And.intro (vp_in_nI (by omega) (by decide)) (lm_before (hS _ hSc) hm (fun hl => br_f (by decide) ?_) (fun hl => br_t rfl ?_))
      · refine And.intro (vp_in_nI (by omega) (by decide)) (lm_place hq (by omega) (hS _ hSc) (nm_e ?_))
        refine ih ch _ _ (by omega) (by omega) ?_ ?_ ?_
        · rw [lm_wu]
          exact lm_Bhole hB hin (by omega) (by omega)
        · rw [lm_wu, show lm_u (lm_u (lm_w hp q) i (hp (40 * q + ch))) ch m = lm_sw (lm_u (lm_w hp q) i m) i ch from lm_hole (lm_w hp q) (by omega)]
          refine lm_Dstep hD (by omega) (by omega) hcn ?_ ?_
          · intro j j0 jn je
            rw [lmj j j0 je, lmj ch (by omega) (by omega)]
            exact hmin j j0 jn je
          · rw [lmj ch (by omega) (by omega), lm_us]
            exact hl
        · intro hp' ps' f1 f2 b h
          refine K hp' ps' (fun j hj => ?_) (fun x hx => ?_) b h
          · rw [f1 j hj]
            exact lm_un (by omega)
          · rw [f2 x hx]
            exact lm_un (fun e => hx (e ▸ hSc))
      · refine And.intro iq (nm_r (congrArg nI ehs) ?_)
        obtain ⟨f', rfl⟩ : ∃ f', f = f' + 1 := ⟨f - 1, by omega⟩
        refine fin f' n (Nat.le_refl n) (by omega) (lm_Dend hD (fun j j0 jn je => ?_))
        rw [lmj j j0 je, lm_us]
        exact lm_lt_nn (hmin j j0 jn je) hl
    by_cases h1 : n ≤ 2 * i + 1
    · exact fin f _ h1 (by omega) (lm_Dend hD (fun j j0 jn je => by omega))
    · have hS1 : S (hp (40 * q + (2 * i + 1))) := lm_Bin2 (p := 2 * i + 1) hB (by omega) (by omega)
      have a1 : ¬ lm_nA hs (nI q).toNatClampNeg ≤ nI (2 * i + 1) := by
        rw [cq, lm_ap, ehs]
        exact nI_ge (by omega) (by omega)
      refine And.intro iq (br_f a1 (And.intro iq ?_))
      rw [cq, lm_ap, ehs, nI_1]
      refine lm_le n (2 * i + 1 + 1) (fun h2 => ?_) (fun h2 => ?_)
      · refine cont (2 * i + 1) (Or.inl rfl) (by omega) (fun j j0 jn je => ?_)
        have e : j = 2 * i + 1 := by omega
        rw [e]
        exact lm_lt_ir
      · have hS2 : S (hp (40 * q + (2 * i + 2))) := lm_Bin2 (p := 2 * i + 2) hB (by omega) (by omega)
        have e2 : nI (40 * q + (2 * i + 1)) + 1 = nI (40 * q + (2 * i + 2)) := nI_1 _
        simp only [lm_ix, e2, lm_ap, nI_clamp (show 40 * q + (2 * i + 1) < 2 ^ 31 by omega), nI_clamp (show 40 * q + (2 * i + 2) < 2 ^ 31 by omega)]
        refine And.intro (vp_in_nI (by omega) (by decide)) (And.intro (vp_in_nI (by omega) (by decide)) (lm_before (hS _ hS2) (hS _ hS1) (fun hl => br_f (by decide) (nm_e ?_)) (fun hl => br_t rfl ?_)))
        · refine cont (2 * i + 2) (Or.inr rfl) (by omega) (fun j j0 jn je => ?_)
          by_cases e : j = 2 * i + 1
          · rw [e]
            exact lm_lt_as hl
          · have e' : j = 2 * i + 2 := by omega
            rw [e']
            exact lm_lt_ir
        · refine cont (2 * i + 1) (Or.inl rfl) (by omega) (fun j j0 jn je => ?_)
          by_cases e : j = 2 * i + 1
          · rw [e]
            exact lm_lt_ir
          · have e' : j = 2 * i + 2 := by omega
            rw [e']
            exact hl
theorem lm_riseW {post : SX → Prop} {q m n i : Nat} {S : Nat → Prop} (hq : q < 3) (hn : n ≤ 40) (hS : ∀ x, S x → x < 40) (hi : i < n) (hB : lm_B n S (lm_u (lm_w hp q) i m) (lm_u ps m i)) (hR : lm_R (lm_kp pr) n (lm_u (lm_w hp q) i m) i) (K : ∀ hp' ps' : Nat → Nat, lm_F1 q n hp hp' → lm_F2 S ps ps' → lm_B n S (lm_w hp' q) ps' → lm_H (lm_kp pr) n (lm_w hp' q) → post (nI c, nI oc, nI lv, nI t, qo, bd, pr, dl, st, co, de, ex, lm_nA hs, lm_nA hp', lm_nA ps', pa, li, lm_nA ol, lm_nA ho, lm_nA lh, so)) : wpX_rise post (nI c, nI oc, nI lv, nI t, qo, bd, pr, dl, st, co, de, ex, lm_nA hs, lm_nA hp, lm_nA ps, pa, li, lm_nA ol, lm_nA ho, lm_nA lh, so) (nI q) (nI i) (nI m) :=
  Exists.intro (i + 1) (lm_rise hq hn hS (i + 1) i hp ps (by omega) hi hB hR K)
theorem lm_sinkW {post : SX → Prop} {q m n i : Nat} {S : Nat → Prop} (hq : q < 3) (hn : n ≤ 40) (hS : ∀ x, S x → x < 40) (ehs : hs q = n) (hi : i < n) (hB : lm_B n S (lm_u (lm_w hp q) i m) (lm_u ps m i)) (hD : lm_D (lm_kp pr) n (lm_u (lm_w hp q) i m) i) (K : ∀ hp' ps' : Nat → Nat, lm_F1 q n hp hp' → lm_F2 S ps ps' → lm_B n S (lm_w hp' q) ps' → lm_H (lm_kp pr) n (lm_w hp' q) → post (nI c, nI oc, nI lv, nI t, qo, bd, pr, dl, st, co, de, ex, lm_nA hs, lm_nA hp', lm_nA ps', pa, li, lm_nA ol, lm_nA ho, lm_nA lh, so)) : wpX_sink post (nI c, nI oc, nI lv, nI t, qo, bd, pr, dl, st, co, de, ex, lm_nA hs, lm_nA hp, lm_nA ps, pa, li, lm_nA ol, lm_nA ho, lm_nA lh, so) (nI q) (nI i) (nI m) :=
  nm_r (lm_2x1 i) (Exists.intro (n + 2) (lm_sink hq hn hS ehs (n + 2) i hp ps (by omega) hi hB hD K))
end
end
section
/-! makeReady and takeOut: the three queues against their sets -/
def lm_Q (K : Nat → Int) (hs hp ps : Nat → Nat) (S : Nat → Nat → Prop) : Prop := ∀ q, q < 3 → lm_B (hs q) (S q) (lm_w hp q) ps ∧ lm_H K (hs q) (lm_w hp q)
theorem lm_Qset {K : Nat → Int} {hs hp ps hp' ps' : Nat → Nat} {S S' : Nat → Nat → Prop} {q n m : Nat} (Q : lm_Q K hs hp ps S) (hS : ∀ q x, S q x → x < 40) (hn : m ≤ 40) (F : lm_F1 q m hp hp') (P : ∀ q' x, q' < 3 → q' ≠ q → S q' x → ps' x = ps x) (hB : lm_B n (S' q) (lm_w hp' q) ps') (hH : lm_H K n (lm_w hp' q)) (hS' : ∀ q' x, q' < 3 → q' ≠ q → (S' q' x ↔ S q' x)) : lm_Q K (lm_u hs q n) hp' ps' S' := by
  intro q' h3
  by_cases e : q' = q
  · subst e
    rw [lm_us]
    exact ⟨hB, hH⟩
  · rw [lm_un e]
    obtain ⟨b, h⟩ := Q q' h3
    have l := lm_Ble b (hS q')
    have ew : ∀ j, j < hs q' → lm_w hp' q' j = lm_w hp q' j := fun j hj => F _ (by omega)
    exact ⟨lm_Bcong b ew (fun x hx => P q' x h3 e hx) (fun x => hS' q' x h3 e), lm_Hcong h ew (fun _ _ => rfl)⟩
theorem lm_Qcong {K K' : Nat → Int} {hs hp ps : Nat → Nat} {S S' : Nat → Nat → Prop} (Q : lm_Q K hs hp ps S) (hK : ∀ q x, q < 3 → S q x → K' x = K x) (hS : ∀ q x, q < 3 → (S' q x ↔ S q x)) : lm_Q K' hs hp ps S' := by
  intro q h3
  obtain ⟨b, h⟩ := Q q h3
  exact ⟨lm_Bcong b (fun _ _ => rfl) (fun _ _ => rfl) (fun x => hS q x h3), lm_Hcong h (fun _ _ => rfl) (fun j hj => hK q _ h3 (b.1 j hj).1)⟩
section
variable {c oc lv t : Nat} {hs hp ps ol ho lh : Nat → Nat} {qo bd pr dl st co de ex pa li so : Nat → Int32}
theorem lm_mk {post : SX → Prop} {m q : Nat} {S : Nat → Nat → Prop} (hm : m < 40) (hq : q < 3) (eq : qo m = nI q) (hS : ∀ q x, S q x → x < 40) (hSm : ∀ q, ¬ S q m) (dis : ∀ q q' x, S q x → S q' x → q = q') (Q : lm_Q (lm_kp pr) hs hp ps S) (K : ∀ hs' hp' ps' : Nat → Nat, lm_Q (lm_kp pr) hs' hp' ps' (fun q' x => S q' x ∨ (x = m ∧ q' = q)) → post (nI c, nI oc, nI lv, nI t, qo, bd, pr, dl, (upd st m 0), co, de, ex, lm_nA hs', lm_nA hp', lm_nA ps', pa, li, lm_nA ol, lm_nA ho, lm_nA lh, so)) : wpX_makeReady post (nI c, nI oc, nI lv, nI t, qo, bd, pr, dl, st, co, de, ex, lm_nA hs, lm_nA hp, lm_nA ps, pa, li, lm_nA ol, lm_nA ho, lm_nA lh, so) (nI m) := by
  obtain ⟨b, h⟩ := Q q hq
  have l := lm_Blt b (hS q) hm (hSm q)
  have im : vp_in (nI m) 40 := vp_in_nI hm (by decide)
  have iq : vp_in (nI q) 3 := vp_in_nI hq (by decide)
  have cq : (nI q).toNatClampNeg = q := nI_clamp (by omega)
  have hS1 : ∀ x, (S q x ∨ x = m) → x < 40 := fun x hx => hx.elim (hS q x) (fun e => e ▸ hm)
  unfold wpX_makeReady
  dsimp only
  rw [nI_clamp (show m < 2 ^ 31 by omega)]
  refine ⟨im, nm_r eq ⟨im, nm_e ⟨iq, iq, nm_r (e' := lm_nA (lm_u hs q (hs q + 1))) ?_ ⟨iq, ?_⟩⟩⟩⟩
  · rw [cq, lm_ap, nI_1, lm_uA]
  · rw [cq, lm_ap, lm_us, nI_pred]
    refine lm_riseW (S := fun x => S q x ∨ x = m) hq (show hs q + 1 ≤ 40 by omega) hS1 (by omega) (lm_Bpush b (hSm q)) (lm_Rpush h) ?_
    intro hp' ps' f1 f2 b' h'
    refine K _ hp' ps' (lm_Qset (m := hs q + 1) Q hS (by omega) f1 ?_ (lm_Bcong b' (fun _ _ => rfl) (fun _ _ => rfl) ?_) h' ?_)
    · intro q' x _ hne hx
      refine f2 x (fun z => ?_)
      rcases z with z | z
      · exact hne (dis _ _ _ hx z)
      · exact hSm q' (z ▸ hx)
    · intro x
      exact ⟨fun z => z.elim Or.inl (fun w => Or.inr w.1), fun z => z.elim Or.inl (fun w => Or.inr ⟨w, rfl⟩)⟩
    · intro q' x _ hne
      exact ⟨fun z => z.elim id (fun w => absurd w.2 hne), Or.inl⟩
theorem lm_to {post : SX → Prop} {m q : Nat} {S : Nat → Nat → Prop} (hq : q < 3) (eq : qo m = nI q) (hS : ∀ q x, S q x → x < 40) (hSm : S q m) (dis : ∀ q q' x, S q x → S q' x → q = q') (Q : lm_Q (lm_kp pr) hs hp ps S) (K : ∀ hs' hp' ps' : Nat → Nat, lm_Q (lm_kp pr) hs' hp' ps' (fun q' x => S q' x ∧ x ≠ m) → post (nI c, nI oc, nI lv, nI t, qo, bd, pr, dl, st, co, de, ex, lm_nA hs', lm_nA hp', lm_nA ps', pa, li, lm_nA ol, lm_nA ho, lm_nA lh, so)) : wpX_takeOut post (nI c, nI oc, nI lv, nI t, qo, bd, pr, dl, st, co, de, ex, lm_nA hs, lm_nA hp, lm_nA ps, pa, li, lm_nA ol, lm_nA ho, lm_nA lh, so) (nI m) := by
  obtain ⟨b, h⟩ := Q q hq
  have hm := hS q m hSm
  have l := lm_Ble b (hS q)
  have bm := b.2 m hSm
  have im : vp_in (nI m) 40 := vp_in_nI hm (by decide)
  have iq : vp_in (nI q) 3 := vp_in_nI hq (by decide)
  have cq : (nI q).toNatClampNeg = q := nI_clamp (by omega)
  obtain ⟨n, en⟩ : ∃ n, hs q = n + 1 := ⟨hs q - 1, by omega⟩
  obtain ⟨i, ei⟩ : ∃ i, ps m = i := ⟨_, rfl⟩
  rw [en] at b h bm l
  rw [ei] at bm
  have eh : hp (40 * q + i) = m := bm.2
  have bn := b.1 n (by omega)
  have hSn : S q (hp (40 * q + n)) := bn.1
  have hn40 := hS q _ hSn
  -- how it ends, by the heap that is left
  have fin : ∀ hp' ps' : Nat → Nat, lm_F1 q n hp hp' → lm_F2 (fun x => S q x ∧ x ≠ m) ps ps' → lm_B n (fun x => S q x ∧ x ≠ m) (lm_w hp' q) ps' → lm_H (lm_kp pr) n (lm_w hp' q) → post (nI c, nI oc, nI lv, nI t, qo, bd, pr, dl, st, co, de, ex, lm_nA (lm_u hs q n), lm_nA hp', lm_nA ps', pa, li, lm_nA ol, lm_nA ho, lm_nA lh, so) := by
    intro hp' ps' f1 f2 b' h'
    refine K _ hp' ps' (lm_Qset (m := n) Q hS (by omega) f1 ?_ b' h' ?_)
    · intro q' x _ hne hx
      exact f2 x (fun z => hne (dis _ _ _ hx z.1))
    · intro q' x _ hne
      exact ⟨fun z => z.1, fun z => ⟨z, fun e => hne (dis _ _ _ z (e ▸ hSm))⟩⟩
  unfold wpX_takeOut
  dsimp only
  rw [nI_clamp (show m < 2 ^ 31 by omega), lm_ap ps m, ei]
  refine ⟨im, nm_r eq ⟨im, nm_e ⟨iq, iq, nm_r (e' := lm_nA (lm_u hs q n)) ?_ ⟨iq, ?_⟩⟩⟩⟩
  · rw [cq, lm_ap, en, nI_pred, lm_uA]
  · rw [cq, lm_ap, lm_us, lm_ix, nI_clamp (show 40 * q + n < 2 ^ 31 by omega)]
    refine ⟨vp_in_nI (by omega) (by decide), nm_e (lm_eqb (hp (40 * q + n)) m (fun e => ?_) (fun e => ?_))⟩
    · refine fin hp ps (fun _ _ => rfl) (fun _ _ => rfl) ?_ (lm_Hpop h)
      have z := lm_Bpop b
      rw [show lm_w hp q n = m from e] at z
      exact z
    · have hin : i < n := by
        by_cases w : i = n
        · exact absurd (w ▸ eh) e
        · omega
      have hB : lm_B n (fun x => S q x ∧ x ≠ m) (lm_u (lm_w hp q) i (hp (40 * q + n))) (lm_u ps (hp (40 * q + n)) i) := by
        have z := lm_Bdel b hin
        rw [show lm_w hp q i = m from eh] at z
        exact z
      have hS1 : ∀ x, (S q x ∧ x ≠ m) → x < 40 := fun x hx => hS q x hx.1
      have snk : (0 < i → ¬ lm_lt (lm_kp pr) (hp (40 * q + n)) (hp (40 * q + (i - 1) / 2))) → wX_takeOut_88 post (nI q) (nI i) (nI (hp (40 * q + n))) (nI c) (nI oc) (nI lv) (nI t) qo bd pr dl st co de ex (lm_nA (lm_u hs q n)) (lm_nA hp) (lm_nA ps) pa li (lm_nA ol) (lm_nA ho) (lm_nA lh) so := by
        intro hl
        unfold wX_takeOut_88
        exact lm_sinkW (S := fun x => S q x ∧ x ≠ m) hq (by omega) hS1 (lm_us hs q n) hin hB (lm_Ddel (lm_Hpop h) hin hl) fin
      by_cases i0 : i = 0
      · exact br_t (by rw [i0, nI_0]; decide) (snk (by omega))
      · have e0 : (nI i - 1) / 2 = nI ((i - 1) / 2) := lm_par (by omega) (by omega)
        have hSp : S q (hp (40 * q + (i - 1) / 2)) := (b.1 ((i - 1) / 2) (by omega)).1
        refine br_f (nI_nle (by omega) (by omega)) (And.intro (by decide) ?_)
        simp only [e0, lm_ix, lm_ap, nI_clamp (show 40 * q + (i - 1) / 2 < 2 ^ 31 by omega)]
        refine And.intro (vp_in_nI (by omega) (by decide)) (lm_before hn40 (hS _ _ hSp) (fun hl => br_f (by decide) ?_) (fun hl => br_t rfl (snk (fun _ => hl))))
        exact lm_riseW (S := fun x => S q x ∧ x ≠ m) hq (by omega) hS1 hin hB (lm_Rdel (lm_Hpop h) hin (by omega) hl) fin
end
end
section
/-! lives: addLife, firstLife, inLives, readyAgain -/
def lm_LI (ex : Nat → Int32) (lv : Nat) (lh : Nat → Nat) (T : Nat → Prop) : Prop := ∃ gp, lm_B lv T lh gp ∧ lm_H (lm_ke ex) lv lh
section
variable {c oc lv t : Nat} {hs hp ps ol ho lh : Nat → Nat} {qo bd pr dl st co de ex pa li so : Nat → Int32}
theorem lm_alL {post : SX → Prop} {m n : Nat} {T : Nat → Prop} (hn : n ≤ 40) (hT : ∀ x, T x → x < 40) : ∀ (f i : Nat) (lh gp : Nat → Nat), i < f → i < n → lm_B n T (lm_u lh i m) (lm_u gp m i) → lm_R (lm_ke ex) n (lm_u lh i m) i → (∀ lh' gp' : Nat → Nat, lm_B n T lh' gp' → lm_H (lm_ke ex) n lh' → post (nI c, nI oc, nI lv, nI t, qo, bd, pr, dl, st, co, de, ex, lm_nA hs, lm_nA hp, lm_nA ps, pa, li, lm_nA ol, lm_nA ho, lm_nA lh', so)) → wX_addLife_15 post (nI m) (nI c) (nI oc) (nI lv) (nI t) f (nI i) qo bd pr dl st co de ex (lm_nA hs) (lm_nA hp) (lm_nA ps) pa li (lm_nA ol) (lm_nA ho) (lm_nA lh) so := by
  intro f
  induction f with
  | zero => intro i lh gp h; omega
  | succ f ih =>
    intro i lh gp hf hin hB hR K
    have hTm : T m := lm_Bin hB hin
    have hm := hT m hTm
    have ii : vp_in (nI i) 40 := vp_in_nI (by omega) (by decide)
    have ci : (nI i).toNatClampNeg = i := nI_clamp (by omega)
    have fin : (0 < i → ¬ lm_lt (lm_ke ex) m (lh ((i - 1) / 2))) → post (nI c, nI oc, nI lv, nI t, qo, bd, pr, dl, st, co, de, ex, lm_nA hs, lm_nA hp, lm_nA ps, pa, li, lm_nA ol, lm_nA ho, lm_nA (lm_u lh i m), so) := by
      intro hl
      refine K _ _ hB (lm_Rend hR (fun i0 => ?_))
      rw [lm_us, lm_un (by omega)]
      exact hl i0
    by_cases i0 : i = 0
    · refine br_t (by rw [i0, nI_0]; decide) (And.intro ii ?_)
      rw [ci, lm_uA]
      exact nm_e (fin (by omega))
    · obtain ⟨p, ep⟩ : ∃ p, p = (i - 1) / 2 := ⟨_, rfl⟩
      have e0 : (nI i - 1) / 2 = nI p := by rw [ep]; exact lm_par (by omega) (by omega)
      rw [← ep] at fin
      have hTp : T (lh p) := lm_Bin2 (p := p) hB (by omega) (by omega)
      refine br_f (nI_nle (by omega) (by omega)) (And.intro (by decide) ?_)
      simp only [e0, ci, lm_ap, lm_uA, nI_clamp (show p < 2 ^ 31 by omega)]
      have ip : vp_in (nI p) 40 := vp_in_nI (by omega) (by decide)
      refine And.intro ip (lm_dies hm (hT _ hTp) (fun hl => br_f (by decide) ?_) (fun hl => br_t rfl (And.intro ii (nm_e (fin (fun _ => hl))))))
      refine And.intro (by decide) (And.intro ip (And.intro ii (nm_e (And.intro (by decide) (nm_e ?_)))))
      refine ih p _ (lm_u gp (lh p) i) (by omega) (by omega) (lm_Bhole hB hin (by omega) (by omega)) ?_ K
      rw [lm_hole lh (by omega)]
      refine lm_Rstep hR ep.symm (by omega) hin ?_
      rw [lm_us, lm_un (by omega)]
      exact hl
theorem lm_al {post : SX → Prop} {m : Nat} {T : Nat → Prop} (hm : m < 40) (hT : ∀ x, T x → x < 40) (hTm : ¬ T m) (I : lm_LI ex lv lh T) (K : ∀ lh' : Nat → Nat, lm_LI ex (lv + 1) lh' (fun x => T x ∨ x = m) → post (nI c, nI oc, nI (lv + 1), nI t, qo, bd, pr, dl, st, co, de, ex, lm_nA hs, lm_nA hp, lm_nA ps, pa, li, lm_nA ol, lm_nA ho, lm_nA lh', so)) : wpX_addLife post (nI c, nI oc, nI lv, nI t, qo, bd, pr, dl, st, co, de, ex, lm_nA hs, lm_nA hp, lm_nA ps, pa, li, lm_nA ol, lm_nA ho, lm_nA lh, so) (nI m) := by
  obtain ⟨gp, b, h⟩ := I
  have l := lm_Blt b hT hm hTm
  refine nm_r (nI_1 lv) (Exists.intro (lv + 1) (lm_alL (T := fun x => T x ∨ x = m) (n := lv + 1) (by omega) ?_ (lv + 1) lv lh gp (by omega) (by omega) ?_ ?_ (fun lh' gp' b' h' => K lh' ⟨gp', b', h'⟩)))
  · intro x hx
    rcases hx with hx | hx
    · exact hT x hx
    · omega
  · exact lm_Bpush b hTm
  · exact lm_Rpush h
theorem lm_flL {post : Int32 → SX → Prop} {r : Int32} {m : Nat} {T : Nat → Prop} (hn : lv ≤ 40) (hT : ∀ x, T x → x < 40) : ∀ (f i : Nat) (lh gp : Nat → Nat), lv + 2 ≤ f + i → i < lv → lm_B lv T (lm_u lh i m) (lm_u gp m i) → lm_D (lm_ke ex) lv (lm_u lh i m) i → (∀ lh' gp' : Nat → Nat, lm_B lv T lh' gp' → lm_H (lm_ke ex) lv lh' → post r (nI c, nI oc, nI lv, nI t, qo, bd, pr, dl, st, co, de, ex, lm_nA hs, lm_nA hp, lm_nA ps, pa, li, lm_nA ol, lm_nA ho, lm_nA lh', so)) → wX_firstLife_32 post r (nI m) (nI c) (nI oc) (nI lv) (nI t) f (nI i) (nI (2 * i + 1)) qo bd pr dl st co de ex (lm_nA hs) (lm_nA hp) (lm_nA ps) pa li (lm_nA ol) (lm_nA ho) (lm_nA lh) so := by
  intro f
  induction f with
  | zero => intro i lh gp h; omega
  | succ f ih =>
    intro i lh gp hf hin hB hD K
    have hTm : T m := lm_Bin hB hin
    have hm := hT m hTm
    have ii : vp_in (nI i) 40 := vp_in_nI (by omega) (by decide)
    have ci : (nI i).toNatClampNeg = i := nI_clamp (by omega)
    have fin : ∀ f' k, lv ≤ k → k < 200 → lm_H (lm_ke ex) lv (lm_u lh i m) → wX_firstLife_32 post r (nI m) (nI c) (nI oc) (nI lv) (nI t) (f' + 1) (nI i) (nI k) qo bd pr dl st co de ex (lm_nA hs) (lm_nA hp) (lm_nA ps) pa li (lm_nA ol) (lm_nA ho) (lm_nA lh) so := by
      intro f' k hk hk2 hH
      refine br_t (nI_le hk (by omega)) (And.intro ii ?_)
      rw [ci, lm_uA]
      exact nm_e (K _ _ hB hH)
    have cont : ∀ ch, (ch = 2 * i + 1 ∨ ch = 2 * i + 2) → ch < lv → (∀ j, 0 < j → j < lv → (j - 1) / 2 = i → ¬ lm_lt (lm_ke ex) (lh j) (lh ch)) → wX_firstLife_78 post (wX_firstLife_32 post r (nI m) (nI c) (nI oc) (nI lv) (nI t) f) r (nI m) (nI i) (nI ch) (nI c) (nI oc) (nI lv) (nI t) qo bd pr dl st co de ex (lm_nA hs) (lm_nA hp) (lm_nA ps) pa li (lm_nA ol) (lm_nA ho) (lm_nA lh) so := by
      intro ch hc hcn hmin
      have hTc : T (lh ch) := lm_Bin2 (p := ch) hB (by omega) (by omega)
      have lmj : ∀ j, 0 < j → (j - 1) / 2 = i → lm_u lh i m j = lh j := fun j j0 hj => lm_un (by omega)
      have ic : vp_in (nI ch) 40 := vp_in_nI (by omega) (by decide)
      unfold wX_firstLife_78
      simp only [lm_ap, ci, lm_2x1, lm_uA, nI_clamp (show ch < 2 ^ 31 by omega)]
      refine And.intro ic (lm_dies (hT _ hTc) hm (fun hl => br_f (by decide) ?_) (fun hl => br_t rfl ?_))
      · refine And.intro ic (And.intro ii (nm_e (nm_e ?_)))
        refine ih ch _ (lm_u gp (lh ch) i) (by omega) (by omega) (lm_Bhole hB hin (by omega) (by omega)) ?_ K
        rw [lm_hole lh (by omega)]
        refine lm_Dstep hD (by omega) (by omega) hcn ?_ ?_
        · intro j j0 jn je
          rw [lmj j j0 je, lmj ch (by omega) (by omega)]
          exact hmin j j0 jn je
        · rw [lmj ch (by omega) (by omega), lm_us]
          exact hl
      · obtain ⟨f', rfl⟩ : ∃ f', f = f' + 1 := ⟨f - 1, by omega⟩
        refine fin f' lv (Nat.le_refl lv) (by omega) (lm_Dend hD (fun j j0 jn je => ?_))
        rw [lmj j j0 je, lm_us]
        exact lm_lt_nn (hmin j j0 jn je) hl
    by_cases h1 : lv ≤ 2 * i + 1
    · exact fin f _ h1 (by omega) (lm_Dend hD (fun j j0 jn je => by omega))
    · have hT1 : T (lh (2 * i + 1)) := lm_Bin2 (p := 2 * i + 1) hB (by omega) (by omega)
      refine br_f (nI_ge (by omega) (by omega)) ?_
      rw [nI_1]
      refine lm_le lv (2 * i + 1 + 1) (fun h2 => ?_) (fun h2 => ?_)
      · refine cont (2 * i + 1) (Or.inl rfl) (by omega) (fun j j0 jn je => ?_)
        have e : j = 2 * i + 1 := by omega
        rw [e]
        exact lm_lt_ir
      · have hT2 : T (lh (2 * i + 1 + 1)) := lm_Bin2 (p := 2 * i + 1 + 1) hB (by omega) (by omega)
        simp only [lm_ap, nI_clamp (show 2 * i + 1 < 2 ^ 31 by omega), nI_clamp (show 2 * i + 1 + 1 < 2 ^ 31 by omega)]
        refine And.intro (vp_in_nI (by omega) (by decide)) (And.intro (vp_in_nI (by omega) (by decide)) (lm_dies (hT _ hT2) (hT _ hT1) (fun hl => br_f (by decide) (nm_e ?_)) (fun hl => br_t rfl ?_)))
        · refine cont (2 * i + 1 + 1) (Or.inr (by omega)) (by omega) (fun j j0 jn je => ?_)
          by_cases e : j = 2 * i + 1
          · rw [e]
            exact lm_lt_as hl
          · have e' : j = 2 * i + 1 + 1 := by omega
            rw [e']
            exact lm_lt_ir
        · refine cont (2 * i + 1) (Or.inl rfl) (by omega) (fun j j0 jn je => ?_)
          by_cases e : j = 2 * i + 1
          · rw [e]
            exact lm_lt_ir
          · have e' : j = 2 * i + 1 + 1 := by omega
            rw [e']
            exact hl
theorem lm_fl {post : Int32 → SX → Prop} {n : Nat} {T : Nat → Prop} (hT : ∀ x, T x → x < 40) (en : lv = n + 1) (I : lm_LI ex lv lh T) (K : ∀ lh' : Nat → Nat, lm_LI ex n lh' (fun x => T x ∧ x ≠ lh 0) → post (nI (lh 0)) (nI c, nI oc, nI n, nI t, qo, bd, pr, dl, st, co, de, ex, lm_nA hs, lm_nA hp, lm_nA ps, pa, li, lm_nA ol, lm_nA ho, lm_nA lh', so)) : wpX_firstLife post (nI c, nI oc, nI lv, nI t, qo, bd, pr, dl, st, co, de, ex, lm_nA hs, lm_nA hp, lm_nA ps, pa, li, lm_nA ol, lm_nA ho, lm_nA lh, so) := by
  subst en
  obtain ⟨gp, b, h⟩ := I
  have l := lm_Ble b hT
  have cn : (nI n).toNatClampNeg = n := nI_clamp (by omega)
  refine nm_e (nm_r (nI_pred n) (And.intro (vp_in_nI (by omega) (by decide)) ?_))
  rw [cn]
  refine nm_e ?_
  by_cases n0 : n = 0
  · subst n0
    refine Exists.intro 1 (br_t (by decide) (And.intro (vp_in_iff.mpr (by decide)) ?_))
    refine nm_r (e' := lm_nA lh) ?_ (K lh ⟨gp, lm_Bpop b, lm_Hpop h⟩)
    show upd (lm_nA lh) 0 (nI (lh 0)) = _
    rw [lm_uA, lm_uu]
  · refine Exists.intro (n + 2) (lm_flL (T := fun x => T x ∧ x ≠ lh 0) (lv := n) (m := lh n) (by omega) (fun x hx => hT x hx.1) (n + 2) 0 lh gp (by omega) (by omega) (lm_Bdel b (by omega)) (lm_Ddel (lm_Hpop h) (by omega) (by omega)) (fun lh' gp' b' h' => K lh' ⟨gp', b', h'⟩))
theorem lm_il {post : Int32 → Prop} {m : Nat} {T : Nat → Prop} (hm : m < 40) (hT : ∀ x, T x → x < 40) (L : lm_L lv T lh) (hlv : lv ≤ 40) (h1 : T m → post 1) (h0 : ¬ T m → post 0) : wpX_inLives post (nI c, nI oc, nI lv, nI t, qo, bd, pr, dl, st, co, de, ex, lm_nA hs, lm_nA hp, lm_nA ps, pa, li, lm_nA ol, lm_nA ho, lm_nA lh, so) (nI m) := by
  have loop : ∀ f i, lv < f + i → i ≤ lv → (∀ j, j < i → lh j ≠ m) → wX_inLives_2 post (nI m) (nI c) (nI oc) (nI lv) (nI t) qo bd pr dl st co de ex (lm_nA hs) (lm_nA hp) (lm_nA ps) pa li (lm_nA ol) (lm_nA ho) (lm_nA lh) so f (nI i) := by
    intro f
    induction f with
    | zero => intro i h; omega
    | succ f ih =>
      intro i hf hi hne
      refine lm_le lv i (fun h => ?_) (fun h => And.intro (vp_in_nI (by omega) (by decide)) ?_)
      · refine h0 (fun z => ?_)
        obtain ⟨j, hj, e⟩ := (L.2 m).mp z
        exact hne j (by omega) e
      · rw [nI_clamp (show i < 2 ^ 31 by omega), lm_ap]
        have hTi : T (lh i) := (L.2 _).mpr ⟨i, h, rfl⟩
        have := hT _ hTi
        refine lm_eqb (lh i) m (fun e => h1 (e ▸ hTi)) (fun e => nm_r (nI_1 i) (ih (i + 1) (by omega) (by omega) (fun j hj => ?_)))
        by_cases w : j = i
        · rw [w]; exact e
        · exact hne j (by omega)
  exact Exists.intro (lv + 1) (loop (lv + 1) 0 (by omega) (by omega) (fun j hj => by omega))
theorem lm_ra {post : SX → Prop} {m q : Nat} {S : Nat → Nat → Prop} {T : Nat → Prop} (hm : m < 40) (hq : q < 3) (eq : qo m = nI q) (hS : ∀ q x, S q x → x < 40) (hSm : ∀ q, ¬ S q m) (dis : ∀ q q' x, S q x → S q' x → q = q') (Q : lm_Q (lm_kp pr) hs hp ps S) (hT : ∀ x, T x → x < 40) (I : lm_LI ex lv lh T) (K : ∀ (lv' : Nat) (hs' hp' ps' lh' : Nat → Nat) (T' : Nat → Prop), lm_Q (lm_kp pr) hs' hp' ps' (fun q' x => S q' x ∨ (x = m ∧ q' = q)) → lm_LI ex lv' lh' T' → (∀ x, T' x ↔ (T x ∨ (x = m ∧ ¬ ex m < 0))) → post (nI c, nI oc, nI (lv'), nI t, qo, bd, pr, dl, (upd st m 0), co, de, ex, lm_nA hs', lm_nA hp', lm_nA ps', pa, li, lm_nA ol, lm_nA ho, lm_nA lh', so)) : wpX_readyAgain post (nI c, nI oc, nI lv, nI t, qo, bd, pr, dl, st, co, de, ex, lm_nA hs, lm_nA hp, lm_nA ps, pa, li, lm_nA ol, lm_nA ho, lm_nA lh, so) (nI m) := by
  have I' := I
  obtain ⟨gp, b, h⟩ := I'
  have l := lm_Ble b hT
  have im : vp_in (nI m) 40 := vp_in_nI hm (by decide)
  have cm : (nI m).toNatClampNeg = m := nI_clamp (by omega)
  unfold wpX_readyAgain
  dsimp only
  refine lm_mk hm hq eq hS hSm dis Q ?_
  intro hs' hp' ps' Q'
  refine lm_il hm hT (lm_BL b) l (fun z => ?_) (fun z => ?_)
  · refine And.intro im (br_c (fun e => ?_) (fun e => br_f (by decide) ?_))
    · refine K lv hs' hp' ps' lh T Q' I (fun x => ⟨Or.inl, fun w => w.elim id (fun v => v.1 ▸ z)⟩)
    · refine K lv hs' hp' ps' lh T Q' I (fun x => ⟨Or.inl, fun w => w.elim id (fun v => v.1 ▸ z)⟩)
  · refine And.intro im ?_
    rw [cm]
    refine br_c (fun e => ?_) (fun e => br_t rfl ?_)
    · exact K lv hs' hp' ps' lh T Q' I (fun x => ⟨Or.inl, fun w => w.elim id (fun v => absurd e v.2)⟩)
    · refine lm_al hm hT z I (fun lh' I2 => ?_)
      exact K (lv + 1) hs' hp' ps' lh' _ Q' I2 (fun x => ⟨fun w => w.elim Or.inl (fun v => Or.inr ⟨v, e⟩), fun w => w.elim Or.inl (fun v => Or.inr v.1)⟩)
end
end
section
/-! messages that are out: addOut, dropOut -/
def lm_O (oc : Nat) (ol : Nat → Nat) (de : Nat → Int32) (S : Nat → Prop) : Prop := lm_L oc S ol ∧ ∀ i j, i < j → j < oc → (de (ol i)).toInt ≤ (de (ol j)).toInt
theorem lm_Ocong {oc : Nat} {ol : Nat → Nat} {de de' : Nat → Int32} {S S' : Nat → Prop} (O : lm_O oc ol de S) (hd : ∀ x, S x → de' x = de x) (hS : ∀ x, S' x ↔ S x) : lm_O oc ol de' S' := by
  refine ⟨⟨O.1.1, fun x => (hS x).trans (O.1.2 x)⟩, fun i j hi hj => ?_⟩
  rw [hd _ ((O.1.2 _).mpr ⟨i, by omega, rfl⟩), hd _ ((O.1.2 _).mpr ⟨j, hj, rfl⟩)]
  exact O.2 i j hi hj
/-- from i on one place further -/
def lm_sh (g : Nat → Nat) (i n : Nat) : Nat → Nat := fun j => if i < j ∧ j ≤ n then g (j - 1) else g j
theorem lm_shlo {g : Nat → Nat} {i n j : Nat} (h : j ≤ i) : lm_sh g i n j = g j := if_neg (by omega)
theorem lm_shhi {g : Nat → Nat} {i n j : Nat} (h : i < j) (h' : j ≤ n) : lm_sh g i n j = g (j - 1) := if_pos ⟨h, h'⟩
theorem lm_shn (g : Nat → Nat) (n : Nat) : lm_sh g n n = g := by
  funext j
  exact if_neg (by omega)
theorem lm_shs {g : Nat → Nat} {i n : Nat} (h0 : 0 < i) (h : i ≤ n) : lm_u (lm_sh g i n) i (g (i - 1)) = lm_sh g (i - 1) n := by
  funext j
  by_cases e : j = i
  · subst e; rw [lm_us, lm_shhi (by omega) h]
  · rw [lm_un e]
    unfold lm_sh
    by_cases w : i < j ∧ j ≤ n
    · rw [if_pos w, if_pos (by omega)]
    · rw [if_neg w, if_neg (by omega)]
/-- m put in at i -/
def lm_in (g : Nat → Nat) (i n m : Nat) : Nat → Nat := lm_u (lm_sh g i n) i m
theorem lm_inI {g : Nat → Nat} {i n m : Nat} : lm_in g i n m i = m := lm_us _ _ _
theorem lm_inL {g : Nat → Nat} {i n m j : Nat} (h : j < i) : lm_in g i n m j = g j := by
  unfold lm_in
  rw [lm_un (by omega), lm_shlo (by omega)]
theorem lm_inH {g : Nat → Nat} {i n m j : Nat} (h : i < j) (h' : j ≤ n) : lm_in g i n m j = g (j - 1) := by
  unfold lm_in
  rw [lm_un (by omega), lm_shhi h h']
theorem lm_Lin {g : Nat → Nat} {i n m : Nat} {S : Nat → Prop} (L : lm_L n S g) (hi : i ≤ n) (hm : ¬ S m) : lm_L (n + 1) (fun x => S x ∨ x = m) (lm_in g i n m) := by
  have mem : ∀ j, j < n → S (g j) := fun j hj => (L.2 _).mpr ⟨j, hj, rfl⟩
  have val : ∀ j, j < n + 1 → (j < i ∧ lm_in g i n m j = g j) ∨ (j = i ∧ lm_in g i n m j = m) ∨ (i < j ∧ lm_in g i n m j = g (j - 1)) := by
    intro j hj
    rcases Nat.lt_trichotomy j i with h | h | h
    · exact Or.inl ⟨h, lm_inL h⟩
    · exact Or.inr (Or.inl ⟨h, h ▸ lm_inI⟩)
    · exact Or.inr (Or.inr ⟨h, lm_inH h (by omega)⟩)
  refine ⟨fun a b hab hb e => ?_, fun x => ⟨fun z => ?_, fun z => ?_⟩⟩
  · rcases val a (by omega) with ⟨h1, e1⟩ | ⟨h1, e1⟩ | ⟨h1, e1⟩
    · rcases val b hb with ⟨h2, e2⟩ | ⟨h2, e2⟩ | ⟨h2, e2⟩
      · rw [e1, e2] at e; exact L.1 a b hab (by omega) e
      · rw [e1, e2] at e; exact hm (e ▸ mem a (by omega))
      · rw [e1, e2] at e; exact L.1 a (b - 1) (by omega) (by omega) e
    · rcases val b hb with ⟨h2, e2⟩ | ⟨h2, e2⟩ | ⟨h2, e2⟩
      · omega
      · omega
      · rw [e1, e2] at e; exact hm (e ▸ mem (b - 1) (by omega))
    · rcases val b hb with ⟨h2, e2⟩ | ⟨h2, e2⟩ | ⟨h2, e2⟩
      · omega
      · omega
      · rw [e1, e2] at e; exact L.1 (a - 1) (b - 1) (by omega) (by omega) e
  · rcases z with z | z
    · obtain ⟨j, hj, e⟩ := (L.2 x).mp z
      by_cases h : j < i
      · exact ⟨j, by omega, (lm_inL h).trans e⟩
      · exact ⟨j + 1, by omega, (lm_inH (by omega) (by omega)).trans e⟩
    · exact ⟨i, by omega, lm_inI.trans z.symm⟩
  · obtain ⟨j, hj, e⟩ := z
    rcases val j hj with ⟨h1, e1⟩ | ⟨h1, e1⟩ | ⟨h1, e1⟩
    · rw [← e, e1]; exact Or.inl (mem j (by omega))
    · rw [← e, e1]; exact Or.inr rfl
    · rw [← e, e1]; exact Or.inl (mem (j - 1) (by omega))
theorem lm_Oin {g : Nat → Nat} {i n m : Nat} {de : Nat → Int32} {S : Nat → Prop} (O : lm_O n g de S) (hi : i ≤ n) (hm : ¬ S m) (h1 : ∀ j, i ≤ j → j < n → (de m).toInt < (de (g j)).toInt) (h2 : 0 < i → (de (g (i - 1))).toInt ≤ (de m).toInt) : lm_O (n + 1) (lm_in g i n m) de (fun x => S x ∨ x = m) := by
  refine ⟨lm_Lin O.1 hi hm, fun a b hab hb => ?_⟩
  have lo : ∀ a, a < i → (de (g a)).toInt ≤ (de m).toInt := by
    intro a ha
    have := h2 (by omega)
    by_cases e : a = i - 1
    · rw [e]; exact this
    · have := O.2 a (i - 1) (by omega) (by omega)
      omega
  rcases Nat.lt_trichotomy a i with h | h | h
  · rw [lm_inL h]
    rcases Nat.lt_trichotomy b i with k | k | k
    · rw [lm_inL k]; exact O.2 a b hab (by omega)
    · rw [k, lm_inI]; exact lo a h
    · rw [lm_inH k (by omega)]
      have := lo a h
      have := h1 (b - 1) (by omega) (by omega)
      omega
  · rw [h, lm_inI, lm_inH (by omega) (by omega)]
    have := h1 (b - 1) (by omega) (by omega)
    omega
  · rw [lm_inH h (by omega), lm_inH (by omega) (by omega)]
    exact O.2 (a - 1) (b - 1) (by omega) (by omega)
/-- the one at p taken out, as far as i -/
def lm_dl (g : Nat → Nat) (p i : Nat) : Nat → Nat := fun j => if p ≤ j ∧ j + 1 < i then g (j + 1) else g j
theorem lm_dlo {g : Nat → Nat} {p i j : Nat} (h : j < p ∨ i ≤ j + 1) : lm_dl g p i j = g j := if_neg (by omega)
theorem lm_dlm {g : Nat → Nat} {p i j : Nat} (h : p ≤ j) (h' : j + 1 < i) : lm_dl g p i j = g (j + 1) := if_pos ⟨h, h'⟩
theorem lm_dl1 (g : Nat → Nat) (p : Nat) : lm_dl g p (p + 1) = g := by
  funext j
  exact if_neg (by omega)
theorem lm_dls {g : Nat → Nat} {p i : Nat} (h : p < i) : lm_u (lm_dl g p i) (i - 1) (g i) = lm_dl g p (i + 1) := by
  funext j
  by_cases e : j = i - 1
  · subst e
    rw [lm_us, lm_dlm (by omega) (by omega)]
    exact congrArg g (by omega)
  · rw [lm_un e]
    unfold lm_dl
    by_cases w : p ≤ j ∧ j + 1 < i
    · rw [if_pos w, if_pos (by omega)]
    · rw [if_neg w, if_neg (by omega)]
theorem lm_Odl {g : Nat → Nat} {p n m : Nat} {de : Nat → Int32} {S : Nat → Prop} (O : lm_O (n + 1) g de S) (hp : p < n + 1) (e : g p = m) : lm_O n (lm_dl g p (n + 1)) de (fun x => S x ∧ x ≠ m) := by
  obtain ⟨L, D⟩ := O
  have val : ∀ j, j < n → ∃ j', j' < n + 1 ∧ j' ≠ p ∧ lm_dl g p (n + 1) j = g j' ∧ ((j < p ∧ j' = j) ∨ (p ≤ j ∧ j' = j + 1)) := by
    intro j hj
    by_cases h : j < p
    · exact ⟨j, by omega, by omega, lm_dlo (Or.inl h), Or.inl ⟨h, rfl⟩⟩
    · exact ⟨j + 1, by omega, by omega, lm_dlm (by omega) (by omega), Or.inr ⟨by omega, rfl⟩⟩
  have inj : ∀ a b, a < n + 1 → b < n + 1 → a ≠ b → g a ≠ g b := by
    intro a b ha hb hab
    rcases Nat.lt_or_gt_of_ne hab with h | h
    · exact L.1 a b h hb
    · exact fun z => L.1 b a h ha z.symm
  refine ⟨⟨fun a b hab hb => ?_, fun x => ⟨fun z => ?_, fun z => ?_⟩⟩, fun a b hab hb => ?_⟩
  · obtain ⟨a', ha, _, ea, ca⟩ := val a (by omega)
    obtain ⟨b', hb', _, eb, cb⟩ := val b hb
    rw [ea, eb]
    exact inj a' b' ha hb' (by omega)
  · obtain ⟨j, hj, ej⟩ := (L.2 x).mp z.1
    have hjp : j ≠ p := fun w => z.2 (by rw [← ej, w, e])
    by_cases h : j < p
    · exact ⟨j, by omega, (lm_dlo (Or.inl h)).trans ej⟩
    · refine ⟨j - 1, by omega, (lm_dlm (by omega) (by omega)).trans ?_⟩
      rw [← ej]
      exact congrArg g (by omega)
  · obtain ⟨j, hj, ej⟩ := z
    obtain ⟨j', hj', hne, eg, _⟩ := val j hj
    rw [← ej, eg]
    refine ⟨(L.2 _).mpr ⟨j', hj', rfl⟩, ?_⟩
    rw [← e]
    exact inj j' p hj' hp hne
  · obtain ⟨a', ha, _, ea, ca⟩ := val a (by omega)
    obtain ⟨b', hb', _, eb, cb⟩ := val b hb
    rw [ea, eb]
    exact D a' b' (by omega) hb'
section
variable {c oc lv t : Nat} {hs hp ps ol ho lh : Nat → Nat} {qo bd pr dl st co de ex pa li so : Nat → Int32}
theorem lm_ao {post : SX → Prop} {m : Nat} {S : Nat → Prop} (hm : m < 40) (hoc : oc < 6) (hS : ∀ x, S x → x < 40) (hSm : ¬ S m) (O : lm_O oc ol de S) (K : ∀ ol' : Nat → Nat, lm_O (oc + 1) ol' de (fun x => S x ∨ x = m) → post (nI c, nI (oc + 1), nI lv, nI t, qo, bd, pr, dl, st, co, de, ex, lm_nA hs, lm_nA hp, lm_nA ps, pa, li, lm_nA ol', lm_nA ho, lm_nA lh, so)) : wpX_addOut post (nI c, nI oc, nI lv, nI t, qo, bd, pr, dl, st, co, de, ex, lm_nA hs, lm_nA hp, lm_nA ps, pa, li, lm_nA ol, lm_nA ho, lm_nA lh, so) (nI m) := by
  have cm : (nI m).toNatClampNeg = m := nI_clamp (by omega)
  have im : vp_in (nI m) 40 := vp_in_nI hm (by decide)
  have loop : ∀ f i, i < f → i ≤ oc → (∀ j, i ≤ j → j < oc → (de m).toInt < (de (ol j)).toInt) → wX_addOut_5 post (nI m) (nI c) (nI oc) (nI lv) (nI t) f (nI i) qo bd pr dl st co de ex (lm_nA hs) (lm_nA hp) (lm_nA ps) pa li (lm_nA (lm_sh ol i oc)) (lm_nA ho) (lm_nA lh) so := by
    intro f
    induction f with
    | zero => intro i h; omega
    | succ f ih =>
      intro i hf hi h1
      have ci : (nI i).toNatClampNeg = i := nI_clamp (by omega)
      have ii : vp_in (nI i) 6 := vp_in_nI (by omega) (by decide)
      have fin : (0 < i → (de (ol (i - 1))).toInt ≤ (de m).toInt) → wX_addOut_51 post (nI m) (nI i) (nI c) (nI oc) (nI lv) (nI t) qo bd pr dl st co de ex (lm_nA hs) (lm_nA hp) (lm_nA ps) pa li (lm_nA (lm_sh ol i oc)) (lm_nA ho) (lm_nA lh) so := by
        intro h2
        unfold wX_addOut_51
        rw [ci, lm_uA]
        exact And.intro ii (nm_e (nm_r (nI_1 oc) (K _ (lm_Oin O hi hSm h1 h2))))
      by_cases i0 : i = 0
      · exact br_t (by rw [i0, nI_0]; decide) (fin (by omega))
      · have e0 : nI i - 1 = nI (i - 1) := lm_s1 (by omega)
        have e1 : nI i + (-1) = nI (i - 1) := lm_m1 (by omega)
        have hSi : S (ol (i - 1)) := (O.1.2 _).mpr ⟨i - 1, by omega, rfl⟩
        have h40 := hS _ hSi
        have i1 : vp_in (nI (i - 1)) 6 := vp_in_nI (by omega) (by decide)
        refine br_f (nI_nle (by omega) (by omega)) ?_
        simp only [e0, e1, cm, ci, lm_ap, nI_clamp (show i - 1 < 2 ^ 31 by omega), lm_shlo (g := ol) (i := i) (n := oc) (show i - 1 ≤ i by omega), nI_clamp (show ol (i - 1) < 2 ^ 31 by omega), lm_uA, lm_shs (g := ol) (show 0 < i by omega) hi]
        refine And.intro i1 (And.intro (vp_in_nI h40 (by decide)) (And.intro im (br_c (fun z => ?_) (fun z => And.intro i1 (And.intro ii (nm_e (nm_e ?_)))))))
        · rw [Int32.le_iff_toInt_le] at z
          exact fin (fun _ => z)
        · rw [Int32.le_iff_toInt_le] at z
          refine ih (i - 1) (by omega) (by omega) (fun j hj hj2 => ?_)
          by_cases e : j = i - 1
          · rw [e]; omega
          · exact h1 j (by omega) hj2
  have z := loop (oc + 1) oc (by omega) (by omega) (fun j hj hj2 => by omega)
  rw [lm_shn] at z
  exact Exists.intro (oc + 1) z
theorem lm_do {post : SX → Prop} {m n : Nat} {S : Nat → Prop} (en : oc = n + 1) (hoc : oc ≤ 6) (hS : ∀ x, S x → x < 40) (hSm : S m) (O : lm_O oc ol de S) (K : ∀ ol' : Nat → Nat, lm_O n ol' de (fun x => S x ∧ x ≠ m) → post (nI c, nI n, nI lv, nI t, qo, bd, pr, dl, st, co, de, ex, lm_nA hs, lm_nA hp, lm_nA ps, pa, li, lm_nA ol', lm_nA ho, lm_nA lh, so)) : wpX_dropOut post (nI c, nI oc, nI lv, nI t, qo, bd, pr, dl, st, co, de, ex, lm_nA hs, lm_nA hp, lm_nA ps, pa, li, lm_nA ol, lm_nA ho, lm_nA lh, so) (nI m) := by
  subst en
  obtain ⟨p, hp1, ep⟩ := (O.1.2 m).mp hSm
  have hm := hS m hSm
  have h40 : ∀ j, j < n + 1 → ol j < 40 := fun j hj => hS _ ((O.1.2 _).mpr ⟨j, hj, rfl⟩)
  have ne : ∀ j, j < n + 1 → j ≠ p → ol j ≠ m := by
    intro j hj hjp
    rw [← ep]
    rcases Nat.lt_or_gt_of_ne hjp with h | h
    · exact O.1.1 j p h hp1
    · exact fun z => O.1.1 p j h hj z.symm
  have loop2 : ∀ f i, n + 1 < f + i → p < i → i ≤ n + 1 → wX_dropOut_4 post (nI m) (nI c) (nI (n + 1)) (nI lv) (nI t) f (nI (i - 1)) (nI i) qo bd pr dl st co de ex (lm_nA hs) (lm_nA hp) (lm_nA ps) pa li (lm_nA (lm_dl ol p i)) (lm_nA ho) (lm_nA lh) so := by
    intro f
    induction f with
    | zero => intro i h; omega
    | succ f ih =>
      intro i hf hpi hi
      have ci : (nI i).toNatClampNeg = i := nI_clamp (by omega)
      refine lm_le (n + 1) i (fun h => ?_) (fun h => ?_)
      · have e : i = n + 1 := by omega
        subst e
        exact K _ (lm_Odl O hp1 ep)
      · have ii : vp_in (nI i) 6 := vp_in_nI (by omega) (by decide)
        have i1 : vp_in (nI (i - 1)) 6 := vp_in_nI (by omega) (by decide)
        have e1 : nI (i - 1) + 1 = nI (i + 1 - 1) := by
          rw [nI_1]
          exact congrArg nI (by omega)
        simp only [ci, lm_ap, lm_dlo (g := ol) (p := p) (i := i) (j := i) (by omega), nI_clamp (show i - 1 < 2 ^ 31 by omega), lm_uA, lm_dls (g := ol) hpi]
        refine And.intro ii (br_f ?_ (And.intro ii (And.intro i1 (nm_e (nm_r e1 (nm_r (nI_1 i) (ih (i + 1) (by omega) (by omega) (by omega))))))))
        have := h40 i h
        rw [nI_eq (by omega) (by omega)]
        exact ne i h (by omega)
  have loop1 : ∀ f i, n + 1 < f + i → i ≤ p → wX_dropOut_4 post (nI m) (nI c) (nI (n + 1)) (nI lv) (nI t) f (nI i) (nI i) qo bd pr dl st co de ex (lm_nA hs) (lm_nA hp) (lm_nA ps) pa li (lm_nA ol) (lm_nA ho) (lm_nA lh) so := by
    intro f
    induction f with
    | zero => intro i h; omega
    | succ f ih =>
      intro i hf hpi
      have ci : (nI i).toNatClampNeg = i := nI_clamp (by omega)
      have ii : vp_in (nI i) 6 := vp_in_nI (by omega) (by decide)
      refine br_f (nI_ge (by omega) (by omega)) ?_
      simp only [ci, lm_ap, lm_uA, lm_uu]
      refine And.intro ii ?_
      have := h40 i (by omega)
      refine lm_eqb (ol i) m (fun e => ?_) (fun e => ?_)
      · have eip : i = p := by
          by_cases w : i = p
          · exact w
          · exact absurd e (ne i (by omega) w)
        have z := loop2 f (p + 1) (by omega) (by omega) (by omega)
        rw [lm_dl1] at z
        subst eip
        exact nm_r (nI_1 i) z
      · have hlt : i ≠ p := fun w => e (w ▸ ep)
        exact And.intro ii (And.intro ii (nm_e (nm_r (nI_1 i) (nm_r (nI_1 i) (ih (i + 1) (by omega) (by omega))))))
  exact Exists.intro (n + 2) (loop1 (n + 2) 0 (by omega) (by omega))
end
end
section
/-! what holds of the component between two calls -/
def lm_SQ (c : Nat) (qo st : Nat → Int32) (q x : Nat) : Prop := x < c ∧ st x = 0 ∧ qo x = nI q ∧ q < 3
def lm_SO (c : Nat) (st : Nat → Int32) (x : Nat) : Prop := x < c ∧ st x = 1
def lm_P (st co : Nat → Int32) (k x : Nat) : Prop := st x = 1 ∧ co x = nI k
def lm_LV (c lv : Nat) (st ex : Nat → Int32) (lh : Nat → Nat) : Prop := ∃ T, (∀ x, T x → x < c ∧ ¬ ex x < 0) ∧ lm_LI ex lv lh T ∧ ∀ x, x < c → st x = 0 → ¬ ex x < 0 → T x
def lm_Ho (c oc : Nat) (st co : Nat → Int32) (ho : Nat → Nat) : Prop := oc = ho 0 + ho 1 + ho 2 ∧ ∀ k, k < 3 → ho k ≤ 2 ∧ ho k = lm_c (lm_P st co k) c
def lm_G (c : Nat) (qo st co de pa : Nat → Int32) : Prop := c ≤ 40 ∧ (∀ x, x < c → ∃ q, q < 3 ∧ qo x = nI q) ∧ (∀ x, x < c → st x = 1 → (∃ k, k < 3 ∧ co x = nI k) ∧ 0 ≤ (de x).toInt) ∧ (∀ q, q < 3 → ∃ j, j ≤ 20 ∧ pa q = nI j)
def lm_J (c oc lv : Nat) (qo pr st co de ex pa : Nat → Int32) (hs hp ps ol ho lh : Nat → Nat) : Prop := lm_G c qo st co de pa ∧ lm_Q (lm_kp pr) hs hp ps (lm_SQ c qo st) ∧ lm_O oc ol de (lm_SO c st) ∧ lm_Ho c oc st co ho ∧ lm_LV c lv st ex lh
theorem lm_n3 {a b : Nat} (ha : a < 3) (hb : b < 3) (h : nI a = nI b) : a = b := (nI_eq (by omega) (by omega)).mp h
theorem lm_SQd {c : Nat} {qo st : Nat → Int32} (q q' x : Nat) (h : lm_SQ c qo st q x) (h' : lm_SQ c qo st q' x) : q = q' := lm_n3 h.2.2.2 h'.2.2.2 (h.2.2.1.symm.trans h'.2.2.1)
theorem lm_SQ0 {c m q : Nat} {qo st : Nat → Int32} (hm : m < c) (hq : q < 3) (e : qo m = nI q) (q' x : Nat) : lm_SQ c qo (upd st m 0) q' x ↔ (lm_SQ c qo st q' x ∨ (x = m ∧ q' = q)) := by
  unfold lm_SQ
  by_cases h : x = m
  · subst h
    rw [lm_Us]
    refine ⟨fun z => Or.inr ⟨rfl, lm_n3 z.2.2.2 hq (z.2.2.1.symm.trans e)⟩, fun z => ?_⟩
    rcases z with z | z
    · exact ⟨hm, rfl, z.2.2⟩
    · rw [z.2]; exact ⟨hm, rfl, e, hq⟩
  · rw [lm_Un h]
    exact ⟨Or.inl, fun z => z.elim id (fun w => absurd w.1 h)⟩
theorem lm_SQn {c m : Nat} {qo st : Nat → Int32} {v : Int32} (hv : v ≠ 0) (q' x : Nat) : lm_SQ c qo (upd st m v) q' x ↔ (lm_SQ c qo st q' x ∧ x ≠ m) := by
  unfold lm_SQ
  by_cases h : x = m
  · subst h
    rw [lm_Us]
    exact ⟨fun z => absurd z.2.1 hv, fun z => absurd rfl z.2⟩
  · rw [lm_Un h]
    exact ⟨fun z => ⟨z, h⟩, fun z => z.1⟩
theorem lm_SQk {c m : Nat} {qo st : Nat → Int32} {v : Int32} (hv : v ≠ 0) (hs : st m ≠ 0) (q' x : Nat) : lm_SQ c qo (upd st m v) q' x ↔ lm_SQ c qo st q' x := by
  rw [lm_SQn hv]
  exact ⟨fun z => z.1, fun z => ⟨z, fun e => hs (e ▸ z.2.1)⟩⟩
theorem lm_SO1 {c m : Nat} {st : Nat → Int32} (hm : m < c) (x : Nat) : lm_SO c (upd st m 1) x ↔ (lm_SO c st x ∨ x = m) := by
  unfold lm_SO
  by_cases h : x = m
  · subst h
    rw [lm_Us]
    exact ⟨fun z => Or.inr rfl, fun z => ⟨hm, rfl⟩⟩
  · rw [lm_Un h]
    exact ⟨Or.inl, fun z => z.elim id (fun w => absurd w h)⟩
theorem lm_SOn {c m : Nat} {st : Nat → Int32} {v : Int32} (hv : v ≠ 1) (x : Nat) : lm_SO c (upd st m v) x ↔ (lm_SO c st x ∧ x ≠ m) := by
  unfold lm_SO
  by_cases h : x = m
  · subst h
    rw [lm_Us]
    exact ⟨fun z => absurd z.2 hv, fun z => absurd rfl z.2⟩
  · rw [lm_Un h]
    exact ⟨fun z => ⟨z, h⟩, fun z => z.1⟩
theorem lm_SOk {c m : Nat} {st : Nat → Int32} {v : Int32} (hv : v ≠ 1) (hs : st m ≠ 1) (x : Nat) : lm_SO c (upd st m v) x ↔ lm_SO c st x := by
  rw [lm_SOn hv]
  exact ⟨fun z => z.1, fun z => ⟨z, fun e => hs (e ▸ z.2)⟩⟩
theorem lm_Pn {m : Nat} {st co : Nat → Int32} {v : Int32} (hv : v ≠ 1) (k x : Nat) : lm_P (upd st m v) co k x ↔ (lm_P st co k x ∧ x ≠ m) := by
  unfold lm_P
  by_cases h : x = m
  · subst h
    rw [lm_Us]
    exact ⟨fun z => absurd z.1 hv, fun z => absurd rfl z.2⟩
  · rw [lm_Un h]
    exact ⟨fun z => ⟨z, h⟩, fun z => z.1⟩
/-- one that is out is so no more -/
theorem lm_Hod {c n m k : Nat} {st co : Nat → Int32} {ho : Nat → Nat} {v : Int32} (H : lm_Ho c (n + 1) st co ho) (hm : m < c) (hk : k < 3) (e1 : st m = 1) (ek : co m = nI k) (hv : v ≠ 1) : 0 < ho k ∧ lm_Ho c n (upd st m v) co (lm_u ho k (ho k - 1)) := by
  have hc : ∀ k', k' < 3 → lm_c (lm_P st co k') c = lm_c (lm_P (upd st m v) co k') c + (if k' = k then 1 else 0) := by
    intro k' h3
    by_cases e : k' = k
    · rw [if_pos e, e]
      exact lm_cdel (P := lm_P st co k) ⟨e1, ek⟩ hm (fun x _ => lm_Pn hv k x)
    · rw [if_neg e, Nat.add_zero]
      refine lm_cc c (fun x _ => ?_)
      rw [lm_Pn hv]
      refine ⟨fun z => ⟨z, fun w => e ?_⟩, fun z => z.1⟩
      have := z.2
      rw [w, ek] at this
      exact (lm_n3 hk h3 this).symm
  have p0 : 0 < ho k := by
    rw [(H.2 k hk).2, hc k hk, if_pos rfl]
    omega
  refine ⟨p0, ?_, fun k' h3 => ?_⟩
  · have s := H.1
    have h' : k = 0 ∨ k = 1 ∨ k = 2 := by omega
    rcases h' with h | h | h
    · subst h
      rw [lm_us, lm_un (by omega), lm_un (by omega)]
      omega
    · subst h
      rw [lm_us, lm_un (by omega), lm_un (by omega)]
      omega
    · subst h
      rw [lm_us, lm_un (by omega), lm_un (by omega)]
      omega
  · have a := H.2 k' h3
    have b := hc k' h3
    by_cases e : k' = k
    · rw [if_pos e] at b
      subst e
      rw [lm_us]
      omega
    · rw [if_neg e] at b
      rw [lm_un e]
      omega
theorem lm_Hok {c oc m : Nat} {st co : Nat → Int32} {ho : Nat → Nat} {v : Int32} (H : lm_Ho c oc st co ho) (hv : v ≠ 1) (hs : st m ≠ 1) : lm_Ho c oc (upd st m v) co ho := by
  refine ⟨H.1, fun k h3 => ⟨(H.2 k h3).1, ?_⟩⟩
  rw [(H.2 k h3).2]
  refine lm_cc c (fun x _ => ?_)
  rw [lm_Pn hv]
  exact ⟨fun z => ⟨z, fun e => hs (e ▸ z.1)⟩, fun z => z.1⟩
theorem lm_Hoa {c n m k : Nat} {st co : Nat → Int32} {ho : Nat → Nat} (H : lm_Ho c n st co ho) (hm : m < c) (hk : k < 3) (e1 : st m ≠ 1) (h2 : ho k < 2) : lm_Ho c (n + 1) (upd st m 1) (upd co m (nI k)) (lm_u ho k (ho k + 1)) := by
  have hc : ∀ k', k' < 3 → lm_c (lm_P (upd st m 1) (upd co m (nI k)) k') c = lm_c (lm_P st co k') c + (if k' = k then 1 else 0) := by
    intro k' h3
    have eo : ∀ x, x ≠ m → (lm_P (upd st m 1) (upd co m (nI k)) k' x ↔ lm_P st co k' x) := by
      intro x hx
      unfold lm_P
      rw [lm_Un hx, lm_Un hx]
    by_cases e : k' = k
    · rw [if_pos e]
      refine lm_cadd (m := m) (fun z => e1 z.1) hm (fun x _ => ?_)
      by_cases w : x = m
      · subst w
        unfold lm_P
        rw [lm_Us, lm_Us, e]
        exact ⟨fun _ => Or.inr rfl, fun _ => ⟨rfl, rfl⟩⟩
      · rw [eo x w]
        exact ⟨Or.inl, fun z => z.elim id (fun v => absurd v w)⟩
    · rw [if_neg e, Nat.add_zero]
      refine lm_cc c (fun x _ => ?_)
      by_cases w : x = m
      · subst w
        unfold lm_P
        rw [lm_Us, lm_Us]
        exact ⟨fun z => absurd (lm_n3 hk h3 z.2).symm e, fun z => absurd z.1 e1⟩
      · exact eo x w
  refine ⟨?_, fun k' h3 => ?_⟩
  · have s := H.1
    have h' : k = 0 ∨ k = 1 ∨ k = 2 := by omega
    rcases h' with h | h | h
    · subst h
      rw [lm_us, lm_un (by omega), lm_un (by omega)]
      omega
    · subst h
      rw [lm_us, lm_un (by omega), lm_un (by omega)]
      omega
    · subst h
      rw [lm_us, lm_un (by omega), lm_un (by omega)]
      omega
  · have a := H.2 k' h3
    have b := hc k' h3
    by_cases e : k' = k
    · rw [if_pos e] at b
      subst e
      rw [lm_us]
      omega
    · rw [if_neg e] at b
      rw [lm_un e]
      omega
theorem lm_Gk {c m : Nat} {qo st co de pa : Nat → Int32} {v : Int32} (g : lm_G c qo st co de pa) (hv : v ≠ 1) : lm_G c qo (upd st m v) co de pa := by
  refine ⟨g.1, g.2.1, fun x hx h => g.2.2.1 x hx ?_, g.2.2.2⟩
  by_cases e : x = m
  · subst e
    rw [lm_Us] at h
    exact absurd h hv
  · rw [lm_Un e] at h
    exact h
theorem lm_LVk {c lv m : Nat} {st ex : Nat → Int32} {lh : Nat → Nat} {v : Int32} (I : lm_LV c lv st ex lh) (hv : v ≠ 0) : lm_LV c lv (upd st m v) ex lh := by
  obtain ⟨T, h1, h2, h3⟩ := I
  refine ⟨T, h1, h2, fun x hx h => h3 x hx ?_⟩
  by_cases e : x = m
  · subst e
    rw [lm_Us] at h
    exact absurd h hv
  · rw [lm_Un e] at h
    exact h
theorem lm_LV0 {c lv m : Nat} {st ex : Nat → Int32} {lh : Nat → Nat} {T T' : Nat → Prop} (hm : m < c) (h1 : ∀ x, T x → x < c ∧ ¬ ex x < 0) (h3 : ∀ x, x < c → st x = 0 → ¬ ex x < 0 → T x) (I : lm_LI ex lv lh T') (e : ∀ x, T' x ↔ (T x ∨ (x = m ∧ ¬ ex m < 0))) : lm_LV c lv (upd st m 0) ex lh := by
  refine ⟨T', fun x hx => ?_, I, fun x hx h0 h => ?_⟩
  · rcases (e x).mp hx with z | z
    · exact h1 x z
    · rw [z.1]; exact ⟨hm, z.2⟩
  · rw [e]
    by_cases w : x = m
    · subst w
      exact Or.inr ⟨rfl, h⟩
    · rw [lm_Un w] at h0
      exact Or.inl (h3 x hx h0 h)
theorem lm_oc6 {c oc : Nat} {st co : Nat → Int32} {ho : Nat → Nat} (H : lm_Ho c oc st co ho) : oc ≤ 6 := by
  have := H.1
  have := (H.2 0 (by omega)).1
  have := (H.2 1 (by omega)).1
  have := (H.2 2 (by omega)).1
  omega
/-- what becomes of one that comes back -/
def lm_cb (dl li qo : Nat → Int32) (m : Nat) : Int32 := if dl m < li (qo m).toNatClampNeg then 0 else 3
theorem lm_cb1 (dl li qo : Nat → Int32) (m : Nat) : lm_cb dl li qo m ≠ 1 := by
  unfold lm_cb
  split
  · decide
  · decide
section
variable {c oc lv t : Nat} {hs hp ps ol ho lh : Nat → Nat} {qo bd pr dl st co de ex pa li so : Nat → Int32}
theorem lm_cbk {post : SX → Prop} {m : Nat} (J : lm_J c oc lv qo pr st co de ex pa hs hp ps ol ho lh) (hm : m < c) (hs1 : st m = 1) (K : ∀ (oc' lv' : Nat) (hs' hp' ps' ol' ho' lh' : Nat → Nat), oc' + 1 = oc → lm_J c oc' lv' qo pr (upd st m (lm_cb dl li qo m)) co de ex pa hs' hp' ps' ol' ho' lh' → post (nI c, nI (oc'), nI (lv'), nI t, qo, bd, pr, dl, (upd st m (lm_cb dl li qo m)), co, de, ex, lm_nA hs', lm_nA hp', lm_nA ps', pa, li, lm_nA ol', lm_nA ho', lm_nA lh', so)) : wpX_comeBack post (nI c, nI oc, nI lv, nI t, qo, bd, pr, dl, st, co, de, ex, lm_nA hs, lm_nA hp, lm_nA ps, pa, li, lm_nA ol, lm_nA ho, lm_nA lh, so) (nI m) := by
  obtain ⟨g, Q, O, H, T, h1, I, h3⟩ := J
  have c40 := g.1
  obtain ⟨⟨k, hk, ek⟩, hde⟩ := g.2.2.1 m hm hs1
  obtain ⟨q, hq, eq⟩ := g.2.1 m hm
  have hSO : ∀ x, lm_SO c st x → x < 40 := fun x hx => by have := hx.1; omega
  have oc0 : 0 < oc := by
    obtain ⟨i, hi, _⟩ := (O.1.2 m).mp ⟨hm, hs1⟩
    omega
  have oc6 := lm_oc6 H
  obtain ⟨n, en⟩ : ∃ n, oc = n + 1 := ⟨oc - 1, by omega⟩
  have H' := H
  rw [en] at H'
  have cm : (nI m).toNatClampNeg = m := nI_clamp (by omega)
  have im : vp_in (nI m) 40 := vp_in_nI (by omega) (by decide)
  have ik : vp_in (nI k) 3 := vp_in_nI hk (by decide)
  have iq : vp_in (nI q) 3 := vp_in_nI hq (by decide)
  have ck : (nI k).toNatClampNeg = k := nI_clamp (by omega)
  unfold wpX_comeBack
  dsimp only
  refine lm_do en oc6 hSO ⟨hm, hs1⟩ O (fun ol' O' => ?_)
  have hcb : lm_cb dl li qo m = if dl m < li (nI q).toNatClampNeg then 0 else 3 := by
    unfold lm_cb
    rw [eq]
  have hd : ∀ v : Int32, v ≠ 1 → 0 < ho k ∧ lm_Ho c n (upd st m v) co (lm_u ho k (ho k - 1)) := fun v hv => lm_Hod H' hm hk hs1 ek hv
  have hp0 := (hd 3 (by decide)).1
  show vp_in (nI m) 40 ∧ _
  simp only [cm, ek, ck, lm_ap, lm_s1 hp0, lm_uA, eq]
  refine And.intro im (And.intro ik (And.intro ik (nm_e (And.intro im (And.intro im (And.intro iq (br_c (fun z => ?_) (fun z => And.intro im (nm_e ?_)))))))))
  · rw [if_pos z] at hcb
    rw [hcb] at K
    refine lm_ra (by omega) hq eq (S := lm_SQ c qo st) (T := T) (fun q x hx => by have := hx.1; omega) (fun q z => absurd (hs1.symm.trans z.2.1) (by decide)) (fun q q' x => lm_SQd q q' x) Q (fun x hx => by have := (h1 x hx).1; omega) I ?_
    intro lv' hs' hp' ps' lh' T' Q' I' eT
    exact K n lv' hs' hp' ps' ol' _ lh' (by omega) ⟨lm_Gk g (by decide), lm_Qcong Q' (fun _ _ _ _ => rfl) (fun q' x _ => lm_SQ0 hm hq eq q' x), lm_Ocong O' (fun _ _ => rfl) (fun x => lm_SOn (by decide) x), (hd 0 (by decide)).2, lm_LV0 hm h1 h3 I' eT⟩
  · rw [if_neg z] at hcb
    rw [hcb] at K
    exact K n lv hs hp ps ol' _ lh (by omega) ⟨lm_Gk g (by decide), lm_Qcong Q (fun _ _ _ _ => rfl) (fun q' x _ => lm_SQk (by decide) (by rw [hs1]; decide) q' x), lm_Ocong O' (fun _ _ => rfl) (fun x => lm_SOn (by decide) x), (hd 3 (by decide)).2, lm_LVk ⟨T, h1, I, h3⟩ (by decide)⟩
end
end
section
/-! the reference's scans -/
theorem lm_3c (x : Int32) : (x < 0 ∨ (¬ x < 0 ∧ 3 ≤ x)) ∨ ∃ q, q < 3 ∧ x = nI q := by
  by_cases h : x < 0
  · exact Or.inl (Or.inl h)
  · obtain ⟨j, hj, rfl⟩ := nI_of h
    by_cases h2 : j < 3
    · exact Or.inr ⟨j, h2, rfl⟩
    · exact Or.inl (Or.inr ⟨h, nI_le (a := 3) (by omega) hj⟩)
theorem lm_bq0 {post : Int32 → Prop} {x : Int32} (h : x < 0 ∨ (¬ x < 0 ∧ 3 ≤ x)) (p : post 1) : wpX_badQueue post x := by
  unfold wpX_badQueue
  rcases h with h | h
  · exact br_t h p
  · exact br_f h.1 (br_f (Int32.not_lt.mpr h.2) p)
theorem lm_bq1 {post : Int32 → Prop} {q : Nat} (h : q < 3) (p : post 0) : wpX_badQueue post (nI q) := by
  unfold wpX_badQueue
  exact br_f (nI_pos (by omega)) (br_t (nI_lt (b := 3) h (by decide)) p)
theorem lm_bc0 {post : Int32 → Prop} {x : Int32} (h : x < 0 ∨ (¬ x < 0 ∧ 3 ≤ x)) (p : post 1) : wpX_badConsumer post x := by
  unfold wpX_badConsumer
  rcases h with h | h
  · exact br_t h p
  · refine br_f h.1 (br_f ?_ p)
    have h2 := h.2
    rw [Int32.le_iff_toInt_le] at h2 ⊢
    have e3 : (3 : Int32).toInt = 3 := by decide
    have e2 : (2 : Int32).toInt = 2 := by decide
    omega
theorem lm_bc1 {post : Int32 → Prop} {q : Nat} (h : q < 3) (p : post 0) : wpX_badConsumer post (nI q) := by
  unfold wpX_badConsumer
  exact br_f (nI_pos (by omega)) (br_t (nI_le (b := 2) (by omega) (by decide)) p)
/-- at the places below i where P holds, v -/
noncomputable def lm_sg (P : Nat → Prop) (v st : Nat → Int32) (i : Nat) : Nat → Int32 := fun x => @ite Int32 (x < i ∧ P x) (Classical.propDecidable _) (v x) (st x)
theorem lm_sgo {P : Nat → Prop} {v st : Nat → Int32} {i x : Nat} (h : ¬ (x < i ∧ P x)) : lm_sg P v st i x = st x := if_neg h
theorem lm_sgp {P : Nat → Prop} {v st : Nat → Int32} {i x : Nat} (h : x < i ∧ P x) : lm_sg P v st i x = v x := if_pos h
theorem lm_sg0 (P : Nat → Prop) (v st : Nat → Int32) : lm_sg P v st 0 = st := by
  funext x
  exact lm_sgo (by omega)
theorem lm_sgt {P : Nat → Prop} {v st : Nat → Int32} {i : Nat} (h : P i) : upd (lm_sg P v st i) i (v i) = lm_sg P v st (i + 1) := by
  funext x
  by_cases e : x = i
  · subst e
    rw [lm_Us, lm_sgp ⟨by omega, h⟩]
  · rw [lm_Un e]
    by_cases w : x < i ∧ P x
    · rw [lm_sgp w, lm_sgp ⟨by omega, w.2⟩]
    · rw [lm_sgo w, lm_sgo (fun z => w ⟨by omega, z.2⟩)]
theorem lm_sgf {P : Nat → Prop} {v st : Nat → Int32} {i : Nat} (h : ¬ P i) : lm_sg P v st i = lm_sg P v st (i + 1) := by
  funext x
  by_cases w : x < i ∧ P x
  · rw [lm_sgp w, lm_sgp ⟨by omega, w.2⟩]
  · rw [lm_sgo w, lm_sgo (fun z => w ⟨?_, z.2⟩)]
    by_cases e : x = i
    · exact absurd (e ▸ z.2) h
    · omega
def lm_BQ (c : Nat) (qo st pr : Nat → Int32) (q m x : Nat) : Prop := lm_SQ c qo st q x ∧ lm_lt (lm_kp pr) x m
section
variable {c oc lv t : Nat} {hs hp ps ol ho lh : Nat → Nat} {qo bd pr dl st co de ex pa li so : Nat → Int32}
theorem lm_t0 {post : Int32 → Prop} {x : Int32} (h : x < 0 ∨ (¬ x < 0 ∧ 3 ≤ x)) (p : post 0) : wpY_three post (nI c, nI t, qo, bd, pr, st, dl, co, de, ex, pa, li) x := by
  unfold wpY_three
  dsimp only
  rcases h with h | h
  · exact br_t h p
  · exact br_f h.1 (br_t h.2 p)
theorem lm_t1 {post : Int32 → Prop} {q : Nat} (h : q < 3) (p : post 1) : wpY_three post (nI c, nI t, qo, bd, pr, st, dl, co, de, ex, pa, li) (nI q) := by
  unfold wpY_three
  dsimp only
  exact br_f (nI_pos (by omega)) (br_f (nI_ge (b := 3) h (by decide)) p)
theorem lm_yo {post : Int32 → Prop} {k : Nat} (hc : c ≤ 40) (h : post (nI (lm_c (lm_P st co k) c))) : wpY_out post (nI c, nI t, qo, bd, pr, st, dl, co, de, ex, pa, li) (nI k) := by
  have loop : ∀ f i, c < f + i → i ≤ c → wY_out_4 post (nI k) (nI c) (nI t) qo bd pr st dl co de ex pa li f (nI (lm_c (lm_P st co k) i)) (nI i) := by
    intro f
    induction f with
    | zero => intro i h; omega
    | succ f ih =>
      intro i hf hi
      have ci : (nI i).toNatClampNeg = i := nI_clamp (by omega)
      refine lm_le c i (fun z => ?_) (fun z => ?_)
      · have e : i = c := by omega
        rw [e]
        exact h
      · have ii : vp_in (nI i) 40 := vp_in_nI (by omega) (by decide)
        have nx := ih (i + 1) (by omega) (by omega)
        rw [ci]
        refine And.intro ii (br_c (fun e => And.intro ii (br_c (fun e2 => ?_) (fun e2 => ?_))) (fun e => ?_))
        · rw [lm_ct (P := lm_P st co k) ⟨e, e2⟩] at nx
          exact nm_r (nI_1 _) (nm_r (nI_1 i) nx)
        · rw [lm_cf (P := lm_P st co k) (fun w => e2 w.2)] at nx
          exact nm_r (nI_1 i) nx
        · rw [lm_cf (P := lm_P st co k) (fun w => e w.1)] at nx
          exact nm_r (nI_1 i) nx
  exact Exists.intro (c + 1) (loop (c + 1) 0 (by omega) (by omega))
theorem lm_yr {post : Int32 → Prop} {m : Nat} {x : Int32} (hm : m < 40) (h1 : qo m = x → st m = 0 → post 1) (h0 : ¬ (qo m = x ∧ st m = 0) → post 0) : wpY_isReady post (nI c, nI t, qo, bd, pr, st, dl, co, de, ex, pa, li) (nI m) x := by
  unfold wpY_isReady
  dsimp only
  rw [nI_clamp (show m < 2 ^ 31 by omega)]
  have im : vp_in (nI m) 40 := vp_in_nI hm (by decide)
  exact And.intro im (br_c (fun e => And.intro im (br_c (fun e2 => h1 e e2) (fun e2 => h0 (fun w => e2 w.2)))) (fun e => h0 (fun w => e w.1)))
theorem lm_yb {post : Int32 → Prop} {q m : Nat} (hc : c ≤ 40) (hq : q < 3) (hm : m < 40) (h : post (nI (lm_c (lm_BQ c qo st pr q m) c))) : wpY_before post (nI c, nI t, qo, bd, pr, st, dl, co, de, ex, pa, li) (nI q) (nI m) := by
  have cm : (nI m).toNatClampNeg = m := nI_clamp (by omega)
  have im : vp_in (nI m) 40 := vp_in_nI hm (by decide)
  have loop : ∀ f i, c < f + i → i ≤ c → wY_before_5 post (nI q) (nI m) (nI c) (nI t) qo bd pr st dl co de ex pa li f (nI (lm_c (lm_BQ c qo st pr q m) i)) (nI i) := by
    intro f
    induction f with
    | zero => intro i h; omega
    | succ f ih =>
      intro i hf hi
      have ci : (nI i).toNatClampNeg = i := nI_clamp (by omega)
      refine lm_le c i (fun z => ?_) (fun z => ?_)
      · have e : i = c := by omega
        rw [e]
        exact h
      · have ii : vp_in (nI i) 40 := vp_in_nI (by omega) (by decide)
        have nx := ih (i + 1) (by omega) (by omega)
        have j1 : lm_lt (lm_kp pr) i m → wY_before_52 post (wY_before_5 post (nI q) (nI m) (nI c) (nI t) qo bd pr st dl co de ex pa li f) (nI q) (nI m) (nI (lm_c (lm_BQ c qo st pr q m) i)) (nI i) (nI c) (nI t) qo bd pr st dl co de ex pa li := by
          intro l
          unfold wY_before_52 wY_before_57
          refine lm_yr (by omega) (fun a b => br_f (by decide) (br_f (by decide) ?_)) (fun a => br_t rfl ?_)
          · rw [lm_ct (P := lm_BQ c qo st pr q m) ⟨⟨z, b, a, hq⟩, l⟩] at nx
            exact nm_r (nI_1 _) (nm_r (nI_1 i) nx)
          · rw [lm_cf (P := lm_BQ c qo st pr q m) (fun w => a ⟨w.1.2.2.1, w.1.2.1⟩)] at nx
            exact nm_r (nI_1 i) nx
        have j0 : ¬ lm_lt (lm_kp pr) i m → wY_before_56 post (wY_before_5 post (nI q) (nI m) (nI c) (nI t) qo bd pr st dl co de ex pa li f) (nI q) (nI m) (nI (lm_c (lm_BQ c qo st pr q m) i)) (nI i) (nI c) (nI t) qo bd pr st dl co de ex pa li := by
          intro l
          rw [lm_cf (P := lm_BQ c qo st pr q m) (fun w => l w.2)] at nx
          unfold wY_before_56 wY_before_57
          exact lm_yr (by omega) (fun a b => br_f (by decide) (br_t rfl (nm_r (nI_1 i) nx))) (fun a => br_t rfl (nm_r (nI_1 i) nx))
        rw [ci, cm]
        refine And.intro ii (And.intro im (br_c (fun e => j1 ?_) (fun e => And.intro ii (And.intro im (br_c (fun e2 => lm_le m i (fun e3 => j0 ?_) (fun e3 => j1 ?_)) (fun e2 => j0 ?_))))))
        · rw [Int32.lt_iff_toInt_lt] at e
          unfold lm_lt lm_kp
          omega
        · unfold lm_lt lm_kp
          rw [e2]
          omega
        · unfold lm_lt lm_kp
          rw [e2]
          omega
        · rw [Int32.lt_iff_toInt_lt] at e
          have e' : (pr i).toInt ≠ (pr m).toInt := fun w => e2 (Int32.toInt_inj.mp w)
          unfold lm_lt lm_kp
          omega
  exact Exists.intro (c + 1) (loop (c + 1) 0 (by omega) (by omega))
theorem lm_yp {post : Int32 → Prop} {q : Nat} {v : Int32} (hc : c ≤ 40) (hq : q < 3) (h0 : (∀ x, lm_SQ c qo st q x → nI (lm_c (lm_BQ c qo st pr q x) c) ≠ v) → post (-5)) (h1 : ∀ x, lm_SQ c qo st q x → nI (lm_c (lm_BQ c qo st pr q x) c) = v → post (nI x)) : wpY_peek post (nI c, nI t, qo, bd, pr, st, dl, co, de, ex, pa, li) (nI q) v := by
  have loop : ∀ f i, c < f + i → i ≤ c → (∀ x, x < i → lm_SQ c qo st q x → nI (lm_c (lm_BQ c qo st pr q x) c) ≠ v) → wY_peek_12 post (nI q) v (nI c) (nI t) qo bd pr st dl co de ex pa li f (nI i) := by
    intro f
    induction f with
    | zero => intro i h; omega
    | succ f ih =>
      intro i hf hi hp
      refine lm_le c i (fun z => ?_) (fun z => ?_)
      · exact h0 (fun x hx => hp x (by have := hx.1; omega) hx)
      · refine lm_yr (by omega) (fun a b => br_f (by decide) ?_) (fun a => br_t rfl ?_)
        · have hS : lm_SQ c qo st q i := ⟨z, b, a, hq⟩
          refine lm_yb hc hq (by omega) (br_c (fun e => h1 i hS e) (fun e => nm_r (nI_1 i) (ih (i + 1) (by omega) (by omega) (fun x hx hs => ?_))))
          by_cases w : x = i
          · rw [w]; exact e
          · exact hp x (by omega) hs
        · refine nm_r (nI_1 i) (ih (i + 1) (by omega) (by omega) (fun x hx hs => ?_))
          by_cases w : x = i
          · rw [w] at hs; exact absurd ⟨hs.2.2.1, hs.2.1⟩ a
          · exact hp x (by omega) hs
  unfold wpY_peek
  dsimp only
  exact lm_t1 hq (br_f (by decide) (Exists.intro (c + 1) (loop (c + 1) 0 (by omega) (by omega) (fun x hx => by omega))))
theorem lm_ycb {post : SY → Prop} {m q : Nat} (hm : m < 40) (hq : q < 3) (eq : qo m = nI q) (h : post (nI c, nI t, qo, bd, pr, (upd st m (lm_cb dl li qo m)), dl, co, de, ex, pa, li)) : wpY_comeBack post (nI c, nI t, qo, bd, pr, st, dl, co, de, ex, pa, li) (nI m) := by
  unfold wpY_comeBack
  dsimp only
  have im : vp_in (nI m) 40 := vp_in_nI hm (by decide)
  have iq : vp_in (qo m) 3 := eq ▸ vp_in_nI hq (by decide)
  rw [nI_clamp (show m < 2 ^ 31 by omega)]
  refine And.intro im (And.intro im (And.intro iq (br_c (fun z => And.intro im ?_) (fun z => And.intro im ?_))))
  · have e : lm_cb dl li qo m = 0 := if_pos z
    rw [e] at h
    exact nm_e h
  · have e : lm_cb dl li qo m = 3 := if_neg z
    rw [e] at h
    exact nm_e h
theorem lm_yl {post : Int32 → SY → Prop} {k : Nat} {r : Int32} (hc : c ≤ 40) (hqo : ∀ x, x < c → ∃ q, q < 3 ∧ qo x = nI q) (h : post r (nI c, nI t, qo, bd, pr, (lm_sg (lm_P st co k) (lm_cb dl li qo) st c), dl, co, de, ex, pa, li)) : ∃ n, wY_lose_19 post (nI k) r n 0 (nI c) (nI t) qo bd pr st dl co de ex pa li := by
  have loop : ∀ f i, c < f + i → i ≤ c → wY_lose_19 post (nI k) r f (nI i) (nI c) (nI t) qo bd pr (lm_sg (lm_P st co k) (lm_cb dl li qo) st i) dl co de ex pa li := by
    intro f
    induction f with
    | zero => intro i h; omega
    | succ f ih =>
      intro i hf hi
      have ci : (nI i).toNatClampNeg = i := nI_clamp (by omega)
      refine lm_le c i (fun z => ?_) (fun z => ?_)
      · have e : i = c := by omega
        rw [e]
        exact h
      · have ii : vp_in (nI i) 40 := vp_in_nI (by omega) (by decide)
        have nx := ih (i + 1) (by omega) (by omega)
        have es : lm_sg (lm_P st co k) (lm_cb dl li qo) st i i = st i := lm_sgo (by omega)
        rw [ci, es]
        refine And.intro ii (br_c (fun e => And.intro ii (br_c (fun e2 => ?_) (fun e2 => ?_))) (fun e => ?_))
        · obtain ⟨q, hq, eq⟩ := hqo i z
          rw [← lm_sgt (P := lm_P st co k) ⟨e, e2⟩] at nx
          exact lm_ycb (by omega) hq eq (nm_r (nI_1 i) nx)
        · rw [← lm_sgf (P := lm_P st co k) (fun w => e2 w.2)] at nx
          exact nm_r (nI_1 i) nx
        · rw [← lm_sgf (P := lm_P st co k) (fun w => e w.1)] at nx
          exact nm_r (nI_1 i) nx
  have z := loop (c + 1) 0 (by omega) (by omega)
  rw [lm_sg0] at z
  exact Exists.intro (c + 1) z
/-- the reference's pass: those whose time is over come back, then the ready ones whose life is over are done -/
def lm_PD (t : Nat) (st de : Nat → Int32) (x : Nat) : Prop := st x = 1 ∧ ¬ nI t < de x
def lm_PE (t : Nat) (st ex : Nat → Int32) (x : Nat) : Prop := st x = 0 ∧ ¬ ex x < 0 ∧ ¬ nI t < ex x
theorem lm_yp2 {post : Int32 → SY → Prop} {r : Int32} (hc : c ≤ 40) (h : post r (nI c, nI t, qo, bd, pr, (lm_sg (lm_PE t st ex) (fun _ => 2) st c), dl, co, de, ex, pa, li)) : ∃ n, wY_pass_74 post r (nI c) (nI t) n 0 qo bd pr st dl co de ex pa li := by
  have loop : ∀ f i, c < f + i → i ≤ c → wY_pass_74 post r (nI c) (nI t) f (nI i) qo bd pr (lm_sg (lm_PE t st ex) (fun _ => 2) st i) dl co de ex pa li := by
    intro f
    induction f with
    | zero => intro i h; omega
    | succ f ih =>
      intro i hf hi
      have ci : (nI i).toNatClampNeg = i := nI_clamp (by omega)
      refine lm_le c i (fun z => ?_) (fun z => ?_)
      · have e : i = c := by omega
        rw [e]
        exact h
      · have ii : vp_in (nI i) 40 := vp_in_nI (by omega) (by decide)
        have nx := ih (i + 1) (by omega) (by omega)
        have es : lm_sg (lm_PE t st ex) (fun _ => 2) st i i = st i := lm_sgo (by omega)
        rw [ci, es]
        refine And.intro ii (br_c (fun e => And.intro ii (br_c (fun e2 => ?_) (fun e2 => And.intro ii (br_c (fun e3 => ?_) (fun e3 => And.intro ii ?_))))) (fun e => ?_))
        · rw [← lm_sgf (P := lm_PE t st ex) (fun w => w.2.1 e2)] at nx
          exact nm_r (nI_1 i) nx
        · rw [← lm_sgf (P := lm_PE t st ex) (fun w => w.2.2 e3)] at nx
          exact nm_r (nI_1 i) nx
        · rw [← lm_sgt (P := lm_PE t st ex) ⟨e, e2, e3⟩] at nx
          exact nm_e (nm_r (nI_1 i) nx)
        · rw [← lm_sgf (P := lm_PE t st ex) (fun w => e w.1)] at nx
          exact nm_r (nI_1 i) nx
  have z := loop (c + 1) 0 (by omega) (by omega)
  rw [lm_sg0] at z
  exact Exists.intro (c + 1) z
theorem lm_yp1 {post : Int32 → SY → Prop} (hc : c ≤ 40) (hqo : ∀ x, x < c → ∃ q, q < 3 ∧ qo x = nI q) (h : ∃ n, wY_pass_74 post (nI (lm_c (lm_PD t st de) c)) (nI c) (nI t) n 0 qo bd pr (lm_sg (lm_PD t st de) (lm_cb dl li qo) st c) dl co de ex pa li) : ∃ n, wY_pass_27 post n 0 0 (nI c) (nI t) qo bd pr st dl co de ex pa li := by
  have loop : ∀ f i, c < f + i → i ≤ c → wY_pass_27 post f (nI (lm_c (lm_PD t st de) i)) (nI i) (nI c) (nI t) qo bd pr (lm_sg (lm_PD t st de) (lm_cb dl li qo) st i) dl co de ex pa li := by
    intro f
    induction f with
    | zero => intro i h; omega
    | succ f ih =>
      intro i hf hi
      have ci : (nI i).toNatClampNeg = i := nI_clamp (by omega)
      refine lm_le c i (fun z => ?_) (fun z => ?_)
      · have e : i = c := by omega
        rw [e]
        exact h
      · have ii : vp_in (nI i) 40 := vp_in_nI (by omega) (by decide)
        have nx := ih (i + 1) (by omega) (by omega)
        have es : lm_sg (lm_PD t st de) (lm_cb dl li qo) st i i = st i := lm_sgo (by omega)
        rw [ci, es]
        refine And.intro ii (br_c (fun e => And.intro ii (br_c (fun e2 => ?_) (fun e2 => ?_))) (fun e => ?_))
        · rw [← lm_sgf (P := lm_PD t st de) (fun w => w.2 e2), lm_cf (P := lm_PD t st de) (fun w => w.2 e2)] at nx
          exact nm_r (nI_1 i) nx
        · obtain ⟨q, hq, eq⟩ := hqo i z
          rw [← lm_sgt (P := lm_PD t st de) ⟨e, e2⟩, lm_ct (P := lm_PD t st de) ⟨e, e2⟩] at nx
          exact lm_ycb (by omega) hq eq (nm_r (nI_1 _) (nm_r (nI_1 i) nx))
        · rw [← lm_sgf (P := lm_PD t st de) (fun w => e w.1), lm_cf (P := lm_PD t st de) (fun w => e w.1)] at nx
          exact nm_r (nI_1 i) nx
  have z := loop (c + 1) 0 (by omega) (by omega)
  rw [lm_sg0] at z
  exact Exists.intro (c + 1) z
def lm_PV (q : Nat) (st qo : Nat → Int32) (x : Nat) : Prop := st x = 3 ∧ qo x = nI q
theorem lm_yv {post : Int32 → SY → Prop} {q : Nat} (hc : c ≤ 40) (h : post (nI (lm_c (lm_PV q st qo) c)) (nI c, nI t, qo, bd, pr, (lm_sg (lm_PV q st qo) (fun _ => 0) st c), (lm_sg (lm_PV q st qo) (fun _ => 0) dl c), co, de, ex, pa, li)) : ∃ n, wY_revive_14 post (nI q) (nI c) (nI t) n 0 0 qo bd pr st dl co de ex pa li := by
  have loop : ∀ f i, c < f + i → i ≤ c → wY_revive_14 post (nI q) (nI c) (nI t) f (nI (lm_c (lm_PV q st qo) i)) (nI i) qo bd pr (lm_sg (lm_PV q st qo) (fun _ => 0) st i) (lm_sg (lm_PV q st qo) (fun _ => 0) dl i) co de ex pa li := by
    intro f
    induction f with
    | zero => intro i h; omega
    | succ f ih =>
      intro i hf hi
      have ci : (nI i).toNatClampNeg = i := nI_clamp (by omega)
      refine lm_le c i (fun z => ?_) (fun z => ?_)
      · have e : i = c := by omega
        rw [e]
        exact h
      · have ii : vp_in (nI i) 40 := vp_in_nI (by omega) (by decide)
        have nx := ih (i + 1) (by omega) (by omega)
        have es : lm_sg (lm_PV q st qo) (fun _ => 0) st i i = st i := lm_sgo (by omega)
        rw [ci, es]
        refine And.intro ii (br_c (fun e => And.intro ii (br_c (fun e2 => And.intro ii ?_) (fun e2 => ?_))) (fun e => ?_))
        · rw [← lm_sgt (P := lm_PV q st qo) (st := st) ⟨e2, e⟩, ← lm_sgt (P := lm_PV q st qo) (st := dl) ⟨e2, e⟩, lm_ct (P := lm_PV q st qo) ⟨e2, e⟩] at nx
          exact nm_e (And.intro ii (nm_e (nm_r (nI_1 _) (nm_r (nI_1 i) nx))))
        · rw [← lm_sgf (P := lm_PV q st qo) (st := st) (fun w => e2 w.1), ← lm_sgf (P := lm_PV q st qo) (st := dl) (fun w => e2 w.1), lm_cf (P := lm_PV q st qo) (fun w => e2 w.1)] at nx
          exact nm_r (nI_1 i) nx
        · rw [← lm_sgf (P := lm_PV q st qo) (st := st) (fun w => e w.2), ← lm_sgf (P := lm_PV q st qo) (st := dl) (fun w => e w.2), lm_cf (P := lm_PV q st qo) (fun w => e w.2)] at nx
          exact nm_r (nI_1 i) nx
  have z := loop (c + 1) 0 (by omega) (by omega)
  rw [lm_sg0, lm_sg0] at z
  exact Exists.intro (c + 1) z
theorem lm_yy {post : Int32 → Prop} {q : Nat} (hc : c ≤ 40) (hq : q < 3) (h : post (nI (lm_c (lm_SQ c qo st q) c))) : ∃ n, wY_ready_14 post (nI q) (nI c) (nI t) qo bd pr st dl co de ex pa li n 0 0 := by
  have loop : ∀ f i, c < f + i → i ≤ c → wY_ready_14 post (nI q) (nI c) (nI t) qo bd pr st dl co de ex pa li f (nI (lm_c (lm_SQ c qo st q) i)) (nI i) := by
    intro f
    induction f with
    | zero => intro i h; omega
    | succ f ih =>
      intro i hf hi
      refine lm_le c i (fun z => ?_) (fun z => ?_)
      · have e : i = c := by omega
        rw [e]
        exact h
      · have nx := ih (i + 1) (by omega) (by omega)
        refine lm_yr (by omega) (fun a b => br_f (by decide) ?_) (fun a => br_t rfl ?_)
        · rw [lm_ct (P := lm_SQ c qo st q) ⟨z, b, a, hq⟩] at nx
          exact nm_r (nI_1 _) (nm_r (nI_1 i) nx)
        · rw [lm_cf (P := lm_SQ c qo st q) (fun w => a ⟨w.2.2.1, w.2.1⟩)] at nx
          exact nm_r (nI_1 i) nx
  exact Exists.intro (c + 1) (loop (c + 1) 0 (by omega) (by omega))
theorem lm_yn {post : Int32 → Prop} (hc : c ≤ 40) (hde : ∀ x, x < c → st x = 1 → 0 ≤ (de x).toInt) (h0 : (∀ x, x < c → st x ≠ 1) → post (-5)) (h1 : ∀ m, m < c → st m = 1 → (∀ x, x < c → st x = 1 → (de m).toInt ≤ (de x).toInt) → post (de m)) : wpY_nextDeadline post (nI c, nI t, qo, bd, pr, st, dl, co, de, ex, pa, li) := by
  have m5 : (-5 : Int32).toInt = -5 := by decide
  have loop : ∀ f i (x1 : Int32), c < f + i → i ≤ c → ((x1 = -5 ∧ ∀ x, x < i → st x ≠ 1) ∨ (∃ m, m < i ∧ st m = 1 ∧ x1 = de m ∧ ∀ x, x < i → st x = 1 → (de m).toInt ≤ (de x).toInt)) → wY_nextDeadline_5 post (nI c) (nI t) qo bd pr st dl co de ex pa li f x1 (nI i) := by
    intro f
    induction f with
    | zero => intro i x1 h; omega
    | succ f ih =>
      intro i x1 hf hi hx
      have ci : (nI i).toNatClampNeg = i := nI_clamp (by omega)
      refine lm_le c i (fun z => ?_) (fun z => ?_)
      · have e : i = c := by omega
        subst e
        rcases hx with hx | ⟨m, hm, e1, e2, hx⟩
        · rw [hx.1]; exact h0 hx.2
        · rw [e2]; exact h1 m hm e1 hx
      · have ii : vp_in (nI i) 40 := vp_in_nI (by omega) (by decide)
        rw [ci]
        refine And.intro ii (br_c (fun e => ?_) (fun e => nm_r (nI_1 i) (ih (i + 1) x1 (by omega) (by omega) ?_)))
        · have d0 := hde i z e
          refine br_c (fun e2 => And.intro ii (nm_e (nm_r (nI_1 i) (ih (i + 1) _ (by omega) (by omega) (Or.inr ⟨i, by omega, e, rfl, fun x hx1 hx2 => ?_⟩))))) (fun e2 => And.intro ii (br_c (fun e3 => nm_r (nI_1 i) (ih (i + 1) x1 (by omega) (by omega) ?_)) (fun e3 => And.intro ii (nm_e (nm_r (nI_1 i) (ih (i + 1) _ (by omega) (by omega) (Or.inr ⟨i, by omega, e, rfl, fun x hx1 hx2 => ?_⟩)))))))
          · by_cases w : x = i
            · rw [w]; omega
            · rcases hx with hx | ⟨m, hm, e1, e4, hx⟩
              · exact absurd hx2 (hx.2 x (by omega))
              · have dm := hde m (by omega) e1
                rw [e4] at e2
                rw [e2, m5] at dm
                omega
          · rcases hx with hx | ⟨m, hm, e1, e4, hx⟩
            · exact absurd hx.1 e2
            · refine Or.inr ⟨m, by omega, e1, e4, fun x hx1 hx2 => ?_⟩
              by_cases w : x = i
              · rw [w, ← e4, ← Int32.le_iff_toInt_le]; exact e3
              · exact hx x (by omega) hx2
          · rcases hx with hx | ⟨m, hm, e1, e4, hx⟩
            · exact absurd hx.1 e2
            · by_cases w : x = i
              · rw [w]; omega
              · have a := hx x (by omega) hx2
                rw [e4, Int32.le_iff_toInt_le] at e3
                omega
        · rcases hx with hx | ⟨m, hm, e1, e4, hx⟩
          · refine Or.inl ⟨hx.1, fun x hx1 => ?_⟩
            by_cases w : x = i
            · rw [w]; exact e
            · exact hx.2 x (by omega)
          · refine Or.inr ⟨m, by omega, e1, e4, fun x hx1 hx2 => ?_⟩
            by_cases w : x = i
            · rw [w] at hx2; exact absurd hx2 e
            · exact hx x (by omega) hx2
  exact Exists.intro (c + 1) (loop (c + 1) 0 (-5) (by omega) (by omega) (Or.inl ⟨rfl, fun x hx => by omega⟩))
theorem lm_sm (hc : c ≤ 40) (v : Int32) : ∃ r : Int32, (∀ post : Int32 → Prop, post r → wpX_sum post (nI c, nI oc, nI lv, nI t, qo, bd, pr, dl, st, co, de, ex, lm_nA hs, lm_nA hp, lm_nA ps, pa, li, lm_nA ol, lm_nA ho, lm_nA lh, so) v) ∧ (∀ post : Int32 → Prop, post r → wpY_sum post (nI c, nI t, qo, bd, pr, st, dl, co, de, ex, pa, li) v) := by
  have loop : ∀ f i (s : Int32), c < f + i → i ≤ c → ∃ r : Int32, (∀ post : Int32 → Prop, post r → wX_sum_4 post v (nI c) (nI oc) (nI lv) (nI t) qo bd pr dl st co de ex (lm_nA hs) (lm_nA hp) (lm_nA ps) pa li (lm_nA ol) (lm_nA ho) (lm_nA lh) so f s (nI i)) ∧ (∀ post : Int32 → Prop, post r → wY_sum_4 post v (nI c) (nI t) qo bd pr st dl co de ex pa li f s (nI i)) := by
    intro f
    induction f with
    | zero => intro i s h; omega
    | succ f ih =>
      intro i s hf hi
      have ci : (nI i).toNatClampNeg = i := nI_clamp (by omega)
      by_cases z : c ≤ i
      · have l : nI c ≤ nI i := nI_le z (by omega)
        exact ⟨s, fun _ h => br_t l h, fun _ h => br_t l h⟩
      · have l : ¬ nI c ≤ nI i := nI_ge (by omega) (by omega)
        have ii : vp_in (nI i) 40 := vp_in_nI (by omega) (by decide)
        by_cases e : st i = v
        · obtain ⟨r, hX, hY⟩ := ih (i + 1) (s + bd i) (by omega) (by omega)
          have e' : st (nI i).toNatClampNeg = v := ci.symm ▸ e
          have eb : s + bd (nI i).toNatClampNeg = s + bd i := by rw [ci]
          exact ⟨r, fun post h => br_f l (And.intro ii (br_t e' (And.intro ii (nm_r eb (nm_r (nI_1 i) (hX post h)))))), fun post h => br_f l (And.intro ii (br_t e' (And.intro ii (nm_r eb (nm_r (nI_1 i) (hY post h))))))⟩
        · obtain ⟨r, hX, hY⟩ := ih (i + 1) s (by omega) (by omega)
          have e' : ¬ st (nI i).toNatClampNeg = v := ci.symm ▸ e
          exact ⟨r, fun post h => br_f l (And.intro ii (br_f e' (nm_r (nI_1 i) (hX post h)))), fun post h => br_f l (And.intro ii (br_f e' (nm_r (nI_1 i) (hY post h))))⟩
  obtain ⟨r, hX, hY⟩ := loop (c + 1) 0 0 (by omega) (by omega)
  exact ⟨r, fun post h => Exists.intro (c + 1) (hX post h), fun post h => Exists.intro (c + 1) (hY post h)⟩
end
end
section
/-! the component's loops over own methods: lose, revive, pass -/
theorem lm_Qlt {c : Nat} {qo st : Nat → Int32} (hc : c ≤ 40) (q x : Nat) (h : lm_SQ c qo st q x) : x < 40 := by
  have := h.1
  omega
section
variable {c oc lv t : Nat} {hs hp ps ol ho lh : Nat → Nat} {qo bd pr dl st co de ex pa li so : Nat → Int32}
theorem lm_rj {post : SX → Prop} {m : Nat} (J : lm_J c oc lv qo pr st co de ex pa hs hp ps ol ho lh) (hm : m < c) (n0 : st m ≠ 0) (n1 : st m ≠ 1) (K : ∀ (lv' : Nat) (hs' hp' ps' lh' : Nat → Nat), lm_J c oc lv' qo pr (upd st m 0) co de ex pa hs' hp' ps' ol ho lh' → post (nI c, nI oc, nI (lv'), nI t, qo, bd, pr, dl, (upd st m 0), co, de, ex, lm_nA hs', lm_nA hp', lm_nA ps', pa, li, lm_nA ol, lm_nA ho, lm_nA lh', so)) : wpX_readyAgain post (nI c, nI oc, nI lv, nI t, qo, bd, pr, dl, st, co, de, ex, lm_nA hs, lm_nA hp, lm_nA ps, pa, li, lm_nA ol, lm_nA ho, lm_nA lh, so) (nI m) := by
  obtain ⟨g, Q, O, H, T, h1, I, h3⟩ := J
  have c40 := g.1
  obtain ⟨q, hq, eq⟩ := g.2.1 m hm
  refine lm_ra (by omega) hq eq (S := lm_SQ c qo st) (T := T) (lm_Qlt c40) (fun q z => n0 z.2.1) (fun q q' x => lm_SQd q q' x) Q (fun x hx => by have := (h1 x hx).1; omega) I ?_
  intro lv' hs' hp' ps' lh' T' Q' I' eT
  exact K lv' hs' hp' ps' lh' ⟨lm_Gk g (by decide), lm_Qcong Q' (fun _ _ _ _ => rfl) (fun q' x _ => lm_SQ0 hm hq eq q' x), lm_Ocong O (fun _ _ => rfl) (fun x => lm_SOk (by decide) n1 x), lm_Hok H (by decide) n1, lm_LV0 hm h1 h3 I' eT⟩
theorem lm_xl {post : Int32 → SX → Prop} {k : Nat} (J : lm_J c oc lv qo pr st co de ex pa hs hp ps ol ho lh) (K : ∀ (oc' lv' : Nat) (hs' hp' ps' ol' ho' lh' : Nat → Nat), lm_J c oc' lv' qo pr (lm_sg (lm_P st co k) (lm_cb dl li qo) st c) co de ex pa hs' hp' ps' ol' ho' lh' → post (nI (lm_c (lm_P st co k) c)) (nI c, nI (oc'), nI (lv'), nI t, qo, bd, pr, dl, (lm_sg (lm_P st co k) (lm_cb dl li qo) st c), co, de, ex, lm_nA hs', lm_nA hp', lm_nA ps', pa, li, lm_nA ol', lm_nA ho', lm_nA lh', so)) : ∃ n, wX_lose_14 post (nI k) n 0 0 (nI c) (nI oc) (nI lv) (nI t) qo bd pr dl st co de ex (lm_nA hs) (lm_nA hp) (lm_nA ps) pa li (lm_nA ol) (lm_nA ho) (lm_nA lh) so := by
  have c40 := J.1.1
  have loop : ∀ (f i oc lv : Nat) (hs hp ps ol ho lh : Nat → Nat), c < f + i → i ≤ c → lm_J c oc lv qo pr (lm_sg (lm_P st co k) (lm_cb dl li qo) st i) co de ex pa hs hp ps ol ho lh → wX_lose_14 post (nI k) f (nI (lm_c (lm_P st co k) i)) (nI i) (nI c) (nI oc) (nI lv) (nI t) qo bd pr dl (lm_sg (lm_P st co k) (lm_cb dl li qo) st i) co de ex (lm_nA hs) (lm_nA hp) (lm_nA ps) pa li (lm_nA ol) (lm_nA ho) (lm_nA lh) so := by
    intro f
    induction f with
    | zero => intro i oc lv hs hp ps ol ho lh h; omega
    | succ f ih =>
      intro i oc lv hs hp ps ol ho lh hf hi J
      have ci : (nI i).toNatClampNeg = i := nI_clamp (by omega)
      refine lm_le c i (fun z => ?_) (fun z => ?_)
      · have e : i = c := by omega
        subst e
        exact K oc lv hs hp ps ol ho lh J
      · have ii : vp_in (nI i) 40 := vp_in_nI (by omega) (by decide)
        have es : lm_sg (lm_P st co k) (lm_cb dl li qo) st i i = st i := lm_sgo (by omega)
        have nx := fun oc lv hs hp ps ol ho lh => ih (i + 1) oc lv hs hp ps ol ho lh (by omega) (by omega)
        rw [ci, es]
        refine And.intro ii (br_c (fun e => And.intro ii (br_c (fun e2 => ?_) (fun e2 => ?_))) (fun e => ?_))
        · rw [← lm_sgt (P := lm_P st co k) ⟨e, e2⟩, lm_ct (P := lm_P st co k) ⟨e, e2⟩] at nx
          exact lm_cbk J z (es.trans e) (fun oc' lv' hs' hp' ps' ol' ho' lh' _ J' => nm_r (nI_1 _) (nm_r (nI_1 i) (nx oc' lv' hs' hp' ps' ol' ho' lh' J')))
        · rw [← lm_sgf (P := lm_P st co k) (fun w => e2 w.2), lm_cf (P := lm_P st co k) (fun w => e2 w.2)] at nx
          exact nm_r (nI_1 i) (nx oc lv hs hp ps ol ho lh J)
        · rw [← lm_sgf (P := lm_P st co k) (fun w => e w.1), lm_cf (P := lm_P st co k) (fun w => e w.1)] at nx
          exact nm_r (nI_1 i) (nx oc lv hs hp ps ol ho lh J)
  have z := loop (c + 1) 0 oc lv hs hp ps ol ho lh (by omega) (by omega)
  rw [lm_sg0] at z
  exact Exists.intro (c + 1) (z J)
theorem lm_xv {post : Int32 → SX → Prop} {q : Nat} (J : lm_J c oc lv qo pr st co de ex pa hs hp ps ol ho lh) (K : ∀ (lv' : Nat) (hs' hp' ps' lh' : Nat → Nat), lm_J c oc lv' qo pr (lm_sg (lm_PV q st qo) (fun _ => 0) st c) co de ex pa hs' hp' ps' ol ho lh' → post (nI (lm_c (lm_PV q st qo) c)) (nI c, nI oc, nI (lv'), nI t, qo, bd, pr, (lm_sg (lm_PV q st qo) (fun _ => 0) dl c), (lm_sg (lm_PV q st qo) (fun _ => 0) st c), co, de, ex, lm_nA hs', lm_nA hp', lm_nA ps', pa, li, lm_nA ol, lm_nA ho, lm_nA lh', so)) : ∃ n, wX_revive_13 post (nI q) n 0 0 (nI c) (nI oc) (nI lv) (nI t) qo bd pr dl st co de ex (lm_nA hs) (lm_nA hp) (lm_nA ps) pa li (lm_nA ol) (lm_nA ho) (lm_nA lh) so := by
  have c40 := J.1.1
  have loop : ∀ (f i lv : Nat) (hs hp ps lh : Nat → Nat), c < f + i → i ≤ c → lm_J c oc lv qo pr (lm_sg (lm_PV q st qo) (fun _ => 0) st i) co de ex pa hs hp ps ol ho lh → wX_revive_13 post (nI q) f (nI (lm_c (lm_PV q st qo) i)) (nI i) (nI c) (nI oc) (nI lv) (nI t) qo bd pr (lm_sg (lm_PV q st qo) (fun _ => 0) dl i) (lm_sg (lm_PV q st qo) (fun _ => 0) st i) co de ex (lm_nA hs) (lm_nA hp) (lm_nA ps) pa li (lm_nA ol) (lm_nA ho) (lm_nA lh) so := by
    intro f
    induction f with
    | zero => intro i lv hs hp ps lh h; omega
    | succ f ih =>
      intro i lv hs hp ps lh hf hi J
      have ci : (nI i).toNatClampNeg = i := nI_clamp (by omega)
      refine lm_le c i (fun z => ?_) (fun z => ?_)
      · have e : i = c := by omega
        subst e
        exact K lv hs hp ps lh J
      · have ii : vp_in (nI i) 40 := vp_in_nI (by omega) (by decide)
        have es : lm_sg (lm_PV q st qo) (fun _ => 0) st i i = st i := lm_sgo (by omega)
        have nx := fun lv hs hp ps lh => ih (i + 1) lv hs hp ps lh (by omega) (by omega)
        rw [ci, es]
        refine And.intro ii (br_c (fun e => And.intro ii (br_c (fun e2 => And.intro ii ?_) (fun e2 => ?_))) (fun e => ?_))
        · rw [← lm_sgt (P := lm_PV q st qo) (st := st) ⟨e, e2⟩, ← lm_sgt (P := lm_PV q st qo) (st := dl) ⟨e, e2⟩, lm_ct (P := lm_PV q st qo) ⟨e, e2⟩] at nx
          exact nm_e (lm_rj J z (by rw [es, e]; decide) (by rw [es, e]; decide) (fun lv' hs' hp' ps' lh' J' => nm_r (nI_1 _) (nm_r (nI_1 i) (nx lv' hs' hp' ps' lh' J'))))
        · rw [← lm_sgf (P := lm_PV q st qo) (st := st) (fun w => e2 w.2), ← lm_sgf (P := lm_PV q st qo) (st := dl) (fun w => e2 w.2), lm_cf (P := lm_PV q st qo) (fun w => e2 w.2)] at nx
          exact nm_r (nI_1 i) (nx lv hs hp ps lh J)
        · rw [← lm_sgf (P := lm_PV q st qo) (st := st) (fun w => e w.1), ← lm_sgf (P := lm_PV q st qo) (st := dl) (fun w => e w.1), lm_cf (P := lm_PV q st qo) (fun w => e w.1)] at nx
          exact nm_r (nI_1 i) (nx lv hs hp ps lh J)
  have z := loop (c + 1) 0 lv hs hp ps lh (by omega) (by omega)
  rw [lm_sg0, lm_sg0] at z
  exact Exists.intro (c + 1) (z J)
/-- some of those where P holds have got v already -/
def lm_mid (c : Nat) (P : Nat → Prop) (v st st' : Nat → Int32) : Prop := ∀ x, st' x = st x ∨ (x < c ∧ P x ∧ st' x = v x)
theorem lm_mid_end {c : Nat} {P : Nat → Prop} {v st st' : Nat → Int32} (h : lm_mid c P v st st') (hn : ∀ x, x < c → P x → st' x ≠ st x) : st' = lm_sg P v st c := by
  funext x
  by_cases w : x < c ∧ P x
  · rw [lm_sgp w]
    rcases h x with z | z
    · exact absurd z (hn x w.1 w.2)
    · exact z.2.2
  · rw [lm_sgo w]
    rcases h x with z | z
    · exact z
    · exact absurd ⟨z.1, z.2.1⟩ w
theorem lm_mid_s {c m : Nat} {P : Nat → Prop} {v st st' : Nat → Int32} (h : lm_mid c P v st st') (hm : m < c) (hP : P m) : lm_mid c P v st (upd st' m (v m)) := by
  intro x
  by_cases e : x = m
  · subst e
    rw [lm_Us]
    exact Or.inr ⟨hm, hP, rfl⟩
  · rw [lm_Un e]
    exact h x
theorem lm_xp2 {post : Int32 → SX → Prop} {r : Int32} (J : lm_J c oc lv qo pr st co de ex pa hs hp ps ol ho lh) (K : ∀ (lv' : Nat) (hs' hp' ps' lh' : Nat → Nat), lm_J c oc lv' qo pr (lm_sg (lm_PE t st ex) (fun _ => 2) st c) co de ex pa hs' hp' ps' ol ho lh' → post r (nI c, nI oc, nI (lv'), nI t, qo, bd, pr, dl, (lm_sg (lm_PE t st ex) (fun _ => 2) st c), co, de, ex, lm_nA hs', lm_nA hp', lm_nA ps', pa, li, lm_nA ol, lm_nA ho, lm_nA lh', so)) : ∃ n, wX_pass_66 post r n (nI c) (nI oc) (nI lv) (nI t) qo bd pr dl st co de ex (lm_nA hs) (lm_nA hp) (lm_nA ps) pa li (lm_nA ol) (lm_nA ho) (lm_nA lh) so := by
  have c40 := J.1.1
  have loop : ∀ (f lv : Nat) (st' : Nat → Int32) (hs hp ps lh : Nat → Nat), lv < f → lm_mid c (lm_PE t st ex) (fun _ => 2) st st' → lm_J c oc lv qo pr st' co de ex pa hs hp ps ol ho lh → wX_pass_66 post r f (nI c) (nI oc) (nI lv) (nI t) qo bd pr dl (st') co de ex (lm_nA hs) (lm_nA hp) (lm_nA ps) pa li (lm_nA ol) (lm_nA ho) (lm_nA lh) so := by
    intro f
    induction f with
    | zero => intro lv st' hs hp ps lh h; omega
    | succ f ih =>
      intro lv st' hs hp ps lh hf M J
      have J0 := J
      obtain ⟨g, Q, O, H, T, h1, I, h3⟩ := J
      have I0 := I
      obtain ⟨gp, b, h⟩ := I
      have hT : ∀ x, T x → x < 40 := fun x hx => by have := (h1 x hx).1; omega
      have l40 := lm_Ble b hT
      have fin : (∀ x, x < c → st' x = 0 → ¬ ex x < 0 → nI t < ex x) → post r (nI c, nI oc, nI lv, nI t, qo, bd, pr, dl, (st'), co, de, ex, lm_nA hs, lm_nA hp, lm_nA ps, pa, li, lm_nA ol, lm_nA ho, lm_nA lh, so) := by
        intro hx
        have e := lm_mid_end M (fun x hc hP w => hP.2.2 (hx x hc (w.trans hP.1) hP.2.1))
        rw [e] at J0 ⊢
        exact K lv hs hp ps lh J0
      by_cases l0 : lv = 0
      · refine br_t (by rw [l0, nI_0]; decide) (fin (fun x hx h0 hn => ?_))
        have := (b.2 x (h3 x hx h0 hn)).1
        omega
      · obtain ⟨n, en⟩ : ∃ n, lv = n + 1 := ⟨lv - 1, by omega⟩
        have hT0 : T (lh 0) := (b.1 0 (by omega)).1
        have hc0 := (h1 _ hT0).1
        have hx0 := (h1 _ hT0).2
        have c0' : (nI (lh 0)).toNatClampNeg = lh 0 := nI_clamp (by omega)
        have i0 : vp_in (nI (lh 0)) 40 := vp_in_nI (by omega) (by decide)
        refine br_f (nI_nle (by omega) (by omega)) ?_
        rw [lm_ap, c0']
        refine And.intro i0 (br_c (fun e => fin (fun x hx h0 hn => ?_)) (fun e => ?_))
        · have bx := b.2 x (h3 x hx h0 hn)
          have top := lm_Htop h _ _ (Nat.le_refl _) bx.1
          rw [bx.2] at top
          rw [Int32.lt_iff_toInt_lt] at e ⊢
          unfold lm_lt lm_ke at top
          omega
        · refine lm_fl hT en I0 (fun lh' I' => And.intro i0 ?_)
          show (st' (nI (lh 0)).toNatClampNeg = 0 → _) ∧ (¬ st' (nI (lh 0)).toNatClampNeg = 0 → _)
          rw [c0']
          refine br_c (fun e0 => ?_) (fun e0 => ?_)
          · obtain ⟨q, hq, eq⟩ := g.2.1 _ hc0
            refine lm_to (S := lm_SQ c qo st') hq eq (lm_Qlt c40) ⟨hc0, e0, eq, hq⟩ (fun q q' x => lm_SQd q q' x) Q (fun hs' hp' ps' Q' => And.intro i0 ?_)
            have hP : lm_PE t st ex (lh 0) := by
              refine ⟨?_, hx0, e⟩
              rcases M (lh 0) with w | w
              · rw [← w]; exact e0
              · have w2 : st' (lh 0) = 2 := w.2.2
                exact absurd (e0.symm.trans w2) (by decide)
            refine nm_e (ih n _ hs' hp' ps' lh' (by omega) (lm_mid_s M hc0 hP) ⟨lm_Gk g (by decide), lm_Qcong Q' (fun _ _ _ _ => rfl) (fun q' x _ => lm_SQn (by decide) q' x), lm_Ocong O (fun _ _ => rfl) (fun x => lm_SOk (by decide) (by rw [e0]; decide) x), lm_Hok H (by decide) (by rw [e0]; decide), ⟨_, fun x hx => h1 x hx.1, I', fun x hx hs0 hn => ?_⟩⟩)
            by_cases w : x = lh 0
            · rw [w, lm_Us] at hs0
              exact absurd hs0 (by decide)
            · rw [lm_Un w] at hs0
              exact ⟨h3 x hx hs0 hn, w⟩
          · refine ih n st' hs hp ps lh' (by omega) M ⟨g, Q, O, H, ⟨_, fun x hx => h1 x hx.1, I', fun x hx hs0 hn => ⟨h3 x hx hs0 hn, fun w => e0 (w ▸ hs0)⟩⟩⟩
  exact Exists.intro (lv + 1) (loop (lv + 1) lv st hs hp ps lh (by omega) (fun x => Or.inl rfl) J)
theorem lm_xp1 {post : Int32 → SX → Prop} (J : lm_J c oc lv qo pr st co de ex pa hs hp ps ol ho lh) (K : ∀ (oc' lv' : Nat) (hs' hp' ps' ol' ho' lh' : Nat → Nat), lm_J c oc' lv' qo pr (lm_sg (lm_PD t st de) (lm_cb dl li qo) st c) co de ex pa hs' hp' ps' ol' ho' lh' → ∃ n, wX_pass_66 post (nI (lm_c (lm_PD t st de) c)) n (nI c) (nI (oc')) (nI (lv')) (nI t) qo bd pr dl (lm_sg (lm_PD t st de) (lm_cb dl li qo) st c) co de ex (lm_nA hs') (lm_nA hp') (lm_nA ps') pa li (lm_nA ol') (lm_nA ho') (lm_nA lh') so) : ∃ n, wX_pass_25 post n 0 (nI c) (nI oc) (nI lv) (nI t) qo bd pr dl st co de ex (lm_nA hs) (lm_nA hp) (lm_nA ps) pa li (lm_nA ol) (lm_nA ho) (lm_nA lh) so := by
  have c40 := J.1.1
  have loop : ∀ (f n2 oc lv : Nat) (st' : Nat → Int32) (hs hp ps ol ho lh : Nat → Nat), oc < f → lm_mid c (lm_PD t st de) (lm_cb dl li qo) st st' → n2 + lm_c (lm_PD t st' de) c = lm_c (lm_PD t st de) c → lm_J c oc lv qo pr st' co de ex pa hs hp ps ol ho lh → wX_pass_25 post f (nI n2) (nI c) (nI oc) (nI lv) (nI t) qo bd pr dl (st') co de ex (lm_nA hs) (lm_nA hp) (lm_nA ps) pa li (lm_nA ol) (lm_nA ho) (lm_nA lh) so := by
    intro f
    induction f with
    | zero => intro n2 oc lv st' hs hp ps ol ho lh h; omega
    | succ f ih =>
      intro n2 oc lv st' hs hp ps ol ho lh hf M N J
      have O := J.2.2.1
      have oc6 := lm_oc6 J.2.2.2.1
      have fin : (∀ x, x < c → st' x = 1 → nI t < de x) → ∃ n, wX_pass_66 post (nI n2) n (nI c) (nI oc) (nI lv) (nI t) qo bd pr dl (st') co de ex (lm_nA hs) (lm_nA hp) (lm_nA ps) pa li (lm_nA ol) (lm_nA ho) (lm_nA lh) so := by
        intro hx
        have e := lm_mid_end M (fun x hc hP w => hP.2 (hx x hc (w.trans hP.1)))
        have z := lm_cz (P := lm_PD t st' de) c (fun x hc hP => hP.2 (hx x hc hP.1))
        rw [z, Nat.add_zero] at N
        rw [N]
        rw [e] at J ⊢
        exact K oc lv hs hp ps ol ho lh J
      by_cases l0 : oc = 0
      · refine br_t (by rw [l0, nI_0]; decide) (fin (fun x hx h1 => ?_))
        obtain ⟨i, hi, _⟩ := (O.1.2 x).mp ⟨hx, h1⟩
        omega
      · have hS0 : lm_SO c st' (ol 0) := (O.1.2 _).mpr ⟨0, by omega, rfl⟩
        have hc0 := hS0.1
        have c0' : (nI (ol 0)).toNatClampNeg = ol 0 := nI_clamp (by omega)
        refine br_f (nI_nle (by omega) (by omega)) ?_
        rw [lm_ap, c0']
        refine And.intro (vp_in_nI (by omega) (by decide)) (br_c (fun e => fin (fun x hx h1 => ?_)) (fun e => ?_))
        · obtain ⟨i, hi, ei⟩ := (O.1.2 x).mp ⟨hx, h1⟩
          by_cases w : i = 0
          · rw [← ei, w]; exact e
          · have := O.2 0 i (by omega) hi
            rw [ei] at this
            rw [Int32.lt_iff_toInt_lt] at e ⊢
            omega
        · have hP' : lm_PD t st' de (ol 0) := ⟨hS0.2, e⟩
          have hP : lm_PD t st de (ol 0) := by
            refine ⟨?_, e⟩
            rcases M (ol 0) with w | w
            · rw [← w]; exact hS0.2
            · exact absurd (w.2.2.symm.trans hS0.2) (lm_cb1 dl li qo (ol 0))
          refine lm_cbk J hc0 hS0.2 (fun oc' lv' hs' hp' ps' ol' ho' lh' eo J' => ?_)
          refine nm_r (nI_1 n2) (ih (n2 + 1) oc' lv' _ hs' hp' ps' ol' ho' lh' (by omega) (lm_mid_s M hc0 hP) ?_ J')
          have d := lm_cdel (Q := lm_PD t (upd st' (ol 0) (lm_cb dl li qo (ol 0))) de) hP' hc0 (fun x hx => ?_)
          · omega
          · unfold lm_PD
            by_cases w : x = ol 0
            · rw [w, lm_Us]
              exact ⟨fun z => absurd z.1 (lm_cb1 dl li qo (ol 0)), fun z => absurd rfl z.2⟩
            · rw [lm_Un w]
              exact ⟨fun z => ⟨z, w⟩, fun z => z.1⟩
  exact Exists.intro (oc + 1) (loop (oc + 1) 0 oc lv st hs hp ps ol ho lh (by omega) (fun x => Or.inl rfl) (by omega) J)
end
end
section
/-! the component's take, peek, and small ones of both -/
theorem lm_ix0 (q : Nat) : nI q * 40 = nI (40 * q) := by
  rw [Nat.mul_comm]
  exact lm_mul q 40
theorem lm_cmono {P Q : Nat → Prop} : ∀ n : Nat, (∀ x, x < n → P x → Q x) → lm_c P n ≤ lm_c Q n
  | 0, _ => Nat.le_refl 0
  | n + 1, h => by
    have i := lm_cmono n (fun x hx => h x (by omega))
    by_cases hP : P n
    · rw [lm_ct hP, lm_ct (h n (by omega) hP)]; omega
    · rw [lm_cf hP]
      show _ ≤ lm_c Q n + lm_b (Q n)
      omega
/-- fewer stand before x than are ready -/
theorem lm_BQlt {c : Nat} {qo st pr : Nat → Int32} {q x : Nat} (h : lm_SQ c qo st q x) : lm_c (lm_BQ c qo st pr q x) c < lm_c (lm_SQ c qo st q) c := by
  have a := lm_crem h c h.1
  have b := lm_cmono (P := lm_BQ c qo st pr q x) (Q := fun y => lm_SQ c qo st q y ∧ y ≠ x) c (fun y _ hy => ⟨hy.1, fun e => by
    have z := hy.2
    rw [e] at z
    exact lm_lt_ir z⟩)
  omega
/-- sorted: as many stand before the one at j -/
theorem lm_BQs {c n : Nat} {qo st pr : Nat → Int32} {q j : Nat} {s : Nat → Nat} (L : lm_L n (lm_SQ c qo st q) s) (hs : ∀ i j, i < j → j < n → lm_lt (lm_kp pr) (s i) (s j)) (hj : j < n) : lm_c (lm_BQ c qo st pr q (s j)) c = j := by
  refine lm_Lc j (g := s) ⟨fun a b hab hb => L.1 a b hab (by omega), fun x => ⟨fun z => ?_, fun z => ?_⟩⟩ (fun x hx => hx.1.1)
  · obtain ⟨i, hi, e⟩ := (L.2 x).mp z.1
    have z2 := z.2
    rw [← e] at z2
    refine ⟨i, ?_, e⟩
    rcases Nat.lt_trichotomy i j with w | w | w
    · exact w
    · rw [w] at z2; exact absurd z2 lm_lt_ir
    · exact absurd z2 (lm_lt_as (hs j i w hi))
  · obtain ⟨i, hi, e⟩ := z
    rw [← e]
    exact ⟨(L.2 _).mpr ⟨i, by omega, rfl⟩, hs i j hi hj⟩
theorem lm_Sin {K : Nat → Int} {g : Nat → Nat} {i n m : Nat} (h : ∀ i j, i < j → j < n → lm_lt K (g i) (g j)) (hi : i ≤ n) (h1 : ∀ j, i ≤ j → j < n → lm_lt K m (g j)) (h2 : 0 < i → ¬ lm_lt K m (g (i - 1))) (h3 : ∀ j, j < n → g j ≠ m) : ∀ a b, a < b → b < n + 1 → lm_lt K (lm_in g i n m a) (lm_in g i n m b) := by
  have lo : ∀ a, a < i → lm_lt K (g a) m := by
    intro a ha
    have z := lm_lt_tot (h2 (by omega)) (fun e => h3 (i - 1) (by omega) e.symm)
    by_cases e : a = i - 1
    · rw [e]; exact z
    · exact lm_lt_tr (h a (i - 1) (by omega) (by omega)) z
  intro a b hab hb
  rcases Nat.lt_trichotomy a i with w | w | w
  · rw [lm_inL w]
    rcases Nat.lt_trichotomy b i with k | k | k
    · rw [lm_inL k]; exact h a b hab (by omega)
    · rw [k, lm_inI]; exact lo a w
    · rw [lm_inH k (by omega)]
      exact lm_lt_tr (lo a w) (h1 (b - 1) (by omega) (by omega))
  · rw [w, lm_inI, lm_inH (by omega) (by omega)]
    exact h1 (b - 1) (by omega) (by omega)
  · rw [lm_inH w (by omega), lm_inH (by omega) (by omega)]
    exact h (a - 1) (b - 1) (by omega) (by omega)
section
variable {c oc lv t : Nat} {hs hp ps ol ho lh : Nat → Nat} {qo bd pr dl st co de ex pa li so : Nat → Int32}
theorem lm_pkI {post : Int32 → SX → Prop} {JJ : Int32 → (Nat → Int32) → (Nat → Int32) → (Nat → Int32) → (Nat → Int32) → (Nat → Int32) → (Nat → Int32) → (Nat → Int32) → (Nat → Int32) → (Nat → Int32) → (Nat → Int32) → (Nat → Int32) → (Nat → Int32) → (Nat → Int32) → (Nat → Int32) → (Nat → Int32) → (Nat → Int32) → (Nat → Int32) → Prop} {x1 x2 : Int32} {k m : Nat} {s : Nat → Nat} (hk : k < 40) (hm : m < 40) (h40 : ∀ j, j < k → s j < 40) (K : ∀ (i : Nat) (so' : Nat → Int32), i ≤ k → (∀ j, j ≤ k → so' j = nI (lm_in s i k m j)) → (∀ j, i ≤ j → j < k → lm_lt (lm_kp pr) m (s j)) → (0 < i → ¬ lm_lt (lm_kp pr) m (s (i - 1))) → JJ (nI (k + 1)) qo bd pr dl st co de ex (lm_nA hs) (lm_nA hp) (lm_nA ps) pa li (lm_nA ol) (lm_nA ho) (lm_nA lh) (so')) : ∀ (f i : Nat) (so : Nat → Int32), i < f → i ≤ k → (∀ j, j ≤ k → j ≠ i → so j = nI (lm_sh s i k j)) → (∀ j, i ≤ j → j < k → lm_lt (lm_kp pr) m (s j)) → wX_peek_54 post JJ x1 x2 (nI k) (nI m) (nI c) (nI oc) (nI lv) (nI t) f (nI i) qo bd pr dl st co de ex (lm_nA hs) (lm_nA hp) (lm_nA ps) pa li (lm_nA ol) (lm_nA ho) (lm_nA lh) so := by
  intro f
  induction f with
  | zero => intro i so h; omega
  | succ f ih =>
    intro i so hf hi hso h1
    have ci : (nI i).toNatClampNeg = i := nI_clamp (by omega)
    have ii : vp_in (nI i) 40 := vp_in_nI (by omega) (by decide)
    have fin : (0 < i → ¬ lm_lt (lm_kp pr) m (s (i - 1))) → JJ (nI (k + 1)) qo bd pr dl st co de ex (lm_nA hs) (lm_nA hp) (lm_nA ps) pa li (lm_nA ol) (lm_nA ho) (lm_nA lh) (upd so i (nI m)) := by
      intro h2
      refine K i _ hi (fun j hj => ?_) h1 h2
      by_cases e : j = i
      · rw [e, lm_Us, lm_inI]
      · rw [lm_Un e, hso j hj e]
        unfold lm_in
        rw [lm_un e]
    by_cases i0 : i = 0
    · refine br_t (by rw [i0, nI_0]; decide) (And.intro ii ?_)
      rw [ci]
      exact nm_e (nm_r (nI_1 k) (fin (by omega)))
    · have e0 : nI i - 1 = nI (i - 1) := lm_s1 (by omega)
      have e1 : nI i + (-1) = nI (i - 1) := lm_m1 (by omega)
      have es : so (i - 1) = nI (s (i - 1)) := by
        rw [hso (i - 1) (by omega) (by omega), lm_shlo (by omega)]
      have i1 : vp_in (nI (i - 1)) 40 := vp_in_nI (by omega) (by decide)
      refine br_f (nI_nle (by omega) (by omega)) ?_
      simp only [e0, e1, ci, nI_clamp (show i - 1 < 2 ^ 31 by omega), es]
      refine And.intro i1 (lm_before hm (h40 _ (by omega)) (fun hl => br_f (by decide) ?_) (fun hl => br_t rfl (And.intro ii (nm_e (nm_r (nI_1 k) (fin (fun _ => hl)))))))
      refine And.intro i1 (And.intro ii (nm_e (nm_e (ih (i - 1) _ (by omega) (by omega) (fun j hj hne => ?_) (fun j hj hj2 => ?_)))))
      · by_cases e : j = i
        · rw [e, lm_Us, lm_shhi (by omega) (by omega)]
        · rw [lm_Un e, hso j hj e]
          unfold lm_sh
          by_cases w : i < j ∧ j ≤ k
          · rw [if_pos w, if_pos (by omega)]
          · rw [if_neg w, if_neg (by omega)]
      · by_cases e : j = i - 1
        · rw [e]; exact hl
        · exact h1 j (by omega) hj2
theorem lm_pkO {post : Int32 → SX → Prop} {q v n : Nat} {S : Nat → Prop} (hq : q < 3) (en : hs q = n) (hn : n ≤ 40) (hv : v < n) (hS : ∀ x, S x → x < 40) (L : lm_L n S (lm_w hp q)) (K : ∀ (so' : Nat → Int32) (s : Nat → Nat), lm_L n S s → (∀ i j, i < j → j < n → lm_lt (lm_kp pr) (s i) (s j)) → post (nI (s v)) (nI c, nI oc, nI lv, nI t, qo, bd, pr, dl, st, co, de, ex, lm_nA hs, lm_nA hp, lm_nA ps, pa, li, lm_nA ol, lm_nA ho, lm_nA lh, (so'))) : ∃ f, wX_peek_28 post (nI q) (nI v) (nI c) (nI oc) (nI lv) (nI t) f 0 qo bd pr dl st co de ex (lm_nA hs) (lm_nA hp) (lm_nA ps) pa li (lm_nA ol) (lm_nA ho) (lm_nA lh) so := by
  have cq : (nI q).toNatClampNeg = q := nI_clamp (by omega)
  have iq : vp_in (nI q) 3 := vp_in_nI hq (by decide)
  have cv : (nI v).toNatClampNeg = v := nI_clamp (by omega)
  have loop : ∀ (f k : Nat) (so : Nat → Int32) (s : Nat → Nat), n < f + k → k ≤ n → (∀ j, j < k → so j = nI (s j)) → lm_L k (fun x => ∃ i, i < k ∧ lm_w hp q i = x) s → (∀ i j, i < j → j < k → lm_lt (lm_kp pr) (s i) (s j)) → wX_peek_28 post (nI q) (nI v) (nI c) (nI oc) (nI lv) (nI t) f (nI k) qo bd pr dl st co de ex (lm_nA hs) (lm_nA hp) (lm_nA ps) pa li (lm_nA ol) (lm_nA ho) (lm_nA lh) so := by
    intro f
    induction f with
    | zero => intro k so s h; omega
    | succ f ih =>
      intro k so s hf hk hso hL hss
      refine And.intro iq ?_
      rw [cq, lm_ap, en, cv]
      refine lm_le n k (fun z => ?_) (fun z => ?_)
      · have e : k = n := by omega
        subst e
        refine And.intro (vp_in_nI (by omega) (by decide)) ?_
        rw [hso v hv]
        exact K so s ⟨hL.1, fun x => (L.2 x).trans (hL.2 x)⟩ hss
      · rw [lm_ix, nI_clamp (show 40 * q + k < 2 ^ 31 by omega)]
        have mem : ∀ j, j < n → S (hp (40 * q + j)) := fun j hj => (L.2 _).mpr ⟨j, hj, rfl⟩
        have nm : ¬ ∃ i, i < k ∧ lm_w hp q i = hp (40 * q + k) := by
          intro w
          obtain ⟨i, hi, e⟩ := w
          exact L.1 i k hi z e
        have s40 : ∀ j, j < k → s j < 40 := by
          intro j hj
          obtain ⟨i, hi, e⟩ := (hL.2 (s j)).mpr ⟨j, hj, rfl⟩
          rw [← e]
          exact hS _ (mem i (by omega))
        refine And.intro (vp_in_nI (by omega) (by decide)) (nm_e (Exists.intro (k + 1) (lm_pkI (s := s) (m := hp (40 * q + k)) (by omega) (hS _ (mem k z)) s40 (fun i so' hi hso' h1 h2 => ?_) (k + 1) k so (by omega) (by omega) (fun j hj hne => ?_) (fun j hj hj2 => by omega))))
        · refine ih (k + 1) so' (lm_in s i k (hp (40 * q + k))) (by omega) (by omega) (fun j hj => hso' j (by omega)) ?_ (lm_Sin hss hi h1 h2 (fun j hj e => nm (e ▸ (hL.2 (s j)).mpr ⟨j, hj, rfl⟩)))
          have L' := lm_Lin hL hi nm
          refine ⟨L'.1, fun x => (Iff.trans ?_ (L'.2 x))⟩
          constructor
          · intro w
            obtain ⟨j, hj, e⟩ := w
            by_cases ej : j = k
            · rw [ej] at e; exact Or.inr e.symm
            · exact Or.inl ⟨j, by omega, e⟩
          · intro w
            rcases w with ⟨j, hj, e⟩ | w
            · exact ⟨j, by omega, e⟩
            · exact ⟨k, by omega, w.symm⟩
        · rw [lm_shlo (by omega)]
          exact hso j (by omega)
  exact Exists.intro (n + 1) (loop (n + 1) 0 so (fun _ => 0) (by omega) (by omega) (fun j hj => by omega) ⟨fun i j hi hj => by omega, fun x => ⟨fun z => z.elim (fun i hi => by omega), fun z => z.elim (fun i hi => by omega)⟩⟩ (fun i j hi hj => by omega))
theorem lm_no1 {post : Int32 → Prop} {k m : Nat} (hc : c ≤ 40) (hm : m < c) (e1 : st m = 1) (e2 : co m = nI k) (h : post 0) : wpX_notOut post (nI c, nI oc, nI lv, nI t, qo, bd, pr, dl, st, co, de, ex, lm_nA hs, lm_nA hp, lm_nA ps, pa, li, lm_nA ol, lm_nA ho, lm_nA lh, so) (nI k) (nI m) := by
  unfold wpX_notOut
  dsimp only
  rw [nI_clamp (show m < 2 ^ 31 by omega)]
  have im : vp_in (nI m) 40 := vp_in_nI (by omega) (by decide)
  exact br_f (nI_pos (by omega)) (br_t (nI_lt hm (by omega)) (And.intro im (br_t e1 (And.intro im (br_t e2 h)))))
theorem lm_no0 {post : Int32 → Prop} {k : Nat} {x : Int32} (hc : c ≤ 40) (hn : ¬ ∃ m, x = nI m ∧ m < c ∧ st m = 1 ∧ co m = nI k) (h : post 1) : wpX_notOut post (nI c, nI oc, nI lv, nI t, qo, bd, pr, dl, st, co, de, ex, lm_nA hs, lm_nA hp, lm_nA ps, pa, li, lm_nA ol, lm_nA ho, lm_nA lh, so) (nI k) x := by
  unfold wpX_notOut
  dsimp only
  by_cases z : x < 0
  · exact br_t z h
  · obtain ⟨m, hm, rfl⟩ := nI_of z
    refine br_f z ?_
    rw [nI_clamp hm]
    refine lm_ltb m c (fun w => ?_) (fun w => h)
    have im : vp_in (nI m) 40 := vp_in_nI (by omega) (by decide)
    exact And.intro im (br_c (fun e => And.intro im (br_c (fun e2 => absurd ⟨m, rfl, w, e, e2⟩ hn) (fun _ => h))) (fun _ => h))
theorem lm_rf1 {post : Int32 → Prop} {k m : Nat} (hc : c ≤ 40) (hk : k < 3) (hm : m < c) (e1 : st m = 1) (e2 : co m = nI k) (h : post 0) : wpY_refusal post (nI c, nI t, qo, bd, pr, st, dl, co, de, ex, pa, li) (nI k) (nI m) := by
  unfold wpY_refusal
  dsimp only
  rw [nI_clamp (show m < 2 ^ 31 by omega)]
  have im : vp_in (nI m) 40 := vp_in_nI (by omega) (by decide)
  refine lm_t1 hk (br_f (by decide) (br_f (nI_pos (by omega)) (br_f (nI_ge hm (by omega)) (And.intro im (br_t e1 (And.intro im (br_t e2 ?_)))))))
  unfold wY_refusal_48
  exact br_f (by decide) h
theorem lm_rf0 {post : Int32 → Prop} {k : Nat} {x : Int32} (hc : c ≤ 40) (hk : k < 3) (hn : ¬ ∃ m, x = nI m ∧ m < c ∧ st m = 1 ∧ co m = nI k) (h : post (-6)) : wpY_refusal post (nI c, nI t, qo, bd, pr, st, dl, co, de, ex, pa, li) (nI k) x := by
  unfold wpY_refusal
  dsimp only
  have h7 : wY_refusal_47 post (nI c) (nI t) qo bd pr st dl co de ex pa li := by
    unfold wY_refusal_47 wY_refusal_48
    exact br_t rfl h
  refine lm_t1 hk (br_f (by decide) ?_)
  by_cases z : x < 0
  · exact br_t z h7
  · obtain ⟨m, hm, rfl⟩ := nI_of z
    refine br_f z ?_
    rw [nI_clamp hm]
    refine lm_le c m (fun w => h7) (fun w => ?_)
    have im : vp_in (nI m) 40 := vp_in_nI (by omega) (by decide)
    exact And.intro im (br_c (fun e => And.intro im (br_c (fun e2 => absurd ⟨m, rfl, w, e, e2⟩ hn) (fun _ => h7))) (fun _ => h7))
theorem lm_rfb {post : Int32 → Prop} {x y : Int32} (hx : x < 0 ∨ (¬ x < 0 ∧ 3 ≤ x)) (h : post (-2)) : wpY_refusal post (nI c, nI t, qo, bd, pr, st, dl, co, de, ex, pa, li) x y := by
  unfold wpY_refusal
  dsimp only
  exact lm_t0 hx (br_t rfl h)
end
end
section
/-! the component's publish, take, acknowledge, renew: general posts -/
section
variable {c oc lv t : Nat} {hs hp ps ol ho lh : Nat → Nat} {qo bd pr dl st co de ex pa li so : Nat → Int32}
theorem lm_xt {post : Int32 → SX → Prop} {q k : Nat} (J : lm_J c oc lv qo pr st co de ex pa hs hp ps ol ho lh) (ht : t ≤ 100000) (hq : q < 3) (hk : k < 3) (h2 : ho k < 2) (h0 : 0 < hs q) (K : ∀ (m : Nat) (hs' hp' ps' ol' : Nat → Nat), lm_SQ c qo st q m → (∀ x, lm_SQ c qo st q x → ¬ lm_lt (lm_kp pr) x m) → lm_J c (oc + 1) lv qo pr (upd st m 1) (upd co m (nI k)) (upd de m (nI t + pa q)) ex pa hs' hp' ps' ol' (lm_u ho k (ho k + 1)) lh → post (nI m) (nI c, nI (oc + 1), nI lv, nI t, qo, bd, pr, (upd dl m (dl m + 1)), (upd st m 1), (upd co m (nI k)), (upd de m (nI t + pa q)), ex, lm_nA hs', lm_nA hp', lm_nA ps', pa, li, lm_nA ol', lm_nA (lm_u ho k (ho k + 1)), lm_nA lh, so)) : wpX_take post (nI c, nI oc, nI lv, nI t, qo, bd, pr, dl, st, co, de, ex, lm_nA hs, lm_nA hp, lm_nA ps, pa, li, lm_nA ol, lm_nA ho, lm_nA lh, so) (nI q) (nI k) := by
  obtain ⟨g, Q, O, H, LV⟩ := J
  have c40 := g.1
  have iq : vp_in (nI q) 3 := vp_in_nI hq (by decide)
  have ik : vp_in (nI k) 3 := vp_in_nI hk (by decide)
  have cq : (nI q).toNatClampNeg = q := nI_clamp (by omega)
  have ck : (nI k).toNatClampNeg = k := nI_clamp (by omega)
  obtain ⟨b, h⟩ := Q q hq
  have l40 := lm_Ble b (fun x hx => lm_Qlt c40 q x hx)
  obtain ⟨m, em⟩ : ∃ m, hp (40 * q) = m := ⟨_, rfl⟩
  have hSm : lm_SQ c qo st q m := by
    rw [← em]
    exact (b.1 0 h0).1
  have top : ∀ x, lm_SQ c qo st q x → ¬ lm_lt (lm_kp pr) x m := by
    intro x hx
    have bx := b.2 x hx
    have z := lm_Htop h _ _ (Nat.le_refl _) bx.1
    rw [bx.2] at z
    rw [← em]
    exact z
  have hmc := hSm.1
  have im : vp_in (nI m) 40 := vp_in_nI (by omega) (by decide)
  have cm : (nI m).toNatClampNeg = m := nI_clamp (by omega)
  have n1 : st m ≠ 1 := by
    rw [hSm.2.1]
    decide
  have oc5 : oc < 6 := by
    have s := H.1
    have a0 := (H.2 0 (by omega)).1
    have a1 := (H.2 1 (by omega)).1
    have a2 := (H.2 2 (by omega)).1
    have h' : k = 0 ∨ k = 1 ∨ k = 2 := by omega
    rcases h' with e | e | e
    · subst e; omega
    · subst e; omega
    · subst e; omega
  obtain ⟨j, hj, ej⟩ := g.2.2.2 q hq
  unfold wpX_take
  dsimp only
  refine lm_bq1 hq (br_t rfl (lm_bc1 hk (br_t rfl (And.intro ik ?_))))
  rw [ck, lm_ap]
  refine br_t (nI_lt (b := 2) h2 (by decide)) (And.intro iq ?_)
  rw [cq, lm_ap]
  refine br_f (nI_ne0 h0 (by omega)) ?_
  rw [lm_ix0, nI_clamp (show 40 * q < 2 ^ 31 by omega), lm_ap hp, em]
  refine And.intro (vp_in_nI (by omega) (by decide)) (nm_e ?_)
  refine lm_to (S := lm_SQ c qo st) hq hSm.2.2.1 (lm_Qlt c40) hSm (fun q q' x => lm_SQd q q' x) Q (fun hs' hp' ps' Q' => ?_)
  show vp_in (nI m) 40 ∧ _
  simp only [cm, lm_ap, nI_1, lm_uA]
  refine And.intro im (nm_e (And.intro im (And.intro im (nm_e (And.intro im (nm_e (And.intro ik (And.intro ik (nm_e (And.intro iq (And.intro im (nm_e ?_))))))))))))
  have O1 : lm_O oc ol (upd de m (nI t + pa q)) (lm_SO c st) := lm_Ocong O (fun x hx => lm_Un (fun e => n1 (e ▸ hx.2))) (fun _ => Iff.rfl)
  refine lm_ao (by omega) oc5 (fun x hx => by have := hx.1; omega) (fun z => n1 z.2) O1 (fun ol' O' => ?_)
  refine K m hs' hp' ps' ol' hSm top ⟨⟨c40, g.2.1, fun x hx h1 => ?_, g.2.2.2⟩, lm_Qcong Q' (fun _ _ _ _ => rfl) (fun q' x _ => lm_SQn (by decide) q' x), lm_Ocong O' (fun _ _ => rfl) (fun x => lm_SO1 hmc x), lm_Hoa H hmc hk n1 h2, lm_LVk LV (by decide)⟩
  by_cases e : x = m
  · subst e
    rw [lm_Us, lm_Us, ej, nI_add, nI_toInt (by omega)]
    exact ⟨⟨k, hk, rfl⟩, by omega⟩
  · rw [lm_Un e] at h1
    rw [lm_Un e, lm_Un e]
    exact g.2.2.1 x hx h1
theorem lm_xa {post : Int32 → SX → Prop} {m k : Nat} (J : lm_J c oc lv qo pr st co de ex pa hs hp ps ol ho lh) (hm : m < c) (hk : k < 3) (e1 : st m = 1) (ek : co m = nI k) (K : ∀ (oc' : Nat) (ol' : Nat → Nat), lm_J c oc' lv qo pr (upd st m 2) co de ex pa hs hp ps ol' (lm_u ho k (ho k - 1)) lh → post (nI (lm_c (lm_P (upd st m 2) co k) c)) (nI c, nI (oc'), nI lv, nI t, qo, bd, pr, dl, (upd st m 2), co, de, ex, lm_nA hs, lm_nA hp, lm_nA ps, pa, li, lm_nA ol', lm_nA (lm_u ho k (ho k - 1)), lm_nA lh, so)) : wpX_acknowledge post (nI c, nI oc, nI lv, nI t, qo, bd, pr, dl, st, co, de, ex, lm_nA hs, lm_nA hp, lm_nA ps, pa, li, lm_nA ol, lm_nA ho, lm_nA lh, so) (nI k) (nI m) := by
  obtain ⟨g, Q, O, H, LV⟩ := J
  have c40 := g.1
  have ik : vp_in (nI k) 3 := vp_in_nI hk (by decide)
  have ck : (nI k).toNatClampNeg = k := nI_clamp (by omega)
  have im : vp_in (nI m) 40 := vp_in_nI (by omega) (by decide)
  have cm : (nI m).toNatClampNeg = m := nI_clamp (by omega)
  have oc0 : 0 < oc := by
    obtain ⟨i, hi, _⟩ := (O.1.2 m).mp ⟨hm, e1⟩
    omega
  have oc6 := lm_oc6 H
  obtain ⟨n, en⟩ : ∃ n, oc = n + 1 := ⟨oc - 1, by omega⟩
  rw [en] at H
  have hd := lm_Hod (v := 2) H hm hk e1 ek (by decide)
  unfold wpX_acknowledge
  dsimp only
  refine lm_bc1 hk (br_t rfl (lm_no1 c40 hm e1 ek (br_t rfl ?_)))
  refine lm_do en oc6 (fun x hx => by have := hx.1; omega) ⟨hm, e1⟩ O (fun ol' O' => ?_)
  show vp_in (nI k) 3 ∧ _
  simp only [cm, ck, lm_ap, lm_s1 hd.1, lm_uA]
  have ev := (hd.2.2 k hk).2
  have z := K n ol' ⟨lm_Gk g (by decide), lm_Qcong Q (fun _ _ _ _ => rfl) (fun q' x _ => lm_SQk (by decide) (by rw [e1]; decide) q' x), lm_Ocong O' (fun _ _ => rfl) (fun x => lm_SOn (by decide) x), hd.2, lm_LVk LV (by decide)⟩
  rw [← ev] at z
  exact And.intro ik (And.intro ik (nm_e (And.intro im (nm_e (And.intro ik z)))))
theorem lm_xn {post : Int32 → SX → Prop} {m k q : Nat} (J : lm_J c oc lv qo pr st co de ex pa hs hp ps ol ho lh) (ht : t ≤ 100000) (hm : m < c) (hk : k < 3) (hq : q < 3) (e1 : st m = 1) (ek : co m = nI k) (eq : qo m = nI q) (K : ∀ (oc' : Nat) (ol' : Nat → Nat), lm_J c oc' lv qo pr st co (upd de m (nI t + pa q)) ex pa hs hp ps ol' ho lh → post (nI t + pa q) (nI c, nI (oc'), nI lv, nI t, qo, bd, pr, dl, st, co, (upd de m (nI t + pa q)), ex, lm_nA hs, lm_nA hp, lm_nA ps, pa, li, lm_nA ol', lm_nA ho, lm_nA lh, so)) : wpX_renew post (nI c, nI oc, nI lv, nI t, qo, bd, pr, dl, st, co, de, ex, lm_nA hs, lm_nA hp, lm_nA ps, pa, li, lm_nA ol, lm_nA ho, lm_nA lh, so) (nI k) (nI m) := by
  obtain ⟨g, Q, O, H, LV⟩ := J
  have c40 := g.1
  have im : vp_in (nI m) 40 := vp_in_nI (by omega) (by decide)
  have iq : vp_in (nI q) 3 := vp_in_nI hq (by decide)
  have cm : (nI m).toNatClampNeg = m := nI_clamp (by omega)
  have cq : (nI q).toNatClampNeg = q := nI_clamp (by omega)
  have oc0 : 0 < oc := by
    obtain ⟨i, hi, _⟩ := (O.1.2 m).mp ⟨hm, e1⟩
    omega
  have oc6 := lm_oc6 H
  obtain ⟨n, en⟩ : ∃ n, oc = n + 1 := ⟨oc - 1, by omega⟩
  obtain ⟨j, hj, ej⟩ := g.2.2.2 q hq
  unfold wpX_renew
  dsimp only
  refine lm_bc1 hk (br_t rfl (lm_no1 c40 hm e1 ek (br_t rfl ?_)))
  refine lm_do en oc6 (fun x hx => by have := hx.1; omega) ⟨hm, e1⟩ O (fun ol' O' => ?_)
  show vp_in (nI m) 40 ∧ _
  simp only [cm, eq, cq]
  refine And.intro im (And.intro iq (And.intro im (nm_e ?_)))
  have O1 : lm_O n ol' (upd de m (nI t + pa q)) (fun x => lm_SO c st x ∧ x ≠ m) := lm_Ocong O' (fun x hx => lm_Un hx.2) (fun _ => Iff.rfl)
  refine lm_ao (by omega) (by omega) (fun x hx => by have := hx.1.1; omega) (fun z => z.2 rfl) O1 (fun ol2 O2 => ?_)
  have z := K (n + 1) ol2 ⟨⟨c40, g.2.1, fun x hx h1 => ?_, g.2.2.2⟩, Q, lm_Ocong O2 (fun _ _ => rfl) (fun x => ⟨fun w => ?_, fun w => ?_⟩), en ▸ H, LV⟩
  · show vp_in (nI m) 40 ∧ post (upd de m (nI t + pa q) m) _
    rw [lm_Us]
    exact And.intro im z
  · have gx := g.2.2.1 x hx h1
    by_cases e : x = m
    · subst e
      rw [lm_Us, ej, nI_add, nI_toInt (by omega)]
      exact ⟨gx.1, by omega⟩
    · rw [lm_Un e]
      exact gx
  · by_cases e : x = m
    · exact Or.inr e
    · exact Or.inl ⟨w, e⟩
  · rcases w with w | w
    · exact w.1
    · rw [w]; exact ⟨hm, e1⟩
theorem lm_LIcong {ex ex' : Nat → Int32} {lv : Nat} {lh : Nat → Nat} {T : Nat → Prop} (I : lm_LI ex lv lh T) (h : ∀ x, T x → ex' x = ex x) : lm_LI ex' lv lh T := by
  obtain ⟨gp, b, w⟩ := I
  refine ⟨gp, b, lm_Hcong w (fun _ _ => rfl) (fun j hj => ?_)⟩
  unfold lm_ke
  rw [h _ (b.1 j hj).1]
theorem lm_xp {post : Int32 → SX → Prop} {q l : Nat} {v2 v3 z0 : Int32} (J : lm_J c oc lv qo pr st co de ex pa hs hp ps ol ho lh) (hc : c < 40) (hq : q < 3) (hl : l ≤ 50) (hz0 : l = 0 → z0 < 0) (hz1 : 0 < l → ¬ z0 < 0) (K : ∀ (lv' : Nat) (hs' hp' ps' lh' : Nat → Nat), lm_J (c + 1) oc lv' (upd qo c (nI q)) (upd pr c v3) (upd st c 0) co de (upd ex c z0) pa hs' hp' ps' ol ho lh' → post (nI c) (nI (c + 1), nI oc, nI (lv'), nI t, (upd qo c (nI q)), (upd bd c v2), (upd pr c v3), (upd dl c 0), (upd st c 0), co, de, (upd ex c z0), lm_nA hs', lm_nA hp', lm_nA ps', pa, li, lm_nA ol, lm_nA ho, lm_nA lh', so)) : wX_publish_105 post (nI l) (nI c) z0 (nI c) (nI c) (nI oc) (nI lv) (nI t) (upd qo c (nI q)) (upd bd c v2) (upd pr c v3) (upd dl c 0) st co de ex (lm_nA hs) (lm_nA hp) (lm_nA ps) pa li (lm_nA ol) (lm_nA ho) (lm_nA lh) so := by
  obtain ⟨g, Q, O, H, T, h1, I, h3⟩ := J
  have ic : vp_in (nI c) 40 := vp_in_nI hc (by decide)
  have cc : (nI c).toNatClampNeg = c := nI_clamp (by omega)
  have Q1 : lm_Q (lm_kp (upd pr c v3)) hs hp ps (lm_SQ c qo st) := by
    refine lm_Qcong Q (fun q x _ hx => ?_) (fun _ _ _ => Iff.rfl)
    unfold lm_kp
    rw [lm_Un (by have := hx.1; omega)]
  have I1 : lm_LI (upd ex c z0) lv lh T := lm_LIcong I (fun x hx => lm_Un (by have := (h1 x hx).1; omega))
  have hT : ∀ x, T x → x < 40 := fun x hx => by have := (h1 x hx).1; omega
  have h1' : ∀ x, T x → x < c + 1 ∧ ¬ upd ex c z0 x < 0 := by
    intro x hx
    have w := h1 x hx
    rw [lm_Un (by omega)]
    exact ⟨by omega, w.2⟩
  have rest : ∀ (lv' : Nat) (hs' hp' ps' lh' : Nat → Nat), lm_Q (lm_kp (upd pr c v3)) hs' hp' ps' (fun q' x => lm_SQ c qo st q' x ∨ (x = c ∧ q' = q)) → lm_LV (c + 1) lv' (upd st c 0) (upd ex c z0) lh' → lm_J (c + 1) oc lv' (upd qo c (nI q)) (upd pr c v3) (upd st c 0) co de (upd ex c z0) pa hs' hp' ps' ol ho lh' := by
    intro lv' hs' hp' ps' lh' Q' LV'
    refine ⟨⟨by omega, fun x hx => ?_, fun x hx hs1 => ?_, g.2.2.2⟩, lm_Qcong Q' (fun _ _ _ _ => rfl) (fun q' x h3q => ?_), lm_Ocong O (fun _ _ => rfl) (fun x => ?_), ⟨H.1, fun k hk => ⟨(H.2 k hk).1, ?_⟩⟩, LV'⟩
    · by_cases e : x = c
      · rw [e, lm_Us]; exact ⟨q, hq, rfl⟩
      · rw [lm_Un e]; exact g.2.1 x (by omega)
    · by_cases e : x = c
      · rw [e, lm_Us] at hs1; exact absurd hs1 (by decide)
      · rw [lm_Un e] at hs1; exact g.2.2.1 x (by omega) hs1
    · unfold lm_SQ
      by_cases e : x = c
      · rw [e, lm_Us, lm_Us]
        refine ⟨fun w => Or.inr ⟨rfl, (lm_n3 hq w.2.2.2 w.2.2.1).symm⟩, fun w => ?_⟩
        rcases w with w | w
        · exact absurd w.1 (Nat.lt_irrefl c)
        · rw [w.2]; exact ⟨by omega, rfl, rfl, hq⟩
      · rw [lm_Un e, lm_Un e]
        refine ⟨fun w => Or.inl ⟨by omega, w.2⟩, fun w => ?_⟩
        rcases w with w | w
        · exact ⟨by omega, w.2⟩
        · exact absurd w.1 e
    · unfold lm_SO
      by_cases e : x = c
      · rw [e, lm_Us]
        exact ⟨fun w => absurd w.2 (by decide), fun w => absurd w.1 (Nat.lt_irrefl c)⟩
      · rw [lm_Un e]
        exact ⟨fun w => ⟨by omega, w.2⟩, fun w => ⟨by omega, w.2⟩⟩
    · rw [(H.2 k hk).2, lm_cf (P := lm_P (upd st c 0) co k) (n := c)]
      · refine lm_cc c (fun x hx => ?_)
        unfold lm_P
        rw [lm_Un (by omega)]
      · intro w
        have w1 := w.1
        rw [lm_Us] at w1
        exact absurd w1 (by decide)
  unfold wX_publish_105
  rw [cc]
  refine And.intro ic (nm_e (nm_r (nI_1 c) ?_))
  refine lm_mk (S := lm_SQ c qo st) hc hq (lm_Us _ _ _) (lm_Qlt (by omega)) (fun q z => Nat.lt_irrefl c z.1) (fun q q' x => lm_SQd q q' x) Q1 (fun hs' hp' ps' Q' => ?_)
  refine lm_le l 0 (fun w => ?_) (fun w => ?_)
  · refine K lv hs' hp' ps' lh (rest _ _ _ _ _ Q' ⟨T, h1', I1, fun x hx h0 hn => ?_⟩)
    by_cases e : x = c
    · rw [e, lm_Us] at hn; exact absurd (hz0 (by omega)) hn
    · rw [lm_Un e] at h0 hn; exact h3 x (by omega) h0 hn
  · refine lm_al hc hT (fun z => Nat.lt_irrefl c (h1 c z).1) I1 (fun lh' I2 => ?_)
    refine K (lv + 1) hs' hp' ps' lh' (rest _ _ _ _ _ Q' ⟨_, fun x hx => ?_, I2, fun x hx h0 hn => ?_⟩)
    · rcases hx with hx | hx
      · exact h1' x hx
      · rw [hx, lm_Us]; exact ⟨by omega, hz1 w⟩
    · by_cases e : x = c
      · exact Or.inr e
      · rw [lm_Un e] at h0 hn; exact Or.inl (h3 x (by omega) h0 hn)
end
end
section
/-! the relation: the reference's state is a part of the component's; the rest is as lm_J says -/
def i_Rel (k : Nat) (u : SX) (v : SY) : Prop := ∃ (c oc lv t : Nat) (hs hp ps ol ho lh : Nat → Nat) (qo bd pr dl st co de ex pa li so : Nat → Int32), u = (nI c, nI oc, nI lv, nI t, qo, bd, pr, dl, st, co, de, ex, lm_nA hs, lm_nA hp, lm_nA ps, pa, li, lm_nA ol, lm_nA ho, lm_nA lh, so) ∧ v = (nI c, nI t, qo, bd, pr, st, dl, co, de, ex, pa, li) ∧ t ≤ 20 * k ∧ lm_J c oc lv qo pr st co de ex pa hs hp ps ol ho lh
theorem lm_elP {A B : Prop} {P : SX → SY → Prop} {u u' : SX} {v v' : SY} (I : u = u' ∧ v = v' ∧ A ∧ B) (h : A → B → P u' v') : P u v := by
  obtain ⟨e1, e2, a, b⟩ := I
  rw [e1, e2]
  exact h a b
theorem lm_el {k : Nat} {P : SX → SY → Prop} (h : ∀ (c oc lv t : Nat) (hs hp ps ol ho lh : Nat → Nat) (qo bd pr dl st co de ex pa li so : Nat → Int32), t ≤ 20 * k → lm_J c oc lv qo pr st co de ex pa hs hp ps ol ho lh → P (nI c, nI oc, nI lv, nI t, qo, bd, pr, dl, st, co, de, ex, lm_nA hs, lm_nA hp, lm_nA ps, pa, li, lm_nA ol, lm_nA ho, lm_nA lh, so) (nI c, nI t, qo, bd, pr, st, dl, co, de, ex, pa, li)) {u : SX} {v : SY} (I : i_Rel k u v) : P u v :=
  Exists.elim I fun c I => Exists.elim I fun oc I => Exists.elim I fun lv I => Exists.elim I fun t I => Exists.elim I fun hs I => Exists.elim I fun hp I => Exists.elim I fun ps I => Exists.elim I fun ol I => Exists.elim I fun ho I => Exists.elim I fun lh I => Exists.elim I fun qo I => Exists.elim I fun bd I => Exists.elim I fun pr I => Exists.elim I fun dl I => Exists.elim I fun st I => Exists.elim I fun co I => Exists.elim I fun de I => Exists.elim I fun ex I => Exists.elim I fun pa I => Exists.elim I fun li I => Exists.elim I fun so I => lm_elP I (fun ht J => h c oc lv t hs hp ps ol ho lh qo bd pr dl st co de ex pa li so ht J)
section
variable {c oc lv t : Nat} {hs hp ps ol ho lh : Nat → Nat} {qo bd pr dl st co de ex pa li so : Nat → Int32}
theorem lm_rel {k : Nat} (ht : t ≤ 20 * k) (J : lm_J c oc lv qo pr st co de ex pa hs hp ps ol ho lh) : i_Rel k (nI c, nI oc, nI lv, nI t, qo, bd, pr, dl, st, co, de, ex, lm_nA hs, lm_nA hp, lm_nA ps, pa, li, lm_nA ol, lm_nA ho, lm_nA lh, so) (nI c, nI t, qo, bd, pr, st, dl, co, de, ex, pa, li) := ⟨c, oc, lv, t, hs, hp, ps, ol, ho, lh, qo, bd, pr, dl, st, co, de, ex, pa, li, so, rfl, rfl, ht, J⟩
end
theorem i_up {k : Nat} {u : SX} {v : SY} (h : i_Rel k u v) : i_Rel (k + 5) u v := by
  refine lm_el (P := fun u v => i_Rel (k + 5) u v) ?_ h
  intro c oc lv t hs hp ps ol ho lh qo bd pr dl st co de ex pa li so ht J
  exact lm_rel (by omega) J
/-- nothing published yet -/
theorem lm_J0 {qo pr st co de ex pa : Nat → Int32} {hs hp ps ol ho lh : Nat → Nat} (h1 : ∀ q, q < 3 → hs q = 0) (h2 : ∀ k, k < 3 → ho k = 0) (h3 : ∀ q, q < 3 → ∃ j, j ≤ 20 ∧ pa q = nI j) : lm_J 0 0 0 qo pr st co de ex pa hs hp ps ol ho lh := by
  refine ⟨⟨by omega, fun x hx => by omega, fun x hx => by omega, h3⟩, fun q hq => ?_, ⟨⟨fun i j hi hj => by omega, fun x => ⟨fun z => absurd z.1 (Nat.not_lt_zero x), fun z => z.elim (fun i hi => by omega)⟩⟩, fun i j hi hj => by omega⟩, ⟨?_, fun k hk => ?_⟩, ⟨fun _ => False, fun x hx => hx.elim, ⟨fun _ => 0, ⟨fun j hj => by omega, fun x hx => hx.elim⟩, fun j j0 jn => by omega⟩, fun x hx => by omega⟩⟩
  · rw [h1 q hq]
    exact ⟨⟨fun j hj => by omega, fun x hx => absurd hx.1 (Nat.not_lt_zero x)⟩, fun j j0 jn => by omega⟩
  · rw [h2 0 (by omega), h2 1 (by omega), h2 2 (by omega)]
  · rw [h2 k hk]
    exact ⟨by omega, rfl⟩
def lm_p3 (a : Nat → Int32) (x : Int32) : Nat → Int32 := upd (upd (upd a 0 x) 1 x) 2 x
theorem lm_p3v {a : Nat → Int32} {x : Int32} {q : Nat} (h : q < 3) : lm_p3 a x q = x := by
  have h' : q = 0 ∨ q = 1 ∨ q = 2 := by omega
  unfold lm_p3
  rcases h' with e | e | e
  · subst e; rw [lm_Un (by omega), lm_Un (by omega), lm_Us]
  · subst e; rw [lm_Un (by omega), lm_Us]
  · subst e; rw [lm_Us]
section
variable {f1 f2 f3 f4 : Int32} {a1 a2 a3 a4 a5 a6 a7 a8 a9 a10 a11 a12 a13 a14 a15 a16 a17 : Nat → Int32}
theorem lm_x0s {post : SX → Prop} {n i : Nat} (hi : i < 3) (h : wX_init_138 post f1 f2 f3 f4 n (nI (i + 1)) a1 a2 a3 a4 a5 a6 a7 a8 a9 a10 a11 (upd a12 i 5) (upd a13 i 3) a14 a15 a16 a17) : wX_init_138 post f1 f2 f3 f4 (n + 1) (nI i) a1 a2 a3 a4 a5 a6 a7 a8 a9 a10 a11 a12 a13 a14 a15 a16 a17 := by
  have ii : vp_in (nI i) 3 := vp_in_nI hi (by decide)
  refine br_f (nI_ge (b := 3) hi (by decide)) ?_
  rw [nI_clamp (show i < 2 ^ 31 by omega)]
  exact And.intro ii (nm_e (And.intro ii (nm_e (nm_r (nI_1 i) h))))
theorem lm_x0 {post : SX → Prop} (h : post (f1, f2, f3, f4, a1, a2, a3, a4, a5, a6, a7, a8, a9, a10, a11, lm_p3 a12 5, lm_p3 a13 3, a14, a15, a16, a17)) : wX_init_138 post f1 f2 f3 f4 4 (nI 0) a1 a2 a3 a4 a5 a6 a7 a8 a9 a10 a11 a12 a13 a14 a15 a16 a17 :=
  lm_x0s (by omega) (lm_x0s (by omega) (lm_x0s (by omega) (br_t (nI_le (a := 3) (by omega) (by decide)) h)))
theorem lm_y0s {post : SY → Prop} {n i : Nat} (hi : i < 3) (h : wY_init_84 post f1 f2 n (nI (i + 1)) a1 a2 a3 a4 a5 a6 a7 a8 (upd a12 i 5) (upd a13 i 3)) : wY_init_84 post f1 f2 (n + 1) (nI i) a1 a2 a3 a4 a5 a6 a7 a8 a12 a13 := by
  have ii : vp_in (nI i) 3 := vp_in_nI hi (by decide)
  refine br_f (nI_ge (b := 3) hi (by decide)) ?_
  rw [nI_clamp (show i < 2 ^ 31 by omega)]
  exact And.intro ii (nm_e (And.intro ii (nm_e (nm_r (nI_1 i) h))))
theorem lm_y0 {post : SY → Prop} (h : post (f1, f2, a1, a2, a3, a4, a5, a6, a7, a8, lm_p3 a12 5, lm_p3 a13 3)) : wY_init_84 post f1 f2 4 (nI 0) a1 a2 a3 a4 a5 a6 a7 a8 a12 a13 :=
  lm_y0s (by omega) (lm_y0s (by omega) (lm_y0s (by omega) (br_t (nI_le (a := 3) (by omega) (by decide)) h)))
theorem lm_cls {post : SX → Prop} {n i : Nat} (hi : i < 3) (h : wX_clear_17 post f1 f2 f3 f4 n (nI (i + 1)) a1 a2 a3 a4 a5 a6 a7 a8 (upd a9 i 0) a10 a11 a12 a13 a14 (upd a15 i 0) a16 a17) : wX_clear_17 post f1 f2 f3 f4 (n + 1) (nI i) a1 a2 a3 a4 a5 a6 a7 a8 a9 a10 a11 a12 a13 a14 a15 a16 a17 := by
  have ii : vp_in (nI i) 3 := vp_in_nI hi (by decide)
  refine br_f (nI_ge (b := 3) hi (by decide)) ?_
  rw [nI_clamp (show i < 2 ^ 31 by omega)]
  exact And.intro ii (nm_e (And.intro ii (nm_e (nm_r (nI_1 i) h))))
theorem lm_cl {post : SX → Prop} (h : post (f1, f2, f3, f4, a1, a2, a3, a4, a5, a6, a7, a8, lm_p3 a9 0, a10, a11, a12, a13, a14, lm_p3 a15 0, a16, a17)) : wX_clear_17 post f1 f2 f3 f4 4 (nI 0) a1 a2 a3 a4 a5 a6 a7 a8 a9 a10 a11 a12 a13 a14 a15 a16 a17 :=
  lm_cls (by omega) (lm_cls (by omega) (lm_cls (by omega) (br_t (nI_le (a := 3) (by omega) (by decide)) h)))
end
def lm_z3 (f : Nat → Nat) : Nat → Nat := lm_u (lm_u (lm_u f 0 0) 1 0) 2 0
theorem lm_z3v {f : Nat → Nat} {q : Nat} (h : q < 3) : lm_z3 f q = 0 := by
  have h' : q = 0 ∨ q = 1 ∨ q = 2 := by omega
  unfold lm_z3
  rcases h' with e | e | e
  · subst e; rw [lm_un (by omega), lm_un (by omega), lm_us]
  · subst e; rw [lm_un (by omega), lm_us]
  · subst e; rw [lm_us]
theorem lm_z3A (f : Nat → Nat) : lm_p3 (lm_nA f) 0 = lm_nA (lm_z3 f) := by
  show upd (upd (upd (lm_nA f) 0 (nI 0)) 1 (nI 0)) 2 (nI 0) = _
  rw [lm_uA, lm_uA, lm_uA]
  rfl
theorem i_vc0 : wpX_init (fun u => wpY_init (fun v => i_Rel 0 u v)) := by
  refine Exists.intro 4 (lm_x0 (Exists.intro 4 (lm_y0 ?_)))
  have J : lm_J 0 0 0 (fun _ => 0) (fun _ => 0) (fun _ => 0) (fun _ => 0) (fun _ => 0) (fun _ => 0) (lm_p3 (fun _ => 0) 5) (fun _ => 0) (fun _ => 0) (fun _ => 0) (fun _ => 0) (fun _ => 0) (fun _ => 0) := lm_J0 (fun _ _ => rfl) (fun _ _ => rfl) (fun q hq => ⟨5, by omega, lm_p3v hq⟩)
  exact lm_rel (t := 0) (bd := fun _ => 0) (dl := fun _ => 0) (li := lm_p3 (fun _ => 0) 3) (so := fun _ => 0) (by omega) J
end
section
/-! what is owed, one call each -/
theorem i_vc_publish {k : Nat} {u : SX} {v : SY} (I : i_Rel k u v) (hk : k + 5 ≤ 2560) (v1 : Int32) (v2 : Int32) (v3 : Int32) (v4 : Int32) : wpX_publish (fun r u' => wpY_publish (fun r' v' => r' = r ∧ i_Rel (k + 5) u' v') v v1 v2 v3 v4) u v1 v2 v3 v4 := by
  refine lm_el (P := fun u v => wpX_publish (fun r u' => wpY_publish (fun r' v' => r' = r ∧ i_Rel (k + 5) u' v') v v1 v2 v3 v4) u v1 v2 v3 v4) ?_ I
  intro c oc lv t hs hp ps ol ho lh qo bd pr dl st co de ex pa li so ht J
  have R : i_Rel (k + 5) (nI c, nI oc, nI lv, nI t, qo, bd, pr, dl, st, co, de, ex, lm_nA hs, lm_nA hp, lm_nA ps, pa, li, lm_nA ol, lm_nA ho, lm_nA lh, so) (nI c, nI t, qo, bd, pr, st, dl, co, de, ex, pa, li) := lm_rel (by omega) J
  have c40 := J.1.1
  show wpX_publish (fun r u' => wpY_publish (fun r' v' => r' = r ∧ i_Rel (k + 5) u' v') (nI c, nI t, qo, bd, pr, st, dl, co, de, ex, pa, li) v1 v2 v3 v4) (nI c, nI oc, nI lv, nI t, qo, bd, pr, dl, st, co, de, ex, lm_nA hs, lm_nA hp, lm_nA ps, pa, li, lm_nA ol, lm_nA ho, lm_nA lh, so) v1 v2 v3 v4
  unfold wpX_publish wpY_publish
  dsimp only
  rcases lm_3c v1 with hb | ⟨q, hq, rfl⟩
  · exact lm_bq0 hb (br_f (by decide) (lm_t0 hb (br_t rfl ⟨rfl, R⟩)))
  · refine lm_bq1 hq (br_t rfl ?_)
    by_cases h1 : v3 < 0
    · exact br_t h1 (lm_t1 hq (br_f (by decide) (br_t h1 ⟨rfl, R⟩)))
    · by_cases h2 : 3 < v3
      · exact br_f h1 (br_t h2 (lm_t1 hq (br_f (by decide) (br_f h1 (br_t h2 ⟨rfl, R⟩)))))
      · by_cases h3 : v4 < 0
        · exact br_f h1 (br_f h2 (br_t h3 (lm_t1 hq (br_f (by decide) (br_f h1 (br_f h2 (br_t h3 ⟨rfl, R⟩)))))))
        · by_cases h4 : v4 ≤ 50
          · by_cases hc : c < 40
            · obtain ⟨l, hl, rfl⟩ := nI_of2 (M := 50) (n := 50) (by decide) h3 h4
              have ic : vp_in (nI c) 40 := vp_in_nI hc (by decide)
              have n40 : ¬ nI c = 40 := by
                intro e
                have := (nI_eq (a := c) (b := 40) (by omega) (by decide)).mp e
                omega
              refine br_f h1 (br_f h2 (br_f h3 (br_t h4 (br_t (nI_lt (b := 40) hc (by decide)) ?_))))
              rw [nI_clamp (show c < 2 ^ 31 by omega)]
              refine And.intro ic (nm_e (And.intro ic (nm_e (And.intro ic (nm_e (And.intro ic (nm_e (lm_le l 0 (fun w => ?_) (fun w => ?_)))))))))
              · refine lm_xp J hc hq hl (fun _ => by decide) (fun z => by omega) (fun lv' hs' hp' ps' lh' J' => ?_)
                refine lm_t1 hq (br_f (by decide) (br_f h1 (br_f h2 (br_f h3 (br_t h4 (br_f n40 ?_))))))
                refine And.intro ic (nm_e (And.intro ic (nm_e (And.intro ic (nm_e (And.intro ic (nm_e (And.intro ic (nm_e (br_t (nI_le (b := 0) w (by decide)) ?_)))))))))) 
                unfold wY_publish_120
                rw [nI_clamp (show c < 2 ^ 31 by omega)]
                exact And.intro ic (nm_e (nm_r (nI_1 c) ⟨nI_pred c, lm_rel (by omega) J'⟩))
              · refine lm_xp J hc hq hl (fun z => by omega) (fun z => by rw [nI_add]; exact nI_pos (by omega)) (fun lv' hs' hp' ps' lh' J' => ?_)
                refine lm_t1 hq (br_f (by decide) (br_f h1 (br_f h2 (br_f h3 (br_t h4 (br_f n40 ?_))))))
                refine And.intro ic (nm_e (And.intro ic (nm_e (And.intro ic (nm_e (And.intro ic (nm_e (And.intro ic (nm_e (br_f (nI_ge (a := 0) w (by omega)) ?_))))))))))
                unfold wY_publish_120
                rw [nI_clamp (show c < 2 ^ 31 by omega)]
                exact And.intro ic (nm_e (nm_r (nI_1 c) ⟨nI_pred c, lm_rel (by omega) J'⟩))
            · have e : c = 40 := by omega
              have e40 : nI c = 40 := by rw [e]; rfl
              refine br_f h1 (br_f h2 (br_f h3 (br_t h4 (br_f (nI_nlt (b := 40) (by omega) (by omega)) ?_))))
              exact lm_t1 hq (br_f (by decide) (br_f h1 (br_f h2 (br_f h3 (br_t h4 (br_t e40 ⟨rfl, R⟩))))))
          · exact br_f h1 (br_f h2 (br_f h3 (br_f h4 (lm_t1 hq (br_f (by decide) (br_f h1 (br_f h2 (br_f h3 (br_f h4 ⟨rfl, R⟩)))))))))
theorem i_vc_take {k : Nat} {u : SX} {v : SY} (I : i_Rel k u v) (hk : k + 5 ≤ 2560) (v1 : Int32) (v2 : Int32) : wpX_take (fun r u' => wpY_take (fun r' v' => r' = r ∧ i_Rel (k + 5) u' v') v v1 v2) u v1 v2 := by
  refine lm_el (P := fun u v => wpX_take (fun r u' => wpY_take (fun r' v' => r' = r ∧ i_Rel (k + 5) u' v') v v1 v2) u v1 v2) ?_ I
  intro c oc lv t hs hp ps ol ho lh qo bd pr dl st co de ex pa li so ht J
  have R : i_Rel (k + 5) (nI c, nI oc, nI lv, nI t, qo, bd, pr, dl, st, co, de, ex, lm_nA hs, lm_nA hp, lm_nA ps, pa, li, lm_nA ol, lm_nA ho, lm_nA lh, so) (nI c, nI t, qo, bd, pr, st, dl, co, de, ex, pa, li) := lm_rel (by omega) J
  have c40 := J.1.1
  show wpX_take (fun r u' => wpY_take (fun r' v' => r' = r ∧ i_Rel (k + 5) u' v') (nI c, nI t, qo, bd, pr, st, dl, co, de, ex, pa, li) v1 v2) (nI c, nI oc, nI lv, nI t, qo, bd, pr, dl, st, co, de, ex, lm_nA hs, lm_nA hp, lm_nA ps, pa, li, lm_nA ol, lm_nA ho, lm_nA lh, so) v1 v2
  rcases lm_3c v1 with hb | ⟨q, hq, rfl⟩
  · unfold wpX_take wpY_take
    dsimp only
    exact lm_bq0 hb (br_f (by decide) (lm_t0 hb (br_t rfl ⟨rfl, R⟩)))
  · rcases lm_3c v2 with hb | ⟨j, hj, rfl⟩
    · unfold wpX_take wpY_take
      dsimp only
      exact lm_bq1 hq (br_t rfl (lm_bc0 hb (br_f (by decide) (lm_t1 hq (br_f (by decide) (lm_t0 hb (br_t rfl ⟨rfl, R⟩)))))))
    · have hH := J.2.2.2.1.2 j hj
      obtain ⟨b, h⟩ := J.2.1 q hq
      have l40 := lm_Ble b (fun x hx => lm_Qlt c40 q x hx)
      have iq : vp_in (nI q) 3 := vp_in_nI hq (by decide)
      have ij : vp_in (nI j) 3 := vp_in_nI hj (by decide)
      have cq : (nI q).toNatClampNeg = q := nI_clamp (by omega)
      have cj : (nI j).toNatClampNeg = j := nI_clamp (by omega)
      by_cases h2 : ho j < 2
      · have n2 : ¬ nI (lm_c (lm_P st co j) c) = 2 := by
          intro e
          have := (nI_eq (b := 2) (by omega) (by decide)).mp e
          omega
        by_cases h0 : 0 < hs q
        · refine lm_xt J (by omega) hq hj h2 h0 (fun m hs' hp' ps' ol' hSm top J' => ?_)
          have hmc := hSm.1
          have im : vp_in (nI m) 40 := vp_in_nI (by omega) (by decide)
          have cm : (nI m).toNatClampNeg = m := nI_clamp (by omega)
          have z0 : lm_c (lm_BQ c qo st pr q m) c = 0 := lm_cz c (fun x _ hx => top x hx.1 hx.2)
          unfold wpY_take
          dsimp only
          refine lm_t1 hq (br_f (by decide) (lm_t1 hj (br_f (by decide) (lm_yo c40 (br_f n2 (lm_yp c40 hq (fun w => ?_) (fun x hx e => ?_)))))))
          · exact absurd (by rw [z0]; rfl) (w m hSm)
          · have ex : x = m := by
              by_cases w : x = m
              · exact w
              · have p := lm_cp (P := lm_BQ c qo st pr q x) ⟨hSm, lm_lt_tot (top x hx) w⟩ c hmc
                have lc := lm_cle (lm_BQ c qo st pr q x) c
                have := (nI_eq (b := 0) (by omega) (by decide)).mp e
                omega
            subst ex
            refine br_t (nI_pos' (by omega)) ?_
            simp only [cm, cq]
            exact And.intro im (nm_e (And.intro im (And.intro im (nm_e (And.intro im (nm_e (And.intro iq (And.intro im (nm_e ⟨by trivial, lm_rel (by omega) J'⟩)))))))))
        · have e0 : hs q = 0 := by omega
          unfold wpX_take wpY_take
          dsimp only
          refine lm_bq1 hq (br_t rfl (lm_bc1 hj (br_t rfl (And.intro ij ?_))))
          rw [cj, lm_ap]
          refine br_t (nI_lt (b := 2) h2 (by decide)) (And.intro iq ?_)
          rw [cq, lm_ap, e0]
          refine br_t rfl (lm_t1 hq (br_f (by decide) (lm_t1 hj (br_f (by decide) (lm_yo c40 (br_f n2 (lm_yp c40 hq (fun w => ?_) (fun x hx e => ?_))))))))
          · exact br_f (by decide) ⟨rfl, R⟩
          · have := (b.2 x hx).1
            omega
      · have e2 : nI (lm_c (lm_P st co j) c) = 2 := by
          rw [← hH.2, show ho j = 2 by omega]
          rfl
        unfold wpX_take wpY_take
        dsimp only
        refine lm_bq1 hq (br_t rfl (lm_bc1 hj (br_t rfl (And.intro ij ?_))))
        rw [cj, lm_ap]
        exact br_f (nI_nlt (b := 2) (by omega) (by omega)) (lm_t1 hq (br_f (by decide) (lm_t1 hj (br_f (by decide) (lm_yo c40 (br_t e2 ⟨rfl, R⟩))))))
theorem i_vc_acknowledge {k : Nat} {u : SX} {v : SY} (I : i_Rel k u v) (hk : k + 5 ≤ 2560) (v1 : Int32) (v2 : Int32) : wpX_acknowledge (fun r u' => wpY_acknowledge (fun r' v' => r' = r ∧ i_Rel (k + 5) u' v') v v1 v2) u v1 v2 := by
  refine lm_el (P := fun u v => wpX_acknowledge (fun r u' => wpY_acknowledge (fun r' v' => r' = r ∧ i_Rel (k + 5) u' v') v v1 v2) u v1 v2) ?_ I
  intro c oc lv t hs hp ps ol ho lh qo bd pr dl st co de ex pa li so ht J
  have R : i_Rel (k + 5) (nI c, nI oc, nI lv, nI t, qo, bd, pr, dl, st, co, de, ex, lm_nA hs, lm_nA hp, lm_nA ps, pa, li, lm_nA ol, lm_nA ho, lm_nA lh, so) (nI c, nI t, qo, bd, pr, st, dl, co, de, ex, pa, li) := lm_rel (by omega) J
  have c40 := J.1.1
  show wpX_acknowledge (fun r u' => wpY_acknowledge (fun r' v' => r' = r ∧ i_Rel (k + 5) u' v') (nI c, nI t, qo, bd, pr, st, dl, co, de, ex, pa, li) v1 v2) (nI c, nI oc, nI lv, nI t, qo, bd, pr, dl, st, co, de, ex, lm_nA hs, lm_nA hp, lm_nA ps, pa, li, lm_nA ol, lm_nA ho, lm_nA lh, so) v1 v2
  rcases lm_3c v1 with hb | ⟨j, hj, rfl⟩
  · unfold wpX_acknowledge wpY_acknowledge
    dsimp only
    exact lm_bc0 hb (br_f (by decide) (lm_rfb hb (br_f (by decide) ⟨rfl, R⟩)))
  · by_cases hx : ∃ m, v2 = nI m ∧ m < c ∧ st m = 1 ∧ co m = nI j
    · obtain ⟨m, rfl, hm, e1, e2⟩ := hx
      refine lm_xa J hm hj e1 e2 (fun oc' ol' J' => ?_)
      unfold wpY_acknowledge
      dsimp only
      rw [nI_clamp (show m < 2 ^ 31 by omega)]
      exact lm_rf1 c40 hj hm e1 e2 (br_t (by decide) (And.intro (vp_in_nI (by omega) (by decide)) (nm_e (lm_yo c40 ⟨rfl, lm_rel (by omega) J'⟩))))
    · unfold wpX_acknowledge wpY_acknowledge
      dsimp only
      exact lm_bc1 hj (br_t rfl (lm_no0 c40 hx (br_f (by decide) (lm_rf0 c40 hj hx (br_f (by decide) ⟨rfl, R⟩)))))
theorem i_vc_refuse {k : Nat} {u : SX} {v : SY} (I : i_Rel k u v) (hk : k + 5 ≤ 2560) (v1 : Int32) (v2 : Int32) : wpX_refuse (fun r u' => wpY_refuse (fun r' v' => r' = r ∧ i_Rel (k + 5) u' v') v v1 v2) u v1 v2 := by
  refine lm_el (P := fun u v => wpX_refuse (fun r u' => wpY_refuse (fun r' v' => r' = r ∧ i_Rel (k + 5) u' v') v v1 v2) u v1 v2) ?_ I
  intro c oc lv t hs hp ps ol ho lh qo bd pr dl st co de ex pa li so ht J
  have R : i_Rel (k + 5) (nI c, nI oc, nI lv, nI t, qo, bd, pr, dl, st, co, de, ex, lm_nA hs, lm_nA hp, lm_nA ps, pa, li, lm_nA ol, lm_nA ho, lm_nA lh, so) (nI c, nI t, qo, bd, pr, st, dl, co, de, ex, pa, li) := lm_rel (by omega) J
  have c40 := J.1.1
  show wpX_refuse (fun r u' => wpY_refuse (fun r' v' => r' = r ∧ i_Rel (k + 5) u' v') (nI c, nI t, qo, bd, pr, st, dl, co, de, ex, pa, li) v1 v2) (nI c, nI oc, nI lv, nI t, qo, bd, pr, dl, st, co, de, ex, lm_nA hs, lm_nA hp, lm_nA ps, pa, li, lm_nA ol, lm_nA ho, lm_nA lh, so) v1 v2
  unfold wpX_refuse wpY_refuse
  dsimp only
  rcases lm_3c v1 with hb | ⟨j, hj, rfl⟩
  · exact lm_bc0 hb (br_f (by decide) (lm_rfb hb (br_f (by decide) ⟨rfl, R⟩)))
  · by_cases hx : ∃ m, v2 = nI m ∧ m < c ∧ st m = 1 ∧ co m = nI j
    · obtain ⟨m, rfl, hm, e1, e2⟩ := hx
      obtain ⟨q, hq, eq⟩ := J.1.2.1 m hm
      have im : vp_in (nI m) 40 := vp_in_nI (by omega) (by decide)
      refine lm_bc1 hj (br_t rfl (lm_no1 c40 hm e1 e2 (br_t rfl (lm_cbk J hm e1 (fun oc' lv' hs' hp' ps' ol' ho' lh' _ J' => And.intro im ?_)))))
      exact lm_rf1 c40 hj hm e1 e2 (br_t (by decide) (lm_ycb (by omega) hq eq (And.intro im ⟨rfl, lm_rel (by omega) J'⟩)))
    · exact lm_bc1 hj (br_t rfl (lm_no0 c40 hx (br_f (by decide) (lm_rf0 c40 hj hx (br_f (by decide) ⟨rfl, R⟩)))))
theorem i_vc_lose {k : Nat} {u : SX} {v : SY} (I : i_Rel k u v) (hk : k + 5 ≤ 2560) (v1 : Int32) : wpX_lose (fun r u' => wpY_lose (fun r' v' => r' = r ∧ i_Rel (k + 5) u' v') v v1) u v1 := by
  refine lm_el (P := fun u v => wpX_lose (fun r u' => wpY_lose (fun r' v' => r' = r ∧ i_Rel (k + 5) u' v') v v1) u v1) ?_ I
  intro c oc lv t hs hp ps ol ho lh qo bd pr dl st co de ex pa li so ht J
  have R : i_Rel (k + 5) (nI c, nI oc, nI lv, nI t, qo, bd, pr, dl, st, co, de, ex, lm_nA hs, lm_nA hp, lm_nA ps, pa, li, lm_nA ol, lm_nA ho, lm_nA lh, so) (nI c, nI t, qo, bd, pr, st, dl, co, de, ex, pa, li) := lm_rel (by omega) J
  have c40 := J.1.1
  show wpX_lose (fun r u' => wpY_lose (fun r' v' => r' = r ∧ i_Rel (k + 5) u' v') (nI c, nI t, qo, bd, pr, st, dl, co, de, ex, pa, li) v1) (nI c, nI oc, nI lv, nI t, qo, bd, pr, dl, st, co, de, ex, lm_nA hs, lm_nA hp, lm_nA ps, pa, li, lm_nA ol, lm_nA ho, lm_nA lh, so) v1
  unfold wpX_lose wpY_lose
  dsimp only
  rcases lm_3c v1 with hb | ⟨j, hj, rfl⟩
  · exact lm_bc0 hb (br_f (by decide) (lm_t0 hb (br_t rfl ⟨rfl, R⟩)))
  · refine lm_bc1 hj (br_t rfl (lm_xl J (fun oc' lv' hs' hp' ps' ol' ho' lh' J' => ?_)))
    exact lm_t1 hj (br_f (by decide) (lm_yo c40 (lm_yl c40 J.1.2.1 ⟨rfl, lm_rel (by omega) J'⟩)))
theorem i_vc_renew {k : Nat} {u : SX} {v : SY} (I : i_Rel k u v) (hk : k + 5 ≤ 2560) (v1 : Int32) (v2 : Int32) : wpX_renew (fun r u' => wpY_renew (fun r' v' => r' = r ∧ i_Rel (k + 5) u' v') v v1 v2) u v1 v2 := by
  refine lm_el (P := fun u v => wpX_renew (fun r u' => wpY_renew (fun r' v' => r' = r ∧ i_Rel (k + 5) u' v') v v1 v2) u v1 v2) ?_ I
  intro c oc lv t hs hp ps ol ho lh qo bd pr dl st co de ex pa li so ht J
  have R : i_Rel (k + 5) (nI c, nI oc, nI lv, nI t, qo, bd, pr, dl, st, co, de, ex, lm_nA hs, lm_nA hp, lm_nA ps, pa, li, lm_nA ol, lm_nA ho, lm_nA lh, so) (nI c, nI t, qo, bd, pr, st, dl, co, de, ex, pa, li) := lm_rel (by omega) J
  have c40 := J.1.1
  show wpX_renew (fun r u' => wpY_renew (fun r' v' => r' = r ∧ i_Rel (k + 5) u' v') (nI c, nI t, qo, bd, pr, st, dl, co, de, ex, pa, li) v1 v2) (nI c, nI oc, nI lv, nI t, qo, bd, pr, dl, st, co, de, ex, lm_nA hs, lm_nA hp, lm_nA ps, pa, li, lm_nA ol, lm_nA ho, lm_nA lh, so) v1 v2
  rcases lm_3c v1 with hb | ⟨j, hj, rfl⟩
  · unfold wpX_renew wpY_renew
    dsimp only
    exact lm_bc0 hb (br_f (by decide) (lm_rfb hb (br_f (by decide) ⟨rfl, R⟩)))
  · by_cases hx : ∃ m, v2 = nI m ∧ m < c ∧ st m = 1 ∧ co m = nI j
    · obtain ⟨m, rfl, hm, e1, e2⟩ := hx
      obtain ⟨q, hq, eq⟩ := J.1.2.1 m hm
      have im : vp_in (nI m) 40 := vp_in_nI (by omega) (by decide)
      have iq : vp_in (nI q) 3 := vp_in_nI hq (by decide)
      have cq : (nI q).toNatClampNeg = q := nI_clamp (by omega)
      refine lm_xn J (by omega) hm hj hq e1 e2 eq (fun oc' ol' J' => ?_)
      unfold wpY_renew
      dsimp only
      simp only [nI_clamp (show m < 2 ^ 31 by omega), eq, cq]
      refine lm_rf1 c40 hj hm e1 e2 (br_t (by decide) (And.intro im (And.intro iq (And.intro im (nm_e (And.intro im ⟨?_, lm_rel (by omega) J'⟩))))))
      exact lm_Us _ _ _
    · unfold wpX_renew wpY_renew
      dsimp only
      exact lm_bc1 hj (br_t rfl (lm_no0 c40 hx (br_f (by decide) (lm_rf0 c40 hj hx (br_f (by decide) ⟨rfl, R⟩)))))
theorem i_vc_pass {k : Nat} {u : SX} {v : SY} (I : i_Rel k u v) (hk : k + 5 ≤ 2560) (v1 : Int32) : wpX_pass (fun r u' => wpY_pass (fun r' v' => r' = r ∧ i_Rel (k + 5) u' v') v v1) u v1 := by
  refine lm_el (P := fun u v => wpX_pass (fun r u' => wpY_pass (fun r' v' => r' = r ∧ i_Rel (k + 5) u' v') v v1) u v1) ?_ I
  intro c oc lv t hs hp ps ol ho lh qo bd pr dl st co de ex pa li so ht J
  have R : i_Rel (k + 5) (nI c, nI oc, nI lv, nI t, qo, bd, pr, dl, st, co, de, ex, lm_nA hs, lm_nA hp, lm_nA ps, pa, li, lm_nA ol, lm_nA ho, lm_nA lh, so) (nI c, nI t, qo, bd, pr, st, dl, co, de, ex, pa, li) := lm_rel (by omega) J
  have c40 := J.1.1
  show wpX_pass (fun r u' => wpY_pass (fun r' v' => r' = r ∧ i_Rel (k + 5) u' v') (nI c, nI t, qo, bd, pr, st, dl, co, de, ex, pa, li) v1) (nI c, nI oc, nI lv, nI t, qo, bd, pr, dl, st, co, de, ex, lm_nA hs, lm_nA hp, lm_nA ps, pa, li, lm_nA ol, lm_nA ho, lm_nA lh, so) v1
  unfold wpX_pass wpY_pass
  dsimp only
  by_cases h1 : v1 < 0
  · exact br_t h1 (br_t h1 ⟨rfl, R⟩)
  · by_cases h2 : v1 ≤ 100
    · obtain ⟨l, hl, rfl⟩ := nI_of2 (M := 100) (n := 100) (by decide) h1 h2
      refine br_f h1 (br_t h2 (nm_r (nI_add t l) (lm_xp1 J (fun oc' lv' hs' hp' ps' ol' ho' lh' J' => lm_xp2 J' (fun lv2 hs2 hp2 ps2 lh2 J2 => ?_)))))
      exact br_f h1 (br_t h2 (nm_r (nI_add t l) (lm_yp1 c40 J.1.2.1 (lm_yp2 c40 ⟨rfl, lm_rel (by omega) J2⟩))))
    · exact br_f h1 (br_f h2 (br_f h1 (br_f h2 ⟨rfl, R⟩)))
theorem i_vc_tune {k : Nat} {u : SX} {v : SY} (I : i_Rel k u v) (hk : k + 5 ≤ 2560) (v1 : Int32) (v2 : Int32) (v3 : Int32) : wpX_tune (fun r u' => wpY_tune (fun r' v' => r' = r ∧ i_Rel (k + 5) u' v') v v1 v2 v3) u v1 v2 v3 := by
  refine lm_el (P := fun u v => wpX_tune (fun r u' => wpY_tune (fun r' v' => r' = r ∧ i_Rel (k + 5) u' v') v v1 v2 v3) u v1 v2 v3) ?_ I
  intro c oc lv t hs hp ps ol ho lh qo bd pr dl st co de ex pa li so ht J
  have R : i_Rel (k + 5) (nI c, nI oc, nI lv, nI t, qo, bd, pr, dl, st, co, de, ex, lm_nA hs, lm_nA hp, lm_nA ps, pa, li, lm_nA ol, lm_nA ho, lm_nA lh, so) (nI c, nI t, qo, bd, pr, st, dl, co, de, ex, pa, li) := lm_rel (by omega) J
  have c40 := J.1.1
  show wpX_tune (fun r u' => wpY_tune (fun r' v' => r' = r ∧ i_Rel (k + 5) u' v') (nI c, nI t, qo, bd, pr, st, dl, co, de, ex, pa, li) v1 v2 v3) (nI c, nI oc, nI lv, nI t, qo, bd, pr, dl, st, co, de, ex, lm_nA hs, lm_nA hp, lm_nA ps, pa, li, lm_nA ol, lm_nA ho, lm_nA lh, so) v1 v2 v3
  unfold wpX_tune wpY_tune
  dsimp only
  rcases lm_3c v1 with hb | ⟨q, hq, rfl⟩
  · exact lm_bq0 hb (br_f (by decide) (lm_t0 hb (br_t rfl ⟨rfl, R⟩)))
  · refine lm_bq1 hq (br_t rfl ?_)
    by_cases h1 : v2 < 1
    · exact br_t h1 (lm_t1 hq (br_f (by decide) (br_t h1 ⟨rfl, R⟩)))
    · by_cases h2 : 20 < v2
      · exact br_f h1 (br_t h2 (lm_t1 hq (br_f (by decide) (br_f h1 (br_t h2 ⟨rfl, R⟩)))))
      · by_cases h3 : v3 < 1
        · exact br_f h1 (br_f h2 (br_t h3 (lm_t1 hq (br_f (by decide) (br_f h1 (br_f h2 (br_t h3 ⟨rfl, R⟩)))))))
        · by_cases h4 : v3 ≤ 5
          · have iq : vp_in (nI q) 3 := vp_in_nI hq (by decide)
            have n0 : ¬ v2 < 0 := by
              intro w
              rw [Int32.lt_iff_toInt_lt] at w h1
              have a0 : (0 : Int32).toInt = 0 := by decide
              have a1 : (1 : Int32).toInt = 1 := by decide
              omega
            obtain ⟨l, hl, rfl⟩ := nI_of2 (M := 20) (n := 20) (by decide) n0 (Int32.not_lt.mp h2)
            have J' : lm_J c oc lv qo pr st co de ex (upd pa q (nI l)) hs hp ps ol ho lh := by
              refine ⟨⟨c40, J.1.2.1, J.1.2.2.1, fun q' h3' => ?_⟩, J.2⟩
              by_cases e : q' = q
              · rw [e, lm_Us]; exact ⟨l, hl, rfl⟩
              · rw [lm_Un e]; exact J.1.2.2.2 q' h3'
            rw [nI_clamp (show q < 2 ^ 31 by omega)]
            exact br_f h1 (br_f h2 (br_f h3 (br_t h4 (And.intro iq (nm_e (And.intro iq (nm_e (lm_t1 hq (br_f (by decide) (br_f h1 (br_f h2 (br_f h3 (br_t h4 (And.intro iq (nm_e (And.intro iq (nm_e ⟨rfl, lm_rel (by omega) J'⟩)))))))))))))))))
          · exact br_f h1 (br_f h2 (br_f h3 (br_f h4 (lm_t1 hq (br_f (by decide) (br_f h1 (br_f h2 (br_f h3 (br_f h4 ⟨rfl, R⟩)))))))))
theorem i_vc_revive {k : Nat} {u : SX} {v : SY} (I : i_Rel k u v) (hk : k + 5 ≤ 2560) (v1 : Int32) : wpX_revive (fun r u' => wpY_revive (fun r' v' => r' = r ∧ i_Rel (k + 5) u' v') v v1) u v1 := by
  refine lm_el (P := fun u v => wpX_revive (fun r u' => wpY_revive (fun r' v' => r' = r ∧ i_Rel (k + 5) u' v') v v1) u v1) ?_ I
  intro c oc lv t hs hp ps ol ho lh qo bd pr dl st co de ex pa li so ht J
  have R : i_Rel (k + 5) (nI c, nI oc, nI lv, nI t, qo, bd, pr, dl, st, co, de, ex, lm_nA hs, lm_nA hp, lm_nA ps, pa, li, lm_nA ol, lm_nA ho, lm_nA lh, so) (nI c, nI t, qo, bd, pr, st, dl, co, de, ex, pa, li) := lm_rel (by omega) J
  have c40 := J.1.1
  show wpX_revive (fun r u' => wpY_revive (fun r' v' => r' = r ∧ i_Rel (k + 5) u' v') (nI c, nI t, qo, bd, pr, st, dl, co, de, ex, pa, li) v1) (nI c, nI oc, nI lv, nI t, qo, bd, pr, dl, st, co, de, ex, lm_nA hs, lm_nA hp, lm_nA ps, pa, li, lm_nA ol, lm_nA ho, lm_nA lh, so) v1
  unfold wpX_revive wpY_revive
  dsimp only
  rcases lm_3c v1 with hb | ⟨q, hq, rfl⟩
  · exact lm_bq0 hb (br_f (by decide) (lm_t0 hb (br_t rfl ⟨rfl, R⟩)))
  · refine lm_bq1 hq (br_t rfl (lm_xv J (fun lv' hs' hp' ps' lh' J' => ?_)))
    exact lm_t1 hq (br_f (by decide) (lm_yv c40 ⟨rfl, lm_rel (by omega) J'⟩))
theorem i_vc_clear {k : Nat} {u : SX} {v : SY} (I : i_Rel k u v) (hk : k + 5 ≤ 2560) : wpX_clear (fun u' => wpY_clear (fun v' => i_Rel (k + 5) u' v') v) u := by
  refine lm_el (P := fun u v => wpX_clear (fun u' => wpY_clear (fun v' => i_Rel (k + 5) u' v') v) u) ?_ I
  intro c oc lv t hs hp ps ol ho lh qo bd pr dl st co de ex pa li so ht J
  have R : i_Rel (k + 5) (nI c, nI oc, nI lv, nI t, qo, bd, pr, dl, st, co, de, ex, lm_nA hs, lm_nA hp, lm_nA ps, pa, li, lm_nA ol, lm_nA ho, lm_nA lh, so) (nI c, nI t, qo, bd, pr, st, dl, co, de, ex, pa, li) := lm_rel (by omega) J
  have c40 := J.1.1
  show wpX_clear (fun u' => wpY_clear (fun v' => i_Rel (k + 5) u' v') (nI c, nI t, qo, bd, pr, st, dl, co, de, ex, pa, li)) (nI c, nI oc, nI lv, nI t, qo, bd, pr, dl, st, co, de, ex, lm_nA hs, lm_nA hp, lm_nA ps, pa, li, lm_nA ol, lm_nA ho, lm_nA lh, so)
  refine Exists.intro 4 (lm_cl ?_)
  rw [lm_z3A, lm_z3A]
  exact lm_rel (c := 0) (oc := 0) (lv := 0) (by omega) (lm_J0 (fun q hq => lm_z3v hq) (fun q hq => lm_z3v hq) J.1.2.2.2)
theorem i_vc_state {k : Nat} {u : SX} {v : SY} (I : i_Rel k u v) (hk : k + 5 ≤ 2560) (v1 : Int32) : wpX_state (fun r => wpY_state (fun r' => r' = r ∧ i_Rel (k + 5) u v) v v1) u v1 := by
  refine lm_el (P := fun u v => wpX_state (fun r => wpY_state (fun r' => r' = r ∧ i_Rel (k + 5) u v) v v1) u v1) ?_ I
  intro c oc lv t hs hp ps ol ho lh qo bd pr dl st co de ex pa li so ht J
  have R : i_Rel (k + 5) (nI c, nI oc, nI lv, nI t, qo, bd, pr, dl, st, co, de, ex, lm_nA hs, lm_nA hp, lm_nA ps, pa, li, lm_nA ol, lm_nA ho, lm_nA lh, so) (nI c, nI t, qo, bd, pr, st, dl, co, de, ex, pa, li) := lm_rel (by omega) J
  have c40 := J.1.1
  show wpX_state (fun r => wpY_state (fun r' => r' = r ∧ i_Rel (k + 5) (nI c, nI oc, nI lv, nI t, qo, bd, pr, dl, st, co, de, ex, lm_nA hs, lm_nA hp, lm_nA ps, pa, li, lm_nA ol, lm_nA ho, lm_nA lh, so) (nI c, nI t, qo, bd, pr, st, dl, co, de, ex, pa, li)) (nI c, nI t, qo, bd, pr, st, dl, co, de, ex, pa, li) v1) (nI c, nI oc, nI lv, nI t, qo, bd, pr, dl, st, co, de, ex, lm_nA hs, lm_nA hp, lm_nA ps, pa, li, lm_nA ol, lm_nA ho, lm_nA lh, so) v1
  unfold wpX_state wpY_state
  dsimp only
  by_cases h : v1 < 0
  · exact br_t h (br_t h ⟨rfl, R⟩)
  · obtain ⟨m, hm, rfl⟩ := nI_of h
    refine br_f h (lm_ltb m c (fun w => And.intro (vp_in_nI (by omega) (by decide)) (br_f h (br_f (nI_ge w (by omega)) (And.intro (vp_in_nI (by omega) (by decide)) ⟨rfl, R⟩)))) (fun w => br_f h (br_t (nI_le w hm) ⟨rfl, R⟩)))
theorem i_vc_ready {k : Nat} {u : SX} {v : SY} (I : i_Rel k u v) (hk : k + 5 ≤ 2560) (v1 : Int32) : wpX_ready (fun r => wpY_ready (fun r' => r' = r ∧ i_Rel (k + 5) u v) v v1) u v1 := by
  refine lm_el (P := fun u v => wpX_ready (fun r => wpY_ready (fun r' => r' = r ∧ i_Rel (k + 5) u v) v v1) u v1) ?_ I
  intro c oc lv t hs hp ps ol ho lh qo bd pr dl st co de ex pa li so ht J
  have R : i_Rel (k + 5) (nI c, nI oc, nI lv, nI t, qo, bd, pr, dl, st, co, de, ex, lm_nA hs, lm_nA hp, lm_nA ps, pa, li, lm_nA ol, lm_nA ho, lm_nA lh, so) (nI c, nI t, qo, bd, pr, st, dl, co, de, ex, pa, li) := lm_rel (by omega) J
  have c40 := J.1.1
  show wpX_ready (fun r => wpY_ready (fun r' => r' = r ∧ i_Rel (k + 5) (nI c, nI oc, nI lv, nI t, qo, bd, pr, dl, st, co, de, ex, lm_nA hs, lm_nA hp, lm_nA ps, pa, li, lm_nA ol, lm_nA ho, lm_nA lh, so) (nI c, nI t, qo, bd, pr, st, dl, co, de, ex, pa, li)) (nI c, nI t, qo, bd, pr, st, dl, co, de, ex, pa, li) v1) (nI c, nI oc, nI lv, nI t, qo, bd, pr, dl, st, co, de, ex, lm_nA hs, lm_nA hp, lm_nA ps, pa, li, lm_nA ol, lm_nA ho, lm_nA lh, so) v1
  unfold wpX_ready wpY_ready
  dsimp only
  rcases lm_3c v1 with hb | ⟨q, hq, rfl⟩
  · exact lm_bq0 hb (br_f (by decide) (lm_t0 hb (br_t rfl ⟨rfl, R⟩)))
  · have iq : vp_in (nI q) 3 := vp_in_nI hq (by decide)
    have e := lm_Bc (N := c) (J.2.1 q hq).1 (fun x hx => hx.1)
    refine lm_bq1 hq (br_t rfl (And.intro iq ?_))
    rw [nI_clamp (show q < 2 ^ 31 by omega), lm_ap, ← e]
    exact lm_t1 hq (br_f (by decide) (lm_yy c40 hq ⟨rfl, R⟩))
theorem i_vc_peek {k : Nat} {u : SX} {v : SY} (I : i_Rel k u v) (hk : k + 5 ≤ 2560) (v1 : Int32) (v2 : Int32) : wpX_peek (fun r u' => wpY_peek (fun r' => r' = r ∧ i_Rel (k + 5) u' v) v v1 v2) u v1 v2 := by
  refine lm_el (P := fun u v => wpX_peek (fun r u' => wpY_peek (fun r' => r' = r ∧ i_Rel (k + 5) u' v) v v1 v2) u v1 v2) ?_ I
  intro c oc lv t hs hp ps ol ho lh qo bd pr dl st co de ex pa li so ht J
  have R : i_Rel (k + 5) (nI c, nI oc, nI lv, nI t, qo, bd, pr, dl, st, co, de, ex, lm_nA hs, lm_nA hp, lm_nA ps, pa, li, lm_nA ol, lm_nA ho, lm_nA lh, so) (nI c, nI t, qo, bd, pr, st, dl, co, de, ex, pa, li) := lm_rel (by omega) J
  have c40 := J.1.1
  show wpX_peek (fun r u' => wpY_peek (fun r' => r' = r ∧ i_Rel (k + 5) u' (nI c, nI t, qo, bd, pr, st, dl, co, de, ex, pa, li)) (nI c, nI t, qo, bd, pr, st, dl, co, de, ex, pa, li) v1 v2) (nI c, nI oc, nI lv, nI t, qo, bd, pr, dl, st, co, de, ex, lm_nA hs, lm_nA hp, lm_nA ps, pa, li, lm_nA ol, lm_nA ho, lm_nA lh, so) v1 v2
  rcases lm_3c v1 with hb | ⟨q, hq, rfl⟩
  · unfold wpX_peek wpY_peek
    dsimp only
    exact lm_bq0 hb (br_f (by decide) (lm_t0 hb (br_t rfl ⟨rfl, R⟩)))
  · obtain ⟨b, h⟩ := J.2.1 q hq
    have iq : vp_in (nI q) 3 := vp_in_nI hq (by decide)
    have l40 := lm_Ble b (fun x hx => lm_Qlt c40 q x hx)
    have e := lm_Bc (N := c) b (fun x hx => hx.1)
    have no : (∀ j, j < hs q → nI j ≠ v2) → wpY_peek (fun r' => r' = (-5) ∧ i_Rel (k + 5) (nI c, nI oc, nI lv, nI t, qo, bd, pr, dl, st, co, de, ex, lm_nA hs, lm_nA hp, lm_nA ps, pa, li, lm_nA ol, lm_nA ho, lm_nA lh, so) (nI c, nI t, qo, bd, pr, st, dl, co, de, ex, pa, li)) (nI c, nI t, qo, bd, pr, st, dl, co, de, ex, pa, li) (nI q) v2 := by
      intro hn
      refine lm_yp c40 hq (fun _ => ⟨rfl, R⟩) (fun x hx ev => absurd ev (hn _ ?_))
      have := lm_BQlt (pr := pr) hx
      omega
    unfold wpX_peek
    dsimp only
    refine lm_bq1 hq (br_t rfl ?_)
    by_cases h1 : v2 < 0
    · exact br_t h1 (no (fun j hj w => nI_pos (by omega) (w ▸ h1)))
    · obtain ⟨v, hv, rfl⟩ := nI_of h1
      refine br_f h1 (And.intro iq ?_)
      rw [nI_clamp (show q < 2 ^ 31 by omega), lm_ap]
      refine lm_ltb v (hs q) (fun w => ?_) (fun w => ?_)
      · refine lm_pkO hq rfl l40 w (fun x hx => lm_Qlt c40 q x hx) (lm_BL b) (fun so' s L ss => ?_)
        refine lm_yp c40 hq (fun z => ?_) (fun x hx ev => ?_)
        · exact absurd (by rw [lm_BQs L ss w]) (z (s v) ((L.2 _).mpr ⟨v, w, rfl⟩))
        · obtain ⟨j, hj, ej⟩ := (L.2 x).mp hx
          rw [← ej, lm_BQs L ss hj] at ev
          have := (nI_eq (by omega) (by omega)).mp ev
          rw [← ej, this]
          exact ⟨rfl, lm_rel (by omega) J⟩
      · exact no (fun j hj z => by have := (nI_eq (by omega) (by omega)).mp z; omega)
theorem i_vc_nextDeadline {k : Nat} {u : SX} {v : SY} (I : i_Rel k u v) (hk : k + 5 ≤ 2560) : wpX_nextDeadline (fun r => wpY_nextDeadline (fun r' => r' = r ∧ i_Rel (k + 5) u v) v) u := by
  refine lm_el (P := fun u v => wpX_nextDeadline (fun r => wpY_nextDeadline (fun r' => r' = r ∧ i_Rel (k + 5) u v) v) u) ?_ I
  intro c oc lv t hs hp ps ol ho lh qo bd pr dl st co de ex pa li so ht J
  have R : i_Rel (k + 5) (nI c, nI oc, nI lv, nI t, qo, bd, pr, dl, st, co, de, ex, lm_nA hs, lm_nA hp, lm_nA ps, pa, li, lm_nA ol, lm_nA ho, lm_nA lh, so) (nI c, nI t, qo, bd, pr, st, dl, co, de, ex, pa, li) := lm_rel (by omega) J
  have c40 := J.1.1
  show wpX_nextDeadline (fun r => wpY_nextDeadline (fun r' => r' = r ∧ i_Rel (k + 5) (nI c, nI oc, nI lv, nI t, qo, bd, pr, dl, st, co, de, ex, lm_nA hs, lm_nA hp, lm_nA ps, pa, li, lm_nA ol, lm_nA ho, lm_nA lh, so) (nI c, nI t, qo, bd, pr, st, dl, co, de, ex, pa, li)) (nI c, nI t, qo, bd, pr, st, dl, co, de, ex, pa, li)) (nI c, nI oc, nI lv, nI t, qo, bd, pr, dl, st, co, de, ex, lm_nA hs, lm_nA hp, lm_nA ps, pa, li, lm_nA ol, lm_nA ho, lm_nA lh, so)
  obtain ⟨g, Q, O, H, LV⟩ := J
  have oc6 := lm_oc6 H
  unfold wpX_nextDeadline
  dsimp only
  refine lm_eqb oc 0 (fun e => ?_) (fun e => ?_)
  · refine lm_yn c40 (fun x hx h1 => (g.2.2.1 x hx h1).2) (fun _ => ⟨rfl, R⟩) (fun m hm h1 _ => ?_)
    obtain ⟨i, hi, _⟩ := (O.1.2 m).mp ⟨hm, h1⟩
    omega
  · have hS0 : lm_SO c st (ol 0) := (O.1.2 _).mpr ⟨0, by omega, rfl⟩
    have hc0 := hS0.1
    rw [lm_ap, nI_clamp (show ol 0 < 2 ^ 31 by omega)]
    refine And.intro (vp_in_nI (by omega) (by decide)) (lm_yn c40 (fun x hx h1 => (g.2.2.1 x hx h1).2) (fun z => absurd hS0.2 (z _ hc0)) (fun m hm h1 hmin => ⟨?_, R⟩))
    have a := hmin _ hc0 hS0.2
    obtain ⟨i, hi, ei⟩ := (O.1.2 m).mp ⟨hm, h1⟩
    apply Int32.toInt_inj.mp
    by_cases w : i = 0
    · rw [← ei, w]
    · have b := O.2 0 i (by omega) hi
      rw [ei] at b
      omega
theorem i_vc_sum {k : Nat} {u : SX} {v : SY} (I : i_Rel k u v) (hk : k + 5 ≤ 2560) (v1 : Int32) : wpX_sum (fun r => wpY_sum (fun r' => r' = r ∧ i_Rel (k + 5) u v) v v1) u v1 := by
  refine lm_el (P := fun u v => wpX_sum (fun r => wpY_sum (fun r' => r' = r ∧ i_Rel (k + 5) u v) v v1) u v1) ?_ I
  intro c oc lv t hs hp ps ol ho lh qo bd pr dl st co de ex pa li so ht J
  have R : i_Rel (k + 5) (nI c, nI oc, nI lv, nI t, qo, bd, pr, dl, st, co, de, ex, lm_nA hs, lm_nA hp, lm_nA ps, pa, li, lm_nA ol, lm_nA ho, lm_nA lh, so) (nI c, nI t, qo, bd, pr, st, dl, co, de, ex, pa, li) := lm_rel (by omega) J
  have c40 := J.1.1
  show wpX_sum (fun r => wpY_sum (fun r' => r' = r ∧ i_Rel (k + 5) (nI c, nI oc, nI lv, nI t, qo, bd, pr, dl, st, co, de, ex, lm_nA hs, lm_nA hp, lm_nA ps, pa, li, lm_nA ol, lm_nA ho, lm_nA lh, so) (nI c, nI t, qo, bd, pr, st, dl, co, de, ex, pa, li)) (nI c, nI t, qo, bd, pr, st, dl, co, de, ex, pa, li) v1) (nI c, nI oc, nI lv, nI t, qo, bd, pr, dl, st, co, de, ex, lm_nA hs, lm_nA hp, lm_nA ps, pa, li, lm_nA ol, lm_nA ho, lm_nA lh, so) v1
  obtain ⟨r, hX, hY⟩ := lm_sm (c := c) (oc := oc) (lv := lv) (t := t) (hs := hs) (hp := hp) (ps := ps) (ol := ol) (ho := ho) (lh := lh) (qo := qo) (bd := bd) (pr := pr) (dl := dl) (st := st) (co := co) (de := de) (ex := ex) (pa := pa) (li := li) (so := so) c40 v1
  exact hX _ (hY _ ⟨rfl, R⟩)
end
