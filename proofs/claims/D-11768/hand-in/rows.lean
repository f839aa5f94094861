section
/-! small sets as naturals below 16, and what the program's int operations do on them -/
theorem pv_or (a b : Nat) : nI a ||| nI b = nI (a ||| b) := by
  apply Int32.toBitVec_inj.1
  show BitVec.ofNat 32 a ||| BitVec.ofNat 32 b = BitVec.ofNat 32 (a ||| b)
  apply BitVec.eq_of_getLsbD_eq
  intro i hi
  simp [hi]
theorem pv_and (a b : Nat) : nI a &&& nI b = nI (a &&& b) := by
  apply Int32.toBitVec_inj.1
  show BitVec.ofNat 32 a &&& BitVec.ofNat 32 b = BitVec.ofNat 32 (a &&& b)
  apply BitVec.eq_of_getLsbD_eq
  intro i hi
  simp [hi]
theorem pv_al {a : Nat} (b : Nat) (h : a < 16) : a &&& b < 16 := Nat.lt_of_le_of_lt Nat.and_le_left h
theorem pv_bit : ∀ s, s < 16 → ∀ u, u < 10 → (nI s >>> (nI u &&& 31)) &&& 1 = nI (if s.testBit u = true then 1 else 0) := by decide +kernel
theorem pv_brb {A B : Prop} {s u : Nat} (hs : s < 16) (hu : u < 10) (f : s.testBit u = true → A) (g : s.testBit u = false → B) : (((nI s >>> (nI u &&& 31)) &&& 1) = 1 → A) ∧ (¬ ((nI s >>> (nI u &&& 31)) &&& 1) = 1 → B) := by
  rw [pv_bit s hs u hu]
  by_cases h : s.testBit u = true
  · rw [if_pos h]
    exact br_t (by decide +kernel) (f h)
  · rw [if_neg h]
    exact br_f (by decide +kernel) (g (by simpa using h))
theorem pv_brz {A B : Prop} {s u : Nat} (hs : s < 16) (hu : u < 10) (f : s.testBit u = false → A) (g : s.testBit u = true → B) : (((nI s >>> (nI u &&& 31)) &&& 1) = 0 → A) ∧ (¬ ((nI s >>> (nI u &&& 31)) &&& 1) = 0 → B) := by
  rw [pv_bit s hs u hu]
  by_cases h : s.testBit u = true
  · rw [if_pos h]
    exact br_f (by decide +kernel) (g h)
  · rw [if_neg h]
    exact br_t (by decide +kernel) (f (by simpa using h))
theorem pv_bra {A B : Prop} {a b : Nat} (ha : a < 16) (f : a &&& b = 0 → A) (g : ¬ a &&& b = 0 → B) : ((nI a &&& nI b) = 0 → A) ∧ (¬ (nI a &&& nI b) = 0 → B) := by
  rw [pv_and]
  have h := pv_al b ha
  exact pk_eq (a &&& b) 0 f g
theorem pv_nand : ∀ m, m < 16 → ∀ o, o < 16 → nI m &&& (nI o ^^^ (-1)) = nI (m &&& (15 ^^^ o)) := by decide +kernel
theorem pv_nnand : ∀ s, s < 16 → ∀ m, m < 16 → nI m &&& ((nI s ^^^ (-1)) ^^^ (-1)) = nI (m &&& (15 ^^^ (15 ^^^ s))) := by decide +kernel
theorem pv_pw : ∀ c, c < 16 → nI c &&& (nI c - 1) = nI (c &&& (c - 1)) ∨ c = 0 := by decide +kernel
theorem pv_enc : ∀ i, i < 16 → ∀ o, o < 16 → nI i ||| (nI o <<< ((10 : Int32) &&& 31)) = nI (i + 1024 * o) := by decide +kernel
theorem pv_sh : ∀ u, u < 4 → (1 : Int32) <<< (nI u &&& 31) = nI (2 ^ u) := by decide +kernel
theorem pv_p2 : ∀ u, u < 4 → 2 ^ u < 16 := by decide +kernel
theorem pv_ol : ∀ a, a < 16 → ∀ b, b < 16 → a ||| b < 16 := by decide +kernel
theorem pv_xl : ∀ a, a < 16 → 15 ^^^ a < 16 := by decide +kernel
theorem pv_xx : ∀ a, a < 16 → 15 ^^^ (15 ^^^ a) = a := by decide +kernel
/-! subsets: a &&& b = a; apart: a &&& b = 0 -/
theorem pv_refl (a : Nat) : a &&& a = a := Nat.and_self a
theorem pv_subl : ∀ a, a < 16 → ∀ b, b < 16 → a &&& (a ||| b) = a := by decide +kernel
theorem pv_subr : ∀ a, a < 16 → ∀ b, b < 16 → b &&& (a ||| b) = b := by decide +kernel
theorem pv_trans : ∀ a, a < 16 → ∀ b, b < 16 → ∀ c, c < 16 → a &&& b = a → b &&& c = b → a &&& c = a := by decide +kernel
theorem pv_anti : ∀ a, a < 16 → ∀ b, b < 16 → a &&& b = a → b &&& a = b → a = b := by decide +kernel
theorem pv_join : ∀ a, a < 16 → ∀ b, b < 16 → ∀ c, c < 16 → a &&& c = a → b &&& c = b → (a ||| b) &&& c = a ||| b := by decide +kernel
theorem pv_apart : ∀ a, a < 16 → ∀ b, b < 16 → ∀ c, c < 16 → a &&& c = 0 → b &&& c = 0 → (a ||| b) &&& c = 0 := by decide +kernel
theorem pv_meet : ∀ i, i < 16 → ∀ o, o < 16 → ∀ s, s < 16 → i &&& s = i → o &&& s = 0 → i &&& o = 0 := by decide +kernel
theorem pv_bsub : ∀ a, a < 16 → ∀ b, b < 16 → a &&& b = a → ∀ u, u < 4 → a.testBit u = true → b.testBit u = true := by decide +kernel
theorem pv_away : ∀ r, r < 16 → ∀ o, o < 16 → ∀ i, i < 16 → r &&& o = r → i &&& o = 0 → r &&& i = 0 := by decide +kernel
theorem pv_full : ∀ i, i < 16 → ∀ o, o < 16 → i ||| o = 15 → i &&& o = 0 → 15 ^^^ o = i := by decide +kernel
theorem pv_onlyD : ∀ i, i < 16 → ∀ o, o < 16 → ∀ s, s < 16 → (i ||| o = 15 ∧ i &&& s = i ∧ o &&& s = 0) → s = i := by decide +kernel
theorem pv_only (i : Nat) (hi : i < 16) (o : Nat) (ho : o < 16) (s : Nat) (hs : s < 16) (h1 : i ||| o = 15) (h2 : i &&& s = i) (h3 : o &&& s = 0) : s = i := pv_onlyD i hi o ho s hs ⟨h1, h2, h3⟩
/-- the last one that can meet a need must be in -/
theorem pv_lastA : ∀ m, m < 16 → ∀ o, o < 16 → ∀ s, s < 16 → (o &&& s = 0 ∧ ¬ m &&& s = 0) → ¬ m &&& (15 ^^^ o) = 0 := by decide +kernel
theorem pv_lastB : ∀ m, m < 16 → ∀ o, o < 16 → ∀ s, s < 16 → (o &&& s = 0 ∧ ¬ m &&& s = 0 ∧ (m &&& (15 ^^^ o)) &&& ((m &&& (15 ^^^ o)) - 1) = 0) → (m &&& (15 ^^^ o)) &&& s = m &&& (15 ^^^ o) := by decide +kernel
theorem pv_last (m : Nat) (hm : m < 16) (o : Nat) (ho : o < 16) (s : Nat) (hs : s < 16) (h1 : o &&& s = 0) (h2 : ¬ m &&& s = 0) : ¬ m &&& (15 ^^^ o) = 0 ∧ ((m &&& (15 ^^^ o)) &&& ((m &&& (15 ^^^ o)) - 1) = 0 → (m &&& (15 ^^^ o)) &&& s = m &&& (15 ^^^ o)) :=
  ⟨pv_lastA m hm o ho s hs ⟨h1, h2⟩, fun h3 => pv_lastB m hm o ho s hs ⟨h1, h2, h3⟩⟩
theorem pv_nomore : ∀ m, m < 16 → ∀ o, o < 16 → ∀ s, s < 16 → o &&& s = 0 → m &&& (15 ^^^ o) = 0 → m &&& s = 0 := by decide +kernel
theorem pv_bin : ∀ s, s < 16 → ∀ u, u < 4 → s.testBit u = true → 2 ^ u &&& s = 2 ^ u := by decide +kernel
theorem pv_bout : ∀ s, s < 16 → ∀ u, u < 4 → s.testBit u = false → 2 ^ u &&& s = 0 := by decide +kernel
/-! how many -/
def pv_os (s : Nat) : Nat → Nat
  | 0 => 0
  | n + 1 => pv_os s n + (if s.testBit n = true then 1 else 0)
theorem pv_os10 : ∀ s, s < 16 → pv_os s 10 = pv_os s 4 := by decide +kernel
theorem pv_os4 : ∀ s, s < 16 → pv_os s 4 ≤ 4 := by decide +kernel
theorem pv_osm : ∀ a, a < 16 → ∀ b, b < 16 → a &&& b = a → pv_os a 4 ≤ pv_os b 4 ∧ (a = b ∨ pv_os a 4 < pv_os b 4) := by decide +kernel
/-- the first unit that is neither in nor out; 4: none -/
def pv_fo (m : Nat) : Nat := if m.testBit 0 = false then 0 else if m.testBit 1 = false then 1 else if m.testBit 2 = false then 2 else if m.testBit 3 = false then 3 else 4
theorem pv_fo4 : ∀ m, m < 16 → pv_fo m = 4 → m = 15 := by decide +kernel
theorem pv_fole : ∀ m, m < 16 → pv_fo m ≤ 4 := by decide +kernel
theorem pv_fos : ∀ m, m < 16 → pv_fo m < 4 → pv_os m 4 < 4 ∧ pv_os m 4 < pv_os (m ||| 2 ^ pv_fo m) 4 := by decide +kernel
end
section
/-! the picture: K u: how many needs (0 or 1); O u: the need is optional; M u: who can meet it; R u: its rivals; G u: its lag -/
def pv_C (i o S : Nat) : Prop := i &&& S = i ∧ o &&& S = 0
def pv_So (K O M R : Nat → Nat) (S : Nat) : Prop := ∀ u, u < 4 → S.testBit u = true → R u &&& S = 0 ∧ (K u = 1 → O u = 0 → ¬ M u &&& S = 0)
def pv_Cl (K O M R : Nat → Nat) (i o : Nat) : Prop := i &&& o = 0 ∧ ∀ u, u < 4 → i.testBit u = true → R u &&& o = R u ∧ (K u = 1 → O u = 0 → ¬ M u &&& (15 ^^^ o) = 0)
def pv_ct (K O M G : Nat → Nat) (i o : Nat) : Nat → Nat
  | 0 => 0
  | n + 1 => pv_ct K O M G i o n + (if i.testBit n = true then G n + (if K n = 1 ∧ O n = 1 ∧ M n &&& (15 ^^^ o) = 0 then 2 else 0) else 0)
def pv_co (K O M G : Nat → Nat) (i o : Nat) : Nat := 5 * pv_os i 4 + pv_ct K O M G i o 4
def pv_cs (K O M G : Nat → Nat) (S : Nat) : Nat := pv_co K O M G S (15 ^^^ S)
/-- what the arrays hold when they are prepared -/
def pv_P (K O M R G : Nat → Nat) (a5 a8 a11 a12 a13 : Nat → Int32) : Prop :=
  ∀ u, u < 4 → K u ≤ 1 ∧ O u ≤ 1 ∧ M u < 16 ∧ R u < 16 ∧ G u ≤ 3 ∧ a5 u = nI (K u) ∧ (K u = 1 → (∃ d, d < 3 ∧ a8 (3 * u) = nI (32 * O u + d)) ∧ a11 (3 * u) = nI (M u)) ∧ a12 u = nI (R u) ∧ a13 u = nI (G u)
theorem pv_ctb {K O M G : Nat → Nat} (hG : ∀ u, u < 4 → G u ≤ 3) (i o : Nat) : ∀ n, n ≤ 4 → pv_ct K O M G i o n ≤ 5 * n := by
  intro n
  induction n with
  | zero => intro _; exact Nat.le_refl 0
  | succ n ih =>
    intro hn
    have h1 := ih (by omega)
    have h2 := hG n (by omega)
    show pv_ct K O M G i o n + (if i.testBit n = true then G n + (if K n = 1 ∧ O n = 1 ∧ M n &&& (15 ^^^ o) = 0 then 2 else 0) else 0) ≤ 5 * (n + 1)
    split <;> (try split) <;> omega
theorem pv_ctm {K O M G : Nat → Nat} (hM : ∀ u, u < 4 → M u < 16) {i o S : Nat} (hi : i < 16) (ho : o < 16) (hS : S < 16) (h : pv_C i o S) : ∀ n, n ≤ 4 → pv_ct K O M G i o n ≤ pv_ct K O M G S (15 ^^^ S) n := by
  intro n
  induction n with
  | zero => intro _; exact Nat.le_refl 0
  | succ n ih =>
    intro hn
    have h1 := ih (by omega)
    have hb := pv_bsub i hi S hS h.1 n (by omega)
    have hm : M n &&& (15 ^^^ o) = 0 → M n &&& (15 ^^^ (15 ^^^ S)) = 0 := by
      rw [pv_xx S hS]
      exact pv_nomore (M n) (hM n (by omega)) o ho S hS h.2
    show pv_ct K O M G i o n + (if i.testBit n = true then G n + (if K n = 1 ∧ O n = 1 ∧ M n &&& (15 ^^^ o) = 0 then 2 else 0) else 0) ≤ pv_ct K O M G S (15 ^^^ S) n + (if S.testBit n = true then G n + (if K n = 1 ∧ O n = 1 ∧ M n &&& (15 ^^^ (15 ^^^ S)) = 0 then 2 else 0) else 0)
    by_cases c1 : i.testBit n = true
    · rw [if_pos c1, if_pos (hb c1)]
      by_cases c2 : K n = 1 ∧ O n = 1 ∧ M n &&& (15 ^^^ o) = 0
      · rw [if_pos c2, if_pos ⟨c2.1, c2.2.1, hm c2.2.2⟩]
        omega
      · rw [if_neg c2]
        omega
    · rw [if_neg c1]
      omega
/-- what is certain is no more than what any completion costs -/
theorem pv_bound {K O M G : Nat → Nat} (hM : ∀ u, u < 4 → M u < 16) {i o S : Nat} (hi : i < 16) (ho : o < 16) (hS : S < 16) (h : pv_C i o S) : pv_co K O M G i o ≤ pv_cs K O M G S := by
  have h1 := pv_ctm (K := K) (O := O) (G := G) hM hi ho hS h 4 (Nat.le_refl 4)
  have h2 := (pv_osm i hi S hS h.1).1
  show 5 * pv_os i 4 + pv_ct K O M G i o 4 ≤ 5 * pv_os S 4 + pv_ct K O M G S (15 ^^^ S) 4
  omega
theorem pv_cob {K O M G : Nat → Nat} (hG : ∀ u, u < 4 → G u ≤ 3) {i : Nat} (hi : i < 16) (o : Nat) : pv_co K O M G i o ≤ 40 := by
  have h1 := pv_ctb (K := K) (O := O) (M := M) hG i o 4 (Nat.le_refl 4)
  have h2 := pv_os4 i hi
  show 5 * pv_os i 4 + pv_ct K O M G i o 4 ≤ 40
  omega
/-- a closed pair that decides all is a sound set -/
theorem pv_leaf {K O M R : Nat → Nat} (hR : ∀ u, u < 4 → R u < 16) {i o : Nat} (hi : i < 16) (ho : o < 16) (hc : pv_Cl K O M R i o) (hf : i ||| o = 15) : pv_So K O M R i := by
  intro u hu hb
  obtain ⟨h1, h2⟩ := hc.2 u hu hb
  refine ⟨pv_away (R u) (hR u hu) o ho i hi h1 hc.1, fun hK hO => ?_⟩
  have h3 := h2 hK hO
  rw [pv_full i hi o ho hf hc.1] at h3
  exact h3
/-! the search -/
def pv_up (f : Nat → Nat) (k x : Nat) : Nat → Nat := fun j => if j = k then x else f j
theorem pv_ups {f : Nat → Nat} {k x : Nat} : pv_up f k x k = x := if_pos rfl
theorem pv_upn {f : Nat → Nat} {k j x : Nat} (h : j ≠ k) : pv_up f k x j = f j := if_neg h
def pv_Lv (K O M R : Nat → Nat) (w b j i o t : Nat) : Prop := i < 16 ∧ o < 16 ∧ t ≤ 2 ∧ pv_Cl K O M R i o ∧ w &&& i = w ∧ b &&& o = b ∧ j ≤ pv_os (i ||| o) 4
def pv_Pe (i o t S : Nat) : Prop := pv_C i o S ∧ (t = 0 ∨ (t = 1 ∧ S.testBit (pv_fo (i ||| o)) = true))
def pv_Dm (cs : Nat → Nat) (B : Option Nat) (S : Nat) : Prop := ∃ s, B = some s ∧ (cs s < cs S ∨ (cs s = cs S ∧ s ≤ S))
def pv_In (K O M R G : Nat → Nat) (w b q : Nat) (hi ho tn : Nat → Nat) (B : Option Nat) : Prop :=
  (∀ j, j < q → pv_Lv K O M R w b j (hi j) (ho j) (tn j)) ∧ (∀ s, B = some s → s < 16 ∧ pv_So K O M R s ∧ pv_C w b s) ∧
  (∀ S, S < 16 → pv_So K O M R S → pv_C w b S → pv_Dm (pv_cs K O M G) B S ∨ ∃ j, j < q ∧ pv_Pe (hi j) (ho j) (tn j) S)
/-- the answer -/
def pv_Re (K O M R G : Nat → Nat) (w b : Nat) (B : Option Nat) : Prop :=
  (∀ s, B = some s → s < 16 ∧ pv_So K O M R s ∧ pv_C w b s) ∧ (∀ S, S < 16 → pv_So K O M R S → pv_C w b S → pv_Dm (pv_cs K O M G) B S)
theorem pv_fin {K O M R G : Nat → Nat} {w b : Nat} {hi ho tn : Nat → Nat} {B : Option Nat} (h : pv_In K O M R G w b 0 hi ho tn B) : pv_Re K O M R G w b B :=
  ⟨h.2.1, fun S hS hs hc => (h.2.2 S hS hs hc).elim id (fun ⟨j, hj, _⟩ => absurd hj (by omega))⟩
/-- the two branches of a place -/
def pv_bi (i o t : Nat) : Nat := if t = 0 then i else i ||| 2 ^ pv_fo (i ||| o)
def pv_bo (i o t : Nat) : Nat := if t = 0 then o ||| 2 ^ pv_fo (i ||| o) else o
theorem pv_split {i o t S : Nat} (hi : i < 16) (ho : o < 16) (hS : S < 16) (hf : pv_fo (i ||| o) < 4) (ht : ¬ t = 2) (h : pv_Pe i o t S) : pv_C (pv_bi i o t) (pv_bo i o t) S ∨ pv_Pe i o (t + 1) S := by
  obtain ⟨hc, h0 | ⟨h1, hb⟩⟩ := h
  · subst h0
    by_cases hb : S.testBit (pv_fo (i ||| o)) = true
    · exact Or.inr ⟨hc, Or.inr ⟨rfl, hb⟩⟩
    · refine Or.inl ⟨hc.1, ?_⟩
      show (o ||| 2 ^ pv_fo (i ||| o)) &&& S = 0
      exact pv_apart o ho _ (pv_p2 _ hf) S hS hc.2 (pv_bout S hS _ hf (by simpa using hb))
  · subst h1
    refine Or.inl ⟨?_, hc.2⟩
    show (i ||| 2 ^ pv_fo (i ||| o)) &&& S = i ||| 2 ^ pv_fo (i ||| o)
    exact pv_join i hi _ (pv_p2 _ hf) S hS hc.1 (pv_bin S hS _ hf hb)
theorem pv_bil {i o t : Nat} (hi : i < 16) (hf : pv_fo (i ||| o) < 4) : pv_bi i o t < 16 ∧ i &&& pv_bi i o t = i := by
  unfold pv_bi
  split
  · exact ⟨hi, pv_refl i⟩
  · exact ⟨pv_ol i hi _ (pv_p2 _ hf), pv_subl i hi _ (pv_p2 _ hf)⟩
theorem pv_bol {i o t : Nat} (ho : o < 16) (hf : pv_fo (i ||| o) < 4) : pv_bo i o t < 16 ∧ o &&& pv_bo i o t = o := by
  unfold pv_bo
  split
  · exact ⟨pv_ol o ho _ (pv_p2 _ hf), pv_subl o ho _ (pv_p2 _ hf)⟩
  · exact ⟨ho, pv_refl o⟩
theorem pv_boi : ∀ i, i < 16 → ∀ o, o < 16 → ∀ t, t < 3 → pv_bi i o t ||| pv_bo i o t = (i ||| o) ||| 2 ^ pv_fo (i ||| o) := by decide +kernel
end
section
/-! the moves of the search, on the picture -/
theorem pv_pop1 {K O M R G : Nat → Nat} {w b k : Nat} {hi ho tn : Nat → Nat} {B B' : Option Nat} (hR : ∀ u, u < 4 → R u < 16) (hb : b < 16) (h : pv_In K O M R G w b (k + 1) hi ho tn B)
    (hf : pv_fo (hi k ||| ho k) = 4) (hv : B' = B ∨ B' = some (hi k)) (hd : ∀ S, pv_Dm (pv_cs K O M G) B S → pv_Dm (pv_cs K O M G) B' S) (hs : pv_Dm (pv_cs K O M G) B' (hi k)) :
    pv_In K O M R G w b k hi ho tn B' := by
  obtain ⟨hL, hB, hS⟩ := h
  obtain ⟨l1, l2, l3, l4, l5, l6, l7⟩ := hL k (by omega)
  have hfull : hi k ||| ho k = 15 := pv_fo4 _ (pv_ol _ l1 _ l2) hf
  refine ⟨fun j hj => hL j (by omega), fun s hs' => ?_, fun S hS16 hSo hSC => ?_⟩
  · rcases hv with e | e
    · rw [e] at hs'
      exact hB s hs'
    · rw [e] at hs'
      have e2 : hi k = s := Option.some.inj hs'
      subst e2
      exact ⟨l1, pv_leaf hR l1 l2 l4 hfull, l5, pv_away b hb (ho k) l2 (hi k) l1 l6 l4.1⟩
  · rcases hS S hS16 hSo hSC with hd' | ⟨j, hj, hp⟩
    · exact Or.inl (hd S hd')
    · by_cases e : j = k
      · subst e
        have e2 : S = hi j := pv_only (hi j) l1 (ho j) l2 S hS16 hfull hp.1.1 hp.1.2
        subst e2
        exact Or.inl hs
      · exact Or.inr ⟨j, by omega, hp⟩
theorem pv_pop2 {K O M R G : Nat → Nat} {w b k : Nat} {hi ho tn : Nat → Nat} {B : Option Nat} (h : pv_In K O M R G w b (k + 1) hi ho tn B) (ht : tn k = 2) : pv_In K O M R G w b k hi ho tn B := by
  obtain ⟨hL, hB, hS⟩ := h
  refine ⟨fun j hj => hL j (by omega), hB, fun S hS16 hSo hSC => ?_⟩
  rcases hS S hS16 hSo hSC with hd' | ⟨j, hj, hp⟩
  · exact Or.inl hd'
  · by_cases e : j = k
    · subst e
      rcases hp.2 with z | z
      · omega
      · omega
    · exact Or.inr ⟨j, by omega, hp⟩
theorem pv_turn {K O M R G : Nat → Nat} {w b k : Nat} {hi ho tn : Nat → Nat} {B : Option Nat} (h : pv_In K O M R G w b (k + 1) hi ho tn B) (hf : pv_fo (hi k ||| ho k) < 4) (ht : ¬ tn k = 2)
    (hno : ∀ S, S < 16 → pv_So K O M R S → pv_C w b S → pv_C (pv_bi (hi k) (ho k) (tn k)) (pv_bo (hi k) (ho k) (tn k)) S → pv_Dm (pv_cs K O M G) B S) :
    pv_In K O M R G w b (k + 1) hi ho (pv_up tn k (tn k + 1)) B := by
  obtain ⟨hL, hB, hS⟩ := h
  refine ⟨fun j hj => ?_, hB, fun S hS16 hSo hSC => ?_⟩
  · obtain ⟨l1, l2, l3, l4, l5, l6, l7⟩ := hL j hj
    by_cases e : j = k
    · subst e
      rw [pv_ups]
      exact ⟨l1, l2, by omega, l4, l5, l6, l7⟩
    · rw [pv_upn e]
      exact ⟨l1, l2, l3, l4, l5, l6, l7⟩
  · rcases hS S hS16 hSo hSC with hd' | ⟨j, hj, hp⟩
    · exact Or.inl hd'
    · by_cases e : j = k
      · subst e
        obtain ⟨l1, l2, _⟩ := hL j (by omega)
        rcases pv_split l1 l2 hS16 hf ht hp with z | z
        · exact Or.inl (hno S hS16 hSo hSC z)
        · exact Or.inr ⟨j, by omega, by rw [pv_ups]; exact z⟩
      · exact Or.inr ⟨j, hj, by rw [pv_upn e]; exact hp⟩
theorem pv_push {K O M R G : Nat → Nat} {w b k i' o' : Nat} {hi ho tn : Nat → Nat} {B : Option Nat} (hw : w < 16) (hb : b < 16) (h : pv_In K O M R G w b (k + 1) hi ho tn B) (hf : pv_fo (hi k ||| ho k) < 4) (ht : ¬ tn k = 2)
    (hi' : i' < 16) (ho' : o' < 16) (hc : pv_Cl K O M R i' o') (s1 : pv_bi (hi k) (ho k) (tn k) &&& i' = pv_bi (hi k) (ho k) (tn k)) (s2 : pv_bo (hi k) (ho k) (tn k) &&& o' = pv_bo (hi k) (ho k) (tn k))
    (hno : ∀ S, S < 16 → pv_So K O M R S → pv_C (pv_bi (hi k) (ho k) (tn k)) (pv_bo (hi k) (ho k) (tn k)) S → pv_C i' o' S) :
    pv_In K O M R G w b (k + 2) (pv_up hi (k + 1) i') (pv_up ho (k + 1) o') (pv_up (pv_up tn k (tn k + 1)) (k + 1) 0) B := by
  obtain ⟨hL, hB, hS⟩ := h
  obtain ⟨l1, l2, l3, l4, l5, l6, l7⟩ := hL k (by omega)
  obtain ⟨b1, b2⟩ := pv_bil (t := tn k) l1 hf
  obtain ⟨c1, c2⟩ := pv_bol (t := tn k) l2 hf
  have keep : ∀ j, j < k + 1 → ∀ t, pv_up (pv_up tn k t) (k + 1) 0 j = pv_up tn k t j := fun j hj t => pv_upn (by omega)
  refine ⟨fun j hj => ?_, hB, fun S hS16 hSo hSC => ?_⟩
  · by_cases e : j = k + 1
    · subst e
      rw [pv_ups, pv_ups, pv_ups]
      refine ⟨hi', ho', by omega, hc, pv_trans w hw _ l1 i' hi' l5 (pv_trans _ l1 _ b1 i' hi' b2 s1), pv_trans b hb _ l2 o' ho' l6 (pv_trans _ l2 _ c1 o' ho' c2 s2), ?_⟩
      have hol := pv_ol _ l1 _ l2
      have f1 := (pv_fos _ hol hf).2
      rw [← pv_boi _ l1 _ l2 (tn k) (by omega)] at f1
      have hio := pv_ol i' hi' o' ho'
      have g1 := pv_trans _ b1 i' hi' _ hio s1 (pv_subl i' hi' o' ho')
      have g2 := pv_trans _ c1 o' ho' _ hio s2 (pv_subr i' hi' o' ho')
      have f2 := (pv_osm _ (pv_ol _ b1 _ c1) _ hio (pv_join _ b1 _ c1 _ hio g1 g2)).1
      omega
    · rw [pv_upn e, pv_upn e, keep j (by omega)]
      obtain ⟨m1, m2, m3, m4, m5, m6, m7⟩ := hL j (by omega)
      by_cases e2 : j = k
      · subst e2
        rw [pv_ups]
        exact ⟨m1, m2, by omega, m4, m5, m6, m7⟩
      · rw [pv_upn e2]
        exact ⟨m1, m2, m3, m4, m5, m6, m7⟩
  · rcases hS S hS16 hSo hSC with hd' | ⟨j, hj, hp⟩
    · exact Or.inl hd'
    · by_cases e : j = k
      · subst e
        rcases pv_split l1 l2 hS16 hf ht hp with z | z
        · refine Or.inr ⟨j + 1, by omega, ?_⟩
          rw [pv_ups, pv_ups, pv_ups]
          exact ⟨hno S hS16 hSo z, Or.inl rfl⟩
        · refine Or.inr ⟨j, by omega, ?_⟩
          rw [pv_upn (by omega), pv_upn (by omega), pv_upn (by omega), pv_ups]
          exact z
      · refine Or.inr ⟨j, by omega, ?_⟩
        rw [pv_upn (by omega), pv_upn (by omega), pv_upn (by omega), pv_upn e]
        exact hp
/-! the measure -/
def pv_cb (j : Nat) : Nat := 3 * 2 ^ (4 - j) - 2
def pv_rm (j t : Nat) : Nat := (2 - t) * pv_cb j + 1
def pv_mu (tn : Nat → Nat) : Nat → Nat
  | 0 => 0
  | q + 1 => pv_mu tn q + pv_rm q (tn q)
theorem pv_mup {tn : Nat → Nat} {k x : Nat} : ∀ q, q ≤ k → pv_mu (pv_up tn k x) q = pv_mu tn q := by
  intro q
  induction q with
  | zero => intro _; rfl
  | succ q ih =>
    intro h
    show pv_mu (pv_up tn k x) q + pv_rm q (pv_up tn k x q) = pv_mu tn q + pv_rm q (tn q)
    rw [ih (by omega), pv_upn (by omega)]
theorem pv_rm0 (j t : Nat) : 0 < pv_rm j t := Nat.succ_pos _
theorem pv_rm1 : ∀ k, k < 5 → ∀ t, t < 2 → pv_rm k (t + 1) < pv_rm k t := by decide +kernel
theorem pv_rm2 : ∀ k, k < 4 → ∀ t, t < 2 → pv_rm k (t + 1) + pv_rm (k + 1) 0 < pv_rm k t := by decide +kernel
theorem pv_mut {tn : Nat → Nat} {k : Nat} (hk : k < 5) (ht : tn k < 2) : pv_mu (pv_up tn k (tn k + 1)) (k + 1) < pv_mu tn (k + 1) := by
  show pv_mu (pv_up tn k (tn k + 1)) k + pv_rm k (pv_up tn k (tn k + 1) k) < pv_mu tn k + pv_rm k (tn k)
  rw [pv_mup k (Nat.le_refl k), pv_ups]
  have := pv_rm1 k hk (tn k) ht
  omega
theorem pv_mup2 {tn : Nat → Nat} {k : Nat} (hk : k < 4) (ht : tn k < 2) : pv_mu (pv_up (pv_up tn k (tn k + 1)) (k + 1) 0) (k + 2) < pv_mu tn (k + 1) := by
  show pv_mu (pv_up (pv_up tn k (tn k + 1)) (k + 1) 0) k + pv_rm k (pv_up (pv_up tn k (tn k + 1)) (k + 1) 0 k) + pv_rm (k + 1) (pv_up (pv_up tn k (tn k + 1)) (k + 1) 0 (k + 1)) < pv_mu tn k + pv_rm k (tn k)
  rw [pv_mup k (by omega), pv_mup k (Nat.le_refl k), pv_upn (show k ≠ k + 1 by omega), pv_ups, pv_ups]
  have := pv_rm2 k hk (tn k) ht
  omega
/-! what an offer does to the best -/
theorem pv_of0 {cs : Nat → Nat} {s : Nat} : pv_Dm cs (some s) s := ⟨s, rfl, Or.inr ⟨rfl, Nat.le_refl s⟩⟩
theorem pv_ofN {cs : Nat → Nat} {B : Option Nat} (S : Nat) (h : pv_Dm cs none S) : pv_Dm cs B S := by
  obtain ⟨s, e, _⟩ := h
  exact absurd e.symm (Option.some_ne_none s)
theorem pv_ofS {cs : Nat → Nat} {s t : Nat} (ht : cs t < cs s ∨ (cs t = cs s ∧ t ≤ s)) (S : Nat) (h : pv_Dm cs (some s) S) : pv_Dm cs (some t) S := by
  obtain ⟨x, e, h⟩ := h
  have e2 : s = x := Option.some.inj e
  subst e2
  exact ⟨t, rfl, by omega⟩
end
section
section
variable {nt st fi fo bc bs : Int32} {a1 a2 a3 a4 a5 a6 a7 a8 a9 a10 a11 a12 a13 a14 a15 a16 a17 a18 a19 : Nat → Int32}
theorem pv_ones {post : Int32 → Prop} {s : Nat} (hs : s < 16) (hp : post (nI (pv_os s 4))) : wpX_ones post () (nI s) :=
  pk_loop (fun n i x => wX_ones_4 post (nI s) n x (nI i)) (fun i x => x = nI (pv_os s i)) 10 0 0 (by omega) rfl
    (fun n x h => pk_le 10 10 (fun _ => by rw [h, pv_os10 s hs]; exact hp) (fun z => absurd z (by omega)))
    (fun n i x hi h hw => pk_le 10 i (fun z => absurd z (by omega)) (fun _ => nm_r (e' := nI (pv_os s (i + 1))) (by rw [h, pv_bit s hs i hi, nI_add]; rfl) (nm_r (nI_1 i) (hw _ rfl))))
theorem pv_isSet {post : Int32 → Prop} {s : Nat} (hs : s < 16) (hp : post 1) : wpX_isSet post ((nI 4), 0, 0, nt, st, fi, fo, bc, bs, a1, a2, a3, a4, a5, a6, a7, a8, a9, a10, a11, a12, a13, a14, a15, a16, a17, a18, a19) (nI s) := by
  refine br_f (nI_pos (by omega)) (br_f ?_ hp)
  rw [show (1 : Int32) <<< (nI 4 &&& 31) = nI 16 from by decide +kernel]
  exact nI_ge hs (by omega)
theorem pv_opt {post : Int32 → Prop} {u o d : Nat} (hu : u < 4) (ho : o ≤ 1) (hd : d < 3) (h8 : a8 (3 * u) = nI (32 * o + d)) (h0 : o = 0 → post 0) (h1 : o = 1 → post 1) : wpX_isOptional post ((nI 4), 0, 0, nt, st, fi, fo, bc, bs, a1, a2, a3, a4, a5, a6, a7, a8, a9, a10, a11, a12, a13, a14, a15, a16, a17, a18, a19) (nI (3 * u)) := by
  refine ⟨pk_in (3 * u) 30 (by omega), ?_⟩
  rw [nI_clamp (show 3 * u < 2 ^ 31 by omega), h8]
  exact pk_lt (32 * o + d) 32 (fun z => h0 (by omega)) (fun z => h1 (by omega))
theorem pv_ap1 : ∀ o, o < 2 → ∀ d, d < 3 → (nI (32 * o + d) >>> ((3 : Int32) &&& 31)) &&& 3 = 0 := by decide +kernel
theorem pv_app {post : Int32 → Prop} {u o d : Nat} (hu : u < 4) (ho : o ≤ 1) (hd : d < 3) (h8 : a8 (3 * u) = nI (32 * o + d)) (hp : post 1) : wpX_applies post ((nI 4), 0, 0, nt, st, fi, fo, bc, bs, a1, a2, a3, a4, a5, a6, a7, a8, a9, a10, a11, a12, a13, a14, a15, a16, a17, a18, a19) (nI (3 * u)) := by
  refine ⟨pk_in (3 * u) 30 (by omega), ?_⟩
  rw [nI_clamp (show 3 * u < 2 ^ 31 by omega), h8]
  exact nm_r (pv_ap1 o (by omega) d hd) (br_t rfl hp)
theorem pv_kk {u k : Nat} (hu : u < 4) (h5 : a5 u = nI k) : 3 * nI u + a5 (nI u).toNatClampNeg = nI (3 * u + k) := by
  rw [nI_clamp (show u < 2 ^ 31 by omega), h5, show (3 : Int32) = nI 3 from rfl, pk_mul, nI_add]
theorem pv_fois : ∀ m, m < 16 → ∀ i, i < 4 → (∀ j, j < i → m.testBit j = true) → m.testBit i = false → pv_fo m = i := by decide +kernel
theorem pv_foal : ∀ m, m < 16 → (∀ j, j < 4 → m.testBit j = true) → pv_fo m = 4 := by decide +kernel
theorem pv_first {post : Int32 → Prop} {m : Nat} (hm : m < 16) (hN : pv_fo m = 4 → post (-1)) (hS : pv_fo m < 4 → post (nI (pv_fo m))) : wpX_firstOpen post ((nI 4), 0, 0, nt, st, fi, fo, bc, bs, a1, a2, a3, a4, a5, a6, a7, a8, a9, a10, a11, a12, a13, a14, a15, a16, a17, a18, a19) (nI m) :=
  pk_loop (σ := Unit) (fun n i _ => wX_firstOpen_2 post (nI m) (nI 4) 0 0 nt st fi fo bc bs a1 a2 a3 a4 a5 a6 a7 a8 a9 a10 a11 a12 a13 a14 a15 a16 a17 a18 a19 n (nI i)) (fun i _ => ∀ j, j < i → m.testBit j = true) 4 0 () (by omega) (fun j hj => absurd hj (by omega))
    (fun n _ h => pk_le 4 4 (fun _ => hN (pv_foal m hm h)) (fun z => absurd z (by omega)))
    (fun n i _ hi h hw => pk_le 4 i (fun z => absurd z (by omega)) (fun _ => pv_brz hm (by omega)
      (fun hb => by have e := pv_fois m hm i hi h hb; rw [e] at hS; exact hS hi)
      (fun hb => nm_r (nI_1 i) (hw () (lt_s h hb)))))
theorem pv_keep {post : St2 → Prop} {d : Nat} (hd : d < 12) (hp : post ((nI 4), 0, 0, nt, st, fi, fo, bc, bs, a1, a2, a3, a4, a5, a6, a7, a8, a9, a10, a11, a12, a13, upd a14 d fi, upd a15 d fo, upd a16 d 0, a17, a18, a19)) : wpX_keep post ((nI 4), 0, 0, nt, st, fi, fo, bc, bs, a1, a2, a3, a4, a5, a6, a7, a8, a9, a10, a11, a12, a13, a14, a15, a16, a17, a18, a19) (nI d) := by
  have e : (nI d).toNatClampNeg = d := nI_clamp (by omega)
  exact ⟨pk_in d 12 hd, nm_r (e' := upd a14 d fi) (by rw [e]) ⟨pk_in d 12 hd, nm_r (e' := upd a15 d fo) (by rw [e]) ⟨pk_in d 12 hd, nm_r (e' := upd a16 d 0) (by rw [e]) hp⟩⟩⟩
/-! the cost -/
theorem pv_c64 {K O M R G : Nat → Nat} {post : Int32 → Prop} {J29 : Int32 → Int32 → Prop} {left : Int32} {i o v x : Nat} (hP : pv_P K O M R G a5 a8 a11 a12 a13) (hv : v < 4)
    (hl : ∀ m, m < 16 → nI m &&& (left ^^^ (-1)) = nI (m &&& (15 ^^^ o)))
    (hJ : J29 (nI (x + (if K v = 1 ∧ O v = 1 ∧ M v &&& (15 ^^^ o) = 0 then 2 else 0))) (nI (v + 1))) :
    ∃ n, wX_costOf_64 post J29 (nI i) left (nI v) (nI 4) 0 0 nt st fi fo bc bs a1 a2 a3 a4 a5 a6 a7 a8 a9 a10 a11 a12 a13 a14 a15 a16 a17 a18 a19 n (nI x) (nI (3 * v)) := by
  obtain ⟨hK, hO, hM, hR, hG, h5, hk, h12, h13⟩ := hP v hv
  by_cases k : K v = 1
  · obtain ⟨⟨d, hd, h8⟩, h11⟩ := hk k
    rw [k] at h5
    have e : (nI (3 * v)).toNatClampNeg = 3 * v := nI_clamp (by omega)
    have END : ∀ y, J29 (nI y) (nI (v + 1)) → wX_costOf_64 post J29 (nI i) left (nI v) (nI 4) 0 0 nt st fi fo bc bs a1 a2 a3 a4 a5 a6 a7 a8 a9 a10 a11 a12 a13 a14 a15 a16 a17 a18 a19 1 (nI y) (nI (3 * v + 1)) := fun y hy =>
      ⟨pk_in v 10 (by omega), pk_le (3 * v + 1) (3 * v + 1) (fun _ => nm_r (nI_1 v) hy) (fun z => absurd z (by omega)) (pv_kk hv h5) rfl⟩
    refine ⟨2, pk_in v 10 (by omega), pk_le (3 * v + 1) (3 * v) (fun z => absurd z (by omega)) (fun _ => ?_) (pv_kk hv h5) rfl⟩
    refine pv_opt hv hO hd h8 (fun z => br_t rfl (nm_r (nI_add x 0) (nm_r (nI_1 (3 * v)) (END _ ?_)))) (fun z => br_f (by decide +kernel) (pv_app hv hO hd h8 (br_f (by decide +kernel) ⟨pk_in (3 * v) 30 (by omega), ?_⟩)))
    · rw [if_neg (fun t => absurd t.2.1 (by omega))] at hJ
      exact hJ
    · rw [e, h11, hl (M v) hM]
      have hc := pv_al (15 ^^^ o) hM
      refine pk_eq (M v &&& (15 ^^^ o)) 0 (fun z2 => nm_r (nI_add x 2) (nm_r (nI_1 (3 * v)) (END _ ?_))) (fun z2 => nm_r (nI_add x 0) (nm_r (nI_1 (3 * v)) (END _ ?_)))
      · rw [if_pos ⟨k, z, z2⟩] at hJ
        exact hJ
      · rw [if_neg (fun t => z2 t.2.2)] at hJ
        exact hJ
  · have k0 : K v = 0 := by omega
    rw [k0] at h5
    rw [if_neg (fun t => k t.1)] at hJ
    exact ⟨1, pk_in v 10 (by omega), pk_le (3 * v + 0) (3 * v) (fun _ => nm_r (nI_1 v) hJ) (fun z => absurd z (by omega)) (pv_kk hv h5) rfl⟩
theorem pv_costG {K O M R G : Nat → Nat} {post : Int32 → Prop} {left : Int32} {i o : Nat} (hP : pv_P K O M R G a5 a8 a11 a12 a13) (hi : i < 16)
    (hl : ∀ m, m < 16 → nI m &&& (left ^^^ (-1)) = nI (m &&& (15 ^^^ o))) (hp : post (nI (pv_co K O M G i o))) : wpX_costOf post ((nI 4), 0, 0, nt, st, fi, fo, bc, bs, a1, a2, a3, a4, a5, a6, a7, a8, a9, a10, a11, a12, a13, a14, a15, a16, a17, a18, a19) (nI i) left := by
  have e1 : nI i &&& ((0 : Int32) ^^^ (-1)) = nI i := (by decide +kernel : ∀ i, i < 16 → nI i &&& ((0 : Int32) ^^^ (-1)) = nI i) i hi
  have e2 : (0 : Int32) &&& left = nI 0 := by rw [nI_0]; exact Int32.zero_and
  unfold wpX_costOf
  dsimp only
  rw [e1, e2]
  refine pv_ones hi ?_
  refine pv_ones (by omega) (nm_r (e' := nI (5 * pv_os i 4)) ?_ ?_)
  · show nI 5 * nI (pv_os i 4) + nI 3 * nI (pv_os 0 4) = _
    rw [pk_mul, pk_mul, nI_add]
    rfl
  · refine pk_loop (fun n v x => wX_costOf_29 post (nI i) left (nI 4) 0 0 nt st fi fo bc bs a1 a2 a3 a4 a5 a6 a7 a8 a9 a10 a11 a12 a13 a14 a15 a16 a17 a18 a19 n x (nI v)) (fun v x => x = nI (5 * pv_os i 4 + pv_ct K O M G i o v)) 4 0 _ (by omega) rfl
      (fun n x h => pk_le 4 4 (fun _ => by rw [h]; exact hp) (fun z => absurd z (by omega)))
      (fun n v x hv h hw => pk_le 4 v (fun z => absurd z (by omega)) (fun _ => pv_brb hi (by omega) (fun hb => ⟨pk_in v 10 (by omega), nm_r (e' := nI (5 * pv_os i 4 + pv_ct K O M G i o v + G v)) ?_ (nm_r (pk_mul 3 v) (pv_c64 hP hv hl (hw _ ?_)))⟩) (fun hb => nm_r (nI_1 v) (hw _ ?_))))
    · rw [nI_clamp (show v < 2 ^ 31 by omega), (hP v hv).2.2.2.2.2.2.2.2, h, nI_add]
    · show _ = nI (5 * pv_os i 4 + (pv_ct K O M G i o v + (if i.testBit v = true then G v + (if K v = 1 ∧ O v = 1 ∧ M v &&& (15 ^^^ o) = 0 then 2 else 0) else 0)))
      rw [if_pos hb]
      congr 1
      omega
    · show _ = nI (5 * pv_os i 4 + (pv_ct K O M G i o v + (if i.testBit v = true then G v + (if K v = 1 ∧ O v = 1 ∧ M v &&& (15 ^^^ o) = 0 then 2 else 0) else 0)))
      rw [if_neg (by rw [hb]; decide), h]
      rfl
theorem pv_costP {K O M R G : Nat → Nat} {post : Int32 → Prop} {i o : Nat} (hP : pv_P K O M R G a5 a8 a11 a12 a13) (hi : i < 16) (ho : o < 16) (hp : post (nI (pv_co K O M G i o))) : wpX_costOf post ((nI 4), 0, 0, nt, st, fi, fo, bc, bs, a1, a2, a3, a4, a5, a6, a7, a8, a9, a10, a11, a12, a13, a14, a15, a16, a17, a18, a19) (nI i) (nI o) :=
  pv_costG hP hi (fun m hm => pv_nand m hm o ho) hp
theorem pv_costS {K O M R G : Nat → Nat} {post : Int32 → Prop} {s : Nat} (hP : pv_P K O M R G a5 a8 a11 a12 a13) (hs : s < 16) (hp : post (nI (pv_cs K O M G s))) : wpX_costOf post ((nI 4), 0, 0, nt, st, fi, fo, bc, bs, a1, a2, a3, a4, a5, a6, a7, a8, a9, a10, a11, a12, a13, a14, a15, a16, a17, a18, a19) (nI s) (nI s ^^^ (-1)) :=
  pv_costG hP hs (fun m hm => pv_nnand s hs m hm) hp
/-! soundness of a set -/
theorem pv_s36 {K O M R G : Nat → Nat} {post : Int32 → Prop} {J2 : Int32 → Prop} {s v : Nat} (hP : pv_P K O M R G a5 a8 a11 a12 a13) (hv : v < 4)
    (hJ : (K v = 1 → O v = 0 → ¬ M v &&& s = 0) → J2 (nI (v + 1))) (h0 : K v = 1 → O v = 0 → M v &&& s = 0 → post 0) :
    ∃ n, wX_isSound_36 post J2 (nI s) (nI v) (nI 4) 0 0 nt st fi fo bc bs a1 a2 a3 a4 a5 a6 a7 a8 a9 a10 a11 a12 a13 a14 a15 a16 a17 a18 a19 n (nI (3 * v)) := by
  obtain ⟨hK, hO, hM, hR, hG, h5, hk, h12, h13⟩ := hP v hv
  by_cases k : K v = 1
  · obtain ⟨⟨d, hd, h8⟩, h11⟩ := hk k
    rw [k] at h5
    have e : (nI (3 * v)).toNatClampNeg = 3 * v := nI_clamp (by omega)
    have END : (K v = 1 → O v = 0 → ¬ M v &&& s = 0) → wX_isSound_36 post J2 (nI s) (nI v) (nI 4) 0 0 nt st fi fo bc bs a1 a2 a3 a4 a5 a6 a7 a8 a9 a10 a11 a12 a13 a14 a15 a16 a17 a18 a19 1 (nI (3 * v + 1)) := fun hy =>
      ⟨pk_in v 10 (by omega), pk_le (3 * v + 1) (3 * v + 1) (fun _ => nm_r (nI_1 v) (hJ hy)) (fun z => absurd z (by omega)) (pv_kk hv h5) rfl⟩
    refine ⟨2, pk_in v 10 (by omega), pk_le (3 * v + 1) (3 * v) (fun z => absurd z (by omega)) (fun _ => ?_) (pv_kk hv h5) rfl⟩
    refine pv_opt hv hO hd h8 (fun z => br_t rfl (pv_app hv hO hd h8 (br_f (by decide +kernel) ⟨pk_in (3 * v) 30 (by omega), ?_⟩))) (fun z => br_f (by decide +kernel) (nm_r (nI_1 (3 * v)) (END (fun _ t => absurd t (by omega)))))
    rw [e, h11]
    exact pv_bra hM (fun z2 => h0 k z z2) (fun z2 => nm_r (nI_1 (3 * v)) (END (fun _ _ => z2)))
  · have k0 : K v = 0 := by omega
    rw [k0] at h5
    exact ⟨1, pk_in v 10 (by omega), pk_le (3 * v + 0) (3 * v) (fun _ => nm_r (nI_1 v) (hJ (fun t => absurd t k))) (fun z => absurd z (by omega)) (pv_kk hv h5) rfl⟩
theorem pv_isS {K O M R G : Nat → Nat} {post : Int32 → Prop} {s : Nat} (hP : pv_P K O M R G a5 a8 a11 a12 a13) (hs : s < 16) (h1 : pv_So K O M R s → post 1) (h0 : ¬ pv_So K O M R s → post 0) : wpX_isSound post ((nI 4), 0, 0, nt, st, fi, fo, bc, bs, a1, a2, a3, a4, a5, a6, a7, a8, a9, a10, a11, a12, a13, a14, a15, a16, a17, a18, a19) (nI s) := by
  refine pk_loop (σ := Unit) (fun n v _ => wX_isSound_2 post (nI s) (nI 4) 0 0 nt st fi fo bc bs a1 a2 a3 a4 a5 a6 a7 a8 a9 a10 a11 a12 a13 a14 a15 a16 a17 a18 a19 n (nI v)) (fun v _ => ∀ u, u < v → s.testBit u = true → R u &&& s = 0 ∧ (K u = 1 → O u = 0 → ¬ M u &&& s = 0)) 4 0 () (by omega) (fun j hj => absurd hj (by omega))
    (fun n _ h => pk_le 4 4 (fun _ => h1 h) (fun z => absurd z (by omega)))
    (fun n v _ hv h hw => pk_le 4 v (fun z => absurd z (by omega)) (fun _ => pv_brb hs (by omega) (fun hb => ⟨pk_in v 10 (by omega), ?_⟩) (fun hb => nm_r (nI_1 v) (hw () (lt_s h (fun t => absurd t (by rw [hb]; decide)))))))
  rw [nI_clamp (show v < 2 ^ 31 by omega), (hP v hv).2.2.2.2.2.2.2.1]
  exact pv_bra (hP v hv).2.2.2.1 (fun z => nm_r (pk_mul 3 v) (pv_s36 hP hv (fun hn => hw () (lt_s h (fun _ => ⟨z, hn⟩))) (fun hK hO hz => h0 (fun t => (t v hv hb).2 hK hO hz)))) (fun z => h0 (fun t => z (t v hv hb).1))
end
end
section
section
variable {nt st fi fo bc bs : Int32} {a1 a2 a3 a4 a5 a6 a7 a8 a9 a10 a11 a12 a13 a14 a15 a16 a17 a18 a19 : Nat → Int32}
theorem pv_fn {K O M R G : Nat → Nat} {post : Int32 → St2 → Prop} {u i o : Nat} (hP : pv_P K O M R G a5 a8 a11 a12 a13) (hu : u < 4) (hi : i < 16) (ho : o < 16)
    (h0 : K u = 1 → O u = 0 → M u &&& (15 ^^^ o) = 0 → post 0 ((nI 4), 0, 0, nt, st, nI i, nI o, bc, bs, a1, a2, a3, a4, a5, a6, a7, a8, a9, a10, a11, a12, a13, a14, a15, a16, a17, a18, a19))
    (h1 : ∀ i', i' < 16 → i &&& i' = i → (K u = 1 → O u = 0 → ¬ M u &&& (15 ^^^ o) = 0) → (∀ S, S < 16 → (K u = 1 → O u = 0 → ¬ M u &&& S = 0) → pv_C i o S → pv_C i' o S) → post 1 ((nI 4), 0, 0, nt, st, nI i', nI o, bc, bs, a1, a2, a3, a4, a5, a6, a7, a8, a9, a10, a11, a12, a13, a14, a15, a16, a17, a18, a19)) :
    wpX_forceNeeds post ((nI 4), 0, 0, nt, st, nI i, nI o, bc, bs, a1, a2, a3, a4, a5, a6, a7, a8, a9, a10, a11, a12, a13, a14, a15, a16, a17, a18, a19) (nI u) := by
  obtain ⟨hK, hO, hM, hR, hG, h5, hk, h12, h13⟩ := hP u hu
  by_cases k : K u = 1
  · obtain ⟨⟨d, hd, h8⟩, h11⟩ := hk k
    rw [k] at h5
    have e : (nI (3 * u)).toNatClampNeg = 3 * u := nI_clamp (by omega)
    have END : ∀ i', post 1 ((nI 4), 0, 0, nt, st, nI i', nI o, bc, bs, a1, a2, a3, a4, a5, a6, a7, a8, a9, a10, a11, a12, a13, a14, a15, a16, a17, a18, a19) → wX_forceNeeds_4 post (nI u) (nI 4) 0 0 nt st (nI o) bc bs a1 a2 a3 a4 a5 a6 a7 a8 a9 a10 a11 a12 a13 a14 a15 a16 a17 a18 a19 1 (nI (3 * u + 1)) (nI i') := fun i' hy =>
      ⟨pk_in u 10 (by omega), pk_le (3 * u + 1) (3 * u + 1) (fun _ => hy) (fun z => absurd z (by omega)) (pv_kk hu h5) rfl⟩
    refine nm_r (pk_mul 3 u) ⟨2, pk_in u 10 (by omega), pk_le (3 * u + 1) (3 * u) (fun z => absurd z (by omega)) (fun _ => ?_) (pv_kk hu h5) rfl⟩
    refine pv_opt hu hO hd h8 (fun z => br_t rfl (pv_app hu hO hd h8 (br_f (by decide +kernel) ⟨pk_in (3 * u) 30 (by omega), nm_r (e' := nI (M u &&& (15 ^^^ o))) (by rw [e, h11, pv_nand (M u) hM o ho]) ?_⟩))) (fun z => br_f (by decide +kernel) (nm_r (nI_1 (3 * u)) (END i (h1 i hi (pv_refl i) (fun _ t => absurd t (by omega)) (fun S _ _ h => h)))))
    have hc := pv_al (15 ^^^ o) hM
    refine pk_eq (M u &&& (15 ^^^ o)) 0 (fun z2 => h0 k z z2) (fun z2 => ?_)
    have hsame := END i (h1 i hi (pv_refl i) (fun _ _ => z2) (fun S _ _ h => h))
    have hp : nI (M u &&& (15 ^^^ o)) &&& (nI (M u &&& (15 ^^^ o)) - 1) = nI ((M u &&& (15 ^^^ o)) &&& ((M u &&& (15 ^^^ o)) - 1)) := (pv_pw _ hc).resolve_right z2
    have hpl := pv_al ((M u &&& (15 ^^^ o)) - 1) hc
    refine pv_bra hc (fun z3 => pk_eq ((M u &&& (15 ^^^ o)) &&& ((M u &&& (15 ^^^ o)) - 1)) 0 (fun z4 => nm_r (pv_or i _) (nm_r (nI_1 (3 * u)) (END _ (h1 _ (pv_ol i hi _ hc) (pv_subl i hi _ hc) (fun _ _ => z2) (fun S hS hn hC => ?_))))) (fun _ => nm_r (nI_1 (3 * u)) hsame) hp rfl) (fun _ => nm_r (nI_1 (3 * u)) hsame)
    exact ⟨pv_join i hi _ hc S hS hC.1 ((pv_last (M u) hM o ho S hS hC.2 (hn k z)).2 z4), hC.2⟩
  · have k0 : K u = 0 := by omega
    rw [k0] at h5
    exact nm_r (pk_mul 3 u) ⟨1, pk_in u 10 (by omega), pk_le (3 * u + 0) (3 * u) (fun _ => h1 i hi (pv_refl i) (fun t => absurd t k) (fun S _ _ h => h)) (fun z => absurd z (by omega)) (pv_kk hu h5) rfl⟩
/-- one round from (i0, o0), at unit v -/
def pv_Rd (K O M R : Nat → Nat) (i0 o0 v i o : Nat) : Prop := i < 16 ∧ o < 16 ∧ i0 &&& i = i0 ∧ o0 &&& o = o0 ∧ (∀ S, S < 16 → pv_So K O M R S → pv_C i0 o0 S → pv_C i o S) ∧
  (∀ u, u < v → i0.testBit u = true → R u &&& o = R u ∧ (o = o0 → K u = 1 → O u = 0 → ¬ M u &&& (15 ^^^ o0) = 0))
theorem pv_Rd_skip {K O M R : Nat → Nat} {i0 o0 v i o : Nat} (hi0 : i0 < 16) (hv : v < 4) (h : pv_Rd K O M R i0 o0 v i o) (hb : i.testBit v = false) : pv_Rd K O M R i0 o0 (v + 1) i o := by
  obtain ⟨r1, r2, r3, r4, r5, r6⟩ := h
  refine ⟨r1, r2, r3, r4, r5, lt_s r6 (fun t => ?_)⟩
  have := pv_bsub i0 hi0 i r1 r3 v hv t
  rw [hb] at this
  exact absurd this (by decide)
theorem pv_Rd_step {K O M R : Nat → Nat} {i0 o0 v i o i' : Nat} (hR : ∀ u, u < 4 → R u < 16) (hi0 : i0 < 16) (ho0 : o0 < 16) (hv : v < 4) (h : pv_Rd K O M R i0 o0 v i o) (hb : i.testBit v = true)
    (hi' : i' < 16) (hs : i &&& i' = i) (hn : K v = 1 → O v = 0 → ¬ M v &&& (15 ^^^ (o ||| R v)) = 0)
    (hC : ∀ S, S < 16 → (K v = 1 → O v = 0 → ¬ M v &&& S = 0) → pv_C i (o ||| R v) S → pv_C i' (o ||| R v) S) : pv_Rd K O M R i0 o0 (v + 1) i' (o ||| R v) := by
  obtain ⟨r1, r2, r3, r4, r5, r6⟩ := h
  have hRv := hR v hv
  have hol := pv_ol o r2 (R v) hRv
  have s1 := pv_subl o r2 (R v) hRv
  have s2 := pv_subr o r2 (R v) hRv
  have back : o ||| R v = o0 → o = o0 := fun e => pv_anti o r2 o0 ho0 (by rw [← e]; exact s1) r4
  refine ⟨hi', hol, pv_trans i0 hi0 i r1 i' hi' r3 hs, pv_trans o0 ho0 o r2 _ hol r4 s1, fun S hS hSo hc => ?_, lt_s (fun u hu t => ?_) (fun _ => ⟨s2, fun e hK hO => ?_⟩)⟩
  · have c := r5 S hS hSo hc
    have hbS := pv_bsub i r1 S hS c.1 v hv hb
    have q := hSo v hv hbS
    exact hC S hS q.2 ⟨c.1, pv_apart o r2 (R v) hRv S hS c.2 q.1⟩
  · obtain ⟨q1, q2⟩ := r6 u hu t
    exact ⟨pv_trans (R u) (hR u (by omega)) o r2 _ hol q1 s1, fun e => q2 (back e)⟩
  · rw [← e]
    exact hn hK hO
theorem pv_f23 {K O M R G : Nat → Nat} {post : Int32 → St2 → Prop} {J2 : Int32 → Int32 → Int32 → Int32 → Int32 → Int32 → Int32 → Int32 → Int32 → Int32 → (Nat → Int32) → (Nat → Int32) → (Nat → Int32) → (Nat → Int32) → (Nat → Int32) → (Nat → Int32) → (Nat → Int32) → (Nat → Int32) → (Nat → Int32) → (Nat → Int32) → (Nat → Int32) → (Nat → Int32) → (Nat → Int32) → (Nat → Int32) → (Nat → Int32) → (Nat → Int32) → (Nat → Int32) → (Nat → Int32) → (Nat → Int32) → Prop}
    {r i0 o0 : Nat} (hP : pv_P K O M R G a5 a8 a11 a12 a13) (hi0 : i0 < 16) (ho0 : o0 < 16)
    (h0 : (∀ S, S < 16 → pv_So K O M R S → ¬ pv_C i0 o0 S) → ∀ x y, post 0 ((nI 4), 0, 0, nt, st, x, y, bc, bs, a1, a2, a3, a4, a5, a6, a7, a8, a9, a10, a11, a12, a13, a14, a15, a16, a17, a18, a19))
    (h1 : pv_Cl K O M R i0 o0 → post 1 ((nI 4), 0, 0, nt, st, nI i0, nI o0, bc, bs, a1, a2, a3, a4, a5, a6, a7, a8, a9, a10, a11, a12, a13, a14, a15, a16, a17, a18, a19))
    (hJ : ∀ i o, i < 16 → o < 16 → i0 &&& i = i0 → o0 &&& o = o0 → ¬ (i0 = i ∧ o0 = o) → (∀ S, S < 16 → pv_So K O M R S → pv_C i0 o0 S → pv_C i o S) → J2 (nI (r + 1)) (nI 4) 0 0 nt st (nI i) (nI o) bc bs a1 a2 a3 a4 a5 a6 a7 a8 a9 a10 a11 a12 a13 a14 a15 a16 a17 a18 a19) :
    ∃ n, wX_force_23 post J2 (nI r) (nI (i0 + 1024 * o0)) n 0 (nI 4) 0 0 nt st (nI i0) (nI o0) bc bs a1 a2 a3 a4 a5 a6 a7 a8 a9 a10 a11 a12 a13 a14 a15 a16 a17 a18 a19 := by
  have hR : ∀ u, u < 4 → R u < 16 := fun u hu => (hP u hu).2.2.2.1
  refine pk_loop (σ := Nat × Nat) (fun n v s => wX_force_23 post J2 (nI r) (nI (i0 + 1024 * o0)) n (nI v) (nI 4) 0 0 nt st (nI s.1) (nI s.2) bc bs a1 a2 a3 a4 a5 a6 a7 a8 a9 a10 a11 a12 a13 a14 a15 a16 a17 a18 a19) (fun v s => pv_Rd K O M R i0 o0 v s.1 s.2) 4 0 (i0, o0) (by omega)
    ⟨hi0, ho0, pv_refl i0, pv_refl o0, fun S _ _ h => h, fun u hu => absurd hu (by omega)⟩ (fun n s h => ?_) (fun n v s hv h hw => ?_)
  · obtain ⟨i, o⟩ := s
    have h' : pv_Rd K O M R i0 o0 4 i o := h
    obtain ⟨r1, r2, r3, r4, r5, r6⟩ := h'
    show wX_force_23 post J2 (nI r) (nI (i0 + 1024 * o0)) (n + 1) (nI 4) (nI 4) 0 0 nt st (nI i) (nI o) bc bs a1 a2 a3 a4 a5 a6 a7 a8 a9 a10 a11 a12 a13 a14 a15 a16 a17 a18 a19
    refine pk_le 4 4 (fun _ => pv_bra r1 (fun z => pk_eq (i0 + 1024 * o0) (i + 1024 * o) (fun e => ?_) (fun ne => ?_) rfl (pv_enc i r1 o r2)) (fun z => h0 (fun S hS hSo hc => ?_) _ _)) (fun z => absurd z (by omega))
    · have ei : i = i0 := by omega
      have eo : o = o0 := by omega
      rw [ei] at z ⊢
      rw [eo] at z ⊢
      exact h1 ⟨z, fun u hu t => ⟨by have q := (r6 u hu t).1; rw [eo] at q; exact q, (r6 u hu t).2 eo⟩⟩
    · exact nm_r (nI_1 r) (hJ i o r1 r2 r3 r4 (fun t => ne (by rw [t.1, t.2])) r5)
    · have c := r5 S hS hSo hc
      exact z (pv_meet i r1 o r2 S hS c.1 c.2)
  · obtain ⟨i, o⟩ := s
    have h' : pv_Rd K O M R i0 o0 v i o := h
    have hw' : ∀ i' o', pv_Rd K O M R i0 o0 (v + 1) i' o' → wX_force_23 post J2 (nI r) (nI (i0 + 1024 * o0)) n (nI (v + 1)) (nI 4) 0 0 nt st (nI i') (nI o') bc bs a1 a2 a3 a4 a5 a6 a7 a8 a9 a10 a11 a12 a13 a14 a15 a16 a17 a18 a19 := fun i' o' h => hw (i', o') h
    show wX_force_23 post J2 (nI r) (nI (i0 + 1024 * o0)) (n + 1) (nI v) (nI 4) 0 0 nt st (nI i) (nI o) bc bs a1 a2 a3 a4 a5 a6 a7 a8 a9 a10 a11 a12 a13 a14 a15 a16 a17 a18 a19
    have hRv := hR v hv
    have hol := pv_ol o h'.2.1 (R v) hRv
    refine pk_le 4 v (fun z => absurd z (by omega)) (fun _ => pv_brb h'.1 (by omega) (fun hb => ⟨pk_in v 10 (by omega), nm_r (e' := nI (o ||| R v)) ?_ ?_⟩) (fun hb => nm_r (nI_1 v) (hw' i o (pv_Rd_skip hi0 hv h' hb))))
    · rw [nI_clamp (show v < 2 ^ 31 by omega), (hP v hv).2.2.2.2.2.2.2.1, pv_or]
    · refine pv_fn hP hv h'.1 hol (fun hK hO hz => br_t rfl (h0 (fun S hS hSo hc => ?_) _ _)) (fun i' hi' hs hn hC => br_f (by decide +kernel) (nm_r (nI_1 v) (hw' i' _ (pv_Rd_step hR hi0 ho0 hv h' hb hi' hs hn hC))))
      have c := h'.2.2.2.2.1 S hS hSo hc
      have q := hSo v hv (pv_bsub i h'.1 S hS c.1 v hv hb)
      exact q.2 hK hO (pv_nomore (M v) (hP v hv).2.2.1 _ hol S hS (pv_apart o h'.2.1 (R v) hRv S hS c.2 q.1) hz)
theorem pv_f2 {K O M R G : Nat → Nat} {post : Int32 → St2 → Prop} (hP : pv_P K O M R G a5 a8 a11 a12 a13) : ∀ n r i o, i < 16 → o < 16 → r ≤ pv_os i 4 + pv_os o 4 → 8 < n + (pv_os i 4 + pv_os o 4) →
    ((∀ S, S < 16 → pv_So K O M R S → ¬ pv_C i o S) → ∀ x y, post 0 ((nI 4), 0, 0, nt, st, x, y, bc, bs, a1, a2, a3, a4, a5, a6, a7, a8, a9, a10, a11, a12, a13, a14, a15, a16, a17, a18, a19)) →
    (∀ i' o', i' < 16 → o' < 16 → pv_Cl K O M R i' o' → i &&& i' = i → o &&& o' = o → (∀ S, S < 16 → pv_So K O M R S → pv_C i o S → pv_C i' o' S) → post 1 ((nI 4), 0, 0, nt, st, nI i', nI o', bc, bs, a1, a2, a3, a4, a5, a6, a7, a8, a9, a10, a11, a12, a13, a14, a15, a16, a17, a18, a19)) →
    wX_force_2 post n (nI r) (nI 4) 0 0 nt st (nI i) (nI o) bc bs a1 a2 a3 a4 a5 a6 a7 a8 a9 a10 a11 a12 a13 a14 a15 a16 a17 a18 a19 := by
  intro n
  induction n with
  | zero =>
    intro r i o hi ho hr hn
    have := pv_os4 i hi
    have := pv_os4 o ho
    omega
  | succ n ih =>
    intro r i o hi ho hr hn h0 h1
    have q1 := pv_os4 i hi
    have q2 := pv_os4 o ho
    refine pk_lt 10 r (fun z => absurd z (by omega)) (fun _ => nm_r (pv_enc i hi o ho) (pv_f23 hP hi ho h0 (fun hc => h1 i o hi ho hc (pv_refl i) (pv_refl o) (fun S _ _ h => h)) (fun i' o' hi' ho' s1 s2 ne hS => ?_)))
    have m1 := pv_osm i hi i' hi' s1
    have m2 := pv_osm o ho o' ho' s2
    have m3 : pv_os i 4 + pv_os o 4 < pv_os i' 4 + pv_os o' 4 := by
      rcases m1.2 with e | e
      · rcases m2.2 with e2 | e2
        · exact absurd ⟨e, e2⟩ ne
        · omega
      · omega
    exact ih (r + 1) i' o' hi' ho' (by omega) (by omega) (fun hn => h0 (fun S a b c => hn S a b (hS S a b c)))
      (fun i2 o2 hi2 ho2 hc t1 t2 hS2 => h1 i2 o2 hi2 ho2 hc (pv_trans i hi i' hi' i2 hi2 s1 t1) (pv_trans o ho o' ho' o2 ho2 s2 t2) (fun S a b c => hS2 S a b (hS S a b c)))
theorem pv_force {K O M R G : Nat → Nat} {post : Int32 → St2 → Prop} {i o : Nat} (hP : pv_P K O M R G a5 a8 a11 a12 a13) (hi : i < 16) (ho : o < 16)
    (h0 : (∀ S, S < 16 → pv_So K O M R S → ¬ pv_C i o S) → ∀ x y, post 0 ((nI 4), 0, 0, nt, st, x, y, bc, bs, a1, a2, a3, a4, a5, a6, a7, a8, a9, a10, a11, a12, a13, a14, a15, a16, a17, a18, a19))
    (h1 : ∀ i' o', i' < 16 → o' < 16 → pv_Cl K O M R i' o' → i &&& i' = i → o &&& o' = o → (∀ S, S < 16 → pv_So K O M R S → pv_C i o S → pv_C i' o' S) → post 1 ((nI 4), 0, 0, nt, st, nI i', nI o', bc, bs, a1, a2, a3, a4, a5, a6, a7, a8, a9, a10, a11, a12, a13, a14, a15, a16, a17, a18, a19)) :
    wpX_force post ((nI 4), 0, 0, nt, st, nI i, nI o, bc, bs, a1, a2, a3, a4, a5, a6, a7, a8, a9, a10, a11, a12, a13, a14, a15, a16, a17, a18, a19) :=
  ⟨9, pv_f2 hP 9 0 i o hi ho (by omega) (by omega) h0 h1⟩
end
end
section
section
variable {nt st fi fo bc bs : Int32} {a1 a2 a3 a4 a5 a6 a7 a8 a9 a10 a11 a12 a13 a14 a15 a16 a17 a18 a19 : Nat → Int32}
def pv_Bo (cs : Nat → Nat) (B : Option Nat) (bs bc : Int32) : Prop := match B with
  | none => bs = -1
  | some s => s < 16 ∧ bs = nI s ∧ bc = nI (cs s)
def pv_Ar (q : Nat) (hi ho tn : Nat → Nat) (a14 a15 a16 : Nat → Int32) : Prop := ∀ j, j < q → a14 j = nI (hi j) ∧ a15 j = nI (ho j) ∧ a16 j = nI (tn j)
theorem pv_ob {K O M R G : Nat → Nat} {post : St2 → Prop} {s : Nat} {B : Option Nat} (hP : pv_P K O M R G a5 a8 a11 a12 a13) (hs : s < 16) (hB : pv_Bo (pv_cs K O M G) B bs bc)
    (hp : ∀ B' bs' bc', (B' = B ∨ B' = some s) → (∀ S, pv_Dm (pv_cs K O M G) B S → pv_Dm (pv_cs K O M G) B' S) → pv_Dm (pv_cs K O M G) B' s → pv_Bo (pv_cs K O M G) B' bs' bc' → post ((nI 4), 0, 0, nt, st, fi, fo, bc', bs', a1, a2, a3, a4, a5, a6, a7, a8, a9, a10, a11, a12, a13, a14, a15, a16, a17, a18, a19)) :
    wpX_offerBest post ((nI 4), 0, 0, nt, st, fi, fo, bc, bs, a1, a2, a3, a4, a5, a6, a7, a8, a9, a10, a11, a12, a13, a14, a15, a16, a17, a18, a19) (nI s) := by
  have hG : ∀ u, u < 4 → G u ≤ 3 := fun u hu => (hP u hu).2.2.2.2.1
  have c1 : pv_cs K O M G s ≤ 40 := pv_cob hG hs (15 ^^^ s)
  cases B with
  | none =>
    have e : bs = -1 := hB
    subst e
    exact pv_costS hP hs (br_t (by decide +kernel) (hp (some s) _ _ (Or.inr rfl) (fun S h => pv_ofN S h) pv_of0 ⟨hs, rfl, rfl⟩))
  | some b =>
    obtain ⟨hb, e1, e2⟩ := hB
    subst e1
    subst e2
    have c2 : pv_cs K O M G b ≤ 40 := pv_cob hG hb (15 ^^^ b)
    exact pv_costS hP hs (br_f (nI_pos (by omega)) (pk_lt (pv_cs K O M G s) (pv_cs K O M G b)
      (fun z => hp (some s) _ _ (Or.inr rfl) (pv_ofS (Or.inl z)) pv_of0 ⟨hs, rfl, rfl⟩)
      (fun z => pk_eq (pv_cs K O M G s) (pv_cs K O M G b)
        (fun z2 => pk_le b s
          (fun z3 => hp (some b) _ _ (Or.inl rfl) (fun S h => h) ⟨b, rfl, Or.inr ⟨z2.symm, z3⟩⟩ ⟨hb, rfl, rfl⟩)
          (fun z3 => hp (some s) _ _ (Or.inr rfl) (pv_ofS (Or.inr ⟨z2, by omega⟩)) pv_of0 ⟨hs, rfl, rfl⟩))
        (fun z2 => hp (some b) _ _ (Or.inl rfl) (fun S h => h) ⟨b, rfl, Or.inl (by omega)⟩ ⟨hb, rfl, rfl⟩))))
theorem pv_Ar_turn {k x : Nat} {hi ho tn : Nat → Nat} {a14 a15 a16 : Nat → Int32} (h : pv_Ar (k + 1) hi ho tn a14 a15 a16) : pv_Ar (k + 1) hi ho (pv_up tn k x) a14 a15 (upd a16 k (nI x)) := by
  intro j hj
  obtain ⟨h1, h2, h3⟩ := h j hj
  refine ⟨h1, h2, ?_⟩
  by_cases e : j = k
  · subst e
    rw [pk_us, pv_ups]
  · rw [pk_un e, pv_upn e]
    exact h3
theorem pv_Ar_push {q i o : Nat} {hi ho tn : Nat → Nat} {a14 a15 a16 : Nat → Int32} (h : pv_Ar q hi ho tn a14 a15 a16) : pv_Ar (q + 1) (pv_up hi q i) (pv_up ho q o) (pv_up tn q 0) (upd a14 q (nI i)) (upd a15 q (nI o)) (upd a16 q 0) := by
  intro j hj
  by_cases e : j = q
  · subst e
    rw [pk_us, pv_ups, pk_us, pv_ups, pk_us, pv_ups]
    exact ⟨rfl, rfl, rfl⟩
  · rw [pk_un e, pv_upn e, pk_un e, pv_upn e, pk_un e, pv_upn e]
    exact h j (by omega)
theorem pv_169 {K O M R G : Nat → Nat} {post : St2 → Prop} {J42 : Int32 → Int32 → Int32 → Int32 → Int32 → Int32 → Int32 → Int32 → Int32 → Int32 → Int32 → (Nat → Int32) → (Nat → Int32) → (Nat → Int32) → (Nat → Int32) → (Nat → Int32) → (Nat → Int32) → (Nat → Int32) → (Nat → Int32) → (Nat → Int32) → (Nat → Int32) → (Nat → Int32) → (Nat → Int32) → (Nat → Int32) → (Nat → Int32) → (Nat → Int32) → (Nat → Int32) → (Nat → Int32) → (Nat → Int32) → (Nat → Int32) → Prop} {w b k stp : Nat} {hi ho tn : Nat → Nat} {B : Option Nat}
    (hP : pv_P K O M R G a5 a8 a11 a12 a13) (hw : w < 16) (hb : b < 16) (hIn : pv_In K O M R G w b (k + 1) hi ho tn B) (hA : pv_Ar (k + 1) hi ho tn a14 a15 a16) (hB : pv_Bo (pv_cs K O M G) B bs bc)
    (hf : pv_fo (hi k ||| ho k) < 4) (ht : ¬ tn k = 2)
    (hJ : ∀ q' hi' ho' tn' fi fo a14 a15 a16, pv_In K O M R G w b q' hi' ho' tn' B → pv_Ar q' hi' ho' tn' a14 a15 a16 → pv_mu tn' q' < pv_mu tn (k + 1) → J42 (nI q' + (-1)) (nI (stp + 1)) (nI 4) 0 0 nt st fi fo bc bs a1 a2 a3 a4 a5 a6 a7 a8 a9 a10 a11 a12 a13 a14 a15 a16 a17 a18 a19) :
    wX_search_169 post J42 (nI k) (nI stp) (nI 4) 0 0 nt st (nI (pv_bi (hi k) (ho k) (tn k))) (nI (pv_bo (hi k) (ho k) (tn k))) bc bs a1 a2 a3 a4 a5 a6 a7 a8 a9 a10 a11 a12 a13 a14 a15 a16 a17 a18 a19 := by
  obtain ⟨l1, l2, l3, l4, l5, l6, l7⟩ := hIn.1 k (by omega)
  have hol := pv_ol _ l1 _ l2
  have hk : k < 4 := by
    have := (pv_fos _ hol hf).1
    omega
  obtain ⟨b1, b2⟩ := pv_bil (t := tn k) l1 hf
  obtain ⟨c1, c2⟩ := pv_bol (t := tn k) l2 hf
  obtain ⟨h14, h15, h16⟩ := hA k (by omega)
  have hM : ∀ u, u < 4 → M u < 16 := fun u hu => (hP u hu).2.2.1
  have hG : ∀ u, u < 4 → G u ≤ 3 := fun u hu => (hP u hu).2.2.2.2.1
  have ek : (nI k).toNatClampNeg = k := nI_clamp (by omega)
  have stay : ∀ fi fo, (∀ S, S < 16 → pv_So K O M R S → pv_C w b S → pv_C (pv_bi (hi k) (ho k) (tn k)) (pv_bo (hi k) (ho k) (tn k)) S → pv_Dm (pv_cs K O M G) B S) → J42 (nI k) (nI (stp + 1)) (nI 4) 0 0 nt st fi fo bc bs a1 a2 a3 a4 a5 a6 a7 a8 a9 a10 a11 a12 a13 a14 a15 (upd a16 k (nI (tn k + 1))) a17 a18 a19 := by
    intro fi fo hno
    have q := hJ (k + 1) hi ho (pv_up tn k (tn k + 1)) fi fo a14 a15 (upd a16 k (nI (tn k + 1))) (pv_turn hIn hf ht hno) (pv_Ar_turn hA) (pv_mut (by omega) (by omega))
    rw [pk_m1] at q
    exact q
  have push : ∀ i' o', i' < 16 → o' < 16 → pv_Cl K O M R i' o' → pv_bi (hi k) (ho k) (tn k) &&& i' = pv_bi (hi k) (ho k) (tn k) → pv_bo (hi k) (ho k) (tn k) &&& o' = pv_bo (hi k) (ho k) (tn k) → (∀ S, S < 16 → pv_So K O M R S → pv_C (pv_bi (hi k) (ho k) (tn k)) (pv_bo (hi k) (ho k) (tn k)) S → pv_C i' o' S) →
      wX_search_212 post J42 (nI k) (nI stp) (nI 4) 0 0 nt st (nI i') (nI o') bc bs a1 a2 a3 a4 a5 a6 a7 a8 a9 a10 a11 a12 a13 a14 a15 (upd a16 k (nI (tn k + 1))) a17 a18 a19 := by
    intro i' o' hi' ho' hc s1 s2 hS
    refine nm_r (nI_1 k) (pv_keep (d := k + 1) (by omega) (nm_r (nI_1 stp) ?_))
    have q := hJ (k + 2) _ _ _ (nI i') (nI o') _ _ _ (pv_push hw hb hIn hf ht hi' ho' hc s1 s2 hS) (pv_Ar_push (i := i') (o := o') (pv_Ar_turn (x := tn k + 1) hA)) (pv_mup2 hk (by omega))
    rw [pk_m1] at q
    exact q
  refine ⟨pk_in k 12 (by omega), pk_in k 12 (by omega), nm_r (e' := upd a16 k (nI (tn k + 1))) (by rw [ek, h16, nI_1]) ?_⟩
  refine pv_force hP b1 c1 (fun hno x y => br_t rfl (nm_r (nI_1 stp) (stay x y (fun S hS hSo _ hc => absurd hc (hno S hS hSo))))) (fun i' o' hi' ho' hc s1 s2 hS => br_f (by decide +kernel) ?_)
  cases B with
  | none =>
    have e : bs = -1 := hB
    subst e
    exact br_t (by decide +kernel) (push i' o' hi' ho' hc s1 s2 hS)
  | some s =>
    obtain ⟨hs, e1, e2⟩ := hB
    subst e1
    subst e2
    have d1 : pv_cs K O M G s ≤ 40 := pv_cob hG hs (15 ^^^ s)
    have d2 : pv_co K O M G i' o' ≤ 40 := pv_cob hG hi' o'
    exact br_f (nI_pos (by omega)) (pv_costP hP hi' ho' (pk_lt (pv_cs K O M G s) (pv_co K O M G i' o')
      (fun z => nm_r (nI_1 stp) (stay _ _ (fun S hS16 hSo _ hc2 => ⟨s, rfl, Or.inl (Nat.lt_of_lt_of_le z (pv_bound hM hi' ho' hS16 (hS S hS16 hSo hc2)))⟩)))
      (fun z => push i' o' hi' ho' hc s1 s2 hS)))
theorem pv_42 {K O M R G : Nat → Nat} {post : St2 → Prop} {w b : Nat} (hP : pv_P K O M R G a5 a8 a11 a12 a13) (hw : w < 16) (hb : b < 16)
    (hp : ∀ fi fo bc bs a14 a15 a16 B, pv_Re K O M R G w b B → pv_Bo (pv_cs K O M G) B bs bc → post ((nI 4), 0, 0, nt, st, fi, fo, bc, bs, a1, a2, a3, a4, a5, a6, a7, a8, a9, a10, a11, a12, a13, a14, a15, a16, a17, a18, a19)) :
    ∀ N q x3 stp (hi ho tn : Nat → Nat) B fi fo bc bs a14 a15 a16, pv_In K O M R G w b q hi ho tn B → pv_Ar q hi ho tn a14 a15 a16 → pv_Bo (pv_cs K O M G) B bs bc → x3 = nI q + (-1) → stp + pv_mu tn q ≤ 93 → pv_mu tn q < N →
      wX_search_42 post N x3 (nI stp) (nI 4) 0 0 nt st fi fo bc bs a1 a2 a3 a4 a5 a6 a7 a8 a9 a10 a11 a12 a13 a14 a15 a16 a17 a18 a19 := by
  have hR : ∀ u, u < 4 → R u < 16 := fun u hu => (hP u hu).2.2.2.1
  intro N
  induction N with
  | zero =>
    intro q x3 stp hi ho tn B fi fo bc bs a14 a15 a16 _ _ _ _ _ h
    exact absurd h (by omega)
  | succ N ih =>
    intro q x3 stp hi ho tn B fi fo bc bs a14 a15 a16 hIn hA hB hx hst hN
    cases q with
    | zero =>
      refine pk_le 8192 stp (fun z => absurd z (by omega)) (fun _ => br_t (by rw [hx]; decide +kernel) (hp fi fo bc bs a14 a15 a16 B (pv_fin hIn) hB))
    | succ k =>
      rw [pk_m1] at hx
      subst hx
      obtain ⟨l1, l2, l3, l4, l5, l6, l7⟩ := hIn.1 k (by omega)
      have hol := pv_ol _ l1 _ l2
      have h4 := pv_os4 _ hol
      have hk : k < 12 := by omega
      obtain ⟨h14, h15, h16⟩ := hA k (by omega)
      have ek : (nI k).toNatClampNeg = k := nI_clamp (by omega)
      have hmu : pv_mu tn (k + 1) = pv_mu tn k + pv_rm k (tn k) := rfl
      have hr0 := pv_rm0 k (tn k)
      refine pk_le 8192 stp (fun z => absurd z (by omega)) (fun _ => br_f (nI_pos (by omega)) ⟨pk_in k 12 hk, pk_in k 12 hk, ?_⟩)
      rw [ek, h14, h15, pv_or]
      refine pv_first hol (fun hf => br_t rfl ⟨pk_in k 12 hk, pv_ob hP l1 hB (fun B' bs' bc' hv hd hs hB' => nm_e (nm_r (nI_1 stp) ?_))⟩) (fun hf => br_f ?_ ⟨pk_in k 12 hk, ?_⟩)
      · exact ih k _ (stp + 1) hi ho tn B' fi fo bc' bs' a14 a15 a16 (pv_pop1 hR hb hIn hf hv hd hs) (fun j hj => hA j (by omega)) hB' rfl (by omega) (by omega)
      · exact (by decide +kernel : ∀ u, u < 4 → ¬ nI u = -1) _ hf
      · rw [h16]
        refine pk_eq (tn k) 2 (fun z => nm_e (nm_r (nI_1 stp) (ih k _ (stp + 1) hi ho tn B fi fo bc bs a14 a15 a16 (pv_pop2 hIn z) (fun j hj => hA j (by omega)) hB rfl (by omega) (by omega)))) (fun z => ?_)
        have X := pv_169 (post := post) (J42 := wX_search_42 post N) (nt := nt) (st := st) (a1 := a1) (a2 := a2) (a3 := a3) (a4 := a4) (a6 := a6) (a7 := a7) (a9 := a9) (a10 := a10) (a17 := a17) (a18 := a18) (a19 := a19) (stp := stp) hP hw hb hIn hA hB hf z
          (fun q' hi' ho' tn' fi fo a14 a15 a16 i1 i2 i3 => ih q' _ (stp + 1) hi' ho' tn' B fi fo bc bs a14 a15 a16 i1 i2 hB rfl (by omega) (by omega))
        refine ⟨pk_in k 12 hk, nm_e ⟨pk_in k 12 hk, nm_e ⟨pk_in k 12 hk, pk_eq (tn k) 0 (fun z0 => nm_r (e' := nI (ho k ||| 2 ^ pv_fo (hi k ||| ho k))) (by rw [pv_sh _ hf, pv_or]) ?_) (fun z0 => nm_r (e' := nI (hi k ||| 2 ^ pv_fo (hi k ||| ho k))) (by rw [pv_sh _ hf, pv_or]) ?_)⟩⟩⟩
        · unfold pv_bi pv_bo at X
          rw [if_pos z0, if_pos z0] at X
          exact X
        · unfold pv_bi pv_bo at X
          rw [if_neg z0, if_neg z0] at X
          exact X
end
end
section
/-! what the law's first loop lays down, and what prepare makes of it -/
def pv_K (D : Nat → Nat) (u : Nat) : Nat := if D u < 3 then 1 else 0
def pv_M (F D : Nat → Nat) (u : Nat) : Nat → Nat
  | 0 => 0
  | v + 1 => if F v = D u then pv_M F D u v ||| 2 ^ v else pv_M F D u v
def pv_R (Nm Sg : Nat → Nat) (u : Nat) : Nat → Nat
  | 0 => 0
  | v + 1 => if Nm u = Nm v ∧ ¬ u = v ∧ ¬ (Sg u = 0 ∧ Sg v = 0) then pv_R Nm Sg u v ||| 2 ^ v else pv_R Nm Sg u v
def pv_G (Nm : Nat → Nat) (u : Nat) : Nat → Nat
  | 0 => 0
  | v + 1 => if Nm u = Nm v then (if v - u ≤ pv_G Nm u v then pv_G Nm u v else v - u) else pv_G Nm u v
abbrev pv_MM (F D : Nat → Nat) : Nat → Nat := fun u => pv_M F D u 4
abbrev pv_RR (Nm Sg : Nat → Nat) : Nat → Nat := fun u => pv_R Nm Sg u 4
abbrev pv_GG (Nm : Nat → Nat) : Nat → Nat := fun u => pv_G Nm u 4
theorem pv_Ml (F D : Nat → Nat) (u : Nat) : ∀ v, v ≤ 4 → pv_M F D u v < 16 := by
  intro v
  induction v with
  | zero => intro _; exact (by decide : 0 < 16)
  | succ v ih =>
    intro hv
    unfold pv_M
    split
    · exact pv_ol _ (ih (by omega)) _ (pv_p2 v (by omega))
    · exact ih (by omega)
theorem pv_Rl (Nm Sg : Nat → Nat) (u : Nat) : ∀ v, v ≤ 4 → pv_R Nm Sg u v < 16 := by
  intro v
  induction v with
  | zero => intro _; exact (by decide : 0 < 16)
  | succ v ih =>
    intro hv
    unfold pv_R
    split
    · exact pv_ol _ (ih (by omega)) _ (pv_p2 v (by omega))
    · exact ih (by omega)
theorem pv_Gl (Nm : Nat → Nat) (u : Nat) : ∀ v, v ≤ 4 → pv_G Nm u v ≤ 3 := by
  intro v
  induction v with
  | zero => intro _; exact (by decide : 0 ≤ 3)
  | succ v ih =>
    intro hv
    have := ih (by omega)
    unfold pv_G
    split
    · split <;> omega
    · exact this
def pv_Q (n : Nat) (Nm Sg F D O : Nat → Nat) (a1 a2 a3 a4 a5 a6 a7 a8 a9 a10 : Nat → Int32) : Prop :=
  ∀ u, u < n → (Nm u < 2 ∧ Sg u < 2 ∧ F u < 4 ∧ D u < 4 ∧ O u < 2) ∧ (a1 u = nI (Nm u) ∧ a2 u = nI (u + 1) ∧ a3 u = nI (Sg u) ∧ a4 u = nI 1 ∧ a5 u = nI (pv_K D u)) ∧
    (a6 (3 * u) = nI (F u) ∧ a7 (3 * u) = nI 4) ∧ (pv_K D u = 1 → a8 (3 * u) = nI (32 * O u + D u) ∧ a9 (3 * u) = nI 2 ∧ a10 (3 * u) = nI 6)
theorem pv_K1 {D : Nat → Nat} {u : Nat} (h : pv_K D u = 1) : D u < 3 := by
  unfold pv_K at h
  split at h
  · assumption
  · exact absurd h (by decide)
theorem pv_K0 {D : Nat → Nat} {u : Nat} (h : ¬ pv_K D u = 1) : pv_K D u = 0 ∧ ¬ D u < 3 := by
  unfold pv_K at h ⊢
  split at h
  · exact absurd rfl h
  · rename_i z
    rw [if_neg z]
    exact ⟨rfl, z⟩
theorem pv_k7 : ∀ o, o < 2 → ∀ d, d < 3 → nI (32 * o + d) &&& 7 = nI d := by decide +kernel
theorem pv_lag : ∀ v, v < 4 → ∀ u, u < 4 → ∀ g, g < 4 → (nI (v + 1) - nI (u + 1) ≤ nI g ∧ v - u ≤ g) ∨ (¬ nI (v + 1) - nI (u + 1) ≤ nI g ∧ ¬ v - u ≤ g ∧ nI (v + 1) - nI (u + 1) = nI (v - u)) := by decide +kernel
section
variable {nt st fi fo bc bs : Int32} {a1 a2 a3 a4 a5 a6 a7 a8 a9 a10 a11 a12 a13 a14 a15 a16 a17 a18 a19 : Nat → Int32} {Nm Sg F D O : Nat → Nat}
theorem pv_find {post : Int32 → Prop} {u : Nat} (hQ : pv_Q 4 Nm Sg F D O a1 a2 a3 a4 a5 a6 a7 a8 a9 a10) (hu : u < 4) (hK : pv_K D u = 1) (hp : post (nI (pv_M F D u 4))) : wpX_findMeeters post ((nI 4), 0, 0, nt, st, fi, fo, bc, bs, a1, a2, a3, a4, a5, a6, a7, a8, a9, a10, a11, a12, a13, a14, a15, a16, a17, a18, a19) (nI (3 * u)) := by
  obtain ⟨⟨_, _, _, _, hO⟩, _, _, hk⟩ := hQ u hu
  obtain ⟨h8, h9, h10⟩ := hk hK
  have hD := pv_K1 hK
  have eu : (nI (3 * u)).toNatClampNeg = 3 * u := nI_clamp (by omega)
  refine pk_loop (fun n v x => wX_findMeeters_4 post (nI (3 * u)) (nI 4) 0 0 nt st fi fo bc bs a1 a2 a3 a4 a5 a6 a7 a8 a9 a10 a11 a12 a13 a14 a15 a16 a17 a18 a19 n x (nI v)) (fun v x => x = nI (pv_M F D u v)) 4 0 0 (by omega) rfl
    (fun n x h => pk_le 4 4 (fun _ => by rw [h]; exact hp) (fun z => absurd z (by omega)))
    (fun n v x hv h hw => pk_le 4 v (fun z => absurd z (by omega)) (fun _ => nm_r (pk_mul 3 v) ?_))
  obtain ⟨⟨_, _, hF, _, _⟩, ⟨_, _, _, h4, _⟩, ⟨h6, h7⟩, _⟩ := hQ v hv
  have ev : (nI (3 * v)).toNatClampNeg = 3 * v := nI_clamp (by omega)
  have END : ∀ y, y = nI (pv_M F D u (v + 1)) → wX_findMeeters_17 post (wX_findMeeters_4 post (nI (3 * u)) (nI 4) 0 0 nt st fi fo bc bs a1 a2 a3 a4 a5 a6 a7 a8 a9 a10 a11 a12 a13 a14 a15 a16 a17 a18 a19 n) (nI (3 * u)) (nI v) (nI 4) 0 0 nt st fi fo bc bs a1 a2 a3 a4 a5 a6 a7 a8 a9 a10 a11 a12 a13 a14 a15 a16 a17 a18 a19 1 y (nI (3 * v + 1)) := fun y hy =>
    ⟨pk_in v 10 (by omega), pk_le (3 * v + 1) (3 * v + 1) (fun _ => nm_r (nI_1 v) (hw y hy)) (fun z => absurd z (by omega)) (pv_kk hv h4) rfl⟩
  refine ⟨2, pk_in v 10 (by omega), pk_le (3 * v + 1) (3 * v) (fun z => absurd z (by omega)) (fun _ => ⟨pk_in (3 * v) 30 (by omega), pk_in (3 * u) 30 (by omega), ?_⟩) (pv_kk hv h4) rfl⟩
  rw [ev, eu, h7, h9, h10]
  refine pk_lt 4 2 (fun z => absurd z (by omega)) (fun _ => ⟨pk_in (3 * v) 30 (by omega), pk_in (3 * u) 30 (by omega), pk_lt 6 4 (fun z => absurd z (by omega)) (fun _ => br_f (by decide +kernel) ⟨pk_in (3 * v) 30 (by omega), pk_in (3 * u) 30 (by omega), ?_⟩)⟩)
  rw [ev, eu, h6, h8, pv_k7 (O u) hO (D u) hD]
  refine pk_eq (F v) (D u) (fun z => nm_e (nm_r (nI_1 (3 * v)) (END _ ?_))) (fun z => nm_r (nI_1 (3 * v)) (END _ ?_))
  · unfold pv_M
    rw [if_pos z, h, pv_sh v hv, pv_or]
  · unfold pv_M
    rw [if_neg z]
    exact h
theorem pv_p138 {post : St2 → Prop} {J2 : Int32 → (Nat → Int32) → (Nat → Int32) → (Nat → Int32) → (Nat → Int32) → (Nat → Int32) → (Nat → Int32) → (Nat → Int32) → (Nat → Int32) → (Nat → Int32) → (Nat → Int32) → (Nat → Int32) → (Nat → Int32) → (Nat → Int32) → (Nat → Int32) → (Nat → Int32) → (Nat → Int32) → (Nat → Int32) → (Nat → Int32) → (Nat → Int32) → Prop} {u : Nat}
    (hQ : pv_Q 4 Nm Sg F D O a1 a2 a3 a4 a5 a6 a7 a8 a9 a10) (hu : u < 4)
    (hJ : ∀ b, (∀ j, j < u → b (3 * j) = a11 (3 * j)) → (pv_K D u = 1 → b (3 * u) = nI (pv_M F D u 4)) → J2 (nI (u + 1)) a1 a2 a3 a4 a5 a6 a7 a8 a9 a10 b a12 a13 a14 a15 a16 a17 a18 a19) :
    ∃ n, wX_prepare_138 post J2 (nI u) (nI 4) 0 0 nt st fi fo bc bs n (nI (3 * u)) a1 a2 a3 a4 a5 a6 a7 a8 a9 a10 a11 a12 a13 a14 a15 a16 a17 a18 a19 := by
  have h5 := (hQ u hu).2.1.2.2.2.2
  by_cases k : pv_K D u = 1
  · rw [k] at h5
    have eu : (nI (3 * u)).toNatClampNeg = 3 * u := nI_clamp (by omega)
    refine ⟨2, pk_in u 10 (by omega), pk_le (3 * u + 1) (3 * u) (fun z => absurd z (by omega)) (fun _ => pv_find hQ hu k ⟨pk_in (3 * u) 30 (by omega), nm_r (e' := upd a11 (3 * u) (nI (pv_M F D u 4))) (by rw [eu]) (nm_r (nI_1 (3 * u)) ?_)⟩) (pv_kk hu h5) rfl⟩
    exact ⟨pk_in u 10 (by omega), pk_le (3 * u + 1) (3 * u + 1) (fun _ => nm_r (nI_1 u) (hJ _ (fun j hj => pk_un (by omega)) (fun _ => pk_us))) (fun z => absurd z (by omega)) (pv_kk hu h5) rfl⟩
  · rw [(pv_K0 k).1] at h5
    exact ⟨1, pk_in u 10 (by omega), pk_le (3 * u + 0) (3 * u) (fun _ => nm_r (nI_1 u) (hJ _ (fun j hj => rfl) (fun t => absurd t k))) (fun z => absurd z (by omega)) (pv_kk hu h5) rfl⟩
/-- rivals and lags, at u, after v -/
def pv_RG (Nm Sg : Nat → Nat) (u v : Nat) (r l b12 b13 : Nat → Int32) : Prop := (∀ j, j < u → b12 j = r j ∧ b13 j = l j) ∧ b12 u = nI (pv_R Nm Sg u v) ∧ b13 u = nI (pv_G Nm u v)
theorem pv_p88 {post : St2 → Prop} {J2 J26 : Int32 → (Nat → Int32) → (Nat → Int32) → (Nat → Int32) → (Nat → Int32) → (Nat → Int32) → (Nat → Int32) → (Nat → Int32) → (Nat → Int32) → (Nat → Int32) → (Nat → Int32) → (Nat → Int32) → (Nat → Int32) → (Nat → Int32) → (Nat → Int32) → (Nat → Int32) → (Nat → Int32) → (Nat → Int32) → (Nat → Int32) → (Nat → Int32) → Prop} {u v : Nat} {z0 : Int32} {r l : Nat → Int32}
    (hQ : pv_Q 4 Nm Sg F D O a1 a2 a3 a4 a5 a6 a7 a8 a9 a10) (hu : u < 4) (hv : v < 4) (hn : Nm u = Nm v) (h : pv_RG Nm Sg u v r l a12 a13) (hz : z0 = nI (pv_G Nm u (v + 1)))
    (hJ : ∀ b12 b13, pv_RG Nm Sg u (v + 1) r l b12 b13 → J26 (nI (v + 1)) a1 a2 a3 a4 a5 a6 a7 a8 a9 a10 a11 b12 b13 a14 a15 a16 a17 a18 a19) :
    wX_prepare_88 post J2 J26 (nI u) (nI v) z0 (nI u) (nI 4) 0 0 nt st fi fo bc bs a1 a2 a3 a4 a5 a6 a7 a8 a9 a10 a11 a12 a13 a14 a15 a16 a17 a18 a19 := by
  obtain ⟨h1, h2, h3⟩ := h
  have eu : (nI u).toNatClampNeg = u := nI_clamp (by omega)
  have ev : (nI v).toNatClampNeg = v := nI_clamp (by omega)
  have su := (hQ u hu).2.1.2.2.1
  have sv := (hQ v hv).2.1.2.2.1
  have lu := (hQ u hu).1.2.1
  have lv := (hQ v hv).1.2.1
  have hl : ∀ b12 : Nat → Int32, (∀ j, j < u → b12 j = r j) → b12 u = nI (pv_R Nm Sg u (v + 1)) → pv_RG Nm Sg u (v + 1) r l b12 (upd a13 u z0) := fun b12 q1 q2 =>
    ⟨fun j hj => ⟨q1 j hj, by rw [pk_un (by omega)]; exact (h1 j hj).2⟩, q2, by rw [pk_us]; exact hz⟩
  have same : (u = v ∨ (Sg u = 0 ∧ Sg v = 0)) → pv_RG Nm Sg u (v + 1) r l a12 (upd a13 u z0) := fun t => hl a12 (fun j hj => (h1 j hj).1) (by
    unfold pv_R
    rw [if_neg (fun q => t.elim q.2.1 q.2.2)]
    exact h2)
  have more : ¬ u = v → ¬ (Sg u = 0 ∧ Sg v = 0) → wX_prepare_112 post J2 J26 (nI u) (nI v) (nI 4) 0 0 nt st fi fo bc bs a1 a2 a3 a4 a5 a6 a7 a8 a9 a10 a11 a12 (upd a13 u z0) a14 a15 a16 a17 a18 a19 := fun t1 t2 =>
    ⟨pk_in u 10 (by omega), pk_in u 10 (by omega), nm_r (e' := upd a12 u (nI (pv_R Nm Sg u (v + 1)))) (by
      have eR : pv_R Nm Sg u (v + 1) = if Nm u = Nm v ∧ ¬ u = v ∧ ¬ (Sg u = 0 ∧ Sg v = 0) then pv_R Nm Sg u v ||| 2 ^ v else pv_R Nm Sg u v := rfl
      rw [eu, h2, pv_sh v hv, pv_or, eR, if_pos ⟨hn, t1, t2⟩]) (nm_r (nI_1 v) (hJ _ _ (hl _ (fun j hj => by rw [pk_un (by omega)]; exact (h1 j hj).1) pk_us)))⟩
  refine ⟨pk_in u 10 (by omega), nm_r (e' := upd a13 u z0) (by rw [eu]) (pk_eq u v (fun z => nm_r (nI_1 v) (hJ _ _ (same (Or.inl z)))) (fun z => ⟨pk_in u 10 (by omega), ?_⟩))⟩
  rw [eu, ev, su, sv]
  refine pk_eq (Sg u) 0 (fun z1 => ⟨pk_in v 10 (by omega), pk_eq (Sg v) 0 (fun z2 => nm_r (nI_1 v) (hJ _ _ (same (Or.inr ⟨z1, z2⟩)))) (fun z2 => more z (fun t => z2 t.2))⟩) (fun z1 => more z (fun t => z1 t.1))
theorem pv_p26 {post : St2 → Prop} {J2 : Int32 → (Nat → Int32) → (Nat → Int32) → (Nat → Int32) → (Nat → Int32) → (Nat → Int32) → (Nat → Int32) → (Nat → Int32) → (Nat → Int32) → (Nat → Int32) → (Nat → Int32) → (Nat → Int32) → (Nat → Int32) → (Nat → Int32) → (Nat → Int32) → (Nat → Int32) → (Nat → Int32) → (Nat → Int32) → (Nat → Int32) → (Nat → Int32) → Prop} {u : Nat} {r l : Nat → Int32}
    (hQ : pv_Q 4 Nm Sg F D O a1 a2 a3 a4 a5 a6 a7 a8 a9 a10) (hu : u < 4) (h : pv_RG Nm Sg u 0 r l a12 a13)
    (hJ : ∀ b11 b12 b13, (∀ j, j < u → b11 (3 * j) = a11 (3 * j)) → (pv_K D u = 1 → b11 (3 * u) = nI (pv_M F D u 4)) → pv_RG Nm Sg u 4 r l b12 b13 → J2 (nI (u + 1)) a1 a2 a3 a4 a5 a6 a7 a8 a9 a10 b11 b12 b13 a14 a15 a16 a17 a18 a19) :
    ∃ n, wX_prepare_26 post J2 (nI u) (nI 4) 0 0 nt st fi fo bc bs n 0 a1 a2 a3 a4 a5 a6 a7 a8 a9 a10 a11 a12 a13 a14 a15 a16 a17 a18 a19 := by
  have eu : (nI u).toNatClampNeg = u := nI_clamp (by omega)
  refine pk_loop (σ := (Nat → Int32) × (Nat → Int32)) (fun n v s => wX_prepare_26 post J2 (nI u) (nI 4) 0 0 nt st fi fo bc bs n (nI v) a1 a2 a3 a4 a5 a6 a7 a8 a9 a10 a11 (s.1) (s.2) a14 a15 a16 a17 a18 a19) (fun v s => pv_RG Nm Sg u v r l s.1 s.2) 4 0 (a12, a13) (by omega) h
    (fun n s hs => pk_le 4 4 (fun _ => nm_r (pk_mul 3 u) (pv_p138 hQ hu (fun b q1 q2 => hJ b _ _ q1 q2 hs))) (fun z => absurd z (by omega))) (fun n v s hv hs hw => ?_)
  obtain ⟨b12, b13⟩ := s
  have hs' : pv_RG Nm Sg u v r l b12 b13 := hs
  have hw' : ∀ c12 c13, pv_RG Nm Sg u (v + 1) r l c12 c13 → wX_prepare_26 post J2 (nI u) (nI 4) 0 0 nt st fi fo bc bs n (nI (v + 1)) a1 a2 a3 a4 a5 a6 a7 a8 a9 a10 a11 c12 c13 a14 a15 a16 a17 a18 a19 := fun c12 c13 q => hw (c12, c13) q
  show wX_prepare_26 post J2 (nI u) (nI 4) 0 0 nt st fi fo bc bs (n + 1) (nI v) a1 a2 a3 a4 a5 a6 a7 a8 a9 a10 a11 b12 b13 a14 a15 a16 a17 a18 a19
  have ev : (nI v).toNatClampNeg = v := nI_clamp (by omega)
  have n1 := (hQ u hu).2.1.1
  have n2 := (hQ v hv).2.1.1
  have v1 := (hQ u hu).2.1.2.1
  have v2 := (hQ v hv).2.1.2.1
  have lu := (hQ u hu).1.1
  have lv := (hQ v hv).1.1
  have hg := pv_Gl Nm u v (by omega)
  refine pk_le 4 v (fun z => absurd z (by omega)) (fun _ => ⟨pk_in u 10 (by omega), pk_in v 10 (by omega), ?_⟩)
  rw [eu, ev, n1, n2, v1, v2, hs'.2.2]
  refine pk_eq (Nm u) (Nm v) (fun z => ⟨pk_in v 10 (by omega), pk_in u 10 (by omega), nm_e ⟨pk_in u 10 (by omega), ?_⟩⟩) (fun z => nm_r (nI_1 v) (hw' b12 b13 ⟨hs'.1, ?_, ?_⟩))
  · have G1 : pv_G Nm u (v + 1) = (if v - u ≤ pv_G Nm u v then pv_G Nm u v else v - u) := by
      show (if Nm u = Nm v then (if v - u ≤ pv_G Nm u v then pv_G Nm u v else v - u) else pv_G Nm u v) = _
      rw [if_pos z]
    rcases pv_lag v hv u hu (pv_G Nm u v) (by omega) with ⟨q1, q2⟩ | ⟨q1, q2, q3⟩
    · exact br_t q1 ⟨pk_in u 10 (by omega), pv_p88 hQ hu hv z hs' (by rw [G1, if_pos q2]) hw'⟩
    · exact br_f q1 (pv_p88 hQ hu hv z hs' (by rw [G1, if_neg q2, q3]) hw')
  · unfold pv_R
    rw [if_neg (fun t => z t.1)]
    exact hs'.2.1
  · unfold pv_G
    rw [if_neg z]
    exact hs'.2.2
theorem pv_prep {post : St2 → Prop} (hQ : pv_Q 4 Nm Sg F D O a1 a2 a3 a4 a5 a6 a7 a8 a9 a10)
    (hp : ∀ a11 a12 a13, pv_P (pv_K D) O (pv_MM F D) (pv_RR Nm Sg) (pv_GG Nm) a5 a8 a11 a12 a13 → post ((nI 4), 0, 0, nt, st, fi, fo, bc, bs, a1, a2, a3, a4, a5, a6, a7, a8, a9, a10, a11, a12, a13, a14, a15, a16, a17, a18, a19)) : wpX_prepare post ((nI 4), 0, 0, nt, st, fi, fo, bc, bs, a1, a2, a3, a4, a5, a6, a7, a8, a9, a10, a11, a12, a13, a14, a15, a16, a17, a18, a19) := by
  refine pk_loop (σ := (Nat → Int32) × (Nat → Int32) × (Nat → Int32)) (fun n u s => wX_prepare_2 post (nI 4) 0 0 nt st fi fo bc bs n (nI u) a1 a2 a3 a4 a5 a6 a7 a8 a9 a10 (s.1) (s.2.1) (s.2.2) a14 a15 a16 a17 a18 a19)
    (fun u s => ∀ j, j < u → (pv_K D j = 1 → s.1 (3 * j) = nI (pv_M F D j 4)) ∧ s.2.1 j = nI (pv_R Nm Sg j 4) ∧ s.2.2 j = nI (pv_G Nm j 4)) 4 0 (a11, a12, a13) (by omega) (fun j hj => absurd hj (by omega))
    (fun n s hs => pk_le 4 4 (fun _ => hp _ _ _ (fun u hu => ?_)) (fun z => absurd z (by omega))) (fun n u s hu hs hw => ?_)
  · obtain ⟨q1, q2, q3⟩ := hs u hu
    obtain ⟨⟨_, _, _, _, hO⟩, ⟨_, _, _, _, h5⟩, _, hk⟩ := hQ u hu
    refine ⟨?_, by omega, pv_Ml F D u 4 (by omega), pv_Rl Nm Sg u 4 (by omega), pv_Gl Nm u 4 (by omega), h5, fun k => ⟨⟨D u, pv_K1 k, (hk k).1⟩, q1 k⟩, q2, q3⟩
    unfold pv_K
    split <;> omega
  · obtain ⟨b11, b12, b13⟩ := s
    have hs' : ∀ j, j < u → (pv_K D j = 1 → b11 (3 * j) = nI (pv_M F D j 4)) ∧ b12 j = nI (pv_R Nm Sg j 4) ∧ b13 j = nI (pv_G Nm j 4) := hs
    have hw' : ∀ c11 c12 c13, (∀ j, j < u + 1 → (pv_K D j = 1 → c11 (3 * j) = nI (pv_M F D j 4)) ∧ c12 j = nI (pv_R Nm Sg j 4) ∧ c13 j = nI (pv_G Nm j 4)) → wX_prepare_2 post (nI 4) 0 0 nt st fi fo bc bs n (nI (u + 1)) a1 a2 a3 a4 a5 a6 a7 a8 a9 a10 c11 c12 c13 a14 a15 a16 a17 a18 a19 := fun c11 c12 c13 q => hw (c11, c12, c13) q
    show wX_prepare_2 post (nI 4) 0 0 nt st fi fo bc bs (n + 1) (nI u) a1 a2 a3 a4 a5 a6 a7 a8 a9 a10 b11 b12 b13 a14 a15 a16 a17 a18 a19
    have eu : (nI u).toNatClampNeg = u := nI_clamp (by omega)
    refine pk_le 4 u (fun z => absurd z (by omega)) (fun _ => ⟨pk_in u 10 (by omega), nm_r (e' := upd b12 u 0) (by rw [eu]) ⟨pk_in u 10 (by omega), nm_r (e' := upd b13 u 0) (by rw [eu]) ?_⟩⟩)
    refine pv_p26 (r := b12) (l := b13) hQ hu ⟨fun j hj => ⟨pk_un (by omega), pk_un (by omega)⟩, pk_us, pk_us⟩ (fun c11 c12 c13 q1 q2 q3 => hw' c11 c12 c13 (lt_s (fun j hj => ?_) ⟨q2, q3.2.1, q3.2.2⟩))
    obtain ⟨p1, p2, p3⟩ := hs' j hj
    exact ⟨fun k => by rw [q1 j hj]; exact p1 k, by rw [(q3.1 j hj).1]; exact p2, by rw [(q3.1 j hj).2]; exact p3⟩
end
end
section
abbrev pv_SS (Nm Sg F D O : Nat → Nat) : Nat → Prop := pv_So (pv_K D) O (pv_MM F D) (pv_RR Nm Sg)
abbrev pv_CC (Nm F D O : Nat → Nat) : Nat → Nat := pv_cs (pv_K D) O (pv_MM F D) (pv_GG Nm)
abbrev pv_RE (Nm Sg F D O : Nat → Nat) (w b : Nat) : Option Nat → Prop := pv_Re (pv_K D) O (pv_MM F D) (pv_RR Nm Sg) (pv_GG Nm) w b
def pv_pl (B : Option Nat) : Int32 := match B with
  | none => -2
  | some s => nI s
def pv_pc (cs : Nat → Nat) (B : Option Nat) : Int32 := match B with
  | none => -2
  | some s => nI (cs s)
def pv_gv (w b S : Nat) : Nat := pv_os (w &&& (15 ^^^ S)) 4 + pv_os (b &&& S) 4
/-- the least excess -/
def pv_Ex (Sd : Nat → Prop) (w b e : Nat) : Prop := (∀ S, S < 16 → Sd S → e ≤ pv_gv w b S) ∧ ∃ S, S < 16 ∧ Sd S ∧ e = pv_gv w b S
theorem pv_ExU {Sd : Nat → Prop} {w b e e' : Nat} (h : pv_Ex Sd w b e) (h' : pv_Ex Sd w b e') : e = e' := by
  obtain ⟨h1, S, s1, s2, s3⟩ := h
  obtain ⟨h1', S', s1', s2', s3'⟩ := h'
  have := h1 S' s1' s2'
  have := h1' S s1 s2
  omega
theorem pv_ReU {K O M R G : Nat → Nat} {w b : Nat} {B B' : Option Nat} (h : pv_Re K O M R G w b B) (h' : pv_Re K O M R G w b B') : B = B' := by
  cases B with
  | none =>
    cases B' with
    | none => rfl
    | some s =>
      obtain ⟨s1, s2, s3⟩ := h'.1 s rfl
      obtain ⟨x, e, _⟩ := h.2 s s1 s2 s3
      exact absurd e.symm (Option.some_ne_none x)
  | some t =>
    obtain ⟨t1, t2, t3⟩ := h.1 t rfl
    obtain ⟨x, e, hx⟩ := h'.2 t t1 t2 t3
    subst e
    obtain ⟨s1, s2, s3⟩ := h'.1 x rfl
    obtain ⟨y, e2, hy⟩ := h.2 x s1 s2 s3
    have e3 : t = y := Option.some.inj e2
    subst e3
    congr 1
    omega
theorem pv_So0 (K O M R : Nat → Nat) : pv_So K O M R 0 := fun u _ h => absurd h (by rw [Nat.zero_testBit]; decide)
theorem pv_gv0 : ∀ w, w < 16 → ∀ b, b < 16 → pv_gv w b 0 = pv_os w 4 := by decide +kernel
theorem pv_gvb {w b : Nat} (hw : w < 16) (hb : b < 16) (S : Nat) : pv_gv w b S ≤ 8 := by
  have h1 := pv_os4 _ (pv_al (15 ^^^ S) hw)
  have h2 := pv_os4 _ (pv_al S hb)
  unfold pv_gv
  omega
section
variable {nt st fi fo bc bs : Int32} {a1 a2 a3 a4 a5 a6 a7 a8 a9 a10 a11 a12 a13 a14 a15 a16 a17 a18 a19 : Nat → Int32} {Nm Sg F D O : Nat → Nat}
theorem pv_xsound {post : Int32 → St2 → Prop} {s : Nat} (hQ : pv_Q 4 Nm Sg F D O a1 a2 a3 a4 a5 a6 a7 a8 a9 a10) (hs : s < 16)
    (h1 : pv_SS Nm Sg F D O s → ∀ a11 a12 a13, post 1 ((nI 4), 0, 0, nt, st, fi, fo, bc, bs, a1, a2, a3, a4, a5, a6, a7, a8, a9, a10, a11, a12, a13, a14, a15, a16, a17, a18, a19)) (h0 : ¬ pv_SS Nm Sg F D O s → ∀ a11 a12 a13, post 0 ((nI 4), 0, 0, nt, st, fi, fo, bc, bs, a1, a2, a3, a4, a5, a6, a7, a8, a9, a10, a11, a12, a13, a14, a15, a16, a17, a18, a19)) : wpX_sound post ((nI 4), 0, 0, nt, st, fi, fo, bc, bs, a1, a2, a3, a4, a5, a6, a7, a8, a9, a10, a11, a12, a13, a14, a15, a16, a17, a18, a19) (nI s) := by
  unfold wpX_sound
  dsimp only
  refine pv_isSet hs (br_f (by decide +kernel) ?_)
  refine pv_prep hQ (fun b11 b12 b13 hP => ?_)
  dsimp only
  exact pv_isS hP hs (fun h => br_f (by decide +kernel) (h1 h b11 b12 b13)) (fun h => br_t rfl (h0 h b11 b12 b13))
theorem pv_xcost {post : Int32 → St2 → Prop} {s : Nat} (hQ : pv_Q 4 Nm Sg F D O a1 a2 a3 a4 a5 a6 a7 a8 a9 a10) (hs : s < 16)
    (h : ∀ a11 a12 a13, post (nI (pv_CC Nm F D O s)) ((nI 4), 0, 0, nt, st, fi, fo, bc, bs, a1, a2, a3, a4, a5, a6, a7, a8, a9, a10, a11, a12, a13, a14, a15, a16, a17, a18, a19)) : wpX_cost post ((nI 4), 0, 0, nt, st, fi, fo, bc, bs, a1, a2, a3, a4, a5, a6, a7, a8, a9, a10, a11, a12, a13, a14, a15, a16, a17, a18, a19) (nI s) := by
  unfold wpX_cost
  dsimp only
  refine pv_isSet hs (br_f (by decide +kernel) ?_)
  refine pv_prep hQ (fun b11 b12 b13 hP => ?_)
  dsimp only
  exact pv_costS hP hs (h b11 b12 b13)
theorem pv_search {post : St2 → Prop} {w b : Nat} (hQ : pv_Q 4 Nm Sg F D O a1 a2 a3 a4 a5 a6 a7 a8 a9 a10) (hw : w < 16) (hb : b < 16)
    (hp : ∀ fi fo bc bs a11 a12 a13 a14 a15 a16 B, pv_RE Nm Sg F D O w b B → pv_Bo (pv_CC Nm F D O) B bs bc → post ((nI 4), 0, 0, nt, st, fi, fo, bc, bs, a1, a2, a3, a4, a5, a6, a7, a8, a9, a10, a11, a12, a13, a14, a15, a16, a17, a18, a19)) : wpX_search post ((nI 4), 0, 0, nt, st, fi, fo, bc, bs, a1, a2, a3, a4, a5, a6, a7, a8, a9, a10, a11, a12, a13, a14, a15, a16, a17, a18, a19) (nI w) (nI b) := by
  unfold wpX_search
  dsimp only
  refine pv_prep hQ (fun b11 b12 b13 hP => ?_)
  dsimp only
  refine pv_force hP hw hb (fun hno x y => br_t rfl (hp x y _ _ _ _ _ _ _ _ none ⟨fun s e => absurd e.symm (Option.some_ne_none s), fun S hS hSo hC => absurd hC (hno S hS hSo)⟩ rfl)) (fun i o hi ho hc s1 s2 hS => br_f (by decide +kernel) ?_)
  refine pv_keep (d := 0) (by omega) ?_
  dsimp only
  refine ⟨94, pv_42 (w := w) (b := b) hP hw hb (fun fi fo bc bs a14 a15 a16 B h1 h2 => hp fi fo bc bs b11 b12 b13 a14 a15 a16 B h1 h2) 94 1 0 0 (fun _ => i) (fun _ => o) (fun _ => 0) none _ _ _ _ _ _ _ ⟨fun j hj => ?_, fun s e => absurd e.symm (Option.some_ne_none s), fun S hS16 hSo hC => Or.inr ⟨0, by omega, hS S hS16 hSo hC, Or.inl rfl⟩⟩ ?_ rfl (pk_m1 0).symm (by decide) (by decide)⟩
  · have e : j = 0 := by omega
    subst e
    exact ⟨hi, ho, Nat.zero_le _, hc, s1, s2, Nat.zero_le _⟩
  · intro j hj
    have e : j = 0 := by omega
    subst e
    exact ⟨pk_us, pk_us, pk_us⟩
theorem pv_plan {post : Int32 → St2 → Prop} {w b : Nat} (hQ : pv_Q 4 Nm Sg F D O a1 a2 a3 a4 a5 a6 a7 a8 a9 a10) (hw : w < 16) (hb : b < 16)
    (h : ∀ fi fo bc bs a11 a12 a13 a14 a15 a16 B, pv_RE Nm Sg F D O w b B → post (pv_pl B) ((nI 4), 0, 0, nt, st, fi, fo, bc, bs, a1, a2, a3, a4, a5, a6, a7, a8, a9, a10, a11, a12, a13, a14, a15, a16, a17, a18, a19)) : wpX_plan post ((nI 4), 0, 0, nt, st, fi, fo, bc, bs, a1, a2, a3, a4, a5, a6, a7, a8, a9, a10, a11, a12, a13, a14, a15, a16, a17, a18, a19) (nI w) (nI b) := by
  unfold wpX_plan
  dsimp only
  refine pv_isSet hw (br_f (by decide +kernel) ?_)
  refine pv_isSet hb (br_f (by decide +kernel) ?_)
  refine pv_search hQ hw hb (fun fi fo bc bs a11 a12 a13 a14 a15 a16 B hR hB => ?_)
  cases B with
  | none =>
    have e : bs = -1 := hB
    subst e
    exact br_f (show ¬ (0 : Int32) ≤ -1 by decide +kernel) (h fi fo bc (-1) a11 a12 a13 a14 a15 a16 none hR)
  | some s =>
    obtain ⟨hs, e1, e2⟩ := hB
    subst e1
    exact br_t (nI_pos' (by omega)) (h fi fo bc (nI s) a11 a12 a13 a14 a15 a16 (some s) hR)
theorem pv_planCost {post : Int32 → St2 → Prop} {w b : Nat} (hQ : pv_Q 4 Nm Sg F D O a1 a2 a3 a4 a5 a6 a7 a8 a9 a10) (hw : w < 16) (hb : b < 16)
    (h : ∀ fi fo bc bs a11 a12 a13 a14 a15 a16 B, pv_RE Nm Sg F D O w b B → post (pv_pc (pv_CC Nm F D O) B) ((nI 4), 0, 0, nt, st, fi, fo, bc, bs, a1, a2, a3, a4, a5, a6, a7, a8, a9, a10, a11, a12, a13, a14, a15, a16, a17, a18, a19)) : wpX_planCost post ((nI 4), 0, 0, nt, st, fi, fo, bc, bs, a1, a2, a3, a4, a5, a6, a7, a8, a9, a10, a11, a12, a13, a14, a15, a16, a17, a18, a19) (nI w) (nI b) := by
  unfold wpX_planCost
  dsimp only
  refine pv_isSet hw (br_f (by decide +kernel) ?_)
  refine pv_isSet hb (br_f (by decide +kernel) ?_)
  refine pv_search hQ hw hb (fun fi fo bc bs a11 a12 a13 a14 a15 a16 B hR hB => ?_)
  cases B with
  | none =>
    have e : bs = -1 := hB
    subst e
    exact br_f (show ¬ (0 : Int32) ≤ -1 by decide +kernel) (h fi fo bc (-1) a11 a12 a13 a14 a15 a16 none hR)
  | some s =>
    obtain ⟨hs, e1, e2⟩ := hB
    subst e1
    subst e2
    exact br_t (nI_pos' (by omega)) (h fi fo _ (nI s) a11 a12 a13 a14 a15 a16 (some s) hR)
theorem pv_excess {post : Int32 → St2 → Prop} {w b : Nat} (hQ : pv_Q 4 Nm Sg F D O a1 a2 a3 a4 a5 a6 a7 a8 a9 a10) (hw : w < 16) (hb : b < 16)
    (h : ∀ a11 a12 a13 e, pv_Ex (pv_SS Nm Sg F D O) w b e → post (nI e) ((nI 4), 0, 0, nt, st, fi, fo, bc, bs, a1, a2, a3, a4, a5, a6, a7, a8, a9, a10, a11, a12, a13, a14, a15, a16, a17, a18, a19)) : wpX_excess post ((nI 4), 0, 0, nt, st, fi, fo, bc, bs, a1, a2, a3, a4, a5, a6, a7, a8, a9, a10, a11, a12, a13, a14, a15, a16, a17, a18, a19) (nI w) (nI b) := by
  unfold wpX_excess
  dsimp only
  refine pv_isSet hw (br_f (by decide +kernel) ?_)
  refine pv_isSet hb (br_f (by decide +kernel) ?_)
  refine pv_prep hQ (fun b11 b12 b13 hP => ?_)
  dsimp only
  refine pv_ones hw (pv_ones hb (nm_r (nI_add _ _) ?_))
  have ow := pv_os4 w hw
  have ob := pv_os4 b hb
  have e16 : (1 : Int32) <<< (nI 4 &&& 31) = nI 16 := by decide +kernel
  refine pk_loop (fun n v e => wX_excess_35 post (nI w) (nI b) (nI 4) 0 0 nt st fi fo bc bs a1 a2 a3 a4 a5 a6 a7 a8 a9 a10 b11 b12 b13 a14 a15 a16 a17 a18 a19 n (nI e) (nI v))
    (fun v e => e ≤ pv_os w 4 + pv_os b 4 ∧ (∀ S, S < v → pv_SS Nm Sg F D O S → e ≤ pv_gv w b S) ∧ (e = pv_os w 4 + pv_os b 4 ∨ ∃ S, S < v ∧ pv_SS Nm Sg F D O S ∧ e = pv_gv w b S)) 16 0 (pv_os w 4 + pv_os b 4) (by omega)
    ⟨Nat.le_refl _, fun S hS => absurd hS (by omega), Or.inl rfl⟩ (fun n e he => ?_) (fun n v e hv he hw2 => ?_)
  · refine pk_le 16 16 (fun _ => h b11 b12 b13 e ⟨he.2.1, ?_⟩) (fun z => absurd z (by omega)) e16 rfl
    have h0 := he.2.1 0 (by omega) (pv_So0 _ _ _ _)
    rw [pv_gv0 w hw b hb] at h0
    rcases he.2.2 with q | q
    · exact ⟨0, by omega, pv_So0 _ _ _ _, by rw [pv_gv0 w hw b hb]; omega⟩
    · exact q
  · obtain ⟨g1, g2, g3⟩ := he
    refine pk_le 16 v (fun z => absurd z (by omega)) (fun _ => ?_) e16 rfl
    rw [pv_nand w hw v hv, pv_and b v]
    refine pv_ones (pv_al _ hw) (pv_ones (pv_al _ hb) (nm_r (nI_add _ _) ?_))
    have gb := pv_gvb hw hb v
    refine pk_le e (pv_gv w b v) (fun z => nm_r (nI_1 v) (hw2 e ⟨g1, lt_s g2 (fun _ => z), ?_⟩)) (fun z => pv_isS hP hv (fun hs => br_f (by decide +kernel) (nm_r (nI_1 v) (hw2 (pv_gv w b v) ⟨by omega, lt_s (fun S hS hSo => ?_) (fun _ => Nat.le_refl _), Or.inr ⟨v, by omega, hs, rfl⟩⟩))) (fun hs => br_t rfl (nm_r (nI_1 v) (hw2 e ⟨g1, lt_s g2 (fun t => absurd t hs), ?_⟩))))
    · rcases g3 with q | ⟨S, q1, q2⟩
      · exact Or.inl q
      · exact Or.inr ⟨S, by omega, q2⟩
    · have := g2 S hS hSo
      omega
    · rcases g3 with q | ⟨S, q1, q2⟩
      · exact Or.inl q
      · exact Or.inr ⟨S, by omega, q2⟩
end
end
section
/-! the law's own look at a script's code -/
def pv_p (c : Int32) (u : Nat) : Nat := (c >>> ((7 * nI u) &&& 31)).toBitVec.toNat % 2 ^ 7
theorem pv_pb (c : Int32) (u : Nat) : pv_p c u < 128 := Nat.mod_lt _ (by decide)
def pv_n (c : Int32) (u : Nat) : Nat := pv_p c u % 2
def pv_g (c : Int32) (u : Nat) : Nat := pv_p c u / 2 % 2
def pv_f (c : Int32) (u : Nat) : Nat := pv_p c u / 4 % 4
def pv_d (c : Int32) (u : Nat) : Nat := pv_p c u / 16 % 4
def pv_o (c : Int32) (u : Nat) : Nat := pv_p c u / 64 % 2
theorem pv_nb (c : Int32) (u : Nat) : pv_n c u < 2 := Nat.mod_lt _ (by decide)
theorem pv_gb (c : Int32) (u : Nat) : pv_g c u < 2 := Nat.mod_lt _ (by decide)
theorem pv_fb (c : Int32) (u : Nat) : pv_f c u < 4 := Nat.mod_lt _ (by decide)
theorem pv_db (c : Int32) (u : Nat) : pv_d c u < 4 := Nat.mod_lt _ (by decide)
theorem pv_ob2 (c : Int32) (u : Nat) : pv_o c u < 2 := Nat.mod_lt _ (by decide)
theorem pv_part {post : Int32 → Prop} {c : Int32} {u : Nat} (hp : post (nI (pv_p c u))) : wpL_part post () c (nI u) := by
  have e := pk_and (c >>> ((7 * nI u) &&& 31)) (m := 127) 7 (by decide +kernel)
  unfold wpL_part
  rw [e]
  exact hp
theorem pv_b0 : ∀ p, p < 128 → nI p &&& 1 = nI (p % 2) := by decide +kernel
theorem pv_b1 : ∀ p, p < 128 → (nI p >>> ((1 : Int32) &&& 31)) &&& 1 = nI (p / 2 % 2) := by decide +kernel
theorem pv_b2 : ∀ p, p < 128 → (nI p >>> ((2 : Int32) &&& 31)) &&& 3 = nI (p / 4 % 4) := by decide +kernel
theorem pv_b4 : ∀ p, p < 128 → (nI p >>> ((4 : Int32) &&& 31)) &&& 3 = nI (p / 16 % 4) := by decide +kernel
theorem pv_b6 : ∀ p, p < 128 → (nI p >>> ((6 : Int32) &&& 31)) &&& 1 = nI (p / 64 % 2) := by decide +kernel
theorem pv_b1n : ∀ p, p < 128 → ∀ q, q < 128 → p ||| q < 128 ∧ (p ||| q) / 2 % 2 = (if p / 2 % 2 = 0 ∧ q / 2 % 2 = 0 then 0 else 1) := by decide +kernel
theorem pv_e0 (c : Int32) (u : Nat) : nI (pv_p c u) &&& 1 = nI (pv_n c u) := pv_b0 _ (pv_pb c u)
theorem pv_e1 (c : Int32) (u : Nat) : (nI (pv_p c u) >>> ((1 : Int32) &&& 31)) &&& 1 = nI (pv_g c u) := pv_b1 _ (pv_pb c u)
theorem pv_e2 (c : Int32) (u : Nat) : (nI (pv_p c u) >>> ((2 : Int32) &&& 31)) &&& 3 = nI (pv_f c u) := pv_b2 _ (pv_pb c u)
theorem pv_e4 (c : Int32) (u : Nat) : (nI (pv_p c u) >>> ((4 : Int32) &&& 31)) &&& 3 = nI (pv_d c u) := pv_b4 _ (pv_pb c u)
theorem pv_e6 (c : Int32) (u : Nat) : (nI (pv_p c u) >>> ((6 : Int32) &&& 31)) &&& 1 = nI (pv_o c u) := pv_b6 _ (pv_pb c u)
theorem pv_e1o (c : Int32) (u v : Nat) : ((nI (pv_p c u) ||| nI (pv_p c v)) >>> ((1 : Int32) &&& 31)) &&& 1 = nI (if pv_g c u = 0 ∧ pv_g c v = 0 then 0 else 1) := by
  have h := pv_b1n _ (pv_pb c u) _ (pv_pb c v)
  rw [pv_or, pv_b1 _ h.1, h.2]
  rfl
/-! rivals and meeters, by their bits -/
theorem pv_Rbit (Nm Sg : Nat → Nat) (u v : Nat) : ∀ n, (pv_R Nm Sg u n).testBit v = true ↔ v < n ∧ Nm u = Nm v ∧ ¬ u = v ∧ ¬ (Sg u = 0 ∧ Sg v = 0) := by
  intro n
  induction n with
  | zero =>
    show (0 : Nat).testBit v = true ↔ _
    rw [Nat.zero_testBit]
    exact ⟨fun h => absurd h (by decide), fun h => absurd h.1 (by omega)⟩
  | succ n ih =>
    have e : pv_R Nm Sg u (n + 1) = if Nm u = Nm n ∧ ¬ u = n ∧ ¬ (Sg u = 0 ∧ Sg n = 0) then pv_R Nm Sg u n ||| 2 ^ n else pv_R Nm Sg u n := rfl
    rw [e]
    by_cases h : Nm u = Nm n ∧ ¬ u = n ∧ ¬ (Sg u = 0 ∧ Sg n = 0)
    · rw [if_pos h, Nat.testBit_or, Bool.or_eq_true, ih, Nat.testBit_two_pow, decide_eq_true_eq]
      constructor
      · rintro (q | q)
        · exact ⟨by omega, q.2⟩
        · subst q
          exact ⟨by omega, h⟩
      · intro q
        by_cases z : n = v
        · exact Or.inr z
        · exact Or.inl ⟨by omega, q.2⟩
    · rw [if_neg h, ih]
      constructor
      · intro q
        exact ⟨by omega, q.2⟩
      · intro q
        by_cases z : n = v
        · subst z
          exact absurd q.2 h
        · exact ⟨by omega, q.2⟩
theorem pv_Mbit (F D : Nat → Nat) (u v : Nat) : ∀ n, (pv_M F D u n).testBit v = true ↔ v < n ∧ F v = D u := by
  intro n
  induction n with
  | zero =>
    show (0 : Nat).testBit v = true ↔ _
    rw [Nat.zero_testBit]
    exact ⟨fun h => absurd h (by decide), fun h => absurd h.1 (by omega)⟩
  | succ n ih =>
    have e : pv_M F D u (n + 1) = if F n = D u then pv_M F D u n ||| 2 ^ n else pv_M F D u n := rfl
    rw [e]
    by_cases h : F n = D u
    · rw [if_pos h, Nat.testBit_or, Bool.or_eq_true, ih, Nat.testBit_two_pow, decide_eq_true_eq]
      constructor
      · rintro (q | q)
        · exact ⟨by omega, q.2⟩
        · subst q
          exact ⟨by omega, h⟩
      · intro q
        by_cases z : n = v
        · exact Or.inr z
        · exact Or.inl ⟨by omega, q.2⟩
    · rw [if_neg h, ih]
      constructor
      · intro q
        exact ⟨by omega, q.2⟩
      · intro q
        by_cases z : n = v
        · subst z
          exact absurd q.2 h
        · exact ⟨by omega, q.2⟩
theorem pv_z0 : ∀ a, a < 16 → ∀ b, b < 16 → (a &&& b = 0 ↔ ∀ v, v < 4 → a.testBit v = true → ¬ b.testBit v = true) := by decide +kernel
def pv_cf (Nm Sg : Nat → Nat) (S u v : Nat) : Prop := S.testBit v = true ∧ Nm u = Nm v ∧ ¬ u = v ∧ ¬ (Sg u = 0 ∧ Sg v = 0)
def pv_mt (F D : Nat → Nat) (S u n : Nat) : Prop := ∃ v, v < n ∧ S.testBit v = true ∧ F v = D u
theorem pv_Rz (Nm Sg : Nat → Nat) (u : Nat) {S : Nat} (hS : S < 16) : pv_RR Nm Sg u &&& S = 0 ↔ ∀ v, v < 4 → ¬ pv_cf Nm Sg S u v := by
  rw [pv_z0 _ (pv_Rl Nm Sg u 4 (by omega)) S hS]
  constructor
  · intro h v hv q
    exact h v hv ((pv_Rbit Nm Sg u v 4).mpr ⟨hv, q.2⟩) q.1
  · intro h v hv q1 q2
    exact h v hv ⟨q2, ((pv_Rbit Nm Sg u v 4).mp q1).2⟩
theorem pv_Mz (F D : Nat → Nat) (u : Nat) {S : Nat} (hS : S < 16) : pv_MM F D u &&& S = 0 ↔ ¬ pv_mt F D S u 4 := by
  rw [pv_z0 _ (pv_Ml F D u 4 (by omega)) S hS]
  constructor
  · intro h ⟨v, hv, q1, q2⟩
    exact h v hv ((pv_Mbit F D u v 4).mpr ⟨hv, q2⟩) q1
  · intro h v hv q1 q2
    exact h ⟨v, hv, q2, ((pv_Mbit F D u v 4).mp q1).2⟩
theorem pv_mt_t {F D : Nat → Nat} {S u n : Nat} (h : pv_mt F D S u n) : pv_mt F D S u (n + 1) := by
  obtain ⟨v, h1, h2⟩ := h
  exact ⟨v, by omega, h2⟩
theorem pv_mt_s {F D : Nat → Nat} {S u n : Nat} (h : pv_mt F D S u (n + 1)) : pv_mt F D S u n ∨ (S.testBit n = true ∧ F n = D u) := by
  obtain ⟨v, h1, h2⟩ := h
  by_cases e : v = n
  · subst e
    exact Or.inr h2
  · exact Or.inl ⟨v, by omega, h2⟩
/-- the flag 'met' after v units -/
def pv_fl (F D : Nat → Nat) (S u : Nat) (ini : Prop) (v m : Nat) : Prop := m < 2 ∧ (m = 0 ↔ ¬ (ini ∨ pv_mt F D S u v))
theorem pv_fl_yes {F D : Nat → Nat} {S u v : Nat} {ini : Prop} (h1 : S.testBit v = true) (h2 : F v = D u) : pv_fl F D S u ini (v + 1) 1 :=
  ⟨by omega, fun z => absurd z (by omega), fun z => absurd (Or.inr ⟨v, by omega, h1, h2⟩) z⟩
theorem pv_fl_no {F D : Nat → Nat} {S u v m : Nat} {ini : Prop} (h : pv_fl F D S u ini v m) (hn : ¬ (S.testBit v = true ∧ F v = D u)) : pv_fl F D S u ini (v + 1) m :=
  ⟨h.1, fun z t => t.elim (fun q => h.2.mp z (Or.inl q)) (fun q => (pv_mt_s q).elim (fun q => h.2.mp z (Or.inr q)) hn), fun z => h.2.mpr (fun t => z (t.elim Or.inl (fun q => Or.inr (pv_mt_t q))))⟩
theorem pv_fl_0 {F D : Nat → Nat} {S u m : Nat} {ini : Prop} (hm : m < 2) (h : m = 0 ↔ ¬ ini) : pv_fl F D S u ini 0 m :=
  ⟨hm, fun z t => t.elim (h.mp z) (fun ⟨v, hv, _⟩ => absurd hv (by omega)), fun z => h.mpr (fun t => z (Or.inl t))⟩
/-! the law's sound -/
theorem pv_l42 {post : Int32 → Prop} {J2 : Int32 → Prop} {c : Int32} {s u m0 : Nat} {ini : Prop} (hs : s < 16) (hu : u < 4) (hm : pv_fl (pv_f c) (pv_d c) s u ini 0 m0)
    (hJ : (s.testBit u = true → (∀ v, v < 4 → ¬ pv_cf (pv_n c) (pv_g c) s u v) ∧ (ini ∨ pv_mt (pv_f c) (pv_d c) s u 4)) → J2 (nI (u + 1)))
    (h0 : s.testBit u = true → ¬ ((∀ v, v < 4 → ¬ pv_cf (pv_n c) (pv_g c) s u v) ∧ (ini ∨ pv_mt (pv_f c) (pv_d c) s u 4)) → post 0) :
    ∃ n, wL_sound_42 post J2 c (nI s) (nI u) (nI (pv_p c u)) n (nI m0) 0 := by
  refine pk_loop (fun n v m => wL_sound_42 post J2 c (nI s) (nI u) (nI (pv_p c u)) n (nI m) (nI v)) (fun v m => pv_fl (pv_f c) (pv_d c) s u ini v m ∧ (s.testBit u = true → ∀ v', v' < v → ¬ pv_cf (pv_n c) (pv_g c) s u v')) 4 0 m0 (by omega) ⟨hm, fun _ v hv => absurd hv (by omega)⟩
    (fun n m h => ?_) (fun n v m hv h hw => ?_)
  · obtain ⟨h1, h2⟩ := h
    have hm2 := h1.1
    refine pk_le 4 4 (fun _ => pv_brb hs (by omega) (fun hb => pk_eq m 0 (fun z => h0 hb (fun t => h1.2.mp z t.2)) (fun z => nm_r (nI_1 u) (hJ (fun _ => ⟨h2 hb, ?_⟩)))) (fun hb => nm_r (nI_1 u) (hJ (fun t => absurd t (by rw [hb]; decide))))) (fun z => absurd z (by omega))
    by_cases q : ini ∨ pv_mt (pv_f c) (pv_d c) s u 4
    · exact q
    · exact absurd (h1.2.mpr q) z
  · obtain ⟨h1, h2⟩ := h
    have gu := pv_gb c u
    have gv := pv_gb c v
    have nu := pv_nb c u
    have nv := pv_nb c v
    have fv := pv_fb c v
    have du := pv_db c u
    have X : ∀ m', pv_fl (pv_f c) (pv_d c) s u ini (v + 1) m' → wL_sound_83 post J2 (wL_sound_42 post J2 c (nI s) (nI u) (nI (pv_p c u)) n) c (nI s) (nI u) (nI (pv_p c u)) (nI m') (nI v) (nI (pv_p c v)) := by
      intro m' hm'
      have go : (s.testBit u = true → ¬ pv_cf (pv_n c) (pv_g c) s u v) → wL_sound_112 post J2 (wL_sound_42 post J2 c (nI s) (nI u) (nI (pv_p c u)) n) c (nI s) (nI u) (nI (pv_p c u)) (nI m') (nI v) (nI (pv_p c v)) :=
        fun q => br_t rfl (nm_r (nI_1 v) (hw m' ⟨hm', fun t => lt_s (h2 t) (q t)⟩))
      refine pk_eq u v (fun e => go (fun _ t => t.2.2.1 e)) (fun ne => pv_brb hs (by omega) (fun bu => pv_brb hs (by omega) (fun bv => br_f (by decide +kernel) ?_) (fun bv => go (fun _ t => absurd t.1 (by rw [bv]; decide)))) (fun bu => go (fun t => absurd t (by rw [bu]; decide))))
      rw [pv_e0, pv_e0, pv_e1o]
      refine pk_eq (pv_n c u) (pv_n c v) (fun en => ?_) (fun en => nm_r (nI_1 v) (hw m' ⟨hm', fun t => lt_s (h2 t) (fun q => en q.2.1)⟩))
      by_cases gg : pv_g c u = 0 ∧ pv_g c v = 0
      · rw [if_pos gg]
        exact br_f (by decide +kernel) (nm_r (nI_1 v) (hw m' ⟨hm', fun t => lt_s (h2 t) (fun q => q.2.2.2 gg)⟩))
      · rw [if_neg gg]
        exact br_t rfl (h0 bu (fun t => t.1 v hv ⟨bv, en, ne, gg⟩))
    refine pk_le 4 v (fun z => absurd z (by omega)) (fun _ => pv_part (pv_brb hs (by omega) (fun hb => ?_) (fun hb => X m (pv_fl_no h1 (fun t => absurd t.1 (by rw [hb]; decide))))))
    exact pk_eq (pv_f c v) (pv_d c u) (fun e => X 1 (pv_fl_yes hb e)) (fun e => X m (pv_fl_no h1 (fun t => e t.2))) (pv_e2 c v) (pv_e4 c u)
theorem pv_lsound {post : Int32 → Prop} {c : Int32} {s : Nat} (hs : s < 16) (h1 : pv_SS (pv_n c) (pv_g c) (pv_f c) (pv_d c) (pv_o c) s → post 1) (h0 : ¬ pv_SS (pv_n c) (pv_g c) (pv_f c) (pv_d c) (pv_o c) s → post 0) : wpL_sound post () c (nI s) := by
  refine pk_loop (σ := Unit) (fun n u _ => wL_sound_2 post c (nI s) n (nI u)) (fun u _ => ∀ j, j < u → s.testBit j = true → pv_RR (pv_n c) (pv_g c) j &&& s = 0 ∧ (pv_K (pv_d c) j = 1 → pv_o c j = 0 → ¬ pv_MM (pv_f c) (pv_d c) j &&& s = 0)) 4 0 () (by omega) (fun j hj => absurd hj (by omega))
    (fun n _ h => pk_le 4 4 (fun _ => h1 h) (fun z => absurd z (by omega))) (fun n u _ hu h hw => ?_)
  have du := pv_db c u
  have ou := pv_ob2 c u
  have key : ((∀ v, v < 4 → ¬ pv_cf (pv_n c) (pv_g c) s u v) ∧ ((pv_d c u = 3 ∨ pv_o c u = 1) ∨ pv_mt (pv_f c) (pv_d c) s u 4)) ↔ (pv_RR (pv_n c) (pv_g c) u &&& s = 0 ∧ (pv_K (pv_d c) u = 1 → pv_o c u = 0 → ¬ pv_MM (pv_f c) (pv_d c) u &&& s = 0)) := by
    rw [pv_Rz _ _ u hs, pv_Mz _ _ u hs]
    constructor
    · rintro ⟨q1, q2⟩
      refine ⟨q1, fun k o t => ?_⟩
      have := pv_K1 k
      rcases q2 with (q | q) | q
      · omega
      · omega
      · exact t q
    · rintro ⟨q1, q2⟩
      refine ⟨q1, ?_⟩
      by_cases k : pv_K (pv_d c) u = 1
      · by_cases o : pv_o c u = 0
        · exact Or.inr (Classical.byContradiction (q2 k o))
        · exact Or.inl (Or.inr (by omega))
      · have := (pv_K0 k).2
        exact Or.inl (Or.inl (by omega))
  have go : ∀ m0, pv_fl (pv_f c) (pv_d c) s u (pv_d c u = 3 ∨ pv_o c u = 1) 0 m0 → ∃ n', wL_sound_42 post (wL_sound_2 post c (nI s) n) c (nI s) (nI u) (nI (pv_p c u)) n' (nI m0) 0 := fun m0 hm =>
    pv_l42 hs hu hm (fun q => hw () (lt_s h (fun t => key.mp (q t)))) (fun hb q => h0 (fun t => q (key.mpr (t u hu hb))))
  refine pk_le 4 u (fun z => absurd z (by omega)) (fun _ => pv_part ?_)
  rw [pv_e4, pv_e6]
  exact pk_eq (pv_d c u) 3 (fun z => go 1 (pv_fl_0 (by omega) ⟨fun t => absurd t (by omega), fun t => absurd (Or.inl z) t⟩))
    (fun z => pk_eq (pv_o c u) 1 (fun z2 => go 1 (pv_fl_0 (by omega) ⟨fun t => absurd t (by omega), fun t => absurd (Or.inr z2) t⟩))
      (fun z2 => go 0 (pv_fl_0 (by omega) ⟨fun _ t => t.elim z z2, fun _ => rfl⟩)))
/-! the law's cost -/
def pv_ne (Nm : Nat → Nat) (u : Nat) : Nat → Nat
  | 0 => 0
  | v + 1 => if Nm u = Nm v then v + 1 else pv_ne Nm u v
theorem pv_neG (Nm : Nat → Nat) (u : Nat) : ∀ v, pv_ne Nm u v ≤ v ∧ pv_G Nm u v = pv_ne Nm u v - 1 - u := by
  intro v
  induction v with
  | zero => exact ⟨Nat.le_refl 0, by show 0 = 0 - 1 - u; omega⟩
  | succ v ih =>
    obtain ⟨h1, h2⟩ := ih
    unfold pv_ne pv_G
    by_cases e : Nm u = Nm v
    · rw [if_pos e, if_pos e]
      refine ⟨Nat.le_refl _, ?_⟩
      split <;> omega
    · rw [if_neg e, if_neg e]
      exact ⟨by omega, h2⟩
theorem pv_neu (Nm : Nat → Nat) (u : Nat) : ∀ v, u < v → u + 1 ≤ pv_ne Nm u v := by
  intro v
  induction v with
  | zero => intro h; exact absurd h (by omega)
  | succ v ih =>
    intro h
    unfold pv_ne
    by_cases e : Nm u = Nm v
    · rw [if_pos e]
      omega
    · rw [if_neg e]
      refine ih (Nat.lt_of_le_of_ne (by omega) (fun t => e (by rw [t])))
theorem pv_nel : ∀ ne, ne < 5 → ∀ u, u < 4 → u + 1 ≤ ne → (((5 : Int32) + nI ne) - nI u) - 1 = nI (5 + (ne - 1 - u)) := by decide +kernel
theorem pv_l49 {post : Int32 → Prop} {J4 : Int32 → Int32 → Prop} {c : Int32} {s u x m0 : Nat} {ini : Prop} (hs : s < 16) (hu : u < 4) (hm : pv_fl (pv_f c) (pv_d c) s u ini 0 m0)
    (hi : ¬ (ini ∨ pv_mt (pv_f c) (pv_d c) s u 4) ↔ (pv_K (pv_d c) u = 1 ∧ pv_o c u = 1 ∧ pv_MM (pv_f c) (pv_d c) u &&& (15 ^^^ (15 ^^^ s)) = 0))
    (hJ : J4 (nI (x + (if s.testBit u = true then 5 + (pv_GG (pv_n c) u + (if pv_K (pv_d c) u = 1 ∧ pv_o c u = 1 ∧ pv_MM (pv_f c) (pv_d c) u &&& (15 ^^^ (15 ^^^ s)) = 0 then 2 else 0)) else 0))) (nI (u + 1))) :
    ∃ n, wL_cost_49 post J4 c (nI s) (nI x) (nI u) (nI (pv_p c u)) n 0 (nI m0) 0 := by
  refine pk_loop (fun n v m => wL_cost_49 post J4 c (nI s) (nI x) (nI u) (nI (pv_p c u)) n (nI (pv_ne (pv_n c) u v)) (nI m) (nI v)) (fun v m => pv_fl (pv_f c) (pv_d c) s u ini v m) 4 0 m0 (by omega) hm
    (fun n m h => ?_) (fun n v m hv h hw => ?_)
  · have hm2 := h.1
    have g1 := pv_neG (pv_n c) u 4
    have g2 := pv_neu (pv_n c) u 4 hu
    have ea := pv_nel (pv_ne (pv_n c) u 4) (by omega) u hu g2
    refine pk_le 4 4 (fun _ => pv_brb hs (by omega) (fun hb => ?_) (fun hb => nm_r (nI_1 u) ?_)) (fun z => absurd z (by omega))
    · rw [if_pos hb] at hJ
      rw [ea]
      refine pk_eq m 0 (fun z => ?_) (fun z => ?_)
      · rw [if_pos (hi.mp (h.2.mp z))] at hJ
        refine nm_r (e' := nI (x + (5 + (pv_GG (pv_n c) u + 2)))) ?_ (nm_r (nI_1 u) hJ)
        show nI x + (nI (5 + (pv_ne (pv_n c) u 4 - 1 - u)) + nI 2) = _
        rw [nI_add, nI_add]
        congr 1
        show x + (5 + (pv_ne (pv_n c) u 4 - 1 - u) + 2) = x + (5 + (pv_G (pv_n c) u 4 + 2))
        omega
      · rw [if_neg (fun t => z (h.2.mpr (hi.mpr t)))] at hJ
        refine nm_r (e' := nI (x + (5 + (pv_GG (pv_n c) u + 0)))) ?_ (nm_r (nI_1 u) hJ)
        show nI x + (nI (5 + (pv_ne (pv_n c) u 4 - 1 - u)) + nI 0) = _
        rw [nI_add, nI_add]
        congr 1
        show x + (5 + (pv_ne (pv_n c) u 4 - 1 - u) + 0) = x + (5 + (pv_G (pv_n c) u 4 + 0))
        omega
    · rw [if_neg (by rw [hb]; decide)] at hJ
      exact hJ
  · have nu := pv_nb c u
    have nv := pv_nb c v
    have fv := pv_fb c v
    have du := pv_db c u
    have X : ∀ ne, ne = pv_ne (pv_n c) u (v + 1) → wL_cost_80 post J4 (wL_cost_49 post J4 c (nI s) (nI x) (nI u) (nI (pv_p c u)) n) c (nI s) (nI x) (nI u) (nI (pv_p c u)) (nI ne) (nI m) (nI v) (nI (pv_p c v)) := by
      intro ne e
      subst e
      refine pv_brb hs (by omega) (fun hb => ?_) (fun hb => nm_r (nI_1 v) (hw m (pv_fl_no h (fun t => absurd t.1 (by rw [hb]; decide)))))
      exact pk_eq (pv_f c v) (pv_d c u) (fun e => nm_r (nI_1 v) (hw 1 (pv_fl_yes hb e))) (fun e => nm_r (nI_1 v) (hw m (pv_fl_no h (fun t => e t.2)))) (pv_e2 c v) (pv_e4 c u)
    refine pk_le 4 v (fun z => absurd z (by omega)) (fun _ => pv_part ?_)
    refine pk_eq (pv_n c u) (pv_n c v) (fun e => nm_r (nI_1 v) (X (v + 1) ?_)) (fun e => X (pv_ne (pv_n c) u v) ?_) (pv_e0 c u) (pv_e0 c v)
    · unfold pv_ne
      rw [if_pos e]
    · show _ = if pv_n c u = pv_n c v then v + 1 else pv_ne (pv_n c) u v
      rw [if_neg e]
theorem pv_lcost {post : Int32 → Prop} {c : Int32} {s : Nat} (hs : s < 16) (hp : post (nI (pv_CC (pv_n c) (pv_f c) (pv_d c) (pv_o c) s))) : wpL_cost post () c (nI s) := by
  refine pk_loop (fun n u x => wL_cost_4 post c (nI s) n (nI x) (nI u)) (fun u x => x = 5 * pv_os s u + pv_ct (pv_K (pv_d c)) (pv_o c) (pv_MM (pv_f c) (pv_d c)) (pv_GG (pv_n c)) s (15 ^^^ s) u) 4 0 0 (by omega) rfl
    (fun n x h => pk_le 4 4 (fun _ => by rw [h]; exact hp) (fun z => absurd z (by omega))) (fun n u x hu h hw => ?_)
  have du := pv_db c u
  have ou := pv_ob2 c u
  have key : ¬ ((pv_d c u = 3 ∨ pv_o c u = 0) ∨ pv_mt (pv_f c) (pv_d c) s u 4) ↔ (pv_K (pv_d c) u = 1 ∧ pv_o c u = 1 ∧ pv_MM (pv_f c) (pv_d c) u &&& (15 ^^^ (15 ^^^ s)) = 0) := by
    rw [pv_xx s hs, pv_Mz _ _ u hs]
    constructor
    · intro q
      refine ⟨?_, ?_, fun t => q (Or.inr t)⟩
      · by_cases k : pv_K (pv_d c) u = 1
        · exact k
        · have := (pv_K0 k).2
          exact absurd (Or.inl (Or.inl (by omega))) q
      · by_cases o : pv_o c u = 0
        · exact absurd (Or.inl (Or.inr o)) q
        · omega
    · rintro ⟨k, o, q⟩ t
      have := pv_K1 k
      rcases t with (t | t) | t
      · omega
      · omega
      · exact q t
  have go : ∀ m0, pv_fl (pv_f c) (pv_d c) s u (pv_d c u = 3 ∨ pv_o c u = 0) 0 m0 → ∃ n', wL_cost_49 post (wL_cost_4 post c (nI s) n) c (nI s) (nI x) (nI u) (nI (pv_p c u)) n' 0 (nI m0) 0 := by
    intro m0 hm
    refine pv_l49 hs hu hm key (hw _ ?_)
    rw [h]
    show _ = 5 * (pv_os s u + (if s.testBit u = true then 1 else 0)) + (pv_ct (pv_K (pv_d c)) (pv_o c) (pv_MM (pv_f c) (pv_d c)) (pv_GG (pv_n c)) s (15 ^^^ s) u + (if s.testBit u = true then pv_GG (pv_n c) u + (if pv_K (pv_d c) u = 1 ∧ pv_o c u = 1 ∧ pv_MM (pv_f c) (pv_d c) u &&& (15 ^^^ (15 ^^^ s)) = 0 then 2 else 0) else 0))
    by_cases hb : s.testBit u = true
    · rw [if_pos hb, if_pos hb, if_pos hb]
      omega
    · rw [if_neg hb, if_neg hb, if_neg hb]
      omega
  refine pk_le 4 u (fun z => absurd z (by omega)) (fun _ => pv_part ?_)
  rw [pv_e4, pv_e6]
  exact pk_eq (pv_d c u) 3 (fun z => go 1 (pv_fl_0 (by omega) ⟨fun t => absurd t (by omega), fun t => absurd (Or.inl z) t⟩))
    (fun z => pk_eq (pv_o c u) 0 (fun z2 => go 1 (pv_fl_0 (by omega) ⟨fun t => absurd t (by omega), fun t => absurd (Or.inr z2) t⟩))
      (fun z2 => go 0 (pv_fl_0 (by omega) ⟨fun _ t => t.elim z z2, fun _ => rfl⟩)))
end
section
section
variable {nt st fi fo bc bs : Int32} {a1 a2 a3 a4 a5 a6 a7 a8 a9 a10 a11 a12 a13 a14 a15 a16 a17 a18 a19 : Nat → Int32}
theorem pv_unit {post : Int32 → St2 → Prop} {u nm sg : Nat} (hu : u < 4) (hn : nm < 2) (hg : sg < 2) (hv : ∀ j, j < u → a2 j = nI (j + 1))
    (hp : post (nI u) (nI (u + 1), 0, 0, nt, st, fi, fo, bc, bs, upd a1 u (nI nm), upd a2 u (nI (u + 1)), upd a3 u (nI sg), upd a4 u 0, upd a5 u 0, a6, a7, a8, a9, a10, a11, a12, a13, a14, a15, a16, a17, a18, a19)) :
    wpX_unit post (nI u, 0, 0, nt, st, fi, fo, bc, bs, a1, a2, a3, a4, a5, a6, a7, a8, a9, a10, a11, a12, a13, a14, a15, a16, a17, a18, a19) (nI nm) (nI (u + 1)) (nI sg) := by
  have eu : (nI u).toNatClampNeg = u := nI_clamp (by omega)
  have U : ∀ z : Int32, vp_nar .boolean z = nI sg → wX_unit_117 post z (nI u) (nI u) 0 0 nt st fi fo bc bs (upd a1 u (nI nm)) (upd a2 u (nI (u + 1))) a3 a4 a5 a6 a7 a8 a9 a10 a11 a12 a13 a14 a15 a16 a17 a18 a19 := fun z ez =>
    ⟨pk_in u 10 (by omega), nm_r (e' := upd a3 u (nI sg)) (by rw [eu, ez]) ⟨pk_in u 10 (by omega), nm_r (e' := upd a4 u 0) (by rw [eu]) ⟨pk_in u 10 (by omega), nm_r (e' := upd a5 u 0) (by rw [eu]) (nm_r (nI_1 u) (by rw [nI_pred]; exact hp))⟩⟩⟩
  unfold wpX_unit
  dsimp only
  refine br_f (nI_pos (by omega)) (pk_le nm 4 (fun _ => pk_lt (u + 1) 1 (fun z => absurd z (by omega)) (fun _ => pk_le (u + 1) 9 (fun _ => ?_) (fun z => absurd z (by omega)))) (fun z => absurd z (by omega)))
  refine pk_loop (σ := Unit) (fun n i _ => wX_unit_28 post (nI nm) (nI (u + 1)) (nI sg) (nI u) 0 0 nt st fi fo bc bs a1 a2 a3 a4 a5 a6 a7 a8 a9 a10 a11 a12 a13 a14 a15 a16 a17 a18 a19 n (nI i)) (fun _ _ => True) u 0 () (by omega) trivial (fun n _ _ => ?_) (fun n i _ hi _ hw => ?_)
  · refine pk_le u u (fun _ => pk_eq u 10 (fun z => absurd z (by omega)) (fun _ => ⟨pk_in u 10 (by omega), nm_r (e' := upd a1 u (nI nm)) (by rw [eu]) ⟨pk_in u 10 (by omega), nm_r (e' := upd a2 u (nI (u + 1))) (by rw [eu]) (pk_eq sg 0 (fun z => U 0 (by rw [z]; rfl)) (fun z => U 1 (by rw [show sg = 1 by omega]; rfl)))⟩⟩)) (fun z => absurd z (by omega))
  · refine pk_le u i (fun z => absurd z (by omega)) (fun _ => ⟨pk_in i 10 (by omega), br_c (fun _ => ⟨pk_in i 10 (by omega), ?_⟩) (fun _ => nm_r (nI_1 i) (hw () trivial))⟩)
    rw [nI_clamp (show i < 2 ^ 31 by omega), hv i hi]
    exact pk_eq (i + 1) (u + 1) (fun z => absurd z (by omega)) (fun _ => nm_r (nI_1 i) (hw () trivial))
theorem pv_offer {post : Int32 → St2 → Prop} {u f : Nat} (hu : u < 4) (hf : f < 4) (h4 : a4 u = 0)
    (hp : post 1 (nI (u + 1), 0, 0, nt, st, fi, fo, bc, bs, a1, a2, a3, upd a4 u (nI 1), a5, upd a6 (3 * u) (nI f), upd a7 (3 * u) (nI 4), a8, a9, a10, a11, a12, a13, a14, a15, a16, a17, a18, a19)) :
    wpX_offer post (nI (u + 1), 0, 0, nt, st, fi, fo, bc, bs, a1, a2, a3, a4, a5, a6, a7, a8, a9, a10, a11, a12, a13, a14, a15, a16, a17, a18, a19) (nI u) (nI f) 4 := by
  have eu : (nI u).toNatClampNeg = u := nI_clamp (by omega)
  have e3 : (nI (3 * u)).toNatClampNeg = 3 * u := nI_clamp (by omega)
  unfold wpX_offer
  dsimp only
  refine br_f (nI_pos (by omega)) (pk_le (u + 1) u (fun z => absurd z (by omega)) (fun _ => br_f (by decide +kernel) (br_f (nI_pos (by omega)) (pk_le f 5 (fun _ => br_f (by decide +kernel) (br_t (by decide +kernel) ⟨pk_in u 10 (by omega), ?_⟩)) (fun z => absurd z (by omega))))))
  rw [eu, h4]
  refine br_f (by decide +kernel) ⟨pk_in u 10 (by omega), nm_r (e' := nI (3 * u)) ?_ ⟨pk_in (3 * u) 30 (by omega), nm_r (e' := upd a6 (3 * u) (nI f)) (by rw [e3]) ⟨pk_in (3 * u) 30 (by omega), nm_r (e' := upd a7 (3 * u) (nI 4)) (by rw [e3]; rfl) ⟨pk_in u 10 (by omega), pk_in u 10 (by omega), nm_r (e' := upd a4 u (nI 1)) (by rfl) ⟨pk_in u 10 (by omega), ?_⟩⟩⟩⟩⟩
  · show nI 3 * nI u + nI 0 = _
    rw [pk_mul, nI_add]
    rfl
  · rw [pk_us]
    exact hp
theorem pv_need {post : Int32 → St2 → Prop} {u o d : Nat} (hu : u < 4) (ho : o < 2) (hd : d < 3) (h5 : a5 u = 0)
    (hp : post 1 (nI (u + 1), 0, 0, nt, st, fi, fo, bc, bs, a1, a2, a3, a4, upd a5 u (nI 1), a6, a7, upd a8 (3 * u) (nI (32 * o + d)), upd a9 (3 * u) (nI 2), upd a10 (3 * u) (nI 6), a11, a12, a13, a14, a15, a16, a17, a18, a19)) :
    wpX_need post (nI (u + 1), 0, 0, nt, st, fi, fo, bc, bs, a1, a2, a3, a4, a5, a6, a7, a8, a9, a10, a11, a12, a13, a14, a15, a16, a17, a18, a19) (nI u) (nI (32 * o + d)) 2 6 := by
  have eu : (nI u).toNatClampNeg = u := nI_clamp (by omega)
  have e3 : (nI (3 * u)).toNatClampNeg = 3 * u := nI_clamp (by omega)
  unfold wpX_need
  dsimp only
  refine br_f (nI_pos (by omega)) (pk_le (u + 1) u (fun z => absurd z (by omega)) (fun _ => br_f (by decide +kernel) (br_f (nI_pos (by omega)) (pk_lt 63 (32 * o + d) (fun z => absurd z (by omega)) (fun _ => ?_)))))
  rw [pv_k7 o ho d hd]
  refine pk_le d 5 (fun _ => br_f (by decide +kernel) (br_f (by decide +kernel) (br_t (by decide +kernel) ⟨pk_in u 10 (by omega), ?_⟩))) (fun z => absurd z (by omega))
  rw [eu, h5]
  refine br_f (by decide +kernel) ⟨pk_in u 10 (by omega), nm_r (e' := nI (3 * u)) ?_ ⟨pk_in (3 * u) 30 (by omega), nm_r (e' := upd a8 (3 * u) (nI (32 * o + d))) (by rw [e3]) ⟨pk_in (3 * u) 30 (by omega), nm_r (e' := upd a9 (3 * u) (nI 2)) (by rw [e3]; rfl) ⟨pk_in (3 * u) 30 (by omega), nm_r (e' := upd a10 (3 * u) (nI 6)) (by rw [e3]; rfl) ⟨pk_in u 10 (by omega), pk_in u 10 (by omega), nm_r (e' := upd a5 u (nI 1)) (by rfl) ⟨pk_in u 10 (by omega), ?_⟩⟩⟩⟩⟩⟩
  · show nI 3 * nI u + nI 0 = _
    rw [pk_mul, nI_add]
    rfl
  · rw [pk_us]
    exact hp
end
/-- one more unit laid down -/
theorem pv_Q_add {u : Nat} {Nm Sg F D O : Nat → Nat} {a1 a2 a3 a4 a5 a6 a7 a8 a9 a10 b1 b2 b3 b4 b5 b6 b7 b8 b9 b10 : Nat → Int32} (h : pv_Q u Nm Sg F D O a1 a2 a3 a4 a5 a6 a7 a8 a9 a10)
    (hs : ∀ j, j < u → b1 j = a1 j ∧ b2 j = a2 j ∧ b3 j = a3 j ∧ b4 j = a4 j ∧ b5 j = a5 j ∧ b6 (3 * j) = a6 (3 * j) ∧ b7 (3 * j) = a7 (3 * j) ∧ b8 (3 * j) = a8 (3 * j) ∧ b9 (3 * j) = a9 (3 * j) ∧ b10 (3 * j) = a10 (3 * j))
    (hb : Nm u < 2 ∧ Sg u < 2 ∧ F u < 4 ∧ D u < 4 ∧ O u < 2) (h1 : b1 u = nI (Nm u) ∧ b2 u = nI (u + 1) ∧ b3 u = nI (Sg u) ∧ b4 u = nI 1 ∧ b5 u = nI (pv_K D u)) (h2 : b6 (3 * u) = nI (F u) ∧ b7 (3 * u) = nI 4)
    (h3 : pv_K D u = 1 → b8 (3 * u) = nI (32 * O u + D u) ∧ b9 (3 * u) = nI 2 ∧ b10 (3 * u) = nI 6) : pv_Q (u + 1) Nm Sg F D O b1 b2 b3 b4 b5 b6 b7 b8 b9 b10 := by
  refine lt_s (fun j hj => ?_) ⟨hb, h1, h2, h3⟩
  obtain ⟨s1, s2, s3, s4, s5, s6, s7, s8, s9, s10⟩ := hs j hj
  obtain ⟨q0, ⟨q1, q2, q3, q4, q5⟩, ⟨q6, q7⟩, q8⟩ := h j hj
  exact ⟨q0, ⟨s1.trans q1, s2.trans q2, s3.trans q3, s4.trans q4, s5.trans q5⟩, ⟨s6.trans q6, s7.trans q7⟩, fun k => ⟨s8.trans (q8 k).1, s9.trans (q8 k).2.1, s10.trans (q8 k).2.2⟩⟩
section
variable {nt st fi fo bc bs : Int32} {a11 a12 a13 a14 a15 a16 a17 a18 a19 : Nat → Int32}
theorem pv_l11 {post : Int32 → St0 → Prop} {mc ms kc ks : Nat} {c x1 x2 : Int32} {z1 z2 z3 z4 z5 z6 z7 z8 z9 z10 : Nat → Int32}
    (hp : ∀ n a1 a2 a3 a4 a5 a6 a7 a8 a9 a10, pv_Q 4 (pv_n c) (pv_g c) (pv_f c) (pv_d c) (pv_o c) a1 a2 a3 a4 a5 a6 a7 a8 a9 a10 → wL_lawOf_11 post mc ms c x1 x2 kc ks (n + 1) (nI 4) (nI 4) 0 0 nt st fi fo bc bs a1 a2 a3 a4 a5 a6 a7 a8 a9 a10 a11 a12 a13 a14 a15 a16 a17 a18 a19) :
    ∃ n, wL_lawOf_11 post mc ms c x1 x2 kc ks n 0 0 0 0 nt st fi fo bc bs z1 z2 z3 z4 z5 z6 z7 z8 z9 z10 a11 a12 a13 a14 a15 a16 a17 a18 a19 := by
  have key : ∀ n u, u ≤ 4 → 4 - u < n → ∀ a1 a2 a3 a4 a5 a6 a7 a8 a9 a10, pv_Q u (pv_n c) (pv_g c) (pv_f c) (pv_d c) (pv_o c) a1 a2 a3 a4 a5 a6 a7 a8 a9 a10 → wL_lawOf_11 post mc ms c x1 x2 kc ks n (nI u) (nI u) 0 0 nt st fi fo bc bs a1 a2 a3 a4 a5 a6 a7 a8 a9 a10 a11 a12 a13 a14 a15 a16 a17 a18 a19 := by
    intro n
    induction n with
    | zero =>
      intro u _ h
      exact absurd h (by omega)
    | succ n ih =>
      intro u hu hn a1 a2 a3 a4 a5 a6 a7 a8 a9 a10 hQ
      by_cases e : u = 4
      · subst e
        exact hp n a1 a2 a3 a4 a5 a6 a7 a8 a9 a10 hQ
      · have hu4 : u < 4 := by omega
        have du := pv_db c u
        refine pk_le 4 u (fun z => absurd z (by omega)) (fun _ => pv_part ?_)
        rw [pv_e0, pv_e1, pv_e2, pv_e4, pv_e6, nI_1]
        refine pv_unit hu4 (pv_nb c u) (pv_gb c u) (fun j hj => (hQ j hj).2.1.2.1) (br_t rfl ?_)
        refine pv_offer hu4 (pv_fb c u) pk_us (br_t rfl ?_)
        refine pk_le 3 (pv_d c u) (fun z => nm_e (ih (u + 1) (by omega) (by omega) _ _ _ _ _ _ _ _ _ _ (pv_Q_add hQ (fun j hj => ?_) ⟨pv_nb c u, pv_gb c u, pv_fb c u, pv_db c u, pv_ob2 c u⟩ ⟨pk_us, pk_us, pk_us, pk_us, ?_⟩ ⟨pk_us, pk_us⟩ (fun t => ?_)))) (fun z => ?_)
        · exact ⟨pk_un (by omega), pk_un (by omega), pk_un (by omega), (pk_un (by omega)).trans (pk_un (by omega)), pk_un (by omega), pk_un (by omega), pk_un (by omega), rfl, rfl, rfl⟩
        · rw [pk_us]
          unfold pv_K
          rw [if_neg (by omega)]
          rfl
        · have := pv_K1 t
          exact absurd this (by omega)
        · have eo : 32 * nI (pv_o c u) + nI (pv_d c u) = nI (32 * pv_o c u + pv_d c u) := by
            show nI 32 * nI (pv_o c u) + nI (pv_d c u) = _
            rw [pk_mul, nI_add]
          rw [eo]
          refine pv_need hu4 (pv_ob2 c u) z pk_us (br_t rfl (nm_e (ih (u + 1) (by omega) (by omega) _ _ _ _ _ _ _ _ _ _ (pv_Q_add hQ (fun j hj => ?_) ⟨pv_nb c u, pv_gb c u, pv_fb c u, pv_db c u, pv_ob2 c u⟩ ⟨pk_us, pk_us, pk_us, pk_us, ?_⟩ ⟨pk_us, pk_us⟩ (fun t => ⟨pk_us, pk_us, pk_us⟩)))))
          · exact ⟨pk_un (by omega), pk_un (by omega), pk_un (by omega), (pk_un (by omega)).trans (pk_un (by omega)), (pk_un (by omega)).trans (pk_un (by omega)), pk_un (by omega), pk_un (by omega), pk_un (by omega), pk_un (by omega), pk_un (by omega)⟩
          · rw [pk_us]
            unfold pv_K
            rw [if_pos z]
  exact ⟨5, key 5 0 (by omega) (by omega) z1 z2 z3 z4 z5 z6 z7 z8 z9 z10 (fun u hu => absurd hu (by omega))⟩
end
end
section
/-! the law's walk over all the sets -/
def pv_LA (cs : Nat → Nat) (Sd : Nat → Prop) (w b n : Nat) (B : Option Nat) : Prop := (∀ s, B = some s → s < n ∧ Sd s ∧ pv_C w b s) ∧ (∀ S, S < n → Sd S → pv_C w b S → pv_Dm cs B S)
def pv_LE (Sd : Nat → Prop) (w b n e : Nat) : Prop := e ≤ 9 ∧ (∀ S, S < n → Sd S → e ≤ pv_gv w b S) ∧ (e = 9 ∨ ∃ S, S < n ∧ Sd S ∧ e = pv_gv w b S)
theorem pv_LA_no {cs : Nat → Nat} {Sd : Nat → Prop} {w b n : Nat} {B : Option Nat} (h : pv_LA cs Sd w b n B) (hn : Sd n → pv_C w b n → pv_Dm cs B n) : pv_LA cs Sd w b (n + 1) B :=
  ⟨fun s e => ⟨by have := (h.1 s e).1; omega, (h.1 s e).2⟩, lt_s h.2 hn⟩
theorem pv_LA_yes {cs : Nat → Nat} {Sd : Nat → Prop} {w b n : Nat} {B : Option Nat} (h : pv_LA cs Sd w b n B) (h1 : Sd n) (h2 : pv_C w b n) (hb : ∀ s, B = some s → cs n < cs s) : pv_LA cs Sd w b (n + 1) (some n) := by
  refine ⟨fun s e => ?_, lt_s (fun S hS q1 q2 => ?_) (fun _ _ => pv_of0)⟩
  · have e2 : n = s := Option.some.inj e
    subst e2
    exact ⟨by omega, h1, h2⟩
  · obtain ⟨s, e, q⟩ := h.2 S hS q1 q2
    have := hb s e
    exact ⟨n, rfl, by omega⟩
theorem pv_LE_no {Sd : Nat → Prop} {w b n e : Nat} (h : pv_LE Sd w b n e) (hn : Sd n → e ≤ pv_gv w b n) : pv_LE Sd w b (n + 1) e := by
  refine ⟨h.1, lt_s h.2.1 hn, ?_⟩
  rcases h.2.2 with q | ⟨S, q1, q2⟩
  · exact Or.inl q
  · exact Or.inr ⟨S, by omega, q2⟩
theorem pv_LE_yes {Sd : Nat → Prop} {w b n e : Nat} (h : pv_LE Sd w b n e) (h1 : Sd n) (hb : pv_gv w b n < e) : pv_LE Sd w b (n + 1) (pv_gv w b n) :=
  ⟨by have := h.1; omega, lt_s (fun S hS q => by have := h.2.1 S hS q; omega) (fun _ => Nat.le_refl _), Or.inr ⟨n, by omega, h1, rfl⟩⟩
section
variable {nt st fi fo bc bs : Int32} {a1 a2 a3 a4 a5 a6 a7 a8 a9 a10 a11 a12 a13 a14 a15 a16 a17 a18 a19 : Nat → Int32}
theorem pv_given {post : Int32 → St0 → Prop} {mc ms kc ks : Nat} {J142 J151 : Int32 → Int32 → Int32 → Int32 → Int32 → Int32 → Int32 → Int32 → Int32 → Int32 → Int32 → Int32 → Int32 → (Nat → Int32) → (Nat → Int32) → (Nat → Int32) → (Nat → Int32) → (Nat → Int32) → (Nat → Int32) → (Nat → Int32) → (Nat → Int32) → (Nat → Int32) → (Nat → Int32) → (Nat → Int32) → (Nat → Int32) → (Nat → Int32) → (Nat → Int32) → (Nat → Int32) → (Nat → Int32) → (Nat → Int32) → (Nat → Int32) → (Nat → Int32) → Prop} {x0 x6 x7 x9 x12 : Int32} {w b s e j : Nat} (hw : w < 16) (hb : b < 16) (hs : s < 16) (he : e ≤ 9)
    (h0 : x12 = 0 → J151 x6 x7 (nI e) (nI (j + 1)) (nI 4) 0 0 nt st fi fo bc bs a1 a2 a3 a4 a5 a6 a7 a8 a9 a10 a11 a12 a13 a14 a15 a16 a17 a18 a19) (h1 : ¬ x12 = 0 → e ≤ pv_gv w b s → J151 x6 x7 (nI e) (nI (j + 1)) (nI 4) 0 0 nt st fi fo bc bs a1 a2 a3 a4 a5 a6 a7 a8 a9 a10 a11 a12 a13 a14 a15 a16 a17 a18 a19) (h2 : ¬ x12 = 0 → pv_gv w b s < e → J151 x6 x7 (nI (pv_gv w b s)) (nI (j + 1)) (nI 4) 0 0 nt st fi fo bc bs a1 a2 a3 a4 a5 a6 a7 a8 a9 a10 a11 a12 a13 a14 a15 a16 a17 a18 a19) :
    ∃ n, wL_lawOf_277 post mc ms J142 J151 x0 (nI w) (nI b) x6 x7 (nI e) x9 (nI j) (nI s) x12 kc ks (nI 4) 0 0 nt st fi fo bc bs a1 a2 a3 a4 a5 a6 a7 a8 a9 a10 a11 a12 a13 a14 a15 a16 a17 a18 a19 n 0 0 := by
  have hws := pv_al (15 ^^^ s) hw
  have hbs := pv_al s hb
  have gb := pv_gvb hw hb s
  refine pk_loop (fun n v g => wL_lawOf_277 post mc ms J142 J151 x0 (nI w) (nI b) x6 x7 (nI e) x9 (nI j) (nI s) x12 kc ks (nI 4) 0 0 nt st fi fo bc bs a1 a2 a3 a4 a5 a6 a7 a8 a9 a10 a11 a12 a13 a14 a15 a16 a17 a18 a19 n (nI g) (nI v)) (fun v g => g = pv_os (w &&& (15 ^^^ s)) v) 4 0 0 (by omega) rfl
    (fun n g h => pk_le 4 4 (fun _ => ?_) (fun z => absurd z (by omega))) (fun n v g hv h hW => pk_le 4 v (fun z => absurd z (by omega)) (fun _ => nm_r (e' := nI (pv_os (w &&& (15 ^^^ s)) (v + 1))) ?_ (nm_r (nI_1 v) (hW _ rfl))))
  · refine pk_loop (fun n v g => wL_lawOf_309 post mc ms J142 J151 x0 (nI w) (nI b) x6 x7 (nI e) x9 (nI j) (nI s) x12 kc ks (nI 4) 0 0 nt st fi fo bc bs a1 a2 a3 a4 a5 a6 a7 a8 a9 a10 a11 a12 a13 a14 a15 a16 a17 a18 a19 n (nI g) (nI v)) (fun v g => g = pv_os (w &&& (15 ^^^ s)) 4 + pv_os (b &&& s) v) 4 0 g (by omega) h
      (fun n g h => ?_) (fun n v g hv h hW => pk_le 4 v (fun z => absurd z (by omega)) (fun _ => nm_r (e' := nI (pv_os (w &&& (15 ^^^ s)) 4 + pv_os (b &&& s) (v + 1))) ?_ (nm_r (nI_1 v) (hW _ rfl))))
    · have hg : g = pv_gv w b s := h
      subst hg
      exact pk_le 4 4 (fun _ => br_c (fun z => nm_r (nI_1 j) (h0 z)) (fun z => pk_le e (pv_gv w b s) (fun q => nm_r (nI_1 j) (h1 z q)) (fun q => nm_r (nI_1 j) (h2 z q)))) (fun z => absurd z (by omega))
    · rw [pv_and, pv_bit _ hbs v (by omega), nI_add, h, Nat.add_assoc]
      rfl
  · rw [pv_nand w hw s hs, pv_bit _ hws v (by omega), nI_add, h]
    rfl
theorem pv_244 {post : Int32 → St0 → Prop} {mc ms kc ks : Nat} {J142 J151 : Int32 → Int32 → Int32 → Int32 → Int32 → Int32 → Int32 → Int32 → Int32 → Int32 → Int32 → Int32 → Int32 → (Nat → Int32) → (Nat → Int32) → (Nat → Int32) → (Nat → Int32) → (Nat → Int32) → (Nat → Int32) → (Nat → Int32) → (Nat → Int32) → (Nat → Int32) → (Nat → Int32) → (Nat → Int32) → (Nat → Int32) → (Nat → Int32) → (Nat → Int32) → (Nat → Int32) → (Nat → Int32) → (Nat → Int32) → (Nat → Int32) → (Nat → Int32) → Prop} {x0 x9 x12 z0 : Int32} {w b s e j : Nat} {cs : Nat → Nat} {Sd : Nat → Prop} {B : Option Nat} (hw : w < 16) (hb : b < 16) (hs : s < 16)
    (hcs : ∀ S, S < 16 → cs S ≤ 40) (hA : pv_LA cs Sd w b s B) (hE : pv_LE Sd w b s e) (hx : x12 = 0 ↔ ¬ Sd s) (hz : ¬ z0 = 0 ↔ (Sd s ∧ pv_C w b s))
    (hJ : ∀ B' e', pv_LA cs Sd w b (s + 1) B' → pv_LE Sd w b (s + 1) e' → J151 (pv_pl B') (pv_pc cs B') (nI e') (nI (j + 1)) (nI 4) 0 0 nt st fi fo bc bs a1 a2 a3 a4 a5 a6 a7 a8 a9 a10 a11 a12 a13 a14 a15 a16 a17 a18 a19) :
    wL_lawOf_244 post mc ms J142 J151 x0 (nI w) (nI b) (pv_pl B) (pv_pc cs B) (nI e) x9 (nI j) (nI s) x12 (nI (cs s)) z0 kc ks (nI 4) 0 0 nt st fi fo bc bs a1 a2 a3 a4 a5 a6 a7 a8 a9 a10 a11 a12 a13 a14 a15 a16 a17 a18 a19 := by
  have go : ∀ B', pv_LA cs Sd w b (s + 1) B' → ∃ n, wL_lawOf_277 post mc ms J142 J151 x0 (nI w) (nI b) (pv_pl B') (pv_pc cs B') (nI e) x9 (nI j) (nI s) x12 kc ks (nI 4) 0 0 nt st fi fo bc bs a1 a2 a3 a4 a5 a6 a7 a8 a9 a10 a11 a12 a13 a14 a15 a16 a17 a18 a19 n 0 0 := fun B' hB =>
    pv_given hw hb hs hE.1 (fun z => hJ B' e hB (pv_LE_no hE (fun t => absurd t (hx.mp z)))) (fun z q => hJ B' e hB (pv_LE_no hE (fun _ => q))) (fun z q => hJ B' _ hB (pv_LE_yes hE (Classical.byContradiction (fun t => z (hx.mpr t))) q))
  have c1 := hcs s hs
  refine br_c (fun z => go B (pv_LA_no hA (fun q1 q2 => absurd z (hz.mpr ⟨q1, q2⟩)))) (fun z => ?_)
  obtain ⟨f1, f2⟩ := hz.mp z
  cases B with
  | none => exact br_t (by decide +kernel) (go (some s) (pv_LA_yes hA f1 f2 (fun t q => absurd q.symm (Option.some_ne_none t))))
  | some t =>
    have ht := (hA.1 t rfl).1
    have c2 := hcs t (by omega)
    refine br_f (nI_pos (by omega)) (pk_le (cs t) (cs s) (fun q => go (some t) (pv_LA_no hA (fun _ _ => ⟨t, rfl, by omega⟩))) (fun q => go (some s) (pv_LA_yes hA f1 f2 (fun t' q' => ?_))))
    have e2 : t = t' := Option.some.inj q'
    subst e2
    exact q
end
end
section
abbrev pv_CX (c : Int32) : Nat → Nat := pv_CC (pv_n c) (pv_f c) (pv_d c) (pv_o c)
abbrev pv_SX (c : Int32) : Nat → Prop := pv_SS (pv_n c) (pv_g c) (pv_f c) (pv_d c) (pv_o c)
abbrev pv_QX (c : Int32) (a1 a2 a3 a4 a5 a6 a7 a8 a9 a10 : Nat → Int32) : Prop := pv_Q 4 (pv_n c) (pv_g c) (pv_f c) (pv_d c) (pv_o c) a1 a2 a3 a4 a5 a6 a7 a8 a9 a10
theorem pv_CXb (c : Int32) (S : Nat) (hS : S < 16) : pv_CX c S ≤ 40 := pv_cob (fun u _ => pv_Gl (pv_n c) u 4 (by omega)) hS (15 ^^^ S)
section
variable {nt st fi fo bc bs : Int32} {a1 a2 a3 a4 a5 a6 a7 a8 a9 a10 a11 a12 a13 a14 a15 a16 a17 a18 a19 : Nat → Int32}
theorem pv_200 {post : Int32 → St0 → Prop} {mc ms kc ks : Nat} {J142 J151 : Int32 → Int32 → Int32 → Int32 → Int32 → Int32 → Int32 → Int32 → Int32 → Int32 → Int32 → Int32 → Int32 → (Nat → Int32) → (Nat → Int32) → (Nat → Int32) → (Nat → Int32) → (Nat → Int32) → (Nat → Int32) → (Nat → Int32) → (Nat → Int32) → (Nat → Int32) → (Nat → Int32) → (Nat → Int32) → (Nat → Int32) → (Nat → Int32) → (Nat → Int32) → (Nat → Int32) → (Nat → Int32) → (Nat → Int32) → (Nat → Int32) → (Nat → Int32) → Prop} {c x9 x12 z0 z1 : Int32} {w b s e j : Nat} {B : Option Nat} (hQ : pv_QX c a1 a2 a3 a4 a5 a6 a7 a8 a9 a10) (hw : w < 16) (hb : b < 16) (hs : s < 16)
    (hA : pv_LA (pv_CX c) (pv_SX c) w b s B) (hE : pv_LE (pv_SX c) w b s e) (hx : x12 = 0 ↔ ¬ pv_SX c s) (hz : z1 = z0)
    (hJ : ∀ B' e' a11 a12 a13, pv_LA (pv_CX c) (pv_SX c) w b (s + 1) B' → pv_LE (pv_SX c) w b (s + 1) e' → J151 (pv_pl B') (pv_pc (pv_CX c) B') (nI e') (nI (j + 1)) (nI 4) 0 0 nt st fi fo bc bs a1 a2 a3 a4 a5 a6 a7 a8 a9 a10 a11 a12 a13 a14 a15 a16 a17 a18 a19) :
    wL_lawOf_200 post mc ms J142 J151 c (nI w) (nI b) (pv_pl B) (pv_pc (pv_CX c) B) (nI e) x9 (nI j) (nI s) x12 (nI (pv_CX c s)) z0 z1 kc ks (nI 4) 0 0 nt st fi fo bc bs a1 a2 a3 a4 a5 a6 a7 a8 a9 a10 a11 a12 a13 a14 a15 a16 a17 a18 a19 := by
  refine br_t hz ?_
  refine pv_xcost hQ hs (fun b11 b12 b13 => ?_)
  have no : ¬ (pv_SX c s ∧ pv_C w b s) → wL_lawOf_243 post mc ms J142 J151 c (nI w) (nI b) (pv_pl B) (pv_pc (pv_CX c) B) (nI e) x9 (nI j) (nI s) x12 (nI (pv_CX c s)) kc ks (nI 4) 0 0 nt st fi fo bc bs a1 a2 a3 a4 a5 a6 a7 a8 a9 a10 b11 b12 b13 a14 a15 a16 a17 a18 a19 := fun q =>
    pv_244 (z0 := 0) hw hb hs (pv_CXb c) hA hE hx ⟨fun t => absurd rfl t, fun t => absurd t q⟩ (fun B' e' q1 q2 => hJ B' e' b11 b12 b13 q1 q2)
  have yes : pv_SX c s ∧ pv_C w b s → wL_lawOf_244 post mc ms J142 J151 c (nI w) (nI b) (pv_pl B) (pv_pc (pv_CX c) B) (nI e) x9 (nI j) (nI s) x12 (nI (pv_CX c s)) 1 kc ks (nI 4) 0 0 nt st fi fo bc bs a1 a2 a3 a4 a5 a6 a7 a8 a9 a10 b11 b12 b13 a14 a15 a16 a17 a18 a19 := fun q =>
    pv_244 (z0 := 1) hw hb hs (pv_CXb c) hA hE hx ⟨fun _ => q, fun _ => by decide +kernel⟩ (fun B' e' q1 q2 => hJ B' e' b11 b12 b13 q1 q2)
  refine br_t rfl (br_c (fun z => no (fun t => hx.mp z t.1)) (fun z => ?_))
  rw [pv_and, pv_and]
  have l1 := pv_al w hs
  have l2 := pv_al b hs
  have hS : pv_SX c s := Classical.byContradiction (fun t => z (hx.mpr t))
  refine pk_eq (s &&& w) w (fun q1 => pk_eq (s &&& b) 0 (fun q2 => yes ⟨hS, ?_, ?_⟩) (fun q2 => no (fun t => q2 ?_))) (fun q1 => no (fun t => q1 ?_))
  · rw [Nat.and_comm]; exact q1
  · rw [Nat.and_comm]; exact q2
  · rw [Nat.and_comm]; exact t.2.2
  · rw [Nat.and_comm]; exact t.2.1
theorem pv_151 {post : Int32 → St0 → Prop} {mc ms kc ks : Nat} {J142 : Int32 → Int32 → Int32 → Int32 → Int32 → Int32 → Int32 → Int32 → Int32 → Int32 → Int32 → Int32 → Int32 → (Nat → Int32) → (Nat → Int32) → (Nat → Int32) → (Nat → Int32) → (Nat → Int32) → (Nat → Int32) → (Nat → Int32) → (Nat → Int32) → (Nat → Int32) → (Nat → Int32) → (Nat → Int32) → (Nat → Int32) → (Nat → Int32) → (Nat → Int32) → (Nat → Int32) → (Nat → Int32) → (Nat → Int32) → (Nat → Int32) → (Nat → Int32) → Prop} {c : Int32} {w b i e : Nat} {B : Option Nat} (hQ : pv_QX c a1 a2 a3 a4 a5 a6 a7 a8 a9 a10) (hw : w < 16) (hb : b < 16) (hi : i < 2)
    (hA : pv_LA (pv_CX c) (pv_SX c) w b (8 * i) B) (hE : pv_LE (pv_SX c) w b (8 * i) e)
    (hJ : ∀ B' e' a11 a12 a13, pv_LA (pv_CX c) (pv_SX c) w b (8 * (i + 1)) B' → pv_LE (pv_SX c) w b (8 * (i + 1)) e' → J142 (pv_pl B') (pv_pc (pv_CX c) B') (nI e') (nI (i + 1)) (nI 4) 0 0 nt st fi fo bc bs a1 a2 a3 a4 a5 a6 a7 a8 a9 a10 a11 a12 a13 a14 a15 a16 a17 a18 a19) :
    ∃ n, wL_lawOf_151 post mc ms J142 c (nI w) (nI b) (nI i) kc ks n (pv_pl B) (pv_pc (pv_CX c) B) (nI e) 0 (nI 4) 0 0 nt st fi fo bc bs a1 a2 a3 a4 a5 a6 a7 a8 a9 a10 a11 a12 a13 a14 a15 a16 a17 a18 a19 := by
  refine pk_loop (σ := Option Nat × Nat × (Nat → Int32) × (Nat → Int32) × (Nat → Int32)) (fun n j s => wL_lawOf_151 post mc ms J142 c (nI w) (nI b) (nI i) kc ks n (pv_pl s.1) (pv_pc (pv_CX c) s.1) (nI s.2.1) (nI j) (nI 4) 0 0 nt st fi fo bc bs a1 a2 a3 a4 a5 a6 a7 a8 a9 a10 (s.2.2.1) (s.2.2.2.1) (s.2.2.2.2) a14 a15 a16 a17 a18 a19)
    (fun j s => pv_LA (pv_CX c) (pv_SX c) w b (8 * i + j) s.1 ∧ pv_LE (pv_SX c) w b (8 * i + j) s.2.1) 8 0 (B, e, a11, a12, a13) (by omega) ⟨hA, hE⟩
    (fun n s h => pk_le 8 8 (fun _ => nm_r (nI_1 i) (hJ _ _ _ _ _ h.1 h.2)) (fun z => absurd z (by omega))) (fun n j s hj h hW => ?_)
  obtain ⟨B1, e1, b11, b12, b13⟩ := s
  have hA1 : pv_LA (pv_CX c) (pv_SX c) w b (8 * i + j) B1 := h.1
  have hE1 : pv_LE (pv_SX c) w b (8 * i + j) e1 := h.2
  have hW1 : ∀ B' e' a11 a12 a13, pv_LA (pv_CX c) (pv_SX c) w b (8 * i + j + 1) B' → pv_LE (pv_SX c) w b (8 * i + j + 1) e' → wL_lawOf_151 post mc ms J142 c (nI w) (nI b) (nI i) kc ks n (pv_pl B') (pv_pc (pv_CX c) B') (nI e') (nI (j + 1)) (nI 4) 0 0 nt st fi fo bc bs a1 a2 a3 a4 a5 a6 a7 a8 a9 a10 a11 a12 a13 a14 a15 a16 a17 a18 a19 := fun B' e' a11 a12 a13 q1 q2 => hW (B', e', a11, a12, a13) ⟨q1, q2⟩
  show wL_lawOf_151 post mc ms J142 c (nI w) (nI b) (nI i) kc ks (n + 1) (pv_pl B1) (pv_pc (pv_CX c) B1) (nI e1) (nI j) (nI 4) 0 0 nt st fi fo bc bs a1 a2 a3 a4 a5 a6 a7 a8 a9 a10 b11 b12 b13 a14 a15 a16 a17 a18 a19
  have hs : 8 * i + j < 16 := by omega
  have ee : 8 * nI i + nI j = nI (8 * i + j) := by
    show nI 8 * nI i + nI j = _
    rw [pk_mul, nI_add]
  refine pk_le 8 j (fun z => absurd z (by omega)) (fun _ => nm_r ee ?_)
  refine pv_lsound hs (fun hS => pv_lcost hs ?_) (fun hN => pv_lcost hs ?_)
  · exact pv_xsound hQ hs (fun _ c11 c12 c13 => br_f (by decide +kernel) (pv_200 hQ hw hb hs hA1 hE1 ⟨fun t => absurd t (by decide +kernel), fun t => absurd hS t⟩ rfl hW1)) (fun hN => absurd hS hN)
  · exact pv_xsound hQ hs (fun hS => absurd hS hN) (fun _ c11 c12 c13 => br_t rfl (pv_200 hQ hw hb hs hA1 hE1 ⟨fun _ => hN, fun _ => rfl⟩ rfl hW1))
theorem pv_end {post : Int32 → St0 → Prop} {mc ms kc ks n : Nat} {c : Int32} {w b e : Nat} {B : Option Nat} (hQ : pv_QX c a1 a2 a3 a4 a5 a6 a7 a8 a9 a10) (hw : w < 16) (hb : b < 16)
    (hA : pv_LA (pv_CX c) (pv_SX c) w b 16 B) (hE : pv_LE (pv_SX c) w b 16 e) (hp : post 1 ()) :
    wL_lawOf_142 post mc ms c (nI w) (nI b) kc ks (n + 1) (pv_pl B) (pv_pc (pv_CX c) B) (nI e) (nI 2) (nI 4) 0 0 nt st fi fo bc bs a1 a2 a3 a4 a5 a6 a7 a8 a9 a10 a11 a12 a13 a14 a15 a16 a17 a18 a19 := by
  have hR : pv_RE (pv_n c) (pv_g c) (pv_f c) (pv_d c) (pv_o c) w b B := ⟨hA.1, hA.2⟩
  have hX : pv_Ex (pv_SX c) w b e := by
    refine ⟨hE.2.1, ?_⟩
    rcases hE.2.2 with q | q
    · have h0 := hE.2.1 0 (by omega) (pv_So0 _ _ _ _)
      have h1 := pv_gvb hw hb 0
      omega
    · exact q
  refine pk_le 2 2 (fun _ => ?_) (fun z => absurd z (by omega))
  refine pv_plan hQ hw hb (fun fi fo bc bs a11 a12 a13 a14 a15 a16 B1 h1 => br_t (by rw [pv_ReU h1 hR]) ?_)
  refine pv_planCost hQ hw hb (fun fi fo bc bs a11 a12 a13 a14 a15 a16 B1 h1 => br_t (by rw [pv_ReU h1 hR]) ?_)
  exact pv_excess hQ hw hb (fun a11 a12 a13 e1 h1 => br_t (by rw [pv_ExU h1 hX]) hp)
theorem pv_142 {post : Int32 → St0 → Prop} {mc ms kc ks : Nat} {c : Int32} {w b : Nat} (hQ : pv_QX c a1 a2 a3 a4 a5 a6 a7 a8 a9 a10) (hw : w < 16) (hb : b < 16) (hp : post 1 ()) :
    ∃ n, wL_lawOf_142 post mc ms c (nI w) (nI b) kc ks n (-2) (-2) 9 0 (nI 4) 0 0 nt st fi fo bc bs a1 a2 a3 a4 a5 a6 a7 a8 a9 a10 a11 a12 a13 a14 a15 a16 a17 a18 a19 := by
  refine pk_loop (σ := Option Nat × Nat × (Nat → Int32) × (Nat → Int32) × (Nat → Int32)) (fun n i s => wL_lawOf_142 post mc ms c (nI w) (nI b) kc ks n (pv_pl s.1) (pv_pc (pv_CX c) s.1) (nI s.2.1) (nI i) (nI 4) 0 0 nt st fi fo bc bs a1 a2 a3 a4 a5 a6 a7 a8 a9 a10 (s.2.2.1) (s.2.2.2.1) (s.2.2.2.2) a14 a15 a16 a17 a18 a19)
    (fun i s => pv_LA (pv_CX c) (pv_SX c) w b (8 * i) s.1 ∧ pv_LE (pv_SX c) w b (8 * i) s.2.1) 2 0 (none, 9, a11, a12, a13) (by omega)
    ⟨⟨fun s q => absurd q.symm (Option.some_ne_none s), fun S hS => absurd hS (by omega)⟩, Nat.le_refl 9, fun S hS => absurd hS (by omega), Or.inl rfl⟩
    (fun n s h => pv_end hQ hw hb h.1 h.2 hp) (fun n i s hi h hW => ?_)
  obtain ⟨B1, e1, b11, b12, b13⟩ := s
  show wL_lawOf_142 post mc ms c (nI w) (nI b) kc ks (n + 1) (pv_pl B1) (pv_pc (pv_CX c) B1) (nI e1) (nI i) (nI 4) 0 0 nt st fi fo bc bs a1 a2 a3 a4 a5 a6 a7 a8 a9 a10 b11 b12 b13 a14 a15 a16 a17 a18 a19
  exact pk_le 2 i (fun z => absurd z (by omega)) (fun _ => pv_151 hQ hw hb hi h.1 h.2 (fun B' e' a11 a12 a13 q1 q2 => hW (B', e', a11, a12, a13) ⟨q1, q2⟩))
theorem pv_lawOf {post : Int32 → St0 → Prop} (hp : post 1 ()) (c x1 x2 : Int32) : wpL_lawOf post 208 3328 () c x1 x2 := by
  obtain ⟨w, hw, ew⟩ := pk_andE x1 (m := 15) 4 (by decide +kernel)
  obtain ⟨b, hb, eb⟩ := pk_andE x2 (m := 15) 4 (by decide +kernel)
  refine ⟨by decide, by decide, 207, 3300, by decide, by decide, ?_⟩
  unfold wpX_init
  dsimp only
  refine ⟨by decide, by decide, by decide, by decide, by decide, by decide, by decide, by decide, by decide, by decide, by decide, by decide, by decide, by decide, by decide, by decide, by decide, by decide, by decide, by decide, by decide, by decide, by decide, by decide, by decide, by decide, by decide, by decide, by decide, by decide, by decide, by decide, by decide, by decide, by decide, by decide, by decide, by decide, ?_⟩
  exact pv_l11 (fun n a1 a2 a3 a4 a5 a6 a7 a8 a9 a10 hQ => pk_le 4 4 (fun _ => nm_r ew (nm_r eb (pv_142 hQ hw hb hp))) (fun z => absurd z (by omega)))
end
theorem pv_cell {post : Int32 → Prop} {xs : Nat → Int32} {L : Nat} (k : Nat) (hk : k ≤ 2) (hL : L ≤ 3) (h : ∀ r, post r) : wpL_cellAt post L xs () (nI k) :=
  pk_le L k (fun _ => h 0) (fun z => ⟨pk_in k L z rfl (by omega), h _⟩)
theorem i_vc (xs : Nat → Int32) (L : Nat) (hL : L ≤ 3) : wpL_law (fun r => r = 1) L xs := by
  unfold wpL_law
  refine pv_cell 0 (by omega) hL (fun r1 => ?_)
  refine pv_cell 1 (by omega) hL (fun r2 => ?_)
  refine pv_cell 2 (by omega) hL (fun r3 => ?_)
  exact ⟨208, 3328, by decide, by decide, pv_lawOf (post := fun r _ => r = 1) rfl r1 r2 r3⟩
end
