section
/-! ===== names: f1 memberSet f2 workingSet f3 ringSize f4 answered f5 newStamp f6 newValue f7 newTaken f8 messages f9 loseLeft; a1 ringPoint a2 ringOwner a3 stamps a4 values a5 taken a6 hintStamps a7 hintValues a8 hintTaken a9 keeper a10 a11 a12 the trees ===== -/
abbrev rr_T : Type := Int32 → Int32 → Int32 → Int32 → Int32 → Int32 → Int32 → Int32 → Int32 → (Nat → Int32) → (Nat → Int32) → (Nat → Int32) → (Nat → Int32) → (Nat → Int32) → (Nat → Int32) → (Nat → Int32) → (Nat → Int32) → (Nat → Int32) → (Nat → Int32) → (Nat → Int32) → (Nat → Int32) → Prop
/-- a predicate over a state's parts, of the state -/
def rr_ap (W : rr_T) (u : St2) : Prop := match u with
  | (f1, f2, f3, f4, f5, f6, f7, f8, f9, a1, a2, a3, a4, a5, a6, a7, a8, a9, a10, a11, a12) => W f1 f2 f3 f4 f5 f6 f7 f8 f9 a1 a2 a3 a4 a5 a6 a7 a8 a9 a10 a11 a12
/-- the ring: twelve places, each of a machine below 3, each such machine somewhere -/
def rr_G (rs : Int32) (a2 : Nat → Int32) : Prop := rs = nI 12 ∧ (∀ i, i < 12 → ∃ o, o < 3 ∧ a2 i = nI o) ∧ (∀ o, o < 3 → ∃ i, i < 12 ∧ a2 i = nI o)
/-- the keepers: the machines 0, 1, 2 in some order -/
def rr_K (a9 : Nat → Int32) : Prop := (∀ j, j < 3 → ∃ x, x < 3 ∧ a9 j = nI x) ∧ (∀ x, x < 3 → ∃ j, j < 3 ∧ a9 j = nI x)
/-- what the machines hold: under key j no stamp above tt j, with the stamp tt j the value vv j; where P, that stamp -/
def rr_M (tt : Nat → Nat) (vv : Nat → Int32) (P : Nat → Nat → Prop) (a3 a4 a5 : Nat → Int32) : Prop :=
  (∀ i, a5 i = 0) ∧ ∀ x j, x < 3 → j < 16 → ∃ s, a3 (x * 16 + j) = nI s ∧ s ≤ tt j ∧ (s = tt j → s ≠ 0 → a4 (x * 16 + j) = vv j) ∧ (P x j → s = tt j)
/-- the hints, likewise -/
def rr_H (tt : Nat → Nat) (vv : Nat → Int32) (a6 a7 a8 : Nat → Int32) : Prop :=
  (∀ i, a8 i = 0) ∧ ∀ i, i < 576 → ∃ s, a6 i = nI s ∧ s ≤ tt (i % 16) ∧ (s = tt (i % 16) → s ≠ 0 → a7 i = vv (i % 16))
/-- the newest at work, likewise; where b, the top stamp -/
def rr_N (tt : Nat → Nat) (vv : Nat → Int32) (j : Nat) (f5 f6 f7 : Int32) (b : Prop) : Prop :=
  f7 = 0 ∧ ∃ t, f5 = nI t ∧ t ≤ tt j ∧ (t = tt j → t ≠ 0 → f6 = vv j) ∧ (b → t = tt j)
/-- a state: all that the law needs between two steps; at most l messages are still to be lost -/
def rr_S (tt : Nat → Nat) (vv : Nat → Int32) (P : Nat → Nat → Prop) (w : Int32) (l : Nat) (u : St2) : Prop := match u with
  | (f1, f2, f3, f4, f5, f6, f7, f8, f9, a1, a2, a3, a4, a5, a6, a7, a8, a9, a10, a11, a12) => (∀ j, tt j ≤ 99) ∧ l ≤ 15 ∧ f1 = 7 ∧ f2 = w ∧ rr_G f3 a2 ∧ rr_M tt vv P a3 a4 a5 ∧ rr_H tt vv a6 a7 a8 ∧ ∃ q, q ≤ l ∧ f9 = nI q
def rr_Nu (tt : Nat → Nat) (vv : Nat → Int32) (j : Nat) (b : Prop) (u : St2) : Prop := match u with
  | (f1, f2, f3, f4, f5, f6, f7, f8, f9, a1, a2, a3, a4, a5, a6, a7, a8, a9, a10, a11, a12) => rr_N tt vv j f5 f6 f7 b
def rr_Ku (u : St2) : Prop := match u with
  | (f1, f2, f3, f4, f5, f6, f7, f8, f9, a1, a2, a3, a4, a5, a6, a7, a8, a9, a10, a11, a12) => rr_K a9
/-! ===== plain rows ===== -/
theorem rr_ix (x j : Nat) : nI x * 16 + nI j = nI (x * 16 + j) := by
  rw [show (16 : Int32) = nI 16 from rfl, pk_mul, nI_add]
theorem rr_ix2 (h x j : Nat) : (nI h * 6 + nI x) * 16 + nI j = nI ((h * 6 + x) * 16 + j) := by
  rw [show (16 : Int32) = nI 16 from rfl, show (6 : Int32) = nI 6 from rfl, pk_mul, nI_add, pk_mul, nI_add]
theorem rr_21 (i : Nat) : (2 : Int32) * nI i + 1 = nI (2 * i + 1) := by
  rw [show (2 : Int32) = nI 2 from rfl, pk_mul, nI_1]
theorem rr_22 (i : Nat) : (2 : Int32) * nI i + 2 = nI (2 * i + 2) := by
  rw [show (2 : Int32) = nI 2 from rfl, pk_mul, nI_add]
theorem rr_15 (i : Nat) : (15 : Int32) + nI i = nI (15 + i) := by
  rw [show (15 : Int32) = nI 15 from rfl, nI_add]
theorem rr_10 : ¬ (1 : Int32) = 0 := by decide
theorem rr_20 : ¬ (2 : Int32) = 0 := by decide
theorem rr_30 : ¬ (3 : Int32) = 0 := by decide
theorem rr_80 : ¬ (8 : Int32) = 0 := by decide
theorem rr_b8 : ∀ o, o < 3 → (nI o).toInt8.toInt32 = nI o := by decide +kernel
theorem rr_nb : ∀ o, o < 3 → vp_nar .byte (nI o) = nI o := by
  intro o ho
  rw [vp_nar_byte, rr_b8 o ho]
theorem rr_nz : vp_nar .boolean 0 = 0 := by rfl
/-- a set of machines below 3: how many, and whether o is in it -/
def rr_pc (q : Nat) : Nat := q % 2 + q / 2 % 2 + q / 4 % 2
theorem rr_bit : ∀ q, q < 8 → ∀ o, o < 3 → (((nI q >>> (nI o &&& 31)) &&& 1) = 0 ↔ q / 2 ^ o % 2 = 0) := by decide +kernel
theorem rr_or : ∀ q, q < 8 → ∀ o, o < 3 → q / 2 ^ o % 2 = 0 → nI q ||| ((1 : Int32) <<< (nI o &&& 31)) = nI (q + 2 ^ o) := by decide +kernel
theorem rr_pc1 : ∀ q, q < 8 → ∀ o, o < 3 → q / 2 ^ o % 2 = 0 → rr_pc (q + 2 ^ o) = rr_pc q + 1 ∧ q + 2 ^ o < 8 ∧ rr_pc q < 3 := by decide +kernel
theorem rr_in1 (q : Nat) (hq : q < 8) (o : Nat) (ho : o < 3) (x : Nat) (hx : x < 3) (h : q / 2 ^ o % 2 = 0) : (q + 2 ^ o) / 2 ^ x % 2 = 1 ↔ (x = o ∨ q / 2 ^ x % 2 = 1) := by
  have ho' : o = 0 ∨ o = 1 ∨ o = 2 := by omega
  have hx' : x = 0 ∨ x = 1 ∨ x = 2 := by omega
  rcases ho' with e | e | e <;> subst e <;> rcases hx' with e | e | e <;> subst e <;> omega
theorem rr_pc3 : ∀ q, q < 8 → (3 ≤ rr_pc q → ∀ x, x < 3 → q / 2 ^ x % 2 = 1) ∧ rr_pc q ≤ 3 ∧ ((∀ x, x < 3 → q / 2 ^ x % 2 = 1) → rr_pc q = 3) := by decide +kernel
/-- an answered set whose members are below i -/
theorem rr_cl : ∀ i, i < 3 → ∀ q, q < 2 ^ i → ((nI q >>> (nI i &&& 31)) &&& 1) = 0 ∧ nI q ||| ((1 : Int32) <<< (nI i &&& 31)) = nI (q + 2 ^ i) := by decide +kernel
theorem rr_p2 (i q : Nat) (h : q < 2 ^ i) : q < 2 ^ (i + 1) ∧ q + 2 ^ i < 2 ^ (i + 1) := by
  rw [Nat.pow_succ]
  omega
theorem rr_nIne {a b : Nat} (ha : a < 99) (hb : b < 99) (h : nI a = nI b) : a = b := (nI_eq (by omega) (by omega)).mp h
/-! ===== the picture's rows ===== -/
theorem rr_M_mono {tt : Nat → Nat} {vv : Nat → Int32} {P Q : Nat → Nat → Prop} {a3 a4 a5 : Nat → Int32} (h : rr_M tt vv P a3 a4 a5) (hQ : ∀ y i, y < 3 → i < 16 → Q y i → P y i) : rr_M tt vv Q a3 a4 a5 := by
  refine ⟨h.1, fun x j hx hj => ?_⟩
  obtain ⟨s, h1, h2, h3, h4⟩ := h.2 x j hx hj
  exact ⟨s, h1, h2, h3, fun z => h4 (hQ x j hx hj z)⟩
theorem rr_S_mono {tt : Nat → Nat} {vv : Nat → Int32} {P Q : Nat → Nat → Prop} {w : Int32} {l l' : Nat} {u : St2} (h : rr_S tt vv P w l u) (hl : l ≤ l') (hl' : l' ≤ 15) (hQ : ∀ y i, y < 3 → i < 16 → Q y i → P y i) : rr_S tt vv Q w l' u := by
  obtain ⟨f1, f2, f3, f4, f5, f6, f7, f8, f9, a1, a2, a3, a4, a5, a6, a7, a8, a9, a10, a11, a12⟩ := u
  obtain ⟨h1, h2, h3, h4, h5, h6, h7, q, hq, h8⟩ := h
  exact ⟨h1, hl', h3, h4, h5, rr_M_mono h6 hQ, h7, q, by omega, h8⟩
theorem rr_M_upd {tt : Nat → Nat} {vv : Nat → Int32} {P Q : Nat → Nat → Prop} {a3 a4 a5 : Nat → Int32} {x j t : Nat} {v : Int32} (h : rr_M tt vv P a3 a4 a5) (hj : j < 16) (h1 : t ≤ tt j) (h2 : t = tt j → t ≠ 0 → v = vv j)
    (hQ : ∀ y i, y < 3 → i < 16 → Q y i → (y = x ∧ i = j → t = tt j) ∧ (¬ (y = x ∧ i = j) → P y i)) : rr_M tt vv Q (upd a3 (x * 16 + j) (nI t)) (upd a4 (x * 16 + j) v) (upd a5 (x * 16 + j) 0) := by
  refine ⟨fun i => ?_, fun y i hy hi => ?_⟩
  · by_cases e : i = x * 16 + j
    · rw [e, pk_us]
    · rw [pk_un e]
      exact h.1 i
  · by_cases e : y = x ∧ i = j
    · obtain ⟨e1, e2⟩ := e
      subst e1 e2
      exact ⟨t, pk_us, h1, fun z z2 => by rw [pk_us]; exact h2 z z2, fun z => (hQ y i hy hi z).1 ⟨rfl, rfl⟩⟩
    · obtain ⟨s, s1, s2, s3, s4⟩ := h.2 y i hy hi
      have e' : y * 16 + i ≠ x * 16 + j := by omega
      exact ⟨s, by rw [pk_un e']; exact s1, s2, by rw [pk_un e']; exact s3, fun z => s4 ((hQ y i hy hi z).2 e)⟩
theorem rr_H_upd {tt : Nat → Nat} {vv : Nat → Int32} {a6 a7 a8 : Nat → Int32} {c t : Nat} {v : Int32} (h : rr_H tt vv a6 a7 a8) (h1 : t ≤ tt (c % 16)) (h2 : t = tt (c % 16) → t ≠ 0 → v = vv (c % 16)) : rr_H tt vv (upd a6 c (nI t)) (upd a7 c v) (upd a8 c 0) := by
  refine ⟨fun i => ?_, fun i hi => ?_⟩
  · by_cases e : i = c
    · rw [e, pk_us]
    · rw [pk_un e]
      exact h.1 i
  · by_cases e : i = c
    · subst e
      exact ⟨t, pk_us, h1, fun z z2 => by rw [pk_us]; exact h2 z z2⟩
    · obtain ⟨s, s1, s2, s3⟩ := h.2 i hi
      exact ⟨s, by rw [pk_un e]; exact s1, s2, by rw [pk_un e]; exact s3⟩
theorem rr_H_0 {tt : Nat → Nat} {vv : Nat → Int32} {a6 a7 a8 : Nat → Int32} {c : Nat} (h : rr_H tt vv a6 a7 a8) : rr_H tt vv (upd a6 c 0) a7 a8 := by
  refine ⟨h.1, fun i hi => ?_⟩
  by_cases e : i = c
  · subst e
    exact ⟨0, pk_us, Nat.zero_le _, fun _ z => absurd rfl z⟩
  · obtain ⟨s, s1, s2, s3⟩ := h.2 i hi
    exact ⟨s, by rw [pk_un e]; exact s1, s2, s3⟩
/-- the key k has the top stamp T, all others none -/
def rr_tt (k T : Nat) : Nat → Nat := fun i => if i = k then T else 0
theorem rr_tt_k (k T : Nat) : rr_tt k T k = T := if_pos rfl
theorem rr_tt_n {k T i : Nat} (h : i ≠ k) : rr_tt k T i = 0 := if_neg h
/-- a new top stamp under the key k: nobody has it yet -/
theorem rr_S_new {k T T' : Nat} {V V' : Int32} {P : Nat → Nat → Prop} {w : Int32} {l : Nat} {f1 f2 f3 f4 f5 f6 f7 f8 f9 : Int32} {a1 a2 a3 a4 a5 a6 a7 a8 a9 a10 a11 a12 : Nat → Int32} {g4 g5 g6 g7 : Int32} (h : rr_S (rr_tt k T) (fun _ => V) P w l (f1, f2, f3, f4, f5, f6, f7, f8, f9, a1, a2, a3, a4, a5, a6, a7, a8, a9, a10, a11, a12)) (hT : T < T') (hT' : T' ≤ 99) :
    rr_S (rr_tt k T') (fun _ => V') (fun y i => P y i ∧ i ≠ k) w l (f1, f2, f3, g4, g5, g6, g7, f8, f9, a1, a2, a3, a4, a5, a6, a7, a8, a9, a10, a11, a12) := by
  obtain ⟨h1, h2, h3, h4, h5, h6, h7, q, hq, h8⟩ := h
  have key : ∀ s i, s ≤ rr_tt k T i → s ≤ rr_tt k T' i ∧ (s = rr_tt k T' i → s ≠ 0 → False) := by
    intro s i hs
    by_cases e : i = k
    · subst e
      rw [rr_tt_k] at hs ⊢
      exact ⟨by omega, fun z _ => by omega⟩
    · rw [rr_tt_n e] at hs ⊢
      exact ⟨hs, fun z z2 => z2 z⟩
  refine ⟨fun i => ?_, h2, h3, h4, h5, ⟨h6.1, fun x j hx hj => ?_⟩, ⟨h7.1, fun i hi => ?_⟩, q, hq, h8⟩
  · by_cases e : i = k
    · subst e
      rw [rr_tt_k]
      exact hT'
    · rw [rr_tt_n e]
      omega
  · obtain ⟨s, s1, s2, s3, s4⟩ := h6.2 x j hx hj
    refine ⟨s, s1, (key s j s2).1, fun z z2 => ((key s j s2).2 z z2).elim, fun z => ?_⟩
    rw [s4 z.1, rr_tt_n z.2, rr_tt_n z.2]
  · obtain ⟨s, s1, s2, s3⟩ := h7.2 i hi
    exact ⟨s, s1, (key s _ s2).1, fun z z2 => ((key s _ s2).2 z z2).elim⟩
end
section
/-! ===== the small methods ===== -/
theorem rr_mixed {post : Int32 → Prop} {p : Int32} (H : ∀ r, post r) : wpX_mixed post () p :=
  nm_e (nm_e (nm_e (H _)))
theorem rr_isM {post : Int32 → Prop} {x : Nat} (hx : x < 6) (H : post 1) : wpX_isMachine post () (nI x) :=
  pk_lt x 0 (fun z => absurd z (by omega)) (fun _ => pk_le 6 x (fun z => absurd z (by omega)) (fun _ => H))
theorem rr_isKey {post : Int32 → Prop} {x : Nat} (hx : x < 16) (H : post 1) : wpX_isKey post () (nI x) :=
  pk_lt x 0 (fun z => absurd z (by omega)) (fun _ => pk_le 16 x (fun z => absurd z (by omega)) (fun _ => H))
theorem rr_isW {post : Int32 → Prop} {f1 f2 f3 f4 f5 f6 f7 f8 f9 : Int32} {a1 a2 a3 a4 a5 a6 a7 a8 a9 a10 a11 a12 : Nat → Int32} {x : Nat} {z : Int32} (hz : z = nI x) (hx : x < 6) (h0 : ((f2 >>> (nI x &&& 31)) &&& 1) = 0 → post 0) (h1 : ¬ ((f2 >>> (nI x &&& 31)) &&& 1) = 0 → post 1) : wpX_isWorking post (f1, f2, f3, f4, f5, f6, f7, f8, f9, a1, a2, a3, a4, a5, a6, a7, a8, a9, a10, a11, a12) z := by
  subst hz
  unfold wpX_isWorking
  exact rr_isM hx (br_f rr_10 (br_c h0 h1))
theorem rr_isB {post : Int32 → Prop} {f1 f2 f3 f4 f5 f6 f7 f8 f9 : Int32} {a1 a2 a3 a4 a5 a6 a7 a8 a9 a10 a11 a12 : Nat → Int32} {x : Nat} {z : Int32} (hz : z = nI x) (hx : x < 6) (h0 : ((f1 >>> (nI x &&& 31)) &&& 1) = 0 → post 0) (h1 : ¬ ((f1 >>> (nI x &&& 31)) &&& 1) = 0 → post 1) : wpX_isMember post (f1, f2, f3, f4, f5, f6, f7, f8, f9, a1, a2, a3, a4, a5, a6, a7, a8, a9, a10, a11, a12) z := by
  subst hz
  unfold wpX_isMember
  exact rr_isM hx (br_f rr_10 (br_c h0 h1))
theorem rr_ct {post : Int32 → St2 → Prop} {f1 f2 f3 f4 f5 f6 f7 f8 f9 : Int32} {a1 a2 a3 a4 a5 a6 a7 a8 a9 a10 a11 a12 : Nat → Int32} {x y q : Nat} (hx : x < 6) (hy : y < 6) (hq : q ≤ 15) (hf : f9 = nI q)
    (H : ∀ r g8 q', q' ≤ q → (r = 1 ∨ r = 0 ∧ q' < q ∧ x ≠ y) → post r (f1, f2, f3, f4, f5, f6, f7, g8, nI q', a1, a2, a3, a4, a5, a6, a7, a8, a9, a10, a11, a12)) : wpX_comesThrough post (f1, f2, f3, f4, f5, f6, f7, f8, f9, a1, a2, a3, a4, a5, a6, a7, a8, a9, a10, a11, a12) (nI x) (nI y) := by
  subst hf
  refine pk_eq x y (fun e => ?_) (fun e => nm_e (pk_eq q 0 (fun z => ?_) (fun z => nm_r (e' := nI (q - 1)) ?_ ⟨rr_20, br_c (fun _ => ?_) (fun _ => ?_)⟩)))
  · exact H 1 f8 q (Nat.le_refl q) (Or.inl rfl)
  · exact H 1 _ q (Nat.le_refl q) (Or.inl rfl)
  · exact pk_sub (a := q) (b := 1) (by omega)
  · exact H 1 _ (q - 1) (by omega) (Or.inl rfl)
  · exact H 0 _ (q - 1) (by omega) (Or.inr ⟨rfl, by omega, e⟩)
theorem rr_store {post : St2 → Prop} {f1 f2 f3 f4 f5 f6 f7 f8 f9 : Int32} {a1 a2 a3 a4 a5 a6 a7 a8 a9 a10 a11 a12 : Nat → Int32} {tt : Nat → Nat} {vv : Nat → Int32} {P : Nat → Nat → Prop} {b : Prop} {x j : Nat} (ht : ∀ j, tt j ≤ 99) (hx : x < 3) (hj : j < 16) (hM : rr_M tt vv P a3 a4 a5) (hN : rr_N tt vv j f5 f6 f7 b)
    (H : ∀ b3 b4 b5, rr_M tt vv (fun y i => P y i ∨ (y = x ∧ i = j ∧ b)) b3 b4 b5 → post (f1, f2, f3, f4, f5, f6, f7, f8, f9, a1, a2, b3, b4, b5, a6, a7, a8, a9, a10, a11, a12)) : wpX_store post (f1, f2, f3, f4, f5, f6, f7, f8, f9, a1, a2, a3, a4, a5, a6, a7, a8, a9, a10, a11, a12) (nI x) (nI j) := by
  obtain ⟨e7, t, e5, h1, h2, h3⟩ := hN
  subst e7 e5
  obtain ⟨s, s1, s2, s3, s4⟩ := hM.2 x j hx hj
  have tj := ht j
  have hc : (nI (x * 16 + j)).toNatClampNeg = x * 16 + j := nI_clamp (by omega)
  have hin : vp_in (nI (x * 16 + j)) 96 := vp_in_nI (by omega) (by omega)
  refine nm_r (rr_ix x j) ⟨hin, ?_⟩
  rw [hc]
  refine pk_le t s (fun z => ?_) (fun z => ⟨hin, nm_e ⟨hin, nm_e ⟨hin, nm_r (by rw [rr_nz]) ?_⟩⟩⟩) rfl s1
  · refine H a3 a4 a5 ⟨hM.1, fun y i hy hi => ?_⟩
    obtain ⟨s', r1, r2, r3, r4⟩ := hM.2 y i hy hi
    refine ⟨s', r1, r2, r3, fun g => g.elim r4 (fun g => ?_)⟩
    obtain ⟨g1, g2, g3⟩ := g
    subst g1 g2
    have e : s = s' := (nI_eq (by omega) (by omega)).mp (s1.symm.trans r1)
    have := h3 g3
    omega
  · refine H _ _ _ (rr_M_upd hM hj h1 h2 (fun y i hy hi g => ⟨fun e => ?_, fun e => ?_⟩))
    · rcases g with g | g
      · rw [e.1, e.2] at g
        have := s4 g
        omega
      · exact h3 g.2.2
    · rcases g with g | g
      · exact g
      · exact absurd ⟨g.1, g.2.1⟩ e
theorem rr_hear {post : St2 → Prop} {f1 f2 f3 f4 f5 f6 f7 f8 f9 : Int32} {a1 a2 a3 a4 a5 a6 a7 a8 a9 a10 a11 a12 : Nat → Int32} {tt : Nat → Nat} {vv : Nat → Int32} {P : Nat → Nat → Prop} {b : Prop} {x j : Nat} (ht : ∀ j, tt j ≤ 99) (hx : x < 3) (hj : j < 16) (hM : rr_M tt vv P a3 a4 a5) (hN : rr_N tt vv j f5 f6 f7 b)
    (H : ∀ g5 g6 g7, rr_N tt vv j g5 g6 g7 (b ∨ P x j) → post (f1, f2, f3, f4, g5, g6, g7, f8, f9, a1, a2, a3, a4, a5, a6, a7, a8, a9, a10, a11, a12)) : wpX_hear post (f1, f2, f3, f4, f5, f6, f7, f8, f9, a1, a2, a3, a4, a5, a6, a7, a8, a9, a10, a11, a12) (nI x) (nI j) := by
  obtain ⟨e7, t, e5, h1, h2, h3⟩ := hN
  subst e7 e5
  obtain ⟨s, s1, s2, s3, s4⟩ := hM.2 x j hx hj
  have tj := ht j
  have hc : (nI (x * 16 + j)).toNatClampNeg = x * 16 + j := nI_clamp (by omega)
  have hin : vp_in (nI (x * 16 + j)) 96 := vp_in_nI (by omega) (by omega)
  refine nm_r (rr_ix x j) ⟨hin, ?_⟩
  rw [hc]
  refine pk_le s t (fun z => ?_) (fun z => ⟨hin, nm_r s1 ⟨hin, nm_e ⟨hin, nm_r (hM.1 _) ⟨rfl, rfl, ?_⟩⟩⟩⟩) s1 rfl
  · refine H _ _ _ ⟨rfl, t, rfl, h1, h2, fun g => g.elim h3 (fun g => ?_)⟩
    have := s4 g
    omega
  · refine H _ _ _ ⟨rfl, s, rfl, s2, s3, fun g => g.elim (fun g => ?_) s4⟩
    have := h3 g
    omega
theorem rr_hint {post : St2 → Prop} {f1 f2 f3 f4 f5 f6 f7 f8 f9 : Int32} {a1 a2 a3 a4 a5 a6 a7 a8 a9 a10 a11 a12 : Nat → Int32} {tt : Nat → Nat} {vv : Nat → Int32} {b : Prop} {c x j : Nat} {z : Int32} (ht : ∀ j, tt j ≤ 99) (hz : z = nI x) (hc : c < 3) (hx : x < 3) (hj : j < 16) (hH : rr_H tt vv a6 a7 a8) (hN : rr_N tt vv j f5 f6 f7 b)
    (H : ∀ b6 b7 b8, rr_H tt vv b6 b7 b8 → post (f1, f2, f3, f4, f5, f6, f7, f8, f9, a1, a2, a3, a4, a5, b6, b7, b8, a9, a10, a11, a12)) : wpX_hint post (f1, f2, f3, f4, f5, f6, f7, f8, f9, a1, a2, a3, a4, a5, a6, a7, a8, a9, a10, a11, a12) (nI c) z (nI j) := by
  subst hz
  obtain ⟨e7, t, e5, h1, h2, h3⟩ := hN
  subst e7 e5
  have hm : ((c * 6 + x) * 16 + j) % 16 = j := by omega
  have hcl : (nI ((c * 6 + x) * 16 + j)).toNatClampNeg = (c * 6 + x) * 16 + j := nI_clamp (by omega)
  have hin : vp_in (nI ((c * 6 + x) * 16 + j)) 576 := vp_in_nI (by omega) (by omega)
  refine nm_r (rr_ix2 c x j) ⟨hin, ?_⟩
  rw [hcl]
  refine br_c (fun _ => H _ _ _ hH) (fun _ => ⟨hin, nm_e ⟨hin, nm_e ⟨hin, nm_r (by rw [rr_nz]) ?_⟩⟩⟩)
  exact H _ _ _ (rr_H_upd hH (by rw [hm]; exact h1) (by rw [hm]; exact h2))
theorem rr_erase {post : St2 → Prop} {f1 f2 f3 f4 f5 f6 f7 f8 f9 : Int32} {a1 a2 a3 a4 a5 a6 a7 a8 a9 a10 a11 a12 : Nat → Int32} {tt : Nat → Nat} {vv : Nat → Int32} {P : Nat → Nat → Prop} {x j : Nat} (hx : x < 3) (hj : j < 16) (hM : rr_M tt vv P a3 a4 a5) (hP : ¬ P x j)
    (H : ∀ b3 b4 b5, rr_M tt vv P b3 b4 b5 → post (f1, f2, f3, f4, f5, f6, f7, f8, f9, a1, a2, b3, b4, b5, a6, a7, a8, a9, a10, a11, a12)) : wpX_erase post (f1, f2, f3, f4, f5, f6, f7, f8, f9, a1, a2, a3, a4, a5, a6, a7, a8, a9, a10, a11, a12) (nI x) (nI j) := by
  have hc : (nI (x * 16 + j)).toNatClampNeg = x * 16 + j := nI_clamp (by omega)
  have hin : vp_in (nI (x * 16 + j)) 96 := vp_in_nI (by omega) (by omega)
  refine nm_r (rr_ix x j) ⟨hin, nm_e ⟨hin, nm_e ⟨hin, nm_e ?_⟩⟩⟩
  rw [hc]
  exact H _ _ _ (rr_M_upd (t := 0) (v := 0) hM hj (Nat.zero_le _) (fun _ z => absurd rfl z) (fun y i hy hi g => ⟨fun e => absurd (by rw [e.1, e.2] at g; exact g) hP, fun _ => g⟩))
theorem rr_start {post : St2 → Prop} {f1 f2 f3 f4 f5 f6 f7 f8 f9 : Int32} {a1 a2 a3 a4 a5 a6 a7 a8 a9 a10 a11 a12 : Nat → Int32} (H : post (f1, f2, f3, 0, 0, 0, 0, f8, f9, a1, a2, a3, a4, a5, a6, a7, a8, a9, a10, a11, a12)) : wpX_startWork post (f1, f2, f3, f4, f5, f6, f7, f8, f9, a1, a2, a3, a4, a5, a6, a7, a8, a9, a10, a11, a12) := H
theorem rr_z6 : ∀ i, i < 6 → (0 : Int32) + (((0 : Int32) >>> (nI i &&& 31)) &&& 1) = 0 := by decide +kernel
theorem rr_ones0 {post : Int32 → Prop} (H : post 0) : wpX_ones post () 0 :=
  pk_loop (fun n i s => wX_ones_4 post 0 n s (nI i)) (fun _ s => s = 0) 6 0 0 (by omega) rfl
    (fun n s h => br_t (by decide) (h ▸ H))
    (fun n i s hi h hw => pk_le 6 i (fun z => absurd z (by omega)) (fun _ => nm_e (nm_r (nI_1 i) (hw _ (by
      subst h
      exact rr_z6 i hi)))))
theorem rr_ones {post : Int32 → Prop} {x : Int32} (H : ∀ r, post r) : wpX_ones post () x :=
  pk_loop (fun n i s => wX_ones_4 post x n s (nI i)) (fun _ _ => True) 6 0 0 (by omega) trivial
    (fun n s h => br_t (by decide) (H s))
    (fun n i s hi h hw => pk_le 6 i (fun z => absurd z (by omega)) (fun _ => nm_e (nm_r (nI_1 i) (hw _ trivial))))
/-! ===== the ring is laid ===== -/
theorem rr_enter {post : St2 → Prop} {f1 f2 f3 f4 f5 f6 f7 f8 f9 : Int32} {a1 a2 a3 a4 a5 a6 a7 a8 a9 a10 a11 a12 : Nat → Int32} {x : Int32} {r m : Nat} {Q : Nat → Prop} (hr : r < 12) (hm : m < 3) (e3 : f3 = nI r) (h1 : ∀ p, p < r → ∃ o, o < 3 ∧ a2 p = nI o) (h2 : ∀ o, Q o → ∃ p, p < r ∧ a2 p = nI o)
    (H : ∀ b1 b2, (∀ p, p < r + 1 → ∃ o, o < 3 ∧ b2 p = nI o) → (∀ o, (Q o ∨ o = m) → ∃ p, p < r + 1 ∧ b2 p = nI o) → post (f1, f2, nI (r + 1), f4, f5, f6, f7, f8, f9, b1, b2, a3, a4, a5, a6, a7, a8, a9, a10, a11, a12)) : wpX_enterRing post (f1, f2, f3, f4, f5, f6, f7, f8, f9, a1, a2, a3, a4, a5, a6, a7, a8, a9, a10, a11, a12) x (nI m) := by
  subst e3
  have X : ∀ (i : Nat) (b1 b2 : Nat → Int32), i ≤ r → (∀ p, p < r + 1 → p ≠ i → ∃ o, o < 3 ∧ b2 p = nI o) → (∀ o, Q o → ∃ p, p < r + 1 ∧ p ≠ i ∧ b2 p = nI o) → wX_enterRing_55 post x (nI m) (nI i) f1 f2 (nI r) f4 f5 f6 f7 f8 f9 b1 b2 a3 a4 a5 a6 a7 a8 a9 a10 a11 a12 := by
    intro i b1 b2 hi g1 g2
    have hc : (nI i).toNatClampNeg = i := nI_clamp (by omega)
    refine ⟨pk_in i 24 (by omega), nm_e ⟨pk_in i 24 (by omega), nm_e (nm_r (nI_1 r) (H _ _ (fun p hp => ?_) (fun o ho => ?_)))⟩⟩
    · rw [hc, rr_b8 m hm]
      by_cases e : p = i
      · exact ⟨m, hm, by rw [e, pk_us]⟩
      · obtain ⟨o, ho, eo⟩ := g1 p hp e
        exact ⟨o, ho, by rw [pk_un e]; exact eo⟩
    · rw [hc, rr_b8 m hm]
      rcases ho with ho | ho
      · obtain ⟨p, hp, e, eo⟩ := g2 o ho
        exact ⟨p, hp, by rw [pk_un e]; exact eo⟩
      · exact ⟨i, by omega, by rw [pk_us, ho]⟩
  refine ⟨r + 1, pk_loopD (fun n i (s : (Nat → Int32) × (Nat → Int32)) => wX_enterRing_5 post x (nI m) f1 f2 (nI r) f4 f5 f6 f7 f8 f9 n (nI i) s.1 s.2 a3 a4 a5 a6 a7 a8 a9 a10 a11 a12) (fun i s => i ≤ r ∧ (∀ p, p < r + 1 → p ≠ i → ∃ o, o < 3 ∧ s.2 p = nI o) ∧ (∀ o, Q o → ∃ p, p < r + 1 ∧ p ≠ i ∧ s.2 p = nI o)) ?_ ?_ r (a1, a2) ?_⟩
  · intro n s h
    exact br_t (by decide) (X 0 s.1 s.2 h.1 h.2.1 h.2.2)
  · intro n i s h hw
    obtain ⟨g0, g1, g2⟩ := h
    have hp : nI (i + 1) - 1 = nI i := nI_pred i
    have hc : (nI i).toNatClampNeg = i := nI_clamp (by omega)
    have hc1 : (nI (i + 1)).toNatClampNeg = i + 1 := nI_clamp (by omega)
    refine br_f (nI_nle (by omega) (by omega)) ?_
    rw [hp, hc]
    refine ⟨pk_in i 24 (by omega), br_c (fun _ => X (i + 1) s.1 s.2 g0 g1 g2) (fun _ => ⟨pk_in i 24 (by omega), pk_in (i + 1) 24 (by omega), nm_e ⟨pk_in i 24 (by omega), pk_in (i + 1) 24 (by omega), nm_e (nm_r (pk_m1 i) (hw (_, _) ⟨by omega, fun p hp e => ?_, fun o ho => ?_⟩))⟩⟩)⟩
    · obtain ⟨o', ho', eo'⟩ := g1 i (by omega) (by omega)
      show ∃ o, o < 3 ∧ upd s.2 (nI (i + 1)).toNatClampNeg (vp_nar .byte (s.2 i)) p = nI o
      rw [hc1, eo', rr_nb o' ho']
      by_cases e2 : p = i + 1
      · exact ⟨o', ho', by rw [e2, pk_us]⟩
      · obtain ⟨o, ho, eo⟩ := g1 p hp e2
        exact ⟨o, ho, by rw [pk_un e2]; exact eo⟩
    · obtain ⟨o', ho', eo'⟩ := g1 i (by omega) (by omega)
      show ∃ p, p < r + 1 ∧ p ≠ i ∧ upd s.2 (nI (i + 1)).toNatClampNeg (vp_nar .byte (s.2 i)) p = nI o
      rw [hc1, eo', rr_nb o' ho']
      obtain ⟨p, hp, e, eo⟩ := g2 o ho
      by_cases e2 : p = i
      · exact ⟨i + 1, by omega, by omega, by rw [pk_us, ← eo', ← e2]; exact eo⟩
      · exact ⟨p, hp, e2, by rw [pk_un e]; exact eo⟩
  · refine ⟨Nat.le_refl r, fun p hp e => h1 p (by omega), fun o ho => ?_⟩
    obtain ⟨p, hp, e⟩ := h2 o ho
    exact ⟨p, by omega, by omega, e⟩
/-- r places, of the machines below 3; those below m are there -/
def rr_L (r m : Nat) (f3 : Int32) (a2 : Nat → Int32) : Prop := f3 = nI r ∧ (∀ p, p < r → ∃ o, o < 3 ∧ a2 p = nI o) ∧ (∀ o, o < m → ∃ p, p < r ∧ a2 p = nI o)
theorem rr_b7 : ∀ x, x < 6 → (((7 : Int32) >>> (nI x &&& 31)) &&& 1 = 0 ↔ 3 ≤ x) := by decide +kernel
theorem rr_lay15 {post : St2 → Prop} {J : Int32 → rr_T} {f1 f2 f3 f4 f5 f6 f7 f8 f9 : Int32} {a1 a2 a3 a4 a5 a6 a7 a8 a9 a10 a11 a12 : Nat → Int32} {m : Nat} (hm : m < 6) (e1 : f1 = 7) (h : rr_L (4 * min m 3) (min m 3) f3 a2)
    (HJ : ∀ g3 b1 b2, rr_L (4 * min (m + 1) 3) (min (m + 1) 3) g3 b2 → J (nI (m + 1)) f1 f2 g3 f4 f5 f6 f7 f8 f9 b1 b2 a3 a4 a5 a6 a7 a8 a9 a10 a11 a12) : ∃ n, wX_layRing_15 post J (nI m) n 0 f1 f2 f3 f4 f5 f6 f7 f8 f9 a1 a2 a3 a4 a5 a6 a7 a8 a9 a10 a11 a12 := by
  subst e1
  by_cases hm3 : m < 3
  · refine pk_loop (fun n i (s : Int32 × (Nat → Int32) × (Nat → Int32)) => wX_layRing_15 post J (nI m) n (nI i) 7 f2 s.1 f4 f5 f6 f7 f8 f9 s.2.1 s.2.2 a3 a4 a5 a6 a7 a8 a9 a10 a11 a12) (fun i s => rr_L (4 * m + i) m s.1 s.2.2 ∧ (0 < i → ∃ p, p < 4 * m + i ∧ s.2.2 p = nI m)) 4 0 (f3, a1, a2) (by omega) ⟨by rw [show 4 * m + 0 = 4 * min m 3 by omega]; rw [show min m 3 = m by omega] at h ⊢; exact h, fun z => absurd z (by omega)⟩ ?_ ?_
    · intro n s hs
      refine br_t (by decide) (nm_r (nI_1 m) (HJ _ _ _ ?_))
      rw [show 4 * min (m + 1) 3 = 4 * m + 4 by omega, show min (m + 1) 3 = m + 1 by omega]
      refine ⟨hs.1.1, hs.1.2.1, fun o ho => ?_⟩
      by_cases e : o = m
      · subst e
        exact hs.2 (by omega)
      · exact hs.1.2.2 o (by omega)
    · intro n i s hi hs hw
      obtain ⟨⟨g1, g2, g3⟩, g4⟩ := hs
      refine pk_le 4 i (fun z => absurd z (by omega)) (fun _ => rr_isB rfl hm (fun z => absurd ((rr_b7 m hm).mp z) (by omega)) (fun _ => br_f rr_10 (rr_mixed (fun r => ?_))))
      refine rr_enter (r := 4 * m + i) (m := m) (Q := fun o => o < m) (by omega) hm3 g1 g2 g3 (fun b1 b2 k1 k2 => ?_)
      refine nm_r (nI_1 i) (hw (nI (4 * m + i + 1), b1, b2) ⟨⟨rfl, k1, fun o ho => k2 o (Or.inl ho)⟩, fun _ => k2 m (Or.inr rfl)⟩)
  · refine pk_loop (σ := Unit) (fun n i s => wX_layRing_15 post J (nI m) n (nI i) 7 f2 f3 f4 f5 f6 f7 f8 f9 a1 a2 a3 a4 a5 a6 a7 a8 a9 a10 a11 a12) (fun _ _ => True) 4 0 () (by omega) trivial ?_ ?_
    · intro n s hs
      refine br_t (by decide) (nm_r (nI_1 m) (HJ _ _ _ ?_))
      rw [show min (m + 1) 3 = min m 3 by omega]
      exact h
    · intro n i s hi hs hw
      exact pk_le 4 i (fun z => absurd z (by omega)) (fun _ => rr_isB rfl hm (fun z => br_t rfl (nm_r (nI_1 i) (hw () trivial))) (fun z => absurd ((rr_b7 m hm).mpr (by omega)) z))
theorem rr_lay {post : St2 → Prop} {f1 f2 f3 f4 f5 f6 f7 f8 f9 : Int32} {a1 a2 a3 a4 a5 a6 a7 a8 a9 a10 a11 a12 : Nat → Int32} (e1 : f1 = 7) (H : ∀ g3 b1 b2, rr_G g3 b2 → post (f1, f2, g3, f4, f5, f6, f7, f8, f9, b1, b2, a3, a4, a5, a6, a7, a8, a9, a10, a11, a12)) : wpX_layRing post (f1, f2, f3, f4, f5, f6, f7, f8, f9, a1, a2, a3, a4, a5, a6, a7, a8, a9, a10, a11, a12) := by
  refine pk_loop (fun n i (s : Int32 × (Nat → Int32) × (Nat → Int32)) => wX_layRing_7 post n (nI i) f1 f2 s.1 f4 f5 f6 f7 f8 f9 s.2.1 s.2.2 a3 a4 a5 a6 a7 a8 a9 a10 a11 a12) (fun i s => rr_L (4 * min i 3) (min i 3) s.1 s.2.2) 6 0 (0, a1, a2) (by omega) ⟨rfl, fun p hp => absurd hp (by omega), fun o ho => absurd ho (by omega)⟩ ?_ ?_
  · intro n s hs
    exact br_t (by decide) (H _ _ _ hs)
  · intro n i s hi hs hw
    exact pk_le 6 i (fun z => absurd z (by omega)) (fun _ => rr_lay15 hi e1 hs (fun g3 b1 b2 k => hw (g3, b1, b2) k))
end
section
/-! ===== findKeepers: the scan's invariant; q: the machines found ===== -/
def rr_J (a2 : Nat → Int32) (lo i q : Nat) (a9 : Nat → Int32) : Prop :=
  q < 8 ∧ (∀ x, x < 3 → q / 2 ^ x % 2 = 1 → ∃ j, j < rr_pc q ∧ a9 j = nI x) ∧ (∀ j, j < rr_pc q → ∃ x, x < 3 ∧ a9 j = nI x) ∧ (∀ j, j < i → ∀ x, x < 3 → a2 ((lo + j) % 12) = nI x → q / 2 ^ x % 2 = 1)
theorem rr_J_0 (a2 : Nat → Int32) (lo : Nat) (a9 : Nat → Int32) : rr_J a2 lo 0 0 a9 :=
  ⟨by omega, fun x _ h => absurd h (by rw [Nat.zero_div]; omega), fun j h => absurd h (by show ¬ j < 0; omega), fun j h => absurd h (by omega)⟩
theorem rr_J_skip {a2 : Nat → Int32} {lo i q o : Nat} {a9 : Nat → Int32} (h : rr_J a2 lo i q a9) (ho : o < 3) (e : a2 ((lo + i) % 12) = nI o) (hq : ¬ q / 2 ^ o % 2 = 0) : rr_J a2 lo (i + 1) q a9 := by
  obtain ⟨h1, h2, h3, h4⟩ := h
  refine ⟨h1, h2, h3, fun j hj x hx ex => ?_⟩
  by_cases ej : j = i
  · subst ej
    have : x = o := rr_nIne (by omega) (by omega) (ex.symm.trans e)
    subst this
    omega
  · exact h4 j (by omega) x hx ex
theorem rr_J_add {a2 : Nat → Int32} {lo i q o : Nat} {a9 : Nat → Int32} (h : rr_J a2 lo i q a9) (ho : o < 3) (e : a2 ((lo + i) % 12) = nI o) (hq : q / 2 ^ o % 2 = 0) : rr_J a2 lo (i + 1) (q + 2 ^ o) (upd a9 (rr_pc q) (nI o)) := by
  obtain ⟨h1, h2, h3, h4⟩ := h
  obtain ⟨p1, p2, p3⟩ := rr_pc1 q h1 o ho hq
  refine ⟨p2, fun x hx hb => ?_, fun j hj => ?_, fun j hj x hx ex => ?_⟩
  · rw [p1]
    rcases (rr_in1 q h1 o ho x hx hq).mp hb with z | z
    · exact ⟨rr_pc q, by omega, by rw [pk_us, z]⟩
    · obtain ⟨j, hj, ej⟩ := h2 x hx z
      exact ⟨j, by omega, by rw [pk_un (by omega)]; exact ej⟩
  · rw [p1] at hj
    by_cases ej : j = rr_pc q
    · exact ⟨o, ho, by rw [ej, pk_us]⟩
    · rw [pk_un ej]
      exact h3 j (by omega)
  · rw [rr_in1 q h1 o ho x hx hq]
    by_cases ej : j = i
    · subst ej
      exact Or.inl (rr_nIne (by omega) (by omega) (ex.symm.trans e))
    · exact Or.inr (h4 j (by omega) x hx ex)
theorem rr_J_all {a2 : Nat → Int32} {lo i q : Nat} {a9 : Nat → Int32} (h : rr_J a2 lo i q a9) (hb : ∀ x, x < 3 → q / 2 ^ x % 2 = 1) : rr_K a9 := by
  obtain ⟨h1, h2, h3, h4⟩ := h
  have p : rr_pc q = 3 := (rr_pc3 q h1).2.2 hb
  rw [p] at h2 h3
  exact ⟨h3, fun x hx => h2 x hx (hb x hx)⟩
theorem rr_J_3 {a2 : Nat → Int32} {lo i q : Nat} {a9 : Nat → Int32} (h : rr_J a2 lo i q a9) (hb : 3 ≤ rr_pc q) : rr_K a9 :=
  rr_J_all h ((rr_pc3 q h.1).1 hb)
theorem rr_J_12 {rs : Int32} {a2 : Nat → Int32} {lo q : Nat} {a9 : Nat → Int32} (h : rr_J a2 lo 12 q a9) (hG : rr_G rs a2) (hlo : lo ≤ 12) : rr_K a9 := by
  refine rr_J_all h (fun x hx => ?_)
  obtain ⟨i, hi, e⟩ := hG.2.2 x hx
  obtain ⟨j, hj, ej⟩ : ∃ j, j < 12 ∧ (lo + j) % 12 = i := ⟨(i + 12 - lo) % 12, by omega, by omega⟩
  exact h.2.2.2 j hj x hx (by rw [ej]; exact e)
theorem rr_half {lo hi : Nat} (h1 : lo ≤ 12) (h2 : hi ≤ 12) : (nI lo + nI hi) / 2 = nI ((lo + hi) / 2) := by
  rw [nI_add]
  exact pk_div (d := 2) (by omega) (by omega) (by omega)
theorem rr_fk75 {post : St2 → Prop} {f1 f2 f3 f4 f5 f6 f7 f8 f9 : Int32} {a1 a2 a3 a4 a5 a6 a7 a8 a9 a10 a11 a12 : Nat → Int32} {lo : Nat} (hG : rr_G f3 a2) (hlo : lo ≤ 12) (H : ∀ b9, rr_K b9 → post (f1, f2, f3, f4, f5, f6, f7, f8, f9, a1, a2, a3, a4, a5, a6, a7, a8, b9, a10, a11, a12)) : ∃ n, wX_findKeepers_75 post (nI lo) f1 f2 f3 f4 f5 f6 f7 f8 f9 n 0 0 0 a1 a2 a3 a4 a5 a6 a7 a8 a9 a10 a11 a12 := by
  have hG' := hG
  obtain ⟨e3, G1, G2⟩ := hG'
  subst e3
  refine pk_loop (fun n i (s : Nat × Nat × (Nat → Int32)) => wX_findKeepers_75 post (nI lo) f1 f2 (nI 12) f4 f5 f6 f7 f8 f9 n (nI s.1) (nI s.2.1) (nI i) a1 a2 a3 a4 a5 a6 a7 a8 s.2.2 a10 a11 a12) (fun i s => s.1 = rr_pc s.2.1 ∧ rr_J a2 lo i s.2.1 s.2.2) 12 0 (0, 0, a9) (by omega) ⟨(show (0 : Nat) = rr_pc 0 from rfl), rr_J_0 a2 lo a9⟩ ?_ ?_
  · intro n s h
    exact br_t (by decide) (H _ (rr_J_12 h.2 hG hlo))
  · intro n i s hi h hw
    obtain ⟨c, q, b9⟩ := s
    obtain ⟨ec, h⟩ := h
    have ec' : c = rr_pc q := ec
    subst ec'
    have hq : q < 8 := h.1
    have p3 := (rr_pc3 q hq).2.1
    refine pk_le 12 i (fun z => absurd z (by omega)) (fun _ => pk_le 3 (rr_pc q) (fun z => H _ (rr_J_3 h z)) (fun z => ⟨by decide, ?_⟩))
    obtain ⟨o, ho, eo⟩ := G1 ((lo + i) % 12) (by omega)
    have er : (nI lo + nI i) - (nI lo + nI i) / nI 12 * nI 12 = nI ((lo + i) % 12) := by
      rw [nI_add]
      exact pk_rem (by omega) (by omega) (by omega)
    rw [er, nI_clamp (show (lo + i) % 12 < 2 ^ 31 by omega)]
    refine ⟨vp_in_nI (by omega) (by omega), nm_r eo (br_c (fun z => ?_) (fun z => ?_))⟩
    · have hb : q / 2 ^ o % 2 = 0 := (rr_bit q hq o ho).mp z
      obtain ⟨p1, p2, _⟩ := rr_pc1 q hq o ho hb
      refine nm_r (rr_or q hq o ho hb) ⟨pk_in (rr_pc q) 3 (by omega), nm_r (e' := upd b9 (rr_pc q) (nI o)) (by rw [nI_clamp (show rr_pc q < 2 ^ 31 by omega), rr_b8 o ho]) (nm_r (e' := nI (rr_pc q + 1)) (nI_1 _) (nm_r (nI_1 i) (hw (rr_pc q + 1, q + 2 ^ o, _) ⟨p1.symm, rr_J_add h ho eo hb⟩)))⟩
    · exact nm_r (nI_1 i) (hw (rr_pc q, q, b9) ⟨rfl, rr_J_skip h ho eo (fun g => z ((rr_bit q hq o ho).mpr g))⟩)
theorem rr_fk {post : St2 → Prop} {f1 f2 f3 f4 f5 f6 f7 f8 f9 : Int32} {a1 a2 a3 a4 a5 a6 a7 a8 a9 a10 a11 a12 : Nat → Int32} {p : Int32} (hG : rr_G f3 a2) (H : ∀ b9, rr_K b9 → post (f1, f2, f3, f4, f5, f6, f7, f8, f9, a1, a2, a3, a4, a5, a6, a7, a8, b9, a10, a11, a12)) : wpX_findKeepers post (f1, f2, f3, f4, f5, f6, f7, f8, f9, a1, a2, a3, a4, a5, a6, a7, a8, a9, a10, a11, a12) p := by
  unfold wpX_findKeepers
  refine rr_mixed (fun r => ?_)
  have hG' := hG
  obtain ⟨e3, G1, G2⟩ := hG'
  subst e3
  refine pk_loop (fun n i (s : Nat × Nat) => wX_findKeepers_16 post r f1 f2 (nI 12) f4 f5 f6 f7 f8 f9 a1 a2 a3 a4 a5 a6 a7 a8 a9 a10 a11 a12 n (nI s.1) (nI s.2) (nI i)) (fun i s => s.1 ≤ 12 ∧ s.2 ≤ 12) 6 0 (0, 12) (by omega) ⟨by omega, by omega⟩ ?_ ?_
  · intro n s h
    exact br_t (by decide) (rr_fk75 hG h.1 H)
  · intro n i s hi h hw
    obtain ⟨lo, hh⟩ := s
    obtain ⟨h1, h2⟩ := h
    have h1' : lo ≤ 12 := h1
    have h2' : hh ≤ 12 := h2
    refine pk_le 6 i (fun z => absurd z (by omega)) (fun _ => pk_le hh lo (fun z => rr_fk75 hG h1' H) (fun z => ⟨rr_20, nm_r (rr_half h1' h2') ⟨vp_in_nI (by omega) (by omega), br_c (fun _ => ?_) (fun _ => ?_)⟩⟩))
    · exact nm_r (nI_1 i) (hw (lo, (lo + hh) / 2) ⟨h1', by show (lo + hh) / 2 ≤ 12; omega⟩)
    · exact nm_r (nI_1 _) (nm_r (nI_1 i) (hw ((lo + hh) / 2 + 1, hh) ⟨by show (lo + hh) / 2 + 1 ≤ 12; omega, h2'⟩))
theorem rr_fk75_2 {post : St2 → Prop} {f1 f2 f3 f4 f5 f6 f7 f8 f9 : Int32} {a1 a2 a3 a4 a5 a6 a7 a8 a9 a10 a11 a12 : Nat → Int32} {lo : Nat} (hG : rr_G f3 a2) (hlo : lo ≤ 12) (H : ∀ b9, rr_K b9 → post (f1, f2, f3, f4, f5, f6, f7, f8, f9, a1, a2, a3, a4, a5, a6, a7, a8, b9, a10, a11, a12)) : ∃ n, wX_findKeepers_2_75 post (nI lo) f1 f2 f3 f4 f5 f6 f7 f8 f9 n 0 0 0 a1 a2 a3 a4 a5 a6 a7 a8 a9 a10 a11 a12 := by
  have hG' := hG
  obtain ⟨e3, G1, G2⟩ := hG'
  subst e3
  refine pk_loop (fun n i (s : Nat × Nat × (Nat → Int32)) => wX_findKeepers_2_75 post (nI lo) f1 f2 (nI 12) f4 f5 f6 f7 f8 f9 n (nI s.1) (nI s.2.1) (nI i) a1 a2 a3 a4 a5 a6 a7 a8 s.2.2 a10 a11 a12) (fun i s => s.1 = rr_pc s.2.1 ∧ rr_J a2 lo i s.2.1 s.2.2) 12 0 (0, 0, a9) (by omega) ⟨(show (0 : Nat) = rr_pc 0 from rfl), rr_J_0 a2 lo a9⟩ ?_ ?_
  · intro n s h
    exact br_t (by decide) (H _ (rr_J_12 h.2 hG hlo))
  · intro n i s hi h hw
    obtain ⟨c, q, b9⟩ := s
    obtain ⟨ec, h⟩ := h
    have ec' : c = rr_pc q := ec
    subst ec'
    have hq : q < 8 := h.1
    have p3 := (rr_pc3 q hq).2.1
    refine pk_le 12 i (fun z => absurd z (by omega)) (fun _ => pk_le 3 (rr_pc q) (fun z => H _ (rr_J_3 h z)) (fun z => ⟨by decide, ?_⟩))
    obtain ⟨o, ho, eo⟩ := G1 ((lo + i) % 12) (by omega)
    have er : (nI lo + nI i) - (nI lo + nI i) / nI 12 * nI 12 = nI ((lo + i) % 12) := by
      rw [nI_add]
      exact pk_rem (by omega) (by omega) (by omega)
    rw [er, nI_clamp (show (lo + i) % 12 < 2 ^ 31 by omega)]
    refine ⟨vp_in_nI (by omega) (by omega), nm_r eo (br_c (fun z => ?_) (fun z => ?_))⟩
    · have hb : q / 2 ^ o % 2 = 0 := (rr_bit q hq o ho).mp z
      obtain ⟨p1, p2, _⟩ := rr_pc1 q hq o ho hb
      refine nm_r (rr_or q hq o ho hb) ⟨pk_in (rr_pc q) 3 (by omega), nm_r (e' := upd b9 (rr_pc q) (nI o)) (by rw [nI_clamp (show rr_pc q < 2 ^ 31 by omega), rr_b8 o ho]) (nm_r (e' := nI (rr_pc q + 1)) (nI_1 _) (nm_r (nI_1 i) (hw (rr_pc q + 1, q + 2 ^ o, _) ⟨p1.symm, rr_J_add h ho eo hb⟩)))⟩
    · exact nm_r (nI_1 i) (hw (rr_pc q, q, b9) ⟨rfl, rr_J_skip h ho eo (fun g => z ((rr_bit q hq o ho).mpr g))⟩)
theorem rr_fk_2 {post : St2 → Prop} {f1 f2 f3 f4 f5 f6 f7 f8 f9 : Int32} {a1 a2 a3 a4 a5 a6 a7 a8 a9 a10 a11 a12 : Nat → Int32} {p : Int32} (hG : rr_G f3 a2) (H : ∀ b9, rr_K b9 → post (f1, f2, f3, f4, f5, f6, f7, f8, f9, a1, a2, a3, a4, a5, a6, a7, a8, b9, a10, a11, a12)) : wpX_findKeepers_2 post (f1, f2, f3, f4, f5, f6, f7, f8, f9, a1, a2, a3, a4, a5, a6, a7, a8, a9, a10, a11, a12) p := by
  unfold wpX_findKeepers_2
  refine rr_mixed (fun r => ?_)
  have hG' := hG
  obtain ⟨e3, G1, G2⟩ := hG'
  subst e3
  refine pk_loop (fun n i (s : Nat × Nat) => wX_findKeepers_2_16 post r f1 f2 (nI 12) f4 f5 f6 f7 f8 f9 a1 a2 a3 a4 a5 a6 a7 a8 a9 a10 a11 a12 n (nI s.1) (nI s.2) (nI i)) (fun i s => s.1 ≤ 12 ∧ s.2 ≤ 12) 6 0 (0, 12) (by omega) ⟨by omega, by omega⟩ ?_ ?_
  · intro n s h
    exact br_t (by decide) (rr_fk75_2 hG h.1 H)
  · intro n i s hi h hw
    obtain ⟨lo, hh⟩ := s
    obtain ⟨h1, h2⟩ := h
    have h1' : lo ≤ 12 := h1
    have h2' : hh ≤ 12 := h2
    refine pk_le 6 i (fun z => absurd z (by omega)) (fun _ => pk_le hh lo (fun z => rr_fk75_2 hG h1' H) (fun z => ⟨rr_20, nm_r (rr_half h1' h2') ⟨vp_in_nI (by omega) (by omega), br_c (fun _ => ?_) (fun _ => ?_)⟩⟩))
    · exact nm_r (nI_1 i) (hw (lo, (lo + hh) / 2) ⟨h1', by show (lo + hh) / 2 ≤ 12; omega⟩)
    · exact nm_r (nI_1 _) (nm_r (nI_1 i) (hw ((lo + hh) / 2 + 1, hh) ⟨by show (lo + hh) / 2 + 1 ≤ 12; omega, h2'⟩))
theorem rr_fk75_3 {post : St2 → Prop} {f1 f2 f3 f4 f5 f6 f7 f8 f9 : Int32} {a1 a2 a3 a4 a5 a6 a7 a8 a9 a10 a11 a12 : Nat → Int32} {lo : Nat} (hG : rr_G f3 a2) (hlo : lo ≤ 12) (H : ∀ b9, rr_K b9 → post (f1, f2, f3, f4, f5, f6, f7, f8, f9, a1, a2, a3, a4, a5, a6, a7, a8, b9, a10, a11, a12)) : ∃ n, wX_findKeepers_3_75 post (nI lo) f1 f2 f3 f4 f5 f6 f7 f8 f9 n 0 0 0 a1 a2 a3 a4 a5 a6 a7 a8 a9 a10 a11 a12 := by
  have hG' := hG
  obtain ⟨e3, G1, G2⟩ := hG'
  subst e3
  refine pk_loop (fun n i (s : Nat × Nat × (Nat → Int32)) => wX_findKeepers_3_75 post (nI lo) f1 f2 (nI 12) f4 f5 f6 f7 f8 f9 n (nI s.1) (nI s.2.1) (nI i) a1 a2 a3 a4 a5 a6 a7 a8 s.2.2 a10 a11 a12) (fun i s => s.1 = rr_pc s.2.1 ∧ rr_J a2 lo i s.2.1 s.2.2) 12 0 (0, 0, a9) (by omega) ⟨(show (0 : Nat) = rr_pc 0 from rfl), rr_J_0 a2 lo a9⟩ ?_ ?_
  · intro n s h
    exact br_t (by decide) (H _ (rr_J_12 h.2 hG hlo))
  · intro n i s hi h hw
    obtain ⟨c, q, b9⟩ := s
    obtain ⟨ec, h⟩ := h
    have ec' : c = rr_pc q := ec
    subst ec'
    have hq : q < 8 := h.1
    have p3 := (rr_pc3 q hq).2.1
    refine pk_le 12 i (fun z => absurd z (by omega)) (fun _ => pk_le 3 (rr_pc q) (fun z => H _ (rr_J_3 h z)) (fun z => ⟨by decide, ?_⟩))
    obtain ⟨o, ho, eo⟩ := G1 ((lo + i) % 12) (by omega)
    have er : (nI lo + nI i) - (nI lo + nI i) / nI 12 * nI 12 = nI ((lo + i) % 12) := by
      rw [nI_add]
      exact pk_rem (by omega) (by omega) (by omega)
    rw [er, nI_clamp (show (lo + i) % 12 < 2 ^ 31 by omega)]
    refine ⟨vp_in_nI (by omega) (by omega), nm_r eo (br_c (fun z => ?_) (fun z => ?_))⟩
    · have hb : q / 2 ^ o % 2 = 0 := (rr_bit q hq o ho).mp z
      obtain ⟨p1, p2, _⟩ := rr_pc1 q hq o ho hb
      refine nm_r (rr_or q hq o ho hb) ⟨pk_in (rr_pc q) 3 (by omega), nm_r (e' := upd b9 (rr_pc q) (nI o)) (by rw [nI_clamp (show rr_pc q < 2 ^ 31 by omega), rr_b8 o ho]) (nm_r (e' := nI (rr_pc q + 1)) (nI_1 _) (nm_r (nI_1 i) (hw (rr_pc q + 1, q + 2 ^ o, _) ⟨p1.symm, rr_J_add h ho eo hb⟩)))⟩
    · exact nm_r (nI_1 i) (hw (rr_pc q, q, b9) ⟨rfl, rr_J_skip h ho eo (fun g => z ((rr_bit q hq o ho).mpr g))⟩)
theorem rr_fk_3 {post : St2 → Prop} {f1 f2 f3 f4 f5 f6 f7 f8 f9 : Int32} {a1 a2 a3 a4 a5 a6 a7 a8 a9 a10 a11 a12 : Nat → Int32} {p : Int32} (hG : rr_G f3 a2) (H : ∀ b9, rr_K b9 → post (f1, f2, f3, f4, f5, f6, f7, f8, f9, a1, a2, a3, a4, a5, a6, a7, a8, b9, a10, a11, a12)) : wpX_findKeepers_3 post (f1, f2, f3, f4, f5, f6, f7, f8, f9, a1, a2, a3, a4, a5, a6, a7, a8, a9, a10, a11, a12) p := by
  unfold wpX_findKeepers_3
  refine rr_mixed (fun r => ?_)
  have hG' := hG
  obtain ⟨e3, G1, G2⟩ := hG'
  subst e3
  refine pk_loop (fun n i (s : Nat × Nat) => wX_findKeepers_3_16 post r f1 f2 (nI 12) f4 f5 f6 f7 f8 f9 a1 a2 a3 a4 a5 a6 a7 a8 a9 a10 a11 a12 n (nI s.1) (nI s.2) (nI i)) (fun i s => s.1 ≤ 12 ∧ s.2 ≤ 12) 6 0 (0, 12) (by omega) ⟨by omega, by omega⟩ ?_ ?_
  · intro n s h
    exact br_t (by decide) (rr_fk75_3 hG h.1 H)
  · intro n i s hi h hw
    obtain ⟨lo, hh⟩ := s
    obtain ⟨h1, h2⟩ := h
    have h1' : lo ≤ 12 := h1
    have h2' : hh ≤ 12 := h2
    refine pk_le 6 i (fun z => absurd z (by omega)) (fun _ => pk_le hh lo (fun z => rr_fk75_3 hG h1' H) (fun z => ⟨rr_20, nm_r (rr_half h1' h2') ⟨vp_in_nI (by omega) (by omega), br_c (fun _ => ?_) (fun _ => ?_)⟩⟩))
    · exact nm_r (nI_1 i) (hw (lo, (lo + hh) / 2) ⟨h1', by show (lo + hh) / 2 ≤ 12; omega⟩)
    · exact nm_r (nI_1 _) (nm_r (nI_1 i) (hw ((lo + hh) / 2 + 1, hh) ⟨by show (lo + hh) / 2 + 1 ≤ 12; omega, h2'⟩))
theorem rr_keeps {post : Int32 → St2 → Prop} {f1 f2 f3 f4 f5 f6 f7 f8 f9 : Int32} {a1 a2 a3 a4 a5 a6 a7 a8 a9 a10 a11 a12 : Nat → Int32} {p : Int32} {x : Nat} (hG : rr_G f3 a2) (hx : x < 3) (H : ∀ b9, rr_K b9 → post 1 (f1, f2, f3, f4, f5, f6, f7, f8, f9, a1, a2, a3, a4, a5, a6, a7, a8, b9, a10, a11, a12)) : wpX_keeps post (f1, f2, f3, f4, f5, f6, f7, f8, f9, a1, a2, a3, a4, a5, a6, a7, a8, a9, a10, a11, a12) (nI x) p := by
  refine rr_fk_2 hG (fun b9 hK => ?_)
  refine br_c (fun _ => H b9 hK) (fun n0 => br_c (fun _ => H b9 hK) (fun n1 => br_c (fun _ => H b9 hK) (fun n2 => ?_)))
  obtain ⟨j, hj, e⟩ := hK.2 x hx
  have hj' : j = 0 ∨ j = 1 ∨ j = 2 := by omega
  rcases hj' with z | z | z
  · exact absurd (by rw [z] at e; exact e) n0
  · exact absurd (by rw [z] at e; exact e) n1
  · exact absurd (by rw [z] at e; exact e) n2
theorem rr_keeps_2 {post : Int32 → St2 → Prop} {f1 f2 f3 f4 f5 f6 f7 f8 f9 : Int32} {a1 a2 a3 a4 a5 a6 a7 a8 a9 a10 a11 a12 : Nat → Int32} {p : Int32} {x : Nat} (hG : rr_G f3 a2) (hx : x < 3) (H : ∀ b9, rr_K b9 → post 1 (f1, f2, f3, f4, f5, f6, f7, f8, f9, a1, a2, a3, a4, a5, a6, a7, a8, b9, a10, a11, a12)) : wpX_keeps_2 post (f1, f2, f3, f4, f5, f6, f7, f8, f9, a1, a2, a3, a4, a5, a6, a7, a8, a9, a10, a11, a12) (nI x) p := by
  refine rr_fk_3 hG (fun b9 hK => ?_)
  refine br_c (fun _ => H b9 hK) (fun n0 => br_c (fun _ => H b9 hK) (fun n1 => br_c (fun _ => H b9 hK) (fun n2 => ?_)))
  obtain ⟨j, hj, e⟩ := hK.2 x hx
  have hj' : j = 0 ∨ j = 1 ∨ j = 2 := by omega
  rcases hj' with z | z | z
  · exact absurd (by rw [z] at e; exact e) n0
  · exact absurd (by rw [z] at e; exact e) n1
  · exact absurd (by rw [z] at e; exact e) n2
theorem rr_keeps_3 {post : Int32 → St2 → Prop} {f1 f2 f3 f4 f5 f6 f7 f8 f9 : Int32} {a1 a2 a3 a4 a5 a6 a7 a8 a9 a10 a11 a12 : Nat → Int32} {p : Int32} {x : Nat} (hG : rr_G f3 a2) (hx : x < 3) (H : ∀ b9, rr_K b9 → post 1 (f1, f2, f3, f4, f5, f6, f7, f8, f9, a1, a2, a3, a4, a5, a6, a7, a8, b9, a10, a11, a12)) : wpX_keeps_3 post (f1, f2, f3, f4, f5, f6, f7, f8, f9, a1, a2, a3, a4, a5, a6, a7, a8, a9, a10, a11, a12) (nI x) p := by
  refine rr_fk hG (fun b9 hK => ?_)
  refine br_c (fun _ => H b9 hK) (fun n0 => br_c (fun _ => H b9 hK) (fun n1 => br_c (fun _ => H b9 hK) (fun n2 => ?_)))
  obtain ⟨j, hj, e⟩ := hK.2 x hx
  have hj' : j = 0 ∨ j = 1 ∨ j = 2 := by omega
  rcases hj' with z | z | z
  · exact absurd (by rw [z] at e; exact e) n0
  · exact absurd (by rw [z] at e; exact e) n1
  · exact absurd (by rw [z] at e; exact e) n2
theorem rr_leaf {post : Int32 → St2 → Prop} {f1 f2 f3 f4 f5 f6 f7 f8 f9 : Int32} {a1 a2 a3 a4 a5 a6 a7 a8 a9 a10 a11 a12 : Nat → Int32} {x y j : Nat} (hG : rr_G f3 a2) (hx : x < 3) (hy : y < 3) (hj : j < 16) (H : ∀ r b9, post r (f1, f2, f3, f4, f5, f6, f7, f8, f9, a1, a2, a3, a4, a5, a6, a7, a8, b9, a10, a11, a12)) : wpX_leaf post (f1, f2, f3, f4, f5, f6, f7, f8, f9, a1, a2, a3, a4, a5, a6, a7, a8, a9, a10, a11, a12) (nI x) (nI y) (nI j) := by
  refine nm_r (rr_ix x j) (rr_keeps hG hx (fun b9 _ => br_f rr_10 (rr_keeps hG hy (fun c9 _ => br_f rr_10 ?_))))
  have hin : vp_in (nI (x * 16 + j)) 96 := vp_in_nI (by omega) (by omega)
  refine br_f rr_10 ⟨hin, br_c (fun _ => H 0 c9) (fun _ => ⟨hin, hin, hin, nm_e (br_c (fun _ => H _ c9) (fun _ => H _ c9))⟩)⟩
theorem rr_leaf_2 {post : Int32 → St2 → Prop} {f1 f2 f3 f4 f5 f6 f7 f8 f9 : Int32} {a1 a2 a3 a4 a5 a6 a7 a8 a9 a10 a11 a12 : Nat → Int32} {x y j : Nat} (hG : rr_G f3 a2) (hx : x < 3) (hy : y < 3) (hj : j < 16) (H : ∀ r b9, post r (f1, f2, f3, f4, f5, f6, f7, f8, f9, a1, a2, a3, a4, a5, a6, a7, a8, b9, a10, a11, a12)) : wpX_leaf_2 post (f1, f2, f3, f4, f5, f6, f7, f8, f9, a1, a2, a3, a4, a5, a6, a7, a8, a9, a10, a11, a12) (nI x) (nI y) (nI j) := by
  refine nm_r (rr_ix x j) (rr_keeps_2 hG hx (fun b9 _ => br_f rr_10 (rr_keeps_2 hG hy (fun c9 _ => br_f rr_10 ?_))))
  have hin : vp_in (nI (x * 16 + j)) 96 := vp_in_nI (by omega) (by omega)
  refine br_f rr_10 ⟨hin, br_c (fun _ => H 0 c9) (fun _ => ⟨hin, hin, hin, nm_e (br_c (fun _ => H _ c9) (fun _ => H _ c9))⟩)⟩
/-! ===== the trees of sums: whatever they hold ===== -/
theorem rr_grow49 {post : St2 → Prop} {f1 f2 f3 f4 f5 f6 f7 f8 f9 : Int32} {a1 a2 a3 a4 a5 a6 a7 a8 a9 a10 a11 a12 : Nat → Int32} (H : ∀ b10 b11, post (f1, f2, f3, f4, f5, f6, f7, f8, f9, a1, a2, a3, a4, a5, a6, a7, a8, a9, b10, b11, a12)) : ∃ n, wX_growTrees_49 post f1 f2 f3 f4 f5 f6 f7 f8 f9 n 14 a1 a2 a3 a4 a5 a6 a7 a8 a9 a10 a11 a12 := by
  refine ⟨16, pk_loopD (fun n i (s : (Nat → Int32) × (Nat → Int32)) => wX_growTrees_49 post f1 f2 f3 f4 f5 f6 f7 f8 f9 n (nI i + (-1)) a1 a2 a3 a4 a5 a6 a7 a8 a9 s.1 s.2 a12) (fun i s => i ≤ 15) ?_ ?_ 15 (a10, a11) (by omega)⟩
  · intro n s h
    exact br_t (by decide) (H _ _)
  · intro n i s h hw
    show wX_growTrees_49 post f1 f2 f3 f4 f5 f6 f7 f8 f9 (n + 1) (nI (i + 1) + (-1)) a1 a2 a3 a4 a5 a6 a7 a8 a9 s.1 s.2 a12
    rw [pk_m1]
    have i1 : vp_in ((2 : Int32) * nI i + 1) 31 := pk_in (2 * i + 1) 31 (by omega) (rr_21 i)
    have i2 : vp_in ((2 : Int32) * nI i + 2) 31 := pk_in (2 * i + 2) 31 (by omega) (rr_22 i)
    have i3 : vp_in (nI i) 31 := pk_in i 31 (by omega)
    exact br_f (nI_pos (by omega)) ⟨i1, i2, i3, nm_e ⟨i1, i2, i3, nm_e (nm_e (hw (_, _) (by omega)))⟩⟩
theorem rr_grow {post : St2 → Prop} {f1 f2 f3 f4 f5 f6 f7 f8 f9 : Int32} {a1 a2 a3 a4 a5 a6 a7 a8 a9 a10 a11 a12 : Nat → Int32} {x y : Nat} (hG : rr_G f3 a2) (hx : x < 3) (hy : y < 3) (H : ∀ b9 b10 b11, post (f1, f2, f3, f4, f5, f6, f7, f8, f9, a1, a2, a3, a4, a5, a6, a7, a8, b9, b10, b11, a12)) : wpX_growTrees post (f1, f2, f3, f4, f5, f6, f7, f8, f9, a1, a2, a3, a4, a5, a6, a7, a8, a9, a10, a11, a12) (nI x) (nI y) := by
  refine pk_loop (fun n i (s : (Nat → Int32) × (Nat → Int32) × (Nat → Int32)) => wX_growTrees_2 post (nI x) (nI y) n (nI i) f1 f2 f3 f4 f5 f6 f7 f8 f9 a1 a2 a3 a4 a5 a6 a7 a8 s.1 s.2.1 s.2.2 a12) (fun _ _ => True) 16 0 (a9, a10, a11) (by omega) trivial ?_ ?_
  · intro n s _
    exact br_t (by decide) (rr_grow49 (fun b10 b11 => H _ _ _))
  · intro n i s hi _ hw
    have i1 : vp_in ((15 : Int32) + nI i) 31 := pk_in (15 + i) 31 (by omega) (rr_15 i)
    exact pk_le 16 i (fun z => absurd z (by omega)) (fun _ => rr_leaf hG hx hy hi (fun r b9 => ⟨i1, nm_e (rr_leaf_2 hG hy hx hi (fun r2 c9 => ⟨i1, nm_e (nm_r (nI_1 i) (hw (_, _, _) trivial))⟩))⟩))
end
section
/-! ===== readNewest(c, j): c itself has the top stamp, and hears itself ===== -/
theorem rr_S_G {tt : Nat → Nat} {vv : Nat → Int32} {P : Nat → Nat → Prop} {w : Int32} {l : Nat} {f1 f2 f3 f4 f5 f6 f7 f8 f9 : Int32} {a1 a2 a3 a4 a5 a6 a7 a8 a9 a10 a11 a12 : Nat → Int32} (h : rr_S tt vv P w l (f1, f2, f3, f4, f5, f6, f7, f8, f9, a1, a2, a3, a4, a5, a6, a7, a8, a9, a10, a11, a12)) : rr_G f3 a2 := by
  obtain ⟨h1, h2, h3, h4, h5, h6, h7, q, hq, h8⟩ := h
  exact h5
/-- other keepers, other trees, other work: the same picture -/
theorem rr_S_w {tt : Nat → Nat} {vv : Nat → Int32} {P : Nat → Nat → Prop} {w : Int32} {l : Nat} {f1 f2 f3 f4 f5 f6 f7 f8 f9 : Int32} {a1 a2 a3 a4 a5 a6 a7 a8 a9 a10 a11 a12 : Nat → Int32} {g4 g5 g6 g7 : Int32} {b1 b9 b10 b11 b12 : Nat → Int32} (h : rr_S tt vv P w l (f1, f2, f3, f4, f5, f6, f7, f8, f9, a1, a2, a3, a4, a5, a6, a7, a8, a9, a10, a11, a12)) : rr_S tt vv P w l (f1, f2, f3, g4, g5, g6, g7, f8, f9, b1, a2, a3, a4, a5, a6, a7, a8, b9, b10, b11, b12) := by
  obtain ⟨h1, h2, h3, h4, h5, h6, h7, q, hq, h8⟩ := h
  exact ⟨h1, h2, h3, h4, h5, h6, h7, q, hq, h8⟩
theorem rr_N_w {tt : Nat → Nat} {vv : Nat → Int32} {j : Nat} {f5 f6 f7 : Int32} {b b' : Prop} (h : rr_N tt vv j f5 f6 f7 b) (hb : b' → b) : rr_N tt vv j f5 f6 f7 b' := by
  obtain ⟨h1, t, h2, h3, h4, h5⟩ := h
  exact ⟨h1, t, h2, h3, h4, fun z => h5 (hb z)⟩
theorem rr_N_0 (tt : Nat → Nat) (vv : Nat → Int32) (j : Nat) (v : Int32) : rr_N tt vv j 0 v 0 False :=
  ⟨rfl, 0, rfl, Nat.zero_le _, fun _ z => absurd rfl z, fun z => z.elim⟩
theorem rr_rn118 {post : St2 → Prop} {tt : Nat → Nat} {vv : Nat → Int32} {P : Nat → Nat → Prop} {w : Int32} {l c j : Nat} {u : St2} (hc : c < 3) (hj : j < 16) (hS : rr_S tt vv P w l u) (hN : rr_Nu tt vv j True u) (hK : rr_Ku u)
    (H : ∀ u', rr_S tt vv P w l u' → rr_Nu tt vv j True u' → rr_Ku u' → post u') : ∃ n, rr_ap (wX_readNewest_118 post (nI c) (nI j) n 0) u := by
  refine pk_loop (fun n i u => rr_ap (wX_readNewest_118 post (nI c) (nI j) n (nI i)) u) (fun i u => rr_S tt vv P w l u ∧ rr_Nu tt vv j True u ∧ rr_Ku u) 3 0 u (by omega) ⟨hS, hN, hK⟩ ?_ ?_
  · intro n u h
    obtain ⟨f1, f2, f3, f4, f5, f6, f7, f8, f9, a1, a2, a3, a4, a5, a6, a7, a8, a9, a10, a11, a12⟩ := u
    exact br_t (by decide) (H _ h.1 h.2.1 h.2.2)
  · intro n i u hi h hw
    obtain ⟨f1, f2, f3, f4, f5, f6, f7, f8, f9, a1, a2, a3, a4, a5, a6, a7, a8, a9, a10, a11, a12⟩ := u
    obtain ⟨hS, hN, hK⟩ := h
    obtain ⟨m, hm, em⟩ := hK.1 i hi
    have em' : a9 (nI i).toNatClampNeg = nI m := by rw [nI_clamp (by omega)]; exact em
    have nx : rr_ap (wX_readNewest_118 post (nI c) (nI j) n (nI (i + 1))) (f1, f2, f3, f4, f5, f6, f7, f8, f9, a1, a2, a3, a4, a5, a6, a7, a8, a9, a10, a11, a12) := hw _ ⟨hS, hN, hK⟩
    refine pk_le 3 i (fun z => absurd z (by omega)) (fun _ => ⟨pk_in i 3 hi, nm_r em' (br_c (fun _ => br_t rfl (nm_r (nI_1 i) nx)) (fun _ => br_f rr_10 ⟨pk_in (m * 16 + j) 96 (by omega) (rr_ix m j), br_c (fun _ => nm_r (nI_1 i) nx) (fun _ => ?_)⟩))⟩)
    obtain ⟨h1, h2, h3, h4, h5, h6, h7, q, hq, h8⟩ := hS
    refine rr_ct (by omega) (by omega) (by omega) h8 (fun r g8 q' hq' hr => ?_)
    rcases hr with e | ⟨e, _⟩
    · subst e
      refine br_f rr_10 (rr_store h1 hm hj h6 hN (fun b3 b4 b5 hM => ?_))
      exact nm_r (nI_1 i) (hw (f1, f2, f3, f4, f5, f6, f7, g8, nI q', a1, a2, b3, b4, b5, a6, a7, a8, a9, a10, a11, a12) ⟨⟨h1, h2, h3, h4, h5, rr_M_mono hM (fun y i _ _ z => Or.inl z), h7, q', by omega, rfl⟩, hN, hK⟩)
    · subst e
      exact br_t rfl (nm_r (nI_1 i) (hw (f1, f2, f3, f4, f5, f6, f7, g8, nI q', a1, a2, a3, a4, a5, a6, a7, a8, a9, a10, a11, a12) ⟨⟨h1, h2, h3, h4, h5, h6, h7, q', by omega, rfl⟩, hN, hK⟩))
/-- within a round, ahead of the keeper at i: c has been heard, or stands at i or behind it and has not answered -/
def rr_D (tt : Nat → Nat) (vv : Nat → Int32) (c j i : Nat) (f4 f5 f6 f7 : Int32) (a9 : Nat → Int32) : Prop :=
  rr_N tt vv j f5 f6 f7 True ∨ (rr_N tt vv j f5 f6 f7 False ∧ (∃ q, q < 2 ^ i ∧ f4 = nI q) ∧ ∃ i', i ≤ i' ∧ i' < 3 ∧ a9 i' = nI c)
def rr_Du (tt : Nat → Nat) (vv : Nat → Int32) (c j i : Nat) (u : St2) : Prop := match u with
  | (f1, f2, f3, f4, f5, f6, f7, f8, f9, a1, a2, a3, a4, a5, a6, a7, a8, a9, a10, a11, a12) => rr_D tt vv c j i f4 f5 f6 f7 a9
theorem rr_D_next {tt : Nat → Nat} {vv : Nat → Int32} {c j i m : Nat} {f4 f5 f6 f7 : Int32} {a9 : Nat → Int32} (h : rr_D tt vv c j i f4 f5 f6 f7 a9) (hm : m < 3) (hc : c < 3) (em : a9 i = nI m) (ne : m ≠ c) : rr_D tt vv c j (i + 1) f4 f5 f6 f7 a9 := by
  rcases h with h | ⟨h1, ⟨q, hq, eq⟩, i', g1, g2, g3⟩
  · exact Or.inl h
  · refine Or.inr ⟨h1, ⟨q, (rr_p2 i q hq).1, eq⟩, i', ?_, g2, g3⟩
    rcases Nat.lt_or_ge i i' with z | z
    · exact z
    · have e : i = i' := by omega
      subst e
      exact absurd (rr_nIne (by omega) (by omega) (em.symm.trans g3)) ne
theorem rr_rn31 {post : St2 → Prop} {J : Int32 → rr_T} {tt : Nat → Nat} {vv : Nat → Int32} {P : Nat → Nat → Prop} {w : Int32} {l c j r : Nat} {u : St2} (hc : c < 3) (hj : j < 16) (hP : P c j) (hw : ¬ ((w >>> (nI c &&& 31)) &&& 1) = 0) (hS : rr_S tt vv P w l u) (hK : rr_Ku u) (hD : rr_Du tt vv c j 0 u)
    (HJ : ∀ u', rr_S tt vv P w l u' → rr_Nu tt vv j True u' → rr_Ku u' → rr_ap (J (nI (r + 1))) u') : ∃ n, rr_ap (wX_readNewest_31 post J (nI c) (nI j) (nI r) n 0) u := by
  refine pk_loop (fun n i u => rr_ap (wX_readNewest_31 post J (nI c) (nI j) (nI r) n (nI i)) u) (fun i u => rr_S tt vv P w l u ∧ rr_Ku u ∧ rr_Du tt vv c j i u) 3 0 u (by omega) ⟨hS, hK, hD⟩ ?_ ?_
  · intro n u h
    obtain ⟨f1, f2, f3, f4, f5, f6, f7, f8, f9, a1, a2, a3, a4, a5, a6, a7, a8, a9, a10, a11, a12⟩ := u
    obtain ⟨hS, hK, hD⟩ := h
    refine br_t (by decide) (nm_r (nI_1 r) (HJ _ hS ?_ hK))
    rcases hD with h | ⟨_, _, i', g1, g2, _⟩
    · exact h
    · omega
  · intro n i u hi h hwk
    obtain ⟨f1, f2, f3, f4, f5, f6, f7, f8, f9, a1, a2, a3, a4, a5, a6, a7, a8, a9, a10, a11, a12⟩ := u
    obtain ⟨hS, hK, hD⟩ := h
    have hS' := hS
    obtain ⟨h1, h2, h3, h4, h5, h6, h7, q, hq, h8⟩ := hS'
    subst h4
    obtain ⟨m, hm, em⟩ := hK.1 i hi
    have em' : a9 (nI i).toNatClampNeg = nI m := by rw [nI_clamp (by omega)]; exact em
    refine pk_le 3 i (fun z => absurd z (by omega)) (fun _ => ⟨pk_in i 3 hi, nm_r em' (rr_isW rfl (by omega) (fun z => br_t rfl (nm_r (nI_1 i) ?_)) (fun z => br_f rr_10 (br_c (fun z2 => br_t rfl ?_) (fun z2 => br_f rr_10 (nm_r (nI_1 i) ?_)))))⟩)
    · refine hwk (f1, f2, f3, f4, f5, f6, f7, f8, f9, a1, a2, a3, a4, a5, a6, a7, a8, a9, a10, a11, a12) ⟨hS, hK, rr_D_next hD hm hc em (fun e => ?_)⟩
      rw [e] at z
      exact hw z
    · refine rr_ct (by omega) (by omega) (by omega) h8 (fun r1 g8 q' hq' hr => ?_)
      rcases hr with e | ⟨e, _, ne⟩
      · subst e
        refine br_f rr_10 (rr_ct (by omega) (by omega) (by omega) rfl (fun r2 k8 q2 hq2 hr2 => ?_))
        rcases hr2 with e | ⟨e, _, ne⟩
        · subst e
          refine br_f rr_10 (nm_e ?_)
          have hN0 : rr_N tt vv j f5 f6 f7 False := by
            rcases hD with h | h
            · exact rr_N_w h (fun z => z.elim)
            · exact h.1
          have hS2 : ∀ g4 g5 g6 g7, rr_S tt vv P f2 l (f1, f2, f3, g4, g5, g6, g7, k8, nI q2, a1, a2, a3, a4, a5, a6, a7, a8, a9, a10, a11, a12) := fun g4 g5 g6 g7 => ⟨h1, h2, h3, rfl, h5, h6, h7, q2, by omega, rfl⟩
          rcases hD with h | h
          · refine rr_hear h1 hm hj h6 h (fun g5 g6 g7 hN => nm_r (nI_1 i) (hwk (f1, f2, f3, f4 ||| ((1 : Int32) <<< (nI i &&& 31)), g5, g6, g7, k8, nI q2, a1, a2, a3, a4, a5, a6, a7, a8, a9, a10, a11, a12) ⟨hS2 _ _ _ _, hK, Or.inl (rr_N_w hN (fun z => Or.inl z))⟩))
          · by_cases e : m = c
            · subst e
              refine rr_hear h1 hm hj h6 hN0 (fun g5 g6 g7 hN => nm_r (nI_1 i) (hwk (f1, f2, f3, f4 ||| ((1 : Int32) <<< (nI i &&& 31)), g5, g6, g7, k8, nI q2, a1, a2, a3, a4, a5, a6, a7, a8, a9, a10, a11, a12) ⟨hS2 _ _ _ _, hK, Or.inl (rr_N_w hN (fun _ => Or.inr hP))⟩))
            · refine rr_hear h1 hm hj h6 hN0 (fun g5 g6 g7 hN => nm_r (nI_1 i) (hwk (f1, f2, f3, f4 ||| ((1 : Int32) <<< (nI i &&& 31)), g5, g6, g7, k8, nI q2, a1, a2, a3, a4, a5, a6, a7, a8, a9, a10, a11, a12) ⟨hS2 _ _ _ _, hK, ?_⟩))
              have hD2 : rr_D tt vv c j i f4 g5 g6 g7 a9 := Or.inr ⟨rr_N_w hN (fun z => z.elim), h.2.1, h.2.2⟩
              rcases rr_D_next hD2 hm hc em e with k | ⟨k1, _, k2⟩
              · exact Or.inl k
              · obtain ⟨p, hp, ep⟩ := h.2.1
                exact Or.inr ⟨k1, ⟨p + 2 ^ i, (rr_p2 i p hp).2, by rw [ep]; exact (rr_cl i hi p hp).2⟩, k2⟩
        · subst e
          exact br_t rfl (nm_r (nI_1 i) (hwk (f1, f2, f3, f4, f5, f6, f7, k8, nI q2, a1, a2, a3, a4, a5, a6, a7, a8, a9, a10, a11, a12) ⟨⟨h1, h2, h3, rfl, h5, h6, h7, q2, by omega, rfl⟩, hK, rr_D_next hD hm hc em ne⟩))
      · subst e
        exact br_t rfl (nm_r (nI_1 i) (hwk (f1, f2, f3, f4, f5, f6, f7, g8, nI q', a1, a2, a3, a4, a5, a6, a7, a8, a9, a10, a11, a12) ⟨⟨h1, h2, h3, rfl, h5, h6, h7, q', by omega, rfl⟩, hK, rr_D_next hD hm hc em (fun z => ne z.symm)⟩))
    · refine hwk (f1, f2, f3, f4, f5, f6, f7, f8, f9, a1, a2, a3, a4, a5, a6, a7, a8, a9, a10, a11, a12) ⟨hS, hK, ?_⟩
      rcases hD with h | ⟨_, ⟨p, hp, ep⟩, _⟩
      · exact Or.inl h
      · rw [ep] at z2
        exact absurd (rr_cl i hi p hp).1 z2
def rr_A0 (u : St2) : Prop := match u with
  | (f1, f2, f3, f4, f5, f6, f7, f8, f9, a1, a2, a3, a4, a5, a6, a7, a8, a9, a10, a11, a12) => f4 = 0
theorem rr_read {post : St2 → Prop} {tt : Nat → Nat} {vv : Nat → Int32} {P : Nat → Nat → Prop} {w : Int32} {l c j : Nat} {u : St2} (hc : c < 3) (hj : j < 16) (hP : P c j) (hw : ¬ ((w >>> (nI c &&& 31)) &&& 1) = 0) (hS : rr_S tt vv P w l u)
    (H : ∀ u', rr_S tt vv P w l u' → rr_Nu tt vv j True u' → rr_Ku u' → post u') : wpX_readNewest post u (nI c) (nI j) := by
  obtain ⟨f1, f2, f3, f4, f5, f6, f7, f8, f9, a1, a2, a3, a4, a5, a6, a7, a8, a9, a10, a11, a12⟩ := u
  refine rr_fk (rr_S_G hS) (fun b9 hK => ?_)
  refine pk_loop (fun n i u => rr_ap (wX_readNewest_11 post (nI c) (nI j) n (nI i)) u) (fun i u => rr_S tt vv P w l u ∧ rr_Ku u ∧ ((i = 0 ∧ rr_A0 u ∧ rr_Nu tt vv j False u) ∨ rr_Nu tt vv j True u)) 80 0 (f1, f2, f3, 0, 0, 0, 0, f8, f9, a1, a2, a3, a4, a5, a6, a7, a8, b9, a10, a11, a12) (by omega) ⟨rr_S_w hS, hK, Or.inl ⟨rfl, rfl, rr_N_0 tt vv j 0⟩⟩ ?_ ?_
  · intro n u h
    obtain ⟨f1', f2', f3', f4', f5', f6', f7', f8', f9', a1', a2', a3', a4', a5', a6', a7', a8', a9', a10', a11', a12'⟩ := u
    obtain ⟨hS, hK, hD⟩ := h
    refine br_t (by decide) ?_
    rcases hD with h | h
    · omega
    · exact rr_rn118 hc hj hS h hK H
  · intro n i u hi h hwk
    obtain ⟨f1', f2', f3', f4', f5', f6', f7', f8', f9', a1', a2', a3', a4', a5', a6', a7', a8', a9', a10', a11', a12'⟩ := u
    obtain ⟨hS, hK, hD⟩ := h
    refine pk_le 80 i (fun z => absurd z (by omega)) (fun _ => ?_)
    rcases hD with ⟨e0, e4, hN⟩ | hN
    · have e4' : f4' = 0 := e4
      subst e4'
      refine rr_ones0 (br_f (by decide) (rr_rn31 hc hj hP hw hS hK ?_ (fun u' k1 k2 k3 => hwk u' ⟨k1, k3, Or.inr k2⟩)))
      obtain ⟨i', g1, g2⟩ := hK.2 c hc
      exact Or.inr ⟨hN, ⟨0, by decide, rfl⟩, i', Nat.zero_le _, g1, g2⟩
    · exact rr_ones (fun r => br_c (fun _ => rr_rn118 hc hj hS hN hK H) (fun _ => rr_rn31 hc hj hP hw hS hK (Or.inl hN) (fun u' k1 k2 k3 => hwk u' ⟨k1, k3, Or.inr k2⟩)))
end
section
/-! ===== writeNewest(c, j, 2) while no message is lost: all working machines take the newest over; the others are given hints ===== -/
def rr_on (w : Int32) (x : Nat) : Prop := ¬ ((w >>> (nI x &&& 31)) &&& 1) = 0
theorem rr_wn121 {post : St2 → Prop} {tt : Nat → Nat} {vv : Nat → Int32} {P : Nat → Nat → Prop} {w : Int32} {c j : Nat} {u : St2} (hc : c < 3) (hj : j < 16) (hS : rr_S tt vv P w 0 u) (hN : rr_Nu tt vv j True u) (hK : rr_Ku u)
    (H : ∀ u', rr_S tt vv P w 0 u' → post u') : ∃ n, rr_ap (wX_writeNewest_121 post (nI c) (nI j) n 0) u := by
  refine pk_loop (fun n i u => rr_ap (wX_writeNewest_121 post (nI c) (nI j) n (nI i)) u) (fun i u => rr_S tt vv P w 0 u ∧ rr_Nu tt vv j True u ∧ rr_Ku u) 3 0 u (by omega) ⟨hS, hN, hK⟩ ?_ ?_
  · intro n u h
    obtain ⟨f1, f2, f3, f4, f5, f6, f7, f8, f9, a1, a2, a3, a4, a5, a6, a7, a8, a9, a10, a11, a12⟩ := u
    exact br_t (by decide) (H _ h.1)
  · intro n i u hi h hw
    obtain ⟨f1, f2, f3, f4, f5, f6, f7, f8, f9, a1, a2, a3, a4, a5, a6, a7, a8, a9, a10, a11, a12⟩ := u
    obtain ⟨hS, hN, hK⟩ := h
    obtain ⟨m, hm, em⟩ := hK.1 i hi
    have em' : a9 (nI i).toNatClampNeg = nI m := by rw [nI_clamp (by omega)]; exact em
    have nx : rr_ap (wX_writeNewest_121 post (nI c) (nI j) n (nI (i + 1))) (f1, f2, f3, f4, f5, f6, f7, f8, f9, a1, a2, a3, a4, a5, a6, a7, a8, a9, a10, a11, a12) := hw _ ⟨hS, hN, hK⟩
    refine pk_le 3 i (fun z => absurd z (by omega)) (fun _ => ⟨pk_in i 3 hi, rr_isW em' (by omega) (fun _ => br_t rfl ⟨pk_in i 3 hi, ?_⟩) (fun _ => br_f rr_10 (nm_r (nI_1 i) nx))⟩)
    obtain ⟨h1, h2, h3, h4, h5, h6, h7, q, hq, h8⟩ := hS
    refine rr_hint h1 em' hc hm hj h7 hN (fun b6 b7 b8 hH => ?_)
    exact nm_r (nI_1 i) (hw (f1, f2, f3, f4, f5, f6, f7, f8, f9, a1, a2, a3, a4, a5, b6, b7, b8, a9, a10, a11, a12) ⟨⟨h1, h2, h3, h4, h5, h6, hH, q, hq, h8⟩, hN, hK⟩)
/-- the machines that have it by the keeper at i -/
def rr_Pi (P : Nat → Nat → Prop) (w : Int32) (j i : Nat) (a9 : Nat → Int32) : Nat → Nat → Prop := fun y t => P y t ∨ (t = j ∧ rr_on w y ∧ ∃ i', i' < i ∧ a9 i' = nI y)
def rr_Pw (P : Nat → Nat → Prop) (w : Int32) (j : Nat) : Nat → Nat → Prop := fun y t => P y t ∨ (t = j ∧ rr_on w y)
def rr_E (tt : Nat → Nat) (vv : Nat → Int32) (P : Nat → Nat → Prop) (w : Int32) (j i : Nat) (u : St2) : Prop := match u with
  | (f1, f2, f3, f4, f5, f6, f7, f8, f9, a1, a2, a3, a4, a5, a6, a7, a8, a9, a10, a11, a12) => rr_S tt vv (rr_Pw P w j) w 0 (f1, f2, f3, f4, f5, f6, f7, f8, f9, a1, a2, a3, a4, a5, a6, a7, a8, a9, a10, a11, a12) ∨ ((∃ q, q < 2 ^ i ∧ f4 = nI q) ∧ rr_S tt vv (rr_Pi P w j i a9) w 0 (f1, f2, f3, f4, f5, f6, f7, f8, f9, a1, a2, a3, a4, a5, a6, a7, a8, a9, a10, a11, a12))
theorem rr_E_any {tt : Nat → Nat} {vv : Nat → Int32} {P : Nat → Nat → Prop} {w : Int32} {j i : Nat} {f1 f2 f3 f4 f5 f6 f7 f8 f9 : Int32} {a1 a2 a3 a4 a5 a6 a7 a8 a9 a10 a11 a12 : Nat → Int32} (h : rr_E tt vv P w j i (f1, f2, f3, f4, f5, f6, f7, f8, f9, a1, a2, a3, a4, a5, a6, a7, a8, a9, a10, a11, a12)) : rr_S tt vv P w 0 (f1, f2, f3, f4, f5, f6, f7, f8, f9, a1, a2, a3, a4, a5, a6, a7, a8, a9, a10, a11, a12) := by
  rcases h with h | ⟨_, h⟩
  · exact rr_S_mono h (by omega) (by omega) (fun y t _ _ z => Or.inl z)
  · exact rr_S_mono h (by omega) (by omega) (fun y t _ _ z => Or.inl z)
theorem rr_wn29 {post : St2 → Prop} {J : Int32 → rr_T} {x3 : Int32} {tt : Nat → Nat} {vv : Nat → Int32} {P : Nat → Nat → Prop} {w : Int32} {c j r : Nat} {u : St2} (hc : c < 3) (hj : j < 16) (hN : rr_Nu tt vv j True u) (hK : rr_Ku u) (hE : rr_E tt vv P w j 0 u)
    (HJ : ∀ u', rr_S tt vv (rr_Pw P w j) w 0 u' → rr_Nu tt vv j True u' → rr_Ku u' → rr_ap (J (nI (r + 1))) u') : ∃ n, rr_ap (wX_writeNewest_29 post J (nI c) (nI j) x3 (nI r) n 0) u := by
  refine pk_loop (fun n i u => rr_ap (wX_writeNewest_29 post J (nI c) (nI j) x3 (nI r) n (nI i)) u) (fun i u => rr_Nu tt vv j True u ∧ rr_Ku u ∧ rr_E tt vv P w j i u) 3 0 u (by omega) ⟨hN, hK, hE⟩ ?_ ?_
  · intro n u h
    obtain ⟨f1, f2, f3, f4, f5, f6, f7, f8, f9, a1, a2, a3, a4, a5, a6, a7, a8, a9, a10, a11, a12⟩ := u
    obtain ⟨hN, hK, hE⟩ := h
    refine br_t (by decide) (nm_r (nI_1 r) (HJ _ ?_ hN hK))
    rcases hE with h | ⟨_, h⟩
    · exact h
    · refine rr_S_mono h (by omega) (by omega) (fun y t hy _ z => z.elim Or.inl (fun z => Or.inr ⟨z.1, z.2, hK.2 y hy⟩))
  · intro n i u hi h hw
    obtain ⟨f1, f2, f3, f4, f5, f6, f7, f8, f9, a1, a2, a3, a4, a5, a6, a7, a8, a9, a10, a11, a12⟩ := u
    obtain ⟨hN, hK, hE⟩ := h
    obtain ⟨m, hm, em⟩ := hK.1 i hi
    have em' : a9 (nI i).toNatClampNeg = nI m := by rw [nI_clamp (by omega)]; exact em
    have hW := rr_E_any hE
    obtain ⟨h1, h2, h3, h4, h5, h6, h7, q, hq, h8⟩ := hW
    subst h4
    refine pk_le 3 i (fun z => absurd z (by omega)) (fun _ => ⟨pk_in i 3 hi, nm_r em' (rr_isW rfl (by omega) (fun z => br_t rfl (nm_r (nI_1 i) ?_)) (fun z => br_f rr_10 (br_c (fun z2 => br_t rfl ?_) (fun z2 => br_f rr_10 (nm_r (nI_1 i) ?_)))))⟩)
    · refine hw (f1, f2, f3, f4, f5, f6, f7, f8, f9, a1, a2, a3, a4, a5, a6, a7, a8, a9, a10, a11, a12) ⟨hN, hK, ?_⟩
      rcases hE with h | ⟨⟨p, hp, ep⟩, h⟩
      · exact Or.inl h
      · refine Or.inr ⟨⟨p, (rr_p2 i p hp).1, ep⟩, rr_S_mono h (by omega) (by omega) (fun y t hy _ g => ?_)⟩
        rcases g with g | ⟨g1, g2, i', g3, g4⟩
        · exact Or.inl g
        · refine Or.inr ⟨g1, g2, i', ?_, g4⟩
          rcases Nat.lt_or_ge i' i with k | k
          · exact k
          · have e : i' = i := by omega
            subst e
            have : m = y := rr_nIne (by omega) (by omega) (em.symm.trans g4)
            subst this
            exact absurd z g2
    · refine rr_ct (by omega) (by omega) (by omega) h8 (fun r1 g8 q1 hq1 hr1 => ?_)
      rcases hr1 with e | ⟨_, e, _⟩
      · subst e
        obtain ⟨Q, hQ, hX⟩ : ∃ Q : Nat → Nat → Prop, rr_S tt vv Q f2 0 (f1, f2, f3, f4, f5, f6, f7, f8, f9, a1, a2, a3, a4, a5, a6, a7, a8, a9, a10, a11, a12) ∧ (∀ b3 b4 b5 k8, rr_S tt vv (fun y t => Q y t ∨ (y = m ∧ t = j ∧ True)) f2 0 (f1, f2, f3, f4 ||| ((1 : Int32) <<< (nI i &&& 31)), f5, f6, f7, k8, nI 0, a1, a2, b3, b4, b5, a6, a7, a8, a9, a10, a11, a12) → rr_E tt vv P f2 j (i + 1) (f1, f2, f3, f4 ||| ((1 : Int32) <<< (nI i &&& 31)), f5, f6, f7, k8, nI 0, a1, a2, b3, b4, b5, a6, a7, a8, a9, a10, a11, a12)) := by
          rcases hE with h | ⟨⟨p, hp, ep⟩, h⟩
          · exact ⟨_, h, fun b3 b4 b5 k8 hh => Or.inl (rr_S_mono hh (by omega) (by omega) (fun y t _ _ g => Or.inl g))⟩
          · refine ⟨_, h, fun b3 b4 b5 k8 hh => Or.inr ⟨⟨p + 2 ^ i, (rr_p2 i p hp).2, by rw [ep]; exact (rr_cl i hi p hp).2⟩, rr_S_mono hh (by omega) (by omega) (fun y t hy _ g => ?_)⟩⟩
            rcases g with g | ⟨g1, g2, i', g3, g4⟩
            · exact Or.inl (Or.inl g)
            · rcases Nat.lt_or_ge i' i with k | k
              · exact Or.inl (Or.inr ⟨g1, g2, i', k, g4⟩)
              · have e : i' = i := by omega
                subst e
                exact Or.inr ⟨(rr_nIne (by omega) (by omega) (em.symm.trans g4)).symm, g1, trivial⟩
        obtain ⟨k1, k2, k3, k4, k5, k6, k7, p, hp, k8⟩ := hQ
        refine br_f rr_10 (rr_store h1 hm hj k6 hN (fun b3 b4 b5 hM => ?_))
        refine rr_ct (by omega) (by omega) (by omega) rfl (fun r2 g8' q2 hq2 hr2 => ?_)
        rcases hr2 with e | ⟨_, e, _⟩
        · subst e
          have e0 : q2 = 0 := by omega
          subst e0
          exact br_f rr_10 (nm_e (nm_r (nI_1 i) (hw (f1, f2, f3, f4 ||| ((1 : Int32) <<< (nI i &&& 31)), f5, f6, f7, g8', nI 0, a1, a2, b3, b4, b5, a6, a7, a8, a9, a10, a11, a12) ⟨hN, hK, hX b3 b4 b5 g8' ⟨k1, k2, k3, k4, k5, hM, k7, 0, Nat.le_refl 0, rfl⟩⟩)))
        · omega
      · omega
    · refine hw (f1, f2, f3, f4, f5, f6, f7, f8, f9, a1, a2, a3, a4, a5, a6, a7, a8, a9, a10, a11, a12) ⟨hN, hK, ?_⟩
      rcases hE with h | ⟨⟨p, hp, ep⟩, _⟩
      · exact Or.inl h
      · rw [ep] at z2
        exact absurd (rr_cl i hi p hp).1 z2
theorem rr_write {post : St2 → Prop} {tt : Nat → Nat} {vv : Nat → Int32} {P : Nat → Nat → Prop} {w : Int32} {c j : Nat} {u : St2} (hc : c < 3) (hj : j < 16) (hS : rr_S tt vv P w 0 u) (hN : rr_Nu tt vv j True u) (hK : rr_Ku u)
    (H : ∀ u', rr_S tt vv (rr_Pw P w j) w 0 u' → post u') : wpX_writeNewest post u (nI c) (nI j) 2 := by
  obtain ⟨f1, f2, f3, f4, f5, f6, f7, f8, f9, a1, a2, a3, a4, a5, a6, a7, a8, a9, a10, a11, a12⟩ := u
  refine pk_loop (fun n i u => rr_ap (wX_writeNewest_8 post (nI c) (nI j) 2 n (nI i)) u) (fun i u => rr_Nu tt vv j True u ∧ rr_Ku u ∧ ((i = 0 ∧ rr_A0 u ∧ rr_S tt vv P w 0 u) ∨ rr_S tt vv (rr_Pw P w j) w 0 u)) 80 0 (f1, f2, f3, 0, f5, f6, f7, f8, f9, a1, a2, a3, a4, a5, a6, a7, a8, a9, a10, a11, a12) (by omega) ⟨hN, hK, Or.inl ⟨rfl, rfl, rr_S_w hS⟩⟩ ?_ ?_
  · intro n u h
    obtain ⟨f1', f2', f3', f4', f5', f6', f7', f8', f9', a1', a2', a3', a4', a5', a6', a7', a8', a9', a10', a11', a12'⟩ := u
    obtain ⟨hN, hK, hD⟩ := h
    refine br_t (by decide) ?_
    rcases hD with h | h
    · omega
    · exact rr_wn121 hc hj h hN hK H
  · intro n i u hi h hwk
    obtain ⟨f1', f2', f3', f4', f5', f6', f7', f8', f9', a1', a2', a3', a4', a5', a6', a7', a8', a9', a10', a11', a12'⟩ := u
    obtain ⟨hN, hK, hD⟩ := h
    refine pk_le 80 i (fun z => absurd z (by omega)) (fun _ => ?_)
    rcases hD with ⟨e0, e4, hS⟩ | hS
    · have e4' : f4' = 0 := e4
      subst e4'
      refine rr_ones0 (br_f (by decide) (rr_wn29 hc hj hN hK ?_ (fun u' k1 k2 k3 => hwk u' ⟨k2, k3, Or.inr k1⟩)))
      exact Or.inr ⟨⟨0, by decide, rfl⟩, rr_S_mono hS (by omega) (by omega) (fun y t _ _ g => g.elim id (fun g => by obtain ⟨_, _, i', g3, _⟩ := g; omega))⟩
    · exact rr_ones (fun r => br_c (fun _ => rr_wn121 hc hj hS hN hK H) (fun _ => rr_wn29 hc hj hN hK (Or.inl hS) (fun u' k1 k2 k3 => hwk u' ⟨k2, k3, Or.inr k1⟩)))
theorem rr_stamp (T c : Nat) (hT : T ≤ 99) : ((nI T / 8) + 1) * 8 + nI c = nI ((T / 8 + 1) * 8 + c) := by
  have e : nI T / 8 = nI (T / 8) := pk_div (d := 8) (by omega) (by omega) (by omega)
  rw [e, nI_1, show (8 : Int32) = nI 8 from rfl, pk_mul, nI_add]
/-- change(c, k, v, false) behind a read: a new top stamp, at all working machines -/
theorem rr_change {post : St2 → Prop} {P : Nat → Nat → Prop} {w V V' : Int32} {c k T T' : Nat} {u : St2} (hc : c < 3) (hk : k < 16) (hT' : T' = (T / 8 + 1) * 8 + c) (hT : T' ≤ 99) (hS : rr_S (rr_tt k T) (fun _ => V) P w 0 u) (hN : rr_Nu (rr_tt k T) (fun _ => V) k True u) (hK : rr_Ku u)
    (H : ∀ u', rr_S (rr_tt k T') (fun _ => V') (rr_Pw (fun y i => P y i ∧ i ≠ k) w k) w 0 u' → post u') : wpX_change post u (nI c) (nI k) V' 0 := by
  obtain ⟨f1, f2, f3, f4, f5, f6, f7, f8, f9, a1, a2, a3, a4, a5, a6, a7, a8, a9, a10, a11, a12⟩ := u
  obtain ⟨e7, t, e5, h1, h2, h3⟩ := hN
  have et : t = T := by rw [h3 trivial, rr_tt_k]
  subst et
  refine ⟨rr_80, nm_r (e' := nI T') (by rw [e5, rr_stamp t c (by omega), hT']) ⟨rfl, rfl, ?_⟩⟩
  refine rr_write (P := fun y i => P y i ∧ i ≠ k) hc hk (rr_S_new hS (by omega) hT) ⟨rfl, T', rfl, by rw [rr_tt_k]; exact Nat.le_refl _, fun _ _ => rfl, fun _ => (rr_tt_k k T').symm⟩ hK (fun u' h => ?_)
  obtain ⟨f1', f2', f3', f4', f5', f6', f7', f8', f9', a1', a2', a3', a4', a5', a6', a7', a8', a9', a10', a11', a12'⟩ := u'
  exact H _ h
end
section
/-! ===== exchange(x, y, j): y has the top stamp; then x has it ===== -/
def rr_Px (P : Nat → Nat → Prop) (x j : Nat) : Nat → Nat → Prop := fun y t => P y t ∨ (y = x ∧ t = j)
def rr_X (tt : Nat → Nat) (vv : Nat → Int32) (P : Nat → Nat → Prop) (w : Int32) (x j i : Nat) (x5 : Int32) (u : St2) : Prop :=
  (x5 = 0 ∧ ∃ q, q + i ≤ 15 ∧ rr_S tt vv P w q u) ∨ (x5 = 1 ∧ rr_S tt vv (rr_Px P x j) w 15 u)
theorem rr_ex59 {post : St2 → Prop} {J : Int32 → Int32 → Int32 → rr_T} {x4 x5 : Int32} {tt : Nat → Nat} {vv : Nat → Int32} {P : Nat → Nat → Prop} {w : Int32} {x y j i : Nat} {u : St2} (hx : x < 3) (hy : y < 3) (hj : j < 16) (hP : P y j) (hX : rr_X tt vv P w x j i x5 u)
    (HJ : ∀ x5' u', rr_X tt vv P w x j (i + 1) x5' u' → rr_ap (J x4 x5' (nI (i + 1))) u') : rr_ap (wX_exchange_59 post J (nI x) (nI y) (nI j) x4 x5 (nI i)) u := by
  obtain ⟨f1, f2, f3, f4, f5, f6, f7, f8, f9, a1, a2, a3, a4, a5, a6, a7, a8, a9, a10, a11, a12⟩ := u
  rcases hX with ⟨e, q, hq, hS⟩ | ⟨e, hS⟩
  · subst e
    obtain ⟨h1, h2, h3, h4, h5, h6, h7, p, hp, h8⟩ := hS
    refine br_t rfl (rr_ct (by omega) (by omega) (by omega) h8 (fun r g8 p' hp' hr => ?_))
    rcases hr with e | ⟨e, lt, _⟩
    · subst e
      refine br_f rr_10 (rr_start ?_)
      refine rr_hear (b := False) h1 hy hj h6 (rr_N_0 tt vv j 0) (fun g5 g6 g7 hN => ?_)
      refine rr_store h1 hx hj h6 hN (fun b3 b4 b5 hM => ?_)
      exact nm_r (nI_1 i) (HJ 1 (f1, f2, f3, 0, g5, g6, g7, g8, nI p', a1, a2, b3, b4, b5, a6, a7, a8, a9, a10, a11, a12) (Or.inr ⟨rfl, ⟨h1, by omega, h3, h4, h5, rr_M_mono hM (fun y t _ _ g => g.elim Or.inl (fun g => Or.inr ⟨g.1, g.2, Or.inr hP⟩)), h7, p', by omega, rfl⟩⟩))
    · subst e
      exact br_t rfl (nm_r (nI_1 i) (HJ 0 (f1, f2, f3, f4, f5, f6, f7, g8, nI p', a1, a2, a3, a4, a5, a6, a7, a8, a9, a10, a11, a12) (Or.inl ⟨rfl, q - 1, by omega, ⟨h1, by omega, h3, h4, h5, h6, h7, p', by omega, rfl⟩⟩)))
  · subst e
    exact br_f rr_10 (nm_r (nI_1 i) (HJ 1 (f1, f2, f3, f4, f5, f6, f7, f8, f9, a1, a2, a3, a4, a5, a6, a7, a8, a9, a10, a11, a12) (Or.inr ⟨rfl, hS⟩)))
theorem rr_ex26 {post : St2 → Prop} {J : Int32 → Int32 → Int32 → rr_T} {x4 x5 : Int32} {tt : Nat → Nat} {vv : Nat → Int32} {P : Nat → Nat → Prop} {w : Int32} {x y j i : Nat} {u : St2} (hx : x < 3) (hy : y < 3) (hj : j < 16) (hP : P y j) (h4' : x4 = 0 ∨ x4 = 1) (hX : rr_X tt vv P w x j i x5 u)
    (HJ : ∀ x4' x5' u', (x4' = 0 ∨ x4' = 1) → rr_X tt vv P w x j (i + 1) x5' u' → rr_ap (J x4' x5' (nI (i + 1))) u') : rr_ap (wX_exchange_26 post J (nI x) (nI y) (nI j) x4 x5 (nI i)) u := by
  obtain ⟨f1, f2, f3, f4, f5, f6, f7, f8, f9, a1, a2, a3, a4, a5, a6, a7, a8, a9, a10, a11, a12⟩ := u
  rcases h4' with e | e
  · subst e
    obtain ⟨Q, l, hS, hQ⟩ : ∃ (Q : Nat → Nat → Prop) (l : Nat), rr_S tt vv Q w l (f1, f2, f3, f4, f5, f6, f7, f8, f9, a1, a2, a3, a4, a5, a6, a7, a8, a9, a10, a11, a12) ∧ ∀ u', rr_S tt vv Q w l u' → rr_X tt vv P w x j i x5 u' := by
      rcases hX with ⟨e, q, hq, hS⟩ | ⟨e, hS⟩
      · exact ⟨P, q, hS, fun u' h => Or.inl ⟨e, q, hq, h⟩⟩
      · exact ⟨_, 15, hS, fun u' h => Or.inr ⟨e, h⟩⟩
    obtain ⟨h1, h2, h3, h4, h5, h6, h7, p, hp, h8⟩ := hS
    refine br_t rfl (rr_ct (by omega) (by omega) (by omega) h8 (fun r g8 p' hp' hr => ?_))
    rcases hr with e | ⟨e, lt, _⟩
    · subst e
      refine br_f rr_10 (rr_start ?_)
      refine rr_hear (b := False) h1 hx hj h6 (rr_N_0 tt vv j 0) (fun g5 g6 g7 hN => ?_)
      refine rr_store h1 hy hj h6 hN (fun b3 b4 b5 hM => ?_)
      exact rr_ex59 (post := post) (u := (f1, f2, f3, 0, g5, g6, g7, g8, nI p', a1, a2, b3, b4, b5, a6, a7, a8, a9, a10, a11, a12)) hx hy hj hP (hQ _ ⟨h1, h2, h3, h4, h5, rr_M_mono hM (fun y t _ _ g => Or.inl g), h7, p', by omega, rfl⟩) (fun x5' u' h => HJ 1 x5' u' (Or.inr rfl) h)
    · subst e
      exact br_t rfl (rr_ex59 (post := post) (u := (f1, f2, f3, f4, f5, f6, f7, g8, nI p', a1, a2, a3, a4, a5, a6, a7, a8, a9, a10, a11, a12)) hx hy hj hP (hQ _ ⟨h1, h2, h3, h4, h5, h6, h7, p', by omega, rfl⟩) (fun x5' u' h => HJ 0 x5' u' (Or.inl rfl) h))
  · subst e
    exact br_f rr_10 (rr_ex59 (post := post) (u := (f1, f2, f3, f4, f5, f6, f7, f8, f9, a1, a2, a3, a4, a5, a6, a7, a8, a9, a10, a11, a12)) hx hy hj hP hX (fun x5' u' h => HJ 1 x5' u' (Or.inr rfl) h))
theorem rr_exch {post : St2 → Prop} {tt : Nat → Nat} {vv : Nat → Int32} {P : Nat → Nat → Prop} {w : Int32} {x y j : Nat} {z : Int32} {u : St2} (hz : z = nI j) (hx : x < 3) (hy : y < 3) (hj : j < 16) (hP : P y j) (hS : rr_S tt vv P w 15 u)
    (H : ∀ u', rr_S tt vv (rr_Px P x j) w 15 u' → post u') : wpX_exchange post u (nI x) (nI y) z := by
  subst hz
  obtain ⟨f1, f2, f3, f4, f5, f6, f7, f8, f9, a1, a2, a3, a4, a5, a6, a7, a8, a9, a10, a11, a12⟩ := u
  refine pk_loop (fun n i (s : Int32 × Int32 × St2) => rr_ap (wX_exchange_9 post (nI x) (nI y) (nI j) n s.1 s.2.1 (nI i)) s.2.2) (fun i s => (s.1 = 0 ∨ s.1 = 1) ∧ rr_X tt vv P w x j i s.2.1 s.2.2) 80 0 (0, 0, (f1, f2, f3, f4, f5, f6, f7, f8, f9, a1, a2, a3, a4, a5, a6, a7, a8, a9, a10, a11, a12)) (by omega) ⟨Or.inl rfl, Or.inl ⟨rfl, 15, by omega, hS⟩⟩ ?_ ?_
  · intro n s h
    obtain ⟨x4, x5, ⟨f1', f2', f3', f4', f5', f6', f7', f8', f9', a1', a2', a3', a4', a5', a6', a7', a8', a9', a10', a11', a12'⟩⟩ := s
    obtain ⟨h4, hX⟩ := h
    refine br_t (by decide) ?_
    rcases hX with ⟨_, q, hq, _⟩ | ⟨_, hS⟩
    · omega
    · exact H _ hS
  · intro n i s hi h hw
    obtain ⟨x4, x5, ⟨f1', f2', f3', f4', f5', f6', f7', f8', f9', a1', a2', a3', a4', a5', a6', a7', a8', a9', a10', a11', a12'⟩⟩ := s
    obtain ⟨h4, hX⟩ := h
    have st : rr_ap (wX_exchange_26 post (wX_exchange_9 post (nI x) (nI y) (nI j) n) (nI x) (nI y) (nI j) x4 x5 (nI i)) (f1', f2', f3', f4', f5', f6', f7', f8', f9', a1', a2', a3', a4', a5', a6', a7', a8', a9', a10', a11', a12') := rr_ex26 hx hy hj hP h4 hX (fun x4' x5' u' k1 k2 => hw (x4', x5', u') ⟨k1, k2⟩)
    refine pk_le 80 i (fun z => absurd z (by omega)) (fun _ => br_c (fun _ => st) (fun _ => br_c (fun _ => st) (fun ne => ?_)))
    rcases hX with ⟨e, _⟩ | ⟨_, hS⟩
    · exact absurd e ne
    · exact H _ hS
/-! ===== compare(x, y): y has all top stamps; then x has them ===== -/
theorem rr_c68 {post : St2 → Prop} {J : Int32 → rr_T} {z0 : Int32} {tt : Nat → Nat} {vv : Nat → Int32} {P : Nat → Nat → Prop} {w : Int32} {x y i : Nat} {u : St2} (hx : x < 3) (hy : y < 3) (hi : i < 31) (hP : ∀ j, j < 16 → P y j) (hS : rr_S tt vv P w 15 u)
    (HJ : ∀ u', rr_S tt vv P w 15 u' → rr_ap (J (nI (i + 1))) u') : rr_ap (wX_compare_68 post J (nI x) (nI y) (nI i) z0 (nI i)) u := by
  obtain ⟨f1, f2, f3, f4, f5, f6, f7, f8, f9, a1, a2, a3, a4, a5, a6, a7, a8, a9, a10, a11, a12⟩ := u
  refine ⟨pk_in i 31 hi, nm_e ⟨pk_in i 31 hi, br_c (fun _ => nm_r (nI_1 i) (HJ (f1, f2, f3, f4, f5, f6, f7, f8, f9, a1, a2, a3, a4, a5, a6, a7, a8, a9, a10, a11, _) (rr_S_w hS))) (fun _ => pk_lt i 15 (fun _ => nm_r (nI_1 i) (HJ (f1, f2, f3, f4, f5, f6, f7, f8, f9, a1, a2, a3, a4, a5, a6, a7, a8, a9, a10, a11, _) (rr_S_w hS))) (fun z => ?_))⟩⟩
  refine rr_exch (j := i - 15) (pk_sub (a := i) (b := 15) z) hx hy (by omega) (hP _ (by omega)) (rr_S_w hS) (fun u' h => ?_)
  obtain ⟨f1', f2', f3', f4', f5', f6', f7', f8', f9', a1', a2', a3', a4', a5', a6', a7', a8', a9', a10', a11', a12'⟩ := u'
  exact nm_r (nI_1 i) (HJ _ (rr_S_mono h (by omega) (by omega) (fun y t _ _ g => Or.inl g)))
theorem rr_c36 {post : St2 → Prop} {J : Int32 → rr_T} {z0 : Int32} {tt : Nat → Nat} {vv : Nat → Int32} {P : Nat → Nat → Prop} {w : Int32} {x y i : Nat} {u : St2} (hx : x < 3) (hy : y < 3) (hi : i < 31) (hP : ∀ j, j < 16 → P y j) (hS : rr_S tt vv P w 15 u)
    (HJ : ∀ u', rr_S tt vv P w 15 u' → rr_ap (J (nI (i + 1))) u') : rr_ap (wX_compare_36 post J (nI x) (nI y) (nI i) z0) u := by
  have k : ∀ z, rr_ap (wX_compare_68 post J (nI x) (nI y) (nI i) z (nI i)) u := fun z => rr_c68 hx hy hi hP hS HJ
  obtain ⟨f1, f2, f3, f4, f5, f6, f7, f8, f9, a1, a2, a3, a4, a5, a6, a7, a8, a9, a10, a11, a12⟩ := u
  exact br_c (fun _ => k 0) (fun _ => ⟨pk_in i 31 hi, pk_in i 31 hi, br_c (fun _ => k 0) (fun _ => k 1)⟩)
theorem rr_c102 {post : St2 → Prop} {tt : Nat → Nat} {vv : Nat → Int32} {P : Nat → Nat → Prop} {w : Int32} {x y : Nat} {u : St2} (hx : x < 3) (hy : y < 3) (hP : ∀ j, j < 16 → P y j) (hS : rr_S tt vv P w 15 u)
    (H : ∀ u', rr_S tt vv (fun z t => P z t ∨ z = x) w 15 u' → post u') : ∃ n, rr_ap (wX_compare_102 post (nI x) (nI y) n 0) u := by
  refine pk_loop (fun n i u => rr_ap (wX_compare_102 post (nI x) (nI y) n (nI i)) u) (fun i u => rr_S tt vv (fun z t => P z t ∨ (z = x ∧ t < i)) w 15 u) 16 0 u (by omega) (rr_S_mono hS (by omega) (by omega) (fun z t _ _ g => g.elim id (fun g => by omega))) ?_ ?_
  · intro n u h
    obtain ⟨f1, f2, f3, f4, f5, f6, f7, f8, f9, a1, a2, a3, a4, a5, a6, a7, a8, a9, a10, a11, a12⟩ := u
    exact br_t (by decide) (H _ (rr_S_mono h (by omega) (by omega) (fun z t _ ht g => g.elim Or.inl (fun g => Or.inr ⟨g, ht⟩))))
  · intro n i u hi h hw
    obtain ⟨f1, f2, f3, f4, f5, f6, f7, f8, f9, a1, a2, a3, a4, a5, a6, a7, a8, a9, a10, a11, a12⟩ := u
    have hG := rr_S_G h
    refine pk_le 16 i (fun z => absurd z (by omega)) (fun _ => rr_keeps_3 hG hx (fun b9 _ => br_f rr_10 (rr_keeps_3 hG hy (fun c9 _ => br_f rr_10 (br_f rr_10 ⟨pk_in (x * 16 + i) 96 (by omega) (rr_ix x i), pk_in (y * 16 + i) 96 (by omega) (rr_ix y i), br_c (fun e => nm_r (nI_1 i) ?_) (fun _ => ?_)⟩)))))
    · rw [rr_ix, rr_ix, nI_clamp (show x * 16 + i < 2 ^ 31 by omega), nI_clamp (show y * 16 + i < 2 ^ 31 by omega)] at e
      refine hw (f1, f2, f3, f4, f5, f6, f7, f8, f9, a1, a2, a3, a4, a5, a6, a7, a8, c9, a10, a11, a12) ?_
      obtain ⟨h1, h2, h3, h4, h5, h6, h7, q, hq, h8⟩ := h
      refine ⟨h1, h2, h3, h4, h5, ⟨h6.1, fun z t hz ht => ?_⟩, h7, q, hq, h8⟩
      obtain ⟨s, s1, s2, s3, s4⟩ := h6.2 z t hz ht
      refine ⟨s, s1, s2, s3, fun g => ?_⟩
      by_cases g2 : z = x ∧ t = i
      · obtain ⟨g3, g4⟩ := g2
        subst g3 g4
        obtain ⟨s', r1, r2, r3, r4⟩ := h6.2 y t hy ht
        have := h1 t
        have e2 : s = s' := (nI_eq (by omega) (by omega)).mp (s1.symm.trans (e.trans r1))
        rw [e2]
        exact r4 (Or.inl (hP t ht))
      · rcases g with g | g
        · exact s4 (Or.inl g)
        · exact s4 (Or.inr ⟨g.1, by omega⟩)
    · refine rr_exch rfl hx hy hi (Or.inl (hP i hi)) (rr_S_w h) (fun u' h' => ?_)
      obtain ⟨f1', f2', f3', f4', f5', f6', f7', f8', f9', a1', a2', a3', a4', a5', a6', a7', a8', a9', a10', a11', a12'⟩ := u'
      refine nm_r (nI_1 i) (hw _ (rr_S_mono h' (by omega) (by omega) (fun z t _ _ g => ?_)))
      rcases g with g | g
      · exact Or.inl (Or.inl g)
      · by_cases e : t = i
        · exact Or.inr ⟨g.1, e⟩
        · exact Or.inl (Or.inr ⟨g.1, by omega⟩)
theorem rr_half1 {i : Nat} (h : 0 < i) (hi : i < 31) : (nI i - 1) / 2 = nI ((i - 1) / 2) := by
  have e : nI i - 1 = nI (i - 1) := pk_sub (a := i) (b := 1) (by omega)
  rw [e]
  exact pk_div (d := 2) (by omega) (by omega) (by omega)
theorem rr_compare {post : St2 → Prop} {tt : Nat → Nat} {vv : Nat → Int32} {P : Nat → Nat → Prop} {w : Int32} {x y : Nat} {u : St2} (hx : x < 3) (hy : y < 3) (hP : ∀ j, j < 16 → P y j) (hS : rr_S tt vv P w 15 u)
    (H : ∀ u', rr_S tt vv (fun z t => P z t ∨ z = x) w 15 u' → post u') : wpX_compare post u (nI x) (nI y) := by
  obtain ⟨f1, f2, f3, f4, f5, f6, f7, f8, f9, a1, a2, a3, a4, a5, a6, a7, a8, a9, a10, a11, a12⟩ := u
  refine rr_grow (rr_S_G hS) hx hy (fun b9 b10 b11 => ?_)
  refine pk_loop (fun n i u => rr_ap (wX_compare_8 post (nI x) (nI y) n (nI i)) u) (fun i u => rr_S tt vv P w 15 u) 31 0 (f1, f2, f3, f4, f5, f6, f7, f8, f9, a1, a2, a3, a4, a5, a6, a7, a8, b9, b10, b11, a12) (by omega) (rr_S_w hS) ?_ ?_
  · intro n u h
    obtain ⟨f1', f2', f3', f4', f5', f6', f7', f8', f9', a1', a2', a3', a4', a5', a6', a7', a8', a9', a10', a11', a12'⟩ := u
    exact br_t (by decide) (rr_c102 hx hy hP h H)
  · intro n i u hi h hw
    have k : ∀ z, rr_ap (wX_compare_36 post (wX_compare_8 post (nI x) (nI y) n) (nI x) (nI y) (nI i) z) u := fun z => rr_c36 hx hy hi hP h (fun u' h' => hw u' h')
    obtain ⟨f1', f2', f3', f4', f5', f6', f7', f8', f9', a1', a2', a3', a4', a5', a6', a7', a8', a9', a10', a11', a12'⟩ := u
    exact pk_le 31 i (fun z => absurd z (by omega)) (fun _ => pk_eq i 0 (fun _ => k 1) (fun z => ⟨rr_20, pk_in ((i - 1) / 2) 31 (by omega) (rr_half1 (by omega) hi), br_c (fun _ => k 0) (fun _ => k 1)⟩))
end
section
/-! ===== handOver(h, m) ===== -/
theorem rr_hand {post : St2 → Prop} {tt : Nat → Nat} {vv : Nat → Int32} {P : Nat → Nat → Prop} {w : Int32} {h m : Nat} {u : St2} (hh : h < 6) (hm : m < 3) (hS : rr_S tt vv P w 15 u) (H : ∀ u', rr_S tt vv P w 15 u' → post u') : wpX_handOver post u (nI h) (nI m) := by
  obtain ⟨f1, f2, f3, f4, f5, f6, f7, f8, f9, a1, a2, a3, a4, a5, a6, a7, a8, a9, a10, a11, a12⟩ := u
  refine pk_loop (fun n i u => rr_ap (wX_handOver_2 post (nI h) (nI m) n (nI i)) u) (fun i u => rr_S tt vv P w 15 u) 16 0 (f1, f2, f3, f4, f5, f6, f7, f8, f9, a1, a2, a3, a4, a5, a6, a7, a8, a9, a10, a11, a12) (by omega) hS ?_ ?_
  · intro n u hS
    obtain ⟨f1', f2', f3', f4', f5', f6', f7', f8', f9', a1', a2', a3', a4', a5', a6', a7', a8', a9', a10', a11', a12'⟩ := u
    exact br_t (by decide) (H _ hS)
  · intro n i u hi hS hw
    have nx := hw u hS
    obtain ⟨f1', f2', f3', f4', f5', f6', f7', f8', f9', a1', a2', a3', a4', a5', a6', a7', a8', a9', a10', a11', a12'⟩ := u
    obtain ⟨h1, h2, h3, h4, h5, h6, h7, q, hq, h8⟩ := hS
    have hcl : (nI ((h * 6 + m) * 16 + i)).toNatClampNeg = (h * 6 + m) * 16 + i := nI_clamp (by omega)
    have hmod : ((h * 6 + m) * 16 + i) % 16 = i := by omega
    have hin : vp_in (nI ((h * 6 + m) * 16 + i)) 576 := vp_in_nI (by omega) (by omega)
    obtain ⟨s, s1, s2, s3⟩ := h7.2 ((h * 6 + m) * 16 + i) (by omega)
    rw [hmod] at s2 s3
    refine pk_le 16 i (fun z => absurd z (by omega)) (fun _ => nm_r (rr_ix2 h m i) ⟨hin, ?_⟩)
    rw [hcl]
    refine br_c (fun _ => nm_r (nI_1 i) nx) (fun _ => rr_ct (by omega) (by omega) (by omega) h8 (fun r g8 q' hq' hr => ?_))
    rcases hr with e | ⟨e, _⟩
    · subst e
      refine br_f rr_10 ⟨hin, nm_r s1 ⟨hin, nm_e ⟨hin, nm_r (h7.1 _) ⟨rfl, rfl, ?_⟩⟩⟩⟩
      refine rr_store (b := False) h1 hm hi h6 ⟨rfl, s, rfl, s2, s3, fun z => z.elim⟩ (fun b3 b4 b5 hM => ?_)
      exact ⟨hin, nm_e (nm_r (nI_1 i) (hw (f1', f2', f3', f4', nI s, a7' ((h * 6 + m) * 16 + i), 0, g8, nI q', a1', a2', b3, b4, b5, upd a6' ((h * 6 + m) * 16 + i) 0, a7', a8', a9', a10', a11', a12') ⟨h1, h2, h3, h4, h5, rr_M_mono hM (fun y t _ _ g => Or.inl g), rr_H_0 h7, q', by omega, rfl⟩))⟩
    · subst e
      exact br_t rfl (nm_r (nI_1 i) (hw (f1', f2', f3', f4', f5', f6', f7', g8, nI q', a1', a2', a3', a4', a5', a6', a7', a8', a9', a10', a11', a12') ⟨h1, h2, h3, h4, h5, h6, h7, q', by omega, rfl⟩))
/-! ===== down, lose ===== -/
def rr_w (x : Nat) : Int32 := (7 : Int32) &&& (((1 : Int32) <<< (nI x &&& 31)) ^^^ (-1))
theorem rr_w_on : ∀ x, x < 3 → ∀ y, y < 3 → (((rr_w x >>> (nI y &&& 31)) &&& 1) = 0 ↔ y = x) := by decide +kernel
theorem rr_w_on6 : ∀ x, x < 3 → ∀ y, y < 6 → (((rr_w x >>> (nI y &&& 31)) &&& 1) = 0 ↔ y = x ∨ 3 ≤ y) := by decide +kernel
theorem rr_w_up : ∀ x, x < 3 → rr_w x ||| ((1 : Int32) <<< (nI x &&& 31)) = 7 := by decide +kernel
theorem rr_down {post : Int32 → St2 → Prop} {tt : Nat → Nat} {vv : Nat → Int32} {P : Nat → Nat → Prop} {l x : Nat} {u : St2} (hx : x < 3) (hS : rr_S tt vv P 7 l u) (H : ∀ u', rr_S tt vv P (rr_w x) l u' → post 1 u') : wpX_down post u (nI x) := by
  obtain ⟨f1, f2, f3, f4, f5, f6, f7, f8, f9, a1, a2, a3, a4, a5, a6, a7, a8, a9, a10, a11, a12⟩ := u
  obtain ⟨h1, h2, h3, h4, h5, h6, h7, q, hq, h8⟩ := hS
  subst h3 h4
  unfold wpX_down
  exact rr_isW rfl (by omega) (fun z => absurd ((rr_b7 x (by omega)).mp z) (by omega)) (fun _ => br_f rr_10 (br_t rfl (nm_e (H (7, rr_w x, f3, f4, f5, f6, f7, f8, f9, a1, a2, a3, a4, a5, a6, a7, a8, a9, a10, a11, a12) ⟨h1, h2, rfl, rfl, h5, h6, h7, q, hq, h8⟩))))
theorem rr_lose {post : Int32 → St2 → Prop} {tt : Nat → Nat} {vv : Nat → Int32} {P : Nat → Nat → Prop} {w z : Int32} {l : Nat} {u : St2} (hS : rr_S tt vv P w l u) (H : ∀ r u', rr_S tt vv P w 15 u' → post r u') : wpX_lose post u (z &&& 15) := by
  obtain ⟨f1, f2, f3, f4, f5, f6, f7, f8, f9, a1, a2, a3, a4, a5, a6, a7, a8, a9, a10, a11, a12⟩ := u
  obtain ⟨h1, h2, h3, h4, h5, h6, h7, q, hq, h8⟩ := hS
  obtain ⟨t, ht, e⟩ := pk_andE z (m := 15) 4 (by decide)
  rw [e]
  exact pk_lt t 0 (fun z => absurd z (by omega)) (fun _ => pk_le t 30 (fun _ => H 1 (f1, f2, f3, f4, f5, f6, f7, f8, nI t, a1, a2, a3, a4, a5, a6, a7, a8, a9, a10, a11, a12) ⟨h1, Nat.le_refl 15, h3, h4, h5, h6, h7, t, by omega, rfl⟩) (fun z => absurd z (by omega)) rfl rfl (by omega) (by omega)) rfl rfl (by omega) (by omega)
/-! ===== up(m, wiped): then m has all top stamps ===== -/
theorem rr_up118 {post : Int32 → St2 → Prop} {tt : Nat → Nat} {vv : Nat → Int32} {m : Nat} {u : St2} (hm : m < 3) (hS : rr_S tt vv (fun y _ => y ≠ m) 7 15 u) (H : ∀ u', rr_S tt vv (fun _ _ => True) 7 15 u' → post 1 u') : ∃ n, rr_ap (wX_up_118 post (nI m) n 0) u := by
  refine pk_loop (fun n i u => rr_ap (wX_up_118 post (nI m) n (nI i)) u) (fun i u => rr_S tt vv (fun y _ => y ≠ m ∨ ∃ o, o < i ∧ o ≠ m ∧ o < 3) 7 15 u) 6 0 u (by omega) (rr_S_mono hS (by omega) (by omega) (fun y t _ _ g => g.elim id (fun g => by obtain ⟨o, ho, _⟩ := g; omega))) ?_ ?_
  · intro n u h
    obtain ⟨f1, f2, f3, f4, f5, f6, f7, f8, f9, a1, a2, a3, a4, a5, a6, a7, a8, a9, a10, a11, a12⟩ := u
    refine br_t (by decide) (H _ (rr_S_mono h (by omega) (by omega) (fun y t _ _ _ => Or.inr ?_)))
    by_cases e : m = 0
    · exact ⟨1, by omega, by omega, by omega⟩
    · exact ⟨0, by omega, by omega, by omega⟩
  · intro n i u hi h hw
    obtain ⟨f1, f2, f3, f4, f5, f6, f7, f8, f9, a1, a2, a3, a4, a5, a6, a7, a8, a9, a10, a11, a12⟩ := u
    have h4 : f2 = 7 := by
      obtain ⟨h1, h2, h3, h4, h5, h6, h7, q, hq, h8⟩ := h
      exact h4
    subst h4
    refine pk_le 6 i (fun z => absurd z (by omega)) (fun _ => pk_eq i m (fun e => nm_r (nI_1 i) (hw (f1, 7, f3, f4, f5, f6, f7, f8, f9, a1, a2, a3, a4, a5, a6, a7, a8, a9, a10, a11, a12) (rr_S_mono h (by omega) (by omega) (fun y t _ _ g => ?_)))) (fun ne => rr_isW rfl hi (fun z => br_t rfl (nm_r (nI_1 i) (hw (f1, 7, f3, f4, f5, f6, f7, f8, f9, a1, a2, a3, a4, a5, a6, a7, a8, a9, a10, a11, a12) (rr_S_mono h (by omega) (by omega) (fun y t _ _ g => ?_))))) (fun z => br_f rr_10 ?_)))
    · rcases g with g | ⟨o, g1, g2, g3⟩
      · exact Or.inl g
      · exact Or.inr ⟨o, by omega, g2, g3⟩
    · have := (rr_b7 i hi).mp z
      rcases g with g | ⟨o, g1, g2, g3⟩
      · exact Or.inl g
      · exact Or.inr ⟨o, by omega, g2, g3⟩
    · have hi3 : i < 3 := by
        rcases Nat.lt_or_ge i 3 with k | k
        · exact k
        · exact absurd ((rr_b7 i hi).mpr k) z
      refine rr_compare hm hi3 (fun j _ => Or.inl ne) h (fun u' h' => ?_)
      obtain ⟨f1', f2', f3', f4', f5', f6', f7', f8', f9', a1', a2', a3', a4', a5', a6', a7', a8', a9', a10', a11', a12'⟩ := u'
      refine nm_r (nI_1 i) (hw _ (rr_S_mono h' (by omega) (by omega) (fun y t _ _ _ => ?_)))
      by_cases e : y = m
      · exact Or.inr e
      · exact Or.inl (Or.inl e)
theorem rr_up76 {post : Int32 → St2 → Prop} {tt : Nat → Nat} {vv : Nat → Int32} {m : Nat} {u : St2} (hm : m < 3) (hS : rr_S tt vv (fun y _ => y ≠ m) (rr_w m) 15 u) (H : ∀ u', rr_S tt vv (fun _ _ => True) 7 15 u' → post 1 u') : rr_ap (wX_up_76 post (nI m)) u := by
  obtain ⟨f1, f2, f3, f4, f5, f6, f7, f8, f9, a1, a2, a3, a4, a5, a6, a7, a8, a9, a10, a11, a12⟩ := u
  obtain ⟨h1, h2, h3, h4, h5, h6, h7, q, hq, h8⟩ := hS
  refine nm_r (e' := 7) (by rw [h4]; exact rr_w_up m hm) ?_
  refine pk_loop (fun n i u => rr_ap (wX_up_90 post (nI m) n (nI i)) u) (fun i u => rr_S tt vv (fun y _ => y ≠ m) 7 15 u) 6 0 (f1, 7, f3, f4, f5, f6, f7, f8, f9, a1, a2, a3, a4, a5, a6, a7, a8, a9, a10, a11, a12) (by omega) ⟨h1, h2, h3, rfl, h5, h6, h7, q, hq, h8⟩ ?_ ?_
  · intro n u h
    obtain ⟨f1', f2', f3', f4', f5', f6', f7', f8', f9', a1', a2', a3', a4', a5', a6', a7', a8', a9', a10', a11', a12'⟩ := u
    exact br_t (by decide) (rr_up118 hm h H)
  · intro n i u hi h hw
    have nx := hw u h
    obtain ⟨f1', f2', f3', f4', f5', f6', f7', f8', f9', a1', a2', a3', a4', a5', a6', a7', a8', a9', a10', a11', a12'⟩ := u
    refine pk_le 6 i (fun z => absurd z (by omega)) (fun _ => rr_isW rfl hi (fun z => br_t rfl (nm_r (nI_1 i) nx)) (fun z => br_f rr_10 (rr_hand hi hm h (fun u' h' => ?_))))
    obtain ⟨f1'', f2'', f3'', f4'', f5'', f6'', f7'', f8'', f9'', a1'', a2'', a3'', a4'', a5'', a6'', a7'', a8'', a9'', a10'', a11'', a12''⟩ := u'
    exact nm_r (nI_1 i) (hw _ h')
theorem rr_up39 {post : Int32 → St2 → Prop} {J : Int32 → rr_T} {x2 : Int32} {tt : Nat → Nat} {vv : Nat → Int32} {f1 f2 f3 f4 f5 f6 f7 f8 f9 : Int32} {a1 a2 a3 a4 a5 a6 a7 a8 a9 a10 a11 a12 : Nat → Int32} {m j : Nat} (hm : m < 3) (hj : j < 16) (hH : rr_H tt vv a6 a7 a8) (HJ : ∀ b6, rr_H tt vv b6 a7 a8 → J (nI (j + 1)) f1 f2 f3 f4 f5 f6 f7 f8 f9 a1 a2 a3 a4 a5 b6 a7 a8 a9 a10 a11 a12) : ∃ n, wX_up_39 post J (nI m) x2 (nI j) f1 f2 f3 f4 f5 f6 f7 f8 f9 n 0 a1 a2 a3 a4 a5 a6 a7 a8 a9 a10 a11 a12 := by
  refine pk_loop (fun n i s => wX_up_39 post J (nI m) x2 (nI j) f1 f2 f3 f4 f5 f6 f7 f8 f9 n (nI i) a1 a2 a3 a4 a5 s a7 a8 a9 a10 a11 a12) (fun i s => rr_H tt vv s a7 a8) 6 0 a6 (by omega) hH ?_ ?_
  · intro n s h
    exact br_t (by decide) (nm_r (nI_1 j) (HJ s h))
  · intro n i s hi h hw
    exact pk_le 6 i (fun z => absurd z (by omega)) (fun _ => ⟨pk_in ((m * 6 + i) * 16 + j) 576 (by omega) (rr_ix2 m i j), nm_e (nm_r (nI_1 i) (hw _ (rr_H_0 h)))⟩)
theorem rr_up {post : Int32 → St2 → Prop} {tt : Nat → Nat} {vv : Nat → Int32} {m : Nat} {x2 : Int32} {u : St2} (hm : m < 3) (hS : rr_S tt vv (fun y _ => y ≠ m) (rr_w m) 15 u) (H : ∀ u', rr_S tt vv (fun _ _ => True) 7 15 u' → post 1 u') : wpX_up post u (nI m) x2 := by
  obtain ⟨f1, f2, f3, f4, f5, f6, f7, f8, f9, a1, a2, a3, a4, a5, a6, a7, a8, a9, a10, a11, a12⟩ := u
  have hS' := hS
  obtain ⟨h1, h2, h3, h4, h5, h6, h7, q, hq, h8⟩ := hS'
  subst h3 h4
  unfold wpX_up
  refine rr_isB rfl (by omega) (fun z => absurd ((rr_b7 m (by omega)).mp z) (by omega)) (fun _ => br_f rr_10 (rr_isW rfl (by omega) (fun _ => br_t rfl ?_) (fun z => absurd ((rr_w_on m hm m hm).mpr rfl) z)))
  refine pk_loop (fun n i u => rr_ap (wX_up_20 post (nI m) x2 n (nI i)) u) (fun i u => rr_S tt vv (fun y _ => y ≠ m) (rr_w m) 15 u) 16 0 (7, rr_w m, f3, f4, f5, f6, f7, f8, f9, a1, a2, a3, a4, a5, a6, a7, a8, a9, a10, a11, a12) (by omega) hS ?_ ?_
  · intro n u h
    have k : rr_ap (wX_up_76 post (nI m)) u := rr_up76 hm h H
    obtain ⟨f1', f2', f3', f4', f5', f6', f7', f8', f9', a1', a2', a3', a4', a5', a6', a7', a8', a9', a10', a11', a12'⟩ := u
    exact br_t (by decide) k
  · intro n i u hi h hw
    have k : rr_ap (wX_up_76 post (nI m)) u := rr_up76 hm h H
    obtain ⟨f1', f2', f3', f4', f5', f6', f7', f8', f9', a1', a2', a3', a4', a5', a6', a7', a8', a9', a10', a11', a12'⟩ := u
    obtain ⟨h1, h2, h3, h4, h5, h6, h7, q, hq, h8⟩ := h
    refine pk_le 16 i (fun z => absurd z (by omega)) (fun _ => br_c (fun _ => k) (fun _ => rr_erase hm hi h6 (fun z => z rfl) (fun b3 b4 b5 hM => ?_)))
    exact rr_up39 hm hi h7 (fun b6 hH => hw (f1', f2', f3', f4', f5', f6', f7', f8', f9', a1', a2', b3, b4, b5, b6, a7', a8', a9', a10', a11', a12') ⟨h1, h2, h3, h4, h5, hM, hH, q, hq, h8⟩)
/-! ===== reading a number ===== -/
theorem rr_num {post : Int32 → Prop} {k T j : Nat} {V : Int32} {u : St2} (hT : T ≤ 99) (h0 : 0 < T) (hN : rr_Nu (rr_tt k T) (fun _ => V) j True u) (H1 : j = k → post V) (H0 : j ≠ k → post (-200000)) : wpX_readNumber post u := by
  obtain ⟨f1, f2, f3, f4, f5, f6, f7, f8, f9, a1, a2, a3, a4, a5, a6, a7, a8, a9, a10, a11, a12⟩ := u
  obtain ⟨e7, t, e5, h1, h2, h3⟩ := hN
  have e := h3 trivial
  subst e5 e7
  by_cases ej : j = k
  · subst ej
    rw [rr_tt_k] at e h2
    subst e
    have e6 : f6 = V := h2 rfl (by omega)
    subst e6
    exact br_f (nI_ne0 h0 (by omega)) (br_t rfl (H1 rfl))
  · rw [rr_tt_n ej] at e
    subst e
    exact br_t rfl (H0 ej)
theorem rr_num0 {post : Int32 → Prop} {k j : Nat} {V : Int32} {u : St2} (hN : rr_Nu (rr_tt k 0) (fun _ => V) j True u) (H0 : post (-200000)) : wpX_readNumber post u := by
  obtain ⟨f1, f2, f3, f4, f5, f6, f7, f8, f9, a1, a2, a3, a4, a5, a6, a7, a8, a9, a10, a11, a12⟩ := u
  obtain ⟨e7, t, e5, h1, h2, h3⟩ := hN
  have e := h3 trivial
  have e0 : t = 0 := by
    rw [e]
    by_cases ej : j = k
    · rw [ej, rr_tt_k]
    · rw [rr_tt_n ej]
  subst e5 e0
  exact br_t rfl H0
end
section
/-! ===== put, add, get, sum ===== -/
theorem rr_isNum {post : Int32 → Prop} {z : Int32} (h1 : ¬ z < (-9999)) (h2 : ¬ 9999 < z) (H : post 1) : wpX_isNumber post () z := br_f h1 (br_f h2 H)
theorem rr_f2 {tt : Nat → Nat} {vv : Nat → Int32} {P : Nat → Nat → Prop} {w : Int32} {l : Nat} {f1 f2 f3 f4 f5 f6 f7 f8 f9 : Int32} {a1 a2 a3 a4 a5 a6 a7 a8 a9 a10 a11 a12 : Nat → Int32} (h : rr_S tt vv P w l (f1, f2, f3, f4, f5, f6, f7, f8, f9, a1, a2, a3, a4, a5, a6, a7, a8, a9, a10, a11, a12)) : f2 = w := by
  obtain ⟨h1, h2, h3, h4, h5, h6, h7, q, hq, h8⟩ := h
  exact h4
theorem rr_put {post : Int32 → St2 → Prop} {V v : Int32} {k m : Nat} {u : St2} (hm : m < 3) (hk : k < 16) (n1 : ¬ v < (-9999)) (n2 : ¬ 9999 < v) (hS : rr_S (rr_tt k 0) (fun _ => V) (fun _ _ => True) 7 0 u)
    (H : ∀ r u', rr_S (rr_tt k (8 + m)) (fun _ => v) (fun _ _ => True) 7 0 u' → post r u') : wpX_put post u (nI m) (nI k) v := by
  obtain ⟨f1, f2, f3, f4, f5, f6, f7, f8, f9, a1, a2, a3, a4, a5, a6, a7, a8, a9, a10, a11, a12⟩ := u
  have on : ¬ (((7 : Int32) >>> (nI m &&& 31)) &&& 1) = 0 := fun z => absurd ((rr_b7 m (by omega)).mp z) (by omega)
  have e2 := rr_f2 hS
  unfold wpX_put
  refine rr_isM (by omega) (br_f rr_10 (rr_isKey hk (br_f rr_10 (rr_isNum n1 n2 (br_f rr_10 (rr_isW rfl (by omega) (fun z => absurd (by rw [e2] at z; exact z) on) (fun _ => br_f rr_10 (rr_read hm hk trivial on hS (fun u1 k1 k2 k3 => ?_)))))))))
  obtain ⟨f1', f2', f3', f4', f5', f6', f7', f8', f9', a1', a2', a3', a4', a5', a6', a7', a8', a9', a10', a11', a12'⟩ := u1
  refine rr_num0 k2 (rr_change (T' := 8 + m) (V' := v) hm hk (by omega) (by omega) k1 k2 k3 (fun u2 k4 => ?_))
  obtain ⟨f1'', f2'', f3'', f4'', f5'', f6'', f7'', f8'', f9'', a1'', a2'', a3'', a4'', a5'', a6'', a7'', a8'', a9'', a10'', a11'', a12''⟩ := u2
  refine H _ _ (rr_S_mono k4 (by omega) (by omega) (fun y t hy _ _ => ?_))
  by_cases e : t = k
  · exact Or.inr ⟨e, fun z => absurd ((rr_b7 y (by omega)).mp z) (by omega)⟩
  · exact Or.inl ⟨trivial, e⟩
theorem rr_add {post : Int32 → St2 → Prop} {v d : Int32} {k m c T T' : Nat} {u : St2} (hm : m < 3) (hc : c < 3) (hcm : c ≠ m) (hk : k < 16) (h0 : 0 < T) (hT' : T' = (T / 8 + 1) * 8 + c) (hT : T' ≤ 99) (n1 : ¬ d < (-9999)) (n2 : ¬ 9999 < d) (n3 : ¬ v + d < (-9999)) (n4 : ¬ 9999 < v + d) (n5 : ¬ v = (-200000)) (hS : rr_S (rr_tt k T) (fun _ => v) (fun _ _ => True) (rr_w m) 0 u)
    (H : ∀ u', rr_S (rr_tt k T') (fun _ => v + d) (fun y _ => y ≠ m) (rr_w m) 0 u' → post (v + d) u') : wpX_add post u (nI c) (nI k) d := by
  obtain ⟨f1, f2, f3, f4, f5, f6, f7, f8, f9, a1, a2, a3, a4, a5, a6, a7, a8, a9, a10, a11, a12⟩ := u
  have on : ¬ ((rr_w m >>> (nI c &&& 31)) &&& 1) = 0 := fun z => absurd ((rr_w_on m hm c hc).mp z) hcm
  have e2 := rr_f2 hS
  unfold wpX_add
  refine rr_isM (by omega) (br_f rr_10 (rr_isKey hk (br_f rr_10 (rr_isNum n1 n2 (br_f rr_10 (rr_isW rfl (by omega) (fun z => absurd (by rw [e2] at z; exact z) on) (fun _ => br_f rr_10 (rr_read hc hk trivial on hS (fun u1 k1 k2 k3 => ?_)))))))))
  obtain ⟨f1', f2', f3', f4', f5', f6', f7', f8', f9', a1', a2', a3', a4', a5', a6', a7', a8', a9', a10', a11', a12'⟩ := u1
  refine rr_num (by omega) h0 k2 (fun _ => br_f n5 (rr_isNum n3 n4 (br_f rr_10 (rr_change (T' := T') (V' := v + d) hc hk hT' hT k1 k2 k3 (fun u2 k4 => ?_))))) (fun z => absurd rfl z)
  obtain ⟨f1'', f2'', f3'', f4'', f5'', f6'', f7'', f8'', f9'', a1'', a2'', a3'', a4'', a5'', a6'', a7'', a8'', a9'', a10'', a11'', a12''⟩ := u2
  refine H _ (rr_S_mono k4 (by omega) (by omega) (fun y t hy _ g => ?_))
  by_cases e : t = k
  · exact Or.inr ⟨e, fun z => absurd ((rr_w_on m hm y hy).mp z) g⟩
  · exact Or.inl ⟨trivial, e⟩
theorem rr_get {post : Int32 → St2 → Prop} {V w : Int32} {k m l T : Nat} {u : St2} (hm : m < 3) (hk : k < 16) (h0 : 0 < T) (hT : T ≤ 99) (on : ¬ ((w >>> (nI m &&& 31)) &&& 1) = 0) (hS : rr_S (rr_tt k T) (fun _ => V) (fun _ _ => True) w l u)
    (H : ∀ u', rr_S (rr_tt k T) (fun _ => V) (fun _ _ => True) w l u' → post V u') : wpX_get post u (nI m) (nI k) := by
  obtain ⟨f1, f2, f3, f4, f5, f6, f7, f8, f9, a1, a2, a3, a4, a5, a6, a7, a8, a9, a10, a11, a12⟩ := u
  have e2 := rr_f2 hS
  unfold wpX_get
  refine rr_isM (by omega) (br_f rr_10 (rr_isKey hk (br_f rr_10 (rr_isW rfl (by omega) (fun z => absurd (by rw [e2] at z; exact z) on) (fun _ => br_f rr_10 (rr_read hm hk trivial on hS (fun u1 k1 k2 k3 => ?_)))))))
  obtain ⟨f1', f2', f3', f4', f5', f6', f7', f8', f9', a1', a2', a3', a4', a5', a6', a7', a8', a9', a10', a11', a12'⟩ := u1
  exact rr_num hT h0 k2 (fun _ => H _ k1) (fun z => absurd rfl z)
theorem rr_leader {post : Int32 → Prop} {f1 f2 f3 f4 f5 f6 f7 f8 f9 : Int32} {a1 a2 a3 a4 a5 a6 a7 a8 a9 a10 a11 a12 : Nat → Int32} {x : Nat} (hx : x < 3) (e2 : f2 = rr_w x) (H : ∀ c, c < 3 → c ≠ x → post (nI c)) : wpX_leader post (f1, f2, f3, f4, f5, f6, f7, f8, f9, a1, a2, a3, a4, a5, a6, a7, a8, a9, a10, a11, a12) := by
  subst e2
  refine ⟨2, br_f (by decide) (rr_isW (x := 0) rfl (by omega) (fun z => br_t rfl (nm_r (e' := nI 1) rfl (br_f (by decide) (rr_isW (x := 1) rfl (by omega) (fun z2 => ?_) (fun z2 => br_f rr_10 (H 1 (by omega) (fun e => ?_))))))) (fun z => br_f rr_10 (H 0 (by omega) (fun e => ?_))))⟩
  · have g1 := (rr_w_on x hx 0 (by omega)).mp z
    have g2 := (rr_w_on x hx 1 (by omega)).mp z2
    omega
  · exact z2 ((rr_w_on x hx 1 (by omega)).mpr e)
  · exact z ((rr_w_on x hx 0 (by omega)).mpr e)
theorem rr_numberOf {post : Int32 → St2 → Prop} {V : Int32} {k x l T j : Nat} {u : St2} (hx : x < 3) (hj : j < 16) (h0 : 0 < T) (hT : T ≤ 99) (hS : rr_S (rr_tt k T) (fun _ => V) (fun _ _ => True) (rr_w x) l u)
    (H1 : j = k → ∀ u', rr_S (rr_tt k T) (fun _ => V) (fun _ _ => True) (rr_w x) l u' → post V u') (H0 : j ≠ k → ∀ u', rr_S (rr_tt k T) (fun _ => V) (fun _ _ => True) (rr_w x) l u' → post (-200000) u') : wpX_numberOf post u (nI j) := by
  obtain ⟨f1, f2, f3, f4, f5, f6, f7, f8, f9, a1, a2, a3, a4, a5, a6, a7, a8, a9, a10, a11, a12⟩ := u
  unfold wpX_numberOf
  refine rr_leader hx (rr_f2 hS) (fun c hc hcx => rr_read hc hj trivial (fun z => hcx ((rr_w_on x hx c hc).mp z)) hS (fun u1 k1 k2 k3 => ?_))
  obtain ⟨f1', f2', f3', f4', f5', f6', f7', f8', f9', a1', a2', a3', a4', a5', a6', a7', a8', a9', a10', a11', a12'⟩ := u1
  exact rr_num hT h0 k2 (fun e => H1 e _ k1) (fun e => H0 e _ k1)
theorem rr_sum {post : Int32 → St2 → Prop} {V : Int32} {k x l T : Nat} {u : St2} (hx : x < 3) (hk : k < 16) (h0 : 0 < T) (hT : T ≤ 99) (hV : ¬ V = (-200000)) (hS : rr_S (rr_tt k T) (fun _ => V) (fun _ _ => True) (rr_w x) l u)
    (H : ∀ u', rr_S (rr_tt k T) (fun _ => V) (fun _ _ => True) (rr_w x) l u' → post V u') : wpX_sum post u := by
  obtain ⟨f1, f2, f3, f4, f5, f6, f7, f8, f9, a1, a2, a3, a4, a5, a6, a7, a8, a9, a10, a11, a12⟩ := u
  refine pk_loop (fun n i (s : Int32 × St2) => rr_ap (wX_sum_4 post n s.1 (nI i)) s.2) (fun i s => s.1 = (if i ≤ k then 0 else V) ∧ rr_S (rr_tt k T) (fun _ => V) (fun _ _ => True) (rr_w x) l s.2) 16 0 (0, (f1, f2, f3, f4, f5, f6, f7, f8, f9, a1, a2, a3, a4, a5, a6, a7, a8, a9, a10, a11, a12)) (by omega) ⟨(if_pos (Nat.zero_le k)).symm, hS⟩ ?_ ?_
  · intro n s h
    obtain ⟨x1, ⟨f1', f2', f3', f4', f5', f6', f7', f8', f9', a1', a2', a3', a4', a5', a6', a7', a8', a9', a10', a11', a12'⟩⟩ := s
    obtain ⟨e, hS⟩ := h
    have e' : x1 = V := by rw [if_neg (by omega)] at e; exact e
    subst e'
    exact br_t (by decide) (H _ hS)
  · intro n i s hi h hw
    obtain ⟨x1, ⟨f1', f2', f3', f4', f5', f6', f7', f8', f9', a1', a2', a3', a4', a5', a6', a7', a8', a9', a10', a11', a12'⟩⟩ := s
    obtain ⟨e, hS⟩ := h
    have e' : x1 = (if i ≤ k then 0 else V) := e
    refine pk_le 16 i (fun z => absurd z (by omega)) (fun _ => rr_numberOf hx hi h0 hT hS (fun ek u1 k1 => ?_) (fun ek u1 k1 => ?_))
    · obtain ⟨f1'', f2'', f3'', f4'', f5'', f6'', f7'', f8'', f9'', a1'', a2'', a3'', a4'', a5'', a6'', a7'', a8'', a9'', a10'', a11'', a12''⟩ := u1
      refine br_f hV (nm_r (e' := V) ?_ (nm_r (nI_1 i) (hw (V, (f1'', f2'', f3'', f4'', f5'', f6'', f7'', f8'', f9'', a1'', a2'', a3'', a4'', a5'', a6'', a7'', a8'', a9'', a10'', a11'', a12'')) ⟨?_, k1⟩)))
      · rw [e', if_pos (by omega)]
        exact Int32.zero_add V
      · exact (if_neg (by omega)).symm
    · obtain ⟨f1'', f2'', f3'', f4'', f5'', f6'', f7'', f8'', f9'', a1'', a2'', a3'', a4'', a5'', a6'', a7'', a8'', a9'', a10'', a11'', a12''⟩ := u1
      refine br_t rfl (nm_r (e' := x1) (Int32.add_zero x1) (nm_r (nI_1 i) (hw (x1, (f1'', f2'', f3'', f4'', f5'', f6'', f7'', f8'', f9'', a1'', a2'', a3'', a4'', a5'', a6'', a7'', a8'', a9'', a10'', a11'', a12'')) ⟨?_, k1⟩)))
      show x1 = (if i + 1 ≤ k then 0 else V)
      rw [e']
      by_cases z : i ≤ k
      · rw [if_pos z, if_pos (by omega)]
      · rw [if_neg z, if_neg (by omega)]
/-! ===== numbers out of the script ===== -/
theorem rr_val (p : Int32) : ∃ a, a < 9001 ∧ ((p &&& 65535) - (p &&& 65535) / 9001 * 9001) - 4500 = nI a - nI 4500 := by
  obtain ⟨t, ht, e⟩ := pk_andE p (m := 65535) 16 (by decide)
  refine ⟨t % 9001, by omega, ?_⟩
  rw [e]
  have er : nI t - nI t / 9001 * 9001 = nI (t % 9001) := pk_rem (d := 9001) (by omega) (by omega) (by omega)
  rw [er]
  rfl
theorem rr_mod3 (p : Int32) : ∃ m, m < 3 ∧ (p &&& 65535) - (p &&& 65535) / 3 * 3 = nI m := by
  obtain ⟨t, ht, e⟩ := pk_andE p (m := 65535) 16 (by decide)
  refine ⟨t % 3, by omega, ?_⟩
  rw [e]
  exact pk_rem (d := 3) (by omega) (by omega) (by omega)
theorem rr_nx (m s : Nat) (hm : m < 3) (hs : s < 3) : (nI m + nI s) - (nI m + nI s) / 3 * 3 = nI ((m + s) % 3) := by
  rw [nI_add]
  exact pk_rem (d := 3) (by omega) (by omega) (by omega)
theorem rr_rng {a n : Nat} (hn : n ≤ 9000) (ha : a ≤ 2 * n) : ¬ (nI a - nI n) < (-9999) ∧ ¬ 9999 < (nI a - nI n) ∧ ¬ (nI a - nI n) = (-200000) := by
  have e : (nI a - nI n).toInt = (a : Int) - n := pk_sub_toInt (by omega) (by omega)
  have e1 : (-9999 : Int32).toInt = -9999 := by decide
  have e2 : (9999 : Int32).toInt = 9999 := by decide
  have e3 : (-200000 : Int32).toInt = -200000 := by decide
  refine ⟨fun h => ?_, fun h => ?_, fun h => ?_⟩
  · rw [Int32.lt_iff_toInt_lt, e, e1] at h
    omega
  · rw [Int32.lt_iff_toInt_lt, e, e2] at h
    omega
  · have := congrArg Int32.toInt h
    rw [e, e3] at this
    omega
theorem rr_add9 (a b : Nat) : (nI a - nI 4500) + (nI b - nI 4500) = nI (a + b) - nI 9000 := by
  rw [← nI_add a b, show nI 9000 = nI 4500 + nI 4500 from rfl]
  grind
/-! ===== the law ===== -/
theorem rr_154 {post : Int32 → St0 → Prop} {mc ms kc ks : Nat} {p4 v d : Int32} {k m c e x T : Nat} {u : St2} (hk : k < 16) (hm : m < 3) (hx : x < 3) (hxm : m ≠ x) (h0 : 0 < T) (hT : T ≤ 99) (hV : ¬ v + d = (-200000)) (hc : ((p4 >>> ((5 : Int32) &&& 31)) &&& 1) = 0 → x = c) (he : ¬ ((p4 >>> ((5 : Int32) &&& 31)) &&& 1) = 0 → x = e)
    (hS : rr_S (rr_tt k T) (fun _ => v + d) (fun _ _ => True) 7 15 u) (H : post 1 ()) : rr_ap (wL_lawOf_154 post mc ms p4 (nI k) v d (nI m) (nI c) (nI e) 1 (v + d) 1 (nI x) kc ks) u := by
  obtain ⟨f1, f2, f3, f4, f5, f6, f7, f8, f9, a1, a2, a3, a4, a5, a6, a7, a8, a9, a10, a11, a12⟩ := u
  show wL_lawOf_154 post mc ms p4 (nI k) v d (nI m) (nI c) (nI e) 1 (v + d) 1 (nI x) kc ks f1 f2 f3 f4 f5 f6 f7 f8 f9 a1 a2 a3 a4 a5 a6 a7 a8 a9 a10 a11 a12
  unfold wL_lawOf_154
  refine rr_down hx hS (fun u1 h1 => ?_)
  obtain ⟨f1', f2', f3', f4', f5', f6', f7', f8', f9', a1', a2', a3', a4', a5', a6', a7', a8', a9', a10', a11', a12'⟩ := u1
  refine rr_get hm hk h0 hT (fun z => hxm ((rr_w_on x hx m hm).mp z)) h1 (fun u2 h2 => ?_)
  obtain ⟨f1', f2', f3', f4', f5', f6', f7', f8', f9', a1', a2', a3', a4', a5', a6', a7', a8', a9', a10', a11', a12'⟩ := u2
  refine rr_sum hx hk h0 hT hV h2 (fun u3 h3 => ?_)
  obtain ⟨f1'', f2'', f3'', f4'', f5'', f6'', f7'', f8'', f9'', a1'', a2'', a3'', a4'', a5'', a6'', a7'', a8'', a9'', a10'', a11'', a12''⟩ := u3
  have e2 : f2'' = rr_w x := rr_f2 h3
  refine br_f rr_10 (br_t rfl (br_f rr_10 (br_f rr_10 (br_t rfl (br_t rfl (br_c (fun z => br_t ?_ H) (fun z => br_t ?_ H)))))))
  · rw [e2, ← hc z]
    rfl
  · rw [e2, ← he z]
    rfl
theorem rr_131 {post : Int32 → St0 → Prop} {mc ms kc ks : Nat} {p4 v d z0 : Int32} {k m c e T : Nat} {u : St2} (hk : k < 16) (hm : m < 3) (hc : c < 3) (he : e < 3) (hcm : m ≠ c) (hem : m ≠ e) (h0 : 0 < T) (hT : T ≤ 99) (hV : ¬ v + d = (-200000))
    (hS : rr_S (rr_tt k T) (fun _ => v + d) (fun y _ => y ≠ m) (rr_w m) 15 u) (H : post 1 ()) : rr_ap (wL_lawOf_131 post mc ms p4 (nI k) v d (nI m) (nI c) (nI e) 1 (v + d) z0 (nI m) kc ks) u := by
  obtain ⟨f1, f2, f3, f4, f5, f6, f7, f8, f9, a1, a2, a3, a4, a5, a6, a7, a8, a9, a10, a11, a12⟩ := u
  show wL_lawOf_131 post mc ms p4 (nI k) v d (nI m) (nI c) (nI e) 1 (v + d) z0 (nI m) kc ks f1 f2 f3 f4 f5 f6 f7 f8 f9 a1 a2 a3 a4 a5 a6 a7 a8 a9 a10 a11 a12
  unfold wL_lawOf_131
  refine rr_up hm hS (fun u1 h1 => ?_)
  obtain ⟨f1', f2', f3', f4', f5', f6', f7', f8', f9', a1', a2', a3', a4', a5', a6', a7', a8', a9', a10', a11', a12'⟩ := u1
  exact br_c (fun z => rr_154 (u := (f1', f2', f3', f4', f5', f6', f7', f8', f9', a1', a2', a3', a4', a5', a6', a7', a8', a9', a10', a11', a12')) hk hm hc hcm h0 hT hV (fun _ => rfl) (fun z2 => absurd z z2) h1 H) (fun z => rr_154 (u := (f1', f2', f3', f4', f5', f6', f7', f8', f9', a1', a2', a3', a4', a5', a6', a7', a8', a9', a10', a11', a12')) hk hm he hem h0 hT hV (fun z2 => absurd z2 z) (fun _ => rfl) h1 H)
theorem rr_init {post : St2 → Prop} {k : Nat} (H : ∀ u, rr_S (rr_tt k 0) (fun _ => 0) (fun _ _ => True) 7 0 u → post u) : wpX_init post 12 2160 (0, 0, 0, 0, 0, 0, 0, 0, 0) := by
  have tt0 : ∀ j, rr_tt k 0 j = 0 := by
    intro j
    by_cases e : j = k
    · rw [e, rr_tt_k]
    · rw [rr_tt_n e]
  refine ⟨by decide, by decide, by decide, by decide, by decide, by decide, by decide, by decide, by decide, by decide, by decide, by decide, by decide, by decide, by decide, by decide, by decide, by decide, by decide, by decide, by decide, by decide, by decide, by decide, rr_lay rfl (fun g3 b1 b2 hG => ?_)⟩
  refine H _ ⟨fun j => by rw [tt0]; omega, by omega, rfl, rfl, hG, ⟨fun _ => rfl, fun x j _ _ => ⟨0, rfl, Nat.zero_le _, fun _ z => absurd rfl z, fun _ => (tt0 j).symm⟩⟩, ⟨fun _ => rfl, fun i _ => ⟨0, rfl, Nat.zero_le _, fun _ z => absurd rfl z⟩⟩, 0, Nat.le_refl 0, rfl⟩
theorem rr_law {post : Int32 → St0 → Prop} {p0 p1 p2 p3 p4 : Int32} (H : post 1 ()) : wpL_lawOf post 13 2181 () p0 p1 p2 p3 p4 := by
  obtain ⟨k, hk, ek⟩ := pk_andE p0 (m := 15) 4 (by decide)
  obtain ⟨a, ha, ea⟩ := rr_val p1
  obtain ⟨b, hb, eb⟩ := rr_val p2
  obtain ⟨m, hm, em⟩ := rr_mod3 p3
  have hk' : k < 16 := hk
  obtain ⟨r1, r2, r3⟩ := rr_rng (a := a) (n := 4500) (by omega) (by omega)
  obtain ⟨s1, s2, _⟩ := rr_rng (a := b) (n := 4500) (by omega) (by omega)
  obtain ⟨t1, t2, t3⟩ := rr_rng (a := a + b) (n := 9000) (by omega) (by omega)
  rw [← rr_add9] at t1 t2 t3
  refine ⟨by decide, by decide, 12, 2160, by decide, by decide, rr_init (k := k) (fun u hu => ?_)⟩
  obtain ⟨f1, f2, f3, f4, f5, f6, f7, f8, f9, a1, a2, a3, a4, a5, a6, a7, a8, a9, a10, a11, a12⟩ := u
  refine nm_r ek ⟨by decide, nm_r ea ⟨by decide, nm_r eb ⟨by decide, nm_r em ⟨by decide, nm_r (e' := nI ((m + 1) % 3)) (rr_nx m 1 hm (by omega)) ⟨by decide, nm_r (e' := nI ((m + 2) % 3)) (rr_nx m 2 hm (by omega)) ?_⟩⟩⟩⟩⟩
  refine rr_put hm hk' r1 r2 hu (fun r u1 h1 => ?_)
  obtain ⟨f1', f2', f3', f4', f5', f6', f7', f8', f9', a1', a2', a3', a4', a5', a6', a7', a8', a9', a10', a11', a12'⟩ := u1
  refine rr_down hm h1 (fun u2 h2 => ?_)
  obtain ⟨f1', f2', f3', f4', f5', f6', f7', f8', f9', a1', a2', a3', a4', a5', a6', a7', a8', a9', a10', a11', a12'⟩ := u2
  refine rr_add (T' := ((8 + m) / 8 + 1) * 8 + (m + 1) % 3) hm (by omega) (by omega) hk' (by omega) rfl (by omega) s1 s2 t1 t2 r3 h2 (fun u3 h3 => ?_)
  obtain ⟨f1', f2', f3', f4', f5', f6', f7', f8', f9', a1', a2', a3', a4', a5', a6', a7', a8', a9', a10', a11', a12'⟩ := u3
  refine rr_lose h3 (fun r' u4 h4 => ?_)
  obtain ⟨f1', f2', f3', f4', f5', f6', f7', f8', f9', a1', a2', a3', a4', a5', a6', a7', a8', a9', a10', a11', a12'⟩ := u4
  exact br_c (fun _ => rr_131 (u := (f1', f2', f3', f4', f5', f6', f7', f8', f9', a1', a2', a3', a4', a5', a6', a7', a8', a9', a10', a11', a12')) hk' hm (by omega) (by omega) (by omega) (by omega) (by omega) (by omega) t3 h4 H) (fun _ => rr_131 (u := (f1', f2', f3', f4', f5', f6', f7', f8', f9', a1', a2', a3', a4', a5', a6', a7', a8', a9', a10', a11', a12')) hk' hm (by omega) (by omega) (by omega) (by omega) (by omega) (by omega) t3 h4 H)
theorem rr_cell {post : Int32 → Prop} {L : Nat} {xs : Nat → Int32} {i : Nat} {z : Int32} (hz : z = nI i) (hL : L ≤ 5) (hi : i < 5) (H : ∀ r, post r) : wpL_cellAt post L xs () z := by
  subst hz
  exact pk_le L i (fun _ => H 0) (fun h => ⟨vp_in_nI h (by omega), H _⟩)
theorem i_vc (xs : Nat → Int32) (L : Nat) (hL : L ≤ 5) : wpL_law (fun r => r = 1) L xs :=
  rr_cell (i := 0) rfl hL (by omega) (fun r1 => rr_cell (i := 1) rfl hL (by omega) (fun r2 => rr_cell (i := 2) rfl hL (by omega) (fun r3 => rr_cell (i := 3) rfl hL (by omega) (fun r4 => rr_cell (i := 4) rfl hL (by omega) (fun r5 => ⟨13, 2181, by decide, by decide, rr_law rfl⟩)))))
end
