section
/-! bits of an Int32 (the family bt of BITS.to-paste, renamed), and the tests that the program makes with them -/
def pb_t (x : Int32) (i : Nat) : Bool := x.toBitVec.getLsbD i
theorem pb_ext {x y : Int32} (h : ∀ i, i < 32 → pb_t x i = pb_t y i) : x = y := Int32.toBitVec_inj.mp (BitVec.eq_of_getLsbD_eq (fun i hi => h i hi))
theorem pb_or (x y : Int32) (i : Nat) : pb_t (x ||| y) i = (pb_t x i || pb_t y i) := by unfold pb_t; rw [Int32.toBitVec_or, BitVec.getLsbD_or]
theorem pb_and (x y : Int32) (i : Nat) : pb_t (x &&& y) i = (pb_t x i && pb_t y i) := by unfold pb_t; rw [Int32.toBitVec_and, BitVec.getLsbD_and]
theorem pb_xor (x y : Int32) (i : Nat) : pb_t (x ^^^ y) i = (pb_t x i ^^ pb_t y i) := by unfold pb_t; rw [Int32.toBitVec_xor, BitVec.getLsbD_xor]
theorem pb_m1 : ∀ i, i < 32 → pb_t (-1) i = true := by decide +kernel
theorem pb_0 (i : Nat) : pb_t 0 i = false := BitVec.getLsbD_zero
theorem pb_1 : ∀ i, i < 32 → pb_t 1 i = decide (i = 0) := by decide +kernel
theorem pb_sl : ∀ n, n < 32 → ((nI n &&& 31).toBitVec.smod 32).toNat = n := by decide +kernel
theorem pb_shl (n : Nat) (hn : n < 32) (x : Int32) {i : Nat} (hi : i < 32) : pb_t (x <<< (nI n &&& 31)) i = (decide (n ≤ i) && pb_t x (i - n)) := by
  unfold pb_t
  rw [Int32.toBitVec_shiftLeft]
  show (x.toBitVec <<< ((nI n &&& 31).toBitVec.smod 32).toNat).getLsbD i = _
  rw [pb_sl n hn, BitVec.getLsbD_shiftLeft]
  rcases Nat.lt_or_ge i n with h | h
  · simp [h, Nat.not_le.mpr h]
  · simp [hi, h, Nat.not_lt.mpr h]
theorem pb_sshr (n : Nat) (hn : n < 32) (x : Int32) {i : Nat} (hi : i < 32) : pb_t (x >>> (nI n &&& 31)) i = if n + i < 32 then pb_t x (n + i) else pb_t x 31 := by
  unfold pb_t
  rw [Int32.toBitVec_shiftRight]
  show (x.toBitVec.sshiftRight ((nI n &&& 31).toBitVec.smod 32).toNat).getLsbD i = _
  rw [pb_sl n hn, BitVec.getLsbD_sshiftRight, BitVec.msb_eq_getLsbD_last]
  simp [hi]
/-- one bit set -/
theorem pb_pow (n : Nat) (hn : n < 32) {i : Nat} (hi : i < 32) : pb_t ((1 : Int32) <<< (nI n &&& 31)) i = decide (i = n) := by
  rw [pb_shl n hn 1 hi, pb_1 (i - n) (by omega)]
  by_cases h : i = n
  · subst h
    simp
  · rcases Nat.lt_or_ge i n with g | g
    · simp [h, Nat.not_le.mpr g]
    · have : ¬ i - n = 0 := by omega
      simp [h, this]
theorem pb_one (x : Int32) : (x &&& 1) = 1 ↔ pb_t x 0 = true := by
  constructor
  · intro h
    have e := pb_and x 1 0
    rw [h, pb_1 0 (by omega)] at e
    simpa using e.symm
  · intro h
    apply pb_ext
    intro i hi
    rw [pb_and, pb_1 i hi]
    by_cases g : i = 0
    · subst g
      simp [h]
    · simp [g]
/-- ((x >> n) & 1) == 1 -/
theorem pb_bit (x : Int32) {n : Nat} (hn : n < 32) : ((x >>> (nI n &&& 31)) &&& 1) = 1 ↔ pb_t x n = true := by
  rw [pb_one, pb_sshr n hn x (by omega), if_pos (by omega)]
  rfl
/-- x |= 1 << n -/
theorem pb_set (x : Int32) {n i : Nat} (hn : n < 32) (hi : i < 32) : pb_t (x ||| ((1 : Int32) <<< (nI n &&& 31))) i = (pb_t x i || decide (i = n)) := by
  rw [pb_or, pb_pow n hn hi]
/-- x &= ~(1 << n) -/
theorem pb_clr (x : Int32) {n i : Nat} (hn : n < 32) (hi : i < 32) : pb_t (x &&& (((1 : Int32) <<< (nI n &&& 31)) ^^^ (-1))) i = (pb_t x i && !decide (i = n)) := by
  rw [pb_and, pb_xor, pb_pow n hn hi, pb_m1 i hi]
  simp
/-- (r & ~x) == 0 -/
theorem pb_sub (r x : Int32) (h : ∀ i, i < 32 → pb_t r i = true → pb_t x i = true) : (r &&& (x ^^^ (-1))) = 0 := by
  apply pb_ext
  intro i hi
  rw [pb_and, pb_xor, pb_m1 i hi, pb_0]
  have := h i hi
  revert this
  cases pb_t r i <;> cases pb_t x i <;> simp
theorem pn_cl {n : Nat} (h : n < 2 ^ 31) : (nI n).toNatClampNeg = n := nI_clamp h
theorem pn_8 (y n : Nat) : nI y * 8 + nI n = nI (y * 8 + n) := by
  rw [show (8 : Int32) = nI 8 from rfl, pk_mul, nI_add]
theorem pn_inj {a b : Nat} (ha : a < 2 ^ 31) (hb : b < 2 ^ 31) (h : nI a = nI b) : a = b := (nI_eq ha hb).mp h
theorem pn_m1 : (-1 : Int32) < 0 := by decide
theorem pn_nn {n : Nat} (h : n < 2 ^ 31) : ¬ nI n < 0 := nI_pos h
theorem pn_ne {n : Nat} (h : n < 2 ^ 31) : ¬ nI n = -1 := fun e => nI_pos h (e ▸ pn_m1)
end
section
/-! the pure picture: a graph, an automaton of moves (kind, from, to), paths with their cost -/
/-- an edge of kind k (a label, or 3 more: backwards) from node n to node c -/
def pa_E (T : Nat → Nat → Nat → Bool) (k n c : Nat) : Prop := c < 8 ∧ ((k < 3 ∧ T k n c = true) ∨ (3 ≤ k ∧ k < 6 ∧ T (k - 3) c n = true))
/-- a move of kind k takes node n to node c at cost e -/
def pa_k (T : Nat → Nat → Nat → Bool) (k n e c : Nat) : Prop := (e = 0 ∧ c = n ∧ (k = 6 ∨ k = 7 + n)) ∨ (e = 1 ∧ k < 6 ∧ pa_E T k n c)
def pa_st (T : Nat → Nat → Nat → Bool) (ms : List (Nat × Nat × Nat)) (x n e y c : Nat) : Prop := ∃ k, (k, x, y) ∈ ms ∧ pa_k T k n e c
/-- a path of cost d from (x, a) to (y, b): the least relation -/
def pa_P (T : Nat → Nat → Nat → Bool) (ms : List (Nat × Nat × Nat)) (x a d y b : Nat) : Prop :=
  ∀ R : Nat → Nat → Nat → Prop, R 0 x a → (∀ d y b e z c, R d y b → pa_st T ms y b e z c → R (d + e) z c) → R d y b
section
variable {T : Nat → Nat → Nat → Bool} {ms ms' : List (Nat × Nat × Nat)}
theorem pa_k6 {n e c : Nat} (h : pa_k T 6 n e c) : e = 0 ∧ c = n := by
  rcases h with ⟨h1, h2, _⟩ | ⟨_, h2, _⟩
  · exact ⟨h1, h2⟩
  · omega
theorem pa_st6 {x y n : Nat} (h : (6, x, y) ∈ ms) : pa_st T ms x n 0 y n := ⟨6, h, Or.inl ⟨rfl, rfl, Or.inl rfl⟩⟩
theorem pa_P0 (x a : Nat) : pa_P T ms x a 0 x a := fun _ h _ => h
theorem pa_Ps {x a d y b e z c : Nat} (h : pa_P T ms x a d y b) (s : pa_st T ms y b e z c) : pa_P T ms x a (d + e) z c :=
  fun R h0 hs => hs _ _ _ _ _ _ (h R h0 hs) s
theorem pa_P6 {x a d y b z : Nat} (h : pa_P T ms x a d y b) (s : (6, y, z) ∈ ms) : pa_P T ms x a d z b := pa_Ps (e := 0) h (pa_st6 s)
theorem pa_Pt {x a d y b d' z c : Nat} (h : pa_P T ms x a d y b) (g : pa_P T ms y b d' z c) : pa_P T ms x a (d + d') z c :=
  g (fun d' z c => pa_P T ms x a (d + d') z c) h (fun d' _ _ e _ _ hr hs => by
    have := pa_Ps hr hs
    rwa [Nat.add_assoc] at this)
/-- moves carried over by an offset o -/
theorem pa_Pm (o : Nat) (hm : ∀ k y z, (k, y, z) ∈ ms → (k, y + o, z + o) ∈ ms') {x a d y b : Nat} (h : pa_P T ms x a d y b) : pa_P T ms' (x + o) a d (y + o) b :=
  h (fun d y b => pa_P T ms' (x + o) a d (y + o) b) (pa_P0 _ _) (fun _ _ _ _ _ _ hr hs => by
    obtain ⟨k, h1, h2⟩ := hs
    exact pa_Ps hr ⟨k, hm _ _ _ h1, h2⟩)
end
def pa_sh (o : Nat) (ms : List (Nat × Nat × Nat)) : List (Nat × Nat × Nat) := ms.map (fun v => (v.1, v.2.1 + o, v.2.2 + o))
theorem pa_sh_mem {o k x y : Nat} {ms : List (Nat × Nat × Nat)} : (k, x, y) ∈ pa_sh o ms ↔ ∃ x' y', (k, x', y') ∈ ms ∧ x = x' + o ∧ y = y' + o := by
  unfold pa_sh
  rw [List.mem_map]
  constructor
  · rintro ⟨⟨k', x', y'⟩, h, e⟩
    injection e with e1 e2
    injection e2 with e2 e3
    subst e1
    exact ⟨x', y', h, e2.symm, e3.symm⟩
  · rintro ⟨x', y', h, rfl, rfl⟩
    exact ⟨(k, x', y'), h, rfl⟩
theorem pa_sh0 (ms : List (Nat × Nat × Nat)) : pa_sh 0 ms = ms := by
  unfold pa_sh
  exact List.map_id' ms
theorem pa_shsh (o o' : Nat) (ms : List (Nat × Nat × Nat)) : pa_sh o (pa_sh o' ms) = pa_sh (o + o') ms := by
  unfold pa_sh
  rw [List.map_map]
  apply List.map_congr_left
  intro v _
  show (v.1, v.2.1 + o' + o, v.2.2 + o' + o) = (v.1, v.2.1 + (o + o'), v.2.2 + (o + o'))
  rw [Nat.add_assoc, Nat.add_assoc, Nat.add_comm o' o]
theorem pa_sh_len (o : Nat) (ms : List (Nat × Nat × Nat)) : (pa_sh o ms).length = ms.length := List.length_map _
theorem pa_sh_app (o : Nat) (l l' : List (Nat × Nat × Nat)) : pa_sh o (l ++ l') = pa_sh o l ++ pa_sh o l' := List.map_append
/-! fragments: (number of states, moves, start, end) -/
abbrev pa_F : Type := Nat × List (Nat × Nat × Nat) × Nat × Nat
def pa_atom (k : Nat) : pa_F := (2, [(k, 0, 1)], 0, 1)
def pa_then (F G : pa_F) : pa_F := (F.1 + G.1, F.2.1 ++ pa_sh F.1 G.2.1 ++ [(6, F.2.2.2, G.2.2.1 + F.1)], F.2.2.1, G.2.2.2 + F.1)
def pa_or (F G : pa_F) : pa_F := (F.1 + G.1 + 2, F.2.1 ++ pa_sh F.1 G.2.1 ++ [(6, F.1 + G.1, F.2.2.1), (6, F.1 + G.1, G.2.2.1 + F.1), (6, F.2.2.2, F.1 + G.1 + 1), (6, G.2.2.2 + F.1, F.1 + G.1 + 1)], F.1 + G.1, F.1 + G.1 + 1)
def pa_star (F : pa_F) : pa_F := (F.1 + 2, F.2.1 ++ [(6, F.1, F.2.2.1), (6, F.2.2.2, F.1 + 1), (6, F.2.2.2, F.2.2.1), (6, F.1, F.1 + 1)], F.1, F.1 + 1)
def pa_wf (ms : List (Nat × Nat × Nat)) (n : Nat) : Prop := ∀ k x y, (k, x, y) ∈ ms → k < 15 ∧ x < n ∧ y < n
def pa_fw (F : pa_F) : Prop := pa_wf F.2.1 F.1 ∧ F.2.2.1 < F.1 ∧ F.2.2.2 < F.1
theorem pa_tr {k x y k' x' y' : Nat} : ((k, x, y) : Nat × Nat × Nat) = (k', x', y') ↔ k = k' ∧ x = x' ∧ y = y' := by
  rw [Prod.mk.injEq, Prod.mk.injEq]
theorem pa_then_mem {F G : pa_F} {k x z : Nat} : (k, x, z) ∈ (pa_then F G).2.1 ↔ (k, x, z) ∈ F.2.1 ∨ (∃ x' z', (k, x', z') ∈ G.2.1 ∧ x = x' + F.1 ∧ z = z' + F.1) ∨ (k = 6 ∧ x = F.2.2.2 ∧ z = G.2.2.1 + F.1) := by
  unfold pa_then
  dsimp only
  rw [List.mem_append, List.mem_append, pa_sh_mem, List.mem_singleton, pa_tr, or_assoc]
theorem pa_or_mem {F G : pa_F} {k x z : Nat} : (k, x, z) ∈ (pa_or F G).2.1 ↔ (k, x, z) ∈ F.2.1 ∨ (∃ x' z', (k, x', z') ∈ G.2.1 ∧ x = x' + F.1 ∧ z = z' + F.1) ∨ ((k = 6 ∧ x = F.1 + G.1 ∧ z = F.2.2.1) ∨ (k = 6 ∧ x = F.1 + G.1 ∧ z = G.2.2.1 + F.1) ∨ (k = 6 ∧ x = F.2.2.2 ∧ z = F.1 + G.1 + 1) ∨ (k = 6 ∧ x = G.2.2.2 + F.1 ∧ z = F.1 + G.1 + 1)) := by
  unfold pa_or
  dsimp only
  rw [List.mem_append, List.mem_append, pa_sh_mem, List.mem_cons, List.mem_cons, List.mem_cons, List.mem_singleton, pa_tr, pa_tr, pa_tr, pa_tr, or_assoc]
theorem pa_star_mem {F : pa_F} {k x z : Nat} : (k, x, z) ∈ (pa_star F).2.1 ↔ (k, x, z) ∈ F.2.1 ∨ ((k = 6 ∧ x = F.1 ∧ z = F.2.2.1) ∨ (k = 6 ∧ x = F.2.2.2 ∧ z = F.1 + 1) ∨ (k = 6 ∧ x = F.2.2.2 ∧ z = F.2.2.1) ∨ (k = 6 ∧ x = F.1 ∧ z = F.1 + 1)) := by
  unfold pa_star
  dsimp only
  rw [List.mem_append, List.mem_cons, List.mem_cons, List.mem_cons, List.mem_singleton, pa_tr, pa_tr, pa_tr, pa_tr]
theorem pa_atom_fw {k : Nat} (hk : k < 15) : pa_fw (pa_atom k) := by
  refine ⟨fun k' x y h => ?_, Nat.zero_lt_two, Nat.one_lt_two⟩
  have h' : (k', x, y) ∈ [(k, 0, 1)] := h
  rw [List.mem_singleton, pa_tr] at h'
  show _ ∧ x < 2 ∧ y < 2
  omega
theorem pa_then_fw {F G : pa_F} (hF : pa_fw F) (hG : pa_fw G) : pa_fw (pa_then F G) := by
  obtain ⟨w, s, e⟩ := hF
  obtain ⟨w', s', e'⟩ := hG
  refine ⟨fun k x y h => ?_, ?_, ?_⟩
  · show _ ∧ x < F.1 + G.1 ∧ y < F.1 + G.1
    rcases pa_then_mem.mp h with h | ⟨x', z', h', rfl, rfl⟩ | ⟨rfl, rfl, rfl⟩
    · have := w _ _ _ h
      omega
    · have := w' _ _ _ h'
      omega
    · omega
  · show F.2.2.1 < F.1 + G.1
    omega
  · show G.2.2.2 + F.1 < F.1 + G.1
    omega
theorem pa_or_fw {F G : pa_F} (hF : pa_fw F) (hG : pa_fw G) : pa_fw (pa_or F G) := by
  obtain ⟨w, s, e⟩ := hF
  obtain ⟨w', s', e'⟩ := hG
  refine ⟨fun k x y h => ?_, ?_, ?_⟩
  · show _ ∧ x < F.1 + G.1 + 2 ∧ y < F.1 + G.1 + 2
    rcases pa_or_mem.mp h with h | ⟨x', z', h', rfl, rfl⟩ | h
    · have := w _ _ _ h
      omega
    · have := w' _ _ _ h'
      omega
    · omega
  · show F.1 + G.1 < F.1 + G.1 + 2
    omega
  · show F.1 + G.1 + 1 < F.1 + G.1 + 2
    omega
theorem pa_star_fw {F : pa_F} (hF : pa_fw F) : pa_fw (pa_star F) := by
  obtain ⟨w, s, e⟩ := hF
  refine ⟨fun k x y h => ?_, ?_, ?_⟩
  · show _ ∧ x < F.1 + 2 ∧ y < F.1 + 2
    rcases pa_star_mem.mp h with h | h
    · have := w _ _ _ h
      omega
    · omega
  · show F.1 < F.1 + 2
    omega
  · show F.1 + 1 < F.1 + 2
    omega
/-! what the law asks of the answers -/
/-- a path of cost d through the fragment F -/
def pa_Q (T : Nat → Nat → Nat → Bool) (F : pa_F) (a d b : Nat) : Prop := pa_P T F.2.1 F.2.2.1 a d F.2.2.2 b
theorem pa_atom_law {T : Nat → Nat → Nat → Bool} {k a b : Nat} (hk : k < 6) : (∃ d, pa_Q T (pa_atom k) a d b) ↔ pa_E T k a b := by
  constructor
  · rintro ⟨d, h⟩
    have := h (fun _ x c => (x = 0 ∧ c = a) ∨ (x = 1 ∧ pa_E T k a c)) (Or.inl ⟨rfl, rfl⟩) (by
      rintro d y c e z c' hr ⟨k', hm, hs⟩
      have hm' : (k', y, z) ∈ [(k, 0, 1)] := hm
      rw [List.mem_singleton, pa_tr] at hm'
      obtain ⟨rfl, rfl, rfl⟩ := hm'
      rcases hr with ⟨_, rfl⟩ | ⟨h, _⟩
      · rcases hs with ⟨_, _, h⟩ | ⟨_, _, h⟩
        · omega
        · exact Or.inr ⟨rfl, h⟩
      · omega)
    rcases this with ⟨h, _⟩ | ⟨_, h⟩
    · exact absurd h Nat.one_ne_zero
    · exact h
  · intro h
    exact ⟨0 + 1, pa_Ps (pa_P0 _ _) ⟨k, List.mem_singleton.mpr rfl, Or.inr ⟨rfl, hk, h⟩⟩⟩
theorem pa_then_law {T : Nat → Nat → Nat → Bool} {F G : pa_F} {a m b d d' : Nat} (h : pa_Q T F a d m) (g : pa_Q T G m d' b) : pa_Q T (pa_then F G) a (d + d') b := by
  have h1 : pa_P T (pa_then F G).2.1 F.2.2.1 a d F.2.2.2 m := pa_Pm 0 (fun k y z hm => pa_then_mem.mpr (Or.inl hm)) h
  have h2 : pa_P T (pa_then F G).2.1 (G.2.2.1 + F.1) m d' (G.2.2.2 + F.1) b := pa_Pm F.1 (fun k y z hm => pa_then_mem.mpr (Or.inr (Or.inl ⟨y, z, hm, rfl, rfl⟩))) g
  exact pa_Pt (pa_P6 h1 (pa_then_mem.mpr (Or.inr (Or.inr ⟨rfl, rfl, rfl⟩)))) h2
theorem pa_or_law {T : Nat → Nat → Nat → Bool} {F G : pa_F} (hF : pa_fw F) (hG : pa_fw G) {a b : Nat} : (∃ d, pa_Q T (pa_or F G) a d b) ↔ (∃ d, pa_Q T F a d b) ∨ (∃ d, pa_Q T G a d b) := by
  constructor
  · rintro ⟨d, h⟩
    obtain ⟨w, s, e⟩ := hF
    obtain ⟨w', s', e'⟩ := hG
    have key := h (fun _ x c => (x = F.1 + G.1 ∧ c = a) ∨ (x < F.1 ∧ ∃ d, pa_P T F.2.1 F.2.2.1 a d x c) ∨ (∃ y, y < G.1 ∧ x = y + F.1 ∧ ∃ d, pa_P T G.2.1 G.2.2.1 a d y c) ∨ (x = F.1 + G.1 + 1 ∧ ((∃ d, pa_Q T F a d c) ∨ (∃ d, pa_Q T G a d c)))) (Or.inl ⟨rfl, rfl⟩) (by
      rintro d x c ec z c' hr ⟨k, hm, hs⟩
      rcases pa_or_mem.mp hm with hm | ⟨x', z', hm', rfl, rfl⟩ | hm
      · have hw := w _ _ _ hm
        rcases hr with ⟨h, _⟩ | ⟨_, d, hp⟩ | ⟨y, _, h, _⟩ | ⟨h, _⟩
        · omega
        · exact Or.inr (Or.inl ⟨hw.2.2, _, pa_Ps hp ⟨k, hm, hs⟩⟩)
        · omega
        · omega
      · have hw := w' _ _ _ hm'
        rcases hr with ⟨h, _⟩ | ⟨h, _⟩ | ⟨y, _, h, d, hp⟩ | ⟨h, _⟩
        · omega
        · omega
        · have hy : y = x' := by omega
          subst hy
          exact Or.inr (Or.inr (Or.inl ⟨z', hw.2.2, rfl, _, pa_Ps hp ⟨k, hm', hs⟩⟩))
        · omega
      · have hk : k = 6 := by omega
        subst hk
        obtain ⟨_, rfl⟩ := pa_k6 hs
        rcases hm with ⟨_, hx, hz⟩ | ⟨_, hx, hz⟩ | ⟨_, hx, hz⟩ | ⟨_, hx, hz⟩
        · rcases hr with ⟨_, rfl⟩ | ⟨h, _⟩ | ⟨y, _, h, _⟩ | ⟨h, _⟩
          · refine Or.inr (Or.inl ⟨by omega, 0, ?_⟩)
            rw [hz]
            exact pa_P0 _ _
          · omega
          · omega
          · omega
        · rcases hr with ⟨_, rfl⟩ | ⟨h, _⟩ | ⟨y, _, h, _⟩ | ⟨h, _⟩
          · exact Or.inr (Or.inr (Or.inl ⟨G.2.2.1, s', hz, 0, pa_P0 _ _⟩))
          · omega
          · omega
          · omega
        · rcases hr with ⟨h, _⟩ | ⟨_, d, hp⟩ | ⟨y, _, h, _⟩ | ⟨h, _⟩
          · omega
          · rw [hx] at hp
            exact Or.inr (Or.inr (Or.inr ⟨hz, Or.inl ⟨d, hp⟩⟩))
          · omega
          · omega
        · rcases hr with ⟨h, _⟩ | ⟨h, _⟩ | ⟨y, _, h, d, hp⟩ | ⟨h, _⟩
          · omega
          · omega
          · have hy : y = G.2.2.2 := by omega
            subst hy
            exact Or.inr (Or.inr (Or.inr ⟨hz, Or.inr ⟨d, hp⟩⟩))
          · omega)
    have E : (pa_or F G).2.2.2 = F.1 + G.1 + 1 := rfl
    rcases key with ⟨h, _⟩ | ⟨h, _⟩ | ⟨y, _, h, _⟩ | ⟨_, h⟩
    · omega
    · omega
    · omega
    · exact h
  · have i1 : (6, F.1 + G.1, F.2.2.1) ∈ (pa_or F G).2.1 := pa_or_mem.mpr (Or.inr (Or.inr (Or.inl ⟨rfl, rfl, rfl⟩)))
    have i2 : (6, F.1 + G.1, G.2.2.1 + F.1) ∈ (pa_or F G).2.1 := pa_or_mem.mpr (Or.inr (Or.inr (Or.inr (Or.inl ⟨rfl, rfl, rfl⟩))))
    have i3 : (6, F.2.2.2, F.1 + G.1 + 1) ∈ (pa_or F G).2.1 := pa_or_mem.mpr (Or.inr (Or.inr (Or.inr (Or.inr (Or.inl ⟨rfl, rfl, rfl⟩)))))
    have i4 : (6, G.2.2.2 + F.1, F.1 + G.1 + 1) ∈ (pa_or F G).2.1 := pa_or_mem.mpr (Or.inr (Or.inr (Or.inr (Or.inr (Or.inr ⟨rfl, rfl, rfl⟩)))))
    rintro (⟨d, h⟩ | ⟨d, h⟩)
    · have h1 : pa_P T (pa_or F G).2.1 F.2.2.1 a d F.2.2.2 b := pa_Pm 0 (fun k y z hm => pa_or_mem.mpr (Or.inl hm)) h
      exact ⟨_, pa_P6 (pa_Pt (pa_P6 (pa_P0 (F.1 + G.1) a) i1) h1) i3⟩
    · have h1 : pa_P T (pa_or F G).2.1 (G.2.2.1 + F.1) a d (G.2.2.2 + F.1) b := pa_Pm F.1 (fun k y z hm => pa_or_mem.mpr (Or.inr (Or.inl ⟨y, z, hm, rfl, rfl⟩))) h
      exact ⟨_, pa_P6 (pa_Pt (pa_P6 (pa_P0 (F.1 + G.1) a) i2) h1) i4⟩
theorem pa_star_refl {T : Nat → Nat → Nat → Bool} (F : pa_F) (a : Nat) : pa_Q T (pa_star F) a 0 a :=
  pa_P6 (pa_P0 F.1 a) (pa_star_mem.mpr (Or.inr (Or.inr (Or.inr (Or.inr ⟨rfl, rfl, rfl⟩)))))
theorem pa_star_A {T : Nat → Nat → Nat → Bool} {F : pa_F} (hF : pa_fw F) {a d b : Nat} (h : pa_Q T (pa_star F) a d b) : b = a ∨ ∃ d, pa_P T (pa_star F).2.1 F.1 a d F.2.2.2 b := by
  obtain ⟨w, s, e⟩ := hF
  have key := h (fun _ x c => (x = F.1 ∧ c = a) ∨ (x < F.1 ∧ ∃ d, pa_P T (pa_star F).2.1 F.1 a d x c) ∨ (x = F.1 + 1 ∧ (c = a ∨ ∃ d, pa_P T (pa_star F).2.1 F.1 a d F.2.2.2 c))) (Or.inl ⟨rfl, rfl⟩) (by
    rintro d x c ec z c' hr ⟨k, hm, hs⟩
    have hst : pa_st T (pa_star F).2.1 x c ec z c' := ⟨k, hm, hs⟩
    rcases pa_star_mem.mp hm with hm | hm
    · have hw := w _ _ _ hm
      rcases hr with ⟨h, _⟩ | ⟨_, d, hp⟩ | ⟨h, _⟩
      · omega
      · exact Or.inr (Or.inl ⟨hw.2.2, _, pa_Ps hp hst⟩)
      · omega
    · have hk : k = 6 := by omega
      subst hk
      obtain ⟨_, rfl⟩ := pa_k6 hs
      rcases hr with ⟨hx0, rfl⟩ | ⟨hx0, d, hp⟩ | ⟨hx0, _⟩
      · rcases hm with ⟨_, hx, hz⟩ | ⟨_, hx, hz⟩ | ⟨_, hx, hz⟩ | ⟨_, hx, hz⟩
        · refine Or.inr (Or.inl ⟨by omega, _, pa_Ps (pa_P0 F.1 _) (e := ec) (hx0 ▸ hst)⟩)
        · omega
        · omega
        · exact Or.inr (Or.inr ⟨hz, Or.inl rfl⟩)
      · rcases hm with ⟨_, hx, hz⟩ | ⟨_, hx, hz⟩ | ⟨_, hx, hz⟩ | ⟨_, hx, hz⟩
        · omega
        · rw [hx] at hp
          exact Or.inr (Or.inr ⟨hz, Or.inr ⟨d, hp⟩⟩)
        · exact Or.inr (Or.inl ⟨by omega, _, pa_Ps hp hst⟩)
        · omega
      · omega)
  have E : (pa_star F).2.2.2 = F.1 + 1 := rfl
  rcases key with ⟨h, _⟩ | ⟨h, _⟩ | ⟨_, h⟩
  · omega
  · omega
  · exact h
theorem pa_star_B {T : Nat → Nat → Nat → Bool} {F : pa_F} (hF : pa_fw F) {a d b : Nat} (h : pa_Q T (pa_star F) a d b) : b = a ∨ ∃ d, pa_P T (pa_star F).2.1 F.2.2.1 a d F.2.2.2 b := by
  obtain ⟨w, s, e⟩ := hF
  have key := h (fun _ x c => (x = F.1 ∧ c = a) ∨ (x < F.1 ∧ ∃ d, pa_P T (pa_star F).2.1 F.2.2.1 a d x c) ∨ (x = F.1 + 1 ∧ (c = a ∨ ∃ d, pa_P T (pa_star F).2.1 F.2.2.1 a d F.2.2.2 c))) (Or.inl ⟨rfl, rfl⟩) (by
    rintro d x c ec z c' hr ⟨k, hm, hs⟩
    have hst : pa_st T (pa_star F).2.1 x c ec z c' := ⟨k, hm, hs⟩
    rcases pa_star_mem.mp hm with hm | hm
    · have hw := w _ _ _ hm
      rcases hr with ⟨h, _⟩ | ⟨_, d, hp⟩ | ⟨h, _⟩
      · omega
      · exact Or.inr (Or.inl ⟨hw.2.2, _, pa_Ps hp hst⟩)
      · omega
    · have hk : k = 6 := by omega
      subst hk
      obtain ⟨_, rfl⟩ := pa_k6 hs
      rcases hr with ⟨hx0, rfl⟩ | ⟨hx0, d, hp⟩ | ⟨hx0, _⟩
      · rcases hm with ⟨_, hx, hz⟩ | ⟨_, hx, hz⟩ | ⟨_, hx, hz⟩ | ⟨_, hx, hz⟩
        · refine Or.inr (Or.inl ⟨by omega, 0, ?_⟩)
          rw [hz]
          exact pa_P0 _ _
        · omega
        · omega
        · exact Or.inr (Or.inr ⟨hz, Or.inl rfl⟩)
      · rcases hm with ⟨_, hx, hz⟩ | ⟨_, hx, hz⟩ | ⟨_, hx, hz⟩ | ⟨_, hx, hz⟩
        · omega
        · rw [hx] at hp
          exact Or.inr (Or.inr ⟨hz, Or.inr ⟨d, hp⟩⟩)
        · exact Or.inr (Or.inl ⟨by omega, _, pa_Ps hp hst⟩)
        · omega
      · omega)
  have E : (pa_star F).2.2.2 = F.1 + 1 := rfl
  rcases key with ⟨h, _⟩ | ⟨h, _⟩ | ⟨_, h⟩
  · omega
  · omega
  · exact h
theorem pa_star_trans {T : Nat → Nat → Nat → Bool} {F : pa_F} (hF : pa_fw F) {a b c : Nat} (h : ∃ d, pa_Q T (pa_star F) a d b) (g : ∃ d, pa_Q T (pa_star F) b d c) : ∃ d, pa_Q T (pa_star F) a d c := by
  obtain ⟨d, h⟩ := h
  obtain ⟨d', g⟩ := g
  have i1 : (6, F.2.2.2, F.1 + 1) ∈ (pa_star F).2.1 := pa_star_mem.mpr (Or.inr (Or.inr (Or.inl ⟨rfl, rfl, rfl⟩)))
  have i2 : (6, F.2.2.2, F.2.2.1) ∈ (pa_star F).2.1 := pa_star_mem.mpr (Or.inr (Or.inr (Or.inr (Or.inl ⟨rfl, rfl, rfl⟩))))
  rcases pa_star_A hF h with e | ⟨d1, h1⟩
  · subst e
    exact ⟨d', g⟩
  · rcases pa_star_B hF g with e | ⟨d2, g2⟩
    · subst e
      exact ⟨d, h⟩
    · exact ⟨_, pa_P6 (pa_Pt (pa_P6 h1 i2) g2) i1⟩
end
section
/-! the search by levels, pure: len the least lengths so far, lv the level's pairs (hr of them), cm the next level's pairs (nx of them) -/
def bf_cn (f : Nat → Int32) : Nat → Nat
  | 0 => 0
  | k + 1 => bf_cn f k + (if f k < 0 then 0 else 1)
theorem bf_cn_s (f : Nat → Int32) (k : Nat) : bf_cn f (k + 1) = bf_cn f k + (if f k < 0 then 0 else 1) := rfl
theorem bf_cn_le (f : Nat → Int32) (k : Nat) : bf_cn f k ≤ k := by
  induction k with
  | zero => exact Nat.le_refl 0
  | succ k ih =>
    rw [bf_cn_s]
    split <;> omega
theorem bf_cn_out (f : Nat → Int32) (q : Nat) (v : Int32) (k : Nat) (h : k ≤ q) : bf_cn (upd f q v) k = bf_cn f k := by
  induction k with
  | zero => rfl
  | succ k ih => rw [bf_cn_s, bf_cn_s, ih (by omega), pk_un (by omega)]
theorem bf_cn_in {f : Nat → Int32} {q : Nat} {v : Int32} (hq : f q < 0) (hv : ¬ v < 0) (k : Nat) (h : q < k) : bf_cn (upd f q v) k = bf_cn f k + 1 := by
  induction k with
  | zero => omega
  | succ k ih =>
    by_cases e : q = k
    · subst e
      rw [bf_cn_s, bf_cn_s, bf_cn_out f q v q (Nat.le_refl q), pk_us, if_neg hv, if_pos hq]
    · rw [bf_cn_s, bf_cn_s, ih (by omega), pk_un (fun z => e z.symm)]
      omega
theorem bf_cn_lt {f : Nat → Int32} {q : Nat} (hq : f q < 0) (k : Nat) (h : q < k) : bf_cn f k < k := by
  induction k with
  | zero => omega
  | succ k ih =>
    rw [bf_cn_s]
    by_cases e : q = k
    · subst e
      rw [if_pos hq]
      have := bf_cn_le f q
      omega
    · have := ih (by omega)
      split <;> omega
def bf_base (PP : Nat → Nat → Prop) (d : Nat) (len : Nat → Int32) : Prop := ∀ p, p < 224 → len p = -1 ∨ ∃ c, c ≤ d ∧ len p = nI c ∧ PP c p
def bf_lev (d hr : Nat) (len lv : Nat → Int32) : Prop := (∀ t, t < hr → ∃ p, p < 224 ∧ lv t = nI p ∧ len p = nI d) ∧ (∀ p, p < 224 → len p = nI d → ∃ t, t < hr ∧ lv t = nI p)
def bf_N (PP : Nat → Nat → Prop) (p0 d hr : Nat) (len lv : Nat → Int32) : Prop := bf_base PP d len ∧ bf_lev d hr len lv ∧ d + hr ≤ bf_cn len 224 ∧ len p0 = nI 0
def bf_clo (tt : Nat → Nat → Nat → Nat → Prop) (d : Nat) (len : Nat → Int32) : Prop := ∀ p c, p < 224 → c < d → len p = nI c → ∀ i e q, tt i p e q → ∃ c', c' ≤ c + e ∧ len q = nI c'
def bf_O (tt : Nat → Nat → Nat → Nat → Prop) (PP : Nat → Nat → Prop) (p0 d hr : Nat) (len lv : Nat → Int32) : Prop := bf_N PP p0 d hr len lv ∧ bf_clo tt d len
def bf_com (PP : Nat → Nat → Prop) (d nx : Nat) (cm : Nat → Int32) : Prop := nx ≤ 224 ∧ (∀ t, t < nx → ∃ q, q < 224 ∧ cm t = nI q ∧ PP (d + 1) q) ∧ ∃ mk : Nat → Int32, (∀ q, q < 224 → ¬ mk q < 0 → ∃ t, t < nx ∧ cm t = nI q) ∧ nx ≤ bf_cn mk 224
def bf_D (tt : Nat → Nat → Nat → Nat → Prop) (p j nx : Nat) (len cm : Nat → Int32) : Prop := ∀ i e q, i < j → tt i p e q → ¬ len q < 0 ∨ (e = 1 ∧ ∃ t, t < nx ∧ cm t = nI q)
def bf_G (hr nx : Nat) (len lv cm : Nat → Int32) (hr' nx' : Nat) (len' lv' cm' : Nat → Int32) : Prop := hr ≤ hr' ∧ nx ≤ nx' ∧ (∀ q, ¬ len q < 0 → ¬ len' q < 0) ∧ (∀ t, t < hr → lv' t = lv t) ∧ (∀ t, t < nx → cm' t = cm t)
/-- what is asked of the steps -/
def bf_tt (tt : Nat → Nat → Nat → Nat → Prop) (m : Nat) : Prop := ∀ i p e q, p < 224 → tt i p e q → i < m ∧ e ≤ 1 ∧ q < 224
section
variable {tt : Nat → Nat → Nat → Nat → Prop} {PP : Nat → Nat → Prop} {p0 d hr nx m : Nat} {len lv cm : Nat → Int32}
theorem bf_N_le (h : bf_N PP p0 d hr len lv) : d + hr ≤ 224 := Nat.le_trans h.2.2.1 (bf_cn_le len 224)
theorem bf_N_room (h : bf_N PP p0 d hr len lv) {q : Nat} (hq : q < 224) (hl : len q < 0) : d + hr < 224 := Nat.lt_of_le_of_lt h.2.2.1 (bf_cn_lt hl 224 hq)
theorem bf_ne {q p c : Nat} (hl : len q < 0) (hc : c < 2 ^ 31) (e : len p = nI c) : p ≠ q := by
  intro z
  subst z
  rw [e] at hl
  exact nI_pos hc hl
theorem bf_N_add (h : bf_N PP p0 d hr len lv) {q : Nat} (hq : q < 224) (hl : len q < 0) (hP : PP d q) : bf_N PP p0 d (hr + 1) (upd len q (nI d)) (upd lv hr (nI q)) := by
  have hd := bf_N_room h hq hl
  obtain ⟨hb, ⟨h1, h2⟩, hn, h0⟩ := h
  refine ⟨fun p hp => ?_, ⟨fun t ht => ?_, fun p hp e => ?_⟩, ?_, ?_⟩
  · by_cases e : p = q
    · subst e
      exact Or.inr ⟨d, Nat.le_refl d, pk_us, hP⟩
    · rw [pk_un e]
      exact hb p hp
  · by_cases e : t = hr
    · subst e
      exact ⟨q, hq, pk_us, pk_us⟩
    · obtain ⟨p, hp, e1, e2⟩ := h1 t (by omega)
      exact ⟨p, hp, by rw [pk_un e, e1], by rw [pk_un (bf_ne hl (by omega) e2), e2]⟩
  · by_cases z : p = q
    · subst z
      exact ⟨hr, by omega, pk_us⟩
    · rw [pk_un z] at e
      obtain ⟨t, ht, e'⟩ := h2 p hp e
      exact ⟨t, by omega, by rw [pk_un (by omega), e']⟩
  · rw [bf_cn_in hl (nI_pos (by omega)) 224 hq]
    omega
  · rw [pk_un (bf_ne hl (by omega) h0), h0]
theorem bf_O_add (ht : bf_tt tt m) (h : bf_O tt PP p0 d hr len lv) {q : Nat} (hq : q < 224) (hl : len q < 0) (hP : PP d q) : bf_O tt PP p0 d (hr + 1) (upd len q (nI d)) (upd lv hr (nI q)) := by
  have hd := bf_N_room h.1 hq hl
  refine ⟨bf_N_add h.1 hq hl hP, fun p c hp hc e i ec q' hst => ?_⟩
  by_cases z : p = q
  · subst z
    rw [pk_us] at e
    have := pn_inj (by omega) (by omega) e
    omega
  · rw [pk_un z] at e
    obtain ⟨c', g1, g2⟩ := h.2 p c hp hc e i ec q' hst
    have := ht i p ec q' hp hst
    exact ⟨c', g1, by rw [pk_un (bf_ne hl (by omega) g2), g2]⟩
theorem bf_com0 : bf_com PP d 0 cm := ⟨by omega, fun t h => absurd h (by omega), fun _ => -1, fun q _ h => absurd pn_m1 h, Nat.zero_le _⟩
theorem bf_com_full (h : bf_com PP d nx cm) (hn : 224 ≤ nx) {q : Nat} (hq : q < 224) : ∃ t, t < nx ∧ cm t = nI q := by
  obtain ⟨_, _, mk, h1, h2⟩ := h
  by_cases z : mk q < 0
  · have := bf_cn_lt z 224 hq
    omega
  · exact h1 q hq z
theorem bf_com_add (h : bf_com PP d nx cm) {q : Nat} (hq : q < 224) (hP : PP (d + 1) q) (hn : ∀ t, t < nx → cm t ≠ nI q) : nx < 224 ∧ bf_com PP d (nx + 1) (upd cm nx (nI q)) := by
  obtain ⟨_, he, mk, h1, h2⟩ := h
  have z : mk q < 0 := by
    by_cases z : mk q < 0
    · exact z
    · obtain ⟨t, ht, e⟩ := h1 q hq z
      exact absurd e (hn t ht)
  have hlt := bf_cn_lt z 224 hq
  refine ⟨by omega, by omega, fun t ht => ?_, upd mk q 0, fun q' hq' g => ?_, ?_⟩
  · by_cases e : t = nx
    · subst e
      exact ⟨q, hq, pk_us, hP⟩
    · obtain ⟨q', a, b, c⟩ := he t (by omega)
      exact ⟨q', a, by rw [pk_un e, b], c⟩
  · by_cases e : q' = q
    · subst e
      exact ⟨nx, by omega, pk_us⟩
    · rw [pk_un e] at g
      obtain ⟨t, ht, e'⟩ := h1 q' hq' g
      exact ⟨t, by omega, by rw [pk_un (by omega), e']⟩
  · rw [bf_cn_in z (by decide) 224 hq]
    omega
theorem bf_G_refl : bf_G hr nx len lv cm hr nx len lv cm := ⟨Nat.le_refl _, Nat.le_refl _, fun _ h => h, fun _ _ => rfl, fun _ _ => rfl⟩
theorem bf_G_tr {hr1 nx1 hr2 nx2 : Nat} {len1 lv1 cm1 len2 lv2 cm2 : Nat → Int32} (h : bf_G hr nx len lv cm hr1 nx1 len1 lv1 cm1) (g : bf_G hr1 nx1 len1 lv1 cm1 hr2 nx2 len2 lv2 cm2) : bf_G hr nx len lv cm hr2 nx2 len2 lv2 cm2 := by
  obtain ⟨a1, a2, a3, a4, a5⟩ := h
  obtain ⟨b1, b2, b3, b4, b5⟩ := g
  exact ⟨Nat.le_trans a1 b1, Nat.le_trans a2 b2, fun q z => b3 q (a3 q z), fun t z => by rw [b4 t (by omega), a4 t z], fun t z => by rw [b5 t (by omega), a5 t z]⟩
theorem bf_G_add {q : Nat} (hd : d < 2 ^ 31) : bf_G hr nx len lv cm (hr + 1) nx (upd len q (nI d)) (upd lv hr (nI q)) cm := by
  refine ⟨by omega, Nat.le_refl _, fun q' h => ?_, fun t h => pk_un (by omega), fun _ _ => rfl⟩
  by_cases e : q' = q
  · subst e
    rw [pk_us]
    exact nI_pos hd
  · rw [pk_un e]
    exact h
theorem bf_D_mono {p j hr' nx' : Nat} {len' lv' cm' : Nat → Int32} (g : bf_G hr nx len lv cm hr' nx' len' lv' cm') (h : bf_D tt p j nx len cm) : bf_D tt p j nx' len' cm' := by
  intro i e q hi hs
  rcases h i e q hi hs with h | ⟨h1, t, h2, h3⟩
  · exact Or.inl (g.2.2.1 q h)
  · exact Or.inr ⟨h1, t, Nat.lt_of_lt_of_le h2 g.2.1, by rw [g.2.2.2.2 t h2, h3]⟩
end
/-- the level's pairs below i are done -/
def bf_W (tt : Nat → Nat → Nat → Nat → Prop) (m i nx : Nat) (len lv cm : Nat → Int32) : Prop := ∀ t p, t < i → p < 224 → lv t = nI p → bf_D tt p m nx len cm
/-- the second half of a level: the pairs that were coming are reached -/
def bf_J (tt : Nat → Nat → Nat → Nat → Prop) (PP : Nat → Nat → Prop) (p0 d i hr nx : Nat) (len lv cm : Nat → Int32) : Prop := bf_N PP p0 (d + 1) hr len lv ∧ (∀ t, t < nx → ∃ q, q < 224 ∧ cm t = nI q ∧ PP (d + 1) q) ∧ nx ≤ 224 ∧ (∀ p c, p < 224 → c < d + 1 → len p = nI c → ∀ i' e q, tt i' p e q → (∃ c', c' ≤ c + e ∧ len q = nI c') ∨ (c = d ∧ e = 1 ∧ ∃ t, i ≤ t ∧ t < nx ∧ cm t = nI q))
section
variable {tt : Nat → Nat → Nat → Nat → Prop} {PP : Nat → Nat → Prop} {p0 d hr nx m i : Nat} {len lv cm : Nat → Int32}
theorem bf_W_mono {hr' nx' : Nat} {len' lv' cm' : Nat → Int32} (g : bf_G hr nx len lv cm hr' nx' len' lv' cm') (hi : i ≤ hr) (h : bf_W tt m i nx len lv cm) : bf_W tt m i nx' len' lv' cm' := by
  intro t p ht hp e
  rw [g.2.2.2.1 t (by omega)] at e
  exact bf_D_mono g (h t p ht hp e)
theorem bf_J0 (ht : bf_tt tt m) (hO : bf_O tt PP p0 d hr len lv) (hc : bf_com PP d nx cm) (hh : 0 < hr) (hW : bf_W tt m hr nx len lv cm) : bf_J tt PP p0 d 0 0 nx len lv cm := by
  have hle := bf_N_le hO.1
  obtain ⟨⟨hb, ⟨h1, h2⟩, hn, h0⟩, hcl⟩ := hO
  refine ⟨⟨fun p hp => ?_, ⟨fun t z => absurd z (by omega), fun p hp e => ?_⟩, by omega, h0⟩, hc.2.1, hc.1, fun p c hp hcd e i' ec q hst => ?_⟩
  · rcases hb p hp with h | ⟨c, a, b, g⟩
    · exact Or.inl h
    · exact Or.inr ⟨c, by omega, b, g⟩
  · rcases hb p hp with h | ⟨c, a, b, g⟩
    · rw [h] at e
      exact absurd e.symm (pn_ne (by omega))
    · rw [b] at e
      have := pn_inj (by omega) (by omega) e
      omega
  · by_cases z : c < d
    · exact Or.inl (hcl p c hp z e i' ec q hst)
    · have zc : c = d := by omega
      subst zc
      obtain ⟨t, ht', et⟩ := h2 p hp e
      obtain ⟨hi', _, hq⟩ := ht i' p ec q hp hst
      rcases hW t p ht' hp et i' ec q hi' hst with g | ⟨g1, t', g2, g3⟩
      · rcases hb q hq with g' | ⟨c', a, b, _⟩
        · rw [g'] at g
          exact absurd pn_m1 g
        · exact Or.inl ⟨c', by omega, b⟩
      · exact Or.inr ⟨rfl, g1, t', Nat.zero_le _, g2, g3⟩
theorem bf_J1 (ht : bf_tt tt m) (h : bf_J tt PP p0 d i hr nx len lv cm) (hi : i < nx) {q : Nat} (hq : q < 224) (e : cm i = nI q) (hl : len q < 0) : hr < 224 ∧ bf_J tt PP p0 d (i + 1) (hr + 1) nx (upd len q (nI (d + 1))) (upd lv hr (nI q)) cm := by
  obtain ⟨hN, hcm, hnx, hcl⟩ := h
  have hr1 := bf_N_room hN hq hl
  have hP : PP (d + 1) q := by
    obtain ⟨q', a, b, g⟩ := hcm i hi
    rw [e] at b
    have := pn_inj (by omega) (by omega) b
    rw [this]
    exact g
  refine ⟨by omega, bf_N_add hN hq hl hP, hcm, hnx, fun p c hp hc ep i' ec q' hst => ?_⟩
  by_cases z : p = q
  · subst z
    rw [pk_us] at ep
    have := pn_inj (by omega) (by omega) ep
    omega
  · rw [pk_un z] at ep
    have hs := ht i' p ec q' hp hst
    rcases hcl p c hp hc ep i' ec q' hst with ⟨c', g1, g2⟩ | ⟨g1, g2, t, g3, g4, g5⟩
    · exact Or.inl ⟨c', g1, by rw [pk_un (bf_ne hl (by omega) g2), g2]⟩
    · by_cases zt : t = i
      · subst zt
        rw [e] at g5
        have := pn_inj (by omega) (by omega) g5
        subst this
        exact Or.inl ⟨d + 1, by omega, pk_us⟩
      · exact Or.inr ⟨g1, g2, t, by omega, g4, g5⟩
theorem bf_J2 (ht : bf_tt tt m) (h : bf_J tt PP p0 d i hr nx len lv cm) {q : Nat} (hq : q < 224) (e : cm i = nI q) (hl : ¬ len q < 0) : bf_J tt PP p0 d (i + 1) hr nx len lv cm := by
  obtain ⟨hN, hcm, hnx, hcl⟩ := h
  refine ⟨hN, hcm, hnx, fun p c hp hc ep i' ec q' hst => ?_⟩
  have hs := ht i' p ec q' hp hst
  rcases hcl p c hp hc ep i' ec q' hst with g | ⟨g1, g2, t, g3, g4, g5⟩
  · exact Or.inl g
  · by_cases zt : t = i
    · subst zt
      rcases hN.1 q hq with g' | ⟨c', a, b, _⟩
      · rw [g'] at hl
        exact absurd pn_m1 hl
      · rw [e] at g5
        have hq' := pn_inj (by omega) (by omega) g5
        subst hq'
        exact Or.inl ⟨c', by omega, b⟩
    · exact Or.inr ⟨g1, g2, t, by omega, g4, g5⟩
theorem bf_JO (h : bf_J tt PP p0 d nx hr nx len lv cm) : bf_O tt PP p0 (d + 1) hr len lv := by
  obtain ⟨hN, hcm, hnx, hcl⟩ := h
  refine ⟨hN, fun p c hp hc ep i' ec q' hst => ?_⟩
  rcases hcl p c hp hc ep i' ec q' hst with g | ⟨_, _, t, g3, g4, _⟩
  · exact g
  · omega
theorem bf_fin (ht : bf_tt tt m) (hp0 : p0 < 224) (hind : ∀ R : Nat → Nat → Prop, R 0 p0 → (∀ c p i e q, R c p → tt i p e q → R (c + e) q) → ∀ c p, PP c p → R c p)
    (h : bf_O tt PP p0 d 0 len lv) : ∀ p, p < 224 → (len p = -1 ∧ ∀ c, ¬ PP c p) ∨ ∃ c, c ≤ 224 ∧ len p = nI c ∧ PP c p ∧ ∀ c', PP c' p → c ≤ c' := by
  have hle := bf_N_le h.1
  obtain ⟨⟨hb, ⟨_, h2⟩, hn, h0⟩, hcl⟩ := h
  have key : ∀ c p, PP c p → p < 224 ∧ ∃ c', c' ≤ c ∧ c' ≤ 224 ∧ len p = nI c' := by
    apply hind (fun c p => p < 224 ∧ ∃ c', c' ≤ c ∧ c' ≤ 224 ∧ len p = nI c')
    · exact ⟨hp0, 0, Nat.le_refl 0, Nat.zero_le _, h0⟩
    · rintro c p i e q ⟨hp, c', k1, k2, k3⟩ hst
      obtain ⟨_, he, hq⟩ := ht i p e q hp hst
      refine ⟨hq, ?_⟩
      have hcd : c' < d := by
        rcases hb p hp with g | ⟨c2, a, b, _⟩
        · rw [k3] at g
          exact absurd g (pn_ne (by omega))
        · rw [k3] at b
          have e2 := pn_inj (by omega) (by omega) b
          by_cases z : c' = d
          · rw [z] at k3
            obtain ⟨t, ht', _⟩ := h2 p hp k3
            omega
          · omega
      obtain ⟨c3, a3, b3⟩ := hcl p c' hp hcd k3 i e q hst
      exact ⟨c3, by omega, by omega, b3⟩
  intro p hp
  rcases hb p hp with g | ⟨c, a, b, g⟩
  · refine Or.inl ⟨g, fun c hc => ?_⟩
    obtain ⟨_, c', _, k2, k3⟩ := key c p hc
    rw [k3] at g
    exact pn_ne (by omega) g
  · refine Or.inr ⟨c, by omega, b, g, fun c' hc => ?_⟩
    obtain ⟨_, c2, k1, k2, k3⟩ := key c' p hc
    rw [b] at k3
    have := pn_inj (by omega) (by omega) k3
    omega
end
end
section
/-! the state against the picture -/
def pa_G (T : Nat → Nat → Nat → Bool) (a1 a2 : Nat → Int32) : Prop := ∀ l a b, l < 3 → a < 8 → b < 8 → pb_t (a1 (l * 8 + a)) b = T l a b ∧ pb_t (a2 (l * 8 + b)) a = T l a b
def pa_at {α : Type} (f : α → Nat) (l : List α) (a : Nat → Int32) : Prop := ∀ i v, l[i]? = some v → a i = nI (f v)
def pa_C (T : Nat → Nat → Nat → Bool) (f1 f2 f3 f4 : Int32) (a1 a2 a3 a4 a5 a6 a7 : Nat → Int32) (K st : Nat) (ms : List (Nat × Nat × Nat)) (sk : List (Nat × Nat)) : Prop :=
  (∃ k, k ≤ K ∧ f1 = nI k) ∧ f2 = nI st ∧ f3 = nI ms.length ∧ f4 = nI sk.length ∧ pa_G T a1 a2 ∧ pa_at (fun v => v.1) ms a3 ∧ pa_at (fun v => v.2.1) ms a4 ∧ pa_at (fun v => v.2.2) ms a5 ∧ pa_at (fun v => v.1) sk a6 ∧ pa_at (fun v => v.2) sk a7
/-- at most K steps made, st states, the moves ms, the stack sk -/
def pa_S (T : Nat → Nat → Nat → Bool) (u : St1) (K st : Nat) (ms : List (Nat × Nat × Nat)) (sk : List (Nat × Nat)) : Prop := match u with
  | (f1, f2, f3, f4, _, _, a1, a2, a3, a4, a5, a6, a7, _, _, _) => pa_C T f1 f2 f3 f4 a1 a2 a3 a4 a5 a6 a7 K st ms sk
/-- what a search from (s, a) leaves in length -/
def pa_D (T : Nat → Nat → Nat → Bool) (ms : List (Nat × Nat × Nat)) (s a x n : Nat) (v : Int32) : Prop := (v = -1 ∧ ∀ d, ¬ pa_P T ms s a d x n) ∨ ∃ d, d ≤ 224 ∧ v = nI d ∧ pa_P T ms s a d x n ∧ ∀ d', pa_P T ms s a d' x n → d ≤ d'
/-! the steps over pairs -/
def pw_t (T : Nat → Nat → Nat → Bool) (ms : List (Nat × Nat × Nat)) (i p e q : Nat) : Prop := ∃ k y c, ms[i]? = some (k, p / 8, y) ∧ pa_k T k (p % 8) e c ∧ q = y * 8 + c
def pw_P (T : Nat → Nat → Nat → Bool) (ms : List (Nat × Nat × Nat)) (s a d p : Nat) : Prop := pa_P T ms s a d (p / 8) (p % 8)
section
variable {T : Nat → Nat → Nat → Bool} {ms : List (Nat × Nat × Nat)} {st s a : Nat}
theorem pa_kc {k n e c : Nat} (hn : n < 8) (h : pa_k T k n e c) : e ≤ 1 ∧ c < 8 := by
  rcases h with ⟨h1, h2, _⟩ | ⟨h1, _, h2⟩
  · omega
  · exact ⟨by omega, h2.1⟩
theorem pw_get {i : Nat} {v : Nat × Nat × Nat} (h : ms[i]? = some v) : i < ms.length := by
  obtain ⟨h, _⟩ := List.getElem?_eq_some_iff.mp h
  exact h
theorem pw_mem {i : Nat} {v : Nat × Nat × Nat} (h : ms[i]? = some v) : v ∈ ms := List.mem_of_getElem? h
theorem pw_tt (hw : pa_wf ms st) (hst : st ≤ 28) : bf_tt (pw_t T ms) ms.length := by
  rintro i p e q hp ⟨k, y, c, h1, h2, h3⟩
  have := pa_kc (Nat.mod_lt p (by omega)) h2
  have := hw _ _ _ (pw_mem h1)
  exact ⟨pw_get h1, by omega, by omega⟩
theorem pw_step {d i p e q : Nat} (h : pw_P T ms s a d p) (g : pw_t T ms i p e q) : pw_P T ms s a (d + e) q := by
  obtain ⟨k, y, c, h1, h2, h3⟩ := g
  have hc := pa_kc (Nat.mod_lt p (by omega)) h2
  have e1 : q / 8 = y := by omega
  have e2 : q % 8 = c := by omega
  unfold pw_P
  rw [e1, e2]
  exact pa_Ps h ⟨k, pw_mem h1, h2⟩
theorem pw_ind (ha : a < 8) : ∀ R : Nat → Nat → Prop, R 0 (s * 8 + a) → (∀ c p i e q, R c p → pw_t T ms i p e q → R (c + e) q) → ∀ c p, pw_P T ms s a c p → R c p := by
  intro R h0 hs c p hp
  have key := hp (fun c x n => n < 8 ∧ R c (x * 8 + n)) ⟨ha, h0⟩ (by
    rintro d y b e z c' ⟨hb, hr⟩ ⟨k, hm, hk⟩
    have hc := pa_kc hb hk
    refine ⟨hc.2, ?_⟩
    obtain ⟨i, hi⟩ := List.getElem?_of_mem hm
    refine hs d (y * 8 + b) i e (z * 8 + c') hr ⟨k, z, c', ?_, ?_, rfl⟩
    · rw [show (y * 8 + b) / 8 = y by omega]
      exact hi
    · rw [show (y * 8 + b) % 8 = b by omega]
      exact hk)
  have e1 : p / 8 * 8 + p % 8 = p := by omega
  rw [e1] at key
  exact key.2
theorem pw_D {len lv : Nat → Int32} {d : Nat} (hw : pa_wf ms st) (hst : st ≤ 28) (hs : s < st) (ha : a < 8) (h : bf_O (pw_t T ms) (pw_P T ms s a) (s * 8 + a) d 0 len lv) : ∀ x n, x < 28 → n < 8 → pa_D T ms s a x n (len (x * 8 + n)) := by
  intro x n hx hn
  have := bf_fin (pw_tt hw hst) (by omega) (pw_ind ha) h (x * 8 + n) (by omega)
  unfold pw_P at this
  rw [show (x * 8 + n) / 8 = x by omega, show (x * 8 + n) % 8 = n by omega] at this
  exact this
end
theorem pn_ge {x : Int32} : 0 ≤ x ↔ ¬ x < 0 := Int32.not_lt.symm
/-! the walk of the search -/
section
variable {post : St1 → Prop} {f1 f2 f3 f4 f5 f6 : Int32} {a1 a2 a3 a4 a5 a6 a7 a8 a9 a10 : Nat → Int32}
theorem wk_rh {hr y n d q : Nat} {X N D : Int32} (hX : X = nI y) (hN : N = nI n) (hD : D = nI d) (hq : y * 8 + n = q) (h2 : q < 224) (hh : a8 q < 0 → hr < 224)
    (H1 : a8 q < 0 → post (f1, f2, f3, f4, nI (hr + 1), f6, a1, a2, a3, a4, a5, a6, a7, upd a8 q (nI d), upd a9 hr (nI q), a10))
    (H0 : ¬ a8 q < 0 → post (f1, f2, f3, f4, nI hr, f6, a1, a2, a3, a4, a5, a6, a7, a8, a9, a10)) :
    wpX_reachHere post (f1, f2, f3, f4, nI hr, f6, a1, a2, a3, a4, a5, a6, a7, a8, a9, a10) X N D := by
  subst hX hN hD hq
  refine nm_r (pn_8 y n) ⟨pk_in (y * 8 + n) 224 h2, ?_⟩
  rw [pn_cl (show y * 8 + n < 2 ^ 31 by omega)]
  refine br_c (fun h => ⟨pk_in (y * 8 + n) 224 h2, nm_e ⟨pk_in hr 224 (hh h), ?_⟩⟩) (fun h => H0 h)
  have := hh h
  rw [pn_cl (show hr < 2 ^ 31 by omega)]
  exact nm_e (nm_r (nI_1 hr) (H1 h))
theorem wk_ic {pz : Int32 → Prop} {nx : Nat} {v : Int32} (hn : nx ≤ 224) (H1 : (∃ t, t < nx ∧ a10 t = v) → pz 1) (H0 : (∀ t, t < nx → a10 t ≠ v) → pz 0) :
    wpX_isComing pz (f1, f2, f3, f4, f5, nI nx, a1, a2, a3, a4, a5, a6, a7, a8, a9, a10) v := by
  refine loop_m (σ := Nat) (fun n i => wX_isComing_2 pz v f1 f2 f3 f4 f5 (nI nx) a1 a2 a3 a4 a5 a6 a7 a8 a9 a10 n (nI i)) (fun i => i ≤ nx ∧ ∀ t, t < i → a10 t ≠ v) (fun i => nx - i) ?_ 0 ⟨Nat.zero_le _, fun t h => absurd h (by omega)⟩
  rintro n i ⟨h1, h2⟩ hw
  refine pk_le nx i (fun z => H0 (fun t ht => h2 t (by omega))) (fun z => ⟨pk_in i 224 (by omega), ?_⟩)
  rw [pn_cl (show i < 2 ^ 31 by omega)]
  refine br_c (fun h => H1 ⟨i, z, h⟩) (fun h => nm_r (nI_1 i) (hw (i + 1) ⟨by omega, fun t ht => ?_⟩ (by omega)))
  by_cases e : t = i
  · rw [e]
    exact h
  · exact h2 t (by omega)
theorem wk_kc {PP : Nat → Nat → Prop} {d nx y : Nat} {Y nodes : Int32} (hY : Y = nI y) (hy : y < 28) (hc : bf_com PP d nx a10) (hP : ∀ c, c < 8 → pb_t nodes c = true → PP (d + 1) (y * 8 + c))
    (H : ∀ nx' cm', bf_com PP d nx' cm' → nx ≤ nx' → (∀ t, t < nx → cm' t = a10 t) → (∀ c, c < 8 → pb_t nodes c = true → ¬ a8 (y * 8 + c) < 0 ∨ ∃ t, t < nx' ∧ cm' t = nI (y * 8 + c)) → post (f1, f2, f3, f4, f5, nI nx', a1, a2, a3, a4, a5, a6, a7, a8, a9, cm')) :
    wpX_keepComing post (f1, f2, f3, f4, f5, nI nx, a1, a2, a3, a4, a5, a6, a7, a8, a9, a10) Y nodes := by
  subst hY
  refine pk_loop (σ := Nat × (Nat → Int32)) (fun n i s => wX_keepComing_2 post (nI y) nodes f1 f2 f3 f4 f5 n (nI i) (nI s.1) a1 a2 a3 a4 a5 a6 a7 a8 a9 s.2)
    (fun i s => bf_com PP d s.1 s.2 ∧ nx ≤ s.1 ∧ (∀ t, t < nx → s.2 t = a10 t) ∧ (∀ c, c < i → pb_t nodes c = true → ¬ a8 (y * 8 + c) < 0 ∨ ∃ t, t < s.1 ∧ s.2 t = nI (y * 8 + c))) 8 0 (nx, a10) (by omega) ⟨hc, Nat.le_refl _, fun _ _ => rfl, fun c h => absurd h (by omega)⟩ ?_ ?_
  · rintro n ⟨nx', cm'⟩ ⟨h1, h2, h3, h4⟩
    exact pk_le 8 8 (fun _ => H nx' cm' h1 h2 h3 h4) (fun z => absurd z (by omega))
  · rintro n i ⟨nx', cm'⟩ hi ⟨h1, h2, h3, h4⟩ hw
    dsimp only at h1 h2 h3 h4
    have go : ∀ (nx2 : Nat) (cm2 : Nat → Int32), bf_com PP d nx2 cm2 → nx' ≤ nx2 → (∀ t, t < nx' → cm2 t = cm' t) → (pb_t nodes i = true → ¬ a8 (y * 8 + i) < 0 ∨ ∃ t, t < nx2 ∧ cm2 t = nI (y * 8 + i)) → wX_keepComing_2 post (nI y) nodes f1 f2 f3 f4 f5 n (nI (i + 1)) (nI nx2) a1 a2 a3 a4 a5 a6 a7 a8 a9 cm2 := by
      intro nx2 cm2 k1 k2 k3 k4
      refine hw (nx2, cm2) ⟨k1, Nat.le_trans h2 k2, fun t ht => ?_, fun c hc' hb => ?_⟩
      · rw [← h3 t ht]
        exact k3 t (by omega)
      · by_cases e : c = i
        · subst e
          exact k4 hb
        · rcases h4 c (by omega) hb with g | ⟨t, g1, g2⟩
          · exact Or.inl g
          · exact Or.inr ⟨t, by show t < nx2; omega, by rw [← g2]; exact k3 t g1⟩
    refine pk_le 8 i (fun z => absurd z (by omega)) (fun _ => nm_r (pn_8 y i) (ek_if (pb_bit nodes (show i < 32 by omega)) (fun hb => ⟨pk_in (y * 8 + i) 224 (by omega), ?_⟩) (fun hb => nm_r (nI_1 i) (go nx' cm' h1 (Nat.le_refl _) (fun _ _ => rfl) (fun z => absurd z hb)))))
    rw [pn_cl (show y * 8 + i < 2 ^ 31 by omega)]
    have hnx := h1.1
    refine br_c (fun h => nm_r (nI_1 i) (go nx' cm' h1 (Nat.le_refl _) (fun _ _ => rfl) (fun _ => Or.inl (pn_ge.mp h)))) (fun h => ?_)
    refine pk_le 224 nx' (fun z => nm_r (nI_1 i) (go nx' cm' h1 (Nat.le_refl _) (fun _ _ => rfl) (fun _ => Or.inr (bf_com_full h1 z (by omega))))) (fun z => ?_)
    refine wk_ic hnx (fun g => br_f (by decide) (nm_r (nI_1 i) (go nx' cm' h1 (Nat.le_refl _) (fun _ _ => rfl) (fun _ => Or.inr g)))) (fun g => ?_)
    have k := bf_com_add h1 (q := y * 8 + i) (by omega) (hP i hi hb) g
    refine br_t rfl ⟨pk_in nx' 224 z, ?_⟩
    rw [pn_cl (show nx' < 2 ^ 31 by omega)]
    exact nm_e (nm_r (nI_1 nx') (nm_r (nI_1 i) (go (nx' + 1) (upd cm' nx' (nI (y * 8 + i))) k.2 (by omega) (fun t ht => pk_un (by omega)) (fun _ => Or.inr ⟨nx', by omega, pk_us⟩))))
end
end
section
section
variable {post : St1 → Prop} {f1 f2 f3 f4 f5 f6 : Int32} {a1 a2 a3 a4 a5 a6 a7 a8 a9 a10 : Nat → Int32} {T : Nat → Nat → Nat → Bool} {ms : List (Nat × Nat × Nat)} {st s a p0 : Nat}
theorem wk_fo {d hr nx i p k y : Nat} (hG : pa_G T a1 a2) (h3 : pa_at (fun v => v.1) ms a3) (h5 : pa_at (fun v => v.2.2) ms a5) (hw : pa_wf ms st) (hst : st ≤ 28) (hm : ms.length ≤ 56)
    (hi : ms[i]? = some (k, p / 8, y)) (hp : p < 224) (hO : bf_O (pw_t T ms) (pw_P T ms s a) p0 d hr a8 a9) (hc : bf_com (pw_P T ms s a) d nx a10) (hPp : pw_P T ms s a d p)
    (H : ∀ hr' nx' len' lv' cm', bf_O (pw_t T ms) (pw_P T ms s a) p0 d hr' len' lv' → bf_com (pw_P T ms s a) d nx' cm' → bf_G hr nx a8 a9 a10 hr' nx' len' lv' cm' → (∀ e q, pw_t T ms i p e q → ¬ len' q < 0 ∨ (e = 1 ∧ ∃ t, t < nx' ∧ cm' t = nI q)) → post (f1, f2, f3, f4, nI hr', nI nx', a1, a2, a3, a4, a5, a6, a7, len', lv', cm')) :
    wpX_follow post (f1, f2, f3, f4, nI hr, nI nx, a1, a2, a3, a4, a5, a6, a7, a8, a9, a10) (nI i) (nI (p % 8)) (nI d) := by
  have hil := pw_get hi
  obtain ⟨hk, _, hy⟩ := hw _ _ _ (pw_mem hi)
  have e3 : a3 i = nI k := h3 i _ hi
  have e5 : a5 i = nI y := h5 i _ hi
  have hn8 : p % 8 < 8 := Nat.mod_lt p (by omega)
  have hd := bf_N_le hO.1
  have inv : ∀ e q, pw_t T ms i p e q → ∃ c, pa_k T k (p % 8) e c ∧ q = y * 8 + c := by
    rintro e q ⟨k', y', c, g1, g2, g3⟩
    rw [hi] at g1
    injection g1 with g1
    rw [pa_tr] at g1
    obtain ⟨rfl, _, rfl⟩ := g1
    exact ⟨c, g2, g3⟩
  have mk : ∀ e c, pa_k T k (p % 8) e c → pw_t T ms i p e (y * 8 + c) := fun e c g => ⟨k, y, c, hi, g, rfl⟩
  have R : (k = 6 ∨ k = 7 + p % 8) → wX_follow_24 post (nI i) (nI (p % 8)) (nI d) f1 f2 f3 f4 (nI hr) (nI nx) a1 a2 a3 a4 a5 a6 a7 a8 a9 a10 := by
    intro hk6
    have hks : pa_k T k (p % 8) 0 (p % 8) := Or.inl ⟨rfl, rfl, hk6⟩
    have hP : pw_P T ms s a d (y * 8 + p % 8) := pw_step hPp (mk _ _ hks)
    have only : ∀ e q, pw_t T ms i p e q → q = y * 8 + p % 8 := by
      intro e q g
      obtain ⟨c, g1, g2⟩ := inv e q g
      rcases g1 with ⟨_, g1, _⟩ | ⟨_, g1, _⟩
      · rw [g2, g1]
      · omega
    refine ⟨pk_in i 56 (by omega), ?_⟩
    rw [pn_cl (show i < 2 ^ 31 by omega)]
    refine wk_rh e5 rfl rfl rfl (by omega) (fun h => ?_) (fun h => ?_) (fun h => ?_)
    · have := bf_N_room hO.1 (by omega) h
      omega
    · refine H _ _ _ _ _ (bf_O_add (pw_tt hw hst) hO (by omega) h hP) hc (bf_G_add (by omega)) (fun e q g => Or.inl ?_)
      rw [only e q g, pk_us]
      exact nI_pos (by omega)
    · refine H _ _ _ _ _ hO hc bf_G_refl (fun e q g => Or.inl ?_)
      rw [only e q g]
      exact h
  have Ed : ∀ nodes : Int32, k < 6 → (∀ c, c < 8 → (pb_t nodes c = true ↔ pa_E T k (p % 8) c)) → wpX_keepComing (fun u => match u with | (f0_made_48, f0_states_49, f0_moves_50, f0_height_51, f0_here_52, f0_next_53, am981_56, am982_59, am983_62, am984_65, am985_68, am986_71, am987_74, am988_77, am989_80, am9810_83) => (post (f0_made_48, f0_states_49, f0_moves_50, f0_height_51, f0_here_52, f0_next_53, am981_56, am982_59, am983_62, am984_65, am985_68, am986_71, am987_74, am988_77, am989_80, am9810_83))) (f1, f2, f3, f4, nI hr, nI nx, a1, a2, a3, a4, a5, a6, a7, a8, a9, a10) (nI y) nodes := by
    intro nodes hk6 hb
    refine wk_kc (PP := pw_P T ms s a) (d := d) rfl (by omega) hc (fun c hc' g => pw_step hPp (mk 1 c (Or.inr ⟨rfl, hk6, (hb c hc').mp g⟩))) (fun nx' cm' k1 k2 k3 k4 => ?_)
    refine H hr nx' a8 a9 cm' hO k1 ⟨Nat.le_refl _, k2, fun _ h => h, fun _ _ => rfl, k3⟩ (fun e q g => ?_)
    obtain ⟨c, g1, g2⟩ := inv e q g
    rcases g1 with ⟨_, _, g1⟩ | ⟨ge, _, g1⟩
    · omega
    · subst g2
      rcases k4 c g1.1 ((hb c g1.1).mpr g1) with z | z
      · exact Or.inl z
      · exact Or.inr ⟨ge, z⟩
  refine ⟨pk_in i 56 (by omega), nm_r (show a3 (nI i).toNatClampNeg = nI k by rw [pn_cl (by omega), e3]) ?_⟩
  refine pk_eq k 6 (fun z => R (Or.inl z)) (fun z6 => ?_)
  refine pk_eq k (7 + p % 8) (fun z => R (Or.inr z)) (fun z7 => ?_) (hy := nI_add 7 (p % 8))
  refine pk_le 3 k (fun z3 => ?_) (fun z3 => ?_)
  · refine pk_le 6 k (fun g6 => ?_) (fun g6 => ?_)
    · refine H _ _ _ _ _ hO hc bf_G_refl (fun e q g => ?_)
      obtain ⟨c, g1, _⟩ := inv e q g
      rcases g1 with ⟨_, _, g1⟩ | ⟨_, g1, _⟩
      · omega
      · omega
    · have ei : (nI k - 3) * 8 + nI (p % 8) = nI ((k - 3) * 8 + p % 8) := by
        rw [show (3 : Int32) = nI 3 from rfl, pk_sub z3, pn_8]
      refine ⟨pk_in i 56 (by omega), pk_in ((k - 3) * 8 + p % 8) 24 (by omega) ei, ?_⟩
      rw [ei, pn_cl (show i < 2 ^ 31 by omega), pn_cl (show (k - 3) * 8 + p % 8 < 2 ^ 31 by omega), e5]
      refine Ed _ g6 (fun c hc' => ?_)
      rw [(hG (k - 3) c (p % 8) (by omega) hc' hn8).2]
      constructor
      · intro g
        exact ⟨hc', Or.inr ⟨z3, g6, g⟩⟩
      · rintro ⟨_, ⟨g, _⟩ | ⟨_, _, g⟩⟩
        · omega
        · exact g
  · have ei : nI k * 8 + nI (p % 8) = nI (k * 8 + p % 8) := pn_8 _ _
    refine ⟨pk_in i 56 (by omega), pk_in (k * 8 + p % 8) 24 (by omega) ei, ?_⟩
    rw [ei, pn_cl (show i < 2 ^ 31 by omega), pn_cl (show k * 8 + p % 8 < 2 ^ 31 by omega), e5]
    refine Ed _ (by omega) (fun c hc' => ?_)
    rw [(hG k (p % 8) c z3 hn8 hc').1]
    constructor
    · intro g
      exact ⟨hc', Or.inl ⟨z3, g⟩⟩
    · rintro ⟨_, ⟨_, g⟩ | ⟨g, _, _⟩⟩
      · exact g
      · omega
theorem wk_39 {J7 : Int32 → Int32 → Int32 → Int32 → Int32 → Int32 → Int32 → (Nat → Int32) → (Nat → Int32) → (Nat → Int32) → (Nat → Int32) → (Nat → Int32) → (Nat → Int32) → (Nat → Int32) → (Nat → Int32) → (Nat → Int32) → (Nat → Int32) → Prop}
    {d hr nx i p : Nat} (hG : pa_G T a1 a2) (h3 : pa_at (fun v => v.1) ms a3) (h4 : pa_at (fun v => v.2.1) ms a4) (h5 : pa_at (fun v => v.2.2) ms a5) (hw : pa_wf ms st) (hst : st ≤ 28) (hm : ms.length ≤ 56)
    (hi : i < hr) (hp : p < 224) (hlv : a9 i = nI p) (hO : bf_O (pw_t T ms) (pw_P T ms s a) p0 d hr a8 a9) (hc : bf_com (pw_P T ms s a) d nx a10) (hW : bf_W (pw_t T ms) ms.length i nx a8 a9 a10)
    (H : ∀ hr' nx' len' lv' cm', bf_O (pw_t T ms) (pw_P T ms s a) p0 d hr' len' lv' → bf_com (pw_P T ms s a) d nx' cm' → i + 1 ≤ hr' → bf_W (pw_t T ms) ms.length (i + 1) nx' len' lv' cm' → J7 (nI (i + 1)) f1 f2 (nI ms.length) f4 (nI hr') (nI nx') a1 a2 a3 a4 a5 a6 a7 len' lv' cm') :
    ∃ n, wX_workLevel_39 post J7 (nI d) (nI i) (nI (p / 8)) (nI (p % 8)) n 0 f1 f2 (nI ms.length) f4 (nI hr) (nI nx) a1 a2 a3 a4 a5 a6 a7 a8 a9 a10 := by
  have hle := bf_N_le hO.1
  have hPp : pw_P T ms s a d p := by
    obtain ⟨p', g1, g2, g3⟩ := hO.1.2.1.1 i hi
    rw [hlv] at g2
    have e := pn_inj (by omega) (by omega) g2
    subst e
    rcases hO.1.1 p hp with g | ⟨c, k1, k2, k3⟩
    · rw [g3] at g
      exact absurd g (pn_ne (by omega))
    · rw [g3] at k2
      have e := pn_inj (by omega) (by omega) k2
      subst e
      exact k3
  refine pk_loop (σ := Nat × Nat × (Nat → Int32) × (Nat → Int32) × (Nat → Int32)) (fun n j u => wX_workLevel_39 post J7 (nI d) (nI i) (nI (p / 8)) (nI (p % 8)) n (nI j) f1 f2 (nI ms.length) f4 (nI u.1) (nI u.2.1) a1 a2 a3 a4 a5 a6 a7 u.2.2.1 u.2.2.2.1 u.2.2.2.2)
    (fun j u => bf_O (pw_t T ms) (pw_P T ms s a) p0 d u.1 u.2.2.1 u.2.2.2.1 ∧ bf_com (pw_P T ms s a) d u.2.1 u.2.2.2.2 ∧ bf_G hr nx a8 a9 a10 u.1 u.2.1 u.2.2.1 u.2.2.2.1 u.2.2.2.2 ∧ bf_D (pw_t T ms) p j u.2.1 u.2.2.1 u.2.2.2.2) ms.length 0 (hr, nx, a8, a9, a10) (Nat.zero_le _) ⟨hO, hc, bf_G_refl, fun i e q z => absurd z (by omega)⟩ ?_ ?_
  · rintro n ⟨hr', nx', len', lv', cm'⟩ ⟨k1, k2, k3, k4⟩
    refine pk_le ms.length ms.length (fun _ => nm_r (nI_1 i) (H hr' nx' len' lv' cm' k1 k2 (Nat.le_trans hi k3.1) ?_)) (fun z => absurd z (by omega))
    intro t p' ht hp' e
    by_cases z : t = i
    · subst z
      have e' : lv' t = a9 t := k3.2.2.2.1 t hi
      rw [e', hlv] at e
      have := pn_inj (by omega) (by omega) e
      subst this
      exact k4
    · exact bf_W_mono k3 (Nat.le_of_lt hi) hW t p' (by omega) hp' e
  · rintro n j ⟨hr', nx', len', lv', cm'⟩ hj ⟨k1, k2, k3, k4⟩ hwn
    dsimp only at k1 k2 k3 k4
    obtain ⟨⟨k, x, y⟩, hv⟩ : ∃ v, ms[j]? = some v := ⟨ms[j], List.getElem?_eq_getElem hj⟩
    have e4 : a4 j = nI x := h4 j _ hv
    obtain ⟨hk, hx, hy⟩ := hw _ _ _ (pw_mem hv)
    refine pk_le ms.length j (fun z => absurd z (by omega)) (fun _ => ⟨pk_in j 56 (by omega), ?_⟩)
    rw [pn_cl (show j < 2 ^ 31 by omega), e4]
    refine pk_eq x (p / 8) (fun z => ?_) (fun z => nm_r (nI_1 j) (hwn (hr', nx', len', lv', cm') ⟨k1, k2, k3, fun i' e q hi' hs => ?_⟩))
    · subst z
      refine wk_fo hG h3 h5 hw hst hm hv hp k1 k2 hPp (fun hr2 nx2 len2 lv2 cm2 g1 g2 g3 g4 => ?_)
      refine nm_r (nI_1 j) (hwn (hr2, nx2, len2, lv2, cm2) ⟨g1, g2, bf_G_tr k3 g3, fun i' e q hi' hs => ?_⟩)
      by_cases z : i' = j
      · subst z
        exact g4 e q hs
      · exact bf_D_mono g3 k4 i' e q (by omega) hs
    · by_cases z' : i' = j
      · subst z'
        obtain ⟨k', y', c, q1, _⟩ := hs
        rw [hv] at q1
        injection q1 with q1
        rw [pa_tr] at q1
        exact absurd q1.2.1 z
      · exact k4 i' e q (by omega) hs
theorem pn_div {p : Nat} (h : p < 2 ^ 31) : nI p / 8 = nI (p / 8) := pk_div (d := 8) h (by decide) (by decide)
theorem pn_rem {p : Nat} (h : p < 2 ^ 31) : nI p - nI p / 8 * 8 = nI (p % 8) := pk_rem (d := 8) h (by decide) (by decide)
theorem wk_wl {d hr : Nat} (hG : pa_G T a1 a2) (h3 : pa_at (fun v => v.1) ms a3) (h4 : pa_at (fun v => v.2.1) ms a4) (h5 : pa_at (fun v => v.2.2) ms a5) (hw : pa_wf ms st) (hst : st ≤ 28) (hm : ms.length ≤ 56)
    (hh : 0 < hr) (hO : bf_O (pw_t T ms) (pw_P T ms s a) p0 d hr a8 a9)
    (H : ∀ hr' nx' len' lv' cm', bf_O (pw_t T ms) (pw_P T ms s a) p0 d hr' len' lv' → bf_com (pw_P T ms s a) d nx' cm' → 0 < hr' → bf_W (pw_t T ms) ms.length hr' nx' len' lv' cm' → post (f1, f2, nI ms.length, f4, nI hr', nI nx', a1, a2, a3, a4, a5, a6, a7, len', lv', cm')) :
    wpX_workLevel post (f1, f2, nI ms.length, f4, nI hr, f6, a1, a2, a3, a4, a5, a6, a7, a8, a9, a10) (nI d) := by
  refine loop_m (σ := Nat × Nat × Nat × (Nat → Int32) × (Nat → Int32) × (Nat → Int32)) (fun n u => wX_workLevel_7 post (nI d) n (nI u.1) f1 f2 (nI ms.length) f4 (nI u.2.1) (nI u.2.2.1) a1 a2 a3 a4 a5 a6 a7 u.2.2.2.1 u.2.2.2.2.1 u.2.2.2.2.2)
    (fun u => bf_O (pw_t T ms) (pw_P T ms s a) p0 d u.2.1 u.2.2.2.1 u.2.2.2.2.1 ∧ bf_com (pw_P T ms s a) d u.2.2.1 u.2.2.2.2.2 ∧ u.1 ≤ u.2.1 ∧ 0 < u.2.1 ∧ bf_W (pw_t T ms) ms.length u.1 u.2.2.1 u.2.2.2.1 u.2.2.2.2.1 u.2.2.2.2.2) (fun u => 224 - u.1) ?_ (0, hr, 0, a8, a9, a10) ⟨hO, bf_com0, Nat.zero_le _, hh, fun t p z => absurd z (Nat.not_lt_zero t)⟩
  rintro n ⟨i, hr', nx', len', lv', cm'⟩ ⟨k1, k2, k3, k4, k5⟩ hwn
  dsimp only at k1 k2 k3 k4 k5
  have hle := bf_N_le k1.1
  refine pk_le hr' i (fun z => ?_) (fun z => ⟨pk_in i 224 (by omega), by decide, ?_⟩)
  · have e : i = hr' := by omega
    subst e
    exact H i nx' len' lv' cm' k1 k2 k4 k5
  · obtain ⟨p, hp, e1, e2⟩ := k1.1.2.1.1 i z
    dsimp only
    rw [pn_cl (show i < 2 ^ 31 by omega), e1]
    refine nm_r (pn_div (by omega)) ⟨pk_in i 224 (by omega), by decide, nm_r (pn_rem (by omega)) ?_⟩
    refine wk_39 hG h3 h4 h5 hw hst hm z hp e1 k1 k2 k5 (fun hr2 nx2 len2 lv2 cm2 g1 g2 g3 g4 => ?_)
    exact hwn (i + 1, hr2, nx2, len2, lv2, cm2) ⟨g1, g2, g3, Nat.lt_of_lt_of_le (Nat.succ_pos i) g3, g4⟩ (by show 224 - (i + 1) < 224 - i; omega)
theorem wk_80 {J54 : Int32 → Int32 → Int32 → Int32 → Int32 → Int32 → Int32 → (Nat → Int32) → (Nat → Int32) → (Nat → Int32) → (Nat → Int32) → (Nat → Int32) → (Nat → Int32) → (Nat → Int32) → (Nat → Int32) → (Nat → Int32) → (Nat → Int32) → Prop}
    {d nx : Nat} (hw : pa_wf ms st) (hst : st ≤ 28) (hJ : bf_J (pw_t T ms) (pw_P T ms s a) p0 d 0 0 nx a8 a9 a10)
    (H : ∀ hr' len' lv', bf_O (pw_t T ms) (pw_P T ms s a) p0 (d + 1) hr' len' lv' → J54 (nI (d + 1)) f1 f2 f3 f4 (nI hr') (nI nx) a1 a2 a3 a4 a5 a6 a7 len' lv' a10) :
    ∃ n, wX_search_80 post J54 (nI d) n 0 f1 f2 f3 f4 0 (nI nx) a1 a2 a3 a4 a5 a6 a7 a8 a9 a10 := by
  have hnx := hJ.2.2.1
  refine pk_loop (σ := Nat × (Nat → Int32) × (Nat → Int32)) (fun n i u => wX_search_80 post J54 (nI d) n (nI i) f1 f2 f3 f4 (nI u.1) (nI nx) a1 a2 a3 a4 a5 a6 a7 u.2.1 u.2.2 a10)
    (fun i u => bf_J (pw_t T ms) (pw_P T ms s a) p0 d i u.1 nx u.2.1 u.2.2 a10) nx 0 (0, a8, a9) (Nat.zero_le _) hJ ?_ ?_
  · rintro n ⟨hr', len', lv'⟩ k
    exact pk_le nx nx (fun _ => nm_r (nI_1 d) (H hr' len' lv' (bf_JO k))) (fun z => absurd z (by omega))
  · rintro n i ⟨hr', len', lv'⟩ hi k hwn
    dsimp only at k
    obtain ⟨q, hq, eq, hP⟩ := k.2.1 i hi
    refine pk_le nx i (fun z => absurd z (by omega)) (fun _ => ⟨pk_in i 224 (by omega), by decide, pk_in i 224 (by omega), by decide, ?_⟩)
    rw [pn_cl (show i < 2 ^ 31 by omega), eq]
    refine wk_rh (q := q) (pn_div (by omega)) (pn_rem (by omega)) (nI_1 d) (by omega) hq (fun h => (bf_J1 (pw_tt hw hst) k hi hq eq h).1) (fun h => ?_) (fun h => ?_)
    · exact nm_r (nI_1 i) (hwn (hr' + 1, upd len' q (nI (d + 1)), upd lv' hr' (nI q)) (bf_J1 (pw_tt hw hst) k hi hq eq h).2)
    · exact nm_r (nI_1 i) (hwn (hr', len', lv') (bf_J2 (pw_tt hw hst) k hq eq h))
theorem wk_54 {hr : Nat} (hG : pa_G T a1 a2) (h3 : pa_at (fun v => v.1) ms a3) (h4 : pa_at (fun v => v.2.1) ms a4) (h5 : pa_at (fun v => v.2.2) ms a5) (hw : pa_wf ms st) (hst : st ≤ 28) (hm : ms.length ≤ 56)
    (hO : bf_O (pw_t T ms) (pw_P T ms s a) p0 0 hr a8 a9)
    (H : ∀ d f5' f6' len' lv' cm', bf_O (pw_t T ms) (pw_P T ms s a) p0 d 0 len' lv' → post (f1, f2, nI ms.length, f4, f5', f6', a1, a2, a3, a4, a5, a6, a7, len', lv', cm')) :
    ∃ n, wX_search_54 post n 0 f1 f2 (nI ms.length) f4 (nI hr) f6 a1 a2 a3 a4 a5 a6 a7 a8 a9 a10 := by
  refine loop_m (σ := Nat × Nat × Int32 × (Nat → Int32) × (Nat → Int32) × (Nat → Int32)) (fun n u => wX_search_54 post n (nI u.1) f1 f2 (nI ms.length) f4 (nI u.2.1) u.2.2.1 a1 a2 a3 a4 a5 a6 a7 u.2.2.2.1 u.2.2.2.2.1 u.2.2.2.2.2)
    (fun u => bf_O (pw_t T ms) (pw_P T ms s a) p0 u.1 u.2.1 u.2.2.2.1 u.2.2.2.2.1) (fun u => 225 - u.1) ?_ (0, hr, f6, a8, a9, a10) hO
  rintro n ⟨d, hr', f6', len', lv', cm'⟩ k hwn
  dsimp only at k
  have hle := bf_N_le k.1
  refine pk_lt 224 d (fun z => absurd z (by omega)) (fun z => pk_le hr' 0 (fun g => ?_) (fun g => ?_))
  · have e : hr' = 0 := by omega
    subst e
    exact H d _ f6' len' lv' cm' k
  · refine wk_wl hG h3 h4 h5 hw hst hm g k (fun hr2 nx2 len2 lv2 cm2 g1 g2 g3 g4 => ?_)
    refine wk_80 hw hst (bf_J0 (pw_tt hw hst) g1 g2 g3 g4) (fun hr3 len3 lv3 g5 => ?_)
    exact hwn (d + 1, hr3, nI nx2, len3, lv3, cm2) g5 (by show 225 - (d + 1) < 225 - d; omega)
end
end
section
/-! the search as a whole, and the questions -/
def pa_len (u : St1) : Nat → Int32 := match u with
  | (_, _, _, _, _, _, _, _, _, _, _, _, _, a8, _, _) => a8
theorem pa_at_pre {α : Type} {f : α → Nat} {l l' : List α} {a : Nat → Int32} (h : pa_at f (l ++ l') a) : pa_at f l a := by
  intro i v e
  apply h i v
  obtain ⟨hi, _⟩ := List.getElem?_eq_some_iff.mp e
  rw [List.getElem?_append_left hi]
  exact e
theorem pa_at_0 {α : Type} {f : α → Nat} {l l' : List α} {v : α} {a : Nat → Int32} (h : pa_at f (l ++ v :: l') a) : a l.length = nI (f v) := by
  apply h
  rw [List.getElem?_append_right (Nat.le_refl _), Nat.sub_self]
  rfl
theorem pa_at_1 {α : Type} {f : α → Nat} {l l' : List α} {v w : α} {a : Nat → Int32} (h : pa_at f (l ++ v :: w :: l') a) : a (l.length + 1) = nI (f w) := by
  apply h
  rw [List.getElem?_append_right (Nat.le_succ _), show l.length + 1 - l.length = 1 by omega]
  rfl
theorem pa_at_snoc {α : Type} {f : α → Nat} {l : List α} {v : α} {a : Nat → Int32} (h : pa_at f l a) (hv : a l.length = nI (f v)) : pa_at f (l ++ [v]) a := by
  intro i w e
  by_cases z : i = l.length
  · subst z
    rw [List.getElem?_append_right (Nat.le_refl _), Nat.sub_self] at e
    have e' : some v = some w := e
    injection e' with e'
    subst e'
    exact hv
  · obtain ⟨hi, _⟩ := List.getElem?_eq_some_iff.mp e
    rw [List.length_append] at hi
    have hi' : i < l.length + 1 := hi
    rw [List.getElem?_append_left (by omega)] at e
    exact h i w e
theorem pa_at_push {α : Type} {f : α → Nat} {l : List α} {v : α} {a : Nat → Int32} {x : Int32} (h : pa_at f l a) (hx : x = nI (f v)) : pa_at f (l ++ [v]) (upd a l.length x) := by
  refine pa_at_snoc (fun i w e => ?_) (by rw [pk_us, hx])
  obtain ⟨hi, _⟩ := List.getElem?_eq_some_iff.mp e
  rw [pk_un (by omega)]
  exact h i w e
theorem bf_init {tt : Nat → Nat → Nat → Nat → Prop} {PP : Nat → Nat → Prop} {p0 : Nat} {len lv : Nat → Int32} (hl : ∀ p, p < 224 → len p = -1) (hp : p0 < 224) (hP : PP 0 p0) : bf_O tt PP p0 0 (0 + 1) (upd len p0 (nI 0)) (upd lv 0 (nI p0)) := by
  refine ⟨⟨fun p hp' => ?_, ⟨fun t ht => ?_, fun p hp' e => ?_⟩, ?_, pk_us⟩, fun p c _ hc => absurd hc (by omega)⟩
  · by_cases e : p = p0
    · subst e
      exact Or.inr ⟨0, Nat.le_refl 0, pk_us, hP⟩
    · rw [pk_un e]
      exact Or.inl (hl p hp')
  · have e : t = 0 := by omega
    subst e
    exact ⟨p0, hp, pk_us, pk_us⟩
  · by_cases z : p = p0
    · subst z
      exact ⟨0, by omega, pk_us⟩
    · rw [pk_un z, hl p hp'] at e
      exact absurd e.symm (pn_ne (by omega))
  · rw [bf_cn_in (by rw [hl p0 hp]; exact pn_m1) (nI_pos (by omega)) 224 hp]
    omega
section
variable {T : Nat → Nat → Nat → Bool} {ms : List (Nat × Nat × Nat)} {K st s e a b : Nat} {pre : List (Nat × Nat)}
theorem wk_se {post : St1 → Prop} {u : St1} (hu : pa_S T u K st ms (pre ++ [(s, e)])) (hw : pa_wf ms st) (hst : st ≤ 28) (hm : ms.length ≤ 56) (hs : s < st) (hpre : pre.length < 6) (ha : a < 8)
    (H : ∀ u' : St1, pa_S T u' K st ms (pre ++ [(s, e)]) → (∀ x n, x < 28 → n < 8 → pa_D T ms s a x n (pa_len u' (x * 8 + n))) → post u') : wpX_search post u (nI a) := by
  obtain ⟨f1, f2, f3, f4, f5, f6, a1, a2, a3, a4, a5, a6, a7, a8, a9, a10⟩ := u
  have hu' : pa_C T f1 f2 f3 f4 a1 a2 a3 a4 a5 a6 a7 K st ms (pre ++ [(s, e)]) := hu
  obtain ⟨hk, h2, h3, h4, hG, g3, g4, g5, g6, g7⟩ := hu'
  have e4 : f4 = nI (pre.length + 1) := by
    rw [h4, List.length_append]
    rfl
  have e6 : a6 pre.length = nI s := pa_at_0 g6
  subst h3
  refine pk_loop (σ := Nat → Int32) (fun n i len => wX_search_2 post (nI a) f1 f2 (nI ms.length) f4 f5 f6 n (nI i) a1 a2 a3 a4 a5 a6 a7 len a9 a10) (fun i len => ∀ p, p < i → len p = -1) 224 0 a8 (by omega) (fun p h => absurd h (by omega)) ?_ ?_
  · intro n len hl
    refine pk_le 224 224 (fun _ => ?_) (fun z => absurd z (by omega))
    refine pk_eq (pre.length + 1) 0 (fun z => absurd z (by omega)) (fun _ => ⟨pk_in pre.length 6 hpre (by rw [e4, nI_pred]), ?_⟩) (hx := e4)
    have e5 : a6 (f4 - 1).toNatClampNeg = nI s := by
      rw [e4, nI_pred, pn_cl (by omega), e6]
    refine wk_rh (hr := 0) (d := 0) (q := s * 8 + a) e5 rfl rfl rfl (by omega) (fun _ => by omega) (fun _ => ?_) (fun z => absurd (show len (s * 8 + a) < 0 by rw [hl _ (by omega)]; exact pn_m1) z)
    refine wk_54 hG g3 g4 g5 hw hst hm (bf_init (PP := pw_P T ms s a) hl (by omega) ?_) (fun d f5' f6' len' lv' cm' hO => H _ hu (pw_D hw hst hs ha hO))
    show pa_P T ms s a 0 ((s * 8 + a) / 8) ((s * 8 + a) % 8)
    rw [show (s * 8 + a) / 8 = s by omega, show (s * 8 + a) % 8 = a by omega]
    exact pa_P0 _ _
  · intro n i len hi hl hwn
    refine pk_le 224 i (fun z => absurd z (by omega)) (fun _ => ⟨pk_in i 224 hi, ?_⟩)
    rw [pn_cl (show i < 2 ^ 31 by omega)]
    refine nm_e (nm_r (nI_1 i) (hwn _ (fun p hp => ?_)))
    by_cases z : p = i
    · rw [z, pk_us]
    · rw [pk_un z]
      exact hl p (by omega)
theorem wk_lt {pz : Int32 → Prop} {u : St1} (hu : pa_S T u K st ms (pre ++ [(s, e)])) (hpre : pre.length < 6) (he : e < 28) (hb : b < 8) (H : pz (pa_len u (e * 8 + b))) : wpX_lengthTo pz u (nI b) := by
  obtain ⟨f1, f2, f3, f4, f5, f6, a1, a2, a3, a4, a5, a6, a7, a8, a9, a10⟩ := u
  have hu' : pa_C T f1 f2 f3 f4 a1 a2 a3 a4 a5 a6 a7 K st ms (pre ++ [(s, e)]) := hu
  obtain ⟨hk, h2, h3, h4, hG, g3, g4, g5, g6, g7⟩ := hu'
  have e4 : f4 = nI (pre.length + 1) := by
    rw [h4, List.length_append]
    rfl
  have e7 : a7 (f4 - 1).toNatClampNeg = nI e := by
    rw [e4, nI_pred, pn_cl (by omega)]
    exact pa_at_0 g7
  have ei : a7 (f4 - 1).toNatClampNeg * 8 + nI b = nI (e * 8 + b) := by rw [e7, pn_8]
  refine pk_eq (pre.length + 1) 0 (fun z => absurd z (by omega)) (fun _ => ⟨pk_in pre.length 6 hpre (by rw [e4, nI_pred]), pk_in (e * 8 + b) 224 (by omega) ei, ?_⟩) (hx := e4)
  rw [ei, pn_cl (show e * 8 + b < 2 ^ 31 by omega)]
  exact H
end
theorem wk_bn {pz : Int32 → Prop} {a : Nat} (ha : a < 8) (H : pz 0) : wpX_badNode pz () (nI a) :=
  br_f (nI_pos (by omega)) (br_t (nI_lt (b := 8) ha (by omega)) H)
/-- the state holds the one fragment F -/
def pa_Z (T : Nat → Nat → Nat → Bool) (u : St1) (K : Nat) (F : pa_F) : Prop := pa_S T u K F.1 F.2.1 [(F.2.2.1, F.2.2.2)] ∧ pa_fw F ∧ F.1 ≤ 28 ∧ F.2.1.length ≤ 56
def pa_V (T : Nat → Nat → Nat → Bool) (F : pa_F) (a b : Nat) (r : Int32) : Prop := (r = -5 ∧ ∀ d, ¬ pa_Q T F a d b) ∨ ∃ d, d ≤ 224 ∧ r = nI d ∧ pa_Q T F a d b ∧ ∀ d', pa_Q T F a d' b → d ≤ d'
def pa_B (T : Nat → Nat → Nat → Bool) (F : pa_F) (a : Nat) (r : Int32) : Prop := ∀ i, i < 32 → (pb_t r i = true ↔ i < 8 ∧ ∃ d, pa_Q T F a d i)
section
variable {T : Nat → Nat → Nat → Bool} {F : pa_F} {K a b : Nat} {u : St1}
theorem wk_sz {post : St1 → Prop} (hu : pa_Z T u K F) (ha : a < 8) (H : ∀ u' : St1, pa_Z T u' K F → (∀ b, b < 8 → (pa_len u' (F.2.2.2 * 8 + b) = -1 ∧ ∀ d, ¬ pa_Q T F a d b) ∨ ∃ d, d ≤ 224 ∧ pa_len u' (F.2.2.2 * 8 + b) = nI d ∧ pa_Q T F a d b ∧ ∀ d', pa_Q T F a d' b → d ≤ d') → post u') : wpX_search post u (nI a) := by
  obtain ⟨h, ⟨w, s, e⟩, h2, h3⟩ := hu
  exact wk_se (pre := []) (s := F.2.2.1) (e := F.2.2.2) h w h2 h3 s (Nat.zero_lt_succ 5) ha (fun u' hu' hd => H u' ⟨hu', ⟨w, s, e⟩, h2, h3⟩ (fun b hb => hd F.2.2.2 b (by omega) hb))
theorem wk_lz {pz : Int32 → Prop} (hu : pa_Z T u K F) (hb : b < 8) (H : pz (pa_len u (F.2.2.2 * 8 + b))) : wpX_lengthTo pz u (nI b) := by
  obtain ⟨h, ⟨w, s, e⟩, h2, h3⟩ := hu
  exact wk_lt (pre := []) (s := F.2.2.1) (e := F.2.2.2) h (Nat.zero_lt_succ 5) (by omega) hb H
theorem wk_sh {post : Int32 → St1 → Prop} (hu : pa_Z T u K F) (ha : a < 8) (hb : b < 8) (H : ∀ r u', pa_Z T u' K F → pa_V T F a b r → post r u') : wpX_shortest post u (nI a) (nI b) := by
  obtain ⟨f1, f2, f3, f4, f5, f6, a1, a2, a3, a4, a5, a6, a7, a8, a9, a10⟩ := u
  unfold wpX_shortest
  refine wk_bn ha ?_
  refine br_t rfl ?_
  refine wk_bn hb ?_
  refine br_t rfl ?_
  refine wk_sz hu ha (fun u' hu' hd => ?_)
  obtain ⟨f1', f2', f3', f4', f5', f6', b1, b2, b3, b4, b5, b6, b7, b8, b9, b10⟩ := u'
  refine wk_lz hu' hb ?_
  rcases hd b hb with ⟨h1, h2⟩ | ⟨d, h1, h2, h3, h4⟩
  · exact br_f (by rw [h1]; decide) (H _ _ hu' (Or.inl ⟨rfl, h2⟩))
  · exact br_t (by rw [h2]; exact nI_pos' (by omega)) (H _ _ hu' (Or.inr ⟨d, h1, h2, h3, h4⟩))
theorem wk_ld {post : Int32 → St1 → Prop} (hu : pa_Z T u K F) (ha : a < 8) (hb : b < 8) (H : ∀ r u', pa_Z T u' K F → ((r = 1 ∧ ∃ d, pa_Q T F a d b) ∨ (r = 0 ∧ ¬ ∃ d, pa_Q T F a d b)) → post r u') : wpX_leads post u (nI a) (nI b) := by
  obtain ⟨f1, f2, f3, f4, f5, f6, a1, a2, a3, a4, a5, a6, a7, a8, a9, a10⟩ := u
  unfold wpX_leads
  refine wk_bn ha ?_
  refine br_t rfl ?_
  refine wk_bn hb ?_
  refine br_t rfl ?_
  refine wk_sz hu ha (fun u' hu' hd => ?_)
  obtain ⟨f1', f2', f3', f4', f5', f6', b1, b2, b3, b4, b5, b6, b7, b8, b9, b10⟩ := u'
  refine wk_lz hu' hb ?_
  rcases hd b hb with ⟨h1, h2⟩ | ⟨d, h1, h2, h3, h4⟩
  · exact br_t (by rw [h1]; decide) (H _ _ hu' (Or.inr ⟨rfl, fun ⟨d, z⟩ => h2 d z⟩))
  · exact br_f (by rw [h2]; exact nI_pos (by omega)) (H _ _ hu' (Or.inl ⟨rfl, d, h3⟩))
theorem wk_rf {post : Int32 → St1 → Prop} (hu : pa_Z T u K F) (ha : a < 8) (H : ∀ r u', pa_Z T u' K F → pa_B T F a r → post r u') : wpX_reachFrom post u (nI a) := by
  obtain ⟨f1, f2, f3, f4, f5, f6, a1, a2, a3, a4, a5, a6, a7, a8, a9, a10⟩ := u
  unfold wpX_reachFrom
  refine wk_sz hu ha (fun u' hu' hd => ?_)
  obtain ⟨f1', f2', f3', f4', f5', f6', b1, b2, b3, b4, b5, b6, b7, b8, b9, b10⟩ := u'
  refine pk_loop (σ := Int32) (fun n i x => wX_reachFrom_9 post f1' f2' f3' f4' f5' f6' b1 b2 b3 b4 b5 b6 b7 b8 b9 b10 n x (nI i)) (fun i x => ∀ j, j < 32 → (pb_t x j = true ↔ j < i ∧ ∃ d, pa_Q T F a d j)) 8 0 0 (by omega) (fun j _ => ?_) ?_ ?_
  · rw [pb_0]
    constructor
    · intro z
      exact absurd z (by decide)
    · intro z
      omega
  · intro n x hx
    exact pk_le 8 8 (fun _ => H x _ hu' hx) (fun z => absurd z (by omega))
  · intro n i x hi hx hwn
    refine pk_le 8 i (fun z => absurd z (by omega)) (fun _ => wk_lz hu' hi ?_)
    rcases hd i hi with ⟨h1, h2⟩ | ⟨d, h1, h2, h3, h4⟩
    · refine br_t (by rw [h1]; decide) (nm_r (nI_1 i) (hwn x (fun j hj => ?_)))
      rw [hx j hj]
      constructor
      · rintro ⟨z1, z2⟩
        exact ⟨by omega, z2⟩
      · rintro ⟨z1, d, z2⟩
        refine ⟨?_, d, z2⟩
        by_cases z : j = i
        · subst z
          exact absurd z2 (h2 d)
        · omega
    · refine br_f (by rw [h2]; exact nI_pos (by omega)) (nm_e (nm_r (nI_1 i) (hwn _ (fun j hj => ?_))))
      rw [pb_set x (show i < 32 by omega) hj, Bool.or_eq_true, hx j hj, decide_eq_true_iff]
      constructor
      · rintro (⟨z1, z2⟩ | z)
        · exact ⟨by omega, z2⟩
        · subst z
          exact ⟨by omega, d, h3⟩
      · rintro ⟨z1, z2⟩
        by_cases z : j = i
        · exact Or.inr z
        · exact Or.inl ⟨by omega, z2⟩
theorem wk_re {post : Int32 → St1 → Prop} (hu : pa_Z T u K F) (ha : a < 8) (H : ∀ r u', pa_Z T u' K F → pa_B T F a r → post r u') : wpX_reach post u (nI a) := by
  obtain ⟨f1, f2, f3, f4, f5, f6, a1, a2, a3, a4, a5, a6, a7, a8, a9, a10⟩ := u
  unfold wpX_reach
  refine wk_bn ha ?_
  refine br_t rfl ?_
  refine wk_rf hu ha (fun r u' hu' hB => ?_)
  obtain ⟨f1', f2', f3', f4', f5', f6', b1, b2, b3, b4, b5, b6, b7, b8, b9, b10⟩ := u'
  exact H _ _ hu' hB
end
end
section
/-! the graph out of the script -/
def ed_up (T : Nat → Nat → Nat → Bool) (l a b : Nat) (v : Bool) : Nat → Nat → Nat → Bool := fun l' a' b' => if l' = l ∧ a' = a ∧ b' = b then v else T l' a' b'
theorem ed_up2 (T : Nat → Nat → Nat → Bool) (l a b : Nat) (v w : Bool) : ed_up (ed_up T l a b v) l a b w = ed_up T l a b w := by
  funext l' a' b'
  unfold ed_up
  by_cases h : l' = l ∧ a' = a ∧ b' = b
  · rw [if_pos h, if_pos h]
  · rw [if_neg h, if_neg h, if_neg h]
theorem pa_G_up {T : Nat → Nat → Nat → Bool} {a1 a2 : Nat → Int32} {l a b : Nat} {x y : Int32} (v : Bool) (hG : pa_G T a1 a2) (hl : l < 3) (ha : a < 8) (hb : b < 8)
    (hx : ∀ j, j < 8 → pb_t x j = if j = b then v else pb_t (a1 (l * 8 + a)) j) (hy : ∀ j, j < 8 → pb_t y j = if j = a then v else pb_t (a2 (l * 8 + b)) j) :
    pa_G (ed_up T l a b v) (upd a1 (l * 8 + a) x) (upd a2 (l * 8 + b) y) := by
  intro l' a' b' hl' ha' hb'
  obtain ⟨g1, g2⟩ := hG l' a' b' hl' ha' hb'
  unfold ed_up
  constructor
  · by_cases z : l' * 8 + a' = l * 8 + a
    · have z1 : l' = l := by omega
      have z2 : a' = a := by omega
      subst z1 z2
      rw [pk_us, hx b' hb']
      by_cases z : b' = b
      · rw [if_pos z, if_pos ⟨rfl, rfl, z⟩]
      · rw [if_neg z, if_neg (fun h => z h.2.2), g1]
    · rw [pk_un z, if_neg (fun h => z (by rw [h.1, h.2.1])), g1]
  · by_cases z : l' * 8 + b' = l * 8 + b
    · have z1 : l' = l := by omega
      have z2 : b' = b := by omega
      subst z1 z2
      rw [pk_us, hy a' ha']
      by_cases z : a' = a
      · rw [if_pos z, if_pos ⟨rfl, z, rfl⟩]
      · rw [if_neg z, if_neg (fun h => z h.2.1), g2]
    · rw [pk_un z, if_neg (fun h => z (by rw [h.1, h.2.2])), g2]
theorem ed_clr (x : Int32) {n : Nat} (hn : n < 8) : ∀ j, j < 8 → pb_t (x &&& (((1 : Int32) <<< (nI n &&& 31)) ^^^ (-1))) j = if j = n then false else pb_t x j := by
  intro j hj
  rw [pb_clr x (show n < 32 by omega) (show j < 32 by omega)]
  by_cases z : j = n
  · simp [z]
  · simp [z]
theorem ed_set (x : Int32) {n : Nat} (hn : n < 8) : ∀ j, j < 8 → pb_t (x ||| ((1 : Int32) <<< (nI n &&& 31))) j = if j = n then true else pb_t x j := by
  intro j hj
  rw [pb_set x (show n < 32 by omega) (show j < 32 by omega)]
  by_cases z : j = n
  · simp [z]
  · simp [z]
theorem wk_bl {pz : Int32 → Prop} {l : Nat} (h : l < 3) (H : pz 0) : wpX_badLabel pz () (nI l) :=
  br_f (nI_pos (by omega)) (br_t (nI_le (b := 2) (by omega) (by omega)) H)
section
variable {f1 f2 f3 f4 f5 f6 : Int32} {a1 a2 a3 a4 a5 a6 a7 a8 a9 a10 : Nat → Int32} {T : Nat → Nat → Nat → Bool}
theorem wk_ed {post : Int32 → St1 → Prop} {l e : Nat} {t : Int32} (hl : l < 3) (he : e < 64) (hG : pa_G T a1 a2)
    (H : ∀ r a1' a2', pa_G (ed_up T l (e % 8) (e / 8) (decide (¬ t = 0))) a1' a2' → post r (f1, f2, f3, f4, f5, f6, a1', a2', a3, a4, a5, a6, a7, a8, a9, a10)) :
    wpX_edge post (f1, f2, f3, f4, f5, f6, a1, a2, a3, a4, a5, a6, a7, a8, a9, a10) (nI l) (nI e) t := by
  have hA : l * 8 + e % 8 < 24 := by omega
  have hB : l * 8 + e / 8 < 24 := by omega
  unfold wpX_edge
  refine wk_bl hl ?_
  refine br_t rfl (br_f (nI_pos (by omega)) (br_t (nI_le (b := 63) (by omega) (by omega)) ?_))
  refine nm_r (pk_andN (by omega) 3 (by decide)) (nm_r (pk_shrN (by omega) _ 3 (by decide)) ?_)
  show vp_in (nI l * 8 + nI (e % 8)) 24 ∧ _
  rw [show (2 : Nat) ^ 3 = 8 from rfl, pn_8 l (e % 8), pn_8 l (e / 8), pn_cl (show l * 8 + e % 8 < 2 ^ 31 by omega), pn_cl (show l * 8 + e / 8 < 2 ^ 31 by omega)]
  have g1 := pa_G_up false hG hl (show e % 8 < 8 by omega) (show e / 8 < 8 by omega) (ed_clr (a1 (l * 8 + e % 8)) (show e / 8 < 8 by omega)) (ed_clr (a2 (l * 8 + e / 8)) (show e % 8 < 8 by omega))
  refine ⟨pk_in _ 24 hA, nm_e ⟨pk_in _ 24 hA, pk_in _ 24 hA, nm_e ⟨pk_in _ 24 hB, pk_in _ 24 hB, nm_e (br_c (fun h => ?_) (fun h => ⟨pk_in _ 24 hA, pk_in _ 24 hA, nm_e ⟨pk_in _ 24 hB, pk_in _ 24 hB, nm_e ?_⟩⟩))⟩⟩⟩
  · refine H _ _ _ ?_
    rw [decide_eq_false (fun z => z h)]
    exact g1
  · refine H _ _ _ ?_
    have g2 := pa_G_up true g1 hl (show e % 8 < 8 by omega) (show e / 8 < 8 by omega) (ed_set _ (show e / 8 < 8 by omega)) (ed_set _ (show e % 8 < 8 by omega))
    rw [ed_up2] at g2
    rw [decide_eq_true h]
    exact g2
end
def ed_l (v : Int32) : Nat := v.toBitVec.toNat % 2 ^ 8 % 3
def ed_e (v : Int32) : Nat := (v >>> ((8 : Int32) &&& 31)).toBitVec.toNat % 2 ^ 6
def ed_t (v : Int32) : Bool := decide ((v &&& 16777216) = 0) || decide ((v &&& 33554432) = 0)
def ed_T (xs : Nat → Int32) : Nat → Nat → Nat → Nat → Bool
  | 0 => fun _ _ _ => false
  | k + 1 => ed_up (ed_T xs k) (ed_l (xs (k + 4))) (ed_e (xs (k + 4)) % 8) (ed_e (xs (k + 4)) / 8) (ed_t (xs (k + 4)))
theorem ed_le (v : Int32) : (v &&& 255) - (v &&& 255) / 3 * 3 = nI (ed_l v) := by
  rw [pk_and v 8 (by decide), show (3 : Int32) = nI 3 from rfl]
  exact pk_rem (by omega) (by omega) (by omega)
theorem ed_ee (v : Int32) : (v >>> ((8 : Int32) &&& 31)) &&& 63 = nI (ed_e v) := pk_and _ 6 (by decide)
section
variable {f1 f2 f3 f4 f5 f6 : Int32} {a1 a2 a3 a4 a5 a6 a7 a8 a9 a10 : Nat → Int32}
theorem wk_68 {post : St1 → Prop} {L : Nat} {xs : Nat → Int32} {J3 : Int32 → Int32 → Int32 → Int32 → Int32 → Int32 → Int32 → (Nat → Int32) → (Nat → Int32) → (Nat → Int32) → (Nat → Int32) → (Nat → Int32) → (Nat → Int32) → (Nat → Int32) → (Nat → Int32) → (Nat → Int32) → (Nat → Int32) → Prop}
    {x2 x3 t : Int32} {k : Nat} (hG : pa_G (ed_T xs k) a1 a2) (ht : decide (¬ t = 0) = ed_t (xs (k + 4)))
    (H : ∀ a1' a2', pa_G (ed_T xs (k + 1)) a1' a2' → J3 (nI (k + 1 + 4)) f1 f2 f3 f4 f5 f6 a1' a2' a3 a4 a5 a6 a7 a8 a9 a10) :
    wL_edges_68 post L xs J3 x2 x3 (nI (k + 4)) t (nI (ed_e (xs (k + 4)))) (nI (ed_l (xs (k + 4)))) f1 f2 f3 f4 f5 f6 a1 a2 a3 a4 a5 a6 a7 a8 a9 a10 := by
  unfold wL_edges_68
  refine wk_ed (T := ed_T xs k) (Nat.mod_lt _ (by omega)) (Nat.mod_lt _ (by omega)) hG (fun r a1' a2' g => ?_)
  rw [ht] at g
  exact nm_r (nI_1 (k + 4)) (H a1' a2' g)
theorem wk_es {post : St1 → Prop} {L : Nat} {xs : Nat → Int32} (hL : L ≤ 260) (hG : pa_G (fun _ _ _ => false) a1 a2)
    (H : ∀ a1' a2', pa_G (ed_T xs (min L 34 - 4)) a1' a2' → post (f1, f2, f3, f4, f5, f6, a1', a2', a3, a4, a5, a6, a7, a8, a9, a10)) :
    wpL_edges post L xs (f1, f2, f3, f4, f5, f6, a1, a2, a3, a4, a5, a6, a7, a8, a9, a10) 4 30 := by
  refine pk_loop (σ := (Nat → Int32) × (Nat → Int32)) (fun n k u => wL_edges_3 post L xs 4 30 n (nI (k + 4)) f1 f2 f3 f4 f5 f6 u.1 u.2 a3 a4 a5 a6 a7 a8 a9 a10) (fun k u => pa_G (ed_T xs k) u.1 u.2) (min L 34 - 4) 0 (a1, a2) (Nat.zero_le _) hG ?_ ?_
  · rintro n ⟨b1, b2⟩ g
    exact pk_le L (min L 34 - 4 + 4) (fun _ => H b1 b2 g) (fun z => pk_le 34 (min L 34 - 4 + 4) (fun _ => H b1 b2 g) (fun z' => absurd z' (by omega)) (hx := by decide))
  · rintro n k ⟨b1, b2⟩ hk g hwn
    dsimp only at g
    have hkL : k + 4 < L := by omega
    have hL2 : L < 2 ^ 31 := by omega
    refine pk_le L (k + 4) (fun z => absurd z (by omega)) (fun _ => pk_le 34 (k + 4) (fun z => absurd z (by omega)) (fun _ => ⟨pk_in (k + 4) L hkL, by decide, ?_⟩) (hx := by decide))
    rw [pn_cl (show k + 4 < 2 ^ 31 by omega), ed_ee]
    refine nm_r (ed_le _) ⟨pk_in (k + 4) L hkL, pk_in (k + 4) L hkL, br_c (fun h => ?_) (fun h => ⟨pk_in (k + 4) L hkL, br_c (fun h2 => ?_) (fun h2 => ?_)⟩)⟩
    · refine wk_68 g ?_ (fun a1' a2' g' => hwn (a1', a2') g')
      unfold ed_t
      rw [decide_eq_true h]
      rfl
    · refine wk_68 g ?_ (fun a1' a2' g' => hwn (a1', a2') g')
      unfold ed_t
      rw [decide_eq_true h2, Bool.or_true]
      rfl
    · refine wk_68 g ?_ (fun a1' a2' g' => hwn (a1', a2') g')
      unfold ed_t
      rw [decide_eq_false h, decide_eq_false h2]
      rfl
end
end
section
/-! the steps that build the automaton -/
section
variable {f1 f2 f3 f4 f5 f6 : Int32} {a1 a2 a3 a4 a5 a6 a7 a8 a9 a10 : Nat → Int32}
theorem wb_am {post : St1 → Prop} {m : Nat} {A B C : Int32} (hm : m < 56) (H : post (f1, f2, nI (m + 1), f4, f5, f6, a1, a2, upd a3 m A, upd a4 m B, upd a5 m C, a6, a7, a8, a9, a10)) :
    wpX_addMove post (f1, f2, nI m, f4, f5, f6, a1, a2, a3, a4, a5, a6, a7, a8, a9, a10) A B C := by
  refine ⟨pk_in m 56 hm, ?_⟩
  rw [pn_cl (show m < 2 ^ 31 by omega)]
  exact nm_e ⟨pk_in m 56 hm, nm_e ⟨pk_in m 56 hm, nm_e (nm_r (nI_1 m) H)⟩⟩
theorem wb_rf {pz : Int32 → Prop} {k t h : Nat} {A : Int32} (hk : k < 14) (hA : A = nI t) (h6 : h ≤ 6) (h0 : t = 0 → h < 6) (h1 : t ≤ h) (H : pz 0) :
    wpX_refusal pz (nI k, f2, f3, nI h, f5, f6, a1, a2, a3, a4, a5, a6, a7, a8, a9, a10) A := by
  subst hA
  have R : wX_refusal_25 pz (nI t) (nI k) f2 f3 (nI h) f5 f6 a1 a2 a3 a4 a5 a6 a7 a8 a9 a10 := pk_le t h (fun _ => H) (fun z => absurd z (by omega))
  exact pk_le 14 k (fun z => absurd z (by omega)) (fun _ => pk_eq t 0 (fun z => pk_lt h 6 (fun _ => R) (fun g => absurd (h0 z) (by omega))) (fun _ => R))
end
theorem pl_1 {α : Type} (l : List α) (v : α) : (l ++ [v]).length = l.length + 1 := by rw [List.length_append]; rfl
theorem pl_2 {α : Type} (l : List α) (v w : α) : (l ++ [v, w]).length = l.length + 2 := by rw [List.length_append]; rfl
theorem pl_c {α : Type} (l l' : List α) (v : α) : l ++ v :: l' = l ++ [v] ++ l' := by rw [List.append_assoc]; rfl
theorem pa_S_mono {T : Nat → Nat → Nat → Bool} {u : St1} {K K' st : Nat} {ms : List (Nat × Nat × Nat)} {sk : List (Nat × Nat)} (h : pa_S T u K st ms sk) (hK : K ≤ K') : pa_S T u K' st ms sk := by
  obtain ⟨f1, f2, f3, f4, f5, f6, a1, a2, a3, a4, a5, a6, a7, a8, a9, a10⟩ := u
  obtain ⟨⟨k, h1, h2⟩, h3⟩ := h
  exact ⟨⟨k, by omega, h2⟩, h3⟩
theorem pa_S_eq {T : Nat → Nat → Nat → Bool} {u : St1} {K st st' : Nat} {ms ms' : List (Nat × Nat × Nat)} {sk sk' : List (Nat × Nat)} (h : pa_S T u K st ms sk) (e1 : st = st') (e2 : ms = ms') (e3 : sk = sk') : pa_S T u K st' ms' sk' := by
  subst e1 e2 e3
  exact h
section
variable {T : Nat → Nat → Nat → Bool} {u : St1} {K st : Nat} {ms : List (Nat × Nat × Nat)} {sk pre : List (Nat × Nat)}
theorem wb_cl {post : St1 → Prop} (hu : pa_S T u K st ms sk) (H : ∀ u', pa_S T u' 0 0 [] [] → post u') : wpX_clear post u := by
  obtain ⟨f1, f2, f3, f4, f5, f6, a1, a2, a3, a4, a5, a6, a7, a8, a9, a10⟩ := u
  obtain ⟨_, _, _, _, hG, _⟩ := hu
  refine H _ ⟨⟨0, Nat.le_refl 0, rfl⟩, rfl, rfl, rfl, hG, ?_, ?_, ?_, ?_, ?_⟩ <;> exact fun i v z => absurd z (by simp)
theorem wb_pm {post : Int32 → St1 → Prop} {k : Nat} {A : Int32} (hu : pa_S T u K st ms sk) (hK : K < 14) (hm : ms.length < 56) (hs : sk.length < 6) (hA : A = nI k)
    (H : ∀ r u', pa_S T u' (K + 1) (st + 2) (ms ++ [(k, st, st + 1)]) (sk ++ [(st, st + 1)]) → post r u') : wpX_pushMove post u A := by
  obtain ⟨f1, f2, f3, f4, f5, f6, a1, a2, a3, a4, a5, a6, a7, a8, a9, a10⟩ := u
  obtain ⟨⟨j, hj, rfl⟩, rfl, rfl, rfl, hG, g3, g4, g5, g6, g7⟩ := hu
  unfold wpX_pushMove
  refine wb_rf (t := 0) (by omega) rfl (by omega) (fun _ => hs) (Nat.zero_le _) ?_
  refine br_t rfl (nm_r (nI_1 j) ?_)
  refine wb_am hm ?_
  refine ⟨pk_in sk.length 6 hs, ?_⟩
  rw [pn_cl (show sk.length < 2 ^ 31 by omega)]
  refine nm_e ⟨pk_in sk.length 6 hs, nm_e (nm_r (nI_add st 2) (nm_r (nI_1 _) (H _ _ ?_)))⟩
  exact ⟨⟨j + 1, by omega, rfl⟩, rfl, by rw [pl_1], by rw [pl_1], hG, pa_at_push g3 hA, pa_at_push g4 rfl, pa_at_push g5 (nI_1 st), pa_at_push g6 rfl, pa_at_push g7 (nI_1 st)⟩
theorem wb_la {post : Int32 → St1 → Prop} {l : Nat} {A : Int32} (hu : pa_S T u K st ms sk) (hK : K < 14) (hm : ms.length < 56) (hs : sk.length < 6) (hA : A = nI l) (hl : l < 3)
    (H : ∀ r u', pa_S T u' (K + 1) (st + 2) (ms ++ [(l, st, st + 1)]) (sk ++ [(st, st + 1)]) → post r u') : wpX_label post u A := by
  obtain ⟨f1, f2, f3, f4, f5, f6, a1, a2, a3, a4, a5, a6, a7, a8, a9, a10⟩ := u
  subst hA
  unfold wpX_label
  refine wk_bl hl ?_
  refine br_t rfl (wb_pm hu hK hm hs rfl (fun r u' h => ?_))
  obtain ⟨f1', f2', f3', f4', f5', f6', b1, b2, b3, b4, b5, b6, b7, b8, b9, b10⟩ := u'
  exact H _ _ h
theorem wb_ba {post : Int32 → St1 → Prop} {l : Nat} {A : Int32} (hu : pa_S T u K st ms sk) (hK : K < 14) (hm : ms.length < 56) (hs : sk.length < 6) (hA : A = nI l) (hl : l < 3)
    (H : ∀ r u', pa_S T u' (K + 1) (st + 2) (ms ++ [(3 + l, st, st + 1)]) (sk ++ [(st, st + 1)]) → post r u') : wpX_back post u A := by
  obtain ⟨f1, f2, f3, f4, f5, f6, a1, a2, a3, a4, a5, a6, a7, a8, a9, a10⟩ := u
  subst hA
  unfold wpX_back
  refine wk_bl hl ?_
  refine br_t rfl (wb_pm hu hK hm hs (nI_add 3 l) (fun r u' h => ?_))
  obtain ⟨f1', f2', f3', f4', f5', f6', b1, b2, b3, b4, b5, b6, b7, b8, b9, b10⟩ := u'
  exact H _ _ h
theorem wb_a6 {post : Int32 → St1 → Prop} (hu : pa_S T u K st ms sk) (hK : K < 14) (hm : ms.length < 56) (hs : sk.length < 6)
    (H : ∀ r u', pa_S T u' (K + 1) (st + 2) (ms ++ [(6, st, st + 1)]) (sk ++ [(st, st + 1)]) → post r u') : wpX_at post u (-1) := by
  obtain ⟨f1, f2, f3, f4, f5, f6, a1, a2, a3, a4, a5, a6, a7, a8, a9, a10⟩ := u
  refine br_f (by decide) (br_t (by decide) (br_f (by decide) (wb_pm hu hK hm hs (k := 6) rfl (fun r u' h => ?_))))
  obtain ⟨f1', f2', f3', f4', f5', f6', b1, b2, b3, b4, b5, b6, b7, b8, b9, b10⟩ := u'
  exact H _ _ h
theorem pn_lm1 {n : Nat} (h : n < 2 ^ 31) : ¬ nI n < (-1) := by
  intro z
  exact nI_pos h (Int32.lt_trans z pn_m1)
theorem wb_a7 {post : Int32 → St1 → Prop} {n : Nat} (hu : pa_S T u K st ms sk) (hK : K < 14) (hm : ms.length < 56) (hs : sk.length < 6) (hn : n < 8)
    (H : ∀ r u', pa_S T u' (K + 1) (st + 2) (ms ++ [(7 + n, st, st + 1)]) (sk ++ [(st, st + 1)]) → post r u') : wpX_at post u (nI n) := by
  obtain ⟨f1, f2, f3, f4, f5, f6, a1, a2, a3, a4, a5, a6, a7, a8, a9, a10⟩ := u
  refine br_f (pn_lm1 (by omega)) (br_t (nI_lt (b := 8) hn (by omega)) (br_t (nI_pos' (by omega)) (wb_pm hu hK hm hs (nI_add 7 n) (fun r u' h => ?_))))
  obtain ⟨f1', f2', f3', f4', f5', f6', b1, b2, b3, b4, b5, b6, b7, b8, b9, b10⟩ := u'
  exact H _ _ h
theorem wb_th {post : Int32 → St1 → Prop} {s1 e1 s2 e2 : Nat} (hu : pa_S T u K st ms (pre ++ [(s1, e1), (s2, e2)])) (hK : K < 14) (hm : ms.length < 56) (hs : pre.length + 2 ≤ 6)
    (H : ∀ r u', pa_S T u' (K + 1) st (ms ++ [(6, e1, s2)]) (pre ++ [(s1, e2)]) → post r u') : wpX_then post u := by
  obtain ⟨f1, f2, f3, f4, f5, f6, a1, a2, a3, a4, a5, a6, a7, a8, a9, a10⟩ := u
  obtain ⟨⟨j, hj, rfl⟩, rfl, rfl, h4, hG, g3, g4, g5, g6, g7⟩ := hu
  rw [pl_2] at h4
  subst h4
  have v1 : a6 pre.length = nI s1 := pa_at_0 g6
  have v2 : a6 (pre.length + 1) = nI s2 := pa_at_1 g6
  have v3 : a7 pre.length = nI e1 := pa_at_0 g7
  have v4 : a7 (pre.length + 1) = nI e2 := pa_at_1 g7
  unfold wpX_then
  refine wb_rf (t := 2) (by omega) rfl (by omega) (fun z => absurd z (by omega)) (by omega) ?_
  refine br_t rfl (nm_r (nI_1 j) (nm_r (nI_pred (pre.length + 1)) ?_))
  rw [nI_pred pre.length]
  refine ⟨pk_in pre.length 6 (by omega), pk_in (pre.length + 1) 6 (by omega), ?_⟩
  rw [pn_cl (show pre.length < 2 ^ 31 by omega), pn_cl (show pre.length + 1 < 2 ^ 31 by omega)]
  refine wb_am hm ?_
  refine ⟨pk_in (pre.length + 1) 6 (by omega), ?_⟩
  rw [nI_pred pre.length, pn_cl (show pre.length < 2 ^ 31 by omega), pn_cl (show pre.length + 1 < 2 ^ 31 by omega)]
  refine ⟨pk_in pre.length 6 (by omega), nm_e (H _ _ ?_)⟩
  exact ⟨⟨j + 1, by omega, rfl⟩, rfl, by rw [pl_1], by rw [pl_1], hG, pa_at_push g3 rfl, pa_at_push g4 v3, pa_at_push g5 v2, pa_at_snoc (pa_at_pre g6) v1, pa_at_push (pa_at_pre g7) v4⟩
theorem wb_or {post : Int32 → St1 → Prop} {s1 e1 s2 e2 : Nat} (hu : pa_S T u K st ms (pre ++ [(s1, e1), (s2, e2)])) (hK : K < 14) (hm : ms.length + 4 ≤ 56) (hs : pre.length + 2 ≤ 6)
    (H : ∀ r u', pa_S T u' (K + 1) (st + 2) (ms ++ [(6, st, s1)] ++ [(6, st, s2)] ++ [(6, e1, st + 1)] ++ [(6, e2, st + 1)]) (pre ++ [(st, st + 1)]) → post r u') : wpX_or post u := by
  obtain ⟨f1, f2, f3, f4, f5, f6, a1, a2, a3, a4, a5, a6, a7, a8, a9, a10⟩ := u
  obtain ⟨⟨j, hj, rfl⟩, rfl, rfl, h4, hG, g3, g4, g5, g6, g7⟩ := hu
  rw [pl_2] at h4
  subst h4
  have v1 : a6 pre.length = nI s1 := pa_at_0 g6
  have v2 : a6 (pre.length + 1) = nI s2 := pa_at_1 g6
  have v3 : a7 pre.length = nI e1 := pa_at_0 g7
  have v4 : a7 (pre.length + 1) = nI e2 := pa_at_1 g7
  unfold wpX_or
  refine wb_rf (t := 2) (by omega) rfl (by omega) (fun z => absurd z (by omega)) (by omega) ?_
  refine br_t rfl (nm_r (nI_1 j) (nm_r (nI_pred (pre.length + 1)) ?_))
  rw [nI_pred pre.length]
  refine ⟨pk_in pre.length 6 (by omega), ?_⟩
  rw [pn_cl (show pre.length < 2 ^ 31 by omega)]
  refine wb_am (by omega) ⟨pk_in (pre.length + 1) 6 (by omega), ?_⟩
  rw [pn_cl (show pre.length + 1 < 2 ^ 31 by omega)]
  refine wb_am (by omega) ?_
  dsimp only
  rw [nI_pred pre.length]
  refine ⟨pk_in pre.length 6 (by omega), ?_⟩
  rw [pn_cl (show pre.length < 2 ^ 31 by omega)]
  refine wb_am (by omega) ⟨pk_in (pre.length + 1) 6 (by omega), ?_⟩
  rw [pn_cl (show pre.length + 1 < 2 ^ 31 by omega)]
  refine wb_am (by omega) ?_
  dsimp only
  rw [nI_pred pre.length]
  refine ⟨pk_in pre.length 6 (by omega), ?_⟩
  rw [pn_cl (show pre.length < 2 ^ 31 by omega)]
  refine nm_e ⟨pk_in pre.length 6 (by omega), nm_e (nm_r (nI_add st 2) (H _ _ ?_))⟩
  have l1 := pl_1 ms (6, st, s1)
  have l2 := pl_1 (ms ++ [(6, st, s1)]) (6, st, s2)
  have l3 := pl_1 (ms ++ [(6, st, s1)] ++ [(6, st, s2)]) (6, e1, st + 1)
  have l4 := pl_1 (ms ++ [(6, st, s1)] ++ [(6, st, s2)] ++ [(6, e1, st + 1)]) (6, e2, st + 1)
  rw [l1] at l2
  rw [l2] at l3
  rw [l3] at l4
  have P : ∀ {f : Nat × Nat × Nat → Nat} {b : Nat → Int32} {x1 x2 x3 x4 : Int32}, pa_at f ms b → x1 = nI (f (6, st, s1)) → x2 = nI (f (6, st, s2)) → x3 = nI (f (6, e1, st + 1)) → x4 = nI (f (6, e2, st + 1)) →
      pa_at f (ms ++ [(6, st, s1)] ++ [(6, st, s2)] ++ [(6, e1, st + 1)] ++ [(6, e2, st + 1)]) (upd (upd (upd (upd b ms.length x1) (ms.length + 1) x2) (ms.length + 1 + 1) x3) (ms.length + 1 + 1 + 1) x4) := by
    intro f b x1 x2 x3 x4 h q1 q2 q3 q4
    have p1 := pa_at_push h q1
    have p2 := pa_at_push p1 q2
    rw [l1] at p2
    have p3 := pa_at_push p2 q3
    rw [l2] at p3
    have p4 := pa_at_push p3 q4
    rw [l3] at p4
    exact p4
  exact ⟨⟨j + 1, by omega, rfl⟩, rfl, by rw [l4], by rw [pl_1], hG, P g3 rfl rfl rfl rfl, P g4 rfl rfl v3 v4, P g5 v1 v2 (nI_1 st) (nI_1 st), pa_at_push (pa_at_pre g6) rfl, pa_at_push (pa_at_pre g7) (nI_1 st)⟩
theorem wb_st {post : Int32 → St1 → Prop} {x y : Nat} (hu : pa_S T u K st ms (pre ++ [(x, y)])) (hK : K < 14) (hm : ms.length + 4 ≤ 56) (hs : pre.length + 1 ≤ 6)
    (H : ∀ r u', pa_S T u' (K + 1) (st + 2) (ms ++ [(6, st, x)] ++ [(6, y, st + 1)] ++ [(6, y, x)] ++ [(6, st, st + 1)]) (pre ++ [(st, st + 1)]) → post r u') : wpX_star post u := by
  obtain ⟨f1, f2, f3, f4, f5, f6, a1, a2, a3, a4, a5, a6, a7, a8, a9, a10⟩ := u
  obtain ⟨⟨j, hj, rfl⟩, rfl, rfl, h4, hG, g3, g4, g5, g6, g7⟩ := hu
  rw [pl_1] at h4
  subst h4
  unfold wpX_star
  refine wb_rf (t := 1) (by omega) rfl (by omega) (fun z => absurd z (by omega)) (by omega) ?_
  refine br_t rfl (nm_r (nI_1 j) ?_)
  rw [nI_pred pre.length]
  refine ⟨pk_in pre.length 6 (by omega), ?_⟩
  rw [pn_cl (show pre.length < 2 ^ 31 by omega)]
  refine nm_r (pa_at_0 g6) ⟨pk_in pre.length 6 (by omega), nm_r (pa_at_0 g7) ?_⟩
  refine wb_am (by omega) (wb_am (by omega) (wb_am (by omega) (wb_am (by omega) ?_)))
  dsimp only
  rw [nI_pred pre.length]
  refine ⟨pk_in pre.length 6 (by omega), ?_⟩
  rw [pn_cl (show pre.length < 2 ^ 31 by omega)]
  refine nm_e ⟨pk_in pre.length 6 (by omega), nm_e (nm_r (nI_add st 2) (H _ _ ?_))⟩
  have l1 := pl_1 ms (6, st, x)
  have l2 := pl_1 (ms ++ [(6, st, x)]) (6, y, st + 1)
  have l3 := pl_1 (ms ++ [(6, st, x)] ++ [(6, y, st + 1)]) (6, y, x)
  have l4 := pl_1 (ms ++ [(6, st, x)] ++ [(6, y, st + 1)] ++ [(6, y, x)]) (6, st, st + 1)
  rw [l1] at l2
  rw [l2] at l3
  rw [l3] at l4
  have P : ∀ {f : Nat × Nat × Nat → Nat} {b : Nat → Int32} {x1 x2 x3 x4 : Int32}, pa_at f ms b → x1 = nI (f (6, st, x)) → x2 = nI (f (6, y, st + 1)) → x3 = nI (f (6, y, x)) → x4 = nI (f (6, st, st + 1)) →
      pa_at f (ms ++ [(6, st, x)] ++ [(6, y, st + 1)] ++ [(6, y, x)] ++ [(6, st, st + 1)]) (upd (upd (upd (upd b ms.length x1) (ms.length + 1) x2) (ms.length + 1 + 1) x3) (ms.length + 1 + 1 + 1) x4) := by
    intro f b x1 x2 x3 x4 h q1 q2 q3 q4
    have p1 := pa_at_push h q1
    have p2 := pa_at_push p1 q2
    rw [l1] at p2
    have p3 := pa_at_push p2 q3
    rw [l2] at p3
    have p4 := pa_at_push p3 q4
    rw [l3] at p4
    exact p4
  exact ⟨⟨j + 1, by omega, rfl⟩, rfl, by rw [l4], by rw [pl_1], hG, P g3 rfl rfl rfl rfl, P g4 rfl rfl rfl rfl, P g5 rfl (nI_1 st) rfl (nI_1 st), pa_at_push (pa_at_pre g6) rfl, pa_at_push (pa_at_pre g7) (nI_1 st)⟩
end
end
section
/-! fragments on top of a base, and the law's expression -/
def pa_H (T : Nat → Nat → Nat → Bool) (u : St1) (K st : Nat) (ms : List (Nat × Nat × Nat)) (sk : List (Nat × Nat)) (F : pa_F) : Prop := pa_S T u K (st + F.1) (ms ++ pa_sh st F.2.1) (sk ++ [(F.2.2.1 + st, F.2.2.2 + st)])
theorem pa_H0 {T : Nat → Nat → Nat → Bool} {u : St1} {K : Nat} {F : pa_F} (h : pa_H T u K 0 [] [] F) : pa_S T u K F.1 F.2.1 [(F.2.2.1, F.2.2.2)] := by
  refine pa_S_eq h (Nat.zero_add _) ?_ rfl
  rw [pa_sh0]
  rfl
section
variable {T : Nat → Nat → Nat → Bool} {u : St1} {K st : Nat} {ms : List (Nat × Nat × Nat)} {sk : List (Nat × Nat)} {F G : pa_F}
theorem wb_hs {post : Int32 → St1 → Prop} (hu : pa_H T u K st ms sk F) (hK : K < 14) (hm : ms.length + F.2.1.length + 4 ≤ 56) (hs : sk.length + 1 ≤ 6)
    (H : ∀ r u', pa_H T u' (K + 1) st ms sk (pa_star F) → post r u') : wpX_star post u := by
  refine wb_st hu hK (by rw [List.length_append, pa_sh_len]; exact hm) hs (fun r u' h => H r u' (pa_S_eq h ?_ ?_ ?_))
  · rw [Nat.add_assoc]
    rfl
  · show _ = ms ++ pa_sh st (F.2.1 ++ [(6, F.1, F.2.2.1), (6, F.2.2.2, F.1 + 1), (6, F.2.2.2, F.2.2.1), (6, F.1, F.1 + 1)])
    rw [pa_sh_app]
    show _ = ms ++ (pa_sh st F.2.1 ++ [(6, F.1 + st, F.2.2.1 + st), (6, F.2.2.2 + st, F.1 + 1 + st), (6, F.2.2.2 + st, F.2.2.1 + st), (6, F.1 + st, F.1 + 1 + st)])
    rw [show F.1 + 1 + st = st + F.1 + 1 by omega, show F.1 + st = st + F.1 by omega]
    simp only [List.append_assoc, List.cons_append, List.nil_append]
  · show _ = sk ++ [(F.1 + st, F.1 + 1 + st)]
    rw [show F.1 + 1 + st = st + F.1 + 1 by omega, show F.1 + st = st + F.1 by omega]
theorem wb_ht {post : Int32 → St1 → Prop} (hu : pa_H T u K (st + F.1) (ms ++ pa_sh st F.2.1) (sk ++ [(F.2.2.1 + st, F.2.2.2 + st)]) G) (hK : K < 14) (hm : ms.length + F.2.1.length + G.2.1.length + 1 ≤ 56) (hs : sk.length + 2 ≤ 6)
    (H : ∀ r u', pa_H T u' (K + 1) st ms sk (pa_then F G) → post r u') : wpX_then post u := by
  have hu2 : pa_S T u K (st + F.1 + G.1) (ms ++ pa_sh st F.2.1 ++ pa_sh (st + F.1) G.2.1) (sk ++ [(F.2.2.1 + st, F.2.2.2 + st), (G.2.2.1 + (st + F.1), G.2.2.2 + (st + F.1))]) := pa_S_eq hu rfl rfl (pl_c _ _ _).symm
  refine wb_th hu2 hK (by rw [List.length_append, List.length_append, pa_sh_len, pa_sh_len]; omega) hs (fun r u' h => H r u' (pa_S_eq h ?_ ?_ ?_))
  · rw [Nat.add_assoc]
    rfl
  · show _ = ms ++ pa_sh st (F.2.1 ++ pa_sh F.1 G.2.1 ++ [(6, F.2.2.2, G.2.2.1 + F.1)])
    rw [pa_sh_app, pa_sh_app, pa_shsh]
    show _ = ms ++ (pa_sh st F.2.1 ++ pa_sh (st + F.1) G.2.1 ++ [(6, F.2.2.2 + st, G.2.2.1 + F.1 + st)])
    rw [show G.2.2.1 + F.1 + st = G.2.2.1 + (st + F.1) by omega]
    simp only [List.append_assoc]
  · show _ = sk ++ [(F.2.2.1 + st, G.2.2.2 + F.1 + st)]
    rw [show G.2.2.2 + F.1 + st = G.2.2.2 + (st + F.1) by omega]
theorem wb_ho {post : Int32 → St1 → Prop} (hu : pa_H T u K (st + F.1) (ms ++ pa_sh st F.2.1) (sk ++ [(F.2.2.1 + st, F.2.2.2 + st)]) G) (hK : K < 14) (hm : ms.length + F.2.1.length + G.2.1.length + 4 ≤ 56) (hs : sk.length + 2 ≤ 6)
    (H : ∀ r u', pa_H T u' (K + 1) st ms sk (pa_or F G) → post r u') : wpX_or post u := by
  have hu2 : pa_S T u K (st + F.1 + G.1) (ms ++ pa_sh st F.2.1 ++ pa_sh (st + F.1) G.2.1) (sk ++ [(F.2.2.1 + st, F.2.2.2 + st), (G.2.2.1 + (st + F.1), G.2.2.2 + (st + F.1))]) := pa_S_eq hu rfl rfl (pl_c _ _ _).symm
  refine wb_or hu2 hK (by rw [List.length_append, List.length_append, pa_sh_len, pa_sh_len]; omega) hs (fun r u' h => H r u' (pa_S_eq h ?_ ?_ ?_))
  · show st + F.1 + G.1 + 2 = st + (F.1 + G.1 + 2)
    omega
  · show _ = ms ++ pa_sh st (F.2.1 ++ pa_sh F.1 G.2.1 ++ [(6, F.1 + G.1, F.2.2.1), (6, F.1 + G.1, G.2.2.1 + F.1), (6, F.2.2.2, F.1 + G.1 + 1), (6, G.2.2.2 + F.1, F.1 + G.1 + 1)])
    rw [pa_sh_app, pa_sh_app, pa_shsh]
    show _ = ms ++ (pa_sh st F.2.1 ++ pa_sh (st + F.1) G.2.1 ++ [(6, F.1 + G.1 + st, F.2.2.1 + st), (6, F.1 + G.1 + st, G.2.2.1 + F.1 + st), (6, F.2.2.2 + st, F.1 + G.1 + 1 + st), (6, G.2.2.2 + F.1 + st, F.1 + G.1 + 1 + st)])
    rw [show G.2.2.1 + F.1 + st = G.2.2.1 + (st + F.1) by omega, show G.2.2.2 + F.1 + st = G.2.2.2 + (st + F.1) by omega, show F.1 + G.1 + 1 + st = st + F.1 + G.1 + 1 by omega, show F.1 + G.1 + st = st + F.1 + G.1 by omega]
    simp only [List.append_assoc, List.cons_append, List.nil_append]
  · show _ = sk ++ [(F.1 + G.1 + st, F.1 + G.1 + 1 + st)]
    rw [show F.1 + G.1 + 1 + st = st + F.1 + G.1 + 1 by omega, show F.1 + G.1 + st = st + F.1 + G.1 by omega]
theorem pa_Ha {k : Nat} (h : pa_S T u K (st + 2) (ms ++ [(k, st, st + 1)]) (sk ++ [(st, st + 1)])) : pa_H T u K st ms sk (pa_atom k) := by
  refine pa_S_eq h rfl ?_ ?_
  · show _ = ms ++ [(k, 0 + st, 1 + st)]
    rw [Nat.zero_add, Nat.add_comm 1 st]
  · show _ = sk ++ [(0 + st, 1 + st)]
    rw [Nat.zero_add, Nat.add_comm 1 st]
end
/-- what simple(x) does: one move of a kind that depends on x alone -/
theorem wb_si (x : Int32) : ∃ k, k < 15 ∧ ∀ (T : Nat → Nat → Nat → Bool) (post : Int32 → St1 → Prop) (u : St1) (K st : Nat) (ms : List (Nat × Nat × Nat)) (sk : List (Nat × Nat)), pa_S T u K st ms sk → K < 14 → ms.length < 56 → sk.length < 6 → (∀ r u', pa_H T u' (K + 1) st ms sk (pa_atom k) → post r u') → wpL_simple post u x := by
  have hj : x.toBitVec.toNat % 2 ^ 3 < 8 := Nat.mod_lt _ (by omega)
  generalize ej : x.toBitVec.toNat % 2 ^ 3 = j at hj
  have e1 : x &&& 7 = nI j := by
    rw [← ej]
    exact pk_and x 3 (by decide)
  obtain ⟨l0, hl0, e2⟩ := pk_andE (x >>> ((3 : Int32) &&& 31)) (m := 15) 4 (by decide)
  have hl0' : l0 < 16 := hl0
  have e3 : ((x >>> ((3 : Int32) &&& 31)) &&& 15) - ((x >>> ((3 : Int32) &&& 31)) &&& 15) / 3 * 3 = nI (l0 % 3) := by
    rw [e2, show (3 : Int32) = nI 3 from rfl]
    exact pk_rem (by omega) (by omega) (by omega)
  obtain ⟨n, hn, e4⟩ := pk_andE (x >>> ((7 : Int32) &&& 31)) (m := 7) 3 (by decide)
  have hn' : n < 8 := hn
  have hl3 : l0 % 3 < 3 := Nat.mod_lt _ (by omega)
  by_cases h5 : 5 ≤ j
  · by_cases h55 : j = 5
    · refine ⟨3 + l0 % 3, by omega, ?_⟩
      rintro T post ⟨f1, f2, f3, f4, f5, f6, a1, a2, a3, a4, a5, a6, a7, a8, a9, a10⟩ K st ms sk hu hK hm hs H
      refine nm_r e1 ⟨by decide, nm_r e3 (br_t (nI_le (a := 5) h5 (by omega)) (br_t ((nI_eq (b := 5) (by omega) (by omega)).mpr h55) ?_))⟩
      refine wb_ba hu hK hm hs rfl hl3 (fun r u' h => ?_)
      obtain ⟨f1', f2', f3', f4', f5', f6', b1, b2, b3, b4, b5, b6, b7, b8, b9, b10⟩ := u'
      exact H _ _ (pa_Ha h)
    · by_cases h6 : j = 6
      · refine ⟨6, by omega, ?_⟩
        rintro T post ⟨f1, f2, f3, f4, f5, f6, a1, a2, a3, a4, a5, a6, a7, a8, a9, a10⟩ K st ms sk hu hK hm hs H
        refine nm_r e1 ⟨by decide, nm_r e3 (br_t (nI_le (a := 5) h5 (by omega)) (br_f (fun z => h55 ((nI_eq (b := 5) (by omega) (by omega)).mp z)) (br_t ((nI_eq (b := 6) (by omega) (by omega)).mpr h6) ?_)))⟩
        refine wb_a6 hu hK hm hs (fun r u' h => ?_)
        obtain ⟨f1', f2', f3', f4', f5', f6', b1, b2, b3, b4, b5, b6, b7, b8, b9, b10⟩ := u'
        exact H _ _ (pa_Ha h)
      · refine ⟨7 + n, by omega, ?_⟩
        rintro T post ⟨f1, f2, f3, f4, f5, f6, a1, a2, a3, a4, a5, a6, a7, a8, a9, a10⟩ K st ms sk hu hK hm hs H
        refine nm_r e1 ⟨by decide, nm_r e3 (br_t (nI_le (a := 5) h5 (by omega)) (br_f (fun z => h55 ((nI_eq (b := 5) (by omega) (by omega)).mp z)) (br_f (fun z => h6 ((nI_eq (b := 6) (by omega) (by omega)).mp z)) ?_)))⟩
        rw [e4]
        refine wb_a7 hu hK hm hs hn' (fun r u' h => ?_)
        obtain ⟨f1', f2', f3', f4', f5', f6', b1, b2, b3, b4, b5, b6, b7, b8, b9, b10⟩ := u'
        exact H _ _ (pa_Ha h)
  · refine ⟨l0 % 3, by omega, ?_⟩
    rintro T post ⟨f1, f2, f3, f4, f5, f6, a1, a2, a3, a4, a5, a6, a7, a8, a9, a10⟩ K st ms sk hu hK hm hs H
    refine nm_r e1 ⟨by decide, nm_r e3 (br_f (nI_ge (b := 5) (by omega) (by omega)) ?_)⟩
    refine wb_la hu hK hm hs rfl hl3 (fun r u' h => ?_)
    obtain ⟨f1', f2', f3', f4', f5', f6', b1, b2, b3, b4, b5, b6, b7, b8, b9, b10⟩ := u'
    exact H _ _ (pa_Ha h)
def ex_s (x : Int32) (F : pa_F) : pa_F := if (x &&& 4194304) = 0 then F else pa_star F
/-- what expression(x) does: a fragment that depends on x alone -/
def ex_E (x : Int32) (F : pa_F) : Prop := pa_fw F ∧ F.1 ≤ 8 ∧ F.2.1.length ≤ 10 ∧ ∀ (T : Nat → Nat → Nat → Bool) (post : St1 → Prop) (u : St1) (K st : Nat) (ms : List (Nat × Nat × Nat)) (sk : List (Nat × Nat)), pa_S T u K st ms sk → K + 4 ≤ 14 → ms.length + 10 ≤ 56 → sk.length + 2 ≤ 6 → (∀ u', pa_H T u' (K + 4) st ms sk F → post u') → wpL_expression post u x
section
variable {f1 f2 f3 f4 f5 f6 : Int32} {a1 a2 a3 a4 a5 a6 a7 a8 a9 a10 : Nat → Int32} {T : Nat → Nat → Nat → Bool} {K K' st : Nat} {ms : List (Nat × Nat × Nat)} {sk : List (Nat × Nat)} {F : pa_F}
theorem wb_43 {post : St1 → Prop} {x : Int32} (hu : pa_H T (f1, f2, f3, f4, f5, f6, a1, a2, a3, a4, a5, a6, a7, a8, a9, a10) K st ms sk F) (hK : K < 14) (hK' : K + 1 ≤ K') (hm : ms.length + F.2.1.length + 4 ≤ 56) (hs : sk.length + 1 ≤ 6)
    (H : ∀ u', pa_H T u' K' st ms sk (ex_s x F) → post u') : wL_expression_43 post x f1 f2 f3 f4 f5 f6 a1 a2 a3 a4 a5 a6 a7 a8 a9 a10 := by
  refine br_c (fun h => ?_) (fun h => ?_)
  · refine H _ ?_
    unfold ex_s
    rw [if_pos h]
    exact pa_S_mono hu (by omega)
  · refine wb_hs hu hK hm hs (fun r u' g => ?_)
    obtain ⟨f1', f2', f3', f4', f5', f6', b1, b2, b3, b4, b5, b6, b7, b8, b9, b10⟩ := u'
    refine H _ ?_
    unfold ex_s
    rw [if_neg h]
    exact pa_S_mono g hK'
end
theorem ex_sb (x : Int32) {F : pa_F} (h : pa_fw F) (h1 : F.1 ≤ 6) (h2 : F.2.1.length ≤ 6) : pa_fw (ex_s x F) ∧ (ex_s x F).1 ≤ 8 ∧ (ex_s x F).2.1.length ≤ 10 := by
  unfold ex_s
  by_cases z : (x &&& 4194304) = 0
  · rw [if_pos z]
    exact ⟨h, by omega, by omega⟩
  · rw [if_neg z]
    refine ⟨pa_star_fw h, ?_, ?_⟩
    · show F.1 + 2 ≤ 8
      omega
    · show (F.2.1 ++ _).length ≤ 10
      rw [List.length_append]
      show F.2.1.length + 4 ≤ 10
      omega
theorem wb_ex (x : Int32) : ∃ F, ex_E x F := by
  obtain ⟨k, hk, h1⟩ := wb_si x
  obtain ⟨k', hk', h2⟩ := wb_si (x >>> ((11 : Int32) &&& 31))
  by_cases c1 : (x &&& 1024) = 0
  · have B := ex_sb x (pa_atom_fw hk) (show (2 : Nat) ≤ 6 by omega) (show (1 : Nat) ≤ 6 by omega)
    refine ⟨ex_s x (pa_atom k), B.1, B.2.1, B.2.2, ?_⟩
    rintro T post ⟨f1, f2, f3, f4, f5, f6, a1, a2, a3, a4, a5, a6, a7, a8, a9, a10⟩ K st ms sk hu hK hm hs H
    unfold wpL_expression
    refine h1 T _ _ K st ms sk hu (by omega) (by omega) (by omega) (fun r u' g => ?_)
    obtain ⟨f1', f2', f3', f4', f5', f6', b1, b2, b3, b4, b5, b6, b7, b8, b9, b10⟩ := u'
    refine br_t c1 (wb_43 g (by omega) (by omega) ?_ (by omega) H)
    show ms.length + 1 + 4 ≤ 56
    omega
  · by_cases c2 : (x &&& 2097152) = 0
    · have B := ex_sb x (pa_or_fw (pa_atom_fw hk) (pa_atom_fw hk')) (show (6 : Nat) ≤ 6 by omega) (show (6 : Nat) ≤ 6 by omega)
      refine ⟨ex_s x (pa_or (pa_atom k) (pa_atom k')), B.1, B.2.1, B.2.2, ?_⟩
      rintro T post ⟨f1, f2, f3, f4, f5, f6, a1, a2, a3, a4, a5, a6, a7, a8, a9, a10⟩ K st ms sk hu hK hm hs H
      unfold wpL_expression
      refine h1 T _ _ K st ms sk hu (by omega) (by omega) (by omega) (fun r u' g => ?_)
      obtain ⟨f1', f2', f3', f4', f5', f6', b1, b2, b3, b4, b5, b6, b7, b8, b9, b10⟩ := u'
      refine br_f c1 (h2 T _ _ _ _ _ _ g (by omega) ?_ ?_ (fun r2 u2 g2 => ?_))
      · rw [List.length_append]
        show ms.length + 1 < 56
        omega
      · rw [pl_1]
        omega
      · obtain ⟨f1', f2', f3', f4', f5', f6', b1, b2, b3, b4, b5, b6, b7, b8, b9, b10⟩ := u2
        refine br_t c2 (wb_ho g2 (by omega) (show ms.length + 1 + 1 + 4 ≤ 56 by omega) (by omega) (fun r3 u3 g3 => ?_))
        obtain ⟨f1', f2', f3', f4', f5', f6', b1, b2, b3, b4, b5, b6, b7, b8, b9, b10⟩ := u3
        exact wb_43 g3 (by omega) (by omega) (show ms.length + 6 + 4 ≤ 56 by omega) (by omega) H
    · have B := ex_sb x (pa_then_fw (pa_atom_fw hk) (pa_atom_fw hk')) (show (4 : Nat) ≤ 6 by omega) (show (3 : Nat) ≤ 6 by omega)
      refine ⟨ex_s x (pa_then (pa_atom k) (pa_atom k')), B.1, B.2.1, B.2.2, ?_⟩
      rintro T post ⟨f1, f2, f3, f4, f5, f6, a1, a2, a3, a4, a5, a6, a7, a8, a9, a10⟩ K st ms sk hu hK hm hs H
      unfold wpL_expression
      refine h1 T _ _ K st ms sk hu (by omega) (by omega) (by omega) (fun r u' g => ?_)
      obtain ⟨f1', f2', f3', f4', f5', f6', b1, b2, b3, b4, b5, b6, b7, b8, b9, b10⟩ := u'
      refine br_f c1 (h2 T _ _ _ _ _ _ g (by omega) ?_ ?_ (fun r2 u2 g2 => ?_))
      · rw [List.length_append]
        show ms.length + 1 < 56
        omega
      · rw [pl_1]
        omega
      · obtain ⟨f1', f2', f3', f4', f5', f6', b1, b2, b3, b4, b5, b6, b7, b8, b9, b10⟩ := u2
        refine br_f c2 (wb_ht g2 (by omega) (show ms.length + 1 + 1 + 1 ≤ 56 by omega) (by omega) (fun r3 u3 g3 => ?_))
        obtain ⟨f1', f2', f3', f4', f5', f6', b1, b2, b3, b4, b5, b6, b7, b8, b9, b10⟩ := u3
        exact wb_43 g3 (by omega) (by omega) (show ms.length + 3 + 4 ≤ 56 by omega) (by omega) H
end
section
/-! the law: closed, the loops, the whole (printed by gen10.py) -/
section
variable {T : Nat → Nat → Nat → Bool} {K : Nat} {F G : pa_F}
theorem wl_27 {post : Int32 → St1 → Prop} {J2 : Int32 → Int32 → Int32 → Int32 → Int32 → Int32 → Int32 → (Nat → Int32) → (Nat → Int32) → (Nat → Int32) → (Nat → Int32) → (Nat → Int32) → (Nat → Int32) → (Nat → Int32) → (Nat → Int32) → (Nat → Int32) → (Nat → Int32) → Prop} {r : Int32} {a : Nat} {vc1 vc2 vc3 vc4 vc5 vc6 : Int32} {vc7 vc8 vc9 vc10 vc11 vc12 vc13 vc14 vc15 vc16 : Nat → Int32} (hu : pa_Z T (vc1, vc2, vc3, vc4, vc5, vc6, vc7, vc8, vc9, vc10, vc11, vc12, vc13, vc14, vc15, vc16) K (pa_star F)) (hF : pa_fw F) (hB : pa_B T (pa_star F) a r)
    (H : ∀ (vd1 vd2 vd3 vd4 vd5 vd6 : Int32) (vd7 vd8 vd9 vd10 vd11 vd12 vd13 vd14 vd15 vd16 : Nat → Int32), pa_Z T (vd1, vd2, vd3, vd4, vd5, vd6, vd7, vd8, vd9, vd10, vd11, vd12, vd13, vd14, vd15, vd16) K (pa_star F) → J2 (nI (a + 1)) vd1 vd2 vd3 vd4 vd5 vd6 vd7 vd8 vd9 vd10 vd11 vd12 vd13 vd14 vd15 vd16) : ∃ n, wL_closed_27 post J2 (nI a) r n 0 vc1 vc2 vc3 vc4 vc5 vc6 vc7 vc8 vc9 vc10 vc11 vc12 vc13 vc14 vc15 vc16 := by
  refine pk_loop (σ := St1) (fun n i u => wL_closed_27 post J2 (nI a) r n (nI i) u.1 u.2.1 u.2.2.1 u.2.2.2.1 u.2.2.2.2.1 u.2.2.2.2.2.1 u.2.2.2.2.2.2.1 u.2.2.2.2.2.2.2.1 u.2.2.2.2.2.2.2.2.1 u.2.2.2.2.2.2.2.2.2.1 u.2.2.2.2.2.2.2.2.2.2.1 u.2.2.2.2.2.2.2.2.2.2.2.1 u.2.2.2.2.2.2.2.2.2.2.2.2.1 u.2.2.2.2.2.2.2.2.2.2.2.2.2.1 u.2.2.2.2.2.2.2.2.2.2.2.2.2.2.1 u.2.2.2.2.2.2.2.2.2.2.2.2.2.2.2) (fun _ u => pa_Z T u K (pa_star F)) 8 0 (vc1, vc2, vc3, vc4, vc5, vc6, vc7, vc8, vc9, vc10, vc11, vc12, vc13, vc14, vc15, vc16) (by omega) hu ?_ ?_
  · rintro n ⟨vd1, vd2, vd3, vd4, vd5, vd6, vd7, vd8, vd9, vd10, vd11, vd12, vd13, vd14, vd15, vd16⟩ h
    exact pk_le 8 8 (fun _ => nm_r (nI_1 a) (H vd1 vd2 vd3 vd4 vd5 vd6 vd7 vd8 vd9 vd10 vd11 vd12 vd13 vd14 vd15 vd16 h)) (fun z => absurd z (by omega))
  · rintro n i ⟨vd1, vd2, vd3, vd4, vd5, vd6, vd7, vd8, vd9, vd10, vd11, vd12, vd13, vd14, vd15, vd16⟩ hi h hwn
    refine pk_le 8 i (fun z => absurd z (by omega)) (fun _ => ek_if (pb_bit r (show i < 32 by omega)) (fun hb => wk_re h hi (fun r2 u2 h2 hB2 => ?_)) (fun _ => nm_r (nI_1 i) (hwn (vd1, vd2, vd3, vd4, vd5, vd6, vd7, vd8, vd9, vd10, vd11, vd12, vd13, vd14, vd15, vd16) h)))
    obtain ⟨ve1, ve2, ve3, ve4, ve5, ve6, ve7, ve8, ve9, ve10, ve11, ve12, ve13, ve14, ve15, ve16⟩ := u2
    refine br_t (pb_sub r2 r (fun j hj g => ?_)) (nm_r (nI_1 i) (hwn (ve1, ve2, ve3, ve4, ve5, ve6, ve7, ve8, ve9, ve10, ve11, ve12, ve13, ve14, ve15, ve16) h2))
    rw [hB j hj]
    obtain ⟨k1, k2⟩ := (hB2 j hj).mp g
    exact ⟨k1, pa_star_trans hF ((hB i (by omega)).mp hb).2 k2⟩
theorem wl_cl {post : Int32 → St1 → Prop} {u : St1} (hu : pa_Z T u K (pa_star F)) (hF : pa_fw F) (H : ∀ u', post 1 u') : wpL_closed post u := by
  obtain ⟨vc1, vc2, vc3, vc4, vc5, vc6, vc7, vc8, vc9, vc10, vc11, vc12, vc13, vc14, vc15, vc16⟩ := u
  refine pk_loop (σ := St1) (fun n i u => wL_closed_2 post n (nI i) u.1 u.2.1 u.2.2.1 u.2.2.2.1 u.2.2.2.2.1 u.2.2.2.2.2.1 u.2.2.2.2.2.2.1 u.2.2.2.2.2.2.2.1 u.2.2.2.2.2.2.2.2.1 u.2.2.2.2.2.2.2.2.2.1 u.2.2.2.2.2.2.2.2.2.2.1 u.2.2.2.2.2.2.2.2.2.2.2.1 u.2.2.2.2.2.2.2.2.2.2.2.2.1 u.2.2.2.2.2.2.2.2.2.2.2.2.2.1 u.2.2.2.2.2.2.2.2.2.2.2.2.2.2.1 u.2.2.2.2.2.2.2.2.2.2.2.2.2.2.2) (fun _ u => pa_Z T u K (pa_star F)) 8 0 (vc1, vc2, vc3, vc4, vc5, vc6, vc7, vc8, vc9, vc10, vc11, vc12, vc13, vc14, vc15, vc16) (by omega) hu ?_ ?_
  · rintro n ⟨vd1, vd2, vd3, vd4, vd5, vd6, vd7, vd8, vd9, vd10, vd11, vd12, vd13, vd14, vd15, vd16⟩ h
    exact pk_le 8 8 (fun _ => H _) (fun z => absurd z (by omega))
  · rintro n i ⟨vd1, vd2, vd3, vd4, vd5, vd6, vd7, vd8, vd9, vd10, vd11, vd12, vd13, vd14, vd15, vd16⟩ hi h hwn
    refine pk_le 8 i (fun z => absurd z (by omega)) (fun _ => wk_re h hi (fun r u2 h2 hB => ?_))
    obtain ⟨ve1, ve2, ve3, ve4, ve5, ve6, ve7, ve8, ve9, ve10, ve11, ve12, ve13, ve14, ve15, ve16⟩ := u2
    refine wk_sh h2 hi hi (fun r3 u3 h3 hV => ?_)
    obtain ⟨vg1, vg2, vg3, vg4, vg5, vg6, vg7, vg8, vg9, vg10, vg11, vg12, vg13, vg14, vg15, vg16⟩ := u3
    have h0 : r3 = 0 := by
      rcases hV with ⟨_, z⟩ | ⟨d, _, z1, _, z2⟩
      · exact absurd (pa_star_refl F i) (z 0)
      · have z3 := z2 0 (pa_star_refl F i)
        have z4 : d = 0 := by omega
        rw [z1, z4]
        rfl
    exact br_t h0 (wl_27 h3 hF hB (fun vd1 vd2 vd3 vd4 vd5 vd6 vd7 vd8 vd9 vd10 vd11 vd12 vd13 vd14 vd15 vd16 h4 => hwn (vd1, vd2, vd3, vd4, vd5, vd6, vd7, vd8, vd9, vd10, vd11, vd12, vd13, vd14, vd15, vd16) h4))
theorem wb_zs {post : Int32 → St1 → Prop} {u : St1} (hu : pa_Z T u K F) (hK : K < 14) (h1 : F.1 + 2 ≤ 28) (h2 : F.2.1.length + 4 ≤ 56) (H : ∀ r u', pa_Z T u' (K + 1) (pa_star F) → post r u') : wpX_star post u := by
  refine wb_st (pre := []) hu.1 hK h2 (by decide) (fun r u' h => H r u' ⟨pa_S_eq h rfl ?_ rfl, pa_star_fw hu.2.1, h1, ?_⟩)
  · show _ = F.2.1 ++ [(6, F.1, F.2.2.1), (6, F.2.2.2, F.1 + 1), (6, F.2.2.2, F.2.2.1), (6, F.1, F.1 + 1)]
    simp only [List.append_assoc, List.cons_append, List.nil_append]
  · show (F.2.1 ++ _).length ≤ 56
    rw [List.length_append]
    exact h2
theorem wl_zu {u : St1} (h : pa_H T u K 0 [] [] F) (h0 : pa_fw F) (h1 : F.1 ≤ 28) (h2 : F.2.1.length ≤ 56) : pa_Z T u K F := ⟨pa_H0 h, h0, h1, h2⟩
def wl_A (T : Nat → Nat → Nat → Bool) (u : St1) : Prop := ∃ K st ms sk, pa_S T u K st ms sk
theorem wl_az {u : St1} (h : pa_Z T u K F) : wl_A T u := ⟨_, _, _, _, h.1⟩
theorem wl_aor (hF : pa_fw F) (hG : pa_fw G) {a : Nat} {r1 r2 r3 : Int32} (h1 : pa_B T F a r1) (h2 : pa_B T G a r2) (h3 : pa_B T (pa_or F G) a r3) : r3 = (r1 ||| r2) := by
  apply pb_ext
  intro j hj
  rw [pb_or]
  apply Bool.eq_iff_iff.mpr
  rw [Bool.or_eq_true, h1 j hj, h2 j hj, h3 j hj, pa_or_law hF hG]
  constructor
  · rintro ⟨z, z1 | z1⟩
    · exact Or.inl ⟨z, z1⟩
    · exact Or.inr ⟨z, z1⟩
  · rintro (⟨z, z1⟩ | ⟨z, z1⟩)
    · exact ⟨z, Or.inl z1⟩
    · exact ⟨z, Or.inr z1⟩
theorem wl_orb {x3 x4 : Int32} (hF : ex_E x3 F) (hG : ex_E x4 G) : pa_fw (pa_or F G) ∧ (pa_or F G).1 ≤ 18 ∧ (pa_or F G).2.1.length ≤ 24 := by
  obtain ⟨w, h1, h2, _⟩ := hF
  obtain ⟨w', h1', h2', _⟩ := hG
  refine ⟨pa_or_fw w w', ?_, ?_⟩
  · show F.1 + G.1 + 2 ≤ 18
    omega
  · show (F.2.1 ++ pa_sh F.1 G.2.1 ++ _).length ≤ 24
    rw [List.length_append, List.length_append, pa_sh_len]
    show F.2.1.length + G.2.1.length + 4 ≤ 24
    omega
theorem wl_thb {x3 x4 : Int32} (hF : ex_E x3 F) (hG : ex_E x4 G) : pa_fw (pa_then F G) ∧ (pa_then F G).1 ≤ 16 ∧ (pa_then F G).2.1.length ≤ 21 := by
  obtain ⟨w, h1, h2, _⟩ := hF
  obtain ⟨w', h1', h2', _⟩ := hG
  refine ⟨pa_then_fw w w', ?_, ?_⟩
  · show F.1 + G.1 ≤ 16
    omega
  · show (F.2.1 ++ pa_sh F.1 G.2.1 ++ _).length ≤ 21
    rw [List.length_append, List.length_append, pa_sh_len]
    show F.2.1.length + G.2.1.length + 1 ≤ 21
    omega
end
section
variable {T : Nat → Nat → Nat → Bool} {F G : pa_F} {post : Int32 → Prop} {L : Nat} {xs : Nat → Int32} {x3 x4 : Int32} {kc ks : Nat}
theorem wl_306 {vc1 vc2 vc3 vc4 vc5 vc6 : Int32} {vc7 vc8 vc9 vc10 vc11 vc12 vc13 vc14 vc15 vc16 : Nat → Int32} {vx1 vx2 vx3 vx4 vx5 vx6 : Int32} {vx7 vx8 vx9 vx10 vx11 vx12 vx13 vx14 vx15 vx16 : Nat → Int32} (hF : ex_E x3 F) (hG : ex_E x4 G) (hc : pa_Z T (vc1, vc2, vc3, vc4, vc5, vc6, vc7, vc8, vc9, vc10, vc11, vc12, vc13, vc14, vc15, vc16) 9 (pa_or F G)) (hx : wl_A T (vx1, vx2, vx3, vx4, vx5, vx6, vx7, vx8, vx9, vx10, vx11, vx12, vx13, vx14, vx15, vx16)) (H : post 1) :
    ∃ n, wL_law_306 post L xs x3 x4 kc ks n 0 vc1 vc2 vc3 vc4 vc5 vc6 vc7 vc8 vc9 vc10 vc11 vc12 vc13 vc14 vc15 vc16 vx1 vx2 vx3 vx4 vx5 vx6 vx7 vx8 vx9 vx10 vx11 vx12 vx13 vx14 vx15 vx16 := by
  refine pk_loop (σ := St1 × St1) (fun n i s => wL_law_306 post L xs x3 x4 kc ks n (nI i) s.1.1 s.1.2.1 s.1.2.2.1 s.1.2.2.2.1 s.1.2.2.2.2.1 s.1.2.2.2.2.2.1 s.1.2.2.2.2.2.2.1 s.1.2.2.2.2.2.2.2.1 s.1.2.2.2.2.2.2.2.2.1 s.1.2.2.2.2.2.2.2.2.2.1 s.1.2.2.2.2.2.2.2.2.2.2.1 s.1.2.2.2.2.2.2.2.2.2.2.2.1 s.1.2.2.2.2.2.2.2.2.2.2.2.2.1 s.1.2.2.2.2.2.2.2.2.2.2.2.2.2.1 s.1.2.2.2.2.2.2.2.2.2.2.2.2.2.2.1 s.1.2.2.2.2.2.2.2.2.2.2.2.2.2.2.2 s.2.1 s.2.2.1 s.2.2.2.1 s.2.2.2.2.1 s.2.2.2.2.2.1 s.2.2.2.2.2.2.1 s.2.2.2.2.2.2.2.1 s.2.2.2.2.2.2.2.2.1 s.2.2.2.2.2.2.2.2.2.1 s.2.2.2.2.2.2.2.2.2.2.1 s.2.2.2.2.2.2.2.2.2.2.2.1 s.2.2.2.2.2.2.2.2.2.2.2.2.1 s.2.2.2.2.2.2.2.2.2.2.2.2.2.1 s.2.2.2.2.2.2.2.2.2.2.2.2.2.2.1 s.2.2.2.2.2.2.2.2.2.2.2.2.2.2.2.1 s.2.2.2.2.2.2.2.2.2.2.2.2.2.2.2.2) (fun i s => pa_Z T s.1 9 (pa_or F G) ∧ (0 < i → pa_Z T s.2 4 G) ∧ wl_A T s.2) 8 0 ((vc1, vc2, vc3, vc4, vc5, vc6, vc7, vc8, vc9, vc10, vc11, vc12, vc13, vc14, vc15, vc16), (vx1, vx2, vx3, vx4, vx5, vx6, vx7, vx8, vx9, vx10, vx11, vx12, vx13, vx14, vx15, vx16)) (by omega) ⟨hc, fun z => absurd z (by omega), hx⟩ ?_ ?_
  · rintro n ⟨⟨vd1, vd2, vd3, vd4, vd5, vd6, vd7, vd8, vd9, vd10, vd11, vd12, vd13, vd14, vd15, vd16⟩, ⟨ve1, ve2, ve3, ve4, ve5, ve6, ve7, ve8, ve9, ve10, ve11, ve12, ve13, ve14, ve15, ve16⟩⟩ ⟨h1, h2, _⟩
    dsimp only at h1 h2
    have B := wl_orb hF hG
    have h2' := h2 (by omega)
    have b1 := hG.2.1
    have b2 := hG.2.2.1
    refine pk_le 8 8 (fun _ => ?_) (fun z => absurd z (by omega))
    refine wb_zs h1 (by omega) (by omega) (by omega) (fun r u3 h3 => ?_)
    obtain ⟨vg1, vg2, vg3, vg4, vg5, vg6, vg7, vg8, vg9, vg10, vg11, vg12, vg13, vg14, vg15, vg16⟩ := u3
    refine wb_zs h2' (by omega) (by omega) (by omega) (fun r u4 h4 => ?_)
    obtain ⟨vh1, vh2, vh3, vh4, vh5, vh6, vh7, vh8, vh9, vh10, vh11, vh12, vh13, vh14, vh15, vh16⟩ := u4
    refine wl_cl h3 B.1 (fun u5 => ?_)
    obtain ⟨vk1, vk2, vk3, vk4, vk5, vk6, vk7, vk8, vk9, vk10, vk11, vk12, vk13, vk14, vk15, vk16⟩ := u5
    refine br_f (by decide) (wl_cl h4 hG.1 (fun u6 => ?_))
    obtain ⟨vm1, vm2, vm3, vm4, vm5, vm6, vm7, vm8, vm9, vm10, vm11, vm12, vm13, vm14, vm15, vm16⟩ := u6
    exact br_f (by decide) H
  · rintro n i ⟨⟨vd1, vd2, vd3, vd4, vd5, vd6, vd7, vd8, vd9, vd10, vd11, vd12, vd13, vd14, vd15, vd16⟩, ⟨ve1, ve2, ve3, ve4, ve5, ve6, ve7, ve8, ve9, ve10, ve11, ve12, ve13, ve14, ve15, ve16⟩⟩ hi ⟨h1, _, K', st, ms, sk, h3⟩ hwn
    dsimp only at h1 h3
    have b1 := hF.2.1
    have b2 := hF.2.2.1
    have b3 := hG.2.1
    have b4 := hG.2.2.1
    refine pk_le 8 i (fun z => absurd z (by omega)) (fun _ => ?_)
    refine wb_cl h3 (fun u4 h4 => ?_)
    obtain ⟨vg1, vg2, vg3, vg4, vg5, vg6, vg7, vg8, vg9, vg10, vg11, vg12, vg13, vg14, vg15, vg16⟩ := u4
    refine hF.2.2.2 T _ _ 0 0 [] [] h4 (by decide) (by decide) (by decide) (fun u5 h5 => ?_)
    obtain ⟨vh1, vh2, vh3, vh4, vh5, vh6, vh7, vh8, vh9, vh10, vh11, vh12, vh13, vh14, vh15, vh16⟩ := u5
    refine wk_re (wl_zu h5 hF.1 (by omega) (by omega)) hi (fun r1 u6 h6 B1 => ?_)
    obtain ⟨vk1, vk2, vk3, vk4, vk5, vk6, vk7, vk8, vk9, vk10, vk11, vk12, vk13, vk14, vk15, vk16⟩ := u6
    refine wb_cl h6.1 (fun u7 h7 => ?_)
    obtain ⟨vm1, vm2, vm3, vm4, vm5, vm6, vm7, vm8, vm9, vm10, vm11, vm12, vm13, vm14, vm15, vm16⟩ := u7
    refine hG.2.2.2 T _ _ 0 0 [] [] h7 (by decide) (by decide) (by decide) (fun u8 h8 => ?_)
    obtain ⟨vo1, vo2, vo3, vo4, vo5, vo6, vo7, vo8, vo9, vo10, vo11, vo12, vo13, vo14, vo15, vo16⟩ := u8
    refine wk_re (wl_zu h8 hG.1 (by omega) (by omega)) hi (fun r2 u9 h9 B2 => ?_)
    obtain ⟨vq1, vq2, vq3, vq4, vq5, vq6, vq7, vq8, vq9, vq10, vq11, vq12, vq13, vq14, vq15, vq16⟩ := u9
    refine wk_re h1 hi (fun r3 u10 h10 B3 => ?_)
    obtain ⟨vr1, vr2, vr3, vr4, vr5, vr6, vr7, vr8, vr9, vr10, vr11, vr12, vr13, vr14, vr15, vr16⟩ := u10
    exact br_t (wl_aor hF.1 hG.1 B1 B2 B3) (nm_r (nI_1 i) (hwn ((vr1, vr2, vr3, vr4, vr5, vr6, vr7, vr8, vr9, vr10, vr11, vr12, vr13, vr14, vr15, vr16), (vq1, vq2, vq3, vq4, vq5, vq6, vq7, vq8, vq9, vq10, vq11, vq12, vq13, vq14, vq15, vq16)) ⟨h10, fun _ => h9, wl_az h9⟩))
theorem wl_205 {J148 J158 : Int32 → Int32 → Int32 → Int32 → Int32 → Int32 → Int32 → (Nat → Int32) → (Nat → Int32) → (Nat → Int32) → (Nat → Int32) → (Nat → Int32) → (Nat → Int32) → (Nat → Int32) → (Nat → Int32) → (Nat → Int32) → (Nat → Int32) → Int32 → Int32 → Int32 → Int32 → Int32 → Int32 → (Nat → Int32) → (Nat → Int32) → (Nat → Int32) → (Nat → Int32) → (Nat → Int32) → (Nat → Int32) → (Nat → Int32) → (Nat → Int32) → (Nat → Int32) → (Nat → Int32) → Prop} {x8 x9 : Int32} {a m : Nat} {vc1 vc2 vc3 vc4 vc5 vc6 : Int32} {vc7 vc8 vc9 vc10 vc11 vc12 vc13 vc14 vc15 vc16 : Nat → Int32} {vx1 vx2 vx3 vx4 vx5 vx6 : Int32} {vx7 vx8 vx9 vx10 vx11 vx12 vx13 vx14 vx15 vx16 : Nat → Int32} (ha : a < 8) (hm : m < 8) (hc : pa_Z T (vc1, vc2, vc3, vc4, vc5, vc6, vc7, vc8, vc9, vc10, vc11, vc12, vc13, vc14, vc15, vc16) 9 (pa_then F G)) (hx : pa_Z T (vx1, vx2, vx3, vx4, vx5, vx6, vx7, vx8, vx9, vx10, vx11, vx12, vx13, vx14, vx15, vx16) 4 G) (hV : pa_V T F a m x8) (hB : pa_B T G m x9)
    (H : ∀ (vd1 vd2 vd3 vd4 vd5 vd6 : Int32) (vd7 vd8 vd9 vd10 vd11 vd12 vd13 vd14 vd15 vd16 : Nat → Int32) (ve1 ve2 ve3 ve4 ve5 ve6 : Int32) (ve7 ve8 ve9 ve10 ve11 ve12 ve13 ve14 ve15 ve16 : Nat → Int32), pa_Z T (vd1, vd2, vd3, vd4, vd5, vd6, vd7, vd8, vd9, vd10, vd11, vd12, vd13, vd14, vd15, vd16) 9 (pa_then F G) → pa_Z T (ve1, ve2, ve3, ve4, ve5, ve6, ve7, ve8, ve9, ve10, ve11, ve12, ve13, ve14, ve15, ve16) 4 G → J158 (nI (a + 1)) vd1 vd2 vd3 vd4 vd5 vd6 vd7 vd8 vd9 vd10 vd11 vd12 vd13 vd14 vd15 vd16 ve1 ve2 ve3 ve4 ve5 ve6 ve7 ve8 ve9 ve10 ve11 ve12 ve13 ve14 ve15 ve16) :
    ∃ n, wL_law_205 post L xs J148 J158 x3 x4 (nI m) (nI a) x8 x9 kc ks n 0 vc1 vc2 vc3 vc4 vc5 vc6 vc7 vc8 vc9 vc10 vc11 vc12 vc13 vc14 vc15 vc16 vx1 vx2 vx3 vx4 vx5 vx6 vx7 vx8 vx9 vx10 vx11 vx12 vx13 vx14 vx15 vx16 := by
  refine pk_loop (σ := St1 × St1) (fun n i s => wL_law_205 post L xs J148 J158 x3 x4 (nI m) (nI a) x8 x9 kc ks n (nI i) s.1.1 s.1.2.1 s.1.2.2.1 s.1.2.2.2.1 s.1.2.2.2.2.1 s.1.2.2.2.2.2.1 s.1.2.2.2.2.2.2.1 s.1.2.2.2.2.2.2.2.1 s.1.2.2.2.2.2.2.2.2.1 s.1.2.2.2.2.2.2.2.2.2.1 s.1.2.2.2.2.2.2.2.2.2.2.1 s.1.2.2.2.2.2.2.2.2.2.2.2.1 s.1.2.2.2.2.2.2.2.2.2.2.2.2.1 s.1.2.2.2.2.2.2.2.2.2.2.2.2.2.1 s.1.2.2.2.2.2.2.2.2.2.2.2.2.2.2.1 s.1.2.2.2.2.2.2.2.2.2.2.2.2.2.2.2 s.2.1 s.2.2.1 s.2.2.2.1 s.2.2.2.2.1 s.2.2.2.2.2.1 s.2.2.2.2.2.2.1 s.2.2.2.2.2.2.2.1 s.2.2.2.2.2.2.2.2.1 s.2.2.2.2.2.2.2.2.2.1 s.2.2.2.2.2.2.2.2.2.2.1 s.2.2.2.2.2.2.2.2.2.2.2.1 s.2.2.2.2.2.2.2.2.2.2.2.2.1 s.2.2.2.2.2.2.2.2.2.2.2.2.2.1 s.2.2.2.2.2.2.2.2.2.2.2.2.2.2.1 s.2.2.2.2.2.2.2.2.2.2.2.2.2.2.2.1 s.2.2.2.2.2.2.2.2.2.2.2.2.2.2.2.2) (fun _ s => pa_Z T s.1 9 (pa_then F G) ∧ pa_Z T s.2 4 G) 8 0 ((vc1, vc2, vc3, vc4, vc5, vc6, vc7, vc8, vc9, vc10, vc11, vc12, vc13, vc14, vc15, vc16), (vx1, vx2, vx3, vx4, vx5, vx6, vx7, vx8, vx9, vx10, vx11, vx12, vx13, vx14, vx15, vx16)) (by omega) ⟨hc, hx⟩ ?_ ?_
  · rintro n ⟨⟨vd1, vd2, vd3, vd4, vd5, vd6, vd7, vd8, vd9, vd10, vd11, vd12, vd13, vd14, vd15, vd16⟩, ⟨ve1, ve2, ve3, ve4, ve5, ve6, ve7, ve8, ve9, ve10, ve11, ve12, ve13, ve14, ve15, ve16⟩⟩ ⟨h1, h2⟩
    exact pk_le 8 8 (fun _ => nm_r (nI_1 a) (H vd1 vd2 vd3 vd4 vd5 vd6 vd7 vd8 vd9 vd10 vd11 vd12 vd13 vd14 vd15 vd16 ve1 ve2 ve3 ve4 ve5 ve6 ve7 ve8 ve9 ve10 ve11 ve12 ve13 ve14 ve15 ve16 h1 h2)) (fun z => absurd z (by omega))
  · rintro n i ⟨⟨vd1, vd2, vd3, vd4, vd5, vd6, vd7, vd8, vd9, vd10, vd11, vd12, vd13, vd14, vd15, vd16⟩, ⟨ve1, ve2, ve3, ve4, ve5, ve6, ve7, ve8, ve9, ve10, ve11, ve12, ve13, ve14, ve15, ve16⟩⟩ hi ⟨h1, h2⟩ hwn
    dsimp only at h1 h2
    refine pk_le 8 i (fun z => absurd z (by omega)) (fun _ => ?_)
    refine br_c (fun _ => nm_r (nI_1 i) (hwn ((vd1, vd2, vd3, vd4, vd5, vd6, vd7, vd8, vd9, vd10, vd11, vd12, vd13, vd14, vd15, vd16), (ve1, ve2, ve3, ve4, ve5, ve6, ve7, ve8, ve9, ve10, ve11, ve12, ve13, ve14, ve15, ve16)) ⟨h1, h2⟩)) (fun h8 => ?_)
    refine ek_if (pb_bit x9 (show i < 32 by omega)) (fun hb => ?_) (fun _ => nm_r (nI_1 i) (hwn ((vd1, vd2, vd3, vd4, vd5, vd6, vd7, vd8, vd9, vd10, vd11, vd12, vd13, vd14, vd15, vd16), (ve1, ve2, ve3, ve4, ve5, ve6, ve7, ve8, ve9, ve10, ve11, ve12, ve13, ve14, ve15, ve16)) ⟨h1, h2⟩))
    refine wk_sh h2 hm hi (fun r1 u3 h3 V1 => ?_)
    obtain ⟨vg1, vg2, vg3, vg4, vg5, vg6, vg7, vg8, vg9, vg10, vg11, vg12, vg13, vg14, vg15, vg16⟩ := u3
    refine nm_e (wk_sh h1 ha hi (fun r2 u4 h4 V2 => ?_))
    obtain ⟨vh1, vh2, vh3, vh4, vh5, vh6, vh7, vh8, vh9, vh10, vh11, vh12, vh13, vh14, vh15, vh16⟩ := u4
    obtain ⟨dd, hdd⟩ := ((hB i (by omega)).mp hb).2
    rcases hV with ⟨z, _⟩ | ⟨d1, y1, y2, y3, _⟩
    · rw [z] at h8
      exact absurd (by decide) h8
    · rcases V1 with ⟨_, z⟩ | ⟨d2, z1, z2, z3, _⟩
      · exact absurd hdd (z dd)
      · have P := pa_then_law y3 z3
        rcases V2 with ⟨_, w⟩ | ⟨d3, w1, w2, w3, w4⟩
        · exact absurd P (w _)
        · have w5 := w4 _ P
          refine br_f (by rw [w2]; exact nI_pos (by omega)) (br_t ?_ (nm_r (nI_1 i) (hwn ((vh1, vh2, vh3, vh4, vh5, vh6, vh7, vh8, vh9, vh10, vh11, vh12, vh13, vh14, vh15, vh16), (vg1, vg2, vg3, vg4, vg5, vg6, vg7, vg8, vg9, vg10, vg11, vg12, vg13, vg14, vg15, vg16)) ⟨h4, h3⟩)))
          rw [w2, y2, z2, nI_add]
          exact nI_le w5 (by omega)
theorem wl_158 {J148 : Int32 → Int32 → Int32 → Int32 → Int32 → Int32 → Int32 → (Nat → Int32) → (Nat → Int32) → (Nat → Int32) → (Nat → Int32) → (Nat → Int32) → (Nat → Int32) → (Nat → Int32) → (Nat → Int32) → (Nat → Int32) → (Nat → Int32) → Int32 → Int32 → Int32 → Int32 → Int32 → Int32 → (Nat → Int32) → (Nat → Int32) → (Nat → Int32) → (Nat → Int32) → (Nat → Int32) → (Nat → Int32) → (Nat → Int32) → (Nat → Int32) → (Nat → Int32) → (Nat → Int32) → Prop} {m : Nat} {vc1 vc2 vc3 vc4 vc5 vc6 : Int32} {vc7 vc8 vc9 vc10 vc11 vc12 vc13 vc14 vc15 vc16 : Nat → Int32} {vx1 vx2 vx3 vx4 vx5 vx6 : Int32} {vx7 vx8 vx9 vx10 vx11 vx12 vx13 vx14 vx15 vx16 : Nat → Int32} (hF : ex_E x3 F) (hG : ex_E x4 G) (hm : m < 8) (hc : pa_Z T (vc1, vc2, vc3, vc4, vc5, vc6, vc7, vc8, vc9, vc10, vc11, vc12, vc13, vc14, vc15, vc16) 9 (pa_then F G)) (hx : wl_A T (vx1, vx2, vx3, vx4, vx5, vx6, vx7, vx8, vx9, vx10, vx11, vx12, vx13, vx14, vx15, vx16))
    (H : ∀ (vd1 vd2 vd3 vd4 vd5 vd6 : Int32) (vd7 vd8 vd9 vd10 vd11 vd12 vd13 vd14 vd15 vd16 : Nat → Int32) (ve1 ve2 ve3 ve4 ve5 ve6 : Int32) (ve7 ve8 ve9 ve10 ve11 ve12 ve13 ve14 ve15 ve16 : Nat → Int32), pa_Z T (vd1, vd2, vd3, vd4, vd5, vd6, vd7, vd8, vd9, vd10, vd11, vd12, vd13, vd14, vd15, vd16) 9 (pa_then F G) → wl_A T (ve1, ve2, ve3, ve4, ve5, ve6, ve7, ve8, ve9, ve10, ve11, ve12, ve13, ve14, ve15, ve16) → J148 (nI (m + 1)) vd1 vd2 vd3 vd4 vd5 vd6 vd7 vd8 vd9 vd10 vd11 vd12 vd13 vd14 vd15 vd16 ve1 ve2 ve3 ve4 ve5 ve6 ve7 ve8 ve9 ve10 ve11 ve12 ve13 ve14 ve15 ve16) :
    ∃ n, wL_law_158 post L xs J148 x3 x4 (nI m) kc ks n 0 vc1 vc2 vc3 vc4 vc5 vc6 vc7 vc8 vc9 vc10 vc11 vc12 vc13 vc14 vc15 vc16 vx1 vx2 vx3 vx4 vx5 vx6 vx7 vx8 vx9 vx10 vx11 vx12 vx13 vx14 vx15 vx16 := by
  refine pk_loop (σ := St1 × St1) (fun n i s => wL_law_158 post L xs J148 x3 x4 (nI m) kc ks n (nI i) s.1.1 s.1.2.1 s.1.2.2.1 s.1.2.2.2.1 s.1.2.2.2.2.1 s.1.2.2.2.2.2.1 s.1.2.2.2.2.2.2.1 s.1.2.2.2.2.2.2.2.1 s.1.2.2.2.2.2.2.2.2.1 s.1.2.2.2.2.2.2.2.2.2.1 s.1.2.2.2.2.2.2.2.2.2.2.1 s.1.2.2.2.2.2.2.2.2.2.2.2.1 s.1.2.2.2.2.2.2.2.2.2.2.2.2.1 s.1.2.2.2.2.2.2.2.2.2.2.2.2.2.1 s.1.2.2.2.2.2.2.2.2.2.2.2.2.2.2.1 s.1.2.2.2.2.2.2.2.2.2.2.2.2.2.2.2 s.2.1 s.2.2.1 s.2.2.2.1 s.2.2.2.2.1 s.2.2.2.2.2.1 s.2.2.2.2.2.2.1 s.2.2.2.2.2.2.2.1 s.2.2.2.2.2.2.2.2.1 s.2.2.2.2.2.2.2.2.2.1 s.2.2.2.2.2.2.2.2.2.2.1 s.2.2.2.2.2.2.2.2.2.2.2.1 s.2.2.2.2.2.2.2.2.2.2.2.2.1 s.2.2.2.2.2.2.2.2.2.2.2.2.2.1 s.2.2.2.2.2.2.2.2.2.2.2.2.2.2.1 s.2.2.2.2.2.2.2.2.2.2.2.2.2.2.2.1 s.2.2.2.2.2.2.2.2.2.2.2.2.2.2.2.2) (fun _ s => pa_Z T s.1 9 (pa_then F G) ∧ wl_A T s.2) 8 0 ((vc1, vc2, vc3, vc4, vc5, vc6, vc7, vc8, vc9, vc10, vc11, vc12, vc13, vc14, vc15, vc16), (vx1, vx2, vx3, vx4, vx5, vx6, vx7, vx8, vx9, vx10, vx11, vx12, vx13, vx14, vx15, vx16)) (by omega) ⟨hc, hx⟩ ?_ ?_
  · rintro n ⟨⟨vd1, vd2, vd3, vd4, vd5, vd6, vd7, vd8, vd9, vd10, vd11, vd12, vd13, vd14, vd15, vd16⟩, ⟨ve1, ve2, ve3, ve4, ve5, ve6, ve7, ve8, ve9, ve10, ve11, ve12, ve13, ve14, ve15, ve16⟩⟩ ⟨h1, h2⟩
    exact pk_le 8 8 (fun _ => nm_r (nI_1 m) (H vd1 vd2 vd3 vd4 vd5 vd6 vd7 vd8 vd9 vd10 vd11 vd12 vd13 vd14 vd15 vd16 ve1 ve2 ve3 ve4 ve5 ve6 ve7 ve8 ve9 ve10 ve11 ve12 ve13 ve14 ve15 ve16 h1 h2)) (fun z => absurd z (by omega))
  · rintro n i ⟨⟨vd1, vd2, vd3, vd4, vd5, vd6, vd7, vd8, vd9, vd10, vd11, vd12, vd13, vd14, vd15, vd16⟩, ⟨ve1, ve2, ve3, ve4, ve5, ve6, ve7, ve8, ve9, ve10, ve11, ve12, ve13, ve14, ve15, ve16⟩⟩ hi ⟨h1, K', st, ms, sk, h3⟩ hwn
    dsimp only at h1 h3
    have b1 := hF.2.1
    have b2 := hF.2.2.1
    have b3 := hG.2.1
    have b4 := hG.2.2.1
    refine pk_le 8 i (fun z => absurd z (by omega)) (fun _ => ?_)
    refine wb_cl h3 (fun u4 h4 => ?_)
    obtain ⟨vg1, vg2, vg3, vg4, vg5, vg6, vg7, vg8, vg9, vg10, vg11, vg12, vg13, vg14, vg15, vg16⟩ := u4
    refine hF.2.2.2 T _ _ 0 0 [] [] h4 (by decide) (by decide) (by decide) (fun u5 h5 => ?_)
    obtain ⟨vh1, vh2, vh3, vh4, vh5, vh6, vh7, vh8, vh9, vh10, vh11, vh12, vh13, vh14, vh15, vh16⟩ := u5
    refine wk_sh (wl_zu h5 hF.1 (by omega) (by omega)) hi hm (fun r1 u6 h6 V1 => ?_)
    obtain ⟨vk1, vk2, vk3, vk4, vk5, vk6, vk7, vk8, vk9, vk10, vk11, vk12, vk13, vk14, vk15, vk16⟩ := u6
    refine wb_cl h6.1 (fun u7 h7 => ?_)
    obtain ⟨vm1, vm2, vm3, vm4, vm5, vm6, vm7, vm8, vm9, vm10, vm11, vm12, vm13, vm14, vm15, vm16⟩ := u7
    refine hG.2.2.2 T _ _ 0 0 [] [] h7 (by decide) (by decide) (by decide) (fun u8 h8 => ?_)
    obtain ⟨vo1, vo2, vo3, vo4, vo5, vo6, vo7, vo8, vo9, vo10, vo11, vo12, vo13, vo14, vo15, vo16⟩ := u8
    refine wk_re (wl_zu h8 hG.1 (by omega) (by omega)) hm (fun r2 u9 h9 B2 => ?_)
    obtain ⟨vq1, vq2, vq3, vq4, vq5, vq6, vq7, vq8, vq9, vq10, vq11, vq12, vq13, vq14, vq15, vq16⟩ := u9
    exact wl_205 hi hm h1 h9 V1 B2 (fun vd1 vd2 vd3 vd4 vd5 vd6 vd7 vd8 vd9 vd10 vd11 vd12 vd13 vd14 vd15 vd16 ve1 ve2 ve3 ve4 ve5 ve6 ve7 ve8 ve9 ve10 ve11 ve12 ve13 ve14 ve15 ve16 k1 k2 => hwn ((vd1, vd2, vd3, vd4, vd5, vd6, vd7, vd8, vd9, vd10, vd11, vd12, vd13, vd14, vd15, vd16), (ve1, ve2, ve3, ve4, ve5, ve6, ve7, ve8, ve9, ve10, ve11, ve12, ve13, ve14, ve15, ve16)) ⟨k1, wl_az k2⟩)
theorem wl_148 {vc1 vc2 vc3 vc4 vc5 vc6 : Int32} {vc7 vc8 vc9 vc10 vc11 vc12 vc13 vc14 vc15 vc16 : Nat → Int32} {vx1 vx2 vx3 vx4 vx5 vx6 : Int32} {vx7 vx8 vx9 vx10 vx11 vx12 vx13 vx14 vx15 vx16 : Nat → Int32} (hF : ex_E x3 F) (hG : ex_E x4 G) (hc : pa_Z T (vc1, vc2, vc3, vc4, vc5, vc6, vc7, vc8, vc9, vc10, vc11, vc12, vc13, vc14, vc15, vc16) 9 (pa_then F G)) (hx : wl_A T (vx1, vx2, vx3, vx4, vx5, vx6, vx7, vx8, vx9, vx10, vx11, vx12, vx13, vx14, vx15, vx16)) (H : post 1) :
    ∃ n, wL_law_148 post L xs x3 x4 kc ks n 0 vc1 vc2 vc3 vc4 vc5 vc6 vc7 vc8 vc9 vc10 vc11 vc12 vc13 vc14 vc15 vc16 vx1 vx2 vx3 vx4 vx5 vx6 vx7 vx8 vx9 vx10 vx11 vx12 vx13 vx14 vx15 vx16 := by
  refine pk_loop (σ := St1 × St1) (fun n i s => wL_law_148 post L xs x3 x4 kc ks n (nI i) s.1.1 s.1.2.1 s.1.2.2.1 s.1.2.2.2.1 s.1.2.2.2.2.1 s.1.2.2.2.2.2.1 s.1.2.2.2.2.2.2.1 s.1.2.2.2.2.2.2.2.1 s.1.2.2.2.2.2.2.2.2.1 s.1.2.2.2.2.2.2.2.2.2.1 s.1.2.2.2.2.2.2.2.2.2.2.1 s.1.2.2.2.2.2.2.2.2.2.2.2.1 s.1.2.2.2.2.2.2.2.2.2.2.2.2.1 s.1.2.2.2.2.2.2.2.2.2.2.2.2.2.1 s.1.2.2.2.2.2.2.2.2.2.2.2.2.2.2.1 s.1.2.2.2.2.2.2.2.2.2.2.2.2.2.2.2 s.2.1 s.2.2.1 s.2.2.2.1 s.2.2.2.2.1 s.2.2.2.2.2.1 s.2.2.2.2.2.2.1 s.2.2.2.2.2.2.2.1 s.2.2.2.2.2.2.2.2.1 s.2.2.2.2.2.2.2.2.2.1 s.2.2.2.2.2.2.2.2.2.2.1 s.2.2.2.2.2.2.2.2.2.2.2.1 s.2.2.2.2.2.2.2.2.2.2.2.2.1 s.2.2.2.2.2.2.2.2.2.2.2.2.2.1 s.2.2.2.2.2.2.2.2.2.2.2.2.2.2.1 s.2.2.2.2.2.2.2.2.2.2.2.2.2.2.2.1 s.2.2.2.2.2.2.2.2.2.2.2.2.2.2.2.2) (fun _ s => pa_Z T s.1 9 (pa_then F G) ∧ wl_A T s.2) 8 0 ((vc1, vc2, vc3, vc4, vc5, vc6, vc7, vc8, vc9, vc10, vc11, vc12, vc13, vc14, vc15, vc16), (vx1, vx2, vx3, vx4, vx5, vx6, vx7, vx8, vx9, vx10, vx11, vx12, vx13, vx14, vx15, vx16)) (by omega) ⟨hc, hx⟩ ?_ ?_
  · rintro n ⟨⟨vd1, vd2, vd3, vd4, vd5, vd6, vd7, vd8, vd9, vd10, vd11, vd12, vd13, vd14, vd15, vd16⟩, ⟨ve1, ve2, ve3, ve4, ve5, ve6, ve7, ve8, ve9, ve10, ve11, ve12, ve13, ve14, ve15, ve16⟩⟩ ⟨h1, h2⟩
    dsimp only at h1 h2
    have b1 := hF.2.1
    have b2 := hF.2.2.1
    have b3 := hG.2.1
    have b4 := hG.2.2.1
    have B := wl_orb hF hG
    refine pk_le 8 8 (fun _ => ?_) (fun z => absurd z (by omega))
    refine wb_cl h1.1 (fun u4 h4 => ?_)
    obtain ⟨vg1, vg2, vg3, vg4, vg5, vg6, vg7, vg8, vg9, vg10, vg11, vg12, vg13, vg14, vg15, vg16⟩ := u4
    refine hF.2.2.2 T _ _ 0 0 [] [] h4 (by decide) (by decide) (by decide) (fun u5 h5 => ?_)
    obtain ⟨vh1, vh2, vh3, vh4, vh5, vh6, vh7, vh8, vh9, vh10, vh11, vh12, vh13, vh14, vh15, vh16⟩ := u5
    refine hG.2.2.2 T _ _ _ _ _ _ h5 (by decide) ?_ (show (3 : Nat) ≤ 6 by decide) (fun u6 h6 => ?_)
    · rw [List.length_append, pa_sh_len]
      show 0 + F.2.1.length + 10 ≤ 56
      omega
    · obtain ⟨vk1, vk2, vk3, vk4, vk5, vk6, vk7, vk8, vk9, vk10, vk11, vk12, vk13, vk14, vk15, vk16⟩ := u6
      refine wb_ho h6 (by decide) ?_ (by decide) (fun r u7 h7 => ?_)
      · show 0 + F.2.1.length + G.2.1.length + 4 ≤ 56
        omega
      · obtain ⟨vm1, vm2, vm3, vm4, vm5, vm6, vm7, vm8, vm9, vm10, vm11, vm12, vm13, vm14, vm15, vm16⟩ := u7
        exact wl_306 hF hG (wl_zu h7 B.1 (by omega) (by omega)) h2 H
  · rintro n i ⟨⟨vd1, vd2, vd3, vd4, vd5, vd6, vd7, vd8, vd9, vd10, vd11, vd12, vd13, vd14, vd15, vd16⟩, ⟨ve1, ve2, ve3, ve4, ve5, ve6, ve7, ve8, ve9, ve10, ve11, ve12, ve13, ve14, ve15, ve16⟩⟩ hi ⟨h1, h2⟩ hwn
    exact pk_le 8 i (fun z => absurd z (by omega)) (fun _ => wl_158 hF hG hi h1 h2 (fun vd1 vd2 vd3 vd4 vd5 vd6 vd7 vd8 vd9 vd10 vd11 vd12 vd13 vd14 vd15 vd16 ve1 ve2 ve3 ve4 ve5 ve6 ve7 ve8 ve9 ve10 ve11 ve12 ve13 ve14 ve15 ve16 k1 k2 => hwn ((vd1, vd2, vd3, vd4, vd5, vd6, vd7, vd8, vd9, vd10, vd11, vd12, vd13, vd14, vd15, vd16), (ve1, ve2, ve3, ve4, ve5, ve6, ve7, ve8, ve9, ve10, ve11, ve12, ve13, ve14, ve15, ve16)) ⟨k1, k2⟩))
theorem wl_lab {l a b : Nat} (hl : l < 3) (ha : a < 8) (hb : b < 8) {r1 r2 : Int32} (h1 : (r1 = 1 ∧ ∃ d, pa_Q T (pa_atom l) a d b) ∨ (r1 = 0 ∧ ¬ ∃ d, pa_Q T (pa_atom l) a d b)) (h2 : (r2 = 1 ∧ ∃ d, pa_Q T (pa_atom (3 + l)) b d a) ∨ (r2 = 0 ∧ ¬ ∃ d, pa_Q T (pa_atom (3 + l)) b d a)) : r1 = r2 := by
  have E : pa_E T l a b ↔ pa_E T (3 + l) b a := by
    unfold pa_E
    rw [show 3 + l - 3 = l by omega]
    constructor
    · rintro ⟨_, ⟨_, z⟩ | ⟨z, _⟩⟩
      · exact ⟨ha, Or.inr ⟨by omega, by omega, z⟩⟩
      · omega
    · rintro ⟨_, ⟨z, _⟩ | ⟨_, _, z⟩⟩
      · omega
      · exact ⟨hb, Or.inl ⟨hl, z⟩⟩
  rw [pa_atom_law (show l < 6 by omega), E] at h1
  rw [pa_atom_law (show 3 + l < 6 by omega)] at h2
  rcases h1 with ⟨e1, z1⟩ | ⟨e1, z1⟩
  · rcases h2 with ⟨e2, z2⟩ | ⟨e2, z2⟩
    · rw [e1, e2]
    · exact absurd z1 z2
  · rcases h2 with ⟨e2, z2⟩ | ⟨e2, z2⟩
    · exact absurd z2 z1
    · rw [e1, e2]
theorem wl_85 {J75 : Int32 → Int32 → Int32 → Int32 → Int32 → Int32 → Int32 → (Nat → Int32) → (Nat → Int32) → (Nat → Int32) → (Nat → Int32) → (Nat → Int32) → (Nat → Int32) → (Nat → Int32) → (Nat → Int32) → (Nat → Int32) → (Nat → Int32) → Int32 → Int32 → Int32 → Int32 → Int32 → Int32 → (Nat → Int32) → (Nat → Int32) → (Nat → Int32) → (Nat → Int32) → (Nat → Int32) → (Nat → Int32) → (Nat → Int32) → (Nat → Int32) → (Nat → Int32) → (Nat → Int32) → Prop} {a l : Nat} {vc1 vc2 vc3 vc4 vc5 vc6 : Int32} {vc7 vc8 vc9 vc10 vc11 vc12 vc13 vc14 vc15 vc16 : Nat → Int32} {vx1 vx2 vx3 vx4 vx5 vx6 : Int32} {vx7 vx8 vx9 vx10 vx11 vx12 vx13 vx14 vx15 vx16 : Nat → Int32} (hl : l < 3) (ha : a < 8) (hc : pa_Z T (vc1, vc2, vc3, vc4, vc5, vc6, vc7, vc8, vc9, vc10, vc11, vc12, vc13, vc14, vc15, vc16) 1 (pa_atom l)) (hx : pa_Z T (vx1, vx2, vx3, vx4, vx5, vx6, vx7, vx8, vx9, vx10, vx11, vx12, vx13, vx14, vx15, vx16) 1 (pa_atom (3 + l)))
    (H : ∀ (vd1 vd2 vd3 vd4 vd5 vd6 : Int32) (vd7 vd8 vd9 vd10 vd11 vd12 vd13 vd14 vd15 vd16 : Nat → Int32) (ve1 ve2 ve3 ve4 ve5 ve6 : Int32) (ve7 ve8 ve9 ve10 ve11 ve12 ve13 ve14 ve15 ve16 : Nat → Int32), pa_Z T (vd1, vd2, vd3, vd4, vd5, vd6, vd7, vd8, vd9, vd10, vd11, vd12, vd13, vd14, vd15, vd16) 1 (pa_atom l) → pa_Z T (ve1, ve2, ve3, ve4, ve5, ve6, ve7, ve8, ve9, ve10, ve11, ve12, ve13, ve14, ve15, ve16) 1 (pa_atom (3 + l)) → J75 (nI (a + 1)) vd1 vd2 vd3 vd4 vd5 vd6 vd7 vd8 vd9 vd10 vd11 vd12 vd13 vd14 vd15 vd16 ve1 ve2 ve3 ve4 ve5 ve6 ve7 ve8 ve9 ve10 ve11 ve12 ve13 ve14 ve15 ve16) :
    ∃ n, wL_law_85 post L xs J75 x3 x4 (nI a) kc ks n 0 vc1 vc2 vc3 vc4 vc5 vc6 vc7 vc8 vc9 vc10 vc11 vc12 vc13 vc14 vc15 vc16 vx1 vx2 vx3 vx4 vx5 vx6 vx7 vx8 vx9 vx10 vx11 vx12 vx13 vx14 vx15 vx16 := by
  refine pk_loop (σ := St1 × St1) (fun n i s => wL_law_85 post L xs J75 x3 x4 (nI a) kc ks n (nI i) s.1.1 s.1.2.1 s.1.2.2.1 s.1.2.2.2.1 s.1.2.2.2.2.1 s.1.2.2.2.2.2.1 s.1.2.2.2.2.2.2.1 s.1.2.2.2.2.2.2.2.1 s.1.2.2.2.2.2.2.2.2.1 s.1.2.2.2.2.2.2.2.2.2.1 s.1.2.2.2.2.2.2.2.2.2.2.1 s.1.2.2.2.2.2.2.2.2.2.2.2.1 s.1.2.2.2.2.2.2.2.2.2.2.2.2.1 s.1.2.2.2.2.2.2.2.2.2.2.2.2.2.1 s.1.2.2.2.2.2.2.2.2.2.2.2.2.2.2.1 s.1.2.2.2.2.2.2.2.2.2.2.2.2.2.2.2 s.2.1 s.2.2.1 s.2.2.2.1 s.2.2.2.2.1 s.2.2.2.2.2.1 s.2.2.2.2.2.2.1 s.2.2.2.2.2.2.2.1 s.2.2.2.2.2.2.2.2.1 s.2.2.2.2.2.2.2.2.2.1 s.2.2.2.2.2.2.2.2.2.2.1 s.2.2.2.2.2.2.2.2.2.2.2.1 s.2.2.2.2.2.2.2.2.2.2.2.2.1 s.2.2.2.2.2.2.2.2.2.2.2.2.2.1 s.2.2.2.2.2.2.2.2.2.2.2.2.2.2.1 s.2.2.2.2.2.2.2.2.2.2.2.2.2.2.2.1 s.2.2.2.2.2.2.2.2.2.2.2.2.2.2.2.2) (fun _ s => pa_Z T s.1 1 (pa_atom l) ∧ pa_Z T s.2 1 (pa_atom (3 + l))) 8 0 ((vc1, vc2, vc3, vc4, vc5, vc6, vc7, vc8, vc9, vc10, vc11, vc12, vc13, vc14, vc15, vc16), (vx1, vx2, vx3, vx4, vx5, vx6, vx7, vx8, vx9, vx10, vx11, vx12, vx13, vx14, vx15, vx16)) (by omega) ⟨hc, hx⟩ ?_ ?_
  · rintro n ⟨⟨vd1, vd2, vd3, vd4, vd5, vd6, vd7, vd8, vd9, vd10, vd11, vd12, vd13, vd14, vd15, vd16⟩, ⟨ve1, ve2, ve3, ve4, ve5, ve6, ve7, ve8, ve9, ve10, ve11, ve12, ve13, ve14, ve15, ve16⟩⟩ ⟨h1, h2⟩
    exact pk_le 8 8 (fun _ => nm_r (nI_1 a) (H vd1 vd2 vd3 vd4 vd5 vd6 vd7 vd8 vd9 vd10 vd11 vd12 vd13 vd14 vd15 vd16 ve1 ve2 ve3 ve4 ve5 ve6 ve7 ve8 ve9 ve10 ve11 ve12 ve13 ve14 ve15 ve16 h1 h2)) (fun z => absurd z (by omega))
  · rintro n i ⟨⟨vd1, vd2, vd3, vd4, vd5, vd6, vd7, vd8, vd9, vd10, vd11, vd12, vd13, vd14, vd15, vd16⟩, ⟨ve1, ve2, ve3, ve4, ve5, ve6, ve7, ve8, ve9, ve10, ve11, ve12, ve13, ve14, ve15, ve16⟩⟩ hi ⟨h1, h2⟩ hwn
    dsimp only at h1 h2
    refine pk_le 8 i (fun z => absurd z (by omega)) (fun _ => ?_)
    refine wk_ld h1 ha hi (fun r1 u3 h3 V1 => ?_)
    obtain ⟨vg1, vg2, vg3, vg4, vg5, vg6, vg7, vg8, vg9, vg10, vg11, vg12, vg13, vg14, vg15, vg16⟩ := u3
    refine wk_ld h2 hi ha (fun r2 u4 h4 V2 => ?_)
    obtain ⟨vh1, vh2, vh3, vh4, vh5, vh6, vh7, vh8, vh9, vh10, vh11, vh12, vh13, vh14, vh15, vh16⟩ := u4
    exact br_t (wl_lab hl ha hi V1 V2) (nm_r (nI_1 i) (hwn ((vg1, vg2, vg3, vg4, vg5, vg6, vg7, vg8, vg9, vg10, vg11, vg12, vg13, vg14, vg15, vg16), (vh1, vh2, vh3, vh4, vh5, vh6, vh7, vh8, vh9, vh10, vh11, vh12, vh13, vh14, vh15, vh16)) ⟨h3, h4⟩))
theorem wl_75 {l : Nat} {vc1 vc2 vc3 vc4 vc5 vc6 : Int32} {vc7 vc8 vc9 vc10 vc11 vc12 vc13 vc14 vc15 vc16 : Nat → Int32} {vx1 vx2 vx3 vx4 vx5 vx6 : Int32} {vx7 vx8 vx9 vx10 vx11 vx12 vx13 vx14 vx15 vx16 : Nat → Int32} (hl : l < 3) (hF : ex_E x3 F) (hG : ex_E x4 G) (hc : pa_Z T (vc1, vc2, vc3, vc4, vc5, vc6, vc7, vc8, vc9, vc10, vc11, vc12, vc13, vc14, vc15, vc16) 1 (pa_atom l)) (hx : pa_Z T (vx1, vx2, vx3, vx4, vx5, vx6, vx7, vx8, vx9, vx10, vx11, vx12, vx13, vx14, vx15, vx16) 1 (pa_atom (3 + l))) (H : post 1) :
    ∃ n, wL_law_75 post L xs x3 x4 kc ks n 0 vc1 vc2 vc3 vc4 vc5 vc6 vc7 vc8 vc9 vc10 vc11 vc12 vc13 vc14 vc15 vc16 vx1 vx2 vx3 vx4 vx5 vx6 vx7 vx8 vx9 vx10 vx11 vx12 vx13 vx14 vx15 vx16 := by
  refine pk_loop (σ := St1 × St1) (fun n i s => wL_law_75 post L xs x3 x4 kc ks n (nI i) s.1.1 s.1.2.1 s.1.2.2.1 s.1.2.2.2.1 s.1.2.2.2.2.1 s.1.2.2.2.2.2.1 s.1.2.2.2.2.2.2.1 s.1.2.2.2.2.2.2.2.1 s.1.2.2.2.2.2.2.2.2.1 s.1.2.2.2.2.2.2.2.2.2.1 s.1.2.2.2.2.2.2.2.2.2.2.1 s.1.2.2.2.2.2.2.2.2.2.2.2.1 s.1.2.2.2.2.2.2.2.2.2.2.2.2.1 s.1.2.2.2.2.2.2.2.2.2.2.2.2.2.1 s.1.2.2.2.2.2.2.2.2.2.2.2.2.2.2.1 s.1.2.2.2.2.2.2.2.2.2.2.2.2.2.2.2 s.2.1 s.2.2.1 s.2.2.2.1 s.2.2.2.2.1 s.2.2.2.2.2.1 s.2.2.2.2.2.2.1 s.2.2.2.2.2.2.2.1 s.2.2.2.2.2.2.2.2.1 s.2.2.2.2.2.2.2.2.2.1 s.2.2.2.2.2.2.2.2.2.2.1 s.2.2.2.2.2.2.2.2.2.2.2.1 s.2.2.2.2.2.2.2.2.2.2.2.2.1 s.2.2.2.2.2.2.2.2.2.2.2.2.2.1 s.2.2.2.2.2.2.2.2.2.2.2.2.2.2.1 s.2.2.2.2.2.2.2.2.2.2.2.2.2.2.2.1 s.2.2.2.2.2.2.2.2.2.2.2.2.2.2.2.2) (fun _ s => pa_Z T s.1 1 (pa_atom l) ∧ pa_Z T s.2 1 (pa_atom (3 + l))) 8 0 ((vc1, vc2, vc3, vc4, vc5, vc6, vc7, vc8, vc9, vc10, vc11, vc12, vc13, vc14, vc15, vc16), (vx1, vx2, vx3, vx4, vx5, vx6, vx7, vx8, vx9, vx10, vx11, vx12, vx13, vx14, vx15, vx16)) (by omega) ⟨hc, hx⟩ ?_ ?_
  · rintro n ⟨⟨vd1, vd2, vd3, vd4, vd5, vd6, vd7, vd8, vd9, vd10, vd11, vd12, vd13, vd14, vd15, vd16⟩, ⟨ve1, ve2, ve3, ve4, ve5, ve6, ve7, ve8, ve9, ve10, ve11, ve12, ve13, ve14, ve15, ve16⟩⟩ ⟨h1, h2⟩
    dsimp only at h1 h2
    have b1 := hF.2.1
    have b2 := hF.2.2.1
    have b3 := hG.2.1
    have b4 := hG.2.2.1
    have B := wl_thb hF hG
    refine pk_le 8 8 (fun _ => ?_) (fun z => absurd z (by omega))
    refine wb_cl h1.1 (fun u4 h4 => ?_)
    obtain ⟨vg1, vg2, vg3, vg4, vg5, vg6, vg7, vg8, vg9, vg10, vg11, vg12, vg13, vg14, vg15, vg16⟩ := u4
    refine hF.2.2.2 T _ _ 0 0 [] [] h4 (by decide) (by decide) (by decide) (fun u5 h5 => ?_)
    obtain ⟨vh1, vh2, vh3, vh4, vh5, vh6, vh7, vh8, vh9, vh10, vh11, vh12, vh13, vh14, vh15, vh16⟩ := u5
    refine hG.2.2.2 T _ _ _ _ _ _ h5 (by decide) ?_ (show (3 : Nat) ≤ 6 by decide) (fun u6 h6 => ?_)
    · rw [List.length_append, pa_sh_len]
      show 0 + F.2.1.length + 10 ≤ 56
      omega
    · obtain ⟨vk1, vk2, vk3, vk4, vk5, vk6, vk7, vk8, vk9, vk10, vk11, vk12, vk13, vk14, vk15, vk16⟩ := u6
      refine wb_ht h6 (by decide) ?_ (by decide) (fun r u7 h7 => ?_)
      · show 0 + F.2.1.length + G.2.1.length + 1 ≤ 56
        omega
      · obtain ⟨vm1, vm2, vm3, vm4, vm5, vm6, vm7, vm8, vm9, vm10, vm11, vm12, vm13, vm14, vm15, vm16⟩ := u7
        exact wl_148 hF hG (wl_zu h7 B.1 (by omega) (by omega)) (wl_az h2) H
  · rintro n i ⟨⟨vd1, vd2, vd3, vd4, vd5, vd6, vd7, vd8, vd9, vd10, vd11, vd12, vd13, vd14, vd15, vd16⟩, ⟨ve1, ve2, ve3, ve4, ve5, ve6, ve7, ve8, ve9, ve10, ve11, ve12, ve13, ve14, ve15, ve16⟩⟩ hi ⟨h1, h2⟩ hwn
    exact pk_le 8 i (fun z => absurd z (by omega)) (fun _ => wl_85 hl hi h1 h2 (fun vd1 vd2 vd3 vd4 vd5 vd6 vd7 vd8 vd9 vd10 vd11 vd12 vd13 vd14 vd15 vd16 ve1 ve2 ve3 ve4 ve5 ve6 ve7 ve8 ve9 ve10 ve11 ve12 ve13 ve14 ve15 ve16 k1 k2 => hwn ((vd1, vd2, vd3, vd4, vd5, vd6, vd7, vd8, vd9, vd10, vd11, vd12, vd13, vd14, vd15, vd16), (ve1, ve2, ve3, ve4, ve5, ve6, ve7, ve8, ve9, ve10, ve11, ve12, ve13, ve14, ve15, ve16)) ⟨k1, k2⟩))
end
end
section
theorem wl_ce {pz : Int32 → Prop} {L : Nat} {xs : Nat → Int32} (hL : L ≤ 260) (k : Nat) {p : Int32} (hp : p = nI k) (hk : k < 2 ^ 31) (H : ∀ v, pz v) : wpL_cell pz L xs () p := by
  subst hp
  exact pk_le L k (fun _ => H 0) (fun z => ⟨pk_in k L z, H _⟩)
theorem wl_in {post : St1 → Prop} {f1 f2 f3 f4 f5 f6 : Int32} (H : post (0, f2, f3, f4, f5, f6, (fun _ => 0), (fun _ => 0), (fun _ => 0), (fun _ => 0), (fun _ => 0), (fun _ => 0), (fun _ => 0), (fun _ => 0), (fun _ => 0), (fun _ => 0))) : wpX_init post 10 900 (f1, f2, f3, f4, f5, f6) :=
  ⟨by decide, by decide, by decide, by decide, by decide, by decide, by decide, by decide, by decide, by decide, by decide, by decide, by decide, by decide, by decide, by decide, by decide, by decide, by decide, by decide, H⟩
theorem wl_g0 : pa_G (fun _ _ _ => false) (fun _ => 0) (fun _ => 0) := fun _ _ _ _ _ _ => ⟨pb_0 _, pb_0 _⟩
theorem wl_s0 {T : Nat → Nat → Nat → Bool} {f5 f6 : Int32} {a1 a2 a3 a4 a5 a6 a7 a8 a9 a10 : Nat → Int32} (h : pa_G T a1 a2) : pa_S T (0, 0, 0, 0, f5, f6, a1, a2, a3, a4, a5, a6, a7, a8, a9, a10) 0 0 [] [] := by
  refine ⟨⟨0, Nat.le_refl 0, rfl⟩, rfl, rfl, rfl, h, ?_, ?_, ?_, ?_, ?_⟩ <;> exact fun i v z => absurd z (by simp)
theorem i_vc (xs : Nat → Int32) (L : Nat) (hL : L ≤ 260) : wpL_law (fun r => r = 1) L xs := by
  refine ⟨10, 900, by decide, by decide, wl_in ?_⟩
  refine ⟨by decide, by decide, 10, 900, by decide, by decide, wl_in ?_⟩
  refine wk_es hL wl_g0 (fun p1 p2 hp => ?_)
  refine wk_es hL wl_g0 (fun q1 q2 hq => ?_)
  refine wl_ce hL 0 rfl (by decide) (fun one => ?_)
  refine wl_ce hL 1 rfl (by decide) (fun two => ?_)
  refine wl_ce hL 2 rfl (by decide) (fun v => ?_)
  obtain ⟨F, hF⟩ := wb_ex one
  obtain ⟨G, hG⟩ := wb_ex two
  have hl : ed_l v < 3 := Nat.mod_lt _ (by decide)
  refine ⟨by decide, nm_r (ed_le v) ?_⟩
  refine wb_la (wl_s0 hp) (by decide) (by decide) (by decide) rfl hl (fun r u h => ?_)
  obtain ⟨vc1, vc2, vc3, vc4, vc5, vc6, vc7, vc8, vc9, vc10, vc11, vc12, vc13, vc14, vc15, vc16⟩ := u
  refine wb_ba (wl_s0 hq) (by decide) (by decide) (by decide) rfl hl (fun r u g => ?_)
  obtain ⟨vx1, vx2, vx3, vx4, vx5, vx6, vx7, vx8, vx9, vx10, vx11, vx12, vx13, vx14, vx15, vx16⟩ := u
  exact wl_75 hl hF hG (wl_zu (pa_Ha h) (pa_atom_fw (by omega)) (show (2 : Nat) ≤ 28 by decide) (show (1 : Nat) ≤ 56 by decide)) (wl_zu (pa_Ha g) (pa_atom_fw (by omega)) (show (2 : Nat) ≤ 28 by decide) (show (1 : Nat) ≤ 56 by decide)) rfl
end
