section
/-- an array: x, y, z, then zeros -/
def il_A (x y z : Int32) : Nat → Int32 := fun k => if k = 0 then x else if k = 1 then y else if k = 2 then z else 0
theorem il_A0 {x y z : Int32} : il_A x y z 0 = x := rfl
theorem il_A1 {x y z : Int32} : il_A x y z 1 = y := rfl
theorem il_A2 {x y z : Int32} : il_A x y z 2 = z := rfl
theorem il_A3 {x y z : Int32} {k : Nat} (h : 3 ≤ k) : il_A x y z k = 0 := by
  unfold il_A
  rw [if_neg (by omega), if_neg (by omega), if_neg (by omega)]
theorem il_Az : (fun _ => 0 : Nat → Int32) = il_A 0 0 0 := by
  funext k
  simp [il_A]
theorem il_u0 {x y z v : Int32} : upd (il_A x y z) 0 v = il_A v y z := by
  funext k
  by_cases h : k = 0 <;> simp [upd, il_A, h]
theorem il_u1 {x y z v : Int32} : upd (il_A x y z) 1 v = il_A x v z := by
  funext k
  by_cases h : k = 1 <;> simp [upd, il_A, h]
theorem il_u2 {x y z v : Int32} : upd (il_A x y z) 2 v = il_A x y v := by
  funext k
  by_cases h : k = 2 <;> simp [upd, il_A, h]
/-- below 12 the word t has the one bit c (c = 12: none) -/
def il_one (t : Int32) (c : Nat) : Prop := ∀ k, k < 12 → (((t >>> (nI k &&& 31)) &&& 1) = 1 ↔ k = c)
theorem il_one0 : il_one 0 12 := (by decide +kernel : ∀ k, k < 12 → ((((0 : Int32) >>> (nI k &&& 31)) &&& 1) = 1 ↔ k = 12))
theorem il_one1 : il_one 1 0 := (by decide +kernel : ∀ k, k < 12 → ((((1 : Int32) >>> (nI k &&& 31)) &&& 1) = 1 ↔ k = 0))
theorem il_one2 : il_one 2 1 := (by decide +kernel : ∀ k, k < 12 → ((((2 : Int32) >>> (nI k &&& 31)) &&& 1) = 1 ↔ k = 1))
theorem il_one4 : il_one 4 2 := (by decide +kernel : ∀ k, k < 12 → ((((4 : Int32) >>> (nI k &&& 31)) &&& 1) = 1 ↔ k = 2))
theorem il_three : ∀ k, k < 12 → ((((3 : Int32) >>> (nI k &&& 31)) &&& 1) = 1 ↔ k < 2) := by decide +kernel
/-- the word with the one bit v -/
def il_V (v : Nat) : Int32 := (1 : Int32) <<< (nI v &&& 31)
theorem il_V0 : il_V 0 = 1 := by decide +kernel
theorem il_V1 : il_V 1 = 2 := by decide +kernel
theorem il_V2 : il_V 2 = 4 := by decide +kernel
theorem il_Vne : ∀ v, v < 20 → ¬ il_V v = 0 := by decide +kernel
theorem il_Vbit : ∀ v, v < 20 → ((il_V v >>> (nI v &&& 31)) &&& 1) = 1 := by decide +kernel
theorem il_Vm : ∀ v, v < 20 → (1 : Int32) <<< ((nI v &&& 31) &&& 31) = il_V v := by decide +kernel
theorem il_Vd : ∀ v, v < 20 → ∀ w, w < 20 → ¬ v = w → il_V v &&& (il_V w ^^^ (-1)) = il_V v := by decide +kernel
theorem il_Vo : ∀ v, v < 20 → ∀ w, w < 20 → ¬ v = w → il_V v &&& il_V w = 0 := by decide +kernel
theorem il_n0 {x : Int32} : x &&& ((0 : Int32) ^^^ (-1)) = x := by rw [Int32.zero_xor, Int32.and_neg_one]
theorem il_nn {x : Int32} : x &&& (x ^^^ (-1)) = 0 := by rw [Int32.xor_neg_one, Int32.and_not_self]
end
section
/-- the union of the f k with k a bit of t -/
def il_ae (t : Int32) (f : Nat → Int32) : Nat → Int32
  | 0 => 0
  | n + 1 => if ((t >>> (nI n &&& 31)) &&& 1) = 1 then il_ae t f n ||| f n else il_ae t f n
theorem il_ae_s (t : Int32) (f : Nat → Int32) (n : Nat) : il_ae t f (n + 1) = if ((t >>> (nI n &&& 31)) &&& 1) = 1 then il_ae t f n ||| f n else il_ae t f n := rfl
theorem il_ae_one {t : Int32} {f : Nat → Int32} {c : Nat} (h : il_one t c) : ∀ n, n ≤ 12 → il_ae t f n = if c < n then f c else 0 := by
  intro n
  induction n with
  | zero =>
    intro _
    rw [if_neg (by omega)]
    rfl
  | succ n ih =>
    intro hn
    have ih' := ih (by omega)
    rw [il_ae_s, ih']
    by_cases e : n = c
    · rw [if_pos ((h n (by omega)).mpr e), if_neg (show ¬ c < n by omega), if_pos (show c < n + 1 by omega), Int32.zero_or, e]
    · rw [if_neg (fun z => e ((h n (by omega)).mp z))]
      by_cases g : c < n
      · rw [if_pos g, if_pos (show c < n + 1 by omega)]
      · rw [if_neg g, if_neg (show ¬ c < n + 1 by omega)]
theorem il_ae0 {f : Nat → Int32} : il_ae 0 f 12 = 0 := by rw [il_ae_one il_one0 12 (by omega), if_neg (by omega)]
theorem il_ae2 {f : Nat → Int32} : il_ae 2 f 12 = f 1 := by rw [il_ae_one il_one2 12 (by omega), if_pos (by omega)]
theorem il_ae4 {f : Nat → Int32} : il_ae 4 f 12 = f 2 := by rw [il_ae_one il_one4 12 (by omega), if_pos (by omega)]
theorem il_atEnd_4 {post : Int32 → Prop} {a1 a2 a3 a4 a5 : Nat → Int32} {b : Nat} (hb : b < 12) (hp : post (il_ae (a1 b) a5 12)) : ∃ n, wX_atEnd_4 post (nI b) a1 a2 a3 a4 a5 n 0 0 := by
  refine pk_loop (fun n i s => wX_atEnd_4 post (nI b) a1 a2 a3 a4 a5 n s (nI i)) (fun i s => s = il_ae (a1 b) a5 i) 12 0 0 (by omega) rfl ?_ ?_
  · intro n s h
    exact pk_le 12 12 (fun _ => by rw [h]; exact hp) (fun z => absurd z (by omega))
  · intro n i s hi h hw
    refine pk_le 12 i (fun z => absurd z (by omega)) (fun _ => ⟨pk_in b 12 hb, ?_⟩)
    rw [nI_clamp (show b < 2 ^ 31 by omega), nI_clamp (show i < 2 ^ 31 by omega)]
    refine br_c (fun g => ⟨pk_in i 12 hi, nm_e (nm_r (nI_1 i) (hw _ ?_))⟩) (fun g => nm_r (nI_1 i) (hw _ ?_))
    · rw [il_ae_s, if_pos g, h]
    · rw [il_ae_s, if_neg g, h]
theorem il_atEnd {post : Int32 → Prop} {a1 a2 a3 a4 a5 : Nat → Int32} {b : Nat} (hb : b < 12) (hp : post (il_ae (a1 b) a5 12)) : wpX_atEnd post (a1, a2, a3, a4, a5) (nI b) := il_atEnd_4 hb hp
/-- what is due at the begin of block b -/
def il_due (a1 a3 a4 a5 : Nat → Int32) (b : Nat) : Int32 := a3 b ||| (il_ae (a1 b) a5 12 &&& (a4 b ^^^ (-1)))
theorem il_wdue {post : Int32 → Prop} {a1 a2 a3 a4 a5 : Nat → Int32} {b : Nat} (hb : b < 12) (hp : post (il_due a1 a3 a4 a5 b)) : wpX_due post (a1, a2, a3, a4, a5) (nI b) := by
  refine ⟨pk_in b 12 hb, il_atEnd hb ⟨pk_in b 12 hb, ?_⟩⟩
  rw [nI_clamp (show b < 2 ^ 31 by omega)]
  exact hp
/-- how many of the first n bits are set -/
def il_sz (x : Int32) : Nat → Int32
  | 0 => 0
  | n + 1 => il_sz x n + ((x >>> (nI n &&& 31)) &&& 1)
theorem il_sz_s (x : Int32) (n : Nat) : il_sz x (n + 1) = il_sz x n + ((x >>> (nI n &&& 31)) &&& 1) := rfl
theorem il_sz0 : il_sz 0 20 = 0 := by decide +kernel
theorem il_szV : ∀ v, v < 20 → il_sz (il_V v) 20 = 1 := by decide +kernel
theorem il_sizeOf_4 {post : Int32 → Prop} {a1 a2 a3 a4 a5 : Nat → Int32} {x : Int32} (hp : post (il_sz x 20)) : ∃ n, wX_sizeOf_4 post x a1 a2 a3 a4 a5 n 0 0 := by
  refine pk_loop (fun n i s => wX_sizeOf_4 post x a1 a2 a3 a4 a5 n s (nI i)) (fun i s => s = il_sz x i) 20 0 0 (by omega) rfl ?_ ?_
  · intro n s h
    exact pk_le 20 20 (fun _ => by rw [h]; exact hp) (fun z => absurd z (by omega))
  · intro n i s hi h hw
    exact pk_le 20 i (fun z => absurd z (by omega)) (fun _ => nm_e (nm_r (nI_1 i) (hw _ (by rw [il_sz_s, h]))))
theorem il_sizeOf {post : Int32 → Prop} {a1 a2 a3 a4 a5 : Nat → Int32} {x : Int32} (hp : post (il_sz x 20)) : wpX_sizeOf post (a1, a2, a3, a4, a5) x := il_sizeOf_4 hp
theorem il_bad {post : Int32 → Prop} {a1 a2 a3 a4 a5 : Nat → Int32} {b : Nat} (hb : b < 12) (hp : post 0) : wpX_bad post (a1, a2, a3, a4, a5) (nI b) :=
  pk_lt b 0 (fun z => absurd z (by omega)) (fun _ => pk_lt b 12 (fun _ => hp) (fun z => absurd z (by omega)))
theorem il_badV {post : Int32 → Prop} {a1 a2 a3 a4 a5 : Nat → Int32} {v : Nat} (hv : v < 20) (hp : post 0) : wpX_badVariable post (a1, a2, a3, a4, a5) (nI v) :=
  pk_lt v 0 (fun z => absurd z (by omega)) (fun _ => pk_lt v 20 (fun _ => hp) (fun z => absurd z (by omega)))
theorem il_badVo {post : Int32 → Prop} {a1 a2 a3 a4 a5 : Nat → Int32} {p : Int32} (h : p < 0 ∨ (20 : Int32) ≤ p) (hp : post 1) : wpX_badVariable post (a1, a2, a3, a4, a5) p :=
  br_c (fun _ => hp) (fun z => br_f (Int32.not_lt.mpr (h.resolve_left z)) hp)
end
section
theorem il_oneV : ∀ b, b < 12 → il_one (il_V b) b := (by decide +kernel : ∀ b, b < 12 → ∀ k, k < 12 → (((il_V b >>> (nI k &&& 31)) &&& 1) = 1 ↔ k = b))
theorem il_sp23 {post : St2 → Prop} {J : Int32 → Int32 → (Nat → Int32) → (Nat → Int32) → (Nat → Int32) → (Nat → Int32) → (Nat → Int32) → Prop} {x2 x3 : Int32} {a1 a2 a3 a4 a5 : Nat → Int32} {c : Nat} (hc : c < 12) (ho : il_one x2 c)
    (H0 : il_due a1 a3 a4 a5 c &&& (a5 c ^^^ (-1)) = 0 → J 0 (x3 + 1) a1 a2 a3 a4 a5)
    (H1 : ¬ il_due a1 a3 a4 a5 c &&& (a5 c ^^^ (-1)) = 0 → J (a2 c) (x3 + 1) a1 a2 a3 a4 (upd a5 c (a5 c ||| il_due a1 a3 a4 a5 c))) :
    ∃ n, wX_spread_23 post J x2 x3 n 0 0 a1 a2 a3 a4 a5 := by
  refine pk_loop (fun n i s => wX_spread_23 post J x2 x3 n s.1 (nI i) a1 a2 a3 a4 s.2) (fun i s => (i ≤ c → s = (0, a5)) ∧ (c < i → (il_due a1 a3 a4 a5 c &&& (a5 c ^^^ (-1)) = 0 ∧ s = (0, a5)) ∨ (¬ il_due a1 a3 a4 a5 c &&& (a5 c ^^^ (-1)) = 0 ∧ s = (a2 c, upd a5 c (a5 c ||| il_due a1 a3 a4 a5 c))))) 12 0 ((0 : Int32), a5) (by omega) ⟨fun _ => rfl, fun z => absurd z (by omega)⟩ ?_ ?_
  · intro n s h
    refine pk_le 12 12 (fun _ => nm_e ?_) (fun z => absurd z (by omega))
    rcases h.2 hc with ⟨g, e⟩ | ⟨g, e⟩
    · rw [e]
      exact H0 g
    · rw [e]
      exact H1 g
  · intro n i s hi h hk
    refine pk_le 12 i (fun z => absurd z (by omega)) (fun _ => ek_if (ho i hi) (fun e => ?_) (fun e => nm_r (nI_1 i) (hk s ⟨fun z => h.1 (by omega), fun z => h.2 (by omega)⟩)))
    have hs : s = (0, a5) := h.1 (by omega)
    subst hs
    subst e
    refine il_wdue hi ⟨pk_in i 12 hi, ?_⟩
    rw [nI_clamp (show i < 2 ^ 31 by omega)]
    exact br_c (fun g => nm_r (nI_1 i) (hk (0, a5) ⟨fun z => absurd z (by omega), fun _ => Or.inl ⟨g, rfl⟩⟩)) (fun g => ⟨pk_in i 12 hi, pk_in i 12 hi, nm_e ⟨pk_in i 12 hi, nm_r Int32.zero_or (nm_r (nI_1 i) (hk (a2 i, upd a5 i (a5 i ||| il_due a1 a3 a4 a5 i)) ⟨fun z => absurd z (by omega), fun _ => Or.inr ⟨g, rfl⟩⟩))⟩⟩)
theorem il_sp6z {post : St2 → Prop} {n : Nat} {x3 : Int32} {a1 a2 a3 a4 a5 : Nat → Int32} (hp : post (a1, a2, a3, a4, a5)) : wX_spread_6 post (n + 1) 0 x3 a1 a2 a3 a4 a5 := br_c (fun _ => hp) (fun _ => br_t rfl hp)
theorem il_sp6 {post : St2 → Prop} {n r c : Nat} {x2 : Int32} {a1 a2 a3 a4 a5 : Nat → Int32} (hr : r < 241) (hc : c < 12) (ho : il_one x2 c) (h2 : ¬ x2 = 0)
    (H0 : il_due a1 a3 a4 a5 c &&& (a5 c ^^^ (-1)) = 0 → wX_spread_6 post n 0 (nI (r + 1)) a1 a2 a3 a4 a5)
    (H1 : ¬ il_due a1 a3 a4 a5 c &&& (a5 c ^^^ (-1)) = 0 → wX_spread_6 post n (a2 c) (nI (r + 1)) a1 a2 a3 a4 (upd a5 c (a5 c ||| il_due a1 a3 a4 a5 c))) :
    wX_spread_6 post (n + 1) x2 (nI r) a1 a2 a3 a4 a5 :=
  pk_le 241 r (fun z => absurd z (by omega)) (fun _ => br_f h2 (il_sp23 hc ho (fun g => by rw [nI_1]; exact H0 g) (fun g => by rw [nI_1]; exact H1 g)))
theorem il_sp6n {post : St2 → Prop} {n c : Nat} (r : Nat) {x2 : Int32} {a1 a2 a3 a4 a5 : Nat → Int32} (w f : Int32) (s5 : Nat → Int32) (hr : r < 241) (hc : c < 12) (ho : il_one x2 c) (h2 : ¬ x2 = 0) (hw : il_due a1 a3 a4 a5 c = w) (hn : ¬ w &&& (a5 c ^^^ (-1)) = 0) (hf : a2 c = f) (hs : upd a5 c (a5 c ||| w) = s5)
    (H : wX_spread_6 post n f (nI (r + 1)) a1 a2 a3 a4 s5) : wX_spread_6 post (n + 1) x2 (nI r) a1 a2 a3 a4 a5 := by
  subst hw
  subst hf
  subst hs
  exact il_sp6 hr hc ho h2 (fun z => absurd z hn) (fun _ => H)
/-- nothing new: spread leaves all as it is -/
theorem il_spread0 {post : St2 → Prop} {a1 a2 a3 a4 a5 : Nat → Int32} {b : Nat} (hb : b < 12) (hd : il_due a1 a3 a4 a5 b &&& (a5 b ^^^ (-1)) = 0) (hp : post (a1, a2, a3, a4, a5)) : wpX_spread post (a1, a2, a3, a4, a5) (nI b) :=
  nm_e ⟨2, il_sp6 (r := 0) (by omega) hb (il_oneV b hb) (il_Vne b (by omega)) (fun _ => il_sp6z hp) (fun z => absurd hd z)⟩
theorem il_d2 {t V x y : Int32} : il_due (il_A 2 t 0) (il_A 0 0 V) (il_A 0 x 0) (il_A 0 0 y) 2 = V := by
  show V ||| (il_ae 0 (il_A 0 0 y) 12 &&& ((0 : Int32) ^^^ (-1))) = V
  rw [il_ae0, Int32.zero_and, Int32.or_zero]
theorem il_d1 {V W x y z : Int32} : il_due (il_A 2 4 0) (il_A 0 0 V) (il_A 0 W 0) (il_A x y z) 1 = z &&& (W ^^^ (-1)) := by
  show 0 ||| (il_ae 4 (il_A x y z) 12 &&& (W ^^^ (-1))) = z &&& (W ^^^ (-1))
  rw [il_ae4, il_A2, Int32.zero_or]
theorem il_d1o {V W x y z : Int32} : il_due (il_A 2 0 0) (il_A 0 0 V) (il_A 0 W 0) (il_A x y z) 1 = 0 := by
  show 0 ||| (il_ae 0 (il_A x y z) 12 &&& (W ^^^ (-1))) = 0
  rw [il_ae0, Int32.zero_and, Int32.zero_or]
theorem il_d0 {t V W x y z : Int32} : il_due (il_A 2 t 0) (il_A 0 0 V) (il_A 0 W 0) (il_A x y z) 0 = y := by
  show 0 ||| (il_ae 2 (il_A x y z) 12 &&& ((0 : Int32) ^^^ (-1))) = y
  rw [il_ae2, il_A1, il_n0, Int32.zero_or]
/-- a use in block 2, joined: V comes to be live in all three -/
theorem il_spreadOn {post : St2 → Prop} {V : Int32} (hV : ¬ V = 0) (hp : post (il_A 2 4 0, il_A 0 1 2, il_A 0 0 V, il_A 0 0 0, il_A V V V)) : wpX_spread post (il_A 2 4 0, il_A 0 1 2, il_A 0 0 V, il_A 0 0 0, il_A 0 0 0) (nI 2) := by
  refine nm_r il_V2 ⟨4, ?_⟩
  refine il_sp6n 0 (c := 2) V 2 (il_A 0 0 V) (by omega) (by omega) il_one4 (by decide) il_d2 ?_ rfl ?_ ?_
  · rw [il_A2, il_n0]
    exact hV
  · rw [il_A2, Int32.zero_or, il_u2]
  refine il_sp6n 1 (c := 1) V 1 (il_A 0 V V) (by omega) (by omega) il_one2 (by decide) ?_ ?_ rfl ?_ ?_
  · rw [il_d1, il_n0]
  · rw [il_A1, il_n0]
    exact hV
  · rw [il_A1, Int32.zero_or, il_u1]
  refine il_sp6n 2 (c := 0) V 0 (il_A V V V) (by omega) (by omega) il_one1 (by decide) il_d0 ?_ rfl ?_ ?_
  · rw [il_A0, il_n0]
    exact hV
  · rw [il_A0, Int32.zero_or, il_u0]
  exact il_sp6z hp
/-- a use in block 2, not joined: V comes to be live there alone -/
theorem il_spreadOff {post : St2 → Prop} {V : Int32} (hV : ¬ V = 0) (hp : post (il_A 2 0 0, il_A 0 1 0, il_A 0 0 V, il_A 0 0 0, il_A 0 0 V)) : wpX_spread post (il_A 2 0 0, il_A 0 1 0, il_A 0 0 V, il_A 0 0 0, il_A 0 0 0) (nI 2) := by
  refine nm_r il_V2 ⟨2, ?_⟩
  refine il_sp6n 0 (c := 2) V 0 (il_A 0 0 V) (by omega) (by omega) il_one4 (by decide) il_d2 ?_ rfl ?_ ?_
  · rw [il_A2, il_n0]
    exact hV
  · rw [il_A2, Int32.zero_or, il_u2]
  exact il_sp6z hp
/-! what is taken away -/
theorem il_bh15 {post : Int32 → Prop} {J : Int32 → Int32 → Prop} {x3 f s0 : Int32} {a1 a3 a4 a5 : Nat → Int32} (h0 : s0 = 2 ∨ s0 = 3) (H : J 3 (x3 + 1)) : ∃ n, wX_behind_15 post J x3 a1 (il_A 0 1 f) a3 a4 a5 n s0 0 := by
  refine pk_loop (fun n i s => wX_behind_15 post J x3 a1 (il_A 0 1 f) a3 a4 a5 n s (nI i)) (fun i s => (s = 2 ∧ i ≤ 1) ∨ s = 3) 12 0 s0 (by omega) (h0.imp (fun e => ⟨e, by omega⟩) id) ?_ ?_
  · intro n s h
    refine pk_le 12 12 (fun _ => nm_e ?_) (fun z => absurd z (by omega))
    rcases h with ⟨_, z⟩ | e
    · exact absurd z (by omega)
    · rw [e]
      exact H
  · intro n i s hi h hw
    rcases h with ⟨e, hle⟩ | e
    · subst e
      refine pk_le 12 i (fun z => absurd z (by omega)) (fun _ => ek_if (il_one2 i hi) (fun g => ⟨pk_in i 12 hi, nm_r (e' := 3) ?_ (nm_r (nI_1 i) (hw 3 (Or.inr rfl)))⟩) (fun g => nm_r (nI_1 i) (hw 2 (Or.inl ⟨rfl, by omega⟩))))
      rw [nI_clamp (show i < 2 ^ 31 by omega), g]
      show (2 : Int32) ||| 1 = 3
      decide
    · subst e
      refine pk_le 12 i (fun z => absurd z (by omega)) (fun _ => ek_if (il_three i hi) (fun g => ⟨pk_in i 12 hi, nm_r (e' := 3) ?_ (nm_r (nI_1 i) (hw 3 (Or.inr rfl)))⟩) (fun g => nm_r (nI_1 i) (hw 3 (Or.inr rfl))))
      rw [nI_clamp (show i < 2 ^ 31 by omega)]
      rcases (show i = 0 ∨ i = 1 by omega) with e | e
      · rw [e]
        show (3 : Int32) ||| 0 = 3
        decide
      · rw [e]
        show (3 : Int32) ||| 1 = 3
        decide
theorem il_bh6 {post : Int32 → Prop} {f : Int32} {a1 a3 a4 a5 : Nat → Int32} (hp : post 3) : ∃ n, wX_behind_6 post a1 (il_A 0 1 f) a3 a4 a5 n 2 0 := by
  refine pk_loop (fun n i s => wX_behind_6 post a1 (il_A 0 1 f) a3 a4 a5 n s (nI i)) (fun i s => (s = 2 ∨ s = 3) ∧ (0 < i → s = 3)) 12 0 2 (by omega) ⟨Or.inl rfl, fun z => absurd z (by omega)⟩ ?_ ?_
  · intro n s h
    exact pk_le 12 12 (fun _ => by rw [h.2 (by omega)]; exact hp) (fun z => absurd z (by omega))
  · intro n i s hi h hw
    exact pk_le 12 i (fun z => absurd z (by omega)) (fun _ => il_bh15 h.1 (by rw [nI_1]; exact hw 3 ⟨Or.inr rfl, fun _ => rfl⟩))
theorem il_behind {post : Int32 → Prop} {f : Int32} {a1 a3 a4 a5 : Nat → Int32} (hp : post 3) : wpX_behind post (a1, il_A 0 1 f, a3, a4, a5) (nI 1) := nm_r il_V1 (il_bh6 hp)
theorem il_sh92 {post : St2 → Prop} {J : Int32 → Int32 → (Nat → Int32) → (Nat → Int32) → (Nat → Int32) → (Nat → Int32) → (Nat → Int32) → Prop} {V x6 : Int32} {a1 a2 a3 a4 a5 : Nat → Int32} (hD : ∀ i, i < 2 → il_due a1 a3 a4 a5 i &&& V = 0) (H : J 0 (x6 + 1) a1 a2 a3 a4 a5) : ∃ n, wX_shrink_92 post J V 3 x6 n 0 11 a1 a2 a3 a4 a5 := by
  have e : nI 12 + (-1) = 11 := by decide +kernel
  have m := pk_loopD (σ := Unit) (fun n i _ => wX_shrink_92 post J V 3 x6 n 0 (nI i + (-1)) a1 a2 a3 a4 a5) (fun i _ => i ≤ 12)
    (fun n _ _ => br_t (by decide +kernel) (nm_e H))
    (fun n i _ hi hw => by
      have k : wX_shrink_92 post J V 3 x6 n 0 (nI i + (-1)) a1 a2 a3 a4 a5 := hw () (by omega)
      show wX_shrink_92 post J V 3 x6 (n + 1) 0 (nI (i + 1) + (-1)) a1 a2 a3 a4 a5
      rw [pk_m1]
      exact pk_lt i 0 (fun z => absurd z (by omega)) (fun _ => ek_if (il_three i (by omega)) (fun g => il_wdue (by omega) (nm_r (hD i g) ⟨pk_in i 12 (by omega), br_t Int32.zero_and (nm_e k)⟩)) (fun g => nm_e k)))
    12 () (by omega)
  have m' : wX_shrink_92 post J V 3 x6 13 0 (nI 12 + (-1)) a1 a2 a3 a4 a5 := m
  rw [e] at m'
  exact ⟨13, m'⟩
theorem il_sh72z {post : St2 → Prop} {n : Nat} {V x6 : Int32} {a1 a2 a3 a4 a5 : Nat → Int32} (hp : post (a1, a2, a3, a4, a5)) : wX_shrink_72 post V 3 (n + 1) 0 x6 a1 a2 a3 a4 a5 := br_c (fun _ => hp) (fun _ => br_t rfl hp)
theorem il_sh72s {post : St2 → Prop} {n : Nat} {V : Int32} {a1 a2 a3 a4 a5 : Nat → Int32} (hD : ∀ i, i < 2 → il_due a1 a3 a4 a5 i &&& V = 0) (hp : post (a1, a2, a3, a4, a5)) : wX_shrink_72 post V 3 (n + 1 + 1) 1 0 a1 a2 a3 a4 a5 :=
  pk_le 241 0 (fun z => absurd z (by omega)) (fun _ => br_f (by decide) (il_sh92 hD (il_sh72z hp)))
theorem il_sh24 {post : St2 → Prop} {V : Int32} {a1 a2 a3 a4 : Nat → Int32} (H : ∃ n, wX_shrink_72 post V 3 n 1 0 a1 a2 a3 a4 (il_A 0 0 V)) : ∃ n, wX_shrink_24 post V 3 n 0 a1 a2 a3 a4 (il_A V V V) := by
  refine pk_loop (fun n i s => wX_shrink_24 post V 3 n (nI i) a1 a2 a3 a4 s) (fun i s => (i = 0 ∧ s = il_A V V V) ∨ (i = 1 ∧ s = il_A 0 V V) ∨ (2 ≤ i ∧ s = il_A 0 0 V)) 12 0 (il_A V V V) (by omega) (Or.inl ⟨rfl, rfl⟩) ?_ ?_
  · intro n s h
    refine pk_le 12 12 (fun _ => ?_) (fun z => absurd z (by omega))
    rcases h with ⟨z, _⟩ | ⟨z, _⟩ | ⟨_, e⟩
    · exact absurd z (by omega)
    · exact absurd z (by omega)
    · rw [e]
      exact H
  · intro n i s hi h hw
    refine pk_le 12 i (fun z => absurd z (by omega)) (fun _ => ek_if (il_three i hi) (fun g => ⟨pk_in i 12 hi, pk_in i 12 hi, ?_⟩) (fun g => nm_r (nI_1 i) (hw s (Or.inr (Or.inr ?_)))))
    · rw [nI_clamp (show i < 2 ^ 31 by omega)]
      rcases h with ⟨e, es⟩ | ⟨e, es⟩ | ⟨e, _⟩
      · subst e
        subst es
        exact nm_r (e' := il_A 0 V V) (by rw [il_A0, il_nn, il_u0]) (nm_r (nI_1 0) (hw _ (Or.inr (Or.inl ⟨rfl, rfl⟩))))
      · subst e
        subst es
        exact nm_r (e' := il_A 0 0 V) (by rw [il_A1, il_nn, il_u1]) (nm_r (nI_1 1) (hw _ (Or.inr (Or.inr ⟨by omega, rfl⟩))))
      · exact absurd g (by omega)
    · rcases h with ⟨z, _⟩ | ⟨z, _⟩ | ⟨_, e⟩
      · exact absurd z (by omega)
      · exact absurd z (by omega)
      · exact ⟨by omega, e⟩
theorem il_shrink0 {post : St2 → Prop} {p1 : Int32} {a1 a2 a3 a4 a5 : Nat → Int32} {b : Nat} (hb : b < 12) (h : p1 &&& a5 b = 0) (hp : post (a1, a2, a3, a4, a5)) : wpX_shrink post (a1, a2, a3, a4, a5) (nI b) p1 :=
  ⟨pk_in b 12 hb, nm_r (e' := 0) (by rw [nI_clamp (show b < 2 ^ 31 by omega)]; exact h) (br_t rfl hp)⟩
/-- V was live in all three, and is set in block 1 now: it is taken from 0 and 1 -/
theorem il_shrinkV {post : St2 → Prop} {V : Int32} (hV : ¬ V = 0) (hp : post (il_A 2 4 0, il_A 0 1 2, il_A 0 0 V, il_A 0 V 0, il_A 0 0 V)) : wpX_shrink post (il_A 2 4 0, il_A 0 1 2, il_A 0 0 V, il_A 0 V 0, il_A V V V) (nI 1) V := by
  refine ⟨pk_in 1 12 (by omega), nm_r (e' := V) ?_ (br_f hV (il_behind (il_sh24 ⟨2, il_sh72s ?_ hp⟩)))⟩
  · rw [nI_clamp (show 1 < 2 ^ 31 by omega), il_A1, Int32.and_self]
  · intro i hi
    rcases (show i = 0 ∨ i = 1 by omega) with e | e
    · rw [e, il_d0, Int32.zero_and]
    · rw [e, il_d1, il_nn, Int32.zero_and]
end
section
/-! arc, use, set -/
theorem il_join {post : St2 → Prop} {a1 a2 a3 a4 a5 b1 b2 : Nat → Int32} {a b : Nat} (ha : a < 12) (hb : b < 12) (h0 : ((a1 a >>> (nI b &&& 31)) &&& 1) = 0) (h1 : upd a1 a (a1 a ||| il_V b) = b1) (h2 : upd a2 b (a2 b ||| il_V a) = b2) (hd : il_due b1 a3 a4 a5 a &&& (a5 a ^^^ (-1)) = 0) (hp : post (b1, b2, a3, a4, a5)) : wpX_join post (a1, a2, a3, a4, a5) (nI a) (nI b) := by
  refine ⟨pk_in a 12 ha, br_t ?_ ⟨pk_in a 12 ha, pk_in a 12 ha, nm_r (e' := b1) ?_ ⟨pk_in b 12 hb, pk_in b 12 hb, nm_r (e' := b2) ?_ (il_spread0 ha hd hp)⟩⟩⟩
  · rw [nI_clamp (show a < 2 ^ 31 by omega)]
    exact h0
  · rw [nI_clamp (show a < 2 ^ 31 by omega)]
    exact h1
  · rw [nI_clamp (show b < 2 ^ 31 by omega)]
    exact h2
theorem il_arcJ {post : Int32 → St2 → Prop} {a1 a2 a3 a4 a5 b1 b2 : Nat → Int32} {a b : Nat} {p2 : Int32} (h : ¬ p2 = 0) (ha : a < 12) (hb : b < 12) (h0 : ((a1 a >>> (nI b &&& 31)) &&& 1) = 0) (h1 : upd a1 a (a1 a ||| il_V b) = b1) (h2 : upd a2 b (a2 b ||| il_V a) = b2) (hd : il_due b1 a3 a4 a5 a &&& (a5 a ^^^ (-1)) = 0) (hp : ∀ r, post r (b1, b2, a3, a4, a5)) : wpX_arc post (a1, a2, a3, a4, a5) (nI a) (nI b) p2 := by
  unfold wpX_arc
  dsimp only
  exact il_bad ha (br_t rfl (il_bad hb (br_t rfl ⟨pk_in a 12 ha, nm_e (br_f h (il_join ha hb h0 h1 h2 hd (hp _)))⟩)))
theorem il_arcO {post : Int32 → St2 → Prop} {a1 a2 a3 a4 a5 : Nat → Int32} {a b : Nat} {p2 : Int32} (h : p2 = 0) (ha : a < 12) (hb : b < 12) (h0 : ¬ ((a1 a >>> (nI b &&& 31)) &&& 1) = 1) (hp : ∀ r, post r (a1, a2, a3, a4, a5)) : wpX_arc post (a1, a2, a3, a4, a5) (nI a) (nI b) p2 := by
  unfold wpX_arc
  dsimp only
  exact il_bad ha (br_t rfl (il_bad hb (br_t rfl ⟨pk_in a 12 ha, nm_e (br_t h ⟨pk_in a 12 ha, br_f (by rw [nI_clamp (show a < 2 ^ 31 by omega)]; exact h0) (hp _)⟩)⟩)))
/-- arc(0, 1, 1) over the new object -/
theorem il_arc1 {post : Int32 → St2 → Prop} (hp : ∀ r, post r (il_A 2 0 0, il_A 0 1 0, il_A 0 0 0, il_A 0 0 0, il_A 0 0 0)) : wpX_arc post ((fun _ => 0), (fun _ => 0), (fun _ => 0), (fun _ => 0), (fun _ => 0)) (nI 0) (nI 1) 1 := by
  rw [il_Az]
  refine il_arcJ (by decide) (by omega) (by omega) ?_ ?_ ?_ ?_ hp
  · show (((0 : Int32) >>> (nI 1 &&& 31)) &&& 1) = 0
    decide +kernel
  · rw [il_A0, il_V1, il_u0, Int32.zero_or]
  · rw [il_A1, il_V0, il_u1, Int32.zero_or]
  · rw [il_d0, Int32.zero_and]
/-- arc(1, 2, on) -/
theorem il_arc2 {post : Int32 → St2 → Prop} {p2 : Int32} (h : ¬ p2 = 0) (hp : ∀ r, post r (il_A 2 4 0, il_A 0 1 2, il_A 0 0 0, il_A 0 0 0, il_A 0 0 0)) : wpX_arc post (il_A 2 0 0, il_A 0 1 0, il_A 0 0 0, il_A 0 0 0, il_A 0 0 0) (nI 1) (nI 2) p2 := by
  refine il_arcJ h (by omega) (by omega) ?_ ?_ ?_ ?_ hp
  · show (((0 : Int32) >>> (nI 2 &&& 31)) &&& 1) = 0
    decide +kernel
  · rw [il_A1, il_V2, il_u1, Int32.zero_or]
  · rw [il_A2, il_V1, il_u2, Int32.zero_or]
  · rw [il_d1, Int32.zero_and, Int32.zero_and]
theorem il_arc2o {post : Int32 → St2 → Prop} {p2 : Int32} (h : p2 = 0) (hp : ∀ r, post r (il_A 2 0 0, il_A 0 1 0, il_A 0 0 0, il_A 0 0 0, il_A 0 0 0)) : wpX_arc post (il_A 2 0 0, il_A 0 1 0, il_A 0 0 0, il_A 0 0 0, il_A 0 0 0) (nI 1) (nI 2) p2 := by
  refine il_arcO h (by omega) (by omega) ?_ hp
  show ¬ (((0 : Int32) >>> (nI 2 &&& 31)) &&& 1) = 1
  decide +kernel
theorem il_change {post : St2 → Prop} {a1 a2 a3 a4 a5 b3 b4 c1 c2 c3 c4 c5 d1 d2 d3 d4 d5 : Nat → Int32} {b : Nat} {p1 p2 fw : Int32} (hb : b < 12) (hf : (a3 b &&& (p1 ^^^ (-1))) ||| (p2 &&& (a4 b ^^^ (-1))) = fw) (h3 : upd a3 b p1 = b3) (h4 : upd a4 b p2 = b4)
    (Hsh : ∀ ψ : St2 → Prop, ψ (c1, c2, c3, c4, c5) → wpX_shrink ψ (a1, a2, b3, b4, a5) (nI b) fw)
    (Hsp : ∀ ψ : St2 → Prop, ψ (d1, d2, d3, d4, d5) → wpX_spread ψ (c1, c2, c3, c4, c5) (nI b)) (hp : post (d1, d2, d3, d4, d5)) : wpX_change post (a1, a2, a3, a4, a5) (nI b) p1 p2 := by
  have e : (nI b).toNatClampNeg = b := nI_clamp (by omega)
  refine ⟨pk_in b 12 hb, pk_in b 12 hb, nm_r (e' := fw) ?_ ⟨pk_in b 12 hb, nm_r (e' := b3) ?_ ⟨pk_in b 12 hb, nm_r (e' := b4) ?_ (Hsh _ (Hsp _ hp))⟩⟩⟩
  · rw [e]
    exact hf
  · rw [e]
    exact h3
  · rw [e]
    exact h4
theorem il_use {post : Int32 → St2 → Prop} {a1 a2 a3 a4 a5 d1 d2 d3 d4 d5 : Nat → Int32} {v : Nat} (hv : v < 20) (h3 : a3 2 = 0) (h4 : a4 2 = 0)
    (Hc : ∀ ψ : St2 → Prop, ψ (d1, d2, d3, d4, d5) → wpX_change ψ (a1, a2, a3, a4, a5) (nI 2) (il_V v) 0) (hp : ∀ r, post r (d1, d2, d3, d4, d5)) : wpX_use post (a1, a2, a3, a4, a5) (nI 2) (nI v) 1 := by
  have e : (nI 2).toNatClampNeg = 2 := nI_clamp (by omega)
  unfold wpX_use
  dsimp only
  refine il_bad (b := 2) (by omega) (br_t rfl (il_badV hv (br_t rfl ⟨pk_in 2 12 (by omega), nm_e ⟨pk_in 2 12 (by omega), nm_r (e' := 0) ?_ (br_f (by decide) ⟨pk_in 2 12 (by omega), ?_⟩)⟩⟩)))
  · rw [e, h3, Int32.zero_and]
  · rw [e, h4, Int32.zero_or]
    exact Hc _ (hp _)
theorem il_useO {post : Int32 → St2 → Prop} {a1 a2 a3 a4 a5 : Nat → Int32} {p : Int32} (h : p < 0 ∨ (20 : Int32) ≤ p) (hp : ∀ r, post r (a1, a2, a3, a4, a5)) : wpX_use post (a1, a2, a3, a4, a5) (nI 2) p 1 := by
  unfold wpX_use
  dsimp only
  exact il_bad (b := 2) (by omega) (br_t rfl (il_badVo h (br_f (by decide) (hp _))))
theorem il_set {post : Int32 → St2 → Prop} {a1 a2 a3 a4 a5 d1 d2 d3 d4 d5 : Nat → Int32} {w : Nat} (hw : w < 20) (h3 : a3 1 = 0) (h4 : a4 1 = 0)
    (Hc : ∀ ψ : St2 → Prop, ψ (d1, d2, d3, d4, d5) → wpX_change ψ (a1, a2, a3, a4, a5) (nI 1) 0 (il_V w)) (hp : ∀ r, post r (d1, d2, d3, d4, d5)) : wpX_set post (a1, a2, a3, a4, a5) (nI 1) (nI w) 1 := by
  have e : (nI 1).toNatClampNeg = 1 := nI_clamp (by omega)
  unfold wpX_set
  dsimp only
  refine il_bad (b := 1) (by omega) (br_t rfl (il_badV hw (br_t rfl ⟨pk_in 1 12 (by omega), nm_e ⟨pk_in 1 12 (by omega), nm_r (e' := 0) ?_ ⟨pk_in 1 12 (by omega), br_f (by decide) ?_⟩⟩⟩)))
  · rw [e, h4, Int32.zero_and]
  · unfold wX_set_67
    rw [e, h3, Int32.zero_or]
    exact Hc _ (hp _)
theorem il_setO {post : Int32 → St2 → Prop} {a1 a2 a3 a4 a5 : Nat → Int32} {p : Int32} (h : p < 0 ∨ (20 : Int32) ≤ p) (hp : ∀ r, post r (a1, a2, a3, a4, a5)) : wpX_set post (a1, a2, a3, a4, a5) (nI 1) p 1 := by
  unfold wpX_set
  dsimp only
  exact il_bad (b := 1) (by omega) (br_t rfl (il_badVo h (br_f (by decide) (hp _))))
/-- use(2, v, 1), joined and not -/
theorem il_useOn {post : Int32 → St2 → Prop} {v : Nat} (hv : v < 20) (hp : ∀ r, post r (il_A 2 4 0, il_A 0 1 2, il_A 0 0 (il_V v), il_A 0 0 0, il_A (il_V v) (il_V v) (il_V v))) : wpX_use post (il_A 2 4 0, il_A 0 1 2, il_A 0 0 0, il_A 0 0 0, il_A 0 0 0) (nI 2) (nI v) 1 :=
  il_use hv rfl rfl (fun _ k => il_change (b := 2) (fw := 0) (by omega) (by rw [il_A2, Int32.zero_and, Int32.zero_and, Int32.zero_or]) il_u2 il_u2 (fun _ k2 => il_shrink0 (by omega) Int32.zero_and k2) (fun _ k2 => il_spreadOn (il_Vne v hv) k2) k) hp
theorem il_useOff {post : Int32 → St2 → Prop} {v : Nat} (hv : v < 20) (hp : ∀ r, post r (il_A 2 0 0, il_A 0 1 0, il_A 0 0 (il_V v), il_A 0 0 0, il_A 0 0 (il_V v))) : wpX_use post (il_A 2 0 0, il_A 0 1 0, il_A 0 0 0, il_A 0 0 0, il_A 0 0 0) (nI 2) (nI v) 1 :=
  il_use hv rfl rfl (fun _ k => il_change (b := 2) (fw := 0) (by omega) (by rw [il_A2, Int32.zero_and, Int32.zero_and, Int32.zero_or]) il_u2 il_u2 (fun _ k2 => il_shrink0 (by omega) Int32.zero_and k2) (fun _ k2 => il_spreadOff (il_Vne v hv) k2) k) hp
/-- set(1, w, 1) where w isn't live at the begin of block 1 -/
theorem il_setN {post : Int32 → St2 → Prop} {t f U x y z : Int32} {w : Nat} (hw : w < 20) (hl : il_V w &&& y = 0) (hd : il_due (il_A 2 t 0) (il_A 0 0 U) (il_A 0 (il_V w) 0) (il_A x y z) 1 &&& (y ^^^ (-1)) = 0)
    (hp : ∀ r, post r (il_A 2 t 0, il_A 0 1 f, il_A 0 0 U, il_A 0 (il_V w) 0, il_A x y z)) : wpX_set post (il_A 2 t 0, il_A 0 1 f, il_A 0 0 U, il_A 0 0 0, il_A x y z) (nI 1) (nI w) 1 :=
  il_set hw rfl rfl (fun _ k => il_change (b := 1) (fw := il_V w) (by omega) (by rw [il_A1, il_A1, Int32.zero_and, il_n0, Int32.zero_or]) il_u1 il_u1 (fun _ k2 => il_shrink0 (by omega) hl k2) (fun _ k2 => il_spread0 (by omega) hd k2) k) hp
/-- set(1, v, 1) where v is live in all three -/
theorem il_setV {post : Int32 → St2 → Prop} {v : Nat} (hv : v < 20) (hp : ∀ r, post r (il_A 2 4 0, il_A 0 1 2, il_A 0 0 (il_V v), il_A 0 (il_V v) 0, il_A 0 0 (il_V v))) : wpX_set post (il_A 2 4 0, il_A 0 1 2, il_A 0 0 (il_V v), il_A 0 0 0, il_A (il_V v) (il_V v) (il_V v)) (nI 1) (nI v) 1 :=
  il_set hv rfl rfl (fun _ k => il_change (b := 1) (fw := il_V v) (by omega) (by rw [il_A1, il_A1, Int32.zero_and, il_n0, Int32.zero_or]) il_u1 il_u1 (fun _ k2 => il_shrinkV (il_Vne v hv) k2) (fun _ k2 => il_spread0 (by omega) (by rw [il_d1, il_nn, Int32.zero_and]) k2) k) hp
end
section
/-! the questions -/
theorem il_liveIn {post : Int32 → Prop} {a1 a2 a3 a4 a5 : Nat → Int32} (hp : post (a5 0)) : wpX_liveIn post (a1, a2, a3, a4, a5) (nI 0) := by
  unfold wpX_liveIn
  dsimp only
  exact il_bad (b := 0) (by omega) (br_t rfl ⟨pk_in 0 12 (by omega), by rw [nI_clamp (show 0 < 2 ^ 31 by omega)]; exact hp⟩)
theorem il_liveOut {post : Int32 → Prop} {a1 a2 a3 a4 a5 : Nat → Int32} (hp : post (il_ae (a1 1) a5 12)) : wpX_liveOut post (a1, a2, a3, a4, a5) (nI 1) := by
  unfold wpX_liveOut
  dsimp only
  exact il_bad (b := 1) (by omega) (br_t rfl (il_atEnd (by omega) hp))
/-- the blocks below n at whose begin v is live -/
def il_lb (f : Nat → Int32) (v : Int32) : Nat → Int32
  | 0 => 0
  | n + 1 => if ((f n >>> (v &&& 31)) &&& 1) = 1 then il_lb f v n ||| ((1 : Int32) <<< (nI n &&& 31)) else il_lb f v n
theorem il_lb_s (f : Nat → Int32) (v : Int32) (n : Nat) : il_lb f v (n + 1) = if ((f n >>> (v &&& 31)) &&& 1) = 1 then il_lb f v n ||| ((1 : Int32) <<< (nI n &&& 31)) else il_lb f v n := rfl
theorem il_lb7 : ∀ v, v < 20 → il_lb (il_A (il_V v) (il_V v) (il_V v)) (nI v) 12 = 7 := by decide +kernel
theorem il_lb4 : ∀ v, v < 20 → il_lb (il_A 0 0 (il_V v)) (nI v) 12 = 4 := by decide +kernel
theorem il_lb14 {post : Int32 → Prop} {a1 a2 a3 a4 a5 : Nat → Int32} {v : Int32} (hp : post (il_lb a5 v 12)) : ∃ n, wX_liveBlocks_14 post v a1 a2 a3 a4 a5 n 0 0 := by
  refine pk_loop (fun n i s => wX_liveBlocks_14 post v a1 a2 a3 a4 a5 n s (nI i)) (fun i s => s = il_lb a5 v i) 12 0 0 (by omega) rfl ?_ ?_
  · intro n s h
    exact pk_le 12 12 (fun _ => by rw [h]; exact hp) (fun z => absurd z (by omega))
  · intro n i s hi h hw
    refine pk_le 12 i (fun z => absurd z (by omega)) (fun _ => ⟨pk_in i 12 hi, ?_⟩)
    rw [nI_clamp (show i < 2 ^ 31 by omega)]
    refine br_c (fun g => nm_e (nm_r (nI_1 i) (hw _ ?_))) (fun g => nm_r (nI_1 i) (hw _ ?_))
    · rw [il_lb_s, if_pos g, h]
    · rw [il_lb_s, if_neg g, h]
theorem il_liveBlocks {post : Int32 → Prop} {a1 a2 a3 a4 a5 : Nat → Int32} {v : Nat} (hv : v < 20) (hp : post (il_lb a5 (nI v) 12)) : wpX_liveBlocks post (a1, a2, a3, a4, a5) (nI v) := by
  unfold wpX_liveBlocks
  dsimp only
  exact il_badV hv (br_t rfl (il_lb14 hp))
theorem il_liveBlocksO {post : Int32 → Prop} {a1 a2 a3 a4 a5 : Nat → Int32} {p : Int32} (h : p < 0 ∨ (20 : Int32) ≤ p) (hp : post (-1)) : wpX_liveBlocks post (a1, a2, a3, a4, a5) p := by
  unfold wpX_liveBlocks
  dsimp only
  exact il_badVo h (br_f (by decide) hp)
/-- only block 1 sets anything -/
theorem il_idle_4 {post : Int32 → Prop} {a1 a2 a3 a4 a5 : Nat → Int32} {k : Int32} (h4 : ∀ i, ¬ i = 1 → a4 i = 0) (hk : il_sz (a4 1 &&& (il_ae (a1 1) a5 12 ^^^ (-1))) 20 = k) (hp : post k) : ∃ n, wX_idleSets_4 post a1 a2 a3 a4 a5 n 0 0 := by
  refine pk_loop (fun n i s => wX_idleSets_4 post a1 a2 a3 a4 a5 n s (nI i)) (fun i s => s = if 1 < i then k else 0) 12 0 0 (by omega) rfl ?_ ?_
  · intro n s h
    exact pk_le 12 12 (fun _ => by rw [h, if_pos (by omega)]; exact hp) (fun z => absurd z (by omega))
  · intro n i s hi h hw
    refine pk_le 12 i (fun z => absurd z (by omega)) (fun _ => il_atEnd hi ⟨pk_in i 12 hi, il_sizeOf (nm_e (nm_r (nI_1 i) (hw _ ?_)))⟩)
    rw [nI_clamp (show i < 2 ^ 31 by omega)]
    by_cases e : i = 1
    · rw [h, e, hk, if_neg (by omega), if_pos (by omega), Int32.zero_add]
    · rw [h4 i e, Int32.zero_and, il_sz0, Int32.add_zero, h]
      by_cases g : 1 < i
      · rw [if_pos g, if_pos (by omega)]
      · rw [if_neg g, if_neg (by omega)]
theorem il_idle {post : Int32 → Prop} {a1 a2 a3 a4 a5 : Nat → Int32} {k : Int32} (h4 : ∀ i, ¬ i = 1 → a4 i = 0) (hk : il_sz (a4 1 &&& (il_ae (a1 1) a5 12 ^^^ (-1))) 20 = k) (hp : post k) : wpX_idleSets post (a1, a2, a3, a4, a5) := il_idle_4 h4 hk hp
theorem il_A010 {W : Int32} : ∀ i, ¬ i = 1 → il_A 0 W 0 i = 0 := by
  intro i h
  simp [il_A, h]
theorem il_r124 {post : Int32 → Prop} {x2 x3 : Int32} {a1 a2 a3 a4 a5 : Nat → Int32} {c : Nat} (ho : il_one x3 c) (hb : c < 12 → ((a4 c >>> (x2 &&& 31)) &&& 1) = 1) (hp : post (if c < 12 then il_V c else 0)) : ∃ n, wX_reaching_124 post x2 x3 a1 a2 a3 a4 a5 n 0 0 := by
  refine pk_loop (fun n i s => wX_reaching_124 post x2 x3 a1 a2 a3 a4 a5 n s (nI i)) (fun i s => s = if c < i then il_V c else 0) 12 0 0 (by omega) rfl ?_ ?_
  · intro n s h
    exact pk_le 12 12 (fun _ => by rw [h]; exact hp) (fun z => absurd z (by omega))
  · intro n i s hi h hw
    refine pk_le 12 i (fun z => absurd z (by omega)) (fun _ => ek_if (ho i hi) (fun e => ⟨pk_in i 12 hi, br_t ?_ (nm_e (nm_r (nI_1 i) (hw _ ?_)))⟩) (fun e => nm_r (nI_1 i) (hw _ ?_)))
    · rw [nI_clamp (show i < 2 ^ 31 by omega), e]
      exact hb (by omega)
    · show s ||| il_V i = if c < i + 1 then il_V c else 0
      rw [h, if_neg (by omega), if_pos (by omega), Int32.zero_or, e]
    · rw [h]
      by_cases g : c < i
      · rw [if_pos g, if_pos (by omega)]
      · rw [if_neg g, if_neg (by omega)]
theorem il_r54 {post : Int32 → Prop} {J : Int32 → Int32 → Int32 → Prop} {x2 x3 x4 x5 : Int32} {a1 a2 a3 a4 a5 : Nat → Int32} {c : Nat} (ho : il_one x4 c) (hb : c < 12 → ((a4 c >>> (x2 &&& 31)) &&& 1) = 1) (H : J x3 0 (x5 + 1)) : ∃ n, wX_reaching_54 post J x2 x3 x4 x5 a1 a2 a3 a4 a5 n 0 0 := by
  refine pk_loop (σ := Unit) (fun n i _ => wX_reaching_54 post J x2 x3 x4 x5 a1 a2 a3 a4 a5 n 0 (nI i)) (fun _ _ => True) 12 0 () (by omega) trivial ?_ ?_
  · intro n s h
    exact pk_le 12 12 (fun _ => nm_r Int32.zero_and (nm_e H)) (fun z => absurd z (by omega))
  · intro n i s hi h hw
    refine pk_le 12 i (fun z => absurd z (by omega)) (fun _ => ek_if (ho i hi) (fun e => ⟨pk_in i 12 hi, br_f ?_ (nm_r (nI_1 i) (hw () trivial))⟩) (fun e => nm_r (nI_1 i) (hw () trivial)))
    rw [nI_clamp (show i < 2 ^ 31 by omega), e, hb (by omega)]
    decide
theorem il_r31z {post : Int32 → Prop} {n : Nat} {x2 x3 x5 : Int32} {a1 a2 a3 a4 a5 : Nat → Int32} (H : ∃ m, wX_reaching_124 post x2 x3 a1 a2 a3 a4 a5 m 0 0) : wX_reaching_31 post x2 a1 a2 a3 a4 a5 (n + 1) x3 0 x5 := br_c (fun _ => H) (fun _ => br_t rfl H)
theorem il_r31 {post : Int32 → Prop} {n : Nat} {x2 : Int32} {a1 a2 a3 a4 a5 : Nat → Int32} (hb : ((a4 1 >>> (x2 &&& 31)) &&& 1) = 1) (hp : post 2) : wX_reaching_31 post x2 a1 a2 a3 a4 a5 (n + 1 + 1) 0 2 0 :=
  pk_lt 12 0 (fun z => absurd z (by omega)) (fun _ => br_f (by decide) (nm_r (e' := 2) (by decide) (il_r54 il_one2 (fun _ => hb) (il_r31z (il_r124 il_one2 (fun _ => hb) (by rw [if_pos (by omega), il_V1]; exact hp))))))
theorem il_reachO {post : Int32 → Prop} {a1 a2 a3 a4 a5 : Nat → Int32} {p : Int32} (h : p < 0 ∨ (20 : Int32) ≤ p) (hp : post (-1)) : wpX_reaching post (a1, a2, a3, a4, a5) (nI 2) p := by
  unfold wpX_reaching
  dsimp only
  exact il_bad (b := 2) (by omega) (br_t rfl (il_badVo h (br_f (by decide) hp)))
theorem il_reach0 {post : Int32 → Prop} {a1 a2 a3 a4 a5 : Nat → Int32} {w : Nat} (hw : w < 20) (h2 : a2 2 = 0) (hp : post 0) : wpX_reaching post (a1, a2, a3, a4, a5) (nI 2) (nI w) := by
  unfold wpX_reaching
  dsimp only
  exact il_bad (b := 2) (by omega) (br_t rfl (il_badV hw (br_t rfl ⟨pk_in 2 12 (by omega), nm_r (e' := 0) (by rw [nI_clamp (show 2 < 2 ^ 31 by omega)]; exact h2) ⟨1, il_r31z (il_r124 il_one0 (fun z => absurd z (by omega)) (by rw [if_neg (by omega)]; exact hp))⟩⟩)))
theorem il_reach2 {post : Int32 → Prop} {a1 a2 a3 a4 a5 : Nat → Int32} {w : Nat} (hw : w < 20) (h2 : a2 2 = 2) (hb : ((a4 1 >>> (nI w &&& 31)) &&& 1) = 1) (hp : post 2) : wpX_reaching post (a1, a2, a3, a4, a5) (nI 2) (nI w) := by
  unfold wpX_reaching
  dsimp only
  exact il_bad (b := 2) (by omega) (br_t rfl (il_badV hw (br_t rfl ⟨pk_in 2 12 (by omega), nm_r (e' := 2) (by rw [nI_clamp (show 2 < 2 ^ 31 by omega)]; exact h2) ⟨2, il_r31 hb hp⟩⟩)))
theorem il_pq {q r s : Int32} (hq : q = 0 ∨ q = 1) (hr : r = 0 ∨ r = q) (hs : s = 0 ∨ s = q) : (r ≤ s → r = q → s = q) ∧ (¬ r ≤ s → r = q) := by
  rcases hq with e | e <;> rcases hr with e2 | e2 <;> rcases hs with e3 | e3 <;> subst e <;> subst e2 <;> subst e3 <;> decide
theorem il_pressure_4 {post : Int32 → Prop} {a1 a2 a3 a4 a5 : Nat → Int32} {q : Int32} (hq : q = 0 ∨ q = 1) (h5 : ∀ i, il_sz (a5 i) 20 = 0 ∨ il_sz (a5 i) 20 = q) (h2 : il_sz (a5 2) 20 = q) (hp : post q) : ∃ n, wX_pressure_4 post a1 a2 a3 a4 a5 n 0 0 := by
  refine pk_loop (fun n i s => wX_pressure_4 post a1 a2 a3 a4 a5 n s (nI i)) (fun i s => (s = 0 ∨ s = q) ∧ (2 < i → s = q)) 12 0 0 (by omega) ⟨Or.inl rfl, fun z => absurd z (by omega)⟩ ?_ ?_
  · intro n s h
    exact pk_le 12 12 (fun _ => by rw [h.2 (by omega)]; exact hp) (fun z => absurd z (by omega))
  · intro n i s hi h hw
    refine pk_le 12 i (fun z => absurd z (by omega)) (fun _ => ⟨pk_in i 12 hi, il_sizeOf ?_⟩)
    rw [nI_clamp (show i < 2 ^ 31 by omega)]
    have k := il_pq hq (h5 i) h.1
    refine br_c (fun g => nm_r (nI_1 i) (hw s ⟨h.1, fun z => ?_⟩)) (fun g => nm_r (nI_1 i) (hw _ ⟨h5 i, fun _ => k.2 g⟩))
    by_cases e : i = 2
    · rw [e] at g k
      exact k.1 g h2
    · exact h.2 (by omega)
theorem il_pressure {post : Int32 → Prop} {a1 a2 a3 a4 a5 : Nat → Int32} {q : Int32} (hq : q = 0 ∨ q = 1) (h5 : ∀ i, il_sz (a5 i) 20 = 0 ∨ il_sz (a5 i) 20 = q) (h2 : il_sz (a5 2) 20 = q) (hp : post q) : wpX_pressure post (a1, a2, a3, a4, a5) := il_pressure_4 hq h5 h2 hp
theorem il_szA {x y z q : Int32} (hx : il_sz x 20 = 0 ∨ il_sz x 20 = q) (hy : il_sz y 20 = 0 ∨ il_sz y 20 = q) (hz : il_sz z 20 = q) : ∀ i, il_sz (il_A x y z i) 20 = 0 ∨ il_sz (il_A x y z i) 20 = q := by
  intro i
  unfold il_A
  split
  · exact hx
  · split
    · exact hy
    · split
      · exact Or.inr hz
      · exact Or.inl il_sz0
end
section
/-! the law's last checks, from the last one backwards -/
section
variable {post : Int32 → St0 → Prop} {mc ms kc ks : Nat} {x0 x1 x2 x4 x5 x6 x7 x8 x9 vi wi jn fa ki z0 z1 : Int32}
def il_h9 (x9 vi : Int32) : Prop := x9 = if vi = 0 then 0 else 1
def il_h8 (x8 wi jn : Int32) : Prop := x8 = if wi = 0 then -1 else if jn = 0 then 0 else 2
def il_h7 (x7 wi ki : Int32) : Prop := x7 = if wi = 0 then 0 else if ki = 0 then 1 else 0
def il_h6 (x6 vi fa ki : Int32) : Prop := x6 = if vi = 0 then -1 else if fa = 0 then 4 else if ki = 0 then 7 else 4
def il_h5 (x0 x5 fa : Int32) : Prop := x5 = if fa = 0 then 0 else (1 : Int32) <<< ((x0 &&& 31) &&& 31)
def il_h4 (x0 x4 fa ki : Int32) : Prop := x4 = if fa = 0 then 0 else if ki = 0 then (1 : Int32) <<< ((x0 &&& 31) &&& 31) else 0
theorem il_280 (hp : post 1 ()) (h9 : il_h9 x9 vi) (h : z1 = z0) : wL_lawOf_280 post mc ms x9 vi z0 z1 kc ks := by
  unfold il_h9 at h9
  exact br_t h (br_c (fun e => br_t (by rw [h9, if_pos e]) hp) (fun e => br_t (by rw [h9, if_neg e]) hp))
theorem il_256 (hp : post 1 ()) (h9 : il_h9 x9 vi) (h8 : il_h8 x8 wi jn) (h : z1 = z0) : wL_lawOf_256 post mc ms x8 x9 vi wi jn z0 z1 kc ks := by
  unfold il_h8 at h8
  exact br_t h (br_c (fun e => il_280 hp h9 (by rw [h8, if_pos e])) (fun e => br_c (fun e2 => il_280 hp h9 (by rw [h8, if_neg e, if_pos e2])) (fun e2 => il_280 hp h9 (by rw [h8, if_neg e, if_neg e2]))))
theorem il_255 (hp : post 1 ()) (h9 : il_h9 x9 vi) (h8 : il_h8 x8 wi jn) (h : z0 = 0) : wL_lawOf_255 post mc ms x8 x9 vi wi jn z0 kc ks := by
  unfold wL_lawOf_255
  exact il_256 hp h9 h8 h
theorem il_236 (hp : post 1 ()) (h9 : il_h9 x9 vi) (h8 : il_h8 x8 wi jn) (h7 : il_h7 x7 wi ki) (h : z1 = z0) : wL_lawOf_236 post mc ms x7 x8 x9 vi wi jn ki z0 z1 kc ks := by
  unfold il_h7 at h7
  exact br_t h (br_c (fun e => il_255 hp h9 h8 (by rw [h7, if_pos e])) (fun e => br_c (fun e2 => il_256 hp h9 h8 (by rw [h7, if_neg e, if_pos e2])) (fun e2 => il_255 hp h9 h8 (by rw [h7, if_neg e, if_neg e2]))))
theorem il_202 (hp : post 1 ()) (h9 : il_h9 x9 vi) (h8 : il_h8 x8 wi jn) (h7 : il_h7 x7 wi ki) (h6 : il_h6 x6 vi fa ki) (h : z1 = z0) : wL_lawOf_202 post mc ms x6 x7 x8 x9 vi wi jn fa ki z0 z1 kc ks := by
  unfold il_h6 at h6
  exact br_t h (br_c (fun e => il_236 hp h9 h8 h7 (by rw [h6, if_pos e])) (fun e => br_c (fun e2 => il_236 hp h9 h8 h7 (by rw [h6, if_neg e, if_pos e2])) (fun e2 => br_c (fun e3 => il_236 hp h9 h8 h7 (by rw [h6, if_neg e, if_neg e2, if_pos e3])) (fun e3 => il_236 hp h9 h8 h7 (by rw [h6, if_neg e, if_neg e2, if_neg e3])))))
theorem il_182 (hp : post 1 ()) (h9 : il_h9 x9 vi) (h8 : il_h8 x8 wi jn) (h7 : il_h7 x7 wi ki) (h6 : il_h6 x6 vi fa ki) (h5 : il_h5 x0 x5 fa) (h : z1 = z0) : wL_lawOf_182 post mc ms x0 x5 x6 x7 x8 x9 vi wi jn fa ki z0 z1 kc ks := by
  unfold il_h5 at h5
  exact br_t h (br_c (fun e => il_202 hp h9 h8 h7 h6 (by rw [h5, if_pos e])) (fun e => il_202 hp h9 h8 h7 h6 (by rw [h5, if_neg e])))
theorem il_181 (hp : post 1 ()) (h9 : il_h9 x9 vi) (h8 : il_h8 x8 wi jn) (h7 : il_h7 x7 wi ki) (h6 : il_h6 x6 vi fa ki) (h5 : il_h5 x0 x5 fa) (h : z0 = 0) : wL_lawOf_181 post mc ms x0 x5 x6 x7 x8 x9 vi wi jn fa ki z0 kc ks := by
  unfold wL_lawOf_181
  exact il_182 hp h9 h8 h7 h6 h5 h
/-- what the six answers must be, by the law's five flags -/
def il_ok (x0 x4 x5 x6 x7 x8 x9 vi wi jn fa ki : Int32) : Prop := il_h9 x9 vi ∧ il_h8 x8 wi jn ∧ il_h7 x7 wi ki ∧ il_h6 x6 vi fa ki ∧ il_h5 x0 x5 fa ∧ il_h4 x0 x4 fa ki
theorem il_158 (hp : post 1 ()) (ok : il_ok x0 x4 x5 x6 x7 x8 x9 vi wi jn fa ki) : wL_lawOf_158 post mc ms x0 x4 x5 x6 x7 x8 x9 vi wi jn fa ki kc ks := by
  obtain ⟨h9, h8, h7, h6, h5, h4⟩ := ok
  unfold il_h4 at h4
  exact br_c (fun e => il_181 hp h9 h8 h7 h6 h5 (by rw [h4, if_pos e])) (fun e => br_c (fun e2 => il_182 hp h9 h8 h7 h6 h5 (by rw [h4, if_neg e, if_pos e2])) (fun e2 => il_181 hp h9 h8 h7 h6 h5 (by rw [h4, if_neg e, if_neg e2])))
theorem il_157 (hp : post 1 ()) (hk : ki = 0) (ok : il_ok x0 x4 x5 x6 x7 x8 x9 vi wi jn fa ki) : wL_lawOf_157 post mc ms x0 x4 x5 x6 x7 x8 x9 vi wi jn fa kc ks := by
  subst hk
  unfold wL_lawOf_157
  exact il_158 hp ok
theorem il_141 (hp : post 1 ()) (hk : ki = if fa = 0 then 0 else if x0 = x1 then 1 else 0) (ok : il_ok x0 x4 x5 x6 x7 x8 x9 vi wi jn fa ki) : wL_lawOf_141 post mc ms x0 x1 x4 x5 x6 x7 x8 x9 vi wi jn fa kc ks := by
  refine br_c (fun e => il_157 hp (by rw [hk, if_pos e]) ok) (fun e => br_c (fun e2 => ?_) (fun e2 => il_157 hp (by rw [hk, if_neg e, if_neg e2]) ok))
  rw [if_neg e, if_pos e2] at hk
  subst hk
  exact il_158 hp ok
theorem il_140 (hp : post 1 ()) (hf : fa = 0) (hk : ki = if fa = 0 then 0 else if x0 = x1 then 1 else 0) (ok : il_ok x0 x4 x5 x6 x7 x8 x9 vi wi jn fa ki) : wL_lawOf_140 post mc ms x0 x1 x4 x5 x6 x7 x8 x9 vi wi jn kc ks := by
  subst hf
  unfold wL_lawOf_140
  exact il_141 hp hk ok
theorem il_124 (hp : post 1 ()) (hf : fa = if vi = 0 then 0 else if jn = 0 then 0 else 1) (hk : ki = if fa = 0 then 0 else if x0 = x1 then 1 else 0) (ok : il_ok x0 x4 x5 x6 x7 x8 x9 vi wi jn fa ki) : wL_lawOf_124 post mc ms x0 x1 x4 x5 x6 x7 x8 x9 vi wi jn kc ks := by
  refine br_c (fun e => il_140 hp (by rw [hf, if_pos e]) hk ok) (fun e => br_c (fun e2 => il_140 hp (by rw [hf, if_neg e, if_pos e2]) hk ok) (fun e2 => ?_))
  rw [if_neg e, if_neg e2] at hf
  subst hf
  exact il_141 hp hk ok
theorem il_113 (hp : post 1 ()) (hj : jn = if x2 = 0 then 0 else 1) (hf : fa = if vi = 0 then 0 else if jn = 0 then 0 else 1) (hk : ki = if fa = 0 then 0 else if x0 = x1 then 1 else 0) (ok : il_ok x0 x4 x5 x6 x7 x8 x9 vi wi jn fa ki) : wL_lawOf_113 post mc ms x0 x1 x2 x4 x5 x6 x7 x8 x9 vi wi kc ks := by
  refine br_c (fun e => ?_) (fun e => ?_)
  · rw [if_pos e] at hj
    subst hj
    exact il_124 hp hf hk ok
  · rw [if_neg e] at hj
    subst hj
    exact il_124 hp hf hk ok
theorem il_112 (hp : post 1 ()) (hw : wi = 0) (hj : jn = if x2 = 0 then 0 else 1) (hf : fa = if vi = 0 then 0 else if jn = 0 then 0 else 1) (hk : ki = if fa = 0 then 0 else if x0 = x1 then 1 else 0) (ok : il_ok x0 x4 x5 x6 x7 x8 x9 vi wi jn fa ki) : wL_lawOf_112 post mc ms x0 x1 x2 x4 x5 x6 x7 x8 x9 vi kc ks := by
  subst hw
  unfold wL_lawOf_112
  exact il_113 hp hj hf hk ok
/-- the flag: p is a variable -/
def il_fl (p : Int32) : Int32 := if p < 0 then 0 else if 19 < p then 0 else 1
theorem il_96 (hp : post 1 ()) (hw : wi = il_fl x1) (hj : jn = if x2 = 0 then 0 else 1) (hf : fa = if vi = 0 then 0 else if jn = 0 then 0 else 1) (hk : ki = if fa = 0 then 0 else if x0 = x1 then 1 else 0) (ok : il_ok x0 x4 x5 x6 x7 x8 x9 vi wi jn fa ki) : wL_lawOf_96 post mc ms x0 x1 x2 x4 x5 x6 x7 x8 x9 vi kc ks := by
  unfold il_fl at hw
  refine br_c (fun e => il_112 hp (by rw [hw, if_pos e]) hj hf hk ok) (fun e => br_c (fun e2 => il_112 hp (by rw [hw, if_neg e, if_pos e2]) hj hf hk ok) (fun e2 => ?_))
  rw [if_neg e, if_neg e2] at hw
  subst hw
  exact il_113 hp hj hf hk ok
theorem il_95 (hp : post 1 ()) (hv : vi = 0) (hw : wi = il_fl x1) (hj : jn = if x2 = 0 then 0 else 1) (hf : fa = if vi = 0 then 0 else if jn = 0 then 0 else 1) (hk : ki = if fa = 0 then 0 else if x0 = x1 then 1 else 0) (ok : il_ok x0 x4 x5 x6 x7 x8 x9 vi wi jn fa ki) : wL_lawOf_95 post mc ms x0 x1 x2 x4 x5 x6 x7 x8 x9 kc ks := by
  subst hv
  unfold wL_lawOf_95
  exact il_96 hp hw hj hf hk ok
theorem il_top (hp : post 1 ()) (hv : vi = il_fl x0) (hw : wi = il_fl x1) (hj : jn = if x2 = 0 then 0 else 1) (hf : fa = if vi = 0 then 0 else if jn = 0 then 0 else 1) (hk : ki = if fa = 0 then 0 else if x0 = x1 then 1 else 0) (ok : il_ok x0 x4 x5 x6 x7 x8 x9 vi wi jn fa ki) :
    (x0 < 0 → wL_lawOf_95 post mc ms x0 x1 x2 x4 x5 x6 x7 x8 x9 kc ks) ∧ (¬ x0 < 0 → ((19 < x0 → wL_lawOf_95 post mc ms x0 x1 x2 x4 x5 x6 x7 x8 x9 kc ks) ∧ (¬ 19 < x0 → wL_lawOf_96 post mc ms x0 x1 x2 x4 x5 x6 x7 x8 x9 1 kc ks))) := by
  unfold il_fl at hv
  refine br_c (fun e => il_95 hp (by rw [hv, if_pos e]) hw hj hf hk ok) (fun e => br_c (fun e2 => il_95 hp (by rw [hv, if_neg e, if_pos e2]) hw hj hf hk ok) (fun e2 => ?_))
  rw [if_neg e, if_neg e2] at hv
  subst hv
  exact il_96 hp hw hj hf hk ok
end
theorem il_ix (p : Int32) : (p < 0 ∨ (20 : Int32) ≤ p) ∨ ∃ v : Nat, v < 20 ∧ p = nI v := by
  rcases pk_ix p (n := 20) (by omega) with h | h | h
  · exact Or.inl (Or.inl h)
  · exact Or.inl (Or.inr h)
  · exact Or.inr h
theorem il_flO {p : Int32} (h : p < 0 ∨ (20 : Int32) ≤ p) : 0 = il_fl p := by
  unfold il_fl
  by_cases g : p < 0
  · rw [if_pos g]
  · rw [if_neg g, if_pos (Int32.lt_of_lt_of_le (by decide) (h.resolve_left g))]
theorem il_flI : ∀ v, v < 20 → 1 = il_fl (nI v) := by decide +kernel
theorem il_cell {post : Int32 → Prop} {L : Nat} {xs : Nat → Int32} (k : Nat) (hk : k < 2 ^ 31) (hL : L < 2 ^ 31) (hp : ∀ r, post r) : wpL_cellAt post L xs () (nI k) :=
  pk_le L k (fun _ => hp _) (fun z => ⟨pk_in k L z, hp _⟩)
end
section
/-- one run of the law, by what its calls leave and answer -/
theorem il_run {post : Int32 → St0 → Prop} {mc ms : Nat} {p0 p1 p2 t f U W x y z x' y' r5 r6 r7 r8 r9 vi wi jn fa ki : Int32} (hmc : 6 ≤ mc) (hms : 65 ≤ ms) (hp : post 1 ())
    (hA : ∀ ψ : Int32 → St2 → Prop, (∀ r, ψ r (il_A 2 t 0, il_A 0 1 f, il_A 0 0 0, il_A 0 0 0, il_A 0 0 0)) → wpX_arc ψ (il_A 2 0 0, il_A 0 1 0, il_A 0 0 0, il_A 0 0 0, il_A 0 0 0) (nI 1) (nI 2) p2)
    (hU : ∀ ψ : Int32 → St2 → Prop, (∀ r, ψ r (il_A 2 t 0, il_A 0 1 f, il_A 0 0 U, il_A 0 0 0, il_A x' y' z)) → wpX_use ψ (il_A 2 t 0, il_A 0 1 f, il_A 0 0 0, il_A 0 0 0, il_A 0 0 0) (nI 2) p0 1)
    (hS : ∀ ψ : Int32 → St2 → Prop, (∀ r, ψ r (il_A 2 t 0, il_A 0 1 f, il_A 0 0 U, il_A 0 W 0, il_A x y z)) → wpX_set ψ (il_A 2 t 0, il_A 0 1 f, il_A 0 0 U, il_A 0 0 0, il_A x' y' z) (nI 1) p1 1)
    (hO : il_ae t (il_A x y z) 12 = r5)
    (hB : ∀ ψ : Int32 → Prop, ψ r6 → wpX_liveBlocks ψ (il_A 2 t 0, il_A 0 1 f, il_A 0 0 U, il_A 0 W 0, il_A x y z) p0)
    (hI : il_sz (W &&& (r5 ^^^ (-1))) 20 = r7)
    (hR : ∀ ψ : Int32 → Prop, ψ r8 → wpX_reaching ψ (il_A 2 t 0, il_A 0 1 f, il_A 0 0 U, il_A 0 W 0, il_A x y z) (nI 2) p1)
    (hq : r9 = 0 ∨ r9 = 1) (hx : il_sz x 20 = 0 ∨ il_sz x 20 = r9) (hy : il_sz y 20 = 0 ∨ il_sz y 20 = r9) (hz : il_sz z 20 = r9)
    (hv : vi = il_fl p0) (hw : wi = il_fl p1) (hj : jn = if p2 = 0 then 0 else 1) (hf : fa = if vi = 0 then 0 else if jn = 0 then 0 else 1) (hk : ki = if fa = 0 then 0 else if p0 = p1 then 1 else 0)
    (ok : il_ok p0 x r5 r6 r7 r8 r9 vi wi jn fa ki) : wpL_lawOf post mc ms () p0 p1 p2 := by
  subst hO
  exact ⟨by omega, by omega, 5, 60, by omega, by omega, by omega, by omega, by omega, by omega, by omega, by omega, by omega, by omega, by omega, by omega,
    il_arc1 (fun _ => hA _ (fun _ => hU _ (fun _ => hS _ (fun _ => il_liveIn (il_liveOut (hB _ (il_idle il_A010 hI (hR _ (il_pressure hq (il_szA hx hy hz) hz (il_top hp hv hw hj hf hk ok)))))))))) ⟩
theorem il_lawOf {post : Int32 → St0 → Prop} {mc ms : Nat} (p0 p1 p2 : Int32) (hmc : 6 ≤ mc) (hms : 65 ≤ ms) (hp : post 1 ()) : wpL_lawOf post mc ms () p0 p1 p2 := by
  by_cases h2 : p2 = 0
  · have hj : (0 : Int32) = if p2 = 0 then 0 else 1 := by rw [if_pos h2]
    rcases il_ix p0 with hv | ⟨v, hv, ev⟩
    · rcases il_ix p1 with hw | ⟨w, hw, ew⟩
      · exact il_run (t := 0) (f := 0) (U := 0) (W := 0) (x := 0) (y := 0) (z := 0) (x' := 0) (y' := 0) (fa := 0) (ki := 0) hmc hms hp (fun _ k => il_arc2o h2 k) (fun _ k => il_useO hv k) (fun _ k => il_setO hw k) il_ae0 (fun _ k => il_liveBlocksO hv k) (by decide +kernel) (fun _ k => il_reachO hw k) (Or.inl rfl) (Or.inl il_sz0) (Or.inl il_sz0) il_sz0 (il_flO hv) (il_flO hw) hj rfl rfl ⟨rfl, rfl, rfl, rfl, rfl, rfl⟩
      · subst ew
        exact il_run (t := 0) (f := 0) (U := 0) (W := il_V w) (x := 0) (y := 0) (z := 0) (x' := 0) (y' := 0) (fa := 0) (ki := 0) hmc hms hp (fun _ k => il_arc2o h2 k) (fun _ k => il_useO hv k) (fun _ k => il_setN hw Int32.and_zero (by rw [il_d1o, Int32.zero_and]) k) il_ae0 (fun _ k => il_liveBlocksO hv k) (r7 := 1) (by rw [il_n0, il_szV w hw]) (fun _ k => il_reach0 hw rfl k) (Or.inl rfl) (Or.inl il_sz0) (Or.inl il_sz0) il_sz0 (il_flO hv) (il_flI w hw) hj rfl rfl ⟨rfl, rfl, rfl, rfl, rfl, rfl⟩
    · subst ev
      rcases il_ix p1 with hw | ⟨w, hw, ew⟩
      · exact il_run (t := 0) (f := 0) (U := il_V v) (W := 0) (x := 0) (y := 0) (z := il_V v) (x' := 0) (y' := 0) (fa := 0) (ki := 0) hmc hms hp (fun _ k => il_arc2o h2 k) (fun _ k => il_useOff hv k) (fun _ k => il_setO hw k) il_ae0 (fun _ k => il_liveBlocks hv (by rw [il_lb4 v hv]; exact k)) (by decide +kernel) (fun _ k => il_reachO hw k) (Or.inr rfl) (Or.inl il_sz0) (Or.inl il_sz0) (il_szV v hv) (il_flI v hv) (il_flO hw) hj rfl rfl ⟨rfl, rfl, rfl, rfl, rfl, rfl⟩
      · subst ew
        exact il_run (t := 0) (f := 0) (U := il_V v) (W := il_V w) (x := 0) (y := 0) (z := il_V v) (x' := 0) (y' := 0) (fa := 0) (ki := 0) hmc hms hp (fun _ k => il_arc2o h2 k) (fun _ k => il_useOff hv k) (fun _ k => il_setN hw Int32.and_zero (by rw [il_d1o, Int32.zero_and]) k) il_ae0 (fun _ k => il_liveBlocks hv (by rw [il_lb4 v hv]; exact k)) (r7 := 1) (by rw [il_n0, il_szV w hw]) (fun _ k => il_reach0 hw rfl k) (Or.inr rfl) (Or.inl il_sz0) (Or.inl il_sz0) (il_szV v hv) (il_flI v hv) (il_flI w hw) hj rfl rfl ⟨rfl, rfl, rfl, rfl, rfl, rfl⟩
  · have hj : (1 : Int32) = if p2 = 0 then 0 else 1 := by rw [if_neg h2]
    rcases il_ix p0 with hv | ⟨v, hv, ev⟩
    · rcases il_ix p1 with hw | ⟨w, hw, ew⟩
      · exact il_run (t := 4) (f := 2) (U := 0) (W := 0) (x := 0) (y := 0) (z := 0) (x' := 0) (y' := 0) (fa := 0) (ki := 0) hmc hms hp (fun _ k => il_arc2 h2 k) (fun _ k => il_useO hv k) (fun _ k => il_setO hw k) (r5 := 0) il_ae4 (fun _ k => il_liveBlocksO hv k) (by decide +kernel) (fun _ k => il_reachO hw k) (Or.inl rfl) (Or.inl il_sz0) (Or.inl il_sz0) il_sz0 (il_flO hv) (il_flO hw) hj rfl rfl ⟨rfl, rfl, rfl, rfl, rfl, rfl⟩
      · subst ew
        exact il_run (t := 4) (f := 2) (U := 0) (W := il_V w) (x := 0) (y := 0) (z := 0) (x' := 0) (y' := 0) (fa := 0) (ki := 0) hmc hms hp (fun _ k => il_arc2 h2 k) (fun _ k => il_useO hv k) (fun _ k => il_setN hw Int32.and_zero (by rw [il_d1, Int32.zero_and, Int32.zero_and]) k) (r5 := 0) il_ae4 (fun _ k => il_liveBlocksO hv k) (r7 := 1) (by rw [il_n0, il_szV w hw]) (fun _ k => il_reach2 hw rfl (il_Vbit w hw) k) (Or.inl rfl) (Or.inl il_sz0) (Or.inl il_sz0) il_sz0 (il_flO hv) (il_flI w hw) hj rfl rfl ⟨rfl, rfl, rfl, rfl, rfl, rfl⟩
    · subst ev
      have hV := (il_Vm v hv).symm
      rcases il_ix p1 with hw | ⟨w, hw, ew⟩
      · have ne : ¬ nI v = p1 := fun e => absurd ((il_flO hw).trans ((congrArg il_fl e).symm.trans (il_flI v hv).symm)) (by decide)
        exact il_run (t := 4) (f := 2) (U := il_V v) (W := 0) (x := il_V v) (y := il_V v) (z := il_V v) (x' := il_V v) (y' := il_V v) (fa := 1) (ki := 0) hmc hms hp (fun _ k => il_arc2 h2 k) (fun _ k => il_useOn hv k) (fun _ k => il_setO hw k) (r5 := il_V v) il_ae4 (fun _ k => il_liveBlocks hv (by rw [il_lb7 v hv]; exact k)) (r7 := 0) (by rw [Int32.zero_and, il_sz0]) (fun _ k => il_reachO hw k) (Or.inr rfl) (Or.inr (il_szV v hv)) (Or.inr (il_szV v hv)) (il_szV v hv) (il_flI v hv) (il_flO hw) hj rfl (by rw [if_neg (by decide), if_neg ne]) ⟨rfl, rfl, rfl, rfl, hV, hV⟩
      · subst ew
        by_cases e : v = w
        · subst e
          exact il_run (t := 4) (f := 2) (U := il_V v) (W := il_V v) (x := 0) (y := 0) (z := il_V v) (x' := il_V v) (y' := il_V v) (fa := 1) (ki := 1) hmc hms hp (fun _ k => il_arc2 h2 k) (fun _ k => il_useOn hv k) (fun _ k => il_setV hv k) (r5 := il_V v) il_ae4 (fun _ k => il_liveBlocks hv (by rw [il_lb4 v hv]; exact k)) (r7 := 0) (by rw [il_nn, il_sz0]) (fun _ k => il_reach2 hv rfl (il_Vbit v hv) k) (Or.inr rfl) (Or.inl il_sz0) (Or.inl il_sz0) (il_szV v hv) (il_flI v hv) (il_flI v hv) hj rfl (by rw [if_neg (by decide), if_pos rfl]) ⟨rfl, rfl, rfl, rfl, hV, rfl⟩
        · have ne : ¬ nI v = nI w := fun k => e ((nI_eq (by omega) (by omega)).mp k)
          exact il_run (t := 4) (f := 2) (U := il_V v) (W := il_V w) (x := il_V v) (y := il_V v) (z := il_V v) (x' := il_V v) (y' := il_V v) (fa := 1) (ki := 0) hmc hms hp (fun _ k => il_arc2 h2 k) (fun _ k => il_useOn hv k) (fun _ k => il_setN hw (il_Vo w hw v hv (fun g => e g.symm)) (by rw [il_d1, il_Vd v hv w hw e, il_nn]) k) (r5 := il_V v) il_ae4 (fun _ k => il_liveBlocks hv (by rw [il_lb7 v hv]; exact k)) (r7 := 1) (by rw [il_Vd w hw v hv (fun g => e g.symm), il_szV w hw]) (fun _ k => il_reach2 hw rfl (il_Vbit w hw) k) (Or.inr rfl) (Or.inr (il_szV v hv)) (Or.inr (il_szV v hv)) (il_szV v hv) (il_flI v hv) (il_flI w hw) hj rfl (by rw [if_neg (by decide), if_neg ne]) ⟨rfl, rfl, rfl, rfl, hV, hV⟩
theorem i_vc (xs : Nat → Int32) (L : Nat) (hL : L ≤ 3) : wpL_law (fun r => r = 1) L xs := by
  unfold wpL_law
  exact il_cell 0 (by omega) (by omega) (fun r1 => il_cell 1 (by omega) (by omega) (fun r2 => il_cell 2 (by omega) (by omega) (fun r3 => ⟨44, 704, by omega, by omega, il_lawOf r1 r2 r3 (by omega) (by omega) rfl⟩)))
end
