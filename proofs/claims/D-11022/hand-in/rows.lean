section
/-! bits of numbers below 128, as naturals and as Int32; the picture of a graph: a number c, its row j the seven bits from 7 j on -/
def cd_g (c j : Nat) : Nat := (c >>> (7 * j)) % 128
def cd_t (s v : Nat) : Bool := Nat.beq ((s >>> v) % 2) 1
def cd_no (v : Nat) : Nat := 127 ^^^ (1 <<< v)
def cd_m (a b : Nat) : Nat := (1 <<< (7 * a + b)) ^^^ (1 <<< (7 * b + a))
def cd_i (b : Bool) : Int32 := cond b 1 0
def cd_R (a : Nat → Int32) (c : Nat) : Prop := ∀ j, j < 7 → a j = nI (cd_g c j)
theorem cd_g_lt (c j : Nat) : cd_g c j < 128 := Nat.mod_lt _ (by decide)
theorem cd_andL {x : Nat} (y : Nat) (h : x < 128) : x &&& y < 128 := Nat.lt_of_le_of_lt Nat.and_le_left h
theorem cd_orL {x y : Nat} (h : x < 128) (h2 : y < 128) : x ||| y < 128 := Nat.or_lt_two_pow (n := 7) h h2
theorem cd_xorL {x y : Nat} (h : x < 128) (h2 : y < 128) : x ^^^ y < 128 := Nat.xor_lt_two_pow (n := 7) h h2
theorem cd_pw : ∀ v, v < 7 → 1 <<< v < 128 := by decide
theorem cd_and (a b : Nat) : nI a &&& nI b = nI (a &&& b) := by
  apply Int32.toBitVec_inj.1
  show BitVec.ofNat 32 a &&& BitVec.ofNat 32 b = BitVec.ofNat 32 (a &&& b)
  apply BitVec.eq_of_getLsbD_eq
  intro i hi
  simp [hi]
theorem cd_or (a b : Nat) : nI a ||| nI b = nI (a ||| b) := by
  apply Int32.toBitVec_inj.1
  show BitVec.ofNat 32 a ||| BitVec.ofNat 32 b = BitVec.ofNat 32 (a ||| b)
  apply BitVec.eq_of_getLsbD_eq
  intro i hi
  simp [hi]
theorem cd_xor (a b : Nat) : nI a ^^^ nI b = nI (a ^^^ b) := by
  apply Int32.toBitVec_inj.1
  show BitVec.ofNat 32 a ^^^ BitVec.ofNat 32 b = BitVec.ofNat 32 (a ^^^ b)
  apply BitVec.eq_of_getLsbD_eq
  intro i hi
  simp [hi]
theorem cd_not : ∀ x, x < 128 → ∀ y, y < 128 → nI x &&& (nI y ^^^ (-1)) = nI (x &&& (127 ^^^ y)) := by decide +kernel
theorem cd_one : ∀ v, v < 7 → (1 : Int32) <<< (nI v &&& 31) = nI (1 <<< v) := by decide +kernel
theorem cd_sh : ∀ s, s < 128 → ∀ v, v < 7 → (nI s >>> (nI v &&& 31)) &&& 1 = nI ((s >>> v) % 2) := by decide +kernel
theorem cd_nb : ∀ x, x < 128 → (nI x).toInt8.toInt32 = nI x := by decide +kernel
theorem cd_vb {x : Nat} (h : x < 128) : vp_nar .byte (nI x) = nI x := by rw [vp_nar_byte, cd_nb x h]
/-- 'x & ~(1 << v)' -/
theorem cd_take {x v : Nat} (hx : x < 128) (hv : v < 7) : nI x &&& (((1 : Int32) <<< (nI v &&& 31)) ^^^ (-1)) = nI (x &&& cd_no v) := by
  rw [cd_one v hv, cd_not x hx _ (cd_pw v hv)]
  rfl
theorem cd_put {x v : Nat} (hv : v < 7) : nI x ||| ((1 : Int32) <<< (nI v &&& 31)) = nI (x ||| 1 <<< v) := by
  rw [cd_one v hv, cd_or]
theorem cd_up {k : Nat} (h : k ≤ 6) : nI (6 - k) + 1 = nI (7 - k) := by
  rw [nI_1, show 6 - k + 1 = 7 - k by omega]
theorem cd_cz : cd_i true = 1 := rfl
/-! one bit asked for -/
theorem cd_in {post : Int32 → Prop} {u : St0} {s v : Nat} (hs : s < 128) (hv : v < 7) (h0 : cd_t s v = false → post 0) (h1 : cd_t s v = true → post 1) : wpX_in post u (nI s) (nI v) := by
  unfold wpX_in
  rw [cd_sh s hs v hv]
  have d : (s >>> v) % 2 = 0 ∨ (s >>> v) % 2 = 1 := by omega
  rcases d with e | e
  · rw [e]
    exact br_t rfl (h0 (by unfold cd_t; rw [e]; rfl))
  · rw [e]
    exact br_f (by decide) (h1 (by unfold cd_t; rw [e]; rfl))
/-! the number of ones -/
def cd_on (s : Nat) : Nat → Nat
  | 0 => 0
  | k + 1 => (s >>> (6 - k)) % 2 + cd_on s k
theorem cd_on_le (s k : Nat) : cd_on s k ≤ k := by
  induction k with
  | zero => exact Nat.le_refl 0
  | succ k ih =>
    have h : (s >>> (6 - k)) % 2 < 2 := Nat.mod_lt _ (by decide)
    show (s >>> (6 - k)) % 2 + cd_on s k ≤ k + 1
    omega
theorem cd_ones_l {post : Int32 → Prop} {s : Nat} (hs : s < 128) : ∀ k, k ≤ 7 → ∀ x, post (nI (x + cd_on s k)) → wX_ones_4 post (nI s) (k + 1) (nI x) (nI (7 - k)) := by
  intro k
  induction k with
  | zero =>
    intro _ x hp
    exact br_t (nI_le (Nat.le_refl 7) (by decide)) hp
  | succ k ih =>
    intro hk x hp
    rw [show 7 - (k + 1) = 6 - k by omega]
    refine pk_le 7 (6 - k) (fun z => absurd z (by omega)) (fun _ => ?_)
    rw [cd_sh s hs (6 - k) (by omega)]
    refine nm_r (nI_add _ _) (nm_r (cd_up (by omega)) (ih (by omega) _ ?_))
    rw [Nat.add_assoc]
    exact hp
theorem cd_ones {post : Int32 → Prop} {u : St0} {s : Nat} (hs : s < 128) (hp : post (nI (cd_on s 7))) : wpX_ones post u (nI s) :=
  ⟨8, cd_ones_l hs 7 (Nat.le_refl 7) 0 (by rw [Nat.zero_add]; exact hp)⟩
/-! the first one -/
def cd_fi (s : Nat) : Nat → Nat
  | 0 => 6
  | k + 1 => cond (cd_t s (5 - k)) (5 - k) (cd_fi s k)
theorem cd_fi_lt (s k : Nat) : cd_fi s k < 7 := by
  induction k with
  | zero => exact Nat.lt_succ_self 6
  | succ k ih =>
    show cond (cd_t s (5 - k)) (5 - k) (cd_fi s k) < 7
    cases cd_t s (5 - k)
    · exact ih
    · show 5 - k < 7
      omega
theorem cd_first_l {post : Int32 → Prop} {s : Nat} (hs : s < 128) : ∀ k, k ≤ 6 → post (nI (cd_fi s k)) → wX_first_2 post (nI s) (k + 1) (nI (6 - k)) := by
  intro k
  induction k with
  | zero =>
    intro _ hp
    exact br_t (nI_le (Nat.le_refl 6) (by decide)) hp
  | succ k ih =>
    intro hk hp
    rw [show 6 - (k + 1) = 5 - k by omega]
    refine pk_le 6 (5 - k) (fun z => absurd z (by omega)) (fun _ => cd_in hs (by omega) (fun ht => br_t rfl (nm_r (show nI (5 - k) + 1 = nI (6 - k) by rw [nI_1, show 5 - k + 1 = 6 - k by omega]) (ih (by omega) ?_))) (fun ht => br_f (by decide) ?_))
    · have q : cd_fi s (k + 1) = cd_fi s k := by
        show cond (cd_t s (5 - k)) (5 - k) (cd_fi s k) = _
        rw [ht]
        rfl
      rw [q] at hp
      exact hp
    · have q : cd_fi s (k + 1) = 5 - k := by
        show cond (cd_t s (5 - k)) (5 - k) (cd_fi s k) = _
        rw [ht]
        rfl
      rw [q] at hp
      exact hp
theorem cd_first {post : Int32 → Prop} {u : St0} {s : Nat} (hs : s < 128) (hp : post (nI (cd_fi s 6))) : wpX_first post u (nI s) :=
  ⟨7, cd_first_l hs 6 (Nat.le_refl 6) hp⟩
end
section
/-! the graph: turn, join, joins -/
theorem cd_g_xor (c m j : Nat) : cd_g (c ^^^ m) j = cd_g c j ^^^ cd_g m j := by
  unfold cd_g
  rw [Nat.shiftRight_xor_distrib]
  exact Nat.xor_mod_two_pow (n := 7)
theorem cd_g_m : ∀ a, a < 7 → ∀ b, b < 7 → a ≠ b → ∀ j, j < 7 → cd_g (cd_m a b) j = if j = b then 1 <<< a else if j = a then 1 <<< b else 0 := by decide +kernel
theorem cd_turn {post : St2 → Prop} {f1 f2 f3 : Int32} {a1 a2 a3 a4 a5 a6 a7 : Nat → Int32} {c a b : Nat} (h : cd_R a1 c) (ha : a < 7) (hb : b < 7) (hn : a ≠ b)
    (H : ∀ a', cd_R a' (c ^^^ cd_m a b) → post (f1, f2, f3, a', a2, a3, a4, a5, a6, a7)) :
    wpX_turn post (f1, f2, f3, a1, a2, a3, a4, a5, a6, a7) (nI a) (nI b) := by
  unfold wpX_turn
  refine ⟨pk_in a 7 ha, pk_in a 7 ha, nm_e ⟨pk_in b 7 hb, pk_in b 7 hb, nm_e (H _ ?_)⟩⟩
  intro j hj
  rw [nI_clamp (show a < 2 ^ 31 by omega), nI_clamp (show b < 2 ^ 31 by omega), cd_g_xor, cd_g_m a ha b hb hn j hj]
  by_cases e : j = b
  · rw [e, if_pos rfl, pk_us, pk_un (fun z => hn z.symm), h b hb, cd_one a ha, cd_xor, cd_nb _ (cd_xorL (cd_g_lt c b) (cd_pw a ha))]
  · rw [if_neg e, pk_un e]
    by_cases e2 : j = a
    · rw [e2, if_pos rfl, pk_us, h a ha, cd_one b hb, cd_xor, cd_nb _ (cd_xorL (cd_g_lt c a) (cd_pw b hb))]
    · rw [if_neg e2, pk_un e2, h j hj, Nat.xor_zero]
/-- two different vertices -/
def cd_ok (x y : Int32) : Prop := ∃ a b, a < 7 ∧ b < 7 ∧ a ≠ b ∧ x = nI a ∧ y = nI b
theorem cd_no1 {x y : Int32} (h : x < 0) : ¬ cd_ok x y := by
  rintro ⟨a, b, ha, hb, hn, rfl, rfl⟩
  exact nI_pos (by omega) h
theorem cd_no2 {x y : Int32} (h : nI 7 ≤ x) : ¬ cd_ok x y := by
  rintro ⟨a, b, ha, hb, hn, rfl, rfl⟩
  exact nI_ge ha (by decide) h
theorem cd_no3 {x y : Int32} (h : y < 0) : ¬ cd_ok x y := by
  rintro ⟨a, b, ha, hb, hn, rfl, rfl⟩
  exact nI_pos (by omega) h
theorem cd_no4 {x y : Int32} (h : nI 7 ≤ y) : ¬ cd_ok x y := by
  rintro ⟨a, b, ha, hb, hn, rfl, rfl⟩
  exact nI_ge hb (by decide) h
theorem cd_no5 {x y : Int32} (h : x = y) : ¬ cd_ok x y := by
  rintro ⟨a, b, ha, hb, hn, e1, e2⟩
  rw [e1, e2] at h
  exact hn ((nI_eq (by omega) (by omega)).mp h)
theorem cd_vx {post : Int32 → Prop} {u : St0} {x : Int32} (h0 : x < 0 ∨ nI 7 ≤ x → post 0) (h1 : ∀ a, a < 7 → x = nI a → post 1) : wpX_isVertex post u x := by
  unfold wpX_isVertex
  rcases pk_ix x (n := 7) (by decide) with h | h | ⟨a, ha, e⟩
  · exact br_t h (h0 (Or.inl h))
  · exact br_c (fun z => h0 (Or.inl z)) (fun _ => br_t h (h0 (Or.inr h)))
  · refine br_f ?_ (br_f ?_ (h1 a ha e))
    · rw [e]
      exact nI_pos (by omega)
    · rw [e]
      exact nI_ge ha (by decide)
theorem cd_join {post : Int32 → St2 → Prop} {f1 f2 f3 : Int32} {a1 a2 a3 a4 a5 a6 a7 : Nat → Int32} {c : Nat} {x y : Int32} (h : cd_R a1 c)
    (h0 : ¬ cd_ok x y → post 0 (f1, f2, f3, a1, a2, a3, a4, a5, a6, a7))
    (h1 : ∀ a b, a < 7 → b < 7 → a ≠ b → x = nI a → y = nI b → cd_t (cd_g c a) b = true → post 1 (f1, f2, f3, a1, a2, a3, a4, a5, a6, a7))
    (h2 : ∀ a b, a < 7 → b < 7 → a ≠ b → x = nI a → y = nI b → cd_t (cd_g c a) b = false → ∀ a', cd_R a' (c ^^^ cd_m a b) → post 1 (f1, f2, f3, a', a2, a3, a4, a5, a6, a7)) :
    wpX_join post (f1, f2, f3, a1, a2, a3, a4, a5, a6, a7) x y 1 := by
  unfold wpX_join
  refine cd_vx (fun z => br_t rfl (h0 (z.elim cd_no1 cd_no2))) (fun a ha ea => br_f (by decide) ?_)
  refine cd_vx (fun z => br_t rfl (h0 (z.elim cd_no3 cd_no4))) (fun b hb eb => br_f (by decide) ?_)
  refine br_c (fun z => h0 (cd_no5 z)) (fun hn => ?_)
  have n : a ≠ b := fun z => hn (by rw [ea, eb, z])
  subst ea
  subst eb
  refine ⟨pk_in a 7 ha, ?_⟩
  rw [nI_clamp (show a < 2 ^ 31 by omega), h a ha]
  refine cd_in (cd_g_lt c a) hb (fun ht => br_f (by decide) ?_) (fun ht => br_t rfl (h1 a b ha hb n rfl rfl ht))
  exact cd_turn h ha hb n (fun a' hr => h2 a b ha hb n rfl rfl ht a' hr)
def cd_jo (c : Nat) : Nat → Nat
  | 0 => 0
  | k + 1 => cd_on (cd_g c (6 - k)) 7 + cd_jo c k
theorem cd_jo_le (c k : Nat) : cd_jo c k ≤ 7 * k := by
  induction k with
  | zero => exact Nat.le_refl 0
  | succ k ih =>
    have h := cd_on_le (cd_g c (6 - k)) 7
    show cd_on (cd_g c (6 - k)) 7 + cd_jo c k ≤ 7 * (k + 1)
    omega
theorem cd_joins_l {post : Int32 → Prop} {f1 f2 f3 : Int32} {a1 a2 a3 a4 a5 a6 a7 : Nat → Int32} {c : Nat} (h : cd_R a1 c) :
    ∀ k, k ≤ 7 → ∀ x, x + cd_jo c k < 2 ^ 31 → post (nI ((x + cd_jo c k) / 2)) → wX_joins_4 post f1 f2 f3 a1 a2 a3 a4 a5 a6 a7 (k + 1) (nI x) (nI (7 - k)) := by
  intro k
  induction k with
  | zero =>
    intro _ x hx hp
    refine br_t (nI_le (Nat.le_refl 7) (by decide)) ⟨by decide, ?_⟩
    have e : nI x / 2 = nI (x / 2) := pk_div (d := 2) hx (by decide) (by decide)
    rw [e]
    exact hp
  | succ k ih =>
    intro hk x hx hp
    have q : x + cd_jo c (k + 1) = x + cd_on (cd_g c (6 - k)) 7 + cd_jo c k := by
      show x + (cd_on (cd_g c (6 - k)) 7 + cd_jo c k) = _
      omega
    rw [q] at hx hp
    rw [show 7 - (k + 1) = 6 - k by omega]
    refine pk_le 7 (6 - k) (fun z => absurd z (by omega)) (fun _ => ⟨pk_in (6 - k) 7 (by omega), ?_⟩)
    rw [nI_clamp (show 6 - k < 2 ^ 31 by omega), h (6 - k) (by omega)]
    exact cd_ones (cd_g_lt c _) (nm_r (nI_add _ _) (nm_r (cd_up (by omega)) (ih (by omega) _ hx hp)))
theorem cd_joins {post : Int32 → Prop} {f1 f2 f3 : Int32} {a1 a2 a3 a4 a5 a6 a7 : Nat → Int32} {c : Nat} (h : cd_R a1 c) (hp : post (nI (cd_jo c 7 / 2))) : wpX_joins post (f1, f2, f3, a1, a2, a3, a4, a5, a6, a7) := by
  have b := cd_jo_le c 7
  exact ⟨8, cd_joins_l h 7 (Nat.le_refl 7) 0 (by omega) (by rw [Nat.zero_add]; exact hp)⟩
/-! cliques, easy vertices -/
def cd_cl (c s : Nat) : Nat → Bool
  | 0 => true
  | k + 1 => cond (cd_t s (6 - k)) (cond (Nat.beq ((s &&& (127 ^^^ cd_g c (6 - k))) &&& cd_no (6 - k)) 0) (cd_cl c s k) false) (cd_cl c s k)
theorem cd_cl_0 {c s k : Nat} (h : cd_t s (6 - k) = false) : cd_cl c s (k + 1) = cd_cl c s k := by
  show cond (cd_t s (6 - k)) _ _ = _
  rw [h]
  rfl
theorem cd_cl_1 {c s k : Nat} (h : cd_t s (6 - k) = true) (h2 : (s &&& (127 ^^^ cd_g c (6 - k))) &&& cd_no (6 - k) = 0) : cd_cl c s (k + 1) = cd_cl c s k := by
  show cond (cd_t s (6 - k)) (cond (Nat.beq ((s &&& (127 ^^^ cd_g c (6 - k))) &&& cd_no (6 - k)) 0) _ _) _ = _
  rw [h, h2]
  rfl
theorem cd_bq {n : Nat} (h : n ≠ 0) : Nat.beq n 0 = false := by
  cases n with
  | zero => exact absurd rfl h
  | succ n => rfl
theorem cd_cl_2 {c s k : Nat} (h : cd_t s (6 - k) = true) (h2 : (s &&& (127 ^^^ cd_g c (6 - k))) &&& cd_no (6 - k) ≠ 0) : cd_cl c s (k + 1) = false := by
  show cond (cd_t s (6 - k)) (cond (Nat.beq ((s &&& (127 ^^^ cd_g c (6 - k))) &&& cd_no (6 - k)) 0) _ _) _ = _
  rw [h, cd_bq h2]
  rfl
theorem cd_isC_l {post : Int32 → Prop} {f1 f2 f3 : Int32} {a1 a2 a3 a4 a5 a6 a7 : Nat → Int32} {c s : Nat} (h : cd_R a1 c) (hs : s < 128) :
    ∀ k, k ≤ 7 → post (cd_i (cd_cl c s k)) → wX_isClique_2 post (nI s) f1 f2 f3 a1 a2 a3 a4 a5 a6 a7 (k + 1) (nI (7 - k)) := by
  intro k
  induction k with
  | zero =>
    intro _ hp
    exact br_t (nI_le (Nat.le_refl 7) (by decide)) hp
  | succ k ih =>
    intro hk hp
    rw [show 7 - (k + 1) = 6 - k by omega]
    refine pk_le 7 (6 - k) (fun z => absurd z (by omega)) (fun _ => cd_in hs (by omega) (fun ht => br_t rfl (nm_r (cd_up (by omega)) (ih (by omega) ?_))) (fun ht => br_f (by decide) ⟨pk_in (6 - k) 7 (by omega), ?_⟩))
    · rw [cd_cl_0 ht] at hp
      exact hp
    · rw [nI_clamp (show 6 - k < 2 ^ 31 by omega), h (6 - k) (by omega), cd_not s hs _ (cd_g_lt c _), cd_take (cd_andL _ hs) (by omega)]
      have b := cd_andL (cd_no (6 - k)) (cd_andL (127 ^^^ cd_g c (6 - k)) hs)
      refine pk_eq _ 0 (fun z => nm_r (cd_up (by omega)) (ih (by omega) ?_)) (fun z => ?_)
      · rw [cd_cl_1 ht z] at hp
        exact hp
      · rw [cd_cl_2 ht z] at hp
        exact hp
theorem cd_isC {post : Int32 → Prop} {f1 f2 f3 : Int32} {a1 a2 a3 a4 a5 a6 a7 : Nat → Int32} {c s : Nat} (h : cd_R a1 c) (hs : s < 128) (hp : post (cd_i (cd_cl c s 7))) : wpX_isClique post (f1, f2, f3, a1, a2, a3, a4, a5, a6, a7) (nI s) :=
  ⟨8, cd_isC_l h hs 7 (Nat.le_refl 7) hp⟩
def cd_ez (c v s : Nat) : Bool := cd_cl c (cd_g c v &&& s) 7
theorem cd_nar (b : Bool) : narrow .boolean (.int (cd_i b)) = .int (cd_i b) := by
  cases b
  · rfl
  · rfl
theorem cd_isE {post : Int32 → Prop} {f1 f2 f3 : Int32} {a1 a2 a3 a4 a5 a6 a7 : Nat → Int32} {c v s : Nat} (h : cd_R a1 c) (hv : v < 7) (h0 : cd_ez c v s = false → post 0) (h1 : cd_ez c v s = true → post 1) : wpX_isEasy post (f1, f2, f3, a1, a2, a3, a4, a5, a6, a7) (nI v) (nI s) := by
  unfold wpX_isEasy
  refine ⟨pk_in v 7 hv, ?_⟩
  rw [nI_clamp (show v < 2 ^ 31 by omega), h v hv, cd_and]
  refine cd_isC h (cd_andL s (cd_g_lt c v)) ⟨cd_nar _, ?_⟩
  cases e : cd_cl c (cd_g c v &&& s) 7
  · exact h0 e
  · exact h1 e
/-! core: easy vertices taken away, seven times over -/
def cd_ci (c : Nat) : Nat → Nat → Nat
  | 0, l => l
  | k + 1, l => cd_ci c k (cond (cd_t l (6 - k)) (cond (cd_ez c (6 - k) l) (l &&& cd_no (6 - k)) l) l)
theorem cd_ci_0 {c k l : Nat} (h : cd_t l (6 - k) = false) : cd_ci c (k + 1) l = cd_ci c k l := by
  show cd_ci c k (cond (cd_t l (6 - k)) _ _) = _
  rw [h]
  rfl
theorem cd_ci_1 {c k l : Nat} (h : cd_t l (6 - k) = true) (h2 : cd_ez c (6 - k) l = false) : cd_ci c (k + 1) l = cd_ci c k l := by
  show cd_ci c k (cond (cd_t l (6 - k)) (cond (cd_ez c (6 - k) l) _ _) _) = _
  rw [h, h2]
  rfl
theorem cd_ci_2 {c k l : Nat} (h : cd_t l (6 - k) = true) (h2 : cd_ez c (6 - k) l = true) : cd_ci c (k + 1) l = cd_ci c k (l &&& cd_no (6 - k)) := by
  show cd_ci c k (cond (cd_t l (6 - k)) (cond (cd_ez c (6 - k) l) _ _) _) = _
  rw [h, h2]
  rfl
theorem cd_ci_lt {c : Nat} : ∀ k l, l < 128 → cd_ci c k l < 128 := by
  intro k
  induction k with
  | zero => exact fun l h => h
  | succ k ih =>
    intro l h
    cases ht : cd_t l (6 - k)
    · rw [cd_ci_0 ht]
      exact ih l h
    · cases he : cd_ez c (6 - k) l
      · rw [cd_ci_1 ht he]
        exact ih l h
      · rw [cd_ci_2 ht he]
        exact ih _ (cd_andL _ h)
theorem cd_core_l {post : Int32 → Prop} {J : Int32 → Int32 → Prop} {x2 f1 f2 f3 : Int32} {a1 a2 a3 a4 a5 a6 a7 : Nat → Int32} {c : Nat} (h : cd_R a1 c) :
    ∀ k, k ≤ 7 → ∀ l, l < 128 → J (nI (cd_ci c k l)) (x2 + 1) → wX_core_13 post J x2 f1 f2 f3 a1 a2 a3 a4 a5 a6 a7 (k + 1) (nI l) (nI (7 - k)) := by
  intro k
  induction k with
  | zero =>
    intro _ l hl hp
    exact br_t (nI_le (Nat.le_refl 7) (by decide)) (nm_e hp)
  | succ k ih =>
    intro hk l hl hp
    rw [show 7 - (k + 1) = 6 - k by omega]
    refine pk_le 7 (6 - k) (fun z => absurd z (by omega)) (fun _ => cd_in hl (by omega) (fun ht => br_t rfl (nm_r (cd_up (by omega)) (ih (by omega) l hl ?_))) (fun ht => br_f (by decide) (cd_isE h (by omega) (fun he => br_t rfl (nm_r (cd_up (by omega)) (ih (by omega) l hl ?_))) (fun he => br_f (by decide) (nm_r (cd_take hl (by omega)) (nm_r (cd_up (by omega)) (ih (by omega) _ (cd_andL _ hl) ?_)))))))
    · rw [cd_ci_0 ht] at hp
      exact hp
    · rw [cd_ci_1 ht he] at hp
      exact hp
    · rw [cd_ci_2 ht he] at hp
      exact hp
def cd_co (c : Nat) : Nat → Nat → Nat
  | 0, l => l
  | k + 1, l => cd_co c k (cd_ci c 7 l)
theorem cd_co_lt {c : Nat} : ∀ k l, l < 128 → cd_co c k l < 128 := by
  intro k
  induction k with
  | zero => exact fun l h => h
  | succ k ih => exact fun l h => ih _ (cd_ci_lt 7 l h)
theorem cd_core_o {post : Int32 → Prop} {f1 f2 f3 : Int32} {a1 a2 a3 a4 a5 a6 a7 : Nat → Int32} {c : Nat} (h : cd_R a1 c) :
    ∀ k, k ≤ 7 → ∀ l, l < 128 → post (nI (cd_co c k l)) → wX_core_5 post f1 f2 f3 a1 a2 a3 a4 a5 a6 a7 (k + 1) (nI l) (nI (7 - k)) := by
  intro k
  induction k with
  | zero =>
    intro _ l hl hp
    exact br_t (nI_le (Nat.le_refl 7) (by decide)) hp
  | succ k ih =>
    intro hk l hl hp
    rw [show 7 - (k + 1) = 6 - k by omega]
    refine pk_le 7 (6 - k) (fun z => absurd z (by omega)) (fun _ => ⟨8, cd_core_l h 7 (Nat.le_refl 7) l hl ?_⟩)
    rw [cd_up (by omega)]
    exact ih (by omega) _ (cd_ci_lt 7 l hl) hp
theorem cd_core {post : Int32 → Prop} {f1 f2 f3 : Int32} {a1 a2 a3 a4 a5 a6 a7 : Nat → Int32} {c : Nat} (h : cd_R a1 c) (hp : post (nI (cd_co c 7 127))) : wpX_core post (f1, f2, f3, a1, a2, a3, a4, a5, a6, a7) :=
  ⟨8, cd_core_o h 7 (Nat.le_refl 7) 127 (by decide) hp⟩
def cd_ne (c : Nat) : Bool := Nat.beq (cd_co c 7 127) 0
theorem cd_neat {post : Int32 → Prop} {f1 f2 f3 : Int32} {a1 a2 a3 a4 a5 a6 a7 : Nat → Int32} {c : Nat} (h : cd_R a1 c) (hp : post (cd_i (cd_ne c))) : wpX_neat post (f1, f2, f3, a1, a2, a3, a4, a5, a6, a7) := by
  unfold wpX_neat
  have b := cd_co_lt (c := c) 7 127 (by decide)
  refine cd_core h (pk_eq _ 0 (fun z => ?_) (fun z => ?_))
  · unfold cd_ne at hp
    rw [z] at hp
    exact hp
  · unfold cd_ne at hp
    rw [cd_bq z] at hp
    exact hp
def cd_ea (c : Nat) : Nat → Nat → Nat
  | 0, s => s
  | k + 1, s => cd_ea c k (s ||| cond (cd_ez c (6 - k) 127) (1 <<< (6 - k)) 0)
theorem cd_easy_l {post : Int32 → Prop} {f1 f2 f3 : Int32} {a1 a2 a3 a4 a5 a6 a7 : Nat → Int32} {c : Nat} (h : cd_R a1 c) :
    ∀ k, k ≤ 7 → ∀ s, post (nI (cd_ea c k s)) → wX_easy_4 post f1 f2 f3 a1 a2 a3 a4 a5 a6 a7 (k + 1) (nI s) (nI (7 - k)) := by
  intro k
  induction k with
  | zero =>
    intro _ s hp
    exact br_t (nI_le (Nat.le_refl 7) (by decide)) hp
  | succ k ih =>
    intro hk s hp
    rw [show 7 - (k + 1) = 6 - k by omega]
    have q : cd_ea c (k + 1) s = cd_ea c k (s ||| cond (cd_ez c (6 - k) 127) (1 <<< (6 - k)) 0) := rfl
    rw [q] at hp
    refine pk_le 7 (6 - k) (fun z => absurd z (by omega)) (fun _ => cd_isE (s := 127) h (by omega) (fun he => br_t rfl (nm_r (cd_or s 0) (nm_r (cd_up (by omega)) (ih (by omega) _ ?_)))) (fun he => br_f (by decide) (nm_r (cd_put (by omega)) (nm_r (cd_up (by omega)) (ih (by omega) _ ?_)))))
    · rw [he] at hp
      exact hp
    · rw [he] at hp
      exact hp
theorem cd_easy {post : Int32 → Prop} {f1 f2 f3 : Int32} {a1 a2 a3 a4 a5 a6 a7 : Nat → Int32} {c : Nat} (h : cd_R a1 c) (hp : post (nI (cd_ea c 7 0))) : wpX_easy post (f1, f2, f3, a1, a2, a3, a4, a5, a6, a7) :=
  ⟨8, cd_easy_l h 7 (Nat.le_refl 7) 0 hp⟩
end
section
/-! what is seen: an array that holds H -/
def cd_H (a : Nat → Int32) (H : Nat → Nat) : Prop := ∀ j, j < 7 → a j = nI (H j)
theorem cd_fill {a : Nat → Int32} {H : Nat → Nat} {k : Nat} {x : Int32} (hk : k ≤ 6) (h : ∀ j, j < 6 - k → a j = nI (H j)) (hx : x = nI (H (6 - k))) : ∀ j, j < 7 - k → upd a (6 - k) x j = nI (H j) := by
  intro j hj
  by_cases e : j = 6 - k
  · rw [e, pk_us, hx]
  · rw [pk_un e]
    exact h j (by omega)
theorem cd_look_l {post : St2 → Prop} {f1 f2 f3 : Int32} {a1 a3 a4 a5 a6 a7 : Nat → Int32} {c : Nat} (h : cd_R a1 c) (hp : ∀ a2, cd_H a2 (cd_g c) → post (f1, f2, f3, a1, a2, a3, a4, a5, a6, a7)) :
    ∀ k, k ≤ 7 → ∀ a2, (∀ j, j < 7 - k → a2 j = nI (cd_g c j)) → wX_lookPlainly_2 post f1 f2 f3 (k + 1) (nI (7 - k)) a1 a2 a3 a4 a5 a6 a7 := by
  intro k
  induction k with
  | zero =>
    intro _ a2 hq
    exact br_t (nI_le (Nat.le_refl 7) (by decide)) (hp a2 hq)
  | succ k ih =>
    intro hk a2 hq
    rw [show 7 - (k + 1) = 6 - k by omega] at hq ⊢
    refine pk_le 7 (6 - k) (fun z => absurd z (by omega)) (fun _ => ⟨pk_in (6 - k) 7 (by omega), pk_in (6 - k) 7 (by omega), ?_⟩)
    rw [nI_clamp (show 6 - k < 2 ^ 31 by omega), h (6 - k) (by omega), cd_vb (cd_g_lt c _)]
    exact nm_e (nm_r (cd_up (by omega)) (ih (by omega) _ (cd_fill (by omega) hq rfl)))
theorem cd_look {post : St2 → Prop} {f1 f2 f3 : Int32} {a1 a2 a3 a4 a5 a6 a7 : Nat → Int32} {c : Nat} (h : cd_R a1 c) (hp : ∀ a2, cd_H a2 (cd_g c) → post (f1, f2, f3, a1, a2, a3, a4, a5, a6, a7)) : wpX_lookPlainly post (f1, f2, f3, a1, a2, a3, a4, a5, a6, a7) :=
  ⟨8, cd_look_l h hp 7 (Nat.le_refl 7) a2 (fun j hj => absurd hj (by omega))⟩
theorem cd_push {post : St2 → Prop} {l f : Int32} {a1 a2 a3 a4 a5 a6 a7 : Nat → Int32} {k h c p : Nat} (hk : k < 64) (hh : h < 128) (hc : c < 128) (hp : p < 128)
    (H : post (nI (k + 1), l, f, a1, a2, upd a3 k (nI h), upd a4 k (nI c), upd a5 k (nI p), a6, a7)) : wpX_pushBranch post (nI k, l, f, a1, a2, a3, a4, a5, a6, a7) (nI h) (nI c) (nI p) := by
  unfold wpX_pushBranch
  dsimp only
  rw [nI_clamp (show k < 2 ^ 31 by omega), cd_nb h hh, cd_nb c hc, cd_nb p hp]
  exact ⟨pk_in k 64 hk, nm_e ⟨pk_in k 64 hk, nm_e ⟨pk_in k 64 hk, nm_e (nm_r (nI_1 k) H)⟩⟩⟩
/-! the branches still to be looked at, as a list of (have, can, before), the last one first -/
def cd_S (a3 a4 a5 : Nat → Int32) : List (Nat × Nat × Nat) → Nat → Prop
  | [], k => k = 0
  | (h, c, p) :: st, k => ∃ i, k = i + 1 ∧ h < 128 ∧ c < 128 ∧ p < 128 ∧ a3 i = nI h ∧ a4 i = nI c ∧ a5 i = nI p ∧ cd_S a3 a4 a5 st i
theorem cd_S_up {a3 a4 a5 : Nat → Int32} {x y z : Int32} {m : Nat} : ∀ (st : List (Nat × Nat × Nat)) (k : Nat), k ≤ m → cd_S a3 a4 a5 st k → cd_S (upd a3 m x) (upd a4 m y) (upd a5 m z) st k := by
  intro st
  induction st with
  | nil => exact fun k _ h => h
  | cons e st ih =>
    obtain ⟨h, c, p⟩ := e
    rintro k hk ⟨i, e, h1, h2, h3, h4, h5, h6, h7⟩
    have n : i ≠ m := by omega
    exact ⟨i, e, h1, h2, h3, (pk_un n).trans h4, (pk_un n).trans h5, (pk_un n).trans h6, ih i (by omega) h7⟩
theorem cd_S_push {a3 a4 a5 : Nat → Int32} {st : List (Nat × Nat × Nat)} {k h c p : Nat} (hs : cd_S a3 a4 a5 st k) (h1 : h < 128) (h2 : c < 128) (h3 : p < 128) : cd_S (upd a3 k (nI h)) (upd a4 k (nI c)) (upd a5 k (nI p)) ((h, c, p) :: st) (k + 1) :=
  ⟨k, rfl, h1, h2, h3, pk_us, pk_us, pk_us, cd_S_up st k (Nat.le_refl k) hs⟩
def cd_ex (H : Nat → Nat) : Nat → Nat → List (Nat × Nat × Nat) → Nat → Nat → Option (Nat × Nat)
  | 0, _, [], l, f => some (l, f)
  | 0, _, _ :: _, _, _ => none
  | _ + 1, _, [], l, f => some (l, f)
  | n + 1, k, (h, c, p) :: st, l, f => cond (Nat.beq c 0) (cd_ex H n (k - 1) st (cond (Nat.ble (cd_on h 7) l) l (cd_on h 7)) (f + cond (Nat.beq p 0) 1 0))
      (cond (Nat.ble k 60) (cd_ex H n (k + 1) ((h ||| 1 <<< cd_fi c 6, c &&& H (cd_fi c 6), p &&& H (cd_fi c 6)) :: (h, c &&& cd_no (cd_fi c 6), p ||| 1 <<< cd_fi c 6) :: st) l f) none)
theorem cd_109 {post : St2 → Prop} {J : Int32 → Int32 → Int32 → Int32 → (Nat → Int32) → (Nat → Int32) → (Nat → Int32) → (Nat → Int32) → (Nat → Int32) → (Nat → Int32) → (Nat → Int32) → Prop} {r p f : Nat} {z k l : Int32} {a1 a2 a3 a4 a5 a6 a7 : Nat → Int32} (hp : p < 128)
    (H : J (nI (r + 1)) k z (nI (f + cond (Nat.beq p 0) 1 0)) a1 a2 a3 a4 a5 a6 a7) : wX_explore_109 post J (nI r) (nI p) z k l (nI f) a1 a2 a3 a4 a5 a6 a7 := by
  unfold wX_explore_109
  refine pk_eq p 0 (fun e => nm_r (nI_1 f) (nm_r (nI_1 r) ?_)) (fun e => nm_r (nI_add f 0) (nm_r (nI_1 r) ?_))
  · rw [e] at H
    exact H
  · rw [cd_bq e] at H
    exact H
theorem cd_ex_l {post : St2 → Prop} {H : Nat → Nat} {L F : Nat} {a1 a2 a6 a7 : Nat → Int32} (hH : cd_H a2 H)
    (hp : ∀ a3 a4 a5, post (0, nI L, nI F, a1, a2, a3, a4, a5, a6, a7)) :
    ∀ n r k st l f a3 a4 a5, r + n = 256 → k ≤ 62 → l ≤ 7 → cd_S a3 a4 a5 st k → cd_ex H n k st l f = some (L, F) → wX_explore_25 post (n + 1) (nI r) (nI k) (nI l) (nI f) a1 a2 a3 a4 a5 a6 a7 := by
  intro n
  induction n with
  | zero =>
    intro r k st l f a3 a4 a5 hr hk hl hs hx
    cases st with
    | nil =>
      have e0 : k = 0 := hs
      have e1 : some (l, f) = some (L, F) := hx
      injection e1 with e2
      injection e2 with e3 e4
      subst e0 e3 e4
      have e5 : r = 256 := by omega
      subst e5
      exact br_t (nI_le (Nat.le_refl 256) (by decide)) (hp a3 a4 a5)
    | cons e st =>
      have e1 : none = some (L, F) := hx
      exact absurd e1 (by intro z; cases z)
  | succ n ih =>
    intro r k st l f a3 a4 a5 hr hk hl hs hx
    refine pk_le 256 r (fun z => absurd z (by omega)) (fun _ => ?_)
    cases st with
    | nil =>
      have e0 : k = 0 := hs
      have e1 : some (l, f) = some (L, F) := hx
      injection e1 with e2
      injection e2 with e3 e4
      subst e0 e3 e4
      exact br_t (by decide) (hp a3 a4 a5)
    | cons e st =>
      obtain ⟨h, c, p⟩ := e
      obtain ⟨i, rfl, h1, h2, h3, h4, h5, h6, h7⟩ := hs
      have hx' : cond (Nat.beq c 0) (cd_ex H n i st (cond (Nat.ble (cd_on h 7) l) l (cd_on h 7)) (f + cond (Nat.beq p 0) 1 0))
          (cond (Nat.ble (i + 1) 60) (cd_ex H n (i + 1 + 1) ((h ||| 1 <<< cd_fi c 6, c &&& H (cd_fi c 6), p &&& H (cd_fi c 6)) :: (h, c &&& cd_no (cd_fi c 6), p ||| 1 <<< cd_fi c 6) :: st) l f) none) = some (L, F) := hx
      have ci : (nI i).toNatClampNeg = i := nI_clamp (by omega)
      refine pk_le (i + 1) 0 (fun z => absurd z (by omega)) (fun _ => nm_r (nI_pred i) ⟨pk_in i 64 (by omega), nm_r (show a3 (nI i).toNatClampNeg = nI h by rw [ci]; exact h4) ⟨pk_in i 64 (by omega), nm_r (show a4 (nI i).toNatClampNeg = nI c by rw [ci]; exact h5) ⟨pk_in i 64 (by omega), nm_r (show a5 (nI i).toNatClampNeg = nI p by rw [ci]; exact h6) ?_⟩⟩⟩)
      refine pk_eq c 0 (fun z => cd_ones h1 ?_) (fun z => cd_first h2 ?_)
      · rw [z] at hx'
        have o := cd_on_le h 7
        refine pk_le (cd_on h 7) l (fun q => cd_109 h3 ?_) (fun q => cd_109 h3 ?_)
        · have e : cond (Nat.ble (cd_on h 7) l) l (cd_on h 7) = l := by
            rw [Nat.ble_eq_true_of_le q]
            rfl
          rw [e] at hx'
          exact ih (r + 1) i st l _ a3 a4 a5 (by omega) (by omega) hl h7 hx'
        · have e : cond (Nat.ble (cd_on h 7) l) l (cd_on h 7) = cd_on h 7 := by
            cases b : Nat.ble (cd_on h 7) l
            · rfl
            · exact absurd (Nat.le_of_ble_eq_true b) (by omega)
          rw [e] at hx'
          exact ih (r + 1) i st _ _ a3 a4 a5 (by omega) (by omega) o h7 hx'
      · rw [cd_bq z] at hx'
        have hv := cd_fi_lt c 6
        rw [cd_take h2 hv, cd_put hv, cd_put hv]
        cases b : Nat.ble (i + 1) 60
        · rw [b] at hx'
          have e1 : none = some (L, F) := hx'
          exact absurd e1 (by intro z; cases z)
        · rw [b] at hx'
          have bi := Nat.le_of_ble_eq_true b
          have hw := cd_pw _ hv
          refine cd_push (by omega) h1 (cd_andL _ h2) (cd_orL h3 hw) ⟨pk_in _ 7 hv, pk_in _ 7 hv, ?_⟩
          rw [nI_clamp (show cd_fi c 6 < 2 ^ 31 by omega), hH _ hv, cd_and, cd_and]
          refine cd_push (by omega) (cd_orL h1 hw) (cd_andL _ h2) (cd_andL _ h3) (nm_r (nI_1 r) ?_)
          exact ih (r + 1) (i + 1 + 1) _ l f _ _ _ (by omega) (by omega) hl (cd_S_push (cd_S_push h7 h1 (cd_andL _ h2) (cd_orL h3 hw)) (cd_orL h1 hw) (cd_andL _ h2) (cd_andL _ h3)) hx'
def cd_run (H : Nat → Nat) : Option (Nat × Nat) := cd_ex H 256 1 [(0, 127, 0)] 0 0
theorem cd_explore {post : St2 → Prop} {f1 f2 f3 : Int32} {H : Nat → Nat} {L F : Nat} {a1 a2 a3 a4 a5 a6 a7 : Nat → Int32} (hH : cd_H a2 H) (hx : cd_run H = some (L, F))
    (hp : ∀ a3 a4 a5, post (0, nI L, nI F, a1, a2, a3, a4, a5, a6, a7)) : wpX_explore post (f1, f2, f3, a1, a2, a3, a4, a5, a6, a7) := by
  unfold wpX_explore
  refine cd_push (k := 0) (h := 0) (c := 127) (p := 0) (by decide) (by decide) (by decide) (by decide) ⟨257, ?_⟩
  exact cd_ex_l hH hp 256 0 1 [(0, 127, 0)] 0 0 _ _ _ rfl (by decide) (by decide) (cd_S_push (st := []) rfl (by decide) (by decide) (by decide)) hx
theorem cd_lclique {post : Int32 → St2 → Prop} {f1 f2 f3 : Int32} {c L F : Nat} {a1 a2 a3 a4 a5 a6 a7 : Nat → Int32} (h : cd_R a1 c) (hx : cd_run (cd_g c) = some (L, F))
    (hp : ∀ a2 a3 a4 a5, post (nI L) (0, nI L, nI F, a1, a2, a3, a4, a5, a6, a7)) : wpX_largestClique post (f1, f2, f3, a1, a2, a3, a4, a5, a6, a7) := by
  unfold wpX_largestClique
  exact cd_look h (fun b2 hb => cd_explore hb hx (fun b3 b4 b5 => hp b2 b3 b4 b5))
theorem cd_full {post : Int32 → St2 → Prop} {f1 f2 f3 : Int32} {c L F : Nat} {a1 a2 a3 a4 a5 a6 a7 : Nat → Int32} (h : cd_R a1 c) (hx : cd_run (cd_g c) = some (L, F))
    (hp : ∀ a2 a3 a4 a5, post (nI F) (0, nI L, nI F, a1, a2, a3, a4, a5, a6, a7)) : wpX_fullCliques post (f1, f2, f3, a1, a2, a3, a4, a5, a6, a7) := by
  unfold wpX_fullCliques
  exact cd_look h (fun b2 hb => cd_explore hb hx (fun b3 b4 b5 => hp b2 b3 b4 b5))
theorem cd_colours {post : Int32 → St2 → Prop} {f1 f2 f3 : Int32} {c L F : Nat} {a1 a2 a3 a4 a5 a6 a7 : Nat → Int32} (h : cd_R a1 c) (hx : cd_run (cd_g c) = some (L, F)) (hn : cd_ne c = true)
    (hp : ∀ a2 a3 a4 a5, post (nI L) (0, nI L, nI F, a1, a2, a3, a4, a5, a6, a7)) : wpX_colours post (f1, f2, f3, a1, a2, a3, a4, a5, a6, a7) := by
  unfold wpX_colours
  refine cd_lclique h hx (fun b2 b3 b4 b5 => cd_neat h ?_)
  rw [hn]
  exact br_f (by decide) (hp b2 b3 b4 b5)
/-- the vertices that v isn't joined to, without v -/
def cd_far (c v : Nat) : Nat := (127 &&& (127 ^^^ cd_g c v)) &&& cd_no v
theorem cd_apart_l {post : Int32 → St2 → Prop} {f1 f2 f3 : Int32} {c L F : Nat} {a1 a3 a4 a5 a6 a7 : Nat → Int32} (h : cd_R a1 c) (hx : cd_run (cd_far c) = some (L, F))
    (hp : ∀ a2 a3 a4 a5, post (nI L) (0, nI L, nI F, a1, a2, a3, a4, a5, a6, a7)) :
    ∀ k, k ≤ 7 → ∀ a2, (∀ j, j < 7 - k → a2 j = nI (cd_far c j)) → wX_largestApart_2 post f1 f2 f3 (k + 1) (nI (7 - k)) a1 a2 a3 a4 a5 a6 a7 := by
  intro k
  induction k with
  | zero =>
    intro _ a2 hq
    exact br_t (nI_le (Nat.le_refl 7) (by decide)) (cd_explore hq hx (fun b3 b4 b5 => hp a2 b3 b4 b5))
  | succ k ih =>
    intro hk a2 hq
    rw [show 7 - (k + 1) = 6 - k by omega] at hq ⊢
    refine pk_le 7 (6 - k) (fun z => absurd z (by omega)) (fun _ => ⟨pk_in (6 - k) 7 (by omega), pk_in (6 - k) 7 (by omega), ?_⟩)
    have e : (127 : Int32) &&& (nI (cd_g c (6 - k)) ^^^ (-1)) = nI (127 &&& (127 ^^^ cd_g c (6 - k))) := cd_not 127 (by decide) _ (cd_g_lt c _)
    have b : 127 &&& (127 ^^^ cd_g c (6 - k)) < 128 := cd_andL _ (by decide)
    rw [nI_clamp (show 6 - k < 2 ^ 31 by omega), h (6 - k) (by omega), e, cd_take b (by omega), cd_nb _ (cd_andL _ b)]
    exact nm_e (nm_r (cd_up (by omega)) (ih (by omega) _ (cd_fill (by omega) hq rfl)))
theorem cd_apart {post : Int32 → St2 → Prop} {f1 f2 f3 : Int32} {c L F : Nat} {a1 a2 a3 a4 a5 a6 a7 : Nat → Int32} (h : cd_R a1 c) (hx : cd_run (cd_far c) = some (L, F))
    (hp : ∀ a2 a3 a4 a5, post (nI L) (0, nI L, nI F, a1, a2, a3, a4, a5, a6, a7)) : wpX_largestApart post (f1, f2, f3, a1, a2, a3, a4, a5, a6, a7) :=
  ⟨8, cd_apart_l h hx hp 7 (Nat.le_refl 7) a2 (fun j hj => absurd hj (by omega))⟩
end
section
/-! joining more -/
theorem cd_xx (c m : Nat) : c ^^^ m ^^^ m = c := by
  rw [Nat.xor_assoc, Nat.xor_self, Nat.xor_zero]
theorem cd_nwith {post : Int32 → St2 → Prop} {f1 f2 f3 : Int32} {a1 a2 a3 a4 a5 a6 a7 : Nat → Int32} {c a b : Nat} (h : cd_R a1 c) (ha : a < 7) (hb : b < 7) (hn : a ≠ b)
    (H : ∀ a', cd_R a' c → post (cd_i (cd_ne (c ^^^ cd_m a b))) (f1, f2, f3, a', a2, a3, a4, a5, a6, a7)) : wpX_neatWith post (f1, f2, f3, a1, a2, a3, a4, a5, a6, a7) (nI a) (nI b) := by
  unfold wpX_neatWith
  refine cd_turn h ha hb hn (fun a' h' => cd_neat h' (cd_turn h' ha hb hn (fun a'' h'' => ⟨cd_nar _, H a'' ?_⟩)))
  rw [cd_xx] at h''
  exact h''
def cd_ni (c a : Nat) : Nat → Nat → Nat
  | 0, x => x
  | k + 1, x => cd_ni c a k (x + cond (cd_t (cd_g c a) (6 - k)) 0 (cond (cd_ne (c ^^^ cd_m a (6 - k))) 1 0))
theorem cd_nj_l {post : Int32 → St2 → Prop} {J : Int32 → Int32 → Int32 → Int32 → Int32 → (Nat → Int32) → (Nat → Int32) → (Nat → Int32) → (Nat → Int32) → (Nat → Int32) → (Nat → Int32) → (Nat → Int32) → Prop} {f1 f2 f3 : Int32} {a2 a3 a4 a5 a6 a7 : Nat → Int32} {c a : Nat} :
    ∀ k, k + a ≤ 6 → ∀ x a1, cd_R a1 c → (∀ a', cd_R a' c → J (nI (cd_ni c a k x)) (nI a + 1) f1 f2 f3 a' a2 a3 a4 a5 a6 a7) → wX_neatJoins_14 post J (nI a) (k + 1) (nI x) (nI (7 - k)) f1 f2 f3 a1 a2 a3 a4 a5 a6 a7 := by
  intro k
  induction k with
  | zero =>
    intro _ x a1 h hp
    exact br_t (nI_le (Nat.le_refl 7) (by decide)) (nm_e (hp a1 h))
  | succ k ih =>
    intro hk x a1 h hp
    have q : cd_ni c a (k + 1) x = cd_ni c a k (x + cond (cd_t (cd_g c a) (6 - k)) 0 (cond (cd_ne (c ^^^ cd_m a (6 - k))) 1 0)) := rfl
    rw [q] at hp
    rw [show 7 - (k + 1) = 6 - k by omega]
    refine pk_le 7 (6 - k) (fun z => absurd z (by omega)) (fun _ => ⟨pk_in a 7 (by omega), ?_⟩)
    rw [nI_clamp (show a < 2 ^ 31 by omega), h a (by omega)]
    refine cd_in (cd_g_lt c a) (by omega) (fun ht => br_t rfl (cd_nwith h (by omega) (by omega) (by omega) (fun a' h' => ?_))) (fun ht => br_f (by decide) (nm_r (nI_add x 0) (nm_r (cd_up (by omega)) (ih (by omega) _ a1 h ?_))))
    · rw [ht] at hp
      cases e : cd_ne (c ^^^ cd_m a (6 - k))
      · rw [e] at hp
        exact br_t rfl (nm_r (nI_add x 0) (nm_r (cd_up (by omega)) (ih (by omega) _ a' h' hp)))
      · rw [e] at hp
        exact br_f (by decide) (nm_r (nI_1 x) (nm_r (cd_up (by omega)) (ih (by omega) _ a' h' hp)))
    · rw [ht] at hp
      exact hp
def cd_nj (c : Nat) : Nat → Nat → Nat
  | 0, x => x
  | k + 1, x => cd_nj c k (cd_ni c (6 - k) k x)
theorem cd_nj_o {post : Int32 → St2 → Prop} {f1 f2 f3 : Int32} {a2 a3 a4 a5 a6 a7 : Nat → Int32} {c : Nat} :
    ∀ k, k ≤ 7 → ∀ x a1, cd_R a1 c → (∀ a', cd_R a' c → post (nI (cd_nj c k x)) (f1, f2, f3, a', a2, a3, a4, a5, a6, a7)) → wX_neatJoins_4 post (k + 1) (nI x) (nI (7 - k)) f1 f2 f3 a1 a2 a3 a4 a5 a6 a7 := by
  intro k
  induction k with
  | zero =>
    intro _ x a1 h hp
    exact br_t (nI_le (Nat.le_refl 7) (by decide)) (hp a1 h)
  | succ k ih =>
    intro hk x a1 h hp
    rw [show 7 - (k + 1) = 6 - k by omega]
    refine pk_le 7 (6 - k) (fun z => absurd z (by omega)) (fun _ => nm_r (cd_up (by omega)) ⟨k + 1, cd_nj_l k (by omega) x a1 h (fun a' h' => ?_)⟩)
    rw [cd_up (by omega)]
    exact ih (by omega) _ a' h' hp
theorem cd_njoins {post : Int32 → St2 → Prop} {f1 f2 f3 : Int32} {a1 a2 a3 a4 a5 a6 a7 : Nat → Int32} {c : Nat} (h : cd_R a1 c) (hp : ∀ a', cd_R a' c → post (nI (cd_nj c 7 0)) (f1, f2, f3, a', a2, a3, a4, a5, a6, a7)) : wpX_neatJoins post (f1, f2, f3, a1, a2, a3, a4, a5, a6, a7) :=
  ⟨8, cd_nj_o 7 (Nat.le_refl 7) 0 a1 h hp⟩
end
section
/-! the picture evaluated: the graphs of at most two joins -/
def cd_is (o : Option (Nat × Nat)) (L F : Nat) : Bool := match o with
  | some (l, f) => cond (Nat.beq l L) (Nat.beq f F) false
  | none => false
def cd_isL (o : Option (Nat × Nat)) (L : Nat) : Bool := match o with
  | some (l, _) => Nat.beq l L
  | none => false
theorem cd_is_t {o : Option (Nat × Nat)} {L F : Nat} (h : cd_is o L F = true) : o = some (L, F) := by
  cases o with
  | none => exact Bool.noConfusion h
  | some p =>
    obtain ⟨l, f⟩ := p
    have h' : cond (Nat.beq l L) (Nat.beq f F) false = true := h
    cases e : Nat.beq l L
    · rw [e] at h'
      exact Bool.noConfusion h'
    · rw [e] at h'
      have h2 : Nat.beq f F = true := h'
      rw [Nat.eq_of_beq_eq_true e, Nat.eq_of_beq_eq_true h2]
theorem cd_isL_t {o : Option (Nat × Nat)} {L : Nat} (h : cd_isL o L = true) : ∃ F, o = some (L, F) := by
  cases o with
  | none => exact Bool.noConfusion h
  | some p =>
    obtain ⟨l, f⟩ := p
    have h2 : Nat.beq l L = true := h
    exact ⟨f, by rw [Nat.eq_of_beq_eq_true h2]⟩
def cd_Q (c j cl ap ez ou : Nat) : Bool := Nat.beq (cd_jo c 7 / 2) j && (cd_is (cd_run (cd_g c)) cl ap && (cd_isL (cd_run (cd_far c)) ap && (Nat.beq (cd_ea c 7 0) ez && (cd_ne c && Nat.beq (cd_nj c 7 0) ou))))
/-- the vertex with two neighbours, or 7 -/
def cd_mi (c : Nat) : Nat → Nat
  | 0 => 7
  | k + 1 => cond (Nat.beq (cd_on (cd_g c k) 7) 2) k (cd_mi c k)
def cd_Q2 (c : Nat) : Bool := cond (Nat.beq (cd_mi c 7) 7) (cd_Q c 2 2 5 127 19) (cd_Q c 2 2 6 (127 &&& cd_no (cd_mi c 7)) 19)
def cd_L : List Nat := [130, 16388, 2097160, 268435472, 34359738400, 4398046511168, 33280, 4195328, 536872960, 68719480832, 8796093030400, 8519680, 1074003968, 137439477760, 17592187092992, 2181038080, 274945015808, 35184506306560, 558345748480, 70385924046848, 142936511610880]
def cd_M (i : Nat) : Nat := cd_L.getD i 0
theorem cd_q0 : cd_Q 0 0 1 7 127 21 = true := by decide +kernel
theorem cd_q1 : ∀ i, i < 21 → cd_Q (cd_M i) 1 2 6 127 20 = true := by decide +kernel
theorem cd_q2_1 : ∀ j, j < 1 → cd_Q2 (cd_M 1 ^^^ cd_M j) = true := by decide +kernel
theorem cd_q2_2 : ∀ j, j < 2 → cd_Q2 (cd_M 2 ^^^ cd_M j) = true := by decide +kernel
theorem cd_q2_3 : ∀ j, j < 3 → cd_Q2 (cd_M 3 ^^^ cd_M j) = true := by decide +kernel
theorem cd_q2_4 : ∀ j, j < 4 → cd_Q2 (cd_M 4 ^^^ cd_M j) = true := by decide +kernel
theorem cd_q2_5 : ∀ j, j < 5 → cd_Q2 (cd_M 5 ^^^ cd_M j) = true := by decide +kernel
theorem cd_q2_6 : ∀ j, j < 6 → cd_Q2 (cd_M 6 ^^^ cd_M j) = true := by decide +kernel
theorem cd_q2_7 : ∀ j, j < 7 → cd_Q2 (cd_M 7 ^^^ cd_M j) = true := by decide +kernel
theorem cd_q2_8 : ∀ j, j < 8 → cd_Q2 (cd_M 8 ^^^ cd_M j) = true := by decide +kernel
theorem cd_q2_9 : ∀ j, j < 9 → cd_Q2 (cd_M 9 ^^^ cd_M j) = true := by decide +kernel
theorem cd_q2_10 : ∀ j, j < 10 → cd_Q2 (cd_M 10 ^^^ cd_M j) = true := by decide +kernel
theorem cd_q2_11 : ∀ j, j < 11 → cd_Q2 (cd_M 11 ^^^ cd_M j) = true := by decide +kernel
theorem cd_q2_12 : ∀ j, j < 12 → cd_Q2 (cd_M 12 ^^^ cd_M j) = true := by decide +kernel
theorem cd_q2_13 : ∀ j, j < 13 → cd_Q2 (cd_M 13 ^^^ cd_M j) = true := by decide +kernel
theorem cd_q2_14 : ∀ j, j < 14 → cd_Q2 (cd_M 14 ^^^ cd_M j) = true := by decide +kernel
theorem cd_q2_15 : ∀ j, j < 15 → cd_Q2 (cd_M 15 ^^^ cd_M j) = true := by decide +kernel
theorem cd_q2_16 : ∀ j, j < 16 → cd_Q2 (cd_M 16 ^^^ cd_M j) = true := by decide +kernel
theorem cd_q2_17 : ∀ j, j < 17 → cd_Q2 (cd_M 17 ^^^ cd_M j) = true := by decide +kernel
theorem cd_q2_18 : ∀ j, j < 18 → cd_Q2 (cd_M 18 ^^^ cd_M j) = true := by decide +kernel
theorem cd_q2_19 : ∀ j, j < 19 → cd_Q2 (cd_M 19 ^^^ cd_M j) = true := by decide +kernel
theorem cd_q2_20 : ∀ j, j < 20 → cd_Q2 (cd_M 20 ^^^ cd_M j) = true := by decide +kernel
theorem cd_q2 : ∀ i, i < 21 → ∀ j, j < i → cd_Q2 (cd_M i ^^^ cd_M j) = true
  | 0, _ => fun j hj => absurd hj (by omega)
  | 1, _ => cd_q2_1
  | 2, _ => cd_q2_2
  | 3, _ => cd_q2_3
  | 4, _ => cd_q2_4
  | 5, _ => cd_q2_5
  | 6, _ => cd_q2_6
  | 7, _ => cd_q2_7
  | 8, _ => cd_q2_8
  | 9, _ => cd_q2_9
  | 10, _ => cd_q2_10
  | 11, _ => cd_q2_11
  | 12, _ => cd_q2_12
  | 13, _ => cd_q2_13
  | 14, _ => cd_q2_14
  | 15, _ => cd_q2_15
  | 16, _ => cd_q2_16
  | 17, _ => cd_q2_17
  | 18, _ => cd_q2_18
  | 19, _ => cd_q2_19
  | 20, _ => cd_q2_20
  | _ + 21, h => absurd h (by omega)
theorem cd_ix : ∀ a, a < 7 → ∀ b, b < 7 → a ≠ b → ∃ i, i < 21 ∧ cd_m a b = cd_M i := by decide +kernel
def cd_ag (a b c d : Nat) : Bool := cond (Nat.beq a c) (Nat.beq b d) false || cond (Nat.beq a d) (Nat.beq b c) false
def cd_sh1 (a c d : Nat) : Bool := Nat.beq a c || Nat.beq a d
def cd_bk (a b c d : Nat) : Bool := Nat.beq a b || (Nat.beq c d || cond (cd_ag a b c d) (cd_t (cd_g (cd_m a b) c) d) (not (cd_t (cd_g (cd_m a b) c) d) && Nat.beq (cd_mi (cd_m a b ^^^ cd_m c d) 7) (cond (cd_sh1 a c d) a (cond (cd_sh1 b c d) b 7))))
theorem cd_bk_t : ∀ a, a < 7 → ∀ b, b < 7 → ∀ c, c < 7 → ∀ d, d < 7 → cd_bk a b c d = true := by decide +kernel
theorem cd_bf {a b : Nat} (h : a ≠ b) : Nat.beq a b = false := by
  cases e : Nat.beq a b
  · rfl
  · exact absurd (Nat.eq_of_beq_eq_true e) h
theorem cd_bt {a b : Nat} (h : a = b) : Nat.beq a b = true := by
  rw [h]
  exact Nat.beq_refl b
theorem cd_sh1_t {a c d : Nat} (h : a = c ∨ a = d) : cd_sh1 a c d = true := by
  unfold cd_sh1
  rcases h with z | z
  · rw [cd_bt z]
    rfl
  · rw [cd_bt z, Bool.or_true]
theorem cd_sh1_f {a c d : Nat} (h : ¬ (a = c ∨ a = d)) : cd_sh1 a c d = false := by
  unfold cd_sh1
  rw [cd_bf (fun z => h (Or.inl z)), cd_bf (fun z => h (Or.inr z))]
  rfl
theorem cd_ag_t {a b c d : Nat} (h : (a = c ∧ b = d) ∨ (a = d ∧ b = c)) : cd_ag a b c d = true := by
  unfold cd_ag
  rcases h with z | z
  · rw [cd_bt z.1, cd_bt z.2]
    rfl
  · rw [cd_bt z.1, cd_bt z.2, cond_true, Bool.or_true]
theorem cd_ag_f {a b c d : Nat} (h : ¬ ((a = c ∧ b = d) ∨ (a = d ∧ b = c))) : cd_ag a b c d = false := by
  cases e : cd_ag a b c d
  · rfl
  · exfalso
    unfold cd_ag at e
    rcases Bool.or_eq_true_iff.mp e with z | z
    · cases e1 : Nat.beq a c
      · rw [e1] at z
        exact Bool.noConfusion z
      · rw [e1] at z
        exact h (Or.inl ⟨Nat.eq_of_beq_eq_true e1, Nat.eq_of_beq_eq_true z⟩)
    · cases e1 : Nat.beq a d
      · rw [e1] at z
        exact Bool.noConfusion z
      · rw [e1] at z
        exact h (Or.inr ⟨Nat.eq_of_beq_eq_true e1, Nat.eq_of_beq_eq_true z⟩)
theorem cd_bit {a b c d : Nat} (ha : a < 7) (hb : b < 7) (hn : a ≠ b) (hc : c < 7) (hd : d < 7) (hm : c ≠ d) (h : (a = c ∧ b = d) ∨ (a = d ∧ b = c)) : cd_t (cd_g (cd_m a b) c) d = true := by
  have t := cd_bk_t a ha b hb c hc d hd
  unfold cd_bk at t
  rw [cd_bf hn, cd_bf hm, cd_ag_t h] at t
  exact t
theorem cd_bit2 {a b c d : Nat} (ha : a < 7) (hb : b < 7) (hn : a ≠ b) (hc : c < 7) (hd : d < 7) (hm : c ≠ d) (h : ¬ ((a = c ∧ b = d) ∨ (a = d ∧ b = c))) : cd_t (cd_g (cd_m a b) c) d = false ∧ cd_mi (cd_m a b ^^^ cd_m c d) 7 = cond (cd_sh1 a c d) a (cond (cd_sh1 b c d) b 7) := by
  have t := cd_bk_t a ha b hb c hc d hd
  unfold cd_bk at t
  rw [cd_bf hn, cd_bf hm, cd_ag_f h] at t
  have t2 : (not (cd_t (cd_g (cd_m a b) c) d) && Nat.beq (cd_mi (cd_m a b ^^^ cd_m c d) 7) (cond (cd_sh1 a c d) a (cond (cd_sh1 b c d) b 7))) = true := t
  obtain ⟨t3, t4⟩ := Bool.and_eq_true_iff.mp t2
  exact ⟨by cases e : cd_t (cd_g (cd_m a b) c) d
            · rfl
            · rw [e] at t3
              exact Bool.noConfusion t3, Nat.eq_of_beq_eq_true t4⟩
theorem cd_Q1 {a b : Nat} (ha : a < 7) (hb : b < 7) (hn : a ≠ b) : cd_Q (cd_m a b) 1 2 6 127 20 = true := by
  obtain ⟨i, hi, e⟩ := cd_ix a ha b hb hn
  rw [e]
  exact cd_q1 i hi
theorem cd_Q3 {a b c d : Nat} (ha : a < 7) (hb : b < 7) (hn : a ≠ b) (hc : c < 7) (hd : d < 7) (hm : c ≠ d) (h : ¬ ((a = c ∧ b = d) ∨ (a = d ∧ b = c))) : cd_Q2 (cd_m a b ^^^ cd_m c d) = true := by
  obtain ⟨i, hi, e⟩ := cd_ix a ha b hb hn
  obtain ⟨j, hj, e2⟩ := cd_ix c hc d hd hm
  rcases Nat.lt_trichotomy i j with q | q | q
  · rw [e, e2, Nat.xor_comm]
    exact cd_q2 j hj i q
  · exfalso
    have z : cd_m a b = cd_m c d := by rw [e, e2, q]
    have t := (cd_bit2 ha hb hn hc hd hm h).1
    rw [z, cd_bit hc hd hm hc hd hm (Or.inl ⟨rfl, rfl⟩)] at t
    exact Bool.noConfusion t
  · rw [e, e2]
    exact cd_q2 i hi j q
theorem cd_Q4 {a b c d m : Nat} (ha : a < 7) (hb : b < 7) (hn : a ≠ b) (hc : c < 7) (hd : d < 7) (hm : c ≠ d) (h : ¬ ((a = c ∧ b = d) ∨ (a = d ∧ b = c))) (h2 : (a = c ∨ a = d) ∧ m = a ∨ ¬ (a = c ∨ a = d) ∧ (b = c ∨ b = d) ∧ m = b) : cd_Q (cd_m a b ^^^ cd_m c d) 2 2 6 (127 &&& cd_no m) 19 = true := by
  have q := cd_Q3 ha hb hn hc hd hm h
  have e : cd_mi (cd_m a b ^^^ cd_m c d) 7 = m := by
    rw [(cd_bit2 ha hb hn hc hd hm h).2]
    rcases h2 with ⟨p, e⟩ | ⟨p, p2, e⟩
    · rw [cd_sh1_t p, e]
      rfl
    · rw [cd_sh1_f p, cd_sh1_t p2, e]
      rfl
  have l : Nat.beq m 7 = false := by
    have b7 : m < 7 := by
      rcases h2 with ⟨_, e⟩ | ⟨_, _, e⟩
      · rw [e]; exact ha
      · rw [e]; exact hb
    exact (by decide : ∀ m, m < 7 → Nat.beq m 7 = false) m b7
  unfold cd_Q2 at q
  rw [e, l] at q
  exact q
theorem cd_Q5 {a b c d : Nat} (ha : a < 7) (hb : b < 7) (hn : a ≠ b) (hc : c < 7) (hd : d < 7) (hm : c ≠ d) (h2 : ¬ (a = c ∨ a = d)) (h3 : ¬ (b = c ∨ b = d)) : cd_Q (cd_m a b ^^^ cd_m c d) 2 2 5 127 19 = true := by
  have h : ¬ ((a = c ∧ b = d) ∨ (a = d ∧ b = c)) := fun z => z.elim (fun y => h2 (Or.inl y.1)) (fun y => h2 (Or.inr y.1))
  have q := cd_Q3 ha hb hn hc hd hm h
  have e : cd_mi (cd_m a b ^^^ cd_m c d) 7 = 7 := by
    rw [(cd_bit2 ha hb hn hc hd hm h).2, cd_sh1_f h2, cd_sh1_f h3]
    rfl
  unfold cd_Q2 at q
  rw [e] at q
  exact q
end
section
/-! the law's own branches -/
theorem cd_join_n {post : Int32 → St2 → Prop} {f1 f2 f3 : Int32} {a1 a2 a3 a4 a5 a6 a7 : Nat → Int32} {c : Nat} {x y : Int32} (h : cd_R a1 c) (hn : ¬ cd_ok x y) (hp : post 0 (f1, f2, f3, a1, a2, a3, a4, a5, a6, a7)) : wpX_join post (f1, f2, f3, a1, a2, a3, a4, a5, a6, a7) x y 1 :=
  cd_join h (fun _ => hp) (fun a b ha hb n ea eb _ => absurd ⟨a, b, ha, hb, n, ea, eb⟩ hn) (fun a b ha hb n ea eb _ => absurd ⟨a, b, ha, hb, n, ea, eb⟩ hn)
theorem cd_join_s {post : Int32 → St2 → Prop} {f1 f2 f3 : Int32} {a1 a2 a3 a4 a5 a6 a7 : Nat → Int32} {c a b : Nat} (h : cd_R a1 c) (ha : a < 7) (hb : b < 7) (n : a ≠ b) (ht : cd_t (cd_g c a) b = true) (hp : post 1 (f1, f2, f3, a1, a2, a3, a4, a5, a6, a7)) : wpX_join post (f1, f2, f3, a1, a2, a3, a4, a5, a6, a7) (nI a) (nI b) 1 := by
  refine cd_join h (fun z => absurd ⟨a, b, ha, hb, n, rfl, rfl⟩ z) (fun _ _ _ _ _ _ _ _ => hp) (fun a' b' ha' hb' n' ea eb hf => ?_)
  have e1 : a = a' := (nI_eq (by omega) (by omega)).mp ea
  have e2 : b = b' := (nI_eq (by omega) (by omega)).mp eb
  rw [← e1, ← e2, ht] at hf
  exact absurd hf (by decide)
theorem cd_join_y {post : Int32 → St2 → Prop} {f1 f2 f3 : Int32} {a1 a2 a3 a4 a5 a6 a7 : Nat → Int32} {c a b : Nat} (h : cd_R a1 c) (ha : a < 7) (hb : b < 7) (n : a ≠ b) (ht : cd_t (cd_g c a) b = false) (hp : ∀ a', cd_R a' (c ^^^ cd_m a b) → post 1 (f1, f2, f3, a', a2, a3, a4, a5, a6, a7)) : wpX_join post (f1, f2, f3, a1, a2, a3, a4, a5, a6, a7) (nI a) (nI b) 1 := by
  refine cd_join h (fun z => absurd ⟨a, b, ha, hb, n, rfl, rfl⟩ z) (fun a' b' ha' hb' n' ea eb hf => ?_) (fun a' b' ha' hb' n' ea eb _ c' hc' => ?_)
  · have e1 : a = a' := (nI_eq (by omega) (by omega)).mp ea
    have e2 : b = b' := (nI_eq (by omega) (by omega)).mp eb
    rw [← e1, ← e2, ht] at hf
    exact absurd hf (by decide)
  · have e1 : a = a' := (nI_eq (by omega) (by omega)).mp ea
    have e2 : b = b' := (nI_eq (by omega) (by omega)).mp eb
    rw [← e1, ← e2] at hc'
    exact hp c' hc'
section
variable {post : Int32 → St0 → Prop} {mc ms kc ks : Nat} {f1 f2 f3 : Int32} {a1 a2 a3 a4 a5 a6 a7 : Nat → Int32}
theorem cd_315 {c j cl ap ez ou : Nat} (h : cd_R a1 c) (q : cd_Q c j cl ap ez ou = true) (hp : post 1 ()) : wL_lawOf_315 post mc ms (nI j) (nI cl) (nI ap) (nI ap) (nI ez) (nI ou) kc ks f1 f2 f3 a1 a2 a3 a4 a5 a6 a7 := by
  unfold cd_Q at q
  obtain ⟨q1, q⟩ := Bool.and_eq_true_iff.mp q
  obtain ⟨q2, q⟩ := Bool.and_eq_true_iff.mp q
  obtain ⟨q3, q⟩ := Bool.and_eq_true_iff.mp q
  obtain ⟨q4, q⟩ := Bool.and_eq_true_iff.mp q
  obtain ⟨q5, q6⟩ := Bool.and_eq_true_iff.mp q
  have e2 := cd_is_t q2
  obtain ⟨F, e3⟩ := cd_isL_t q3
  have e5 : cd_co c 7 127 = 0 := Nat.eq_of_beq_eq_true q5
  unfold wL_lawOf_315
  refine cd_joins h (br_t (by rw [Nat.eq_of_beq_eq_true q1]) ?_)
  refine cd_lclique h e2 (fun b2 b3 b4 b5 => br_t rfl ?_)
  refine cd_colours h e2 q5 (fun b2 b3 b4 b5 => br_t rfl ?_)
  refine cd_apart h e3 (fun b2 b3 b4 b5 => br_t rfl ?_)
  refine cd_full h e2 (fun b2 b3 b4 b5 => br_t rfl ?_)
  refine cd_easy h (br_t (by rw [Nat.eq_of_beq_eq_true q4]) ?_)
  refine cd_core h (br_t (by rw [e5]; rfl) ?_)
  exact cd_njoins h (fun a' h' => br_t (by rw [Nat.eq_of_beq_eq_true q6]) hp)
theorem cd_290 {j : Nat} {x11 x12 x13 z : Int32} (hj : j ≤ 2) (H : wL_lawOf_315 post mc ms (nI j) x11 x12 x13 z (nI (21 - j)) kc ks f1 f2 f3 a1 a2 a3 a4 a5 a6 a7) : wL_lawOf_290 post mc ms (nI j) x11 x12 x13 z kc ks f1 f2 f3 a1 a2 a3 a4 a5 a6 a7 := by
  unfold wL_lawOf_290
  refine pk_eq j 0 (fun e => ?_) (fun n0 => pk_eq j 1 (fun e => ?_) (fun n1 => ?_))
  · subst e
    exact H
  · subst e
    exact H
  · have e : j = 2 := by omega
    subst e
    exact H
theorem cd_235 {j : Nat} {x8 x9 x11 : Int32} (hj : j ≤ 2)
    (h0 : x8 = 0 → wL_lawOf_315 post mc ms (nI j) x11 (nI (7 - j)) (nI (7 - j)) 127 (nI (21 - j)) kc ks f1 f2 f3 a1 a2 a3 a4 a5 a6 a7)
    (h1 : ¬ x8 = 0 → wL_lawOf_315 post mc ms (nI j) x11 6 6 (127 &&& (((1 : Int32) <<< (x9 &&& 31)) ^^^ (-1))) (nI (21 - j)) kc ks f1 f2 f3 a1 a2 a3 a4 a5 a6 a7) :
    wL_lawOf_235 post mc ms x8 x9 (nI j) x11 kc ks f1 f2 f3 a1 a2 a3 a4 a5 a6 a7 := by
  have e : (7 : Int32) - nI j = nI (7 - j) := pk_sub (a := 7) (by omega)
  unfold wL_lawOf_235
  refine br_c (fun z => ?_) (fun z => ?_)
  · unfold wL_lawOf_252
    refine br_t z ?_
    unfold wL_lawOf_269
    refine br_t z (cd_290 hj ?_)
    rw [e]
    exact h0 z
  · unfold wL_lawOf_252
    refine br_f z ?_
    unfold wL_lawOf_269
    exact br_f z (cd_290 hj (h1 z))
theorem cd_222 {j : Nat} {x8 x9 z0 z1 : Int32} (hj : j ≤ 2) (hz : z1 + z0 = nI j)
    (h0 : x8 = 0 → wL_lawOf_315 post mc ms (nI j) (nI (min j 1 + 1)) (nI (7 - j)) (nI (7 - j)) 127 (nI (21 - j)) kc ks f1 f2 f3 a1 a2 a3 a4 a5 a6 a7)
    (h1 : ¬ x8 = 0 → wL_lawOf_315 post mc ms (nI j) (nI (min j 1 + 1)) 6 6 (127 &&& (((1 : Int32) <<< (x9 &&& 31)) ^^^ (-1))) (nI (21 - j)) kc ks f1 f2 f3 a1 a2 a3 a4 a5 a6 a7) :
    wL_lawOf_222 post mc ms x8 x9 z0 z1 kc ks f1 f2 f3 a1 a2 a3 a4 a5 a6 a7 := by
  unfold wL_lawOf_222
  refine nm_r hz (pk_le j 0 (fun e => ?_) (fun n => ?_))
  · have e' : j = 0 := by omega
    subst e'
    exact cd_235 hj h0 h1
  · rw [show min j 1 + 1 = 2 by omega] at h0 h1
    exact cd_235 hj h0 h1
/-- no path: the middle is not asked for -/
theorem cd_178 {x0 x1 x2 x3 x5 x6 x7 : Int32} (H : ∀ x9, wL_lawOf_195 post mc ms x5 x6 x7 0 x9 kc ks f1 f2 f3 a1 a2 a3 a4 a5 a6 a7) : wL_lawOf_178 post mc ms x0 x1 x2 x3 x5 x6 x7 0 kc ks f1 f2 f3 a1 a2 a3 a4 a5 a6 a7 := by
  unfold wL_lawOf_178
  refine br_c (fun _ => ?_) (fun _ => br_c (fun _ => ?_) (fun _ => H x1))
  · unfold wL_lawOf_190
    exact H x0
  · unfold wL_lawOf_190
    exact H x0
theorem cd_A {x0 x1 x2 x3 : Int32} (h : cd_R a1 0) (hp : post 1 ()) : wL_lawOf_135 post mc ms x0 x1 x2 x3 0 0 kc ks f1 f2 f3 a1 a2 a3 a4 a5 a6 a7 := by
  unfold wL_lawOf_135 wL_lawOf_136
  refine br_t rfl ?_
  unfold wL_lawOf_177
  refine cd_178 (fun x9 => ?_)
  unfold wL_lawOf_195
  refine br_t rfl ?_
  unfold wL_lawOf_207
  refine br_t rfl ?_
  unfold wL_lawOf_221
  exact cd_222 (j := 0) (by omega) rfl (fun _ => cd_315 h cd_q0 hp) (fun z => absurd rfl z)
theorem cd_B {x0 x1 x2 x3 : Int32} {a b : Nat} (ha : a < 7) (hb : b < 7) (n : a ≠ b) (h : cd_R a1 (cd_m a b)) (hp : post 1 ()) : wL_lawOf_135 post mc ms x0 x1 x2 x3 1 0 kc ks f1 f2 f3 a1 a2 a3 a4 a5 a6 a7 := by
  unfold wL_lawOf_135 wL_lawOf_136
  refine br_f (by decide) (br_t rfl ?_)
  unfold wL_lawOf_177
  refine cd_178 (fun x9 => ?_)
  unfold wL_lawOf_195
  refine br_f (by decide) ?_
  unfold wL_lawOf_207
  refine br_t rfl ?_
  unfold wL_lawOf_221
  exact cd_222 (j := 1) (by omega) rfl (fun _ => cd_315 h (cd_Q1 ha hb n) hp) (fun z => absurd rfl z)
theorem cd_C {x0 x1 x2 x3 : Int32} {a b : Nat} (ha : a < 7) (hb : b < 7) (n : a ≠ b) (h : cd_R a1 (cd_m a b)) (hp : post 1 ()) : wL_lawOf_135 post mc ms x0 x1 x2 x3 0 1 kc ks f1 f2 f3 a1 a2 a3 a4 a5 a6 a7 := by
  unfold wL_lawOf_135 wL_lawOf_136
  refine br_t rfl ?_
  unfold wL_lawOf_177
  refine cd_178 (fun x9 => ?_)
  unfold wL_lawOf_195
  refine br_t rfl ?_
  unfold wL_lawOf_207
  refine br_f (by decide) (br_t rfl ?_)
  exact cd_222 (j := 1) (by omega) rfl (fun _ => cd_315 h (cd_Q1 ha hb n) hp) (fun z => absurd rfl z)
/-- the same join again -/
theorem cd_D {x0 x1 x2 x3 : Int32} {a b : Nat} (ha : a < 7) (hb : b < 7) (n : a ≠ b) (h : cd_R a1 (cd_m a b)) (hp : post 1 ()) : wL_lawOf_131 post mc ms x0 x1 x2 x3 1 1 kc ks f1 f2 f3 a1 a2 a3 a4 a5 a6 a7 := by
  unfold wL_lawOf_131 wL_lawOf_136
  refine br_f (by decide) (br_f (by decide) (br_f (by decide) ?_))
  unfold wL_lawOf_177
  refine cd_178 (fun x9 => ?_)
  unfold wL_lawOf_195
  refine br_f (by decide) ?_
  unfold wL_lawOf_207
  refine br_f (by decide) (br_f (by decide) ?_)
  unfold wL_lawOf_221
  exact cd_222 (j := 1) (by omega) rfl (fun _ => cd_315 h (cd_Q1 ha hb n) hp) (fun z => absurd rfl z)
/-- two joins with a vertex in common -/
theorem cd_E {a b c d m : Nat} (ha : a < 7) (hb : b < 7) (n : a ≠ b) (hc : c < 7) (hd : d < 7) (n2 : c ≠ d) (hg : ¬ ((a = c ∧ b = d) ∨ (a = d ∧ b = c))) (hm : (a = c ∨ a = d) ∧ m = a ∨ ¬ (a = c ∨ a = d) ∧ (b = c ∨ b = d) ∧ m = b)
    (h : cd_R a1 (cd_m a b ^^^ cd_m c d)) (hp : post 1 ()) : wL_lawOf_195 post mc ms 1 1 0 1 (nI m) kc ks f1 f2 f3 a1 a2 a3 a4 a5 a6 a7 := by
  have q := cd_Q4 ha hb n hc hd n2 hg hm
  have b7 : m < 7 := by
    rcases hm with ⟨_, e⟩ | ⟨_, _, e⟩
    · rw [e]; exact ha
    · rw [e]; exact hb
  have e : (127 : Int32) &&& (((1 : Int32) <<< (nI m &&& 31)) ^^^ (-1)) = nI (127 &&& cd_no m) := cd_take (x := 127) (by decide) b7
  unfold wL_lawOf_195
  refine br_f (by decide) ?_
  unfold wL_lawOf_207
  refine br_f (by decide) (br_t rfl ?_)
  refine cd_222 (j := 2) (by omega) rfl (fun z => absurd z (by decide)) (fun _ => ?_)
  rw [e]
  exact cd_315 h q hp
/-- two joins apart -/
theorem cd_N {a b c d : Nat} {x9 : Int32} (ha : a < 7) (hb : b < 7) (n : a ≠ b) (hc : c < 7) (hd : d < 7) (n2 : c ≠ d) (h2 : ¬ (a = c ∨ a = d)) (h3 : ¬ (b = c ∨ b = d))
    (h : cd_R a1 (cd_m a b ^^^ cd_m c d)) (hp : post 1 ()) : wL_lawOf_195 post mc ms 1 1 0 0 x9 kc ks f1 f2 f3 a1 a2 a3 a4 a5 a6 a7 := by
  have q := cd_Q5 ha hb n hc hd n2 h2 h3
  unfold wL_lawOf_195
  refine br_f (by decide) ?_
  unfold wL_lawOf_207
  refine br_f (by decide) (br_t rfl ?_)
  exact cd_222 (j := 2) (by omega) rfl (fun _ => cd_315 h q hp) (fun z => absurd rfl z)
theorem cd_P {a b c d : Nat} (ha : a < 7) (hb : b < 7) (n : a ≠ b) (hc : c < 7) (hd : d < 7) (n2 : c ≠ d) (hg : ¬ ((a = c ∧ b = d) ∨ (a = d ∧ b = c))) (hs : (a = c ∨ a = d) ∨ (b = c ∨ b = d))
    (h : cd_R a1 (cd_m a b ^^^ cd_m c d)) (hp : post 1 ()) : wL_lawOf_173 post mc ms (nI a) (nI b) (nI c) (nI d) 1 1 0 kc ks f1 f2 f3 a1 a2 a3 a4 a5 a6 a7 := by
  unfold wL_lawOf_173 wL_lawOf_178
  refine pk_eq a c (fun e => ?_) (fun e => pk_eq a d (fun e2 => ?_) (fun e2 => ?_))
  · unfold wL_lawOf_190
    exact cd_E ha hb n hc hd n2 hg (Or.inl ⟨Or.inl e, rfl⟩) h hp
  · unfold wL_lawOf_190
    exact cd_E ha hb n hc hd n2 hg (Or.inl ⟨Or.inr e2, rfl⟩) h hp
  · have h2 : ¬ (a = c ∨ a = d) := fun z => z.elim e e2
    exact cd_E ha hb n hc hd n2 hg (Or.inr ⟨h2, hs.resolve_left h2, rfl⟩) h hp
theorem cd_T {a b c d : Nat} (ha : a < 7) (hb : b < 7) (n : a ≠ b) (hc : c < 7) (hd : d < 7) (n2 : c ≠ d) (hg : ¬ ((a = c ∧ b = d) ∨ (a = d ∧ b = c)))
    (h : cd_R a1 (cd_m a b ^^^ cd_m c d)) (hp : post 1 ()) : wL_lawOf_135 post mc ms (nI a) (nI b) (nI c) (nI d) 1 1 kc ks f1 f2 f3 a1 a2 a3 a4 a5 a6 a7 := by
  unfold wL_lawOf_135 wL_lawOf_136
  refine br_f (by decide) (br_f (by decide) (br_t rfl ?_))
  refine pk_eq a c (fun e => cd_P ha hb n hc hd n2 hg (Or.inl (Or.inl e)) h hp) (fun e => ?_)
  refine pk_eq a d (fun e2 => cd_P ha hb n hc hd n2 hg (Or.inl (Or.inr e2)) h hp) (fun e2 => ?_)
  refine pk_eq b c (fun e3 => cd_P ha hb n hc hd n2 hg (Or.inr (Or.inl e3)) h hp) (fun e3 => ?_)
  refine pk_eq b d (fun e4 => cd_P ha hb n hc hd n2 hg (Or.inr (Or.inr e4)) h hp) (fun e4 => ?_)
  unfold wL_lawOf_177
  exact cd_178 (fun x9 => cd_N ha hb n hc hd n2 (fun z => z.elim e e2) (fun z => z.elim e3 e4) h hp)
theorem cd_T2 {a b c d : Nat} (ha : a < 7) (hb : b < 7) (n : a ≠ b) (hc : c < 7) (hd : d < 7) (n2 : c ≠ d) (hg : ¬ ((a = c ∧ b = d) ∨ (a = d ∧ b = c)))
    (h : cd_R a1 (cd_m a b ^^^ cd_m c d)) (hp : post 1 ()) : wL_lawOf_121 post mc ms (nI a) (nI b) (nI c) (nI d) 1 1 kc ks f1 f2 f3 a1 a2 a3 a4 a5 a6 a7 := by
  unfold wL_lawOf_121
  exact pk_eq a d (fun e => pk_eq b c (fun e2 => absurd (Or.inr ⟨e, e2⟩) hg) (fun _ => cd_T ha hb n hc hd n2 hg h hp)) (fun _ => cd_T ha hb n hc hd n2 hg h hp)
theorem cd_71 {x0 x1 x2 x3 x5 z0 : Int32} (h : cd_R a1 0) (hp : post 1 ()) (h5 : (¬ cd_ok x0 x1 ∧ x5 = 0) ∨ (cd_ok x0 x1 ∧ x5 = 1)) (h6 : (¬ cd_ok x2 x3 ∧ z0 = 0) ∨ (cd_ok x2 x3 ∧ z0 = 1)) :
    wL_lawOf_71 post mc ms x0 x1 x2 x3 x5 z0 kc ks f1 f2 f3 a1 a2 a3 a4 a5 a6 a7 := by
  unfold wL_lawOf_71
  have t0 : ∀ a, a < 7 → ∀ b, b < 7 → cd_t (cd_g 0 a) b = false := by decide
  rcases h5 with ⟨n5, rfl⟩ | ⟨⟨a, b, ha, hb, n, rfl, rfl⟩, rfl⟩
  · refine cd_join_n h n5 (br_t rfl ?_)
    rcases h6 with ⟨n6, rfl⟩ | ⟨⟨c, d, hc, hd, n2, rfl, rfl⟩, rfl⟩
    · exact cd_join_n h n6 (br_t rfl (br_t rfl (cd_A h hp)))
    · refine cd_join_y h hc hd n2 (t0 c hc d hd) (fun b1 h1 => br_t rfl (br_t rfl ?_))
      rw [Nat.zero_xor] at h1
      exact cd_C hc hd n2 h1 hp
  · refine cd_join_y h ha hb n (t0 a ha b hb) (fun b1 h1 => br_t rfl ?_)
    rw [Nat.zero_xor] at h1
    rcases h6 with ⟨n6, rfl⟩ | ⟨⟨c, d, hc, hd, n2, rfl, rfl⟩, rfl⟩
    · exact cd_join_n h1 n6 (br_t rfl (br_f (by decide) (br_t rfl (cd_B ha hb n h1 hp))))
    · by_cases hg : (a = c ∧ b = d) ∨ (a = d ∧ b = c)
      · have tb := cd_bit ha hb n hc hd n2 hg
        refine cd_join_s h1 hc hd n2 tb (br_t rfl (br_f (by decide) (br_f (by decide) ?_)))
        refine pk_eq a c (fun e => pk_eq b d (fun e2 => cd_D ha hb n h1 hp) (fun e2 => ?_)) (fun e => ?_)
        · rcases hg with z | z
          · exact absurd z.2 e2
          · exact absurd (e.symm.trans z.1) n2
        · rcases hg with z | z
          · exact absurd z.1 e
          · unfold wL_lawOf_121
            exact pk_eq a d (fun _ => pk_eq b c (fun _ => cd_D ha hb n h1 hp) (fun e3 => absurd z.2 e3)) (fun e3 => absurd z.1 e3)
      · have tb := (cd_bit2 ha hb n hc hd n2 hg).1
        refine cd_join_y h1 hc hd n2 tb (fun b2 h2 => br_t rfl (br_f (by decide) (br_f (by decide) ?_)))
        exact pk_eq a c (fun e => pk_eq b d (fun e2 => absurd (Or.inl ⟨e, e2⟩) hg) (fun e2 => cd_T2 ha hb n hc hd n2 hg h2 hp)) (fun e => cd_T2 ha hb n hc hd n2 hg h2 hp)
end
/-- 'x and y are two different vertices', asked as the law asks -/
theorem cd_ask {x y : Int32} {A B : Prop} (h0 : ¬ cd_ok x y → A) (h1 : cd_ok x y → B) :
    (x < 0 → A) ∧ (¬ x < 0 → ((6 < x → A) ∧ (¬ 6 < x → ((y < 0 → A) ∧ (¬ y < 0 → ((6 < y → A) ∧ (¬ 6 < y → ((x = y → A) ∧ (¬ x = y → B))))))))) := by
  have k : ∀ z : Int32, 6 < z → nI 7 ≤ z := by
    intro z hz
    have h := Int32.lt_iff_toInt_lt.mp hz
    exact Int32.le_iff_toInt_le.mpr (by have e : (6 : Int32).toInt = 6 := by decide
                                        have e2 : (nI 7).toInt = 7 := by decide
                                        rw [e2]
                                        rw [e] at h
                                        omega)
  have k2 : ∀ z : Int32, ¬ z < 0 → ¬ 6 < z → ∃ j, j < 7 ∧ z = nI j := by
    intro z h0 h6
    rcases pk_ix z (n := 7) (by decide) with h | h | h
    · exact absurd h h0
    · exfalso
      refine h6 (Int32.lt_iff_toInt_lt.mpr ?_)
      have h' := Int32.le_iff_toInt_le.mp h
      have e : (6 : Int32).toInt = 6 := by decide
      have e2 : (nI 7).toInt = 7 := by decide
      rw [e]
      rw [e2] at h'
      omega
    · exact h
  refine br_c (fun z => h0 (cd_no1 z)) (fun z1 => br_c (fun z => h0 (cd_no2 (k x z))) (fun z2 => br_c (fun z => h0 (cd_no3 z)) (fun z3 => br_c (fun z => h0 (cd_no4 (k y z))) (fun z4 => br_c (fun z => h0 (cd_no5 z)) (fun z5 => h1 ?_)))))
  obtain ⟨a, ha, ea⟩ := k2 x z1 z2
  obtain ⟨b, hb, eb⟩ := k2 y z3 z4
  exact ⟨a, b, ha, hb, fun e => z5 (by rw [ea, eb, e]), ea, eb⟩
theorem cd_39 {post : Int32 → St0 → Prop} {mc ms kc ks : Nat} {f1 f2 f3 : Int32} {a1 a2 a3 a4 a5 a6 a7 : Nat → Int32} {x0 x1 x2 x3 z0 : Int32} (h : cd_R a1 0) (hp : post 1 ()) (h5 : (¬ cd_ok x0 x1 ∧ z0 = 0) ∨ (cd_ok x0 x1 ∧ z0 = 1)) :
    wL_lawOf_39 post mc ms x0 x1 x2 x3 z0 kc ks f1 f2 f3 a1 a2 a3 a4 a5 a6 a7 := by
  unfold wL_lawOf_39 wL_lawOf_70
  exact cd_ask (fun z => cd_71 h hp h5 (Or.inl ⟨z, rfl⟩)) (fun z => cd_71 h hp h5 (Or.inr ⟨z, rfl⟩))
theorem cd_R0 : cd_R (fun _ => 0) 0 := by
  have e : ∀ j, j < 7 → nI (cd_g 0 j) = 0 := by decide
  exact fun j hj => (e j hj).symm
theorem cd_lawOf {post : Int32 → St0 → Prop} {x0 x1 x2 x3 : Int32} {u : St0} (hp : post 1 ()) : wpL_lawOf post 8 352 u x0 x1 x2 x3 := by
  unfold wpL_lawOf wL_lawOf_38
  refine ⟨by decide, by decide, 7, 342, by decide, by decide, ?_⟩
  unfold wpX_init
  refine ⟨by decide, by decide, by decide, by decide, by decide, by decide, by decide, by decide, by decide, by decide, by decide, by decide, by decide, by decide, ?_⟩
  exact cd_ask (fun z => cd_39 cd_R0 hp (Or.inl ⟨z, rfl⟩)) (fun z => cd_39 cd_R0 hp (Or.inr ⟨z, rfl⟩))
theorem cd_cell {post : Int32 → Prop} {L : Nat} {xs : Nat → Int32} {u : St0} (k : Nat) (hL : L ≤ 4) (hk : k ≤ 3) (hp : ∀ r, post r) : wpL_cellAt post L xs u (nI k) := by
  unfold wpL_cellAt
  exact pk_le L k (fun _ => hp _) (fun z => ⟨pk_in k L z, hp _⟩)
theorem i_vc (xs : Nat → Int32) (L : Nat) (hL : L ≤ 4) : wpL_law (fun r => r = 1) L xs := by
  unfold wpL_law
  refine cd_cell 0 hL (by decide) (fun r1 => cd_cell 1 hL (by decide) (fun r2 => cd_cell 2 hL (by decide) (fun r3 => cd_cell 3 hL (by decide) (fun r4 => ⟨8, 352, by decide, by decide, ?_⟩))))
  exact cd_lawOf rfl
end
