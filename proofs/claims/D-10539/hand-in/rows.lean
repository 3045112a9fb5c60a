section
/-! bits, and the saturated sets: keeps, parts, isWorld, find -/
/-- a branch met along a pure 'if' -/
theorem cd_i {ρ : Type} {c : Prop} [d : Decidable c] {A B : Prop} {P : ρ → Prop} {x y : ρ} (H : P (if c then x else y)) (f : P x → A) (g : P y → B) : (c → A) ∧ (¬ c → B) :=
  ⟨fun z => f (by rw [if_pos z] at H; exact H), fun z => g (by rw [if_neg z] at H; exact H)⟩
def cd_J (J : Int32 → Int32 → Prop) (x : Int32) (g : Int32) : Prop := ∀ y : Int32, y = x + 1 → J g y
def cd_B (x : Int32) : Prop := x = 0 ∨ x = 1
theorem cd_B0 : cd_B 0 := Or.inl rfl
theorem cd_B1 : cd_B 1 := Or.inr rfl
theorem cd_Bi {c : Prop} [d : Decidable c] {x y : Int32} (hx : cd_B x) (hy : cd_B y) : cd_B (if c then x else y) := by
  by_cases z : c
  · rw [if_pos z]; exact hx
  · rw [if_neg z]; exact hy
theorem cd_nb {x : Int32} (h : cd_B x) : narrow .boolean (.int x) = .int x := by
  rcases h with e | e
  · rw [e]; rfl
  · rw [e]; rfl
def cd_in (x i : Int32) : Int32 := if (x >>> (i &&& 31)) &&& 1 = 1 then 1 else 0
theorem cd_in_wp {post : Int32 → Prop} {c k f h : Int32} {a1 a2 a3 a4 a5 : Nat → Int32} {x i : Int32} (H : post (cd_in x i)) : wpX_in post (c, k, f, h, a1, a2, a3, a4, a5) x i :=
  cd_i (P := post) (x := (1 : Int32)) (y := 0) H (fun H => H) (fun H => H)
/-! keeps -/
def cd_kb (kd h a b g : Int32) : Int32 :=
  if kd = 0 then (if a = 0 then (if h = 0 then 1 else 0) else if b = 0 then (if h = 0 then 1 else 0) else if h = 1 then 1 else 0)
  else if kd = 1 then (if a = 0 then (if b = 0 then (if h = 0 then 1 else 0) else if h = 1 then 1 else 0) else if h = 1 then 1 else 0)
  else if kd = 2 then (if h = 0 then (if b = 0 then 1 else 0) else if a = 0 then 1 else if b = 0 then 0 else 1)
  else if kd = 4 then (if h = 0 then 1 else 0) else g
theorem cd_kb_b {kd h a b g : Int32} (hg : cd_B g) : cd_B (cd_kb kd h a b g) := by
  unfold cd_kb
  repeat' first | exact hg | exact cd_B0 | exact cd_B1 | apply cd_Bi
def cd_keep (K L R : Nat → Int32) (x : Int32) : Nat → Nat → Int32 → Int32
  | 0, _, g => g
  | m + 1, i, g => if g = 0 then g else cd_keep K L R x m (i + 1) (cd_kb (K (nI i).toNatClampNeg) (cd_in x (nI i)) (cd_in x (L (nI i).toNatClampNeg)) (cd_in x (R (nI i).toNatClampNeg)) g)
theorem cd_keep_b {K L R : Nat → Int32} {x : Int32} : ∀ (m i : Nat) (g : Int32), cd_B g → cd_B (cd_keep K L R x m i g) := by
  intro m
  induction m with
  | zero => exact fun i g hg => hg
  | succ m ih => exact fun i g hg => cd_Bi hg (ih (i + 1) _ (cd_kb_b hg))
theorem cd_keep_wp {post : Int32 → Prop} {x k f h : Int32} {K L R a4 a5 : Nat → Int32} {n : Nat} (hn : n ≤ 11) :
    ∀ (m i : Nat) (g : Int32), i + m = n → cd_B g → post (cd_keep K L R x m i g) → wX_keeps_4 post x (nI n) k f h K L R a4 a5 (m + 1) g (nI i) := by
  intro m
  induction m with
  | zero =>
    intro i g hi hg H
    exact pk_le n i (fun _ => ⟨cd_nb hg, H⟩) (fun z => absurd z (by omega))
  | succ m ih =>
    intro i g hi hg H
    refine pk_le n i (fun z => absurd z (by omega)) (fun _ => cd_i (P := post) H (fun H => ⟨cd_nb hg, H⟩) (fun H => ?_))
    refine cd_in_wp ⟨pk_in i 11 (by omega), cd_in_wp ⟨pk_in i 11 (by omega), cd_in_wp ⟨pk_in i 11 (by omega), ?_⟩⟩⟩
    have hw : cd_J (wX_keeps_4 post x (nI n) k f h K L R a4 a5 (m + 1)) (nI i) (cd_kb (K (nI i).toNatClampNeg) (cd_in x (nI i)) (cd_in x (L (nI i).toNatClampNeg)) (cd_in x (R (nI i).toNatClampNeg)) g) := by
      intro y ey
      rw [ey, nI_1]
      exact ih (i + 1) _ (by omega) (cd_kb_b hg) H
    refine cd_i hw (fun H => ?_) (fun H => ⟨pk_in i 11 (by omega), cd_i H (fun H => ?_) (fun H => ⟨pk_in i 11 (by omega), cd_i H (fun H => ?_) (fun H => ⟨pk_in i 11 (by omega), cd_i H (fun H => ?_) (fun H => ?_)⟩)⟩)⟩)
    · exact cd_i H (fun H => cd_i H (fun H => H) (fun H => H)) (fun H => cd_i H (fun H => cd_i H (fun H => H) (fun H => H)) (fun H => cd_i H (fun H => H) (fun H => H)))
    · exact cd_i H (fun H => cd_i H (fun H => cd_i H (fun H => H) (fun H => H)) (fun H => cd_i H (fun H => H) (fun H => H))) (fun H => cd_i H (fun H => H) (fun H => H))
    · exact cd_i H (fun H => cd_i H (fun H => H) (fun H => H)) (fun H => cd_i H (fun H => H) (fun H => cd_i H (fun H => H) (fun H => H)))
    · exact cd_i H (fun H => H) (fun H => H)
    · exact H
theorem cd_keeps_wp {post : Int32 → Prop} {x k f h : Int32} {K L R a4 a5 : Nat → Int32} {n : Nat} (hn : n ≤ 11) (H : post (cd_keep K L R x n 0 1)) : wpX_keeps post (nI n, k, f, h, K, L, R, a4, a5) x := by
  unfold wpX_keeps
  exact ⟨n + 1, cd_keep_wp hn n 0 1 (by omega) cd_B1 H⟩
/-! the array of the saturated sets found so far, as a list -/
def cd_ok (a : Nat → Int32) (W : List Int32) : Prop := W.length ≤ 2048 ∧ ∀ j, j < W.length → a j = W.getD j 0
theorem cd_nxt {a : Nat → Int32} {W T : List Int32} {v : Int32} {i : Nat} (ok : cd_ok a W) (e : W.drop i = v :: T) : i < W.length ∧ a (nI i).toNatClampNeg = v ∧ W.drop (i + 1) = T := by
  obtain ⟨h1, h2, h3, _⟩ := sc_dropC e
  have hl := ok.1
  exact ⟨h1, by rw [nI_clamp (by omega), ok.2 i h1, h2], h3⟩
theorem cd_end {W : List Int32} {i : Nat} (e : W.drop i = []) : W.length ≤ i := List.drop_eq_nil_iff.mp e
theorem cd_ok0 (a : Nat → Int32) : cd_ok a [] := ⟨by decide, fun j hj => absurd hj (Nat.not_lt_zero j)⟩
theorem cd_ok_add {a : Nat → Int32} {W : List Int32} {v : Int32} (ok : cd_ok a W) (h : W.length < 2048) : cd_ok (upd a (nI W.length).toNatClampNeg v) (W ++ [v]) := by
  rw [nI_clamp (by omega)]
  refine ⟨by rw [List.length_append, List.length_singleton]; omega, fun j hj => ?_⟩
  rw [List.length_append, List.length_singleton] at hj
  by_cases e : j = W.length
  · rw [e, pk_us, List.getD_eq_getElem?_getD, List.getElem?_concat_length]; rfl
  · rw [pk_un e, ok.2 j (by omega), List.getD_eq_getElem?_getD, List.getD_eq_getElem?_getD, List.getElem?_append_left (by omega)]
/-! parts -/
def cd_part (x a b : Int32) : List Int32 → Int32
  | [] => 0
  | v :: T => if x &&& (v ^^^ (-1)) = 0 then (if cd_in v a = 0 then cd_part x a b T else if cd_in v b = 0 then 1 else cd_part x a b T) else cd_part x a b T
theorem cd_part_b {x a b : Int32} : ∀ T : List Int32, cd_B (cd_part x a b T) := by
  intro T
  induction T with
  | nil => exact cd_B0
  | cons v T ih => exact cd_Bi (cd_Bi ih (cd_Bi cd_B1 ih)) ih
theorem cd_part_wp {post : Int32 → Prop} {x a b c k h : Int32} {a1 a2 a3 a4 a5 : Nat → Int32} {W : List Int32} (ok : cd_ok a4 W) :
    ∀ (T : List Int32) (i : Nat), i ≤ W.length → W.drop i = T → post (cd_part x a b T) → wX_parts_23 post x a b c k (nI W.length) h a1 a2 a3 a4 a5 (T.length + 1) (nI i) := by
  have hl := ok.1
  intro T
  induction T with
  | nil =>
    intro i hi e H
    have := cd_end e
    exact pk_le W.length i (fun _ => H) (fun z => absurd z (by omega))
  | cons v T ih =>
    intro i hi e H
    obtain ⟨h1, rfl, h3⟩ := cd_nxt ok e
    have nx : post (cd_part x a b T) → ∀ y, y = nI i + 1 → wX_parts_23 post x a b c k (nI W.length) h a1 a2 a3 a4 a5 (T.length + 1) y := by
      intro H y ey
      rw [ey, nI_1]
      exact ih (i + 1) (by omega) h3 H
    exact pk_le W.length i (fun z => absurd z (by omega)) (fun _ => ⟨pk_in i 2048 (by omega), nm_e (cd_i (P := post) H (fun H => cd_in_wp (cd_i (P := post) H nx (fun H => cd_in_wp (cd_i (P := post) H (fun H => H) nx)))) nx)⟩)
def cd_parts (W : List Int32) (x a b : Int32) : Int32 := if cd_in x a = 0 then cd_part x a b W else if cd_in x b = 0 then 1 else cd_part x a b W
theorem cd_parts_b {W : List Int32} {x a b : Int32} : cd_B (cd_parts W x a b) := cd_Bi (cd_part_b W) (cd_Bi cd_B1 (cd_part_b W))
theorem cd_parts_wp {post : Int32 → Prop} {x a b c k h : Int32} {a1 a2 a3 a4 a5 : Nat → Int32} {W : List Int32} (ok : cd_ok a4 W) (H : post (cd_parts W x a b)) : wpX_parts post (c, k, nI W.length, h, a1, a2, a3, a4, a5) x a b := by
  unfold wpX_parts
  refine cd_in_wp (cd_i (P := post) H (fun H => ⟨W.length + 1, cd_part_wp ok W 0 (Nat.zero_le _) rfl H⟩) (fun H => cd_in_wp (cd_i (P := post) H (fun H => H) (fun H => ⟨W.length + 1, cd_part_wp ok W 0 (Nat.zero_le _) rfl H⟩))))
/-! isWorld -/
def cd_isw (K L R : Nat → Int32) (W : List Int32) (x : Int32) : Nat → Nat → Int32 → Int32
  | 0, _, g => g
  | m + 1, i, g => if g = 0 then g else cd_isw K L R W x m (i + 1) (if K (nI i).toNatClampNeg = 2 then (if cd_in x (nI i) = 0 then cd_parts W x (L (nI i).toNatClampNeg) (R (nI i).toNatClampNeg) else g) else g)
theorem cd_isw_wp {post : Int32 → Prop} {x k h : Int32} {K L R a4 a5 : Nat → Int32} {n : Nat} {W : List Int32} (hn : n ≤ 11) (ok : cd_ok a4 W) :
    ∀ (m i : Nat) (g : Int32), i + m = n → cd_B g → post (cd_isw K L R W x m i g) → wX_isWorld_8 post x (nI n) k (nI W.length) h K L R a4 a5 (m + 1) g (nI i) := by
  intro m
  induction m with
  | zero =>
    intro i g hi hg H
    exact pk_le n i (fun _ => ⟨cd_nb hg, H⟩) (fun z => absurd z (by omega))
  | succ m ih =>
    intro i g hi hg H
    refine pk_le n i (fun z => absurd z (by omega)) (fun _ => cd_i (P := post) H (fun H => ⟨cd_nb hg, H⟩) (fun H => ⟨pk_in i 11 (by omega), ?_⟩))
    have hw : cd_J (wX_isWorld_8 post x (nI n) k (nI W.length) h K L R a4 a5 (m + 1)) (nI i) (if K (nI i).toNatClampNeg = 2 then (if cd_in x (nI i) = 0 then cd_parts W x (L (nI i).toNatClampNeg) (R (nI i).toNatClampNeg) else g) else g) := by
      intro y ey
      rw [ey, nI_1]
      exact ih (i + 1) _ (by omega) (cd_Bi (cd_Bi cd_parts_b hg) hg) H
    exact cd_i hw (fun H => cd_in_wp (cd_i H (fun H => ⟨pk_in i 11 (by omega), pk_in i 11 (by omega), cd_parts_wp ok H⟩) (fun H => H))) (fun H => H)
def cd_isW (n : Nat) (K L R : Nat → Int32) (W : List Int32) (x : Int32) : Int32 := cd_isw K L R W x n 0 (cd_keep K L R x n 0 1)
theorem cd_isW_wp {post : Int32 → Prop} {x k h : Int32} {K L R a4 a5 : Nat → Int32} {n : Nat} {W : List Int32} (hn : n ≤ 11) (ok : cd_ok a4 W) (H : post (cd_isW n K L R W x)) : wpX_isWorld post (nI n, k, nI W.length, h, K, L, R, a4, a5) x := by
  unfold wpX_isWorld
  exact cd_keeps_wp hn ⟨n + 1, cd_isw_wp hn ok n 0 _ (by omega) (cd_keep_b n 0 1 cd_B1) H⟩
/-! find -/
def cd_fnd (n : Nat) (K L R : Nat → Int32) : Nat → List Int32 → List Int32
  | 0, W => W
  | m + 1, W => if cd_isW n K L R W (nI m) = 0 then cd_fnd n K L R m W else cd_fnd n K L R m (W ++ [(nI m).toInt16.toInt32])
theorem cd_fnd_wp {post : St2 → Prop} {k h : Int32} {K L R a5 : Nat → Int32} {n : Nat} (hn : n ≤ 11) :
    ∀ (m : Nat) (W : List Int32) (a4 : Nat → Int32), W.length + m ≤ 2048 → cd_ok a4 W → (∀ a4' : Nat → Int32, cd_ok a4' (cd_fnd n K L R m W) → post (nI n, k, nI (cd_fnd n K L R m W).length, h, K, L, R, a4', a5)) →
      wX_find_23 post (nI n) k h (m + 1) (nI m + (-1)) (nI W.length) K L R a4 a5 := by
  intro m
  induction m with
  | zero =>
    intro W a4 hl ok H
    exact br_t (by decide) (H a4 ok)
  | succ m ih =>
    intro W a4 hl ok H
    rw [pk_m1]
    refine br_f (nI_pos (by omega)) (cd_isW_wp hn ok (br_c (fun z => ?_) (fun z => ?_)))
    · have e : cd_fnd n K L R (m + 1) W = cd_fnd n K L R m W := if_pos z
      rw [e] at H
      exact nm_e (ih W a4 (by omega) ok H)
    · have e : cd_fnd n K L R (m + 1) W = cd_fnd n K L R m (W ++ [(nI m).toInt16.toInt32]) := if_neg z
      rw [e] at H
      have el : nI W.length + 1 = nI (W ++ [(nI m).toInt16.toInt32]).length := by rw [nI_1, List.length_append]; rfl
      exact ⟨pk_in W.length 2048 (by omega), nm_e (nm_r el (nm_e (ih _ _ (by rw [List.length_append, List.length_singleton]; omega) (cd_ok_add ok (by omega)) H)))⟩
def cd_e (n : Nat) : Int32 := ((1 : Int32) <<< (nI n &&& 31)) - 1
theorem cd_ev : ∀ n, n < 4 → ((1 : Int32) <<< (nI n &&& 31)) - 1 = nI (2 ^ n) + (-1) := by decide +kernel
def cd_W (n : Nat) (K L R : Nat → Int32) : List Int32 := cd_fnd n K L R (2 ^ n) []
def cd_st (n : Nat) (K L R : Nat → Int32) (k f : Int32) (a4 : Nat → Int32) : Prop := k = 0 ∨ (k = 1 ∧ f = nI (cd_W n K L R).length ∧ cd_ok a4 (cd_W n K L R))
theorem cd_find_wp {post : St2 → Prop} {k f h : Int32} {K L R a4 a5 : Nat → Int32} {n : Nat} (hn : n ≤ 3) (hs : cd_st n K L R k f a4)
    (H : ∀ a4' : Nat → Int32, cd_ok a4' (cd_W n K L R) → post (nI n, 1, nI (cd_W n K L R).length, h, K, L, R, a4', a5)) : wpX_find post (nI n, k, f, h, K, L, R, a4, a5) := by
  unfold wpX_find
  rcases hs with rfl | ⟨rfl, rfl, ok⟩
  · refine br_t rfl ?_
    unfold wpX_every
    refine ⟨2 ^ n + 1, ?_⟩
    rw [cd_ev n (by omega)]
    have h8 : 2 ^ n ≤ 2 ^ 3 := Nat.pow_le_pow_right (by decide) hn
    exact cd_fnd_wp (by omega) (2 ^ n) [] a4 (by rw [List.length_nil]; omega) (cd_ok0 a4) H
  · exact br_f (by decide) (H a4 ok)
end
section
/-! missing, closure, follows, worlds, closedSets, saturated, all, against -/
theorem cd_ev_wp {post : Int32 → Prop} {n : Nat} {k f h : Int32} {a1 a2 a3 a4 a5 : Nat → Int32} (H : post (cd_e n)) : wpX_every post (nI n, k, f, h, a1, a2, a3, a4, a5) := H
theorem cd_mis_f {post : Int32 → Prop} {n i : Nat} {k f h : Int32} {a1 a2 a3 a4 a5 : Nat → Int32} (hn : n ≤ 11) (hi : i < n) (H : post 0) : wpX_missing post (nI n, k, f, h, a1, a2, a3, a4, a5) (nI i) :=
  br_f (nI_pos (by omega)) (br_t (nI_lt hi (by omega)) H)
theorem cd_nlt {x y : Int32} (h : y ≤ x) : ¬ x < y := by
  rw [Int32.lt_iff_toInt_lt]
  rw [Int32.le_iff_toInt_le] at h
  omega
theorem cd_mis_t {post : Int32 → Prop} {n : Nat} {x k f h : Int32} {a1 a2 a3 a4 a5 : Nat → Int32} (hx : x < 0 ∨ nI n ≤ x) (H : post 1) : wpX_missing post (nI n, k, f, h, a1, a2, a3, a4, a5) x :=
  br_c (fun _ => H) (fun z => br_f (by rcases hx with g | g; exact absurd g z; exact cd_nlt g) H)
/-! closure -/
def cd_clo (x : Int32) : List Int32 → Int32 → Int32
  | [], g => g
  | v :: T, g => if x &&& (v ^^^ (-1)) = 0 then cd_clo x T (g &&& v) else cd_clo x T g
theorem cd_clo_wp {post : Int32 → Prop} {x c k h : Int32} {a1 a2 a3 a4 a5 : Nat → Int32} {W : List Int32} (ok : cd_ok a4 W) :
    ∀ (T : List Int32) (i : Nat) (g : Int32), i ≤ W.length → W.drop i = T → post (cd_clo x T g) → wX_closure_7 post x c k (nI W.length) h a1 a2 a3 a4 a5 (T.length + 1) g (nI i) := by
  have hl := ok.1
  intro T
  induction T with
  | nil =>
    intro i g hi e H
    have := cd_end e
    exact pk_le W.length i (fun _ => H) (fun z => absurd z (by omega))
  | cons v T ih =>
    intro i g hi e H
    obtain ⟨h1, rfl, h3⟩ := cd_nxt ok e
    have nx : ∀ g', post (cd_clo x T g') → ∀ y, y = nI i + 1 → wX_closure_7 post x c k (nI W.length) h a1 a2 a3 a4 a5 (T.length + 1) g' y := by
      intro g' H y ey
      rw [ey, nI_1]
      exact ih (i + 1) g' (by omega) h3 H
    exact pk_le W.length i (fun z => absurd z (by omega)) (fun _ => ⟨pk_in i 2048 (by omega), cd_i (P := post) H (fun H => ⟨pk_in i 2048 (by omega), nm_e (nx _ H)⟩) (nx _)⟩)
theorem cd_closure_wp {post : Int32 → Prop} {x k h : Int32} {a1 a2 a3 a4 a5 : Nat → Int32} {n : Nat} {W : List Int32} (ok : cd_ok a4 W) (H : post (cd_clo x W (cd_e n))) : wpX_closure post (nI n, k, nI W.length, h, a1, a2, a3, a4, a5) x := by
  unfold wpX_closure
  exact cd_ev_wp ⟨W.length + 1, cd_clo_wp ok W 0 _ (Nat.zero_le _) rfl H⟩
def cd_C (n : Nat) (K L R : Nat → Int32) (q : Int32) : Int32 := cd_clo q (cd_W n K L R) (cd_e n)
theorem cd_all_wp {post : Int32 → St2 → Prop} {x k f h : Int32} {K L R a4 a5 : Nat → Int32} {n : Nat} (hn : n ≤ 3) (hs : cd_st n K L R k f a4)
    (H : ∀ a4' : Nat → Int32, cd_ok a4' (cd_W n K L R) → post (cd_C n K L R (x &&& cd_e n)) (nI n, 1, nI (cd_W n K L R).length, h, K, L, R, a4', a5)) : wpX_all post (nI n, k, f, h, K, L, R, a4, a5) x := by
  unfold wpX_all
  refine cd_find_wp hn hs (fun a4' ok => ?_)
  refine cd_ev_wp (nm_e ?_)
  exact cd_closure_wp ok (H a4' ok)
theorem cd_follows_wp {post : Int32 → St2 → Prop} {x k f h : Int32} {K L R a4 a5 : Nat → Int32} {n c : Nat} (hn : n ≤ 3) (hs : cd_st n K L R k f a4) (hc : c < n)
    (H : ∀ a4' : Nat → Int32, cd_ok a4' (cd_W n K L R) → post ((cd_C n K L R (x &&& cd_e n) >>> (nI c &&& 31)) &&& 1) (nI n, 1, nI (cd_W n K L R).length, h, K, L, R, a4', a5)) : wpX_follows post (nI n, k, f, h, K, L, R, a4, a5) x (nI c) := by
  unfold wpX_follows
  refine cd_mis_f (by omega) hc (br_t rfl (cd_find_wp hn hs (fun a4' ok => ?_)))
  refine cd_ev_wp (nm_e ?_)
  exact cd_closure_wp ok (H a4' ok)
theorem cd_follows_m {post : Int32 → St2 → Prop} {x c k f h : Int32} {K L R a4 a5 : Nat → Int32} {n : Nat} (hc : c < 0 ∨ nI n ≤ c) (H : post (-1) (nI n, k, f, h, K, L, R, a4, a5)) : wpX_follows post (nI n, k, f, h, K, L, R, a4, a5) x c := by
  unfold wpX_follows
  exact cd_mis_t hc (br_f (by decide) H)
theorem cd_worlds_wp {post : Int32 → St2 → Prop} {k f h : Int32} {K L R a4 a5 : Nat → Int32} {n : Nat} (hn : n ≤ 3) (hs : cd_st n K L R k f a4)
    (H : ∀ a4' : Nat → Int32, cd_ok a4' (cd_W n K L R) → post (nI (cd_W n K L R).length) (nI n, 1, nI (cd_W n K L R).length, h, K, L, R, a4', a5)) : wpX_worlds post (nI n, k, f, h, K, L, R, a4, a5) := by
  unfold wpX_worlds
  exact cd_find_wp hn hs (fun a4' ok => H a4' ok)
/-! saturated -/
def cd_sat (q : Int32) : List Int32 → Int32 → Int32
  | [], g => g
  | v :: T, g => if v = q then cd_sat q T 1 else cd_sat q T g
theorem cd_sat_lp {post : Int32 → St2 → Prop} {q c k h : Int32} {a1 a2 a3 a4 a5 : Nat → Int32} {W : List Int32} (ok : cd_ok a4 W) :
    ∀ (T : List Int32) (i : Nat) (g : Int32), i ≤ W.length → W.drop i = T → (fun r => post r (c, k, nI W.length, h, a1, a2, a3, a4, a5)) (cd_sat q T g) → wX_saturated_16 post q c k (nI W.length) h a1 a2 a3 a4 a5 (T.length + 1) g (nI i) := by
  have hl := ok.1
  intro T
  induction T with
  | nil =>
    intro i g hi e H
    have := cd_end e
    exact pk_le W.length i (fun _ => H) (fun z => absurd z (by omega))
  | cons v T ih =>
    intro i g hi e H
    obtain ⟨h1, rfl, h3⟩ := cd_nxt ok e
    have nx : ∀ g', (fun r => post r (c, k, nI W.length, h, a1, a2, a3, a4, a5)) (cd_sat q T g') → ∀ y, y = nI i + 1 → wX_saturated_16 post q c k (nI W.length) h a1 a2 a3 a4 a5 (T.length + 1) g' y := by
      intro g' H y ey
      rw [ey, nI_1]
      exact ih (i + 1) g' (by omega) h3 H
    exact pk_le W.length i (fun z => absurd z (by omega)) (fun _ => ⟨pk_in i 2048 (by omega), cd_i (P := fun r => post r (c, k, nI W.length, h, a1, a2, a3, a4, a5)) H (nx _) (nx _)⟩)
theorem cd_sat_wp {post : Int32 → St2 → Prop} {x k f h : Int32} {K L R a4 a5 : Nat → Int32} {n : Nat} (hn : n ≤ 3) (hs : cd_st n K L R k f a4)
    (H : ∀ a4' : Nat → Int32, cd_ok a4' (cd_W n K L R) → post (cd_sat (x &&& cd_e n) (cd_W n K L R) 0) (nI n, 1, nI (cd_W n K L R).length, h, K, L, R, a4', a5)) : wpX_saturated post (nI n, k, f, h, K, L, R, a4, a5) x := by
  unfold wpX_saturated
  refine cd_find_wp hn hs (fun a4' ok => ?_)
  refine cd_ev_wp (nm_e ?_)
  exact ⟨(cd_W n K L R).length + 1, cd_sat_lp ok (cd_W n K L R) 0 0 (Nat.zero_le _) rfl (H a4' ok)⟩
/-! against -/
def cd_aga (q c : Int32) : List Int32 → Int32 → Int32
  | [], g => g
  | v :: T, g => if q &&& (v ^^^ (-1)) = 0 then (if cd_in v c = 0 then cd_aga q c T v else cd_aga q c T g) else cd_aga q c T g
theorem cd_aga_lp {post : Int32 → St2 → Prop} {q p c k h : Int32} {a1 a2 a3 a4 a5 : Nat → Int32} {W : List Int32} (ok : cd_ok a4 W) :
    ∀ (T : List Int32) (i : Nat) (g : Int32), i ≤ W.length → W.drop i = T → (fun r => post r (c, k, nI W.length, h, a1, a2, a3, a4, a5)) (cd_aga q p T g) → wX_against_28 post p q c k (nI W.length) h a1 a2 a3 a4 a5 (T.length + 1) g (nI i) := by
  have hl := ok.1
  intro T
  induction T with
  | nil =>
    intro i g hi e H
    have := cd_end e
    exact pk_le W.length i (fun _ => H) (fun z => absurd z (by omega))
  | cons v T ih =>
    intro i g hi e H
    obtain ⟨h1, rfl, h3⟩ := cd_nxt ok e
    have nx : ∀ g', (fun r => post r (c, k, nI W.length, h, a1, a2, a3, a4, a5)) (cd_aga q p T g') → ∀ y, y = nI i + 1 → wX_against_28 post p q c k (nI W.length) h a1 a2 a3 a4 a5 (T.length + 1) g' y := by
      intro g' H y ey
      rw [ey, nI_1]
      exact ih (i + 1) g' (by omega) h3 H
    exact pk_le W.length i (fun z => absurd z (by omega)) (fun _ => ⟨pk_in i 2048 (by omega), cd_i (P := fun r => post r (c, k, nI W.length, h, a1, a2, a3, a4, a5)) H (fun H => ⟨pk_in i 2048 (by omega), cd_in_wp (cd_i (P := fun r => post r (c, k, nI W.length, h, a1, a2, a3, a4, a5)) H (fun H => ⟨pk_in i 2048 (by omega), nm_e (nx _ H)⟩) (nx _))⟩) (nx _)⟩)
theorem cd_aga_wp {post : Int32 → St2 → Prop} {x k f h : Int32} {K L R a4 a5 : Nat → Int32} {n c : Nat} (hn : n ≤ 3) (hs : cd_st n K L R k f a4) (hc : c < n)
    (H : ∀ a4' : Nat → Int32, cd_ok a4' (cd_W n K L R) → post (cd_aga (x &&& cd_e n) (nI c) (cd_W n K L R) (-4)) (nI n, 1, nI (cd_W n K L R).length, h, K, L, R, a4', a5)) : wpX_against post (nI n, k, f, h, K, L, R, a4, a5) x (nI c) := by
  unfold wpX_against
  refine cd_mis_f (by omega) hc (br_t rfl (cd_find_wp hn hs (fun a4' ok => ?_)))
  refine cd_ev_wp (nm_e ?_)
  exact ⟨(cd_W n K L R).length + 1, cd_aga_lp ok (cd_W n K L R) 0 (-4) (Nat.zero_le _) rfl (H a4' ok)⟩
theorem cd_aga_m {post : Int32 → St2 → Prop} {x c k f h : Int32} {K L R a4 a5 : Nat → Int32} {n : Nat} (hc : c < 0 ∨ nI n ≤ c) (H : post (-1) (nI n, k, f, h, K, L, R, a4, a5)) : wpX_against post (nI n, k, f, h, K, L, R, a4, a5) x c := by
  unfold wpX_against
  exact cd_mis_t hc (br_f (by decide) H)
theorem cd_alike_m {post : Int32 → St2 → Prop} {x c k f h : Int32} {K L R a4 a5 : Nat → Int32} {n : Nat} (hc : c < 0 ∨ nI n ≤ c) (H : post (-1) (nI n, k, f, h, K, L, R, a4, a5)) : wpX_alike post (nI n, k, f, h, K, L, R, a4, a5) c x := by
  unfold wpX_alike
  exact cd_mis_t hc (br_f (by decide) H)
/-! closedSets, on the empty desk -/
theorem cd_clsd0_wp {post : Int32 → St2 → Prop} {k f h : Int32} {K L R a4 a5 : Nat → Int32} (hs : cd_st 0 K L R k f a4) (h0 : cd_C 0 K L R 0 = 0)
    (H : ∀ a4' : Nat → Int32, cd_ok a4' (cd_W 0 K L R) → post 1 (nI 0, 1, nI (cd_W 0 K L R).length, h, K, L, R, a4', a5)) : wpX_closedSets post (nI 0, k, f, h, K, L, R, a4, a5) := by
  unfold wpX_closedSets
  refine cd_find_wp (by omega) hs (fun a4' ok => ?_)
  refine ⟨2, ?_⟩
  unfold wX_closedSets_8
  refine cd_ev_wp (n := 0) ?_
  refine br_f (show ¬ cd_e 0 < (0 : Int32) by decide) ?_
  refine cd_closure_wp (n := 0) ok ?_
  refine br_t h0 (nm_r (show (0 : Int32) + 1 = 1 by decide) (nm_r (show (0 : Int32) + 1 = 1 by decide) ?_))
  unfold wX_closedSets_8
  refine cd_ev_wp (n := 0) ?_
  exact br_t (show cd_e 0 < (1 : Int32) by decide) (H a4' ok)
end
section
/-! trueFor, classically, gather, sizeOf, meetsAll, enough -/
def cd_tb (kd a b t : Int32) : Int32 :=
  if kd = 3 then t else if kd = 0 then (if a = 0 then 0 else if b = 0 then 0 else 1)
  else if kd = 1 then (if a = 0 then (if b = 0 then 0 else 1) else 1)
  else if kd = 2 then (if a = 0 then 1 else if b = 0 then 0 else 1) else 0
def cd_T (J : Int32 → Int32 → Prop) (x3 x2 g : Int32) : Prop := (g = 0 → ∀ y : Int32, y = x3 + 1 → J x2 y) ∧ (¬ g = 0 → ∀ z : Int32, z = x2 ||| ((1 : Int32) <<< (x3 &&& 31)) → ∀ y : Int32, y = x3 + 1 → J z y)
def cd_true (K L R : Nat → Int32) (ch : Int32) : Nat → Nat → Int32 → Int32
  | 0, _, s => s
  | m + 1, i, s => if cd_tb (K (nI i).toNatClampNeg) (cd_in s (L (nI i).toNatClampNeg)) (cd_in s (R (nI i).toNatClampNeg)) (cd_in ch (L (nI i).toNatClampNeg)) = 0 then cd_true K L R ch m (i + 1) s else cd_true K L R ch m (i + 1) (s ||| ((1 : Int32) <<< (nI i &&& 31)))
theorem cd_true_wp {post : Int32 → Prop} {ch k f h : Int32} {K L R a4 a5 : Nat → Int32} {n : Nat} (hn : n ≤ 11) :
    ∀ (m i : Nat) (s : Int32), i + m = n → post (cd_true K L R ch m i s) → wX_trueFor_4 post ch (nI n) k f h K L R a4 a5 (m + 1) s (nI i) := by
  intro m
  induction m with
  | zero =>
    intro i s hi H
    exact pk_le n i (fun _ => H) (fun z => absurd z (by omega))
  | succ m ih =>
    intro i s hi H
    have nx : ∀ s', post (cd_true K L R ch m (i + 1) s') → ∀ y, y = nI i + 1 → wX_trueFor_4 post ch (nI n) k f h K L R a4 a5 (m + 1) s' y := by
      intro s' H y ey
      rw [ey, nI_1]
      exact ih (i + 1) s' (by omega) H
    have hw : cd_T (wX_trueFor_4 post ch (nI n) k f h K L R a4 a5 (m + 1)) (nI i) s (cd_tb (K (nI i).toNatClampNeg) (cd_in s (L (nI i).toNatClampNeg)) (cd_in s (R (nI i).toNatClampNeg)) (cd_in ch (L (nI i).toNatClampNeg))) :=
      cd_i (P := post) H (nx s) (fun H => nm_e (nx _ H))
    refine pk_le n i (fun z => absurd z (by omega)) (fun _ => ⟨pk_in i 11 (by omega), cd_in_wp ⟨pk_in i 11 (by omega), cd_in_wp ⟨pk_in i 11 (by omega), ?_⟩⟩⟩)
    refine cd_i hw (fun H => ⟨pk_in i 11 (by omega), cd_in_wp H⟩) (fun H => ⟨pk_in i 11 (by omega), cd_i H (fun H => ?_) (fun H => ⟨pk_in i 11 (by omega), cd_i H (fun H => ?_) (fun H => ⟨pk_in i 11 (by omega), cd_i H (fun H => ?_) (fun H => H)⟩)⟩)⟩)
    · exact cd_i H (fun H => H) (fun H => cd_i H (fun H => H) (fun H => H))
    · exact cd_i H (fun H => cd_i H (fun H => H) (fun H => H)) (fun H => H)
    · exact cd_i H (fun H => H) (fun H => cd_i H (fun H => H) (fun H => H))
theorem cd_trueFor_wp {post : Int32 → Prop} {ch k f h : Int32} {K L R a4 a5 : Nat → Int32} {n : Nat} (hn : n ≤ 11) (H : post (cd_true K L R ch n 0 0)) : wpX_trueFor post (nI n, k, f, h, K, L, R, a4, a5) ch := by
  unfold wpX_trueFor
  exact ⟨n + 1, cd_true_wp hn n 0 0 (by omega) H⟩
/-! classically -/
def cd_cb (c q t g : Int32) : Int32 := if g = 0 then 0 else if q &&& (t ^^^ (-1)) = 0 then (if cd_in t c = 0 then 0 else 1) else 1
def cd_cls (n : Nat) (K L R : Nat → Int32) (c q : Int32) : Nat → Nat → Int32 → Int32
  | 0, _, g => if g = 0 then 0 else 1
  | m + 1, i, g => cd_cls n K L R c q m (i + 1) (cd_cb c q (cd_true K L R (nI i) n 0 0) g)
theorem cd_cls_wp {post : Int32 → Prop} {c q k f h : Int32} {K L R a4 a5 : Nat → Int32} {n : Nat} (hn : n ≤ 11) :
    ∀ (m i : Nat) (g : Int32), i + m = 16 → post (cd_cls n K L R c q m i g) → wX_classically_23 post c q (nI n) k f h K L R a4 a5 (m + 1) g (nI i) := by
  intro m
  induction m with
  | zero =>
    intro i g hi H
    exact pk_le 16 i (fun _ => cd_i (P := post) H (fun H => H) (fun H => H)) (fun z => absurd z (by omega))
  | succ m ih =>
    intro i g hi H
    have hw : cd_J (wX_classically_23 post c q (nI n) k f h K L R a4 a5 (m + 1)) (nI i) (cd_cb c q (cd_true K L R (nI i) n 0 0) g) := by
      intro y ey
      rw [ey, nI_1]
      exact ih (i + 1) _ (by omega) H
    refine pk_le 16 i (fun z => absurd z (by omega)) (fun _ => cd_trueFor_wp hn ?_)
    exact cd_i hw (fun H => H) (fun H => cd_i H (fun H => cd_in_wp (cd_i H (fun H => H) (fun H => H))) (fun H => H))
theorem cd_clas_wp {post : Int32 → Prop} {x k f h : Int32} {K L R a4 a5 : Nat → Int32} {n c : Nat} (hn : n ≤ 3) (hc : c < n) (H : post (cd_cls n K L R (nI c) (x &&& cd_e n) 16 0 1)) : wpX_classically post (nI n, k, f, h, K, L, R, a4, a5) x (nI c) := by
  unfold wpX_classically
  exact cd_mis_f (by omega) hc (br_t rfl (cd_ev_wp (nm_e ⟨17, cd_cls_wp (by omega) 16 0 1 (by omega) H⟩)))
theorem cd_clas_m {post : Int32 → Prop} {x c k f h : Int32} {K L R a4 a5 : Nat → Int32} {n : Nat} (hc : c < 0 ∨ nI n ≤ c) (H : post (-1)) : wpX_classically post (nI n, k, f, h, K, L, R, a4, a5) x c := by
  unfold wpX_classically
  exact cd_mis_t hc (br_f (by decide) H)
/-! sizeOf, meetsAll -/
def cd_siz (x : Int32) : Nat → Nat → Int32 → Int32
  | 0, _, s => s
  | m + 1, i, s => cd_siz x m (i + 1) (s + ((x >>> (nI i &&& 31)) &&& 1))
theorem cd_siz_lp {post : Int32 → Prop} {x k f h : Int32} {K L R a4 a5 : Nat → Int32} {n : Nat} (hn : n ≤ 11) :
    ∀ (m i : Nat) (s : Int32), i + m = n → post (cd_siz x m i s) → wX_sizeOf_4 post x (nI n) k f h K L R a4 a5 (m + 1) s (nI i) := by
  intro m
  induction m with
  | zero =>
    intro i s hi H
    exact pk_le n i (fun _ => H) (fun z => absurd z (by omega))
  | succ m ih =>
    intro i s hi H
    exact pk_le n i (fun z => absurd z (by omega)) (fun _ => nm_e (nm_r (nI_1 i) (ih (i + 1) _ (by omega) H)))
theorem cd_siz_wp {post : Int32 → Prop} {x k f h : Int32} {K L R a4 a5 : Nat → Int32} {n : Nat} (hn : n ≤ 11) (H : post (cd_siz x n 0 0)) : wpX_sizeOf post (nI n, k, f, h, K, L, R, a4, a5) x := by
  unfold wpX_sizeOf
  exact ⟨n + 1, cd_siz_lp hn n 0 0 (by omega) H⟩
def cd_met (p : Int32) : List Int32 → Int32 → Int32
  | [], g => g
  | v :: T, g => if g = 0 then g else cd_met p T (if v &&& p = 0 then 0 else 1)
theorem cd_met_lp {post : Int32 → Prop} {p c k f : Int32} {a1 a2 a3 a4 a5 : Nat → Int32} {W : List Int32} (ok : cd_ok a5 W) :
    ∀ (T : List Int32) (i : Nat) (g : Int32), i ≤ W.length → W.drop i = T → cd_B g → post (cd_met p T g) → wX_meetsAll_4 post p c k f (nI W.length) a1 a2 a3 a4 a5 (T.length + 1) g (nI i) := by
  have hl := ok.1
  intro T
  induction T with
  | nil =>
    intro i g hi e hg H
    have := cd_end e
    exact pk_le W.length i (fun _ => ⟨cd_nb hg, H⟩) (fun z => absurd z (by omega))
  | cons v T ih =>
    intro i g hi e hg H
    obtain ⟨h1, rfl, h3⟩ := cd_nxt ok e
    refine pk_le W.length i (fun z => absurd z (by omega)) (fun _ => cd_i (P := post) H (fun H => ⟨cd_nb hg, H⟩) (fun H => ⟨pk_in i 2048 (by omega), ?_⟩))
    have hw : cd_J (wX_meetsAll_4 post p c k f (nI W.length) a1 a2 a3 a4 a5 (T.length + 1)) (nI i) (if a5 (nI i).toNatClampNeg &&& p = 0 then 0 else 1) := by
      intro y ey
      rw [ey, nI_1]
      exact ih (i + 1) _ (by omega) h3 (cd_Bi cd_B0 cd_B1) H
    exact cd_i hw (fun H => H) (fun H => H)
theorem cd_met_wp {post : Int32 → Prop} {p c k f : Int32} {a1 a2 a3 a4 a5 : Nat → Int32} {W : List Int32} (ok : cd_ok a5 W) (H : post (cd_met p W 1)) : wpX_meetsAll post (c, k, f, nI W.length, a1, a2, a3, a4, a5) p := by
  unfold wpX_meetsAll
  exact ⟨W.length + 1, cd_met_lp ok W 0 1 (Nat.zero_le _) rfl cd_B1 H⟩
/-! gather -/
def cd_hv (x v : Int32) : Int32 := (x &&& (v ^^^ (-1))).toInt16.toInt32
def cd_gb (w g : Int32) : Int32 := if g = 0 then 0 else if w = 0 then 0 else 1
theorem cd_gb_b {w g : Int32} : cd_B (cd_gb w g) := cd_Bi cd_B0 (cd_Bi cd_B0 cd_B1)
def cd_gat (x c : Int32) : List Int32 → List Int32 → Int32 → Int32 × List Int32
  | [], Hs, g => (g, Hs)
  | v :: T, Hs, g => if cd_in v c = 0 then cd_gat x c T (Hs ++ [cd_hv x v]) (cd_gb (cd_hv x v) g) else cd_gat x c T Hs g
theorem cd_gat_lp {post : Int32 → St2 → Prop} {x c n k : Int32} {a1 a2 a3 a4 : Nat → Int32} {W : List Int32} (ok : cd_ok a4 W) :
    ∀ (T : List Int32) (i : Nat) (g : Int32) (Hs : List Int32) (a5 : Nat → Int32), i ≤ W.length → W.drop i = T → Hs.length + T.length ≤ 2048 → cd_ok a5 Hs → cd_B g →
      (∀ a5' : Nat → Int32, cd_ok a5' (cd_gat x c T Hs g).2 → post (cd_gat x c T Hs g).1 (n, k, nI W.length, nI (cd_gat x c T Hs g).2.length, a1, a2, a3, a4, a5')) →
      wX_gather_10 post x c n k (nI W.length) (T.length + 1) g (nI i) (nI Hs.length) a1 a2 a3 a4 a5 := by
  have hl := ok.1
  intro T
  induction T with
  | nil =>
    intro i g Hs a5 hi e hh ok5 hg H
    have := cd_end e
    exact pk_le W.length i (fun _ => ⟨cd_nb hg, H a5 ok5⟩) (fun z => absurd z (by omega))
  | cons v T ih =>
    intro i g Hs a5 hi e hh ok5 hg H
    obtain ⟨h1, rfl, h3⟩ := cd_nxt ok e
    rw [List.length_cons] at hh
    refine pk_le W.length i (fun z => absurd z (by omega)) (fun _ => ⟨pk_in i 2048 (by omega), cd_in_wp (br_c (fun z => ?_) (fun z => ?_))⟩)
    · have e2 : cd_gat x c (a4 (nI i).toNatClampNeg :: T) Hs g = cd_gat x c T (Hs ++ [cd_hv x (a4 (nI i).toNatClampNeg)]) (cd_gb (cd_hv x (a4 (nI i).toNatClampNeg)) g) := if_pos z
      rw [e2] at H
      have el : nI Hs.length + 1 = nI (Hs ++ [cd_hv x (a4 (nI i).toNatClampNeg)]).length := by rw [nI_1, List.length_append]; rfl
      have hw : ∀ g', cd_gb (cd_hv x (a4 (nI i).toNatClampNeg)) g = g' → ∀ f', f' = nI Hs.length + 1 → ∀ y, y = nI i + 1 → wX_gather_10 post x c n k (nI W.length) (T.length + 1) g' y f' a1 a2 a3 a4 (upd a5 (nI Hs.length).toNatClampNeg (cd_hv x (a4 (nI i).toNatClampNeg))) := by
        intro g' eg f' ef y ey
        rw [ey, nI_1, ef, el, ← eg]
        exact ih (i + 1) _ _ _ (by omega) h3 (by rw [List.length_append, List.length_singleton]; omega) (cd_ok_add ok5 (by omega)) cd_gb_b H
      refine ⟨pk_in i 2048 (by omega), pk_in Hs.length 2048 (by omega), nm_e (br_c (fun z1 => hw 0 (if_pos z1)) (fun z1 => ⟨pk_in Hs.length 2048 (by omega), br_c (fun z2 => ?_) (fun z2 => ?_)⟩))⟩
      · rw [pk_us] at z2
        exact hw 0 ((if_neg z1).trans (if_pos z2))
      · rw [pk_us] at z2
        exact hw 1 ((if_neg z1).trans (if_neg z2))
    · have e2 : cd_gat x c (a4 (nI i).toNatClampNeg :: T) Hs g = cd_gat x c T Hs g := if_neg z
      rw [e2] at H
      exact nm_r (nI_1 i) (ih (i + 1) _ _ _ (by omega) h3 (by omega) ok5 hg H)
theorem cd_gat_wp {post : Int32 → St2 → Prop} {x c n k h : Int32} {a1 a2 a3 a4 a5 : Nat → Int32} {W : List Int32} (ok : cd_ok a4 W)
    (H : ∀ a5' : Nat → Int32, cd_ok a5' (cd_gat x c W [] 1).2 → post (cd_gat x c W [] 1).1 (n, k, nI W.length, nI (cd_gat x c W [] 1).2.length, a1, a2, a3, a4, a5')) : wpX_gather post (n, k, nI W.length, h, a1, a2, a3, a4, a5) x c := by
  have hl := ok.1
  unfold wpX_gather
  exact ⟨W.length + 1, cd_gat_lp ok W 0 1 [] a5 (Nat.zero_le _) rfl (by rw [List.length_nil]; omega) (cd_ok0 a5) cd_B1 H⟩
/-! enough -/
def cd_eno (n : Nat) (Hs : List Int32) (q : Int32) : Nat → Int32 → Int32 → Option Int32
  | 0, _, _ => none
  | f + 1, best, part => if part ≤ 0 then some (if nI Hs.length = 0 then 0 else best)
      else if best ≤ cd_siz part n 0 0 then cd_eno n Hs q f best ((part - 1) &&& q)
      else if cd_met part Hs 1 = 0 then cd_eno n Hs q f best ((part - 1) &&& q) else cd_eno n Hs q f (cd_siz part n 0 0) ((part - 1) &&& q)
def cd_S (Q : Int32 → Prop) (o : Option Int32) : Prop := ∃ r, o = some r ∧ Q r
theorem cd_eno_lp {post : Int32 → St2 → Prop} {q k f : Int32} {K L R a4 a5 : Nat → Int32} {n : Nat} {Hs : List Int32} (hn : n ≤ 11) (ok : cd_ok a5 Hs) :
    ∀ (m : Nat) (best part : Int32), cd_S (fun r => post r (nI n, k, f, nI Hs.length, K, L, R, a4, a5)) (cd_eno n Hs q m best part) → wX_enough_47 post q (nI n) k f (nI Hs.length) K L R a4 a5 m best part := by
  intro m
  induction m with
  | zero =>
    intro best part H
    obtain ⟨r, e, _⟩ := H
    exact absurd e.symm (Option.some_ne_none r)
  | succ m ih =>
    intro best part H
    refine cd_i H (fun H => ?_) (fun H => cd_siz_wp hn (cd_i H (fun H => nm_e (ih _ _ H)) (fun H => cd_met_wp ok (cd_i H (fun H => nm_e (ih _ _ H)) (fun H => nm_e (ih _ _ H))))))
    obtain ⟨r, e, H⟩ := H
    rw [← Option.some.inj e] at H
    exact cd_i (P := fun r => post r (nI n, k, f, nI Hs.length, K, L, R, a4, a5)) H (fun H => H) (fun H => H)
def cd_eng (n : Nat) (W : List Int32) (q c : Int32) : Option Int32 :=
  if (cd_gat q c W [] 1).1 = 0 then some (-4) else cd_eno n (cd_gat q c W [] 1).2 q 9 (cd_siz q n 0 0) q
theorem cd_enough_wp {post : Int32 → St2 → Prop} {x k f h : Int32} {K L R a4 a5 : Nat → Int32} {n c : Nat} {r : Int32} (hn : n ≤ 3) (hs : cd_st n K L R k f a4) (hc : c < n) (hr : cd_eng n (cd_W n K L R) (x &&& cd_e n) (nI c) = some r)
    (H : ∀ (h' : Int32) (a4' a5' : Nat → Int32), cd_ok a4' (cd_W n K L R) → post r (nI n, 1, nI (cd_W n K L R).length, h', K, L, R, a4', a5')) : wpX_enough post (nI n, k, f, h, K, L, R, a4, a5) x (nI c) := by
  unfold wpX_enough
  refine cd_mis_f (by omega) hc (br_t rfl (cd_find_wp hn hs (fun a4' ok => ?_)))
  refine cd_ev_wp (nm_e ?_)
  refine cd_gat_wp ok (fun a5' ok5 => ?_)
  refine br_c (fun z => ?_) (fun z => ?_)
  · have e : cd_eng n (cd_W n K L R) (x &&& cd_e n) (nI c) = some (-4) := if_pos z
    rw [e] at hr
    rw [← Option.some.inj hr] at H
    exact H _ a4' a5' ok
  · have e : cd_eng n (cd_W n K L R) (x &&& cd_e n) (nI c) = cd_eno n (cd_gat (x &&& cd_e n) (nI c) (cd_W n K L R) [] 1).2 (x &&& cd_e n) 9 (cd_siz (x &&& cd_e n) n 0 0) (x &&& cd_e n) := if_neg z
    rw [e] at hr
    exact cd_siz_wp (by omega) ⟨9, cd_eno_lp (by omega) ok5 9 _ _ ⟨r, hr, H _ a4' a5' ok⟩⟩
theorem cd_enough_m {post : Int32 → St2 → Prop} {x c k f h : Int32} {K L R a4 a5 : Nat → Int32} {n : Nat} (hc : c < 0 ∨ nI n ≤ c) (H : post (-1) (nI n, k, f, h, K, L, R, a4, a5)) : wpX_enough post (nI n, k, f, h, K, L, R, a4, a5) x c := by
  unfold wpX_enough
  exact cd_mis_t hc (br_f (by decide) H)
end
section
/-! the list of formulas: put, atom, falsum, join, drop, size -/
def cd_pf (K L R : Nat → Int32) (w a b : Int32) : Nat → Nat → Option Nat
  | 0, _ => none
  | m + 1, i => if K (nI i).toNatClampNeg = w then (if L (nI i).toNatClampNeg = a then (if R (nI i).toNatClampNeg = b then some i else cd_pf K L R w a b m (i + 1)) else cd_pf K L R w a b m (i + 1)) else cd_pf K L R w a b m (i + 1)
def cd_P (A : Nat → Prop) (B : Prop) (o : Option Nat) : Prop := (∀ j, o = some j → A j) ∧ (o = none → B)
theorem cd_put_lp {post : Int32 → St2 → Prop} {w a b k f h : Int32} {K L R a4 a5 : Nat → Int32} {n : Nat} (hn : n < 11) (hw : w.toInt8.toInt32 = w) (ha : a.toInt8.toInt32 = a) (hb : b.toInt8.toInt32 = b) :
    ∀ (m i : Nat), i + m = n → cd_P (fun j => post (nI j) (nI n, k, f, h, K, L, R, a4, a5)) (post (nI n) (nI (n + 1), 0, f, h, upd K n w, upd L n a, upd R n b, a4, a5)) (cd_pf K L R w a b m i) →
      wX_put_3 post w a b (nI n) k f h K L R a4 a5 (m + 1) (nI i) := by
  have hc : (nI n).toNatClampNeg = n := nI_clamp (by omega)
  intro m
  induction m with
  | zero =>
    intro i hi H
    have H2 : post (nI (n + 1) - 1) (nI (n + 1), 0, f, h, upd K n w, upd L n a, upd R n b, a4, a5) := by
      rw [nI_pred]
      exact H.2 rfl
    exact pk_le n i (fun _ => pk_eq n 11 (fun z => absurd z (by omega)) (fun _ => ⟨pk_in n 11 hn, nm_r (by rw [hc, hw]) ⟨pk_in n 11 hn, nm_r (by rw [hc, ha]) ⟨pk_in n 11 hn, nm_r (by rw [hc, hb]) (nm_r (nI_1 n) H2)⟩⟩⟩)) (fun z => absurd z (by omega))
  | succ m ih =>
    intro i hi H
    have nx : cd_P (fun j => post (nI j) (nI n, k, f, h, K, L, R, a4, a5)) (post (nI n) (nI (n + 1), 0, f, h, upd K n w, upd L n a, upd R n b, a4, a5)) (cd_pf K L R w a b m (i + 1)) → ∀ y, y = nI i + 1 → wX_put_3 post w a b (nI n) k f h K L R a4 a5 (m + 1) y := by
      intro H y ey
      rw [ey, nI_1]
      exact ih (i + 1) (by omega) H
    exact pk_le n i (fun z => absurd z (by omega)) (fun _ => ⟨pk_in i 11 (by omega), cd_i H (fun H => ⟨pk_in i 11 (by omega), cd_i H (fun H => ⟨pk_in i 11 (by omega), cd_i H (fun H => H.1 i rfl) nx⟩) nx⟩) nx⟩)
theorem cd_put_wp {post : Int32 → St2 → Prop} {w a b k f h : Int32} {K L R a4 a5 : Nat → Int32} {n : Nat} (hn : n < 11) (hw : w.toInt8.toInt32 = w) (ha : a.toInt8.toInt32 = a) (hb : b.toInt8.toInt32 = b)
    (H : cd_P (fun j => post (nI j) (nI n, k, f, h, K, L, R, a4, a5)) (post (nI n) (nI (n + 1), 0, f, h, upd K n w, upd L n a, upd R n b, a4, a5)) (cd_pf K L R w a b n 0)) : wpX_put post (nI n, k, f, h, K, L, R, a4, a5) w a b := by
  unfold wpX_put
  exact ⟨n + 1, cd_put_lp hn hw ha hb n 0 (by omega) H⟩
theorem cd_put_old {post : Int32 → St2 → Prop} {w a b k f h : Int32} {K L R a4 a5 : Nat → Int32} {n j : Nat} (hn : n < 11) (hw : w.toInt8.toInt32 = w) (ha : a.toInt8.toInt32 = a) (hb : b.toInt8.toInt32 = b)
    (e : cd_pf K L R w a b n 0 = some j) (H : post (nI j) (nI n, k, f, h, K, L, R, a4, a5)) : wpX_put post (nI n, k, f, h, K, L, R, a4, a5) w a b := by
  refine cd_put_wp hn hw ha hb ⟨fun j' e' => ?_, fun e' => ?_⟩
  · rw [e] at e'
    rw [← Option.some.inj e']
    exact H
  · rw [e] at e'
    exact absurd e' (Option.some_ne_none j)
theorem cd_put_new {post : Int32 → St2 → Prop} {w a b k f h : Int32} {K L R a4 a5 : Nat → Int32} {n : Nat} (hn : n < 11) (hw : w.toInt8.toInt32 = w) (ha : a.toInt8.toInt32 = a) (hb : b.toInt8.toInt32 = b)
    (e : cd_pf K L R w a b n 0 = none) (H : post (nI n) (nI (n + 1), 0, f, h, upd K n w, upd L n a, upd R n b, a4, a5)) : wpX_put post (nI n, k, f, h, K, L, R, a4, a5) w a b := by
  refine cd_put_wp hn hw ha hb ⟨fun j' e' => ?_, fun _ => H⟩
  rw [e] at e'
  exact absurd e'.symm (Option.some_ne_none j')
theorem cd_by8 : ∀ a, a < 4 → (nI a).toInt8.toInt32 = nI a := by decide +kernel
theorem cd_atom_new {post : Int32 → St2 → Prop} {k f h : Int32} {K L R a4 a5 : Nat → Int32} {n a : Nat} (hn : n < 11) (ha : a < 4) (e : cd_pf K L R 3 (nI a) 0 n 0 = none)
    (H : post (nI n) (nI (n + 1), 0, f, h, upd K n 3, upd L n (nI a), upd R n 0, a4, a5)) : wpX_atom post (nI n, k, f, h, K, L, R, a4, a5) (nI a) := by
  unfold wpX_atom
  exact br_f (nI_pos (by omega)) (br_t (nI_lt (b := 4) ha (by decide)) (cd_put_new hn (by decide) (cd_by8 a ha) (by decide) e H))
theorem cd_atom_old {post : Int32 → St2 → Prop} {k f h : Int32} {K L R a4 a5 : Nat → Int32} {n a j : Nat} (hn : n < 11) (ha : a < 4) (e : cd_pf K L R 3 (nI a) 0 n 0 = some j)
    (H : post (nI j) (nI n, k, f, h, K, L, R, a4, a5)) : wpX_atom post (nI n, k, f, h, K, L, R, a4, a5) (nI a) := by
  unfold wpX_atom
  exact br_f (nI_pos (by omega)) (br_t (nI_lt (b := 4) ha (by decide)) (cd_put_old hn (by decide) (cd_by8 a ha) (by decide) e H))
theorem cd_le3 {x : Int32} (h : 3 < x) : ¬ x < 4 := by
  rw [Int32.lt_iff_toInt_lt] at h ⊢
  have e3 : (3 : Int32).toInt = 3 := by decide
  have e4 : (4 : Int32).toInt = 4 := by decide
  omega
theorem cd_atom_m {post : Int32 → St2 → Prop} {k f h x : Int32} {K L R a4 a5 : Nat → Int32} {n : Nat} (hx : x < 0 ∨ 3 < x) (H : post (-1) (nI n, k, f, h, K, L, R, a4, a5)) : wpX_atom post (nI n, k, f, h, K, L, R, a4, a5) x := by
  unfold wpX_atom
  exact br_c (fun _ => H) (fun z => br_f (by rcases hx with g | g; exact absurd g z; exact cd_le3 g) H)
theorem cd_falsum_new {post : Int32 → St2 → Prop} {k f h : Int32} {K L R a4 a5 : Nat → Int32} {n : Nat} (hn : n < 11) (e : cd_pf K L R 4 0 0 n 0 = none)
    (H : post (nI n) (nI (n + 1), 0, f, h, upd K n 4, upd L n 0, upd R n 0, a4, a5)) : wpX_falsum post (nI n, k, f, h, K, L, R, a4, a5) := by
  unfold wpX_falsum
  exact cd_put_new hn (by decide) (by decide) (by decide) e H
theorem cd_falsum_old {post : Int32 → St2 → Prop} {k f h : Int32} {K L R a4 a5 : Nat → Int32} {n j : Nat} (hn : n < 11) (e : cd_pf K L R 4 0 0 n 0 = some j)
    (H : post (nI j) (nI n, k, f, h, K, L, R, a4, a5)) : wpX_falsum post (nI n, k, f, h, K, L, R, a4, a5) := by
  unfold wpX_falsum
  exact cd_put_old hn (by decide) (by decide) (by decide) e H
theorem cd_join_new {post : Int32 → St2 → Prop} {k f h : Int32} {K L R a4 a5 : Nat → Int32} {n o i j : Nat} (hn : n < 4) (ho : o < 3) (hi : i < n) (hj : j < n) (e : cd_pf K L R (nI o) (nI i) (nI j) n 0 = none)
    (H : post (nI n) (nI (n + 1), 0, f, h, upd K n (nI o), upd L n (nI i), upd R n (nI j), a4, a5)) : wpX_join post (nI n, k, f, h, K, L, R, a4, a5) (nI o) (nI i) (nI j) := by
  unfold wpX_join
  exact br_f (nI_pos (by omega)) (br_f (nI_nlt (a := 2) (by omega) (by decide)) (cd_mis_f (by omega) hi (br_t rfl (cd_mis_f (by omega) hj (br_t rfl (cd_put_new (by omega) (cd_by8 o (by omega)) (cd_by8 i (by omega)) (cd_by8 j (by omega)) e H))))))
theorem cd_join_old {post : Int32 → St2 → Prop} {k f h : Int32} {K L R a4 a5 : Nat → Int32} {n o i j q : Nat} (hn : n < 4) (ho : o < 3) (hi : i < n) (hj : j < n) (hi4 : i < 4) (hj4 : j < 4) (e : cd_pf K L R (nI o) (nI i) (nI j) n 0 = some q)
    (H : post (nI q) (nI n, k, f, h, K, L, R, a4, a5)) : wpX_join post (nI n, k, f, h, K, L, R, a4, a5) (nI o) (nI i) (nI j) := by
  unfold wpX_join
  exact br_f (nI_pos (by omega)) (br_f (nI_nlt (a := 2) (by omega) (by decide)) (cd_mis_f (by omega) hi (br_t rfl (cd_mis_f (by omega) hj (br_t rfl (cd_put_old (by omega) (cd_by8 o (by omega)) (cd_by8 i hi4) (cd_by8 j hj4) e H))))))
theorem cd_mis_c {post : Int32 → Prop} {n : Nat} {x k f h : Int32} {a1 a2 a3 a4 a5 : Nat → Int32} (h0 : ¬ (x < 0 ∨ nI n ≤ x) → post 0) (h1 : post 1) : wpX_missing post (nI n, k, f, h, a1, a2, a3, a4, a5) x :=
  br_c (fun _ => h1) (fun z => br_c (fun g => h0 (fun t => by rcases t with t | t; exact z t; exact cd_nlt t g)) (fun _ => h1))
theorem cd_join_m {post : Int32 → St2 → Prop} {k f h o i j : Int32} {K L R a4 a5 : Nat → Int32} {n : Nat} (hx : o < 0 ∨ 2 < o ∨ (i < 0 ∨ nI n ≤ i) ∨ (j < 0 ∨ nI n ≤ j))
    (H : post (-1) (nI n, k, f, h, K, L, R, a4, a5)) : wpX_join post (nI n, k, f, h, K, L, R, a4, a5) o i j := by
  unfold wpX_join
  refine br_c (fun _ => H) (fun z0 => br_c (fun _ => H) (fun z1 => cd_mis_c (fun z2 => br_t rfl (cd_mis_c (fun z3 => absurd hx ?_) (br_f (by decide) H))) (br_f (by decide) H)))
  intro t
  rcases t with t | t | t | t
  · exact z0 t
  · exact z1 t
  · exact z2 t
  · exact z3 t
theorem cd_drop_s {post : Int32 → St2 → Prop} {k f h : Int32} {K L R a4 a5 : Nat → Int32} {m : Nat} (hm : m < 11) (H : post (nI m) (nI m, 0, f, h, K, L, R, a4, a5)) : wpX_drop post (nI (m + 1), k, f, h, K, L, R, a4, a5) := by
  unfold wpX_drop
  exact br_f (nI_ne0 (by omega) (by omega)) (nm_r (nI_pred m) H)
theorem cd_drop_0 {post : Int32 → St2 → Prop} {k f h : Int32} {K L R a4 a5 : Nat → Int32} (H : post (-4) (nI 0, k, f, h, K, L, R, a4, a5)) : wpX_drop post (nI 0, k, f, h, K, L, R, a4, a5) := by
  unfold wpX_drop
  exact br_t rfl H
theorem cd_size_wp {post : Int32 → Prop} {n k f h : Int32} {K L R a4 a5 : Nat → Int32} (H : post n) : wpX_size post (n, k, f, h, K, L, R, a4, a5) := H
end
section
/-! the law's second half: from the finished desk on -/
def cd_tru (s x y : Int32) : Int32 :=
  if s = 0 then (if x = 0 then 0 else if y = 0 then 0 else 1)
  else if s = 1 then (if x = 0 then (if y = 0 then 0 else 1) else 1)
  else (if x = 0 then 1 else if y = 0 then 0 else 1)
theorem cd_tru_wp {post : Int32 → Prop} {s x y : Int32} (H : post (cd_tru s x y)) : wpL_truth post () s x y :=
  cd_i (P := post) H (fun H => cd_i (P := post) H (fun H => H) (fun H => cd_i (P := post) H (fun H => H) (fun H => H)))
    (fun H => cd_i (P := post) H (fun H => cd_i (P := post) H (fun H => cd_i (P := post) H (fun H => H) (fun H => H)) (fun H => H))
      (fun H => cd_i (P := post) H (fun H => H) (fun H => cd_i (P := post) H (fun H => H) (fun H => H))))
def cd_al (own s al : Int32) : Int32 := if own &&& (s ^^^ (-1)) = 0 then al &&& s else al
def cd_isy (op k made s bi bj : Int32) : Int32 := if made = 0 then s else if cd_tru op bi bj = 0 then s else s ||| ((1 : Int32) <<< ((k + 1) &&& 31))
def cd_is0 (ga p : Int32) : Int32 := if ga = 0 then 0 else if p = 1 then 1 else 0
def cd_isx (op i j k made s : Int32) : Int32 := cd_isy op k made s (cd_in s i) (cd_in s j)
def cd_fin (op i j ga k made own : Int32) (n : Nat) : Int32 := cd_al own (cd_isx op i j k made (cd_is0 ga (0 + 1))) (cd_al own (cd_isx op i j k made (cd_is0 ga 0)) (cd_e n))
section
variable {post : Int32 → St0 → Prop} {mc ms kc ks : Nat} {J : Int32 → Int32 → Prop} {x1 x2 x3 x4 x5 x7 x8 x9 x10 x11 x12 x13 : Int32} {c k f h : Int32} {a1 a2 a3 a4 a5 : Nat → Int32}
theorem cd_430 {s : Int32} (H : J (cd_al x11 s x12) (x13 + 1)) : wL_lawOf_430 post mc ms J x1 x2 x3 x4 x5 x7 x8 x9 x10 x11 x12 x13 s kc ks c k f h a1 a2 a3 a4 a5 :=
  cd_i (P := fun a => J a (x13 + 1)) H (fun H => nm_e (nm_e H)) (fun H => nm_e H)
theorem cd_401 {s bi bj : Int32} (H : J (cd_al x11 (cd_isy x1 x8 x9 s bi bj) x12) (x13 + 1)) : wL_lawOf_401 post mc ms J x1 x2 x3 x4 x5 x7 x8 x9 x10 x11 x12 x13 s bi bj kc ks c k f h a1 a2 a3 a4 a5 := by
  unfold wL_lawOf_401
  exact cd_i (P := fun s => J (cd_al x11 s x12) (x13 + 1)) H (fun H => cd_430 H) (fun H => cd_tru_wp (cd_i (P := fun s => J (cd_al x11 s x12) (x13 + 1)) H (fun H => cd_430 H) (fun H => nm_e (cd_430 H))))
theorem cd_384 {s bi : Int32} (H : J (cd_al x11 (cd_isy x1 x8 x9 s bi (cd_in s x3)) x12) (x13 + 1)) : wL_lawOf_384 post mc ms J x1 x2 x3 x4 x5 x7 x8 x9 x10 x11 x12 x13 s bi kc ks c k f h a1 a2 a3 a4 a5 := by
  unfold wL_lawOf_384
  exact cd_i (P := fun b => J (cd_al x11 (cd_isy x1 x8 x9 s bi b) x12) (x13 + 1)) H (fun H => cd_401 H) (fun H => cd_401 H)
theorem cd_367 {s : Int32} (H : J (cd_al x11 (cd_isx x1 x2 x3 x8 x9 s) x12) (x13 + 1)) : wL_lawOf_367 post mc ms J x1 x2 x3 x4 x5 x7 x8 x9 x10 x11 x12 x13 s kc ks c k f h a1 a2 a3 a4 a5 := by
  unfold wL_lawOf_367
  exact cd_i (P := fun b => J (cd_al x11 (cd_isy x1 x8 x9 s b (cd_in s x3)) x12) (x13 + 1)) H (fun H => cd_384 H) (fun H => cd_384 H)
theorem cd_345 {m : Nat} (hp : ¬ 2 ≤ x13) (H : wL_lawOf_345 post mc ms x1 x2 x3 x4 x5 x7 x8 x9 x10 x11 kc ks c k f h a1 a2 a3 a4 a5 m (cd_al x11 (cd_isx x1 x2 x3 x8 x9 (cd_is0 x7 x13)) x12) (x13 + 1)) :
    wL_lawOf_345 post mc ms x1 x2 x3 x4 x5 x7 x8 x9 x10 x11 kc ks c k f h a1 a2 a3 a4 a5 (m + 1) x12 x13 := by
  refine br_f hp ?_
  refine cd_i (P := fun s => wL_lawOf_345 post mc ms x1 x2 x3 x4 x5 x7 x8 x9 x10 x11 kc ks c k f h a1 a2 a3 a4 a5 m (cd_al x11 (cd_isx x1 x2 x3 x8 x9 s) x12) (x13 + 1)) H (fun H => ?_) (fun H => ?_)
  · unfold wL_lawOf_366
    exact cd_367 H
  · refine cd_i (P := fun s => wL_lawOf_345 post mc ms x1 x2 x3 x4 x5 x7 x8 x9 x10 x11 kc ks c k f h a1 a2 a3 a4 a5 m (cd_al x11 (cd_isx x1 x2 x3 x8 x9 s) x12) (x13 + 1)) H (fun H => cd_367 H) (fun H => ?_)
    unfold wL_lawOf_366
    exact cd_367 H
end
/-- what the tables say of a desk, a masked set, and what the law expects to follow -/
abbrev cd_chkA (n : Nat) (W : List Int32) (own c due ag : Int32) : Prop :=
  (0 ≤ ag ↔ ¬ due = 1) ∧ (due = 0 → cd_sat (ag &&& cd_e n) W 0 = 1 ∧ own &&& (ag ^^^ (-1)) = 0 ∧ (ag >>> (c &&& 31)) &&& 1 = 0)
abbrev cd_chkE (n : Nat) (due : Int32) (e : Option Int32) : Prop := e.isSome = true ∧ (due = 0 → e = some (-4)) ∧ ¬ nI n < e.getD 0
abbrev cd_chkD (n : Nat) (K L R : Nat → Int32) (own c due : Int32) : Prop :=
  cd_cls n K L R c own 16 0 1 = due ∧ cd_chkE n due (cd_eng n (cd_W n K L R) own c) ∧ cd_chkA n (cd_W n K L R) own c due (cd_aga own c (cd_W n K L R) (-4))
abbrev cd_row (n : Nat) (K L R : Nat → Int32) (own al : Int32) : Prop :=
  cd_C n K L R own = al ∧ own &&& cd_e n = own ∧ ∀ c, c < n → cd_chkD n K L R own (nI c) ((al >>> (nI c &&& 31)) &&& 1)
section
variable {post : Int32 → St0 → Prop} {mc ms kc ks : Nat} {st k f h : Int32} {K L R a4 a5 : Nat → Int32} {n : Nat}
theorem cd_691 (HP : post 1 ()) (h1 : 1 ≤ n) (hn : n ≤ 3) : wL_lawOf_691 post mc ms (nI n) kc ks (nI n) k f h K L R a4 a5 := by
  unfold wL_lawOf_691
  have hh : n = 1 ∨ n = 2 ∨ n = 3 := by omega
  rcases hh with rfl | rfl | rfl
  · exact cd_drop_s (by decide) (br_t (by decide) (cd_size_wp (br_t (by decide) (cd_drop_0 (br_t (by decide) (br_t rfl HP))))))
  · exact cd_drop_s (by decide) (br_t (by decide) (cd_size_wp (br_t (by decide) (cd_drop_s (by decide) (br_f (by decide) (br_t (by decide) HP))))))
  · exact cd_drop_s (by decide) (br_t (by decide) (cd_size_wp (br_t (by decide) (cd_drop_s (by decide) (br_f (by decide) (br_t (by decide) HP))))))
theorem cd_s1 {a4 : Nat → Int32} (ok : cd_ok a4 (cd_W n K L R)) : cd_st n K L R 1 (nI (cd_W n K L R).length) a4 := Or.inr ⟨rfl, rfl, ok⟩
theorem cd_648 {c : Nat} {own due ag : Int32} (HP : post 1 ()) (h1 : 1 ≤ n) (hn : n ≤ 3) (hs : cd_st n K L R k f a4) (Q : cd_chkA n (cd_W n K L R) own (nI c) due ag) : wL_lawOf_648 post mc ms (nI c) (nI n) own 1 due ag kc ks (nI n) k f h K L R a4 a5 := by
  unfold wL_lawOf_648
  refine br_f (by decide) (br_c (fun z => ?_) (fun z => cd_691 HP h1 hn))
  obtain ⟨q1, q2, q3⟩ := Q.2 z
  exact cd_sat_wp hn hs (fun b4 ok => br_t q1 (br_t q2 (br_t q3 (cd_691 HP h1 hn))))
theorem cd_574 {c : Nat} {due r : Int32} (HP : post 1 ()) (h1 : 1 ≤ n) (hn : n ≤ 3) (hc : c < n) (hs : cd_st n K L R k f a4) (he : cd_eng n (cd_W n K L R) (st &&& cd_e n) (nI c) = some r) (hr : ¬ nI n < r)
    (Q : cd_chkA n (cd_W n K L R) (st &&& cd_e n) (nI c) due (cd_aga (st &&& cd_e n) (nI c) (cd_W n K L R) (-4))) : wL_lawOf_574 post mc ms st (nI c) (nI n) (st &&& cd_e n) 1 due r kc ks (nI n) k f h K L R a4 a5 := by
  unfold wL_lawOf_574
  refine cd_aga_wp hn hs hc (fun b4 ok => ?_)
  refine cd_enough_wp hn (cd_s1 ok) hc he (fun h' b4 b5 ok => ?_)
  refine br_t rfl (br_f hr (br_f (by decide) (br_c (fun z => ?_) (fun z => ?_))))
  · unfold wL_lawOf_623 wL_lawOf_634
    exact br_f (Q.1.mp z) (br_t rfl (cd_648 HP h1 hn (cd_s1 ok) Q))
  · unfold wL_lawOf_623 wL_lawOf_634
    exact br_t (Decidable.not_not.mp (fun t => z (Q.1.mpr t))) (br_t rfl (cd_648 HP h1 hn (cd_s1 ok) Q))
theorem cd_488 {c : Nat} {al : Int32} (HP : post 1 ()) (h1 : 1 ≤ n) (hn : n ≤ 3) (hc : c < n) (hs : cd_st n K L R k f a4) (Q : cd_row n K L R (st &&& cd_e n) al) : wL_lawOf_488 post mc ms st (nI c) (nI n) (st &&& cd_e n) al 1 ((al >>> (nI c &&& 31)) &&& 1) kc ks (nI n) k f h K L R a4 a5 := by
  obtain ⟨F1, F3, F⟩ := Q
  obtain ⟨F2, ⟨E1, E2, E3⟩, A⟩ := F c hc
  obtain ⟨r, er⟩ := Option.isSome_iff_exists.mp E1
  rw [er] at E2 E3
  unfold wL_lawOf_488
  refine cd_all_wp hn hs (fun b4 ok => ?_)
  refine br_t F1 ?_
  refine cd_follows_wp hn (cd_s1 ok) hc (fun b4 ok => ?_)
  refine br_t (by rw [F1]) ?_
  refine cd_clas_wp hn hc (br_t F2 ?_)
  refine cd_follows_wp hn (cd_s1 ok) hc (fun b4 ok => ?_)
  refine br_t (by rw [F3, F1]) (br_f (by decide) (br_c (fun z => ?_) (fun z => ?_)))
  · rw [Option.some.inj (E2 z)] at er E3
    exact cd_574 HP h1 hn hc (cd_s1 ok) er E3 A
  · refine cd_enough_wp hn (cd_s1 ok) hc er (fun h' b4 b5 ok => ?_)
    exact cd_574 HP h1 hn hc (cd_s1 ok) er E3 A
theorem cd_488m {c al : Int32} (HP : post 1 ()) (h1 : 1 ≤ n) (hn : n ≤ 3) (hc : c < 0 ∨ nI n ≤ c) (hs : cd_st n K L R k f a4) (F1 : cd_C n K L R (st &&& cd_e n) = al) : wL_lawOf_488 post mc ms st c (nI n) (st &&& cd_e n) al 0 (-1) kc ks (nI n) k f h K L R a4 a5 := by
  unfold wL_lawOf_488
  refine cd_all_wp hn hs (fun b4 ok => ?_)
  refine br_t F1 ?_
  refine cd_follows_m hc (br_t rfl ?_)
  refine cd_clas_m hc (br_t rfl ?_)
  refine cd_follows_m hc (br_t rfl (br_t rfl ?_))
  unfold wL_lawOf_574
  refine cd_aga_m hc ?_
  refine cd_enough_m hc ?_
  refine br_t rfl (br_f ?_ (br_t rfl (br_t rfl ?_)))
  · have hh : n = 1 ∨ n = 2 ∨ n = 3 := by omega
    rcases hh with rfl | rfl | rfl
    all_goals decide
  · unfold wL_lawOf_648
    exact br_t rfl (cd_691 HP h1 hn)
theorem cd_em : ∀ n, n < 4 → (cd_e n).toBitVec.toNat = 2 ^ n - 1 := by decide +kernel
theorem cd_260 {op i j c ga kk made : Int32} (HP : post 1 ()) (h1 : 1 ≤ n) (hn : n ≤ 3) (hs : cd_st n K L R k f a4) (T : ∀ o, o < 2 ^ n → cd_row n K L R (nI o) (cd_fin op i j ga kk made (nI o) n)) :
    wL_lawOf_260 post mc ms op i j st c ga kk made (nI n) kc ks (nI n) k f h K L R a4 a5 := by
  obtain ⟨o, ho, eo⟩ := pk_andE st n (cd_em n (by omega))
  have Q := T o ho
  rw [← eo] at Q
  unfold wL_lawOf_260
  refine nm_e (nm_e (cd_size_wp (br_t rfl ?_)))
  refine cd_join_m (Or.inr (Or.inl (by decide))) (br_t rfl ?_)
  refine cd_join_m (Or.inr (Or.inr (Or.inl (Or.inr (nI_le (Nat.le_refl n) (by omega)))))) (br_t rfl ?_)
  refine cd_join_m (Or.inr (Or.inr (Or.inr (Or.inl (by decide))))) (br_t rfl ?_)
  refine cd_alike_m (Or.inr (nI_le (Nat.le_refl n) (by omega))) (br_t rfl ⟨3, ?_⟩)
  refine cd_345 (by decide) (cd_345 (by decide) (br_t (by decide) ?_))
  have m : c < 0 ∨ nI n ≤ c → wL_lawOf_469 post mc ms st c (nI n) (st &&& cd_e n) (cd_fin op i j ga kk made (st &&& cd_e n) n) kc ks (nI n) k f h K L R a4 a5 := by
    intro hc
    unfold wL_lawOf_469 wL_lawOf_470
    exact br_t rfl (cd_488m HP h1 hn hc hs Q.1)
  refine br_c (fun z => m (Or.inl z)) (fun z => br_c (fun z2 => m (Or.inr z2)) (fun z2 => ?_))
  rcases pk_ix c (n := n) (by omega) with g | g | ⟨c', hc, rfl⟩
  · exact absurd g z
  · exact absurd g z2
  · unfold wL_lawOf_470
    exact br_f (by decide) (cd_488 HP h1 hn hc hs Q)
end
end
section
/-! the tables: every desk that the law can make, every masked set, every index: decided -/
def cd_bD (n : Nat) (K L R : Nat → Int32) (own c due : Int32) : Bool :=
  decide (cd_cls n K L R c own 16 0 1 = due) && decide (cd_chkE n due (cd_eng n (cd_W n K L R) own c)) && decide (cd_chkA n (cd_W n K L R) own c due (cd_aga own c (cd_W n K L R) (-4)))
theorem cd_bD_s {n : Nat} {K L R : Nat → Int32} {own c due : Int32} (h : cd_bD n K L R own c due = true) : cd_chkD n K L R own c due := by
  unfold cd_bD at h
  rw [Bool.and_eq_true, Bool.and_eq_true] at h
  exact ⟨of_decide_eq_true h.1.1, of_decide_eq_true h.1.2, of_decide_eq_true h.2⟩
def cd_bR (n : Nat) (K L R : Nat → Int32) (own al : Int32) : Bool :=
  decide (cd_C n K L R own = al) && decide (own &&& cd_e n = own) && (List.range n).all (fun c => cd_bD n K L R own (nI c) ((al >>> (nI c &&& 31)) &&& 1))
theorem cd_bR_s {n : Nat} {K L R : Nat → Int32} {own al : Int32} (h : cd_bR n K L R own al = true) : cd_row n K L R own al := by
  unfold cd_bR at h
  rw [Bool.and_eq_true, Bool.and_eq_true] at h
  exact ⟨of_decide_eq_true h.1.1, of_decide_eq_true h.1.2, fun c hc => cd_bD_s (List.all_eq_true.mp h.2 c (List.mem_range.mpr hc))⟩
abbrev cd_tab (n : Nat) (K L R : Nat → Int32) (op i j ga k made : Int32) : Prop := ∀ o, o < 2 ^ n → cd_row n K L R (nI o) (cd_fin op i j ga k made (nI o) n)
def cd_bT (n : Nat) (K L R : Nat → Int32) (op i j ga k made : Int32) : Bool := (List.range (2 ^ n)).all (fun o => cd_bR n K L R (nI o) (cd_fin op i j ga k made (nI o) n))
theorem cd_bT_s {n : Nat} {K L R : Nat → Int32} {op i j ga k made : Int32} (h : cd_bT n K L R op i j ga k made = true) : cd_tab n K L R op i j ga k made :=
  fun o ho => cd_bR_s (List.all_eq_true.mp h o (List.mem_range.mpr ho))
abbrev cd_mk0 (kk : Nat) (K L R : Nat → Int32) (o i j : Nat) : Prop :=
  cd_pf K L R (nI o) (nI i) (nI j) (kk + 1) 0 = none ∧ cd_pf (upd K (kk + 1) (nI o)) (upd L (kk + 1) (nI i)) (upd R (kk + 1) (nI j)) (nI o) (nI i) (nI j) (kk + 2) 0 = some (kk + 1)
abbrev cd_mk (kk : Nat) (K L R : Nat → Int32) (ga : Int32) (o i j : Nat) : Prop :=
  cd_mk0 kk K L R o i j ∧ cd_tab (kk + 2) (upd K (kk + 1) (nI o)) (upd L (kk + 1) (nI i)) (upd R (kk + 1) (nI j)) (nI o) (nI i) (nI j) ga (nI kk) 1
def cd_bM (kk : Nat) (K L R : Nat → Int32) (ga : Int32) (o i j : Nat) : Bool :=
  decide (cd_mk0 kk K L R o i j) && cd_bT (kk + 2) (upd K (kk + 1) (nI o)) (upd L (kk + 1) (nI i)) (upd R (kk + 1) (nI j)) (nI o) (nI i) (nI j) ga (nI kk) 1
theorem cd_bM_s {kk : Nat} {K L R : Nat → Int32} {ga : Int32} {o i j : Nat} (h : cd_bM kk K L R ga o i j = true) : cd_mk kk K L R ga o i j := by
  unfold cd_bM at h
  rw [Bool.and_eq_true] at h
  exact ⟨of_decide_eq_true h.1, cd_bT_s h.2⟩
def cd_z : Nat → Int32 := fun _ => 0
abbrev cd_base (kk : Nat) (K L R : Nat → Int32) : Prop := cd_pf K L R 4 0 0 kk 0 = none ∧ cd_pf (upd K kk 4) (upd L kk 0) (upd R kk 0) 4 0 0 (kk + 1) 0 = some kk
theorem cd_z0 : nI (cd_W 0 cd_z cd_z cd_z).length = 1 ∧ cd_C 0 cd_z cd_z cd_z 0 = 0 ∧ cd_sat (nI 0) (cd_W 0 cd_z cd_z cd_z) 0 = 1 := by decide +kernel
theorem cd_ga1 : ∀ a, a < 4 → cd_pf (upd cd_z 0 3) (upd cd_z 0 (nI a)) (upd cd_z 0 0) 3 (nI a) 0 1 0 = some 0 := by decide +kernel
theorem cd_gb2 : ∀ a, a < 4 → cd_base 1 (upd cd_z 0 3) (upd cd_z 0 (nI a)) (upd cd_z 0 0) := by decide +kernel
theorem cd_nb1 : cd_base 0 cd_z cd_z cd_z := by decide +kernel
theorem cd_tn0b : cd_bT 1 (upd cd_z 0 4) (upd cd_z 0 0) (upd cd_z 0 0) 0 0 0 0 (nI 0) 0 = true := by decide +kernel
theorem cd_tn1b : ∀ o, o < 3 → ∀ i, i < 1 → ∀ j, j < 1 → cd_bM 0 (upd cd_z 0 4) (upd cd_z 0 0) (upd cd_z 0 0) 0 o i j = true := by decide +kernel
theorem cd_tg0b : ∀ a, a < 4 → cd_bT 2 (upd (upd cd_z 0 3) 1 4) (upd (upd cd_z 0 (nI a)) 1 0) (upd (upd cd_z 0 0) 1 0) 0 0 0 1 (nI 1) 0 = true := by decide +kernel
theorem cd_tg1b : ∀ a, a < 4 → ∀ o, o < 3 → ∀ i, i < 2 → ∀ j, j < 2 → cd_bM 1 (upd (upd cd_z 0 3) 1 4) (upd (upd cd_z 0 (nI a)) 1 0) (upd (upd cd_z 0 0) 1 0) 1 o i j = true := by decide +kernel
theorem cd_tn0 : cd_tab 1 (upd cd_z 0 4) (upd cd_z 0 0) (upd cd_z 0 0) 0 0 0 0 (nI 0) 0 := cd_bT_s cd_tn0b
theorem cd_tn1 (o : Nat) (ho : o < 3) (i : Nat) (hi : i < 1) (j : Nat) (hj : j < 1) : cd_mk 0 (upd cd_z 0 4) (upd cd_z 0 0) (upd cd_z 0 0) 0 o i j := cd_bM_s (cd_tn1b o ho i hi j hj)
theorem cd_tg0 (a : Nat) (ha : a < 4) : cd_tab 2 (upd (upd cd_z 0 3) 1 4) (upd (upd cd_z 0 (nI a)) 1 0) (upd (upd cd_z 0 0) 1 0) 0 0 0 1 (nI 1) 0 := cd_bT_s (cd_tg0b a ha)
theorem cd_tg1 (a : Nat) (ha : a < 4) (o : Nat) (ho : o < 3) (i : Nat) (hi : i < 2) (j : Nat) (hj : j < 2) : cd_mk 1 (upd (upd cd_z 0 3) 1 4) (upd (upd cd_z 0 (nI a)) 1 0) (upd (upd cd_z 0 0) 1 0) 1 o i j := cd_bM_s (cd_tg1b a ha o ho i hi j hj)
end
section
/-! the law's first half, and the owed statement -/
theorem cd_lt_le {x : Int32} {m : Nat} (hm : m < 100) (h : nI m < x) : nI (m + 1) ≤ x := by
  rw [Int32.lt_iff_toInt_lt, nI_toInt (by omega)] at h
  rw [Int32.le_iff_toInt_le, nI_toInt (by omega)]
  omega
theorem cd_le_lt {x : Int32} {m : Nat} (hm : m < 100) (h : nI (m + 1) ≤ x) : nI m < x := by
  rw [Int32.le_iff_toInt_le, nI_toInt (by omega)] at h
  rw [Int32.lt_iff_toInt_lt, nI_toInt (by omega)]
  omega
theorem cd_isx0 {op i j k s : Int32} : cd_isx op i j k 0 s = s := by
  unfold cd_isx cd_isy
  exact if_pos rfl
theorem cd_fin_u {op i j ga k own : Int32} {n : Nat} : cd_fin op i j ga k 0 own n = cd_fin 0 0 0 ga k 0 own n := by
  unfold cd_fin
  simp only [cd_isx0]
section
variable {post : Int32 → St0 → Prop} {mc ms kc ks : Nat} {st c k f h ga : Int32} {K L R a4 a5 : Nat → Int32} {kk : Nat}
theorem cd_192u {op i j : Int32} (HP : post 1 ()) (hk : kk ≤ 1) (T : cd_tab (kk + 1) K L R 0 0 0 ga (nI kk) 0) (hx : op < 0 ∨ 2 < op ∨ (i < 0 ∨ nI (kk + 1) ≤ i) ∨ (j < 0 ∨ nI (kk + 1) ≤ j)) :
    wL_lawOf_191 post mc ms op i j st c ga (nI kk) kc ks (nI (kk + 1)) 0 f h K L R a4 a5 := by
  unfold wL_lawOf_191 wL_lawOf_192
  refine cd_join_m hx (br_t rfl ?_)
  unfold wL_lawOf_215
  refine br_t rfl (cd_join_m hx (br_t rfl ?_))
  unfold wL_lawOf_239
  refine br_t rfl (br_t rfl ?_)
  rw [nI_1]
  exact cd_260 HP (by omega) (by omega) (Or.inl rfl) (fun o ho => by rw [cd_fin_u]; exact T o ho)
theorem cd_192m {o i j : Nat} (HP : post 1 ()) (hk : kk ≤ 1) (ho : o < 3) (hi : i < kk + 1) (hj : j < kk + 1) (T : cd_mk kk K L R ga o i j) :
    wL_lawOf_192 post mc ms (nI o) (nI i) (nI j) st c ga (nI kk) 1 kc ks (nI (kk + 1)) k f h K L R a4 a5 := by
  obtain ⟨⟨e1, e2⟩, T⟩ := T
  unfold wL_lawOf_192
  refine cd_join_new (by omega) ho hi hj e1 (br_f (by decide) ?_)
  unfold wL_lawOf_215
  refine br_t (nI_1 kk).symm (cd_join_old (n := kk + 2) (by omega) ho (by omega) (by omega) (by omega) (by omega) e2 (br_f (by decide) ?_))
  unfold wL_lawOf_239
  refine br_t (nI_1 kk).symm (br_f (by decide) ?_)
  rw [show nI kk + 2 = nI (kk + 2) from nI_add kk 2]
  exact cd_260 HP (by omega) (by omega) (Or.inl rfl) T
theorem cd_133 {op i j z : Int32} (HP : post 1 ()) (hk : kk ≤ 1) (B : cd_base kk K L R) (T0 : cd_tab (kk + 1) (upd K kk 4) (upd L kk 0) (upd R kk 0) 0 0 0 ga (nI kk) 0)
    (T1 : ∀ o, o < 3 → ∀ i, i < kk + 1 → ∀ j, j < kk + 1 → cd_mk kk (upd K kk 4) (upd L kk 0) (upd R kk 0) ga o i j) :
    wL_lawOf_133 post mc ms op i j st c ga (nI kk) z z kc ks (nI kk) k f h K L R a4 a5 := by
  unfold wL_lawOf_133
  refine br_t rfl (cd_falsum_new (by omega) B.1 (br_t rfl (cd_falsum_old (by omega) B.2 (br_t rfl ?_))))
  have u := fun hx => cd_192u (post := post) (mc := mc) (ms := ms) (kc := kc) (ks := ks) (st := st) (c := c) (f := f) (h := h) (a4 := a4) (a5 := a5) (op := op) (i := i) (j := j) HP hk T0 hx
  refine br_c (fun z => u (Or.inl z)) (fun z0 => br_c (fun z => u (Or.inr (Or.inl z))) (fun z1 => br_c (fun z => u (Or.inr (Or.inr (Or.inl (Or.inl z))))) (fun z2 => br_c (fun z => u (Or.inr (Or.inr (Or.inl (Or.inr (cd_lt_le (by omega) z)))))) (fun z3 => br_c (fun z => u (Or.inr (Or.inr (Or.inr (Or.inl z))))) (fun z4 => br_c (fun z => u (Or.inr (Or.inr (Or.inr (Or.inr (cd_lt_le (by omega) z)))))) (fun z5 => ?_))))))
  rcases pk_ix op (n := 3) (by decide) with g | g | ⟨o, ho, rfl⟩
  · exact absurd g z0
  · exact absurd (cd_le_lt (m := 2) (by decide) g) z1
  rcases pk_ix i (n := kk + 1) (by omega) with g | g | ⟨i', hi, rfl⟩
  · exact absurd g z2
  · exact absurd (cd_le_lt (by omega) g) z3
  rcases pk_ix j (n := kk + 1) (by omega) with g | g | ⟨j', hj, rfl⟩
  · exact absurd g z4
  · exact absurd (cd_le_lt (by omega) g) z5
  exact cd_192m HP hk ho hi hj (T1 o ho i' hi j' hj)
theorem cd_m0 (st : Int32) : st &&& cd_e 0 = nI 0 := by
  obtain ⟨j, hj, e⟩ := pk_andE st 0 (cd_em 0 (by decide))
  rw [e, show j = 0 by omega]
theorem cd_35g {op i j : Int32} {a : Nat} (HP : post 1 ()) (ha : a < 4) : wL_lawOf_35 post mc ms (nI a) op i j st c 1 (nI 1) kc ks (nI 0) 0 0 0 cd_z cd_z cd_z cd_z cd_z := by
  unfold wL_lawOf_35
  refine cd_size_wp (br_t rfl ?_)
  refine cd_drop_0 (br_t rfl ?_)
  refine cd_follows_m (Or.inr (by decide)) (br_t rfl ?_)
  refine cd_worlds_wp (by omega) (Or.inl rfl) (fun b4 ok => br_t cd_z0.1 ?_)
  refine cd_clsd0_wp (cd_s1 ok) cd_z0.2.1 (fun b4 ok => br_t rfl ?_)
  refine cd_sat_wp (by omega) (cd_s1 ok) (fun b4 ok => br_t (by rw [cd_m0]; exact cd_z0.2.2) ?_)
  refine cd_atom_new (by omega) ha rfl (br_f (by decide) ?_)
  unfold wL_lawOf_114
  refine br_t rfl (cd_atom_old (n := 1) (by omega) ha (cd_ga1 a ha) (br_f (by decide) ?_))
  exact cd_133 HP (by omega) (cd_gb2 a ha) (cd_tg0 a ha) (cd_tg1 a ha)
theorem cd_35n {op i j a : Int32} (HP : post 1 ()) (ha : a < 0 ∨ 3 < a) : wL_lawOf_35 post mc ms a op i j st c 0 (nI 0) kc ks (nI 0) 0 0 0 cd_z cd_z cd_z cd_z cd_z := by
  unfold wL_lawOf_35
  refine cd_size_wp (br_t rfl ?_)
  refine cd_drop_0 (br_t rfl ?_)
  refine cd_follows_m (Or.inr (by decide)) (br_t rfl ?_)
  refine cd_worlds_wp (by omega) (Or.inl rfl) (fun b4 ok => br_t cd_z0.1 ?_)
  refine cd_clsd0_wp (cd_s1 ok) cd_z0.2.1 (fun b4 ok => br_t rfl ?_)
  refine cd_sat_wp (by omega) (cd_s1 ok) (fun b4 ok => br_t (by rw [cd_m0]; exact cd_z0.2.2) ?_)
  refine cd_atom_m ha (br_t rfl ?_)
  unfold wL_lawOf_114
  refine br_t rfl (cd_atom_m ha (br_t rfl ?_))
  exact cd_133 HP (by omega) cd_nb1 cd_tn0 cd_tn1
theorem cd_lawOf {op i j a : Int32} (HP : post 1 ()) : wpL_lawOf post 6 4138 () a op i j st c := by
  unfold wpL_lawOf
  refine ⟨by omega, by omega, 5, 4129, by omega, by omega, ?_⟩
  unfold wpX_init
  refine ⟨by omega, by omega, by omega, by omega, by omega, by omega, by omega, by omega, by omega, by omega, ?_⟩
  have n : a < 0 ∨ 3 < a → wL_lawOf_22 post 6 4138 a op i j st c (1 + 5) (9 + 4129) (nI 0) 0 0 0 cd_z cd_z cd_z cd_z cd_z := by
    intro ha
    unfold wL_lawOf_22 wL_lawOf_23
    exact br_t rfl (cd_35n HP ha)
  refine br_c (fun z => n (Or.inl z)) (fun z => br_c (fun z2 => n (Or.inr z2)) (fun z2 => ?_))
  rcases pk_ix a (n := 4) (by decide) with g | g | ⟨a', ha, rfl⟩
  · exact absurd g z
  · exact absurd (cd_le_lt (m := 3) (by decide) g) z2
  · unfold wL_lawOf_23
    exact br_f (by decide) (cd_35g HP ha)
end
theorem cd_cell {post : Int32 → Prop} {L : Nat} {xs : Nat → Int32} (i : Nat) (hi : i < 6) (hL : L ≤ 6) (H : ∀ r, post r) : wpL_cellAt post L xs () (nI i) :=
  pk_le L i (fun _ => H _) (fun z => ⟨pk_in i L z, H _⟩)
theorem i_vc (xs : Nat → Int32) (L : Nat) (hL : L ≤ 6) : wpL_law (fun r => r = 1) L xs := by
  unfold wpL_law
  refine cd_cell 0 (by decide) hL (fun r1 => cd_cell 1 (by decide) hL (fun r2 => cd_cell 2 (by decide) hL (fun r3 => cd_cell 3 (by decide) hL (fun r4 => cd_cell 4 (by decide) hL (fun r5 => cd_cell 5 (by decide) hL (fun r6 => ?_))))))
  exact ⟨6, 4138, by omega, by omega, cd_lawOf rfl⟩
end
