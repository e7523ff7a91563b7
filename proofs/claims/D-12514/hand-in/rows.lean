section
/-! masks of seven bits; the graph as a function M of masks; a turn of one join -/
theorem cd_f1 : ∀ m, m < 128 → ∀ b, b < 7 → ((nI m ^^^ ((1 : Int32) <<< (nI b &&& 31))).toInt8.toInt32 = nI (m ^^^ 2 ^ b) ∧ m ^^^ 2 ^ b < 128) := by decide +kernel
theorem cd_f2 : ∀ m, m < 128 → ∀ b, b < 7 → (((nI m >>> (nI b &&& 31)) &&& 1) = 0 ↔ m.testBit b = false) := by decide +kernel
theorem cd_f3 : ∀ m, m < 128 → (nI m).toInt8.toInt32 = nI m := by decide +kernel
theorem cd_f4 : ∀ m, m < 128 → ∀ b, b < 7 → ((nI m &&& (((1 : Int32) <<< (nI b &&& 31)) ^^^ (-1))) = nI (m &&& (127 - 2 ^ b)) ∧ m &&& (127 - 2 ^ b) ≤ m) := by decide +kernel
theorem cd_f5 : ∀ m, m < 128 → ∀ b, b < 7 → (((127 &&& (nI m ^^^ (-1))) &&& (((1 : Int32) <<< (nI b &&& 31)) ^^^ (-1))).toInt8.toInt32 = nI ((127 - m) &&& (127 - 2 ^ b)) ∧ ((127 - m) &&& (127 - 2 ^ b)) < 128 ∧ ((127 - m) &&& (127 - 2 ^ b)).testBit b = false) := by decide +kernel
theorem cd_f6 : ∀ m, m < 128 → m ≠ 0 → (∀ j, j < 6 → m.testBit j = false) → m.testBit 6 = true := by decide +kernel
theorem cd_and (a b : Nat) : nI a &&& nI b = nI (a &&& b) := by
  apply Int32.toBitVec_inj.mp
  show BitVec.ofNat 32 a &&& BitVec.ofNat 32 b = BitVec.ofNat 32 (a &&& b)
  apply BitVec.eq_of_toNat_eq
  simp [Nat.and_mod_two_pow]
/-- how many of the seven bits stand -/
def cd_pc (m : Nat) : Nat := (m.testBit 0).toNat + (m.testBit 1).toNat + (m.testBit 2).toNat + (m.testBit 3).toNat + (m.testBit 4).toNat + (m.testBit 5).toNat + (m.testBit 6).toNat
theorem cd_pc1 : ∀ m, m < 128 → ∀ b, b < 7 → m.testBit b = true → cd_pc (m &&& (127 - 2 ^ b)) + 1 = cd_pc m := by decide +kernel
theorem cd_pcA (x y : Bool) : (x && y).toNat ≤ x.toNat := by cases x <;> cases y <;> decide
theorem cd_pcB {x y : Bool} (hx : x = true) (hy : y = false) : (x && y).toNat + 1 ≤ x.toNat := by subst hx hy; decide
theorem cd_s7 {a b c d e f g a' b' c' d' e' f' g' : Nat} (k : Nat) (hk : k < 7) (h0 : a ≤ a') (h1 : b ≤ b') (h2 : c ≤ c') (h3 : d ≤ d') (h4 : e ≤ e') (h5 : f ≤ f') (h6 : g ≤ g') (g0 : k = 0 → a + 1 ≤ a') (g1 : k = 1 → b + 1 ≤ b') (g2 : k = 2 → c + 1 ≤ c') (g3 : k = 3 → d + 1 ≤ d') (g4 : k = 4 → e + 1 ≤ e') (g5 : k = 5 → f + 1 ≤ f') (g6 : k = 6 → g + 1 ≤ g') : a + b + c + d + e + f + g + 1 ≤ a' + b' + c' + d' + e' + f' + g' := by
  omega
theorem cd_pc2 {m n b : Nat} (hb : b < 7) (hm : m.testBit b = true) (hn : n.testBit b = false) : cd_pc (m &&& n) + 1 ≤ cd_pc m := by
  unfold cd_pc
  simp only [Nat.testBit_and]
  refine cd_s7 b hb (cd_pcA _ _) (cd_pcA _ _) (cd_pcA _ _) (cd_pcA _ _) (cd_pcA _ _) (cd_pcA _ _) (cd_pcA _ _) ?_ ?_ ?_ ?_ ?_ ?_ ?_
  all_goals
    intro e
    subst e
    exact cd_pcB hm hn
theorem cd_pc3 {m b : Nat} (h : m < 128) (hb : b < 7) (hm : m.testBit b = true) : 1 ≤ cd_pc m := by
  have := cd_pc1 m h b hb hm
  omega
/-- the graph: masks of seven bits, no vertex joined to itself, joins both ways -/
def cd_G (M : Nat → Nat) : Prop := (∀ v, v < 7 → M v < 128 ∧ (M v).testBit v = false) ∧ (∀ v w, v < 7 → w < 7 → (M v).testBit w = (M w).testBit v)
/-- the array joined -/
def cd_J (M : Nat → Nat) : Nat → Int32 := fun i => nI (M i)
/-- one join turned -/
def cd_T (M : Nat → Nat) (a b : Nat) : Nat → Nat := fun i => if i = b then M b ^^^ 2 ^ a else if i = a then M a ^^^ 2 ^ b else M i
theorem cd_Tb {M : Nat → Nat} {a b : Nat} : cd_T M a b b = M b ^^^ 2 ^ a := by
  unfold cd_T
  rw [if_pos rfl]
theorem cd_Ta {M : Nat → Nat} {a b : Nat} (h : a ≠ b) : cd_T M a b a = M a ^^^ 2 ^ b := by
  unfold cd_T
  rw [if_neg h, if_pos rfl]
theorem cd_To {M : Nat → Nat} {a b i : Nat} (ha : i ≠ a) (hb : i ≠ b) : cd_T M a b i = M i := by
  unfold cd_T
  rw [if_neg hb, if_neg ha]
theorem cd_xx (m n : Nat) : m ^^^ n ^^^ n = m := by
  rw [Nat.xor_assoc, Nat.xor_self, Nat.xor_zero]
theorem cd_TT {M : Nat → Nat} {a b : Nat} (h : a ≠ b) : cd_T (cd_T M a b) a b = M := by
  funext i
  by_cases hb : i = b
  · subst hb
    rw [cd_Tb, cd_Tb, cd_xx]
  · by_cases ha : i = a
    · subst ha
      rw [cd_Ta h, cd_Ta h, cd_xx]
    · rw [cd_To ha hb, cd_To ha hb]
theorem cd_TS {M : Nat → Nat} {a b : Nat} (h : a ≠ b) : cd_T M a b = cd_T M b a := by
  funext i
  by_cases hb : i = b
  · subst hb
    rw [cd_Tb, cd_Ta (fun e => h e.symm)]
  · by_cases ha : i = a
    · subst ha
      rw [cd_Ta h, cd_Tb]
    · rw [cd_To ha hb, cd_To hb ha]
theorem cd_Tj {M : Nat → Nat} {a b : Nat} : upd (upd (cd_J M) a (nI (M a ^^^ 2 ^ b))) b (nI (M b ^^^ 2 ^ a)) = cd_J (cd_T M a b) := by
  funext i
  show _ = nI (cd_T M a b i)
  unfold cd_T
  by_cases hb : i = b
  · subst hb
    rw [pk_us, if_pos rfl]
  · rw [pk_un hb, if_neg hb]
    by_cases ha : i = a
    · subst ha
      rw [pk_us, if_pos rfl]
    · rw [pk_un ha, if_neg ha]
      rfl
theorem cd_tx (m b w : Nat) : (m ^^^ 2 ^ b).testBit w = (m.testBit w ^^ decide (b = w)) := by
  rw [Nat.testBit_xor, Nat.testBit_two_pow]
theorem cd_GT {M : Nat → Nat} {a b : Nat} (hG : cd_G M) (ha : a < 7) (hb : b < 7) (h : a ≠ b) : cd_G (cd_T M a b) := by
  have h' : b ≠ a := fun e => h e.symm
  refine ⟨fun v hv => ?_, fun v w hv hw => ?_⟩
  · have hh := hG.1 v hv
    by_cases eb : v = b
    · subst eb
      rw [cd_Tb, cd_tx, hh.2]
      exact ⟨(cd_f1 _ hh.1 a ha).2, by simp [h]⟩
    · by_cases ea : v = a
      · subst ea
        rw [cd_Ta h, cd_tx, hh.2]
        exact ⟨(cd_f1 _ hh.1 b hb).2, by simp [h']⟩
      · rw [cd_To ea eb]
        exact hh
  · have s := hG.2 v w hv hw
    by_cases eb : v = b
    · subst eb
      by_cases fb : w = v
      · subst fb
        rfl
      · by_cases fa : w = a
        · subst fa
          rw [cd_Tb, cd_Ta h, cd_tx, cd_tx, s]
          simp
        · rw [cd_Tb, cd_To fa fb, cd_tx, s]
          simp [Ne.symm fa]
    · by_cases ea : v = a
      · subst ea
        by_cases fb : w = b
        · subst fb
          rw [cd_Ta h, cd_Tb, cd_tx, cd_tx, s]
          simp
        · by_cases fa : w = v
          · subst fa
            rfl
          · rw [cd_Ta h, cd_To fa fb, cd_tx, s]
            simp [Ne.symm fb]
      · by_cases fb : w = b
        · subst fb
          rw [cd_To ea eb, cd_Tb, cd_tx, s]
          simp [Ne.symm ea]
        · by_cases fa : w = a
          · subst fa
            rw [cd_To ea eb, cd_Ta h, cd_tx, s]
            simp [Ne.symm eb]
          · rw [cd_To ea eb, cd_To fa fb, s]
theorem cd_G0 : cd_G (fun _ => 0) := ⟨fun v hv => ⟨Nat.zero_lt_succ 127, Nat.zero_testBit v⟩, fun v w _ _ => by simp⟩
/-- is the join wanting: the test that the code makes -/
theorem cd_bz {M : Nat → Nat} (hG : cd_G M) {v w : Nat} (hv : v < 7) (hw : w < 7) : ((cd_J M v >>> (nI w &&& 31)) &&& 1) = 0 ↔ (M v).testBit w = false :=
  cd_f2 (M v) (hG.1 v hv).1 w hw
end
section
/-! the methods that only read the graph: each answers a function of the array joined alone -/
theorem cd_inT {A B : Prop} {x y : Int32} (h : ((x >>> (y &&& 31)) &&& 1) = 0) (a : A) : wpX_in (fun r => (r = 0 → A) ∧ (¬ r = 0 → B)) () x y :=
  And.intro (fun _ => br_t rfl a) (fun g => absurd h g)
theorem cd_inF {A B : Prop} {x y : Int32} (h : ¬ ((x >>> (y &&& 31)) &&& 1) = 0) (b : B) : wpX_in (fun r => (r = 0 → A) ∧ (¬ r = 0 → B)) () x y :=
  And.intro (fun g => absurd g h) (fun _ => br_f (by decide) b)
theorem cd_bool {r : Int32} (h : r = 0 ∨ r = 1) : narrow .boolean (.int r) = .int r := by
  rcases h with h | h
  · subst h
    rfl
  · subst h
    rfl
section
variable {post : Int32 → Prop} {f0 f1 f2 : Int32} {J a2 a3 a4 a5 a6 a7 : Nat → Int32}
/-- isClique -/
def cd_clq (J : Nat → Int32) (x : Int32) : Nat → Nat → Int32
  | 0, _ => 1
  | k + 1, i => if ((x >>> (nI i &&& 31)) &&& 1) = 0 then cd_clq J x k (i + 1) else if ((x &&& ((J i) ^^^ (-1))) &&& (((1 : Int32) <<< (nI i &&& 31)) ^^^ (-1))) = 0 then cd_clq J x k (i + 1) else 0
theorem cd_clq01 (J : Nat → Int32) (x : Int32) : ∀ k i, cd_clq J x k i = 0 ∨ cd_clq J x k i = 1 := by
  intro k
  induction k with
  | zero => exact fun i => Or.inr rfl
  | succ k ih =>
    intro i
    unfold cd_clq
    split
    · exact ih _
    · split
      · exact ih _
      · exact Or.inl rfl
theorem cd_clq_w {x : Int32} : ∀ k i, i + k = 7 → post (cd_clq J x k i) → wX_isClique_2 post x f0 f1 f2 J a2 a3 a4 a5 a6 a7 (k + 1) (nI i) := by
  intro k
  induction k with
  | zero => exact fun i hi hp => pk_le 7 i (fun _ => hp) (fun z => absurd z (by omega))
  | succ k ih =>
    intro i hi hp
    unfold cd_clq at hp
    refine pk_le 7 i (fun z => absurd z (by omega)) (fun _ => ?_)
    by_cases h : ((x >>> (nI i &&& 31)) &&& 1) = 0
    · rw [if_pos h] at hp
      exact cd_inT h (nm_r (nI_1 i) (ih (i + 1) (by omega) hp))
    · rw [if_neg h] at hp
      refine cd_inF h (And.intro (pk_in i 7 (by omega)) ?_)
      rw [nI_clamp (show i < 2 ^ 31 by omega)]
      by_cases g : ((x &&& ((J i) ^^^ (-1))) &&& (((1 : Int32) <<< (nI i &&& 31)) ^^^ (-1))) = 0
      · rw [if_pos g] at hp
        exact br_t g (nm_r (nI_1 i) (ih (i + 1) (by omega) hp))
      · rw [if_neg g] at hp
        exact br_f g hp
/-- isEasy -/
def cd_esy (J : Nat → Int32) (v : Nat) (x : Int32) : Int32 := cd_clq J (J v &&& x) 7 0
theorem cd_esy_w {x : Int32} {v : Nat} (hv : v < 7) (hp : post (cd_esy J v x)) : wpX_isEasy post (f0, f1, f2, J, a2, a3, a4, a5, a6, a7) (nI v) x := by
  unfold wpX_isEasy
  dsimp only
  rw [nI_clamp (show v < 2 ^ 31 by omega)]
  refine And.intro (pk_in v 7 hv) ?_
  unfold wpX_isClique
  dsimp only
  exact ⟨8, cd_clq_w 7 0 rfl (And.intro (cd_bool (cd_clq01 _ _ _ _)) hp)⟩
/-- core: one round over the vertices, then seven rounds -/
def cd_c1 (J : Nat → Int32) : Nat → Nat → Int32 → Int32
  | 0, _, x => x
  | k + 1, i, x => if ((x >>> (nI i &&& 31)) &&& 1) = 0 then cd_c1 J k (i + 1) x else if cd_esy J i x = 0 then cd_c1 J k (i + 1) x else cd_c1 J k (i + 1) (x &&& (((1 : Int32) <<< (nI i &&& 31)) ^^^ (-1)))
theorem cd_c1_w {J5 : Int32 → Int32 → Prop} {x2 : Int32} : ∀ k i x, i + k = 7 → J5 (cd_c1 J k i x) (x2 + 1) → wX_core_13 post J5 x2 f0 f1 f2 J a2 a3 a4 a5 a6 a7 (k + 1) x (nI i) := by
  intro k
  induction k with
  | zero => exact fun i x hi hp => pk_le 7 i (fun _ => nm_e hp) (fun z => absurd z (by omega))
  | succ k ih =>
    intro i x hi hp
    unfold cd_c1 at hp
    refine pk_le 7 i (fun z => absurd z (by omega)) (fun _ => ?_)
    by_cases h : ((x >>> (nI i &&& 31)) &&& 1) = 0
    · rw [if_pos h] at hp
      exact cd_inT h (nm_r (nI_1 i) (ih (i + 1) x (by omega) hp))
    · rw [if_neg h] at hp
      refine cd_inF h (cd_esy_w (by omega) ?_)
      by_cases g : cd_esy J i x = 0
      · rw [if_pos g] at hp
        exact br_t g (nm_r (nI_1 i) (ih (i + 1) x (by omega) hp))
      · rw [if_neg g] at hp
        exact br_f g (nm_e (nm_r (nI_1 i) (ih (i + 1) _ (by omega) hp)))
def cd_c0 (J : Nat → Int32) : Nat → Int32 → Int32
  | 0, x => x
  | k + 1, x => cd_c0 J k (cd_c1 J 7 0 x)
theorem cd_c0_w : ∀ k i x, i + k = 7 → post (cd_c0 J k x) → wX_core_5 post f0 f1 f2 J a2 a3 a4 a5 a6 a7 (k + 1) x (nI i) := by
  intro k
  induction k with
  | zero => exact fun i x hi hp => pk_le 7 i (fun _ => hp) (fun z => absurd z (by omega))
  | succ k ih =>
    intro i x hi hp
    refine pk_le 7 i (fun z => absurd z (by omega)) (fun _ => ⟨8, cd_c1_w 7 0 x rfl ?_⟩)
    rw [nI_1]
    exact ih (i + 1) _ (by omega) hp
def cd_core (J : Nat → Int32) : Int32 := cd_c0 J 7 127
theorem cd_core_w (hp : post (cd_core J)) : wpX_core post (f0, f1, f2, J, a2, a3, a4, a5, a6, a7) := by
  unfold wpX_core
  exact ⟨8, cd_c0_w 7 0 127 rfl hp⟩
def cd_neat (J : Nat → Int32) : Int32 := if cd_core J = 0 then 1 else 0
theorem cd_neat01 (J : Nat → Int32) : cd_neat J = 0 ∨ cd_neat J = 1 := by
  unfold cd_neat
  split
  · exact Or.inr rfl
  · exact Or.inl rfl
theorem cd_neat_w (hp : post (cd_neat J)) : wpX_neat post (f0, f1, f2, J, a2, a3, a4, a5, a6, a7) := by
  unfold wpX_neat
  dsimp only
  refine cd_core_w ?_
  unfold cd_neat at hp
  by_cases h : cd_core J = 0
  · rw [if_pos h] at hp
    exact br_t h hp
  · rw [if_neg h] at hp
    exact br_f h hp
/-- ones -/
def cd_on (x : Int32) : Nat → Nat → Int32 → Int32
  | 0, _, y => y
  | k + 1, i, y => cd_on x k (i + 1) (y + ((x >>> (nI i &&& 31)) &&& 1))
theorem cd_on_w {x : Int32} : ∀ k i y, i + k = 7 → post (cd_on x k i y) → wX_ones_4 post x (k + 1) y (nI i) := by
  intro k
  induction k with
  | zero => exact fun i y hi hp => pk_le 7 i (fun _ => hp) (fun z => absurd z (by omega))
  | succ k ih => exact fun i y hi hp => pk_le 7 i (fun z => absurd z (by omega)) (fun _ => nm_e (nm_r (nI_1 i) (ih (i + 1) _ (by omega) hp)))
def cd_ones (x : Int32) : Int32 := cd_on x 7 0 0
theorem cd_ones_w {x : Int32} (hp : post (cd_ones x)) : wpX_ones post () x := by
  unfold wpX_ones
  exact ⟨8, cd_on_w 7 0 0 rfl hp⟩
/-- joins -/
def cd_jo (J : Nat → Int32) : Nat → Nat → Int32 → Int32
  | 0, _, y => y / 2
  | k + 1, i, y => cd_jo J k (i + 1) (y + cd_ones (J i))
theorem cd_jo_w : ∀ k i y, i + k = 7 → post (cd_jo J k i y) → wX_joins_4 post f0 f1 f2 J a2 a3 a4 a5 a6 a7 (k + 1) y (nI i) := by
  intro k
  induction k with
  | zero => exact fun i y hi hp => pk_le 7 i (fun _ => And.intro (by decide) hp) (fun z => absurd z (by omega))
  | succ k ih =>
    intro i y hi hp
    refine pk_le 7 i (fun z => absurd z (by omega)) (fun _ => And.intro (pk_in i 7 (by omega)) ?_)
    rw [nI_clamp (show i < 2 ^ 31 by omega)]
    exact cd_ones_w (nm_e (nm_r (nI_1 i) (ih (i + 1) _ (by omega) hp)))
def cd_joins (J : Nat → Int32) : Int32 := cd_jo J 7 0 0
theorem cd_joins_w (hp : post (cd_joins J)) : wpX_joins post (f0, f1, f2, J, a2, a3, a4, a5, a6, a7) := by
  unfold wpX_joins
  exact ⟨8, cd_jo_w 7 0 0 rfl hp⟩
/-- easy -/
def cd_ea (J : Nat → Int32) : Nat → Nat → Int32 → Int32
  | 0, _, y => y
  | k + 1, i, y => if cd_esy J i 127 = 0 then cd_ea J k (i + 1) (y ||| 0) else cd_ea J k (i + 1) (y ||| ((1 : Int32) <<< (nI i &&& 31)))
theorem cd_ea_w : ∀ k i y, i + k = 7 → post (cd_ea J k i y) → wX_easy_4 post f0 f1 f2 J a2 a3 a4 a5 a6 a7 (k + 1) y (nI i) := by
  intro k
  induction k with
  | zero => exact fun i y hi hp => pk_le 7 i (fun _ => hp) (fun z => absurd z (by omega))
  | succ k ih =>
    intro i y hi hp
    unfold cd_ea at hp
    refine pk_le 7 i (fun z => absurd z (by omega)) (fun _ => cd_esy_w (by omega) ?_)
    by_cases g : cd_esy J i 127 = 0
    · rw [if_pos g] at hp
      exact br_t g (nm_e (nm_r (nI_1 i) (ih (i + 1) _ (by omega) hp)))
    · rw [if_neg g] at hp
      exact br_f g (nm_e (nm_r (nI_1 i) (ih (i + 1) _ (by omega) hp)))
def cd_easy (J : Nat → Int32) : Int32 := cd_ea J 7 0 0
theorem cd_easy_w (hp : post (cd_easy J)) : wpX_easy post (f0, f1, f2, J, a2, a3, a4, a5, a6, a7) := by
  unfold wpX_easy
  exact ⟨8, cd_ea_w 7 0 0 rfl hp⟩
/-- neighbours -/
def cd_near (J : Nat → Int32) (x : Int32) : Int32 := if x < 0 then 0 else if 7 ≤ x then 0 else J x.toNatClampNeg
theorem cd_near_w {x : Int32} (hp : post (cd_near J x)) : wpX_neighbours post (f0, f1, f2, J, a2, a3, a4, a5, a6, a7) x := by
  unfold wpX_neighbours
  dsimp only
  unfold wpX_isVertex
  unfold cd_near at hp
  by_cases h : x < 0
  · rw [if_pos h] at hp
    exact br_t h (br_t rfl hp)
  · rw [if_neg h] at hp
    by_cases g : 7 ≤ x
    · rw [if_pos g] at hp
      exact br_f h (br_t g (br_t rfl hp))
    · rw [if_neg g] at hp
      refine br_f h (br_f g (br_f (by decide) (And.intro ?_ hp)))
      rcases pk_ix x (n := 7) (by decide) with z | z | ⟨j, hj, rfl⟩
      · exact absurd z h
      · exact absurd z g
      · exact pk_in j 7 hj
theorem cd_near_n {v : Nat} (hv : v < 7) : cd_near J (nI v) = J v := by
  unfold cd_near
  rw [if_neg (nI_pos (by omega)), if_neg (show ¬ (7 : Int32) ≤ nI v from nI_ge (b := 7) hv (by decide)), nI_clamp (by omega)]
/-- around -/
def cd_a1 (J : Nat → Int32) (av re : Int32) : Nat → Nat → Int32 → Int32
  | 0, _, y => y
  | k + 1, i, y => if ((re >>> (nI i &&& 31)) &&& 1) = 0 then cd_a1 J av re k (i + 1) (y ||| 0) else cd_a1 J av re k (i + 1) (y ||| (J i &&& (av ^^^ (-1))))
theorem cd_a1_w {J8 : Int32 → Int32 → Prop} {x2 av re x5 : Int32} : ∀ k i y, i + k = 7 → J8 (cd_a1 J av re k i y) (x5 + 1) → wX_around_34 post J8 x2 av re x5 f0 f1 f2 J a2 a3 a4 a5 a6 a7 (k + 1) y (nI i) := by
  intro k
  induction k with
  | zero => exact fun i y hi hp => pk_le 7 i (fun _ => nm_e hp) (fun z => absurd z (by omega))
  | succ k ih =>
    intro i y hi hp
    unfold cd_a1 at hp
    refine pk_le 7 i (fun z => absurd z (by omega)) (fun _ => ?_)
    by_cases h : ((re >>> (nI i &&& 31)) &&& 1) = 0
    · rw [if_pos h] at hp
      exact cd_inT h (nm_e (nm_r (nI_1 i) (ih (i + 1) _ (by omega) hp)))
    · rw [if_neg h] at hp
      refine cd_inF h (And.intro (pk_in i 7 (by omega)) ?_)
      rw [nI_clamp (show i < 2 ^ 31 by omega)]
      exact nm_e (nm_r (nI_1 i) (ih (i + 1) _ (by omega) hp))
def cd_a0 (J : Nat → Int32) (b av : Int32) : Nat → Nat → Int32 → Int32
  | 0, _, _ => 8
  | k + 1, i, re => if ((re >>> (b &&& 31)) &&& 1) = 0 then cd_a0 J b av k (i + 1) (cd_a1 J av re 7 0 re) else nI i
theorem cd_a0_w {b av : Int32} : ∀ k i re, i + k = 8 → post (cd_a0 J b av k i re) → wX_around_8 post b av f0 f1 f2 J a2 a3 a4 a5 a6 a7 (k + 1) re (nI i) := by
  intro k
  induction k with
  | zero => exact fun i re hi hp => pk_lt 7 i (fun _ => hp) (fun z => absurd z (by omega))
  | succ k ih =>
    intro i re hi hp
    unfold cd_a0 at hp
    refine pk_lt 7 i (fun z => absurd z (by omega)) (fun _ => ?_)
    by_cases h : ((re >>> (b &&& 31)) &&& 1) = 0
    · rw [if_pos h] at hp
      refine cd_inT h ⟨8, cd_a1_w 7 0 re rfl ?_⟩
      rw [nI_1]
      exact ih (i + 1) _ (by omega) hp
    · rw [if_neg h] at hp
      exact cd_inF h hp
def cd_around (J : Nat → Int32) (a b av : Int32) : Int32 := cd_a0 J b av 8 0 ((1 : Int32) <<< (a &&& 31))
theorem cd_around_w {a b av : Int32} (hp : post (cd_around J a b av)) : wpX_around post (f0, f1, f2, J, a2, a3, a4, a5, a6, a7) a b av := by
  unfold wpX_around
  exact nm_e ⟨9, cd_a0_w 8 0 _ rfl hp⟩
/-- smallestHole -/
def cd_h3 (x1 z0 : Int32) : Int32 := if 7 < z0 then x1 else if x1 < 0 then z0 + 2 else if x1 ≤ z0 + 2 then x1 else z0 + 2
theorem cd_h3_w {J4 : Int32 → Int32 → Prop} {x1 x2 z0 : Int32} (hp : J4 (cd_h3 x1 z0) (x2 + 1)) : wX_smallestHole_127 post J4 x1 x2 z0 f0 f1 f2 J a2 a3 a4 a5 a6 a7 := by
  unfold wX_smallestHole_127
  unfold cd_h3 at hp
  by_cases h : 7 < z0
  · rw [if_pos h] at hp
    exact br_t h (nm_e hp)
  · rw [if_neg h] at hp
    refine br_f h ?_
    by_cases g : x1 < 0
    · rw [if_pos g] at hp
      exact br_t g (nm_e (nm_e hp))
    · rw [if_neg g] at hp
      refine br_f g ?_
      by_cases e : x1 ≤ z0 + 2
      · rw [if_pos e] at hp
        exact br_t e (nm_e hp)
      · rw [if_neg e] at hp
        exact br_f e (nm_e (nm_e hp))
def cd_h2 (J : Nat → Int32) (x1 : Int32) (v : Nat) (x4 x5 z0 : Int32) : Int32 := if z0 = 0 then cd_h3 x1 8 else cd_h3 x1 (cd_around J x4 x5 (((J v) ||| ((1 : Int32) <<< (nI v &&& 31))) &&& (((1 : Int32) <<< (x5 &&& 31)) ^^^ (-1))))
theorem cd_h2_w {J4 : Int32 → Int32 → Prop} {x1 x2 x4 x5 z0 : Int32} {v : Nat} (hv : v < 7) (hp : J4 (cd_h2 J x1 v x4 x5 z0) (x2 + 1)) : wX_smallestHole_86 post J4 x1 x2 (nI v) x4 x5 z0 f0 f1 f2 J a2 a3 a4 a5 a6 a7 := by
  unfold wX_smallestHole_86
  rw [nI_clamp (show v < 2 ^ 31 by omega)]
  unfold cd_h2 at hp
  refine And.intro (pk_in v 7 hv) (nm_e ?_)
  by_cases h : z0 = 0
  · rw [if_pos h] at hp
    exact br_t h (cd_h3_w hp)
  · rw [if_neg h] at hp
    exact br_f h (cd_around_w (cd_h3_w hp))
theorem cd_h1_w {J4 : Int32 → Int32 → Prop} {x1 x2 x4 x5 : Int32} {v : Nat} (hv : v < 7) (hp : J4 (cd_h2 J x1 v x4 x5 0) (x2 + 1)) : wX_smallestHole_85 post J4 x1 x2 (nI v) x4 x5 f0 f1 f2 J a2 a3 a4 a5 a6 a7 := by
  unfold wX_smallestHole_85
  exact cd_h2_w hv hp
/-- one step of smallestHole: the gap's flag -/
def cd_hg (J : Nat → Int32) (i : Nat) : Int32 := if i % 7 ≤ i / 7 % 7 then 0 else if ((J (i / 49) >>> (nI (i / 7 % 7) &&& 31)) &&& 1) = 0 then 0 else if ((J (i / 49) >>> (nI (i % 7) &&& 31)) &&& 1) = 0 then 0 else if ((J (i / 7 % 7) >>> (nI (i % 7) &&& 31)) &&& 1) = 0 then 1 else 0
def cd_h0 (J : Nat → Int32) : Nat → Nat → Int32 → Int32
  | 0, _, y => y
  | k + 1, i, y => cd_h0 J k (i + 1) (cd_h2 J y (i / 49) (nI (i / 7 % 7)) (nI (i % 7)) (cd_hg J i))
theorem cd_h0_w : ∀ k i y, i + k = 343 → post (cd_h0 J k i y) → wX_smallestHole_4 post f0 f1 f2 J a2 a3 a4 a5 a6 a7 (k + 1) y (nI i) := by
  intro k
  induction k with
  | zero => exact fun i y hi hp => pk_le 343 i (fun _ => hp) (fun z => absurd z (by omega))
  | succ k ih =>
    intro i y hi hp
    have e7 : nI i / 7 = nI (i / 7) := pk_div (d := 7) (by omega) (by decide) (by decide)
    have hv : i / 49 < 7 := by omega
    have ha : i / 7 % 7 < 7 := by omega
    have hb : i % 7 < 7 := by omega
    unfold cd_h0 at hp
    replace hp := ih (i + 1) _ (by omega) hp
    rw [← nI_1 i] at hp
    unfold cd_hg at hp
    refine pk_le 343 i (fun z => absurd z (by omega)) (fun _ => And.intro (by decide) (nm_r (pk_div (d := 49) (by omega) (by decide) (by decide)) (And.intro (by decide) (And.intro (by decide) ?_))))
    rw [e7]
    refine nm_r (pk_rem (d := 7) (by omega) (by decide) (by decide)) (And.intro (by decide) ?_)
    rw [← e7]
    refine nm_r (pk_rem (d := 7) (by omega) (by decide) (by decide)) ?_
    rw [nI_clamp (show i / 49 < 2 ^ 31 by omega), nI_clamp (show i / 7 % 7 < 2 ^ 31 by omega)]
    refine pk_le (i % 7) (i / 7 % 7) (fun z => ?_) (fun z => And.intro (pk_in (i / 49) 7 hv) ?_)
    · rw [if_pos z] at hp
      exact cd_h1_w hv hp
    · rw [if_neg (by omega)] at hp
      by_cases h1 : ((J (i / 49) >>> (nI (i / 7 % 7) &&& 31)) &&& 1) = 0
      · rw [if_pos h1] at hp
        exact cd_inT h1 (cd_h1_w hv hp)
      · rw [if_neg h1] at hp
        refine cd_inF h1 (And.intro (pk_in (i / 49) 7 hv) ?_)
        by_cases h2 : ((J (i / 49) >>> (nI (i % 7) &&& 31)) &&& 1) = 0
        · rw [if_pos h2] at hp
          exact cd_inT h2 (cd_h1_w hv hp)
        · rw [if_neg h2] at hp
          refine cd_inF h2 (And.intro (pk_in (i / 7 % 7) 7 ha) ?_)
          by_cases h3 : ((J (i / 7 % 7) >>> (nI (i % 7) &&& 31)) &&& 1) = 0
          · rw [if_pos h3] at hp
            exact cd_inT h3 (cd_h2_w hv hp)
          · rw [if_neg h3] at hp
            exact cd_inF h3 (cd_h1_w hv hp)
def cd_hole (J : Nat → Int32) : Int32 := cd_h0 J 343 0 (-1)
theorem cd_hole_w (hp : post (cd_hole J)) : wpX_smallestHole post (f0, f1, f2, J, a2, a3, a4, a5, a6, a7) := by
  unfold wpX_smallestHole
  exact ⟨344, cd_h0_w 343 0 (-1) rfl hp⟩
end
end
section
/-! turn, join, neatWith, neatJoins, fill: the state comes back as it was -/
section
variable {f0 f1 f2 : Int32} {M : Nat → Nat} {a2 a3 a4 a5 a6 a7 : Nat → Int32}
theorem cd_turn_w {post : St1 → Prop} {a b : Nat} (hG : cd_G M) (ha : a < 7) (hb : b < 7) (h : a ≠ b) (hp : post (f0, f1, f2, cd_J (cd_T M a b), a2, a3, a4, a5, a6, a7)) : wpX_turn post (f0, f1, f2, cd_J M, a2, a3, a4, a5, a6, a7) (nI a) (nI b) := by
  unfold wpX_turn
  dsimp only
  rw [nI_clamp (show a < 2 ^ 31 by omega), nI_clamp (show b < 2 ^ 31 by omega)]
  refine And.intro (pk_in a 7 ha) (And.intro (pk_in a 7 ha) (nm_r (e' := upd (cd_J M) a (nI (M a ^^^ 2 ^ b))) ?_ (And.intro (pk_in b 7 hb) (And.intro (pk_in b 7 hb) (nm_r (e' := cd_J (cd_T M a b)) ?_ hp)))))
  · exact congrArg (upd (cd_J M) a) (cd_f1 (M a) (hG.1 a ha).1 b hb).1
  · rw [pk_un (fun e => h e.symm), ← cd_Tj]
    exact congrArg (upd _ b) (cd_f1 (M b) (hG.1 b hb).1 a ha).1
theorem cd_neatWith_w {post : Int32 → St1 → Prop} {a b : Nat} (hG : cd_G M) (ha : a < 7) (hb : b < 7) (h : a ≠ b) (hp : post (cd_neat (cd_J (cd_T M a b))) (f0, f1, f2, cd_J M, a2, a3, a4, a5, a6, a7)) : wpX_neatWith post (f0, f1, f2, cd_J M, a2, a3, a4, a5, a6, a7) (nI a) (nI b) := by
  unfold wpX_neatWith
  dsimp only
  refine cd_turn_w hG ha hb h ?_
  dsimp only
  refine cd_neat_w ?_
  refine cd_turn_w (cd_GT hG ha hb h) ha hb h ?_
  dsimp only
  rw [cd_TT h]
  exact And.intro (cd_bool (cd_neat01 _)) hp
/-- place k of the square: a pair v < w that isn't joined -/
abbrev cd_nb (M : Nat → Nat) (k : Nat) : Prop := k / 7 < k % 7 ∧ (M (k / 7)).testBit (k % 7) = false
/-- the pairs below place k whose join makes the graph neat -/
def cd_cnt (M : Nat → Nat) : Nat → Nat
  | 0 => 0
  | k + 1 => cd_cnt M k + (if cd_nb M k ∧ ¬ cd_neat (cd_J (cd_T M (k / 7) (k % 7))) = 0 then 1 else 0)
theorem cd_cnt_le (M : Nat → Nat) : ∀ k, cd_cnt M k ≤ k := by
  intro k
  induction k with
  | zero => exact Nat.le_refl 0
  | succ k ih =>
    unfold cd_cnt
    split <;> omega
theorem cd_cnt0 {k : Nat} (h : ¬ (cd_nb M k ∧ ¬ cd_neat (cd_J (cd_T M (k / 7) (k % 7))) = 0)) : cd_cnt M (k + 1) = cd_cnt M k := by
  show cd_cnt M k + _ = _
  rw [if_neg h, Nat.add_zero]
theorem cd_cnt1 {k : Nat} (h : cd_nb M k ∧ ¬ cd_neat (cd_J (cd_T M (k / 7) (k % 7))) = 0) : cd_cnt M (k + 1) = cd_cnt M k + 1 := by
  show cd_cnt M k + _ = _
  rw [if_pos h]
theorem cd_row {a : Nat} : ∀ b, b ≤ a + 1 → b ≤ 7 → cd_cnt M (7 * a + b) = cd_cnt M (7 * a) := by
  intro b
  induction b with
  | zero => exact fun _ _ => rfl
  | succ b ih =>
    intro h1 h2
    show cd_cnt M (7 * a + b + 1) = _
    rw [cd_cnt0 (fun h => absurd h.1.1 (by omega))]
    exact ih (by omega) (by omega)
theorem cd_nj1 {post : Int32 → St1 → Prop} {J4 : Int32 → Int32 → Int32 → Int32 → Int32 → (Nat → Int32) → (Nat → Int32) → (Nat → Int32) → (Nat → Int32) → (Nat → Int32) → (Nat → Int32) → (Nat → Int32) → Prop} (hG : cd_G M) {a : Nat} (ha : a < 7) (hp : J4 (nI (cd_cnt M (7 * (a + 1)))) (nI (a + 1)) f0 f1 f2 (cd_J M) a2 a3 a4 a5 a6 a7) :
    ∀ k b, b + k = 7 → a < b → wX_neatJoins_14 post J4 (nI a) (k + 1) (nI (cd_cnt M (7 * a + b))) (nI b) f0 f1 f2 (cd_J M) a2 a3 a4 a5 a6 a7 := by
  intro k
  induction k with
  | zero =>
    intro b hb hab
    obtain rfl : b = 7 := by omega
    exact pk_le 7 7 (fun _ => nm_r (nI_1 a) hp) (fun z => absurd z (by omega))
  | succ k ih =>
    intro b hb hab
    have d1 : (7 * a + b) / 7 = a := by omega
    have d2 : (7 * a + b) % 7 = b := by omega
    have hb7 : b < 7 := by omega
    refine pk_le 7 b (fun z => absurd z (by omega)) (fun _ => And.intro (pk_in a 7 ha) ?_)
    rw [nI_clamp (show a < 2 ^ 31 by omega)]
    have hn := ih (b + 1) (by omega) (by omega)
    by_cases h : ((cd_J M a >>> (nI b &&& 31)) &&& 1) = 0
    · have h' := (cd_bz hG ha hb7).mp h
      refine cd_inT h (cd_neatWith_w hG ha hb7 (by omega) ?_)
      dsimp only
      by_cases g : cd_neat (cd_J (cd_T M a b)) = 0
      · have e : cd_cnt M (7 * a + (b + 1)) = cd_cnt M (7 * a + b) := cd_cnt0 (k := 7 * a + b) (fun z => by unfold cd_nb at z; rw [d1, d2] at z; exact z.2 g)
        rw [e] at hn
        exact br_t g (nm_r (Int32.add_zero _) (nm_r (nI_1 b) hn))
      · have e : cd_cnt M (7 * a + (b + 1)) = cd_cnt M (7 * a + b) + 1 := cd_cnt1 (k := 7 * a + b) (by unfold cd_nb; rw [d1, d2]; exact ⟨⟨hab, h'⟩, g⟩)
        rw [e] at hn
        exact br_f g (nm_r (nI_1 _) (nm_r (nI_1 b) hn))
    · have h' : ¬ (M a).testBit b = false := fun z => h ((cd_bz hG ha hb7).mpr z)
      have e : cd_cnt M (7 * a + (b + 1)) = cd_cnt M (7 * a + b) := cd_cnt0 (k := 7 * a + b) (fun z => by unfold cd_nb at z; rw [d1, d2] at z; exact h' z.1.2)
      rw [e] at hn
      exact cd_inF h (nm_r (Int32.add_zero _) (nm_r (nI_1 b) hn))
theorem cd_nj0 {post : Int32 → St1 → Prop} (hG : cd_G M) (hp : post (nI (cd_cnt M 49)) (f0, f1, f2, cd_J M, a2, a3, a4, a5, a6, a7)) :
    ∀ k a, a + k = 7 → wX_neatJoins_4 post (k + 1) (nI (cd_cnt M (7 * a))) (nI a) f0 f1 f2 (cd_J M) a2 a3 a4 a5 a6 a7 := by
  intro k
  induction k with
  | zero =>
    intro a ha
    obtain rfl : a = 7 := by omega
    exact pk_le 7 7 (fun _ => hp) (fun z => absurd z (by omega))
  | succ k ih =>
    intro a ha
    refine pk_le 7 a (fun z => absurd z (by omega)) (fun _ => nm_r (nI_1 a) ⟨7 - (a + 1) + 1, ?_⟩)
    rw [← cd_row (a := a) (a + 1) (by omega) (by omega)]
    exact cd_nj1 hG (by omega) (ih (a + 1) (by omega)) (7 - (a + 1)) (a + 1) (by omega) (by omega)
theorem cd_neatJoins_w {post : Int32 → St1 → Prop} (hG : cd_G M) (hp : post (nI (cd_cnt M 49)) (f0, f1, f2, cd_J M, a2, a3, a4, a5, a6, a7)) : wpX_neatJoins post (f0, f1, f2, cd_J M, a2, a3, a4, a5, a6, a7) := by
  unfold wpX_neatJoins
  exact ⟨8, cd_nj0 hG hp 7 0 rfl⟩
/-- the pairs below place k with whose join one more join makes the graph neat -/
def cd_cn2 (M : Nat → Nat) : Nat → Nat
  | 0 => 0
  | k + 1 => cd_cn2 M k + (if cd_nb M k ∧ 0 < cd_cnt (cd_T M (k / 7) (k % 7)) 49 then 1 else 0)
theorem cd_cn2_le (M : Nat → Nat) : ∀ k, cd_cn2 M k ≤ k := by
  intro k
  induction k with
  | zero => exact Nat.le_refl 0
  | succ k ih =>
    unfold cd_cn2
    split <;> omega
theorem cd_cn20 {k : Nat} (h : ¬ (cd_nb M k ∧ 0 < cd_cnt (cd_T M (k / 7) (k % 7)) 49)) : cd_cn2 M (k + 1) = cd_cn2 M k := by
  show cd_cn2 M k + _ = _
  rw [if_neg h, Nat.add_zero]
theorem cd_cn21 {k : Nat} (h : cd_nb M k ∧ 0 < cd_cnt (cd_T M (k / 7) (k % 7)) 49) : cd_cn2 M (k + 1) = cd_cn2 M k + 1 := by
  show cd_cn2 M k + _ = _
  rw [if_pos h]
theorem cd_cn2m (M : Nat → Nat) (k : Nat) : ∀ j, cd_cn2 M k ≤ cd_cn2 M (k + j) := by
  intro j
  induction j with
  | zero => exact Nat.le_refl _
  | succ j ih =>
    refine Nat.le_trans ih ?_
    show cd_cn2 M (k + j) ≤ cd_cn2 M (k + j) + _
    exact Nat.le_add_right _ _
theorem cd_fi1 {post : Int32 → St1 → Prop} (hG : cd_G M) (h2 : 0 < cd_cn2 M 49 → post 2 (f0, f1, f2, cd_J M, a2, a3, a4, a5, a6, a7)) (h3 : cd_cn2 M 49 = 0 → post 3 (f0, f1, f2, cd_J M, a2, a3, a4, a5, a6, a7)) :
    ∀ k i, i + k = 49 → cd_cn2 M i = 0 → wX_fill_22 post (k + 1) (nI i) f0 f1 f2 (cd_J M) a2 a3 a4 a5 a6 a7 := by
  intro k
  induction k with
  | zero =>
    intro i hi hz
    obtain rfl : i = 49 := by omega
    exact pk_le 49 49 (fun _ => h3 hz) (fun z => absurd z (by omega))
  | succ k ih =>
    intro i hi hz
    have ha : i / 7 < 7 := by omega
    have hb : i % 7 < 7 := by omega
    refine pk_le 49 i (fun z => absurd z (by omega)) (fun _ => And.intro (by decide) (nm_r (pk_div (d := 7) (by omega) (by decide) (by decide)) (And.intro (by decide) (nm_r (pk_rem (d := 7) (by omega) (by decide) (by decide)) ?_))))
    refine pk_le (i % 7) (i / 7) (fun z => nm_r (nI_1 i) (ih (i + 1) (by omega) ?_)) (fun z => And.intro (pk_in (i / 7) 7 ha) ?_)
    · rw [cd_cn20 (fun h => absurd h.1.1 (by omega))]
      exact hz
    · rw [nI_clamp (show i / 7 < 2 ^ 31 by omega)]
      by_cases h : ((cd_J M (i / 7) >>> (nI (i % 7) &&& 31)) &&& 1) = 0
      · have h' := (cd_bz hG ha hb).mp h
        have hne : i / 7 ≠ i % 7 := by omega
        have hG2 := cd_GT hG ha hb hne
        refine cd_inT h (cd_turn_w hG ha hb hne ?_)
        dsimp only
        refine cd_neatJoins_w hG2 ?_
        dsimp only
        refine cd_turn_w hG2 ha hb hne ?_
        dsimp only
        rw [cd_TT hne]
        have hle := cd_cnt_le (cd_T M (i / 7) (i % 7)) 49
        refine pk_le (cd_cnt (cd_T M (i / 7) (i % 7)) 49) 0 (fun g => nm_r (nI_1 i) (ih (i + 1) (by omega) ?_)) (fun g => h2 ?_)
        · rw [cd_cn20 (fun h => absurd h.2 (by omega))]
          exact hz
        · have e1 := cd_cn21 (M := M) (k := i) ⟨⟨z, h'⟩, g⟩
          have e2 := cd_cn2m M (i + 1) (49 - (i + 1))
          rw [show i + 1 + (49 - (i + 1)) = 49 by omega] at e2
          omega
      · have h' : ¬ (M (i / 7)).testBit (i % 7) = false := fun z => h ((cd_bz hG ha hb).mpr z)
        refine cd_inF h (nm_r (nI_1 i) (ih (i + 1) (by omega) ?_))
        rw [cd_cn20 (fun h => h' h.1.2)]
        exact hz
/-- fill -/
def cd_fill (M : Nat → Nat) : Int32 := if cd_neat (cd_J M) = 0 then (if cd_cnt M 49 = 0 then (if cd_cn2 M 49 = 0 then 3 else 2) else 1) else 0
theorem cd_fill_w {post : Int32 → St1 → Prop} (hG : cd_G M) (hp : post (cd_fill M) (f0, f1, f2, cd_J M, a2, a3, a4, a5, a6, a7)) : wpX_fill post (f0, f1, f2, cd_J M, a2, a3, a4, a5, a6, a7) := by
  unfold wpX_fill
  dsimp only
  refine cd_neat_w ?_
  unfold cd_fill at hp
  by_cases h : cd_neat (cd_J M) = 0
  · rw [if_pos h] at hp
    refine br_t h (cd_neatJoins_w hG ?_)
    dsimp only
    have hle := cd_cnt_le M 49
    refine pk_le (cd_cnt M 49) 0 (fun g => ⟨50, cd_fi1 hG (fun z => ?_) (fun z => ?_) 49 0 rfl rfl⟩) (fun g => ?_)
    · rw [if_pos (by omega), if_neg (by omega)] at hp
      exact hp
    · rw [if_pos (by omega), if_pos z] at hp
      exact hp
    · rw [if_neg (by omega)] at hp
      exact hp
  · rw [if_neg h] at hp
    exact br_f h hp
/-- join -/
theorem cd_vert {post : Int32 → Prop} {x : Int32} (h : (x < 0 ∨ 7 ≤ x) → post 0) (g : ∀ v, v < 7 → x = nI v → post 1) : wpX_isVertex post () x := by
  unfold wpX_isVertex
  refine br_c (fun z => h (Or.inl z)) (fun z => br_c (fun y => h (Or.inr y)) (fun y => ?_))
  rcases pk_ix x (n := 7) (by decide) with t | t | ⟨j, hj, e⟩
  · exact absurd t z
  · exact absurd t y
  · exact g j hj e
theorem cd_join_w (hG : cd_G M) (x y o : Int32) : ∃ (r : Int32) (M' : Nat → Nat), cd_G M' ∧ (r = 0 → M' = M) ∧ ∀ (post : Int32 → St1 → Prop) (f0 f1 f2 : Int32) (a2 a3 a4 a5 a6 a7 : Nat → Int32), post r (f0, f1, f2, cd_J M', a2, a3, a4, a5, a6, a7) → wpX_join post (f0, f1, f2, cd_J M, a2, a3, a4, a5, a6, a7) x y o := by
  by_cases hx : x < 0 ∨ 7 ≤ x
  · refine ⟨0, M, hG, fun _ => rfl, fun post f0 f1 f2 a2 a3 a4 a5 a6 a7 hp => ?_⟩
    unfold wpX_join
    dsimp only
    refine cd_vert (fun _ => br_t rfl hp) (fun v hv e => ?_)
    subst e
    rcases hx with hx | hx
    · exact absurd hx (nI_pos (by omega))
    · exact absurd hx (nI_ge (b := 7) hv (by decide))
  by_cases hy : y < 0 ∨ 7 ≤ y
  · refine ⟨0, M, hG, fun _ => rfl, fun post f0 f1 f2 a2 a3 a4 a5 a6 a7 hp => ?_⟩
    unfold wpX_join
    dsimp only
    refine cd_vert (fun z => absurd z hx) (fun v hv e => br_f (by decide) (cd_vert (fun _ => br_t rfl hp) (fun w hw e' => ?_)))
    subst e'
    rcases hy with hy | hy
    · exact absurd hy (nI_pos (by omega))
    · exact absurd hy (nI_ge (b := 7) hw (by decide))
  rcases pk_ix x (n := 7) (by decide) with t | t | ⟨v, hv, rfl⟩
  · exact absurd (Or.inl t) hx
  · exact absurd (Or.inr t) hx
  rcases pk_ix y (n := 7) (by decide) with t | t | ⟨w, hw, rfl⟩
  · exact absurd (Or.inl t) hy
  · exact absurd (Or.inr t) hy
  by_cases e : v = w
  · refine ⟨0, M, hG, fun _ => rfl, fun post f0 f1 f2 a2 a3 a4 a5 a6 a7 hp => ?_⟩
    unfold wpX_join
    dsimp only
    subst e
    exact cd_vert (fun z => absurd z hx) (fun _ _ _ => br_f (by decide) (cd_vert (fun z => absurd z hy) (fun _ _ _ => br_f (by decide) (br_t rfl hp))))
  have ne : ¬ nI v = nI w := fun z => e ((nI_eq (by omega) (by omega)).mp z)
  by_cases c : (if ((cd_J M v >>> (nI w &&& 31)) &&& 1) = 0 then (0 : Int32) else 1) = o
  · refine ⟨1, M, hG, fun z => absurd z (by decide), fun post f0 f1 f2 a2 a3 a4 a5 a6 a7 hp => ?_⟩
    unfold wpX_join
    dsimp only
    refine cd_vert (fun z => absurd z hx) (fun _ _ _ => br_f (by decide) (cd_vert (fun z => absurd z hy) (fun _ _ _ => br_f (by decide) (br_f ne (And.intro (pk_in v 7 hv) ?_)))))
    rw [nI_clamp (show v < 2 ^ 31 by omega)]
    refine And.intro (fun h => ?_) (fun h => ?_)
    · rw [if_pos h] at c
      exact br_t c hp
    · rw [if_neg h] at c
      exact br_t c hp
  · refine ⟨1, cd_T M v w, cd_GT hG hv hw e, fun z => absurd z (by decide), fun post f0 f1 f2 a2 a3 a4 a5 a6 a7 hp => ?_⟩
    unfold wpX_join
    dsimp only
    refine cd_vert (fun z => absurd z hx) (fun _ _ _ => br_f (by decide) (cd_vert (fun z => absurd z hy) (fun _ _ _ => br_f (by decide) (br_f ne (And.intro (pk_in v 7 hv) ?_)))))
    rw [nI_clamp (show v < 2 ^ 31 by omega)]
    refine And.intro (fun h => ?_) (fun h => ?_)
    · rw [if_pos h] at c
      exact br_f c (cd_turn_w hG hv hw e hp)
    · rw [if_neg h] at c
      exact br_f c (cd_turn_w hG hv hw e hp)
/-- a join that isn't as asked is turned -/
theorem cd_joinT {post : Int32 → St1 → Prop} {v w : Nat} {o : Int32} (hG : cd_G M) (hv : v < 7) (hw : w < 7) (h : v ≠ w) (c : (o = 1 ∧ (M v).testBit w = false) ∨ (o = 0 ∧ (M v).testBit w = true)) (hp : post 1 (f0, f1, f2, cd_J (cd_T M v w), a2, a3, a4, a5, a6, a7)) : wpX_join post (f0, f1, f2, cd_J M, a2, a3, a4, a5, a6, a7) (nI v) (nI w) o := by
  have ne : ¬ nI v = nI w := fun z => h ((nI_eq (by omega) (by omega)).mp z)
  unfold wpX_join
  dsimp only
  have nx : ∀ v, v < 7 → ¬ (nI v < 0 ∨ 7 ≤ nI v) := fun v hv z => by
    rcases z with z | z
    · exact absurd z (nI_pos (by omega))
    · exact absurd z (nI_ge (b := 7) hv (by decide))
  refine cd_vert (fun z => absurd z (nx v hv)) (fun _ _ _ => br_f (by decide) (cd_vert (fun z => absurd z (nx w hw)) (fun _ _ _ => br_f (by decide) (br_f ne (And.intro (pk_in v 7 hv) ?_)))))
  rw [nI_clamp (show v < 2 ^ 31 by omega)]
  refine And.intro (fun g => ?_) (fun g => ?_)
  · have g' := (cd_bz hG hv hw).mp g
    rcases c with ⟨rfl, c⟩ | ⟨rfl, c⟩
    · exact br_f (by decide) (cd_turn_w hG hv hw h hp)
    · rw [g'] at c
      exact absurd c (by decide)
  · rcases c with ⟨rfl, c⟩ | ⟨rfl, c⟩
    · exact absurd ((cd_bz hG hv hw).mpr c) g
    · exact br_f (by decide) (cd_turn_w hG hv hw h hp)
end
end
section
/-! orders: the array ways below and at the set that is counted, against a picture c -/
section
variable {post : Int32 → St1 → Prop} {f0 f1 f2 : Int32} {J a2 a3 a4 a5 a6 : Nat → Int32}
def cd_o1 (J : Nat → Int32) (m : Nat) : Nat → Nat → (Nat → Int32) → (Nat → Int32)
  | 0, _, c => c
  | k + 1, i, c => if ((nI m >>> (nI i &&& 31)) &&& 1) = 0 then cd_o1 J m k (i + 1) c else if cd_esy J i (nI m) = 0 then cd_o1 J m k (i + 1) c else cd_o1 J m k (i + 1) (upd c m (c m + c (m &&& (127 - 2 ^ i))))
theorem cd_o1_w {J9 : Int32 → (Nat → Int32) → (Nat → Int32) → (Nat → Int32) → (Nat → Int32) → (Nat → Int32) → (Nat → Int32) → (Nat → Int32) → Prop} {m : Nat} (hm : m < 128) : ∀ k i (c a7 : Nat → Int32), i + k = 7 → (∀ j, j ≤ m → a7 j = c j) → (∀ a7' : Nat → Int32, (∀ j, j ≤ m → a7' j = cd_o1 J m k i c j) → J9 (nI (m + 1)) J a2 a3 a4 a5 a6 a7') → wX_orders_24 post J9 (nI m) f0 f1 f2 (k + 1) (nI i) J a2 a3 a4 a5 a6 a7 := by
  intro k
  induction k with
  | zero => exact fun i c a7 hi hc hp => pk_le 7 i (fun _ => nm_r (nI_1 m) (hp a7 hc)) (fun z => absurd z (by omega))
  | succ k ih =>
    intro i c a7 hi hc hp
    unfold cd_o1 at hp
    refine pk_le 7 i (fun z => absurd z (by omega)) (fun _ => ?_)
    by_cases h : ((nI m >>> (nI i &&& 31)) &&& 1) = 0
    · rw [if_pos h] at hp
      exact cd_inT h (nm_r (nI_1 i) (ih (i + 1) c a7 (by omega) hc hp))
    · rw [if_neg h] at hp
      refine cd_inF h (cd_esy_w (by omega) ?_)
      by_cases g : cd_esy J i (nI m) = 0
      · rw [if_pos g] at hp
        exact br_t g (nm_r (nI_1 i) (ih (i + 1) c a7 (by omega) hc hp))
      · rw [if_neg g] at hp
        have e := cd_f4 m hm i (by omega)
        refine br_f g ?_
        rw [e.1, nI_clamp (show m < 2 ^ 31 by omega), nI_clamp (show m &&& (127 - 2 ^ i) < 2 ^ 31 by omega)]
        refine And.intro (pk_in m 128 hm) (And.intro (pk_in (m &&& (127 - 2 ^ i)) 128 (by omega)) (And.intro (pk_in m 128 hm) (nm_e (nm_r (nI_1 i) (ih (i + 1) _ _ (by omega) (fun j hj => ?_) hp)))))
        by_cases ej : j = m
        · rw [ej, pk_us, pk_us, hc m (Nat.le_refl m), hc _ e.2]
        · rw [pk_un ej, pk_un ej, hc j hj]
def cd_o0 (J : Nat → Int32) : Nat → Nat → (Nat → Int32) → Int32
  | 0, _, c => c 127
  | k + 1, m, c => cd_o0 J k (m + 1) (cd_o1 J m 7 0 (upd c m 0))
theorem cd_o0_w : ∀ k m (c a7 : Nat → Int32), m + k = 128 → (∀ j, j < m → a7 j = c j) → (∀ a7' : Nat → Int32, post (cd_o0 J k m c) (f0, f1, f2, J, a2, a3, a4, a5, a6, a7')) → wX_orders_9 post f0 f1 f2 (k + 1) (nI m) J a2 a3 a4 a5 a6 a7 := by
  intro k
  induction k with
  | zero =>
    intro m c a7 hm hc hp
    refine pk_lt 127 m (fun _ => ?_) (fun z => absurd z (by omega))
    rw [hc 127 (by omega)]
    exact hp a7
  | succ k ih =>
    intro m c a7 hm hc hp
    refine pk_lt 127 m (fun z => absurd z (by omega)) (fun _ => And.intro (pk_in m 128 (by omega)) ?_)
    rw [nI_clamp (show m < 2 ^ 31 by omega)]
    refine nm_e ⟨8, cd_o1_w (by omega) 7 0 (upd c m 0) _ rfl (fun j hj => ?_) (fun a7' h' => ih (m + 1) _ a7' (by omega) (fun j hj => h' j (by omega)) hp)⟩
    by_cases ej : j = m
    · rw [ej, pk_us, pk_us]
    · rw [pk_un ej, pk_un ej, hc j (by omega)]
def cd_orders (J : Nat → Int32) : Int32 := cd_o0 J 127 1 (upd (fun _ => 0) 0 1)
theorem cd_orders_w {a7 : Nat → Int32} (hp : ∀ a7' : Nat → Int32, post (cd_orders J) (f0, f1, f2, J, a2, a3, a4, a5, a6, a7')) : wpX_orders post (f0, f1, f2, J, a2, a3, a4, a5, a6, a7) := by
  unfold wpX_orders
  refine nm_e ⟨128, cd_o0_w 127 1 (upd (fun _ => 0) 0 1) _ rfl (fun j hj => ?_) hp⟩
  obtain rfl : j = 0 := by omega
  rw [pk_us, pk_us]
end
end
section
/-! the branches of cliques: the stack below its height, against pictures c3 c4 c5 -/
theorem cd_first {m : Nat} (hm : m < 128) (h0 : m ≠ 0) : ∀ k i, i + k = 6 → (∀ j, j < i → m.testBit j = false) → ∃ v, v < 7 ∧ m.testBit v = true ∧ ∀ post : Int32 → Prop, post (nI v) → wX_first_2 post (nI m) (k + 1) (nI i) := by
  intro k
  induction k with
  | zero =>
    intro i hi hz
    obtain rfl : i = 6 := by omega
    exact ⟨6, by decide, cd_f6 m hm h0 hz, fun post hp => pk_le 6 6 (fun _ => hp) (fun z => absurd z (by omega))⟩
  | succ k ih =>
    intro i hi hz
    by_cases h : ((nI m >>> (nI i &&& 31)) &&& 1) = 0
    · have h' := (cd_f2 m hm i (by omega)).mp h
      obtain ⟨v, hv, hb, hw⟩ := ih (i + 1) (by omega) (lt_s hz h')
      exact ⟨v, hv, hb, fun post hp => pk_le 6 i (fun z => absurd z (by omega)) (fun _ => cd_inT h (nm_r (nI_1 i) (hw post hp)))⟩
    · have h' : m.testBit i = true := by
        cases e : m.testBit i with
        | true => rfl
        | false => exact absurd ((cd_f2 m hm i (by omega)).mpr e) h
      exact ⟨i, by omega, h', fun post hp => pk_le 6 i (fun z => absurd z (by omega)) (fun _ => cd_inF h hp)⟩
theorem cd_first_w {m : Nat} (hm : m < 128) (h0 : m ≠ 0) : ∃ v, v < 7 ∧ m.testBit v = true ∧ ∀ post : Int32 → Prop, post (nI v) → wpX_first post () (nI m) := by
  obtain ⟨v, hv, hb, hw⟩ := cd_first hm h0 6 0 rfl (fun j hj => absurd hj (by omega))
  refine ⟨v, hv, hb, fun post hp => ?_⟩
  unfold wpX_first
  exact ⟨7, hw post hp⟩
theorem cd_push_w {post : St1 → Prop} {f1 f2 p0 p1 p2 : Int32} {a1 a2 a3 a4 a5 a6 a7 : Nat → Int32} {b : Nat} (hb : b < 64) (hp : post (nI (b + 1), f1, f2, a1, a2, upd a3 b p0.toInt8.toInt32, upd a4 b p1.toInt8.toInt32, upd a5 b p2.toInt8.toInt32, a6, a7)) : wpX_pushBranch post (nI b, f1, f2, a1, a2, a3, a4, a5, a6, a7) p0 p1 p2 := by
  unfold wpX_pushBranch
  dsimp only
  rw [nI_clamp (show b < 2 ^ 31 by omega)]
  exact And.intro (pk_in b 64 hb) (nm_e (And.intro (pk_in b 64 hb) (nm_e (And.intro (pk_in b 64 hb) (nm_e (nm_r (nI_1 b) hp))))))
/-- the new picture of the vertices that can be chosen -/
def cd_p4 (c4 : Nat → Nat) (d x y : Nat) : Nat → Nat := fun i => if i = d + 1 then y else if i = d then x else c4 i
theorem cd_ex {N : Nat → Nat} (hN : ∀ v, v < 7 → N v < 128 ∧ (N v).testBit v = false) : ∀ (k b : Nat) (c3 : Nat → Int32) (c4 : Nat → Nat) (c5 : Nat → Int32) (lg fc : Int32), k ≤ 256 → (∀ i, i < b → c4 i < 128 ∧ i + cd_pc (c4 i) ≤ 7) → ∃ L F : Int32, ∀ (post : St1 → Prop) (a1 a2 a3 a4 a5 a6 a7 : Nat → Int32), (∀ i, i < 7 → a2 i = nI (N i)) → (∀ i, i < b → a3 i = c3 i ∧ a4 i = nI (c4 i) ∧ a5 i = c5 i) → (∀ (b' : Int32) (a3' a4' a5' : Nat → Int32), post (b', L, F, a1, a2, a3', a4', a5', a6, a7)) → wX_explore_25 post (k + 1) (nI (256 - k)) (nI b) lg fc a1 a2 a3 a4 a5 a6 a7 := by
  intro k
  induction k with
  | zero =>
    intro b c3 c4 c5 lg fc hk hc
    exact ⟨lg, fc, fun post a1 a2 a3 a4 a5 a6 a7 h2 hs hp => pk_le 256 256 (fun _ => hp _ _ _ _) (fun z => absurd z (by omega))⟩
  | succ k ih =>
    intro b c3 c4 c5 lg fc hk hc
    have en : nI (256 - (k + 1)) + 1 = nI (256 - k) := by
      rw [nI_1]
      congr 1
      omega
    match b, hc with
    | 0, hc => exact ⟨lg, fc, fun post a1 a2 a3 a4 a5 a6 a7 h2 hs hp => pk_le 256 (256 - (k + 1)) (fun z => absurd z (by omega)) (fun _ => pk_le 0 0 (fun _ => hp _ _ _ _) (fun z => absurd z (by omega)))⟩
    | d + 1, hc =>
      have hd := hc d (Nat.lt_succ_self d)
      have hd8 : d ≤ 7 := by omega
      by_cases h0 : c4 d = 0
      · obtain ⟨L, F, hw⟩ := ih d c3 c4 c5 (if cd_ones (c3 d) ≤ lg then lg else cd_ones (c3 d)) (if c5 d = 0 then fc + 1 else fc + 0) (by omega) (fun i hi => hc i (by omega))
        refine ⟨L, F, fun post a1 a2 a3 a4 a5 a6 a7 h2 hs hp => ?_⟩
        have sd := hs d (Nat.lt_succ_self d)
        replace hw := hw post a1 a2 a3 a4 a5 a6 a7 h2 (fun i hi => hs i (by omega)) hp
        refine pk_le 256 (256 - (k + 1)) (fun z => absurd z (by omega)) (fun _ => pk_le (d + 1) 0 (fun z => absurd z (by omega)) (fun _ => nm_r (nI_pred d) (And.intro (pk_in d 64 (by omega)) ?_)))
        rw [nI_clamp (show d < 2 ^ 31 by omega)]
        refine nm_r sd.1 (And.intro (pk_in d 64 (by omega)) (nm_r sd.2.1 (And.intro (pk_in d 64 (by omega)) (nm_r sd.2.2 ?_))))
        rw [h0]
        refine br_t rfl (cd_ones_w ?_)
        by_cases g : cd_ones (c3 d) ≤ lg
        · rw [if_pos g] at hw
          refine br_t g ?_
          unfold wX_explore_109
          by_cases g5 : c5 d = 0
          · rw [if_pos g5] at hw
            exact br_t g5 (nm_e (nm_r en hw))
          · rw [if_neg g5] at hw
            exact br_f g5 (nm_e (nm_r en hw))
        · rw [if_neg g] at hw
          refine br_f g ?_
          unfold wX_explore_109
          by_cases g5 : c5 d = 0
          · rw [if_pos g5] at hw
            exact br_t g5 (nm_e (nm_r en hw))
          · rw [if_neg g5] at hw
            exact br_f g5 (nm_e (nm_r en hw))
      · obtain ⟨v, hv, hb, hf⟩ := cd_first_w hd.1 h0
        have p1 := cd_pc1 _ hd.1 v hv hb
        have p2 := cd_pc2 (m := c4 d) (n := N v) hv hb (hN v hv).2
        have l1 := cd_f4 _ hd.1 v hv
        have l2 : c4 d &&& N v < 128 := Nat.lt_of_le_of_lt Nat.and_le_left hd.1
        obtain ⟨L, F, hw⟩ := ih (d + 2) (upd (upd c3 d (c3 d).toInt8.toInt32) (d + 1) (c3 d ||| ((1 : Int32) <<< (nI v &&& 31))).toInt8.toInt32) (cd_p4 c4 d (c4 d &&& (127 - 2 ^ v)) (c4 d &&& N v)) (upd (upd c5 d (c5 d ||| ((1 : Int32) <<< (nI v &&& 31))).toInt8.toInt32) (d + 1) (c5 d &&& nI (N v)).toInt8.toInt32) lg fc (by omega) (fun i hi => by
          unfold cd_p4
          by_cases e1 : i = d + 1
          · rw [if_pos e1]
            exact ⟨l2, by omega⟩
          · rw [if_neg e1]
            by_cases e2 : i = d
            · rw [if_pos e2]
              exact ⟨by omega, by omega⟩
            · rw [if_neg e2]
              exact hc i (by omega))
        refine ⟨L, F, fun post a1 a2 a3 a4 a5 a6 a7 h2 hs hp => ?_⟩
        have sd := hs d (Nat.lt_succ_self d)
        refine pk_le 256 (256 - (k + 1)) (fun z => absurd z (by omega)) (fun _ => pk_le (d + 1) 0 (fun z => absurd z (by omega)) (fun _ => nm_r (nI_pred d) (And.intro (pk_in d 64 (by omega)) ?_)))
        rw [nI_clamp (show d < 2 ^ 31 by omega)]
        refine nm_r sd.1 (And.intro (pk_in d 64 (by omega)) (nm_r sd.2.1 (And.intro (pk_in d 64 (by omega)) (nm_r sd.2.2 ?_))))
        refine br_f (nI_ne0 (by omega) (by omega)) (hf _ ?_)
        refine cd_push_w (by omega) ?_
        dsimp only
        refine And.intro (pk_in v 7 hv) (And.intro (pk_in v 7 hv) (cd_push_w (b := d + 1) (by omega) ?_))
        dsimp only
        refine nm_r en (hw post a1 a2 _ _ _ a6 a7 h2 (fun i hi => ?_) hp)
        rw [nI_clamp (show v < 2 ^ 31 by omega), h2 v hv, cd_and, l1.1, cd_f3 _ l2, cd_f3 (c4 d &&& (127 - 2 ^ v)) (by omega)]
        unfold cd_p4
        by_cases e1 : i = d + 1
        · rw [e1, pk_us, pk_us, pk_us, pk_us, pk_us, if_pos rfl]
          exact ⟨rfl, rfl, rfl⟩
        · rw [pk_un e1, pk_un e1, pk_un e1, pk_un e1, pk_un e1, if_neg e1]
          by_cases e2 : i = d
          · rw [e2, pk_us, pk_us, pk_us, pk_us, pk_us, if_pos rfl]
            exact ⟨rfl, rfl, rfl⟩
          · rw [pk_un e2, pk_un e2, pk_un e2, pk_un e2, pk_un e2, if_neg e2]
            exact hs i (by omega)
theorem cd_explore {N : Nat → Nat} (hN : ∀ v, v < 7 → N v < 128 ∧ (N v).testBit v = false) : ∃ L F : Int32, ∀ (post : St1 → Prop) (f0 f1 f2 : Int32) (a1 a2 a3 a4 a5 a6 a7 : Nat → Int32), (∀ i, i < 7 → a2 i = nI (N i)) → (∀ (b' : Int32) (a3' a4' a5' : Nat → Int32), post (b', L, F, a1, a2, a3', a4', a5', a6, a7)) → wpX_explore post (f0, f1, f2, a1, a2, a3, a4, a5, a6, a7) := by
  obtain ⟨L, F, hw⟩ := cd_ex hN 256 1 (fun _ => 0) (fun _ => 127) (fun _ => 0) 0 0 (by omega) (fun i hi => ⟨by decide, by
    obtain rfl : i = 0 := by omega
    decide⟩)
  refine ⟨L, F, fun post f0 f1 f2 a1 a2 a3 a4 a5 a6 a7 h2 hp => ?_⟩
  unfold wpX_explore
  dsimp only
  refine cd_push_w (b := 0) (by omega) ?_
  dsimp only
  refine ⟨257, hw post a1 a2 _ _ _ a6 a7 h2 (fun i hi => ?_) hp⟩
  obtain rfl : i = 0 := by omega
  rw [pk_us, pk_us, pk_us]
  exact ⟨by decide, by decide, by decide⟩
section
variable {f0 f1 f2 : Int32} {M : Nat → Nat} {a2 a3 a4 a5 a6 a7 : Nat → Int32}
theorem cd_lp {post : St1 → Prop} (hG : cd_G M) : ∀ k i (a2 : Nat → Int32), i + k = 7 → (∀ j, j < i → a2 j = nI (M j)) → (∀ a2' : Nat → Int32, (∀ j, j < 7 → a2' j = nI (M j)) → post (f0, f1, f2, cd_J M, a2', a3, a4, a5, a6, a7)) → wX_lookPlainly_2 post f0 f1 f2 (k + 1) (nI i) (cd_J M) a2 a3 a4 a5 a6 a7 := by
  intro k
  induction k with
  | zero =>
    intro i a2 hi h2 hp
    obtain rfl : i = 7 := by omega
    exact pk_le 7 7 (fun _ => hp a2 h2) (fun z => absurd z (by omega))
  | succ k ih =>
    intro i a2 hi h2 hp
    refine pk_le 7 i (fun z => absurd z (by omega)) (fun _ => And.intro (pk_in i 7 (by omega)) (And.intro (pk_in i 7 (by omega)) ?_))
    rw [nI_clamp (show i < 2 ^ 31 by omega), vp_nar_byte]
    refine nm_e (nm_r (nI_1 i) (ih (i + 1) _ (by omega) (fun j hj => ?_) hp))
    by_cases e : j = i
    · rw [e, pk_us]
      exact cd_f3 _ (hG.1 i (by omega)).1
    · rw [pk_un e]
      exact h2 j (by omega)
theorem cd_look_w {post : St1 → Prop} (hG : cd_G M) (hp : ∀ a2' : Nat → Int32, (∀ j, j < 7 → a2' j = nI (M j)) → post (f0, f1, f2, cd_J M, a2', a3, a4, a5, a6, a7)) : wpX_lookPlainly post (f0, f1, f2, cd_J M, a2, a3, a4, a5, a6, a7) := by
  unfold wpX_lookPlainly
  exact ⟨8, cd_lp hG 7 0 a2 rfl (fun j hj => absurd hj (by omega)) hp⟩
theorem cd_ap {post : Int32 → St1 → Prop} (hG : cd_G M) (hp : ∀ a2' : Nat → Int32, (∀ j, j < 7 → a2' j = nI ((127 - M j) &&& (127 - 2 ^ j))) → wpX_explore (fun u => match u with | (g0, g1, g2, b1, b2, b3, b4, b5, b6, b7) => post g1 (g0, g1, g2, b1, b2, b3, b4, b5, b6, b7)) (f0, f1, f2, cd_J M, a2', a3, a4, a5, a6, a7)) : ∀ k i (a2 : Nat → Int32), i + k = 7 → (∀ j, j < i → a2 j = nI ((127 - M j) &&& (127 - 2 ^ j))) → wX_largestApart_2 post f0 f1 f2 (k + 1) (nI i) (cd_J M) a2 a3 a4 a5 a6 a7 := by
  intro k
  induction k with
  | zero =>
    intro i a2 hi h2
    obtain rfl : i = 7 := by omega
    exact pk_le 7 7 (fun _ => hp a2 h2) (fun z => absurd z (by omega))
  | succ k ih =>
    intro i a2 hi h2
    refine pk_le 7 i (fun z => absurd z (by omega)) (fun _ => And.intro (pk_in i 7 (by omega)) (And.intro (pk_in i 7 (by omega)) ?_))
    rw [nI_clamp (show i < 2 ^ 31 by omega)]
    refine nm_e (nm_r (nI_1 i) (ih (i + 1) _ (by omega) (fun j hj => ?_)))
    by_cases e : j = i
    · rw [e, pk_us]
      exact (cd_f5 _ (hG.1 i (by omega)).1 i (by omega)).1
    · rw [pk_un e]
      exact h2 j (by omega)
end
/-- largestClique, fullCliques, largestApart -/
theorem cd_lc_w {M : Nat → Nat} (hG : cd_G M) : ∃ L F : Int32, (∀ (post : Int32 → St1 → Prop) (f0 f1 f2 : Int32) (a2 a3 a4 a5 a6 a7 : Nat → Int32), (∀ (f0 f1 f2 : Int32) (a2 a3 a4 a5 a6 a7 : Nat → Int32), post L (f0, f1, f2, cd_J M, a2, a3, a4, a5, a6, a7)) → wpX_largestClique post (f0, f1, f2, cd_J M, a2, a3, a4, a5, a6, a7)) ∧ (∀ (post : Int32 → St1 → Prop) (f0 f1 f2 : Int32) (a2 a3 a4 a5 a6 a7 : Nat → Int32), (∀ (f0 f1 f2 : Int32) (a2 a3 a4 a5 a6 a7 : Nat → Int32), post F (f0, f1, f2, cd_J M, a2, a3, a4, a5, a6, a7)) → wpX_fullCliques post (f0, f1, f2, cd_J M, a2, a3, a4, a5, a6, a7)) := by
  obtain ⟨L, F, hw⟩ := cd_explore hG.1
  refine ⟨L, F, fun post f0 f1 f2 a2 a3 a4 a5 a6 a7 hp => ?_, fun post f0 f1 f2 a2 a3 a4 a5 a6 a7 hp => ?_⟩
  · unfold wpX_largestClique
    dsimp only
    refine cd_look_w hG (fun a2' h2 => ?_)
    dsimp only
    exact hw _ f0 f1 f2 _ a2' a3 a4 a5 a6 a7 h2 (fun b' a3' a4' a5' => hp _ _ _ _ _ _ _ _ _)
  · unfold wpX_fullCliques
    dsimp only
    refine cd_look_w hG (fun a2' h2 => ?_)
    dsimp only
    exact hw _ f0 f1 f2 _ a2' a3 a4 a5 a6 a7 h2 (fun b' a3' a4' a5' => hp _ _ _ _ _ _ _ _ _)
theorem cd_la_w {M : Nat → Nat} (hG : cd_G M) : ∃ L : Int32, ∀ (post : Int32 → St1 → Prop) (f0 f1 f2 : Int32) (a2 a3 a4 a5 a6 a7 : Nat → Int32), (∀ (f0 f1 f2 : Int32) (a2 a3 a4 a5 a6 a7 : Nat → Int32), post L (f0, f1, f2, cd_J M, a2, a3, a4, a5, a6, a7)) → wpX_largestApart post (f0, f1, f2, cd_J M, a2, a3, a4, a5, a6, a7) := by
  obtain ⟨L, F, hw⟩ := cd_explore (N := fun v => (127 - M v) &&& (127 - 2 ^ v)) (fun v hv => (cd_f5 _ (hG.1 v hv).1 v hv).2)
  refine ⟨L, fun post f0 f1 f2 a2 a3 a4 a5 a6 a7 hp => ?_⟩
  unfold wpX_largestApart
  refine ⟨8, cd_ap hG (fun a2' h2 => ?_) 7 0 a2 rfl (fun j hj => absurd hj (by omega))⟩
  exact hw _ f0 f1 f2 _ a2' a3 a4 a5 a6 a7 h2 (fun b' a3' a4' a5' => hp _ _ _ _ _ _ _ _ _)
end
section
/-! colours: the array colourOf at and below the vertex, against a picture c -/
section
variable {post : Int32 → Prop} {f0 f1 f2 : Int32} {J a2 a3 a4 a5 a6 a7 : Nat → Int32}
def cd_ft (mv : Int32) (c : Nat → Int32) (x2 : Int32) : Nat → Nat → Int32
  | 0, _ => 1
  | k + 1, i => if ((mv >>> (nI i &&& 31)) &&& 1) = 0 then cd_ft mv c x2 k (i + 1) else if c i = x2 then 0 else cd_ft mv c x2 k (i + 1)
theorem cd_ft_w {c : Nat → Int32} {x2 : Int32} {v : Nat} (hv : v < 7) (hc : ∀ j, j < v → a6 j = c j) : ∀ k i, i + k = v → post (cd_ft (J v) c x2 k i) → wX_fits_2 post (nI v) x2 f0 f1 f2 J a2 a3 a4 a5 a6 a7 (k + 1) (nI i) := by
  intro k
  induction k with
  | zero => exact fun i hi hp => pk_le v i (fun _ => hp) (fun z => absurd z (by omega))
  | succ k ih =>
    intro i hi hp
    unfold cd_ft at hp
    refine pk_le v i (fun z => absurd z (by omega)) (fun _ => And.intro (pk_in v 7 hv) ?_)
    rw [nI_clamp (show v < 2 ^ 31 by omega)]
    by_cases h : ((J v >>> (nI i &&& 31)) &&& 1) = 0
    · rw [if_pos h] at hp
      exact cd_inT h (nm_r (nI_1 i) (ih (i + 1) (by omega) hp))
    · rw [if_neg h] at hp
      refine cd_inF h (And.intro (pk_in i 8 (by omega)) ?_)
      rw [nI_clamp (show i < 2 ^ 31 by omega), hc i (by omega)]
      by_cases g : c i = x2
      · rw [if_pos g] at hp
        exact br_t g hp
      · rw [if_neg g] at hp
        exact br_f g (nm_r (nI_1 i) (ih (i + 1) (by omega) hp))
theorem cd_fits_w {c : Nat → Int32} {x2 : Int32} {v : Nat} (hv : v < 7) (hc : ∀ j, j < v → a6 j = c j) (hp : post (cd_ft (J v) c x2 v 0)) : wpX_fits post (f0, f1, f2, J, a2, a3, a4, a5, a6, a7) (nI v) x2 := by
  unfold wpX_fits
  exact ⟨v + 1, cd_ft_w hv hc v 0 (Nat.zero_add v) hp⟩
end
theorem cd_up {x y : Int32} (h : ¬ y ≤ x) : (x + 1).toInt = x.toInt + 1 := by
  have h1 : ¬ y.toInt ≤ x.toInt := fun z => h (Int32.le_iff_toInt_le.mpr z)
  have h2 := Int32.toInt_lt y
  have h3 := Int32.le_toInt x
  rw [Int32.toInt_add]
  show (x.toInt + 1).bmod (2 ^ 32) = _
  rw [Int.bmod_eq_of_le] <;> omega
theorem cd_n2 (J c : Nat → Int32) {v : Nat} (hv : v < 7) (x2 x3 : Int32) : ∀ (k : Nat) (x4 : Int32), x2.toInt - x4.toInt ≤ k → ∃ r : Int32, ∀ (post : Int32 → Prop) (f0 f1 f2 : Int32) (a2 a3 a4 a5 a6 a7 : Nat → Int32), (∀ j, j < v → a6 j = c j) → post r → wX_nextColour_52 post (nI v) x2 x3 f0 f1 f2 J a2 a3 a4 a5 a6 a7 (k + 1) x4 := by
  intro k
  induction k with
  | zero =>
    intro x4 hk
    exact ⟨-1, fun post f0 f1 f2 a2 a3 a4 a5 a6 a7 hc hp => br_t (Int32.le_iff_toInt_le.mpr (by omega)) hp⟩
  | succ k ih =>
    intro x4 hk
    by_cases h : x2 ≤ x4
    · exact ⟨-1, fun post f0 f1 f2 a2 a3 a4 a5 a6 a7 hc hp => br_t h hp⟩
    · by_cases g : x3 < x4
      · exact ⟨-1, fun post f0 f1 f2 a2 a3 a4 a5 a6 a7 hc hp => br_f h (br_t g hp)⟩
      · by_cases e : cd_ft (J v) c x4 v 0 = 0
        · have hu := cd_up h
          obtain ⟨r, hr⟩ := ih (x4 + 1) (by omega)
          exact ⟨r, fun post f0 f1 f2 a2 a3 a4 a5 a6 a7 hc hp => br_f h (br_f g (cd_fits_w hv hc (br_t e (nm_e (hr post f0 f1 f2 a2 a3 a4 a5 a6 a7 hc hp)))))⟩
        · exact ⟨x4, fun post f0 f1 f2 a2 a3 a4 a5 a6 a7 hc hp => br_f h (br_f g (cd_fits_w hv hc (br_f e hp)))⟩
theorem cd_n1 (J c : Nat → Int32) {v : Nat} (hv : v < 7) (x2 : Int32) : ∀ (k i : Nat) (y : Int32), i + k = v → ∃ r : Int32, ∀ (post : Int32 → Prop) (f0 f1 f2 : Int32) (a2 a3 a4 a5 a6 a7 : Nat → Int32), (∀ j, j ≤ v → a6 j = c j) → post r → wX_nextColour_5 post (nI v) x2 f0 f1 f2 J a2 a3 a4 a5 a6 a7 (k + 1) y (nI i) := by
  intro k
  induction k with
  | zero =>
    intro i y hi
    obtain rfl : i = v := by omega
    obtain ⟨r, hr⟩ := cd_n2 J c hv x2 y (x2.toInt - (c i + 1).toInt).toNat (c i + 1) (by omega)
    refine ⟨r, fun post f0 f1 f2 a2 a3 a4 a5 a6 a7 hc hp => pk_le i i (fun _ => And.intro (pk_in i 8 (by omega)) ?_) (fun z => absurd z (by omega))⟩
    rw [nI_clamp (show i < 2 ^ 31 by omega), hc i (Nat.le_refl i)]
    exact nm_e ⟨_, hr post f0 f1 f2 a2 a3 a4 a5 a6 a7 (fun j hj => hc j (by omega)) hp⟩
  | succ k ih =>
    intro i y hi
    by_cases h : c i < y
    · obtain ⟨r, hr⟩ := ih (i + 1) y (by omega)
      refine ⟨r, fun post f0 f1 f2 a2 a3 a4 a5 a6 a7 hc hp => pk_le v i (fun z => absurd z (by omega)) (fun _ => And.intro (pk_in i 8 (by omega)) ?_)⟩
      rw [nI_clamp (show i < 2 ^ 31 by omega), hc i (by omega)]
      exact br_t h (nm_r (nI_1 i) (hr post f0 f1 f2 a2 a3 a4 a5 a6 a7 hc hp))
    · obtain ⟨r, hr⟩ := ih (i + 1) (c i + 1) (by omega)
      refine ⟨r, fun post f0 f1 f2 a2 a3 a4 a5 a6 a7 hc hp => pk_le v i (fun z => absurd z (by omega)) (fun _ => And.intro (pk_in i 8 (by omega)) ?_)⟩
      rw [nI_clamp (show i < 2 ^ 31 by omega), hc i (by omega)]
      exact br_f h (And.intro (pk_in i 8 (by omega)) (nm_e (nm_r (nI_1 i) (hr post f0 f1 f2 a2 a3 a4 a5 a6 a7 hc hp))))
theorem cd_next_w (J c : Nat → Int32) {v : Nat} (hv : v < 7) (x2 : Int32) : ∃ r : Int32, ∀ (post : Int32 → Prop) (f0 f1 f2 : Int32) (a2 a3 a4 a5 a6 a7 : Nat → Int32), (∀ j, j ≤ v → a6 j = c j) → post r → wpX_nextColour post (f0, f1, f2, J, a2, a3, a4, a5, a6, a7) (nI v) x2 := by
  obtain ⟨r, hr⟩ := cd_n1 J c hv x2 v 0 0 (Nat.zero_add v)
  refine ⟨r, fun post f0 f1 f2 a2 a3 a4 a5 a6 a7 hc hp => ?_⟩
  unfold wpX_nextColour
  exact ⟨v + 1, hr post f0 f1 f2 a2 a3 a4 a5 a6 a7 hc hp⟩
theorem cd_cc (J : Nat → Int32) (x1 : Int32) : ∀ (k v : Nat) (c : Nat → Int32), k ≤ 8192 → v < 7 → ∃ r : Int32, ∀ (post : Int32 → St1 → Prop) (f0 f1 f2 : Int32) (a2 a3 a4 a5 a6 a7 : Nat → Int32), (∀ j, j ≤ v → a6 j = c j) → (∀ a6' : Nat → Int32, post r (f0, f1, f2, J, a2, a3, a4, a5, a6', a7)) → wX_canColour_11 post x1 f0 f1 f2 (k + 1) (nI v) (nI (8192 - k)) J a2 a3 a4 a5 a6 a7 := by
  intro k
  induction k with
  | zero =>
    intro v c hk hv
    exact ⟨0, fun post f0 f1 f2 a2 a3 a4 a5 a6 a7 hc hp => pk_le 8192 8192 (fun _ => hp a6) (fun z => absurd z (by omega))⟩
  | succ k ih =>
    intro v c hk hv
    have en : nI (8192 - (k + 1)) + 1 = nI (8192 - k) := by
      rw [nI_1]
      congr 1
      omega
    obtain ⟨q, hq⟩ := cd_next_w J c hv x1
    by_cases h : 0 ≤ q
    · by_cases e7 : v + 1 = 7
      · refine ⟨1, fun post f0 f1 f2 a2 a3 a4 a5 a6 a7 hc hp => pk_le 8192 (8192 - (k + 1)) (fun z => absurd z (by omega)) (fun _ => br_f (nI_pos (by omega)) (hq _ f0 f1 f2 a2 a3 a4 a5 a6 a7 hc (br_t h (And.intro (pk_in v 8 (by omega)) (nm_e (nm_r (nI_1 v) (pk_eq (v + 1) 7 (fun _ => hp _) (fun z => absurd e7 z))))))))⟩
      · obtain ⟨r, hr⟩ := ih (v + 1) (upd (upd c v q.toInt8.toInt32) (v + 1) (-1)) (by omega) (by omega)
        refine ⟨r, fun post f0 f1 f2 a2 a3 a4 a5 a6 a7 hc hp => pk_le 8192 (8192 - (k + 1)) (fun z => absurd z (by omega)) (fun _ => br_f (nI_pos (by omega)) (hq _ f0 f1 f2 a2 a3 a4 a5 a6 a7 hc (br_t h (And.intro (pk_in v 8 (by omega)) ?_))))⟩
        rw [nI_clamp (show v < 2 ^ 31 by omega)]
        refine nm_e (nm_r (nI_1 v) (pk_eq (v + 1) 7 (fun z => absurd z e7) (fun _ => And.intro (pk_in (v + 1) 8 (by omega)) ?_)))
        rw [nI_clamp (show v + 1 < 2 ^ 31 by omega)]
        refine nm_e (nm_r en (hr post f0 f1 f2 a2 a3 a4 a5 _ a7 (fun j hj => ?_) hp))
        by_cases e1 : j = v + 1
        · rw [e1, pk_us, pk_us]
        · rw [pk_un e1, pk_un e1]
          by_cases e2 : j = v
          · rw [e2, pk_us, pk_us]
          · rw [pk_un e2, pk_un e2]
            exact hc j (by omega)
    · match v, hv, hq with
      | 0, hv, hq =>
        exact ⟨0, fun post f0 f1 f2 a2 a3 a4 a5 a6 a7 hc hp => pk_le 8192 (8192 - (k + 1)) (fun z => absurd z (by omega)) (fun _ => br_f (nI_pos (by omega)) (hq _ f0 f1 f2 a2 a3 a4 a5 a6 a7 hc (br_f h (nm_e (nm_e (br_c (fun _ => hp a6) (fun _ => br_t (by decide) (hp a6))))))))⟩
      | v + 1, hv, hq =>
        obtain ⟨r, hr⟩ := ih v c (by omega) (by omega)
        exact ⟨r, fun post f0 f1 f2 a2 a3 a4 a5 a6 a7 hc hp => pk_le 8192 (8192 - (k + 1)) (fun z => absurd z (by omega)) (fun _ => br_f (nI_pos (by omega)) (hq _ f0 f1 f2 a2 a3 a4 a5 a6 a7 hc (br_f h (nm_r (pk_m1 v) (nm_r en (hr post f0 f1 f2 a2 a3 a4 a5 a6 a7 (fun j hj => hc j (by omega)) hp))))))⟩
theorem cd_can_w (J : Nat → Int32) (x1 : Int32) : ∃ r : Int32, ∀ (post : Int32 → St1 → Prop) (f0 f1 f2 : Int32) (a2 a3 a4 a5 a6 a7 : Nat → Int32), (∀ a6' : Nat → Int32, post r (f0, f1, f2, J, a2, a3, a4, a5, a6', a7)) → wpX_canColour post (f0, f1, f2, J, a2, a3, a4, a5, a6, a7) x1 := by
  obtain ⟨r, hr⟩ := cd_cc J x1 8192 0 (upd (fun _ => 0) 0 (-1)) (by omega) (by omega)
  refine ⟨r, fun post f0 f1 f2 a2 a3 a4 a5 a6 a7 hp => ?_⟩
  unfold wpX_canColour
  refine nm_e ⟨8193, hr post f0 f1 f2 a2 a3 a4 a5 _ a7 (fun j hj => ?_) hp⟩
  obtain rfl : j = 0 := by omega
  rw [pk_us, pk_us]
theorem cd_co (J : Nat → Int32) : ∀ (k : Nat) (x : Int32), 7 - x.toInt ≤ k → ∃ r : Int32, ∀ (post : Int32 → St1 → Prop) (f0 f1 f2 : Int32) (a2 a3 a4 a5 a6 a7 : Nat → Int32), (∀ (f0 f1 f2 : Int32) (a2 a3 a4 a5 a6 a7 : Nat → Int32), post r (f0, f1, f2, J, a2, a3, a4, a5, a6, a7)) → wX_colours_14 post (k + 1) x f0 f1 f2 J a2 a3 a4 a5 a6 a7 := by
  intro k
  induction k with
  | zero =>
    intro x hx
    exact ⟨x, fun post f0 f1 f2 a2 a3 a4 a5 a6 a7 hp => br_t (Int32.le_iff_toInt_le.mpr (show (7 : Int) ≤ x.toInt by omega)) (hp _ _ _ _ _ _ _ _ _)⟩
  | succ k ih =>
    intro x hx
    by_cases h : 7 ≤ x
    · exact ⟨x, fun post f0 f1 f2 a2 a3 a4 a5 a6 a7 hp => br_t h (hp _ _ _ _ _ _ _ _ _)⟩
    · obtain ⟨q, hq⟩ := cd_can_w J x
      by_cases g : q = 0
      · have hu := cd_up h
        obtain ⟨r, hr⟩ := ih (x + 1) (by omega)
        exact ⟨r, fun post f0 f1 f2 a2 a3 a4 a5 a6 a7 hp => br_f h (hq _ f0 f1 f2 a2 a3 a4 a5 a6 a7 (fun a6' => br_t g (nm_e (hr post _ _ _ _ _ _ _ _ _ hp))))⟩
      · exact ⟨x, fun post f0 f1 f2 a2 a3 a4 a5 a6 a7 hp => br_f h (hq _ f0 f1 f2 a2 a3 a4 a5 a6 a7 (fun a6' => br_f g (hp _ _ _ _ _ _ _ _ _)))⟩
theorem cd_colours_w {M : Nat → Nat} (hG : cd_G M) : ∃ r : Int32, ∀ (post : Int32 → St1 → Prop) (f0 f1 f2 : Int32) (a2 a3 a4 a5 a6 a7 : Nat → Int32), (∀ (f0 f1 f2 : Int32) (a2 a3 a4 a5 a6 a7 : Nat → Int32), post r (f0, f1, f2, cd_J M, a2, a3, a4, a5, a6, a7)) → wpX_colours post (f0, f1, f2, cd_J M, a2, a3, a4, a5, a6, a7) := by
  obtain ⟨L, F, hL, _⟩ := cd_lc_w hG
  obtain ⟨r, hr⟩ := cd_co (cd_J M) (7 - L.toInt).toNat L (by omega)
  by_cases h : cd_neat (cd_J M) = 0
  · refine ⟨r, fun post f0 f1 f2 a2 a3 a4 a5 a6 a7 hp => ?_⟩
    unfold wpX_colours
    dsimp only
    refine hL _ f0 f1 f2 a2 a3 a4 a5 a6 a7 (fun f0 f1 f2 a2 a3 a4 a5 a6 a7 => ?_)
    dsimp only
    exact cd_neat_w (br_t h ⟨_, hr post f0 f1 f2 a2 a3 a4 a5 a6 a7 hp⟩)
  · refine ⟨L, fun post f0 f1 f2 a2 a3 a4 a5 a6 a7 hp => ?_⟩
    unfold wpX_colours
    dsimp only
    refine hL _ f0 f1 f2 a2 a3 a4 a5 a6 a7 (fun f0 f1 f2 a2 a3 a4 a5 a6 a7 => ?_)
    dsimp only
    exact cd_neat_w (br_f h (hp _ _ _ _ _ _ _ _ _))
end
section
/-! the law's loops; the two desks hold the same array joined -/
section
variable {post : Int32 → Prop} {L : Nat} {xs : Nat → Int32} {kc ks : Nat} {M : Nat → Nat} {f0 f1 f2 : Int32} {a2 a3 a4 a5 a6 a7 : Nat → Int32} {g0 g1 g2 : Int32} {b2 b3 b4 b5 b6 b7 : Nat → Int32}
/-- the last loop and the comparisons behind it -/
theorem cd_L4 (hG : cd_G M) (hp : post 1) : ∀ k i, i + k = 8 → wL_law_324 post L xs kc ks f0 f1 f2 (cd_J M) a2 a3 a4 a5 a6 a7 g0 g1 g2 (cd_J M) b2 b3 b4 b5 b6 b7 (k + 1) (nI i) := by
  intro k
  induction k with
  | zero =>
    intro i hi
    obtain rfl : i = 8 := by omega
    obtain ⟨cL, cF, hL, hF⟩ := cd_lc_w hG
    obtain ⟨cA, hA⟩ := cd_la_w hG
    obtain ⟨cC, hC⟩ := cd_colours_w hG
    refine pk_le 8 8 (fun _ => ?_) (fun z => absurd z (by omega))
    refine cd_joins_w (cd_joins_w (br_t rfl ?_))
    refine cd_easy_w (cd_easy_w (br_t rfl ?_))
    refine cd_core_w (cd_core_w (br_t rfl ?_))
    refine cd_orders_w (fun a7' => ?_)
    dsimp only
    refine cd_orders_w (fun b7' => ?_)
    dsimp only
    refine br_t rfl (cd_hole_w (cd_hole_w (br_t rfl ?_)))
    refine hL _ _ _ _ _ _ _ _ _ _ (fun f0 f1 f2 a2 a3 a4 a5 a6 a7 => ?_)
    dsimp only
    refine hL _ _ _ _ _ _ _ _ _ _ (fun g0 g1 g2 b2 b3 b4 b5 b6 b7 => ?_)
    dsimp only
    refine br_t rfl (hF _ _ _ _ _ _ _ _ _ _ (fun f0 f1 f2 a2 a3 a4 a5 a6 a7 => ?_))
    dsimp only
    refine hF _ _ _ _ _ _ _ _ _ _ (fun g0 g1 g2 b2 b3 b4 b5 b6 b7 => ?_)
    dsimp only
    refine br_t rfl (hA _ _ _ _ _ _ _ _ _ _ (fun f0 f1 f2 a2 a3 a4 a5 a6 a7 => ?_))
    dsimp only
    refine hA _ _ _ _ _ _ _ _ _ _ (fun g0 g1 g2 b2 b3 b4 b5 b6 b7 => ?_)
    dsimp only
    refine br_t rfl (hC _ _ _ _ _ _ _ _ _ _ (fun f0 f1 f2 a2 a3 a4 a5 a6 a7 => ?_))
    refine hC _ _ _ _ _ _ _ _ _ _ (fun g0 g1 g2 b2 b3 b4 b5 b6 b7 => ?_)
    exact br_t rfl hp
  | succ k ih => exact fun i hi => pk_le 8 i (fun z => absurd z (by omega)) (fun _ => cd_near_w (cd_near_w (br_t rfl (nm_r (nI_1 i) (ih (i + 1) (by omega))))))
theorem cd_L3 {x4 x5 x7 z0 : Int32} (hG : cd_G M) (hp : post 1) (h7 : x7 = x5) (h4 : x4 = z0) : wL_law_303 post L xs x4 x5 x7 z0 kc ks f0 f1 f2 (cd_J M) a2 a3 a4 a5 a6 a7 g0 g1 g2 (cd_J M) b2 b3 b4 b5 b6 b7 := by
  unfold wL_law_303
  refine br_t h7 (br_t h4 ⟨10, ?_⟩)
  exact br_f (by decide) (cd_near_w (cd_near_w (br_t rfl (nm_r (e' := nI 0) (by decide) (cd_L4 hG hp 8 0 rfl)))))
/-- what the law counts in 'two' -/
def cd_x6 (M : Nat → Nat) (i : Nat) : Nat := if cd_fill M < 2 then 0 else cd_cn2 M i
theorem cd_x6_le (M : Nat → Nat) (i : Nat) : cd_x6 M i ≤ i := by
  unfold cd_x6
  split
  · omega
  · exact cd_cn2_le M i
theorem cd_due0 (h : ¬ cd_neat (cd_J M) = 0) : cd_fill M = 0 := by
  unfold cd_fill
  rw [if_neg h]
theorem cd_due1 (h : cd_neat (cd_J M) = 0) (h1 : 0 < cd_cnt M 49) : cd_fill M = 1 := by
  unfold cd_fill
  rw [if_pos h, if_neg (by omega)]
theorem cd_due (h : cd_neat (cd_J M) = 0) (h1 : cd_cnt M 49 = 0) : (cd_x6 M 49 = 0 → cd_fill M = 3) ∧ (0 < cd_x6 M 49 → cd_fill M = 2) := by
  by_cases e : cd_cn2 M 49 = 0
  · have ef : cd_fill M = 3 := by
      unfold cd_fill
      rw [if_pos h, if_pos h1, if_pos e]
    refine ⟨fun _ => ef, fun z => ?_⟩
    unfold cd_x6 at z
    rw [ef, if_neg (by decide)] at z
    omega
  · have ef : cd_fill M = 2 := by
      unfold cd_fill
      rw [if_pos h, if_pos h1, if_neg e]
    refine ⟨fun z => ?_, fun _ => ef⟩
    unfold cd_x6 at z
    rw [ef, if_neg (by decide)] at z
    exact absurd z e
/-- the join is taken away again -/
theorem cd_L253 {J156 : Int32 → Int32 → Int32 → Int32 → Int32 → Int32 → (Nat → Int32) → (Nat → Int32) → (Nat → Int32) → (Nat → Int32) → (Nat → Int32) → (Nat → Int32) → (Nat → Int32) → Int32 → Int32 → Int32 → (Nat → Int32) → (Nat → Int32) → (Nat → Int32) → (Nat → Int32) → (Nat → Int32) → (Nat → Int32) → (Nat → Int32) → Prop} {x3 x4 x5 x7 x8 z0 z1 : Int32} {v w : Nat} (hG : cd_G M) (hv : v < 7) (hw : w < 7) (hne : v ≠ w) (hb : (M v).testBit w = false)
    (hJ : J156 x5 (z1 + z0) (x8 + 1) f0 f1 f2 (cd_J M) a2 a3 a4 a5 a6 a7 g0 g1 g2 (cd_J M) b2 b3 b4 b5 b6 b7) :
    wL_law_253 post L xs J156 x3 x4 x5 x7 x8 (nI v) (nI w) z0 z1 kc ks f0 f1 f2 (cd_J (cd_T M v w)) a2 a3 a4 a5 a6 a7 g0 g1 g2 (cd_J M) b2 b3 b4 b5 b6 b7 := by
  unfold wL_law_253
  refine nm_e (cd_joinT (cd_GT hG hv hw hne) hw hv (fun e => hne e.symm) (Or.inr ⟨rfl, ?_⟩) ?_)
  · rw [cd_Tb, cd_tx, ← hG.2 v w hv hw, hb]
    simp
  · dsimp only
    rw [cd_TS (M := cd_T M v w) (fun e => hne e.symm), cd_TT hne]
    exact br_f (by decide) (nm_e hJ)
theorem cd_L230 {J156 : Int32 → Int32 → Int32 → Int32 → Int32 → Int32 → (Nat → Int32) → (Nat → Int32) → (Nat → Int32) → (Nat → Int32) → (Nat → Int32) → (Nat → Int32) → (Nat → Int32) → Int32 → Int32 → Int32 → (Nat → Int32) → (Nat → Int32) → (Nat → Int32) → (Nat → Int32) → (Nat → Int32) → (Nat → Int32) → (Nat → Int32) → Prop} {x3 x7 z0 z1 : Int32} {i : Nat} (hG : cd_G M) (hi : i < 49) (hn : cd_nb M i)
    (hJ : J156 (z1 + z0) (nI (cd_x6 M (i + 1))) (nI i + 1) f0 f1 f2 (cd_J M) a2 a3 a4 a5 a6 a7 g0 g1 g2 (cd_J M) b2 b3 b4 b5 b6 b7) :
    wL_law_230 post L xs J156 x3 (cd_fill M) (nI (cd_x6 M i)) x7 (nI i) (nI (i / 7)) (nI (i % 7)) z0 z1 kc ks f0 f1 f2 (cd_J (cd_T M (i / 7) (i % 7))) a2 a3 a4 a5 a6 a7 g0 g1 g2 (cd_J M) b2 b3 b4 b5 b6 b7 := by
  have hv : i / 7 < 7 := by omega
  have hw : i % 7 < 7 := by omega
  have hne : i / 7 ≠ i % 7 := by have := hn.1; omega
  have hG2 := cd_GT hG hv hw hne
  unfold wL_law_230
  refine nm_e ?_
  unfold wL_law_252
  unfold cd_x6 at hJ ⊢
  by_cases h : cd_fill M < 2
  · rw [if_pos h] at hJ
    rw [if_pos h]
    refine br_t h (cd_L253 hG hv hw hne hn.2 ?_)
    exact hJ
  · rw [if_neg h] at hJ
    rw [if_neg h]
    refine br_f h (cd_neatJoins_w hG2 ?_)
    dsimp only
    have hle := cd_cnt_le (cd_T M (i / 7) (i % 7)) 49
    refine pk_le (cd_cnt (cd_T M (i / 7) (i % 7)) 49) 0 (fun z => cd_L253 hG hv hw hne hn.2 ?_) (fun z => cd_L253 hG hv hw hne hn.2 ?_)
    · rw [cd_cn20 (fun t => absurd t.2 (by omega))] at hJ
      rw [Int32.add_zero]
      exact hJ
    · rw [cd_cn21 ⟨hn, z⟩] at hJ
      rw [nI_1]
      exact hJ
theorem cd_L156 (hG : cd_G M) (hp : post 1) : ∀ k i, i + k = 49 → wL_law_156 post L xs (cd_neat (cd_J M)) (cd_fill M) (nI (cd_cnt M 49)) kc ks (k + 1) (nI (cd_cnt M i)) (nI (cd_x6 M i)) (nI i) f0 f1 f2 (cd_J M) a2 a3 a4 a5 a6 a7 g0 g1 g2 (cd_J M) b2 b3 b4 b5 b6 b7 := by
  intro k
  induction k with
  | zero =>
    intro i hi
    obtain rfl : i = 49 := by omega
    have l1 := cd_cnt_le M 49
    have l2 := cd_x6_le M 49
    refine pk_le 49 49 (fun _ => ?_) (fun z => absurd z (by omega))
    by_cases h : cd_neat (cd_J M) = 0
    · refine br_t h (pk_le (cd_cnt M 49) 0 (fun z => ?_) (fun z => cd_L3 hG hp rfl (cd_due1 h z)))
      have d := cd_due h (by omega)
      exact pk_le (cd_x6 M 49) 0 (fun y => cd_L3 hG hp rfl (d.1 (by omega))) (fun y => cd_L3 hG hp rfl (d.2 y))
    · exact br_f h (cd_L3 hG hp rfl (cd_due0 h))
  | succ k ih =>
    intro i hi
    have hv : i / 7 < 7 := by omega
    have hw : i % 7 < 7 := by omega
    have hn := ih (i + 1) (by omega)
    refine pk_le 49 i (fun z => absurd z (by omega)) (fun _ => And.intro (by decide) (nm_r (pk_div (d := 7) (by omega) (by decide) (by decide)) (And.intro (by decide) (nm_r (pk_rem (d := 7) (by omega) (by decide) (by decide)) (cd_near_w ?_)))))
    rw [cd_near_n hv]
    refine pk_le (i % 7) (i / 7) (fun z => nm_r (nI_1 i) ?_) (fun z => ?_)
    · have e : ¬ cd_nb M i := fun t => absurd t.1 (by omega)
      rw [cd_cnt0 (fun t => e t.1), show cd_x6 M (i + 1) = cd_x6 M i by unfold cd_x6; rw [cd_cn20 (fun t => e t.1)]] at hn
      exact hn
    · by_cases h : ((cd_J M (i / 7) >>> (nI (i % 7) &&& 31)) &&& 1) = 0
      · have h' := (cd_bz hG hv hw).mp h
        have hne : i / 7 ≠ i % 7 := by omega
        refine br_t h (cd_joinT hG hv hw hne (Or.inl ⟨rfl, h'⟩) ?_)
        dsimp only
        refine br_f (by decide) (cd_neat_w ?_)
        by_cases g : cd_neat (cd_J (cd_T M (i / 7) (i % 7))) = 0
        · refine br_t g (cd_L230 hG (by omega) ⟨z, h'⟩ ?_)
          rw [cd_cnt0 (fun t => t.2 g)] at hn
          rw [Int32.add_zero, nI_1]
          exact hn
        · refine br_f g (cd_L230 hG (by omega) ⟨z, h'⟩ ?_)
          rw [cd_cnt1 ⟨⟨z, h'⟩, g⟩] at hn
          rw [nI_1, nI_1]
          exact hn
      · have e : ¬ cd_nb M i := fun t => h ((cd_bz hG hv hw).mpr t.2)
        rw [cd_cnt0 (fun t => e t.1), show cd_x6 M (i + 1) = cd_x6 M i by unfold cd_x6; rw [cd_cn20 (fun t => e t.1)]] at hn
        exact br_f h (nm_r (nI_1 i) hn)
/-- one turn of the first loop -/
theorem cd_L92 {J18 : Int32 → Int32 → Int32 → Int32 → (Nat → Int32) → (Nat → Int32) → (Nat → Int32) → (Nat → Int32) → (Nat → Int32) → (Nat → Int32) → (Nat → Int32) → Int32 → Int32 → Int32 → (Nat → Int32) → (Nat → Int32) → (Nat → Int32) → (Nat → Int32) → (Nat → Int32) → (Nat → Int32) → (Nat → Int32) → Prop} {x3 x4 x5 x6 o : Int32} (hG : cd_G M) (ho : ((x4 &&& 3) = 1 ∧ o = 0) ∨ (¬ (x4 &&& 3) = 1 ∧ o = 1))
    (hJ : ∀ M' : Nat → Nat, cd_G M' → J18 (x3 + 3) f0 f1 f2 (cd_J M') a2 a3 a4 a5 a6 a7 g0 g1 g2 (cd_J M') b2 b3 b4 b5 b6 b7) :
    wL_law_92 post L xs J18 x3 x4 x5 x6 o x6 x5 kc ks f0 f1 f2 (cd_J M) a2 a3 a4 a5 a6 a7 g0 g1 g2 (cd_J M) b2 b3 b4 b5 b6 b7 := by
  obtain ⟨r, M', hG', h0, hw⟩ := cd_join_w hG x5 x6 o
  unfold wL_law_92
  refine hw _ _ _ _ _ _ _ _ _ _ ?_
  dsimp only
  by_cases h : r = 0
  · have e := h0 h
    subst e
    exact br_t h (nm_e (hJ _ hG'))
  · refine br_f h ?_
    unfold wL_law_116
    have key : wpX_join (fun r_522 u => match u with | (fm8_branches_523, fm8_largest_524, fm8_fullCount_525, am1161_528, am1162_531, am1163_534, am1164_537, am1165_540, am1166_543, am1167_546) => (((r_522 = 0 → (post 0)) ∧ (¬ r_522 = 0 → (∀ x3_548 : Int32, x3_548 = x3 + 3 → (J18 x3_548 f0 f1 f2 (cd_J M') a2 a3 a4 a5 a6 a7 fm8_branches_523 fm8_largest_524 fm8_fullCount_525 am1161_528 am1162_531 am1163_534 am1164_537 am1165_540 am1166_543 am1167_546)))))) (g0, g1, g2, cd_J M, b2, b3, b4, b5, b6, b7) x5 x6 o := by
      refine hw _ _ _ _ _ _ _ _ _ _ ?_
      dsimp only
      exact br_f h (nm_e (hJ _ hG'))
    rcases ho with ⟨c, rfl⟩ | ⟨c, rfl⟩
    · exact br_t c key
    · exact br_f c key
theorem cd_L74 {J18 : Int32 → Int32 → Int32 → Int32 → (Nat → Int32) → (Nat → Int32) → (Nat → Int32) → (Nat → Int32) → (Nat → Int32) → (Nat → Int32) → (Nat → Int32) → Int32 → Int32 → Int32 → (Nat → Int32) → (Nat → Int32) → (Nat → Int32) → (Nat → Int32) → (Nat → Int32) → (Nat → Int32) → (Nat → Int32) → Prop} {x3 x4 x5 x6 : Int32} (hG : cd_G M)
    (hJ : ∀ M' : Nat → Nat, cd_G M' → J18 (x3 + 3) f0 f1 f2 (cd_J M') a2 a3 a4 a5 a6 a7 g0 g1 g2 (cd_J M') b2 b3 b4 b5 b6 b7) :
    wL_law_74 post L xs J18 x3 x4 x5 x6 kc ks f0 f1 f2 (cd_J M) a2 a3 a4 a5 a6 a7 g0 g1 g2 (cd_J M) b2 b3 b4 b5 b6 b7 := by
  unfold wL_law_74
  exact br_c (fun c => cd_L92 hG (Or.inl ⟨c, rfl⟩) hJ) (fun c => cd_L92 hG (Or.inr ⟨c, rfl⟩) hJ)
theorem cd_L18 (hL : L ≤ 260) (hp : post 1) : ∀ k i (M : Nat → Nat), cd_G M → i ≤ 260 → L ≤ i + k → wL_law_18 post L xs kc ks (k + 1) (nI i) f0 f1 f2 (cd_J M) a2 a3 a4 a5 a6 a7 g0 g1 g2 (cd_J M) b2 b3 b4 b5 b6 b7 := by
  intro k
  induction k with
  | zero =>
    intro i M hG hi hk
    refine pk_le L (i + 2) (fun _ => ?_) (fun z => absurd z (by omega)) rfl (nI_add i 2)
    refine cd_neat_w (cd_fill_w hG ?_)
    dsimp only
    refine cd_neatJoins_w hG ?_
    dsimp only
    refine ⟨50, ?_⟩
    have t := cd_L156 (post := post) (L := L) (xs := xs) (kc := kc) (ks := ks) (f0 := f0) (f1 := f1) (f2 := f2) (a2 := a2) (a3 := a3) (a4 := a4) (a5 := a5) (a6 := a6) (a7 := a7) (g0 := g0) (g1 := g1) (g2 := g2) (b2 := b2) (b3 := b3) (b4 := b4) (b5 := b5) (b6 := b6) (b7 := b7) hG hp 49 0 rfl
    rw [show cd_x6 M 0 = 0 by unfold cd_x6; split <;> rfl] at t
    exact t
  | succ k ih =>
    intro i M hG hi hk
    refine pk_le L (i + 2) (fun _ => ?_) (fun z => ?_) rfl (nI_add i 2)
    · refine cd_neat_w (cd_fill_w hG ?_)
      dsimp only
      refine cd_neatJoins_w hG ?_
      dsimp only
      refine ⟨50, ?_⟩
      have t := cd_L156 (post := post) (L := L) (xs := xs) (kc := kc) (ks := ks) (f0 := f0) (f1 := f1) (f2 := f2) (a2 := a2) (a3 := a3) (a4 := a4) (a5 := a5) (a6 := a6) (a7 := a7) (g0 := g0) (g1 := g1) (g2 := g2) (b2 := b2) (b3 := b3) (b4 := b4) (b5 := b5) (b6 := b6) (b7 := b7) hG hp 49 0 rfl
      rw [show cd_x6 M 0 = 0 by unfold cd_x6; split <;> rfl] at t
      exact t
    · have hJ : ∀ M' : Nat → Nat, cd_G M' → wL_law_18 post L xs kc ks (k + 1) (nI i + 3) f0 f1 f2 (cd_J M') a2 a3 a4 a5 a6 a7 g0 g1 g2 (cd_J M') b2 b3 b4 b5 b6 b7 := by
        intro M' hG'
        rw [show nI i + 3 = nI (i + 3) from nI_add i 3]
        exact ih (i + 3) M' hG' (by omega) (by omega)
      refine And.intro (pk_in i L (by omega)) (nm_e (And.intro (pk_in (i + 1) L (by omega) (nI_1 i)) (nm_e (And.intro (pk_in (i + 2) L (by omega) (nI_add i 2)) (nm_e ?_)))))
      exact br_c (fun _ => cd_L74 hG hJ) (fun _ => And.intro (by decide) (nm_e (And.intro (by decide) (nm_e (cd_L74 hG hJ)))))
end
end
section
theorem i_vc (xs : Nat → Int32) (L : Nat) (hL : L ≤ 260) : wpL_law (fun r => r = 1) L xs := by
  unfold wpL_law
  refine ⟨7, 342, by omega, by omega, ?_⟩
  unfold wpX_init
  dsimp only
  refine ⟨by omega, by omega, by omega, by omega, by omega, by omega, by omega, by omega, by omega, by omega, by omega, by omega, by omega, by omega, by omega, by omega, 7, 342, by omega, by omega, ?_⟩
  refine ⟨by omega, by omega, by omega, by omega, by omega, by omega, by omega, by omega, by omega, by omega, by omega, by omega, by omega, by omega, 261, ?_⟩
  exact cd_L18 (post := fun r => r = 1) hL rfl 260 0 (fun _ => 0) cd_G0 (by omega) (by omega)
end
