section
theorem pk_us {f : Nat → Int32} {k : Nat} {x : Int32} : upd f k x k = x := if_pos rfl
theorem pk_un {f : Nat → Int32} {k j : Nat} {x : Int32} (h : j ≠ k) : upd f k x j = f j := if_neg h
theorem pk_sub {a b : Nat} (h : b ≤ a) : nI a - nI b = nI (a - b) := by
  obtain ⟨c, rfl⟩ : ∃ c, a = c + b := ⟨a - b, by omega⟩
  rw [← nI_add, Int32.add_sub_cancel, Nat.add_sub_cancel]
theorem pk_m1 (n : Nat) : nI (n + 1) + (-1) = nI n := by
  rw [← nI_1, Int32.add_assoc, show (1 : Int32) + (-1) = 0 from rfl, Int32.add_zero]
theorem pk_mul (a b : Nat) : nI a * nI b = nI (a * b) := (Int32.ofNat_mul a b).symm
theorem pk_div {a d : Nat} (ha : a < 2 ^ 31) (h0 : 0 < d) (hd : d < 2 ^ 31) : nI a / nI d = nI (a / d) := by
  apply Int32.toInt_inj.mp
  rw [lg_idiv_nonneg (by rw [nI_toInt ha]; omega) (by rw [nI_toInt hd]; omega), nI_toInt ha, nI_toInt hd, nI_toInt (Nat.lt_of_le_of_lt (Nat.div_le_self a d) ha)]
  first | rfl | exact (Int.natCast_ediv _ _).symm
theorem pk_rem {a d : Nat} (ha : a < 2 ^ 31) (h0 : 0 < d) (hd : d < 2 ^ 31) : nI a - nI a / nI d * nI d = nI (a % d) := by
  rw [pk_div ha h0 hd, pk_mul, pk_sub (Nat.div_mul_le_self a d)]
  exact congrArg nI (by have := Nat.div_add_mod' a d; omega)
theorem pk_ix (x : Int32) {n : Nat} (hn : n < 2 ^ 31) : x < 0 ∨ nI n ≤ x ∨ ∃ j : Nat, j < n ∧ x = nI j := by
  by_cases h : x < 0
  · exact Or.inl h
  · obtain ⟨j, hj, rfl⟩ := nI_of h
    by_cases h2 : j < n
    · exact Or.inr (Or.inr ⟨j, h2, rfl⟩)
    · exact Or.inr (Or.inl (nI_le (by omega) hj))
theorem pk_le {x y : Int32} {A B : Prop} (a b : Nat) (f : a ≤ b → A) (g : b < a → B) (hx : x = nI a := by rfl) (hy : y = nI b := by rfl) (ha : a < 2 ^ 31 := by omega) (hb : b < 2 ^ 31 := by omega) : (x ≤ y → A) ∧ (¬ x ≤ y → B) := by
  subst hx hy
  rw [nI_leI ha hb]
  exact ⟨f, fun z => g (by omega)⟩
theorem pk_lt {x y : Int32} {A B : Prop} (a b : Nat) (f : a < b → A) (g : b ≤ a → B) (hx : x = nI a := by rfl) (hy : y = nI b := by rfl) (ha : a < 2 ^ 31 := by omega) (hb : b < 2 ^ 31 := by omega) : (x < y → A) ∧ (¬ x < y → B) := by
  subst hx hy
  rw [nI_ltI ha hb]
  exact ⟨f, fun z => g (by omega)⟩
theorem pk_eq {x y : Int32} {A B : Prop} (a b : Nat) (f : a = b → A) (g : a ≠ b → B) (hx : x = nI a := by rfl) (hy : y = nI b := by rfl) (ha : a < 2 ^ 31 := by omega) (hb : b < 2 ^ 31 := by omega) : (x = y → A) ∧ (¬ x = y → B) := by
  subst hx hy
  rw [nI_eq ha hb]
  exact ⟨f, g⟩
theorem pk_in {x : Int32} (n N : Nat) (h : n < N) (hx : x = nI n := by rfl) (hN : N < 2 ^ 31 := by omega) : vp_in x N := by
  subst hx
  exact vp_in_nI h hN
theorem pk_cl {x : Int32} (n : Nat) (hx : x = nI n := by rfl) (h : n < 2 ^ 31 := by omega) : x.toNatClampNeg = n := by
  subst hx
  exact nI_clamp h
theorem pk_vb (z : Int32) : vp_nar .byte z.toInt8.toInt32 = z.toInt8.toInt32 := by rw [vp_nar_byte]; simp
theorem pk_least (P : Nat → Prop) (h : ∃ k, P k) : ∃ k, P k ∧ ∀ j, j < k → ¬ P j := by
  obtain ⟨k, hk⟩ := h
  induction k using Nat.strongRecOn with
  | ind k ih =>
    by_cases e : ∃ j, j < k ∧ P j
    · obtain ⟨j, hj, pj⟩ := e
      exact ih j hj pj
    · exact ⟨k, hk, fun j hj pj => e ⟨j, hj, pj⟩⟩
theorem sb_negT {w : Nat} (h : w < 2 ^ 31) : (-nI w).toInt = -(w : Int) := by
  rw [Int32.toInt_neg, nI_toInt h]
  exact Int.bmod_eq_of_le (by omega) (by omega)
theorem sb_nle {a b : Nat} (ha : a < 2 ^ 31) (hb : b < 2 ^ 31) : -nI a ≤ -nI b ↔ b ≤ a := by
  rw [Int32.le_iff_toInt_le, sb_negT ha, sb_negT hb]
  omega
theorem sb_nlt {a b : Nat} (ha : a < 2 ^ 31) (hb : b < 2 ^ 31) : -nI a < -nI b ↔ b < a := by
  rw [Int32.lt_iff_toInt_lt, sb_negT ha, sb_negT hb]
  omega
def bt (x : Int32) (i : Nat) : Bool := x.toBitVec.getLsbD i
theorem b_ext {x y : Int32} (h : ∀ i, i < 32 → bt x i = bt y i) : x = y := Int32.toBitVec_inj.mp (BitVec.eq_of_getLsbD_eq (fun i hi => h i hi))
theorem b_or (x y : Int32) (i : Nat) : bt (x ||| y) i = (bt x i || bt y i) := by unfold bt; rw [Int32.toBitVec_or, BitVec.getLsbD_or]
theorem b_and (x y : Int32) (i : Nat) : bt (x &&& y) i = (bt x i && bt y i) := by unfold bt; rw [Int32.toBitVec_and, BitVec.getLsbD_and]
theorem b_xor (x y : Int32) (i : Nat) : bt (x ^^^ y) i = (bt x i ^^ bt y i) := by unfold bt; rw [Int32.toBitVec_xor, BitVec.getLsbD_xor]
theorem b_big {x : Int32} {i : Nat} (h : 32 ≤ i) : bt x i = false := BitVec.getLsbD_of_ge _ _ h
theorem b_m1 : ∀ i, i < 32 → bt (-1) i = true := by decide +kernel
theorem b_0 (i : Nat) : bt 0 i = false := BitVec.getLsbD_zero
theorem s_l : ∀ n, n < 32 → ((nI n &&& 31).toBitVec.smod 32).toNat = n := by decide +kernel
theorem b_shl (n : Nat) (hn : n < 32) (x : Int32) {i : Nat} (hi : i < 32) : bt (x <<< (nI n &&& 31)) i = (decide (n ≤ i) && bt x (i - n)) := by
  unfold bt
  rw [Int32.toBitVec_shiftLeft]
  show (x.toBitVec <<< ((nI n &&& 31).toBitVec.smod 32).toNat).getLsbD i = _
  rw [s_l n hn, BitVec.getLsbD_shiftLeft]
  rcases Nat.lt_or_ge i n with h | h
  · simp [h, Nat.not_le.mpr h]
  · simp [hi, h, Nat.not_lt.mpr h]
theorem b_sshr (n : Nat) (hn : n < 32) (x : Int32) {i : Nat} (hi : i < 32) : bt (x >>> (nI n &&& 31)) i = if n + i < 32 then bt x (n + i) else bt x 31 := by
  unfold bt
  rw [Int32.toBitVec_shiftRight]
  show (x.toBitVec.sshiftRight ((nI n &&& 31).toBitVec.smod 32).toNat).getLsbD i = _
  rw [s_l n hn, BitVec.getLsbD_sshiftRight, BitVec.msb_eq_getLsbD_last]
  simp [hi]
end
section
/-! the surface as a set F of oriented triangles, closed under rotation -/
def sm_R {α : Type} (a b c x y z : α) : Prop := (x = a ∧ y = b ∧ z = c) ∨ (x = b ∧ y = c ∧ z = a) ∨ (x = c ∧ y = a ∧ z = b)
theorem sm_R0 {α : Type} (a b c : α) : sm_R a b c a b c := Or.inl ⟨rfl, rfl, rfl⟩
theorem sm_R1 {α : Type} (a b c : α) : sm_R a b c b c a := Or.inr (Or.inl ⟨rfl, rfl, rfl⟩)
theorem sm_R2 {α : Type} (a b c : α) : sm_R a b c c a b := Or.inr (Or.inr ⟨rfl, rfl, rfl⟩)
theorem sm_Rs {α : Type} {a b c x y z : α} (h : sm_R a b c x y z) : sm_R x y z a b c := by
  rcases h with ⟨rfl, rfl, rfl⟩ | ⟨rfl, rfl, rfl⟩ | ⟨rfl, rfl, rfl⟩
  · exact sm_R0 _ _ _
  · exact sm_R2 _ _ _
  · exact sm_R1 _ _ _
theorem sm_Rr {α : Type} {a b c x y z : α} (h : sm_R a b c x y z) : sm_R a b c y z x := by
  rcases h with ⟨rfl, rfl, rfl⟩ | ⟨rfl, rfl, rfl⟩ | ⟨rfl, rfl, rfl⟩
  · exact sm_R1 _ _ _
  · exact sm_R2 _ _ _
  · exact sm_R0 _ _ _
theorem sm_Rt {α : Type} {a b c x y z u v w : α} (h : sm_R a b c x y z) (k : sm_R x y z u v w) : sm_R a b c u v w := by
  rcases k with ⟨rfl, rfl, rfl⟩ | ⟨rfl, rfl, rfl⟩ | ⟨rfl, rfl, rfl⟩
  · exact h
  · exact sm_Rr h
  · exact sm_Rr (sm_Rr h)
theorem sm_Rm {α β : Type} (m : α → β) {a b c x y z : α} (h : sm_R a b c x y z) : sm_R (m a) (m b) (m c) (m x) (m y) (m z) := by
  rcases h with ⟨rfl, rfl, rfl⟩ | ⟨rfl, rfl, rfl⟩ | ⟨rfl, rfl, rfl⟩
  · exact sm_R0 _ _ _
  · exact sm_R1 _ _ _
  · exact sm_R2 _ _ _
def sm_del {α : Type} (F : α → α → α → Prop) (a b c : α) : α → α → α → Prop := fun x y z => F x y z ∧ ¬ sm_R a b c x y z
def sm_ins {α : Type} (F : α → α → α → Prop) (a b c : α) : α → α → α → Prop := fun x y z => F x y z ∨ sm_R a b c x y z
def sm_star {α : Type} (F : α → α → α → Prop) : Prop := ∀ (v : α) (S : α → Prop), (∀ x y, F v x y → S x → S y) → ∀ x y x' y', F v x y → F v x' y' → S x → S x'
def sm_conn {α : Type} (F : α → α → α → Prop) : Prop := ∀ S : α → Prop, (∀ x y z, F x y z → S x → S y) → ∀ x y z x' y' z', F x y z → F x' y' z' → S x → S x'
/-- a closed connected surface: rotation, three different corners, one triangle an edge, both sides, no triangle with its reverse, one cycle about each vertex, connected -/
def sm_T {α : Type} (F : α → α → α → Prop) : Prop := (∀ x y z, F x y z → F y z x) ∧ (∀ x y z, F x y z → x ≠ y) ∧ (∀ x y z w, F x y z → F x y w → z = w) ∧ (∀ x y z, F x y z → ∃ w, F y x w) ∧ (∀ x y z, F x y z → ¬ F y x z) ∧ sm_star F ∧ sm_conn F
/-- the triangle abc cut at a new vertex v -/
def sm_sf {α : Type} (F : α → α → α → Prop) (a b c v : α) : α → α → α → Prop := sm_ins (sm_ins (sm_ins (sm_del F a b c) a b v) b c v) c a v
/-- the edge ab of abc, bad turned to cd -/
def sm_fl {α : Type} (F : α → α → α → Prop) (a b c d : α) : α → α → α → Prop := sm_ins (sm_ins (sm_del (sm_del F a b c) b a d) c a d) d b c
/-- the edge ab cut at a new vertex v -/
def sm_se {α : Type} (F : α → α → α → Prop) (a b c d v : α) : α → α → α → Prop := sm_ins (sm_ins (sm_ins (sm_ins (sm_del (sm_del F a b c) b a d) a v c) v b c) b v d) v a d
/-- the edge ab drawn together to a (m b = a, m t = t else) -/
def sm_co {α : Type} (F : α → α → α → Prop) (a b c d : α) (m : α → α) : α → α → α → Prop := fun x y z => ∃ x' y' z', sm_del (sm_del F a b c) b a d x' y' z' ∧ x = m x' ∧ y = m y' ∧ z = m z'
def sm_Vt {α : Type} (F : α → α → α → Prop) (x : α) : Prop := ∃ y z, F x y z
def sm_E {α : Type} (F : α → α → α → Prop) (x y : α) : Prop := ∃ z, F x y z
section
variable {α : Type} {F : α → α → α → Prop} {a b c d v : α}
theorem sm_sf_iff {x y z : α} : sm_sf F a b c v x y z ↔ (F x y z ∧ ¬ sm_R a b c x y z) ∨ sm_R a b v x y z ∨ sm_R b c v x y z ∨ sm_R c a v x y z := by
  simp only [sm_sf, sm_ins, sm_del, or_assoc]
theorem sm_sf_rot (rot : ∀ x y z, F x y z → F y z x) : ∀ x y z, sm_sf F a b c v x y z → sm_sf F a b c v y z x := by
  intro x y z h
  rw [sm_sf_iff] at h ⊢
  rcases h with ⟨h, n⟩ | h | h | h
  · exact Or.inl ⟨rot _ _ _ h, fun k => n (sm_Rr (sm_Rr k))⟩
  · exact Or.inr (Or.inl (sm_Rr h))
  · exact Or.inr (Or.inr (Or.inl (sm_Rr h)))
  · exact Or.inr (Or.inr (Or.inr (sm_Rr h)))
theorem sm_sf_dis (dis : ∀ x y z, F x y z → x ≠ y) (ab : a ≠ b) (bc : b ≠ c) (ca : c ≠ a) (av : a ≠ v) (bv : b ≠ v) (cv : c ≠ v) : ∀ x y z, sm_sf F a b c v x y z → x ≠ y := by
  intro x y z h
  rw [sm_sf_iff] at h
  have := dis x y z
  unfold sm_R at h
  grind
theorem sm_sf_unq (rot : ∀ x y z, F x y z → F y z x) (unq : ∀ x y z w, F x y z → F x y w → z = w) (hv : ∀ x y z, F x y z → x ≠ v) (h : F a b c) (ab : a ≠ b) (bc : b ≠ c) (ca : c ≠ a) (av : a ≠ v) (bv : b ≠ v) (cv : c ≠ v) : ∀ x y z w, sm_sf F a b c v x y z → sm_sf F a b c v x y w → z = w := by
  intro x y z w h1 h2
  rw [sm_sf_iff] at h1 h2
  have h' := rot _ _ _ h
  have h'' := rot _ _ _ h'
  have hv2 : ∀ x y z, F x y z → y ≠ v := fun x y z k => hv _ _ _ (rot _ _ _ k)
  have u1 := unq a b c
  have u2 := unq b c a
  have u3 := unq c a b
  unfold sm_R at h1 h2
  grind
theorem sm_sf_thi (rot : ∀ x y z, F x y z → F y z x) (thi : ∀ x y z, F x y z → ¬ F y x z) (hv : ∀ x y z, F x y z → x ≠ v) (ab : a ≠ b) (bc : b ≠ c) (ca : c ≠ a) (av : a ≠ v) (bv : b ≠ v) (cv : c ≠ v) : ∀ x y z, sm_sf F a b c v x y z → ¬ sm_sf F a b c v y x z := by
  intro x y z h1 h2
  rw [sm_sf_iff] at h1 h2
  have hv2 : ∀ x y z, F x y z → y ≠ v := fun x y z k => hv _ _ _ (rot _ _ _ k)
  have hv3 : ∀ x y z, F x y z → z ≠ v := fun x y z k => hv2 _ _ _ (rot _ _ _ k)
  have t := thi x y z
  unfold sm_R at h1 h2
  grind
theorem sm_sf_clo (rot : ∀ x y z, F x y z → F y z x) (clo : ∀ x y z, F x y z → ∃ w, F y x w) (h : F a b c) (ab : a ≠ b) (bc : b ≠ c) (ca : c ≠ a) : ∀ x y z, sm_sf F a b c v x y z → ∃ w, sm_sf F a b c v y x w := by
  intro x y z h1
  rw [sm_sf_iff] at h1
  have h' := rot _ _ _ h
  have h'' := rot _ _ _ h'
  obtain ⟨p, hp⟩ := clo _ _ _ h
  obtain ⟨q, hq⟩ := clo _ _ _ h'
  obtain ⟨r, hr⟩ := clo _ _ _ h''
  have np : ¬ sm_R a b c b a p := by unfold sm_R; grind
  have nq : ¬ sm_R a b c c b q := by unfold sm_R; grind
  have nr : ¬ sm_R a b c a c r := by unfold sm_R; grind
  rcases h1 with ⟨k, _⟩ | (⟨rfl, rfl, rfl⟩ | ⟨rfl, rfl, rfl⟩ | ⟨rfl, rfl, rfl⟩) | (⟨rfl, rfl, rfl⟩ | ⟨rfl, rfl, rfl⟩ | ⟨rfl, rfl, rfl⟩) | (⟨rfl, rfl, rfl⟩ | ⟨rfl, rfl, rfl⟩ | ⟨rfl, rfl, rfl⟩)
  · obtain ⟨w, hw⟩ := clo _ _ _ k
    by_cases e : sm_R a b c y x w
    · rcases e with ⟨rfl, rfl, rfl⟩ | ⟨rfl, rfl, rfl⟩ | ⟨rfl, rfl, rfl⟩
      · exact ⟨v, sm_sf_iff.mpr (Or.inr (Or.inl (sm_R0 _ _ _)))⟩
      · exact ⟨v, sm_sf_iff.mpr (Or.inr (Or.inr (Or.inl (sm_R0 _ _ _))))⟩
      · exact ⟨v, sm_sf_iff.mpr (Or.inr (Or.inr (Or.inr (sm_R0 _ _ _))))⟩
    · exact ⟨w, sm_sf_iff.mpr (Or.inl ⟨hw, e⟩)⟩
  · exact ⟨p, sm_sf_iff.mpr (Or.inl ⟨hp, np⟩)⟩
  · exact ⟨c, sm_sf_iff.mpr (Or.inr (Or.inr (Or.inl (sm_R2 _ _ _))))⟩
  · exact ⟨c, sm_sf_iff.mpr (Or.inr (Or.inr (Or.inr (sm_R1 _ _ _))))⟩
  · exact ⟨q, sm_sf_iff.mpr (Or.inl ⟨hq, nq⟩)⟩
  · exact ⟨a, sm_sf_iff.mpr (Or.inr (Or.inr (Or.inr (sm_R2 _ _ _))))⟩
  · exact ⟨a, sm_sf_iff.mpr (Or.inr (Or.inl (sm_R1 _ _ _)))⟩
  · exact ⟨r, sm_sf_iff.mpr (Or.inl ⟨hr, nr⟩)⟩
  · exact ⟨b, sm_sf_iff.mpr (Or.inr (Or.inl (sm_R2 _ _ _)))⟩
  · exact ⟨b, sm_sf_iff.mpr (Or.inr (Or.inr (Or.inl (sm_R1 _ _ _))))⟩
theorem sm_sf_star (rot : ∀ x y z, F x y z → F y z x) (clo : ∀ x y z, F x y z → ∃ w, F y x w) (st : sm_star F) (hv : ∀ x y z, F x y z → x ≠ v) (h : F a b c) (av : a ≠ v) (bv : b ≠ v) (cv : c ≠ v) : sm_star (sm_sf F a b c v) := by
  intro w S hS x y x' y' h1 h2 sx
  have h' := rot _ _ _ h
  have h'' := rot _ _ _ h'
  have eab : sm_sf F a b c v a b v := sm_sf_iff.mpr (Or.inr (Or.inl (sm_R0 _ _ _)))
  have ebv : sm_sf F a b c v b v a := sm_sf_iff.mpr (Or.inr (Or.inl (sm_R1 _ _ _)))
  have eva : sm_sf F a b c v v a b := sm_sf_iff.mpr (Or.inr (Or.inl (sm_R2 _ _ _)))
  have ebc : sm_sf F a b c v b c v := sm_sf_iff.mpr (Or.inr (Or.inr (Or.inl (sm_R0 _ _ _))))
  have ecv : sm_sf F a b c v c v b := sm_sf_iff.mpr (Or.inr (Or.inr (Or.inl (sm_R1 _ _ _))))
  have evb : sm_sf F a b c v v b c := sm_sf_iff.mpr (Or.inr (Or.inr (Or.inl (sm_R2 _ _ _))))
  have eca : sm_sf F a b c v c a v := sm_sf_iff.mpr (Or.inr (Or.inr (Or.inr (sm_R0 _ _ _))))
  have eav : sm_sf F a b c v a v c := sm_sf_iff.mpr (Or.inr (Or.inr (Or.inr (sm_R1 _ _ _))))
  have evc : sm_sf F a b c v v c a := sm_sf_iff.mpr (Or.inr (Or.inr (Or.inr (sm_R2 _ _ _))))
  by_cases wv : w = v
  · subst wv
    have n1 : ∀ x y, sm_sf F a b c w w x y → x = a ∨ x = b ∨ x = c := by
      intro x y k
      rw [sm_sf_iff] at k
      have := hv w x y
      unfold sm_R at k
      grind
    have ab := hS a b eva
    have bc := hS b c evb
    have ca := hS c a evc
    rcases n1 x y h1 with rfl | rfl | rfl <;> rcases n1 x' y' h2 with rfl | rfl | rfl <;> grind
  · have cl : ∀ x y, F w x y → S x → S y := by
      intro x y k sx
      by_cases e : sm_R a b c w x y
      · rcases e with ⟨rfl, rfl, rfl⟩ | ⟨rfl, rfl, rfl⟩ | ⟨rfl, rfl, rfl⟩
        · exact hS _ _ eav (hS _ _ eab sx)
        · exact hS _ _ ebv (hS _ _ ebc sx)
        · exact hS _ _ ecv (hS _ _ eca sx)
      · exact hS x y (sm_sf_iff.mpr (Or.inl ⟨k, e⟩)) sx
    have A : ∀ x y, sm_sf F a b c v w x y → S x → ∃ p q, F w p q ∧ S p := by
      intro x y k sx
      have k0 := k
      rw [sm_sf_iff] at k
      rcases k with ⟨k, _⟩ | (⟨rfl, rfl, rfl⟩ | ⟨rfl, rfl, rfl⟩ | ⟨rfl, rfl, rfl⟩) | (⟨rfl, rfl, rfl⟩ | ⟨rfl, rfl, rfl⟩ | ⟨rfl, rfl, rfl⟩) | (⟨rfl, rfl, rfl⟩ | ⟨rfl, rfl, rfl⟩ | ⟨rfl, rfl, rfl⟩)
      · exact ⟨x, y, k, sx⟩
      · exact ⟨_, _, h, sx⟩
      · obtain ⟨q, hq⟩ := clo _ _ _ h
        exact ⟨_, _, hq, hS _ _ k0 sx⟩
      · exact absurd rfl wv
      · exact ⟨_, _, h', sx⟩
      · obtain ⟨q, hq⟩ := clo _ _ _ h'
        exact ⟨_, _, hq, hS _ _ k0 sx⟩
      · exact absurd rfl wv
      · exact ⟨_, _, h'', sx⟩
      · obtain ⟨q, hq⟩ := clo _ _ _ h''
        exact ⟨_, _, hq, hS _ _ k0 sx⟩
      · exact absurd rfl wv
    have B : ∀ x y, sm_sf F a b c v w x y → (∀ p q, F w p q → S p) → S x := by
      intro x y k all
      rw [sm_sf_iff] at k
      rcases k with ⟨k, _⟩ | (⟨rfl, rfl, rfl⟩ | ⟨rfl, rfl, rfl⟩ | ⟨rfl, rfl, rfl⟩) | (⟨rfl, rfl, rfl⟩ | ⟨rfl, rfl, rfl⟩ | ⟨rfl, rfl, rfl⟩) | (⟨rfl, rfl, rfl⟩ | ⟨rfl, rfl, rfl⟩ | ⟨rfl, rfl, rfl⟩)
      · exact all _ _ k
      · exact all _ _ h
      · exact hS _ _ ebc (all _ _ h')
      · exact absurd rfl wv
      · exact all _ _ h'
      · exact hS _ _ eca (all _ _ h'')
      · exact absurd rfl wv
      · exact all _ _ h''
      · exact hS _ _ eab (all _ _ h)
      · exact absurd rfl wv
    obtain ⟨p, q, hpq, sp⟩ := A x y h1 sx
    exact B x' y' h2 (fun p' q' k => st w S cl p q p' q' hpq k sp)
theorem sm_sf_conn (rot : ∀ x y z, F x y z → F y z x) (co : sm_conn F) (h : F a b c) : sm_conn (sm_sf F a b c v) := by
  intro S hS x y z x' y' z' h1 h2 sx
  have h' := rot _ _ _ h
  have h'' := rot _ _ _ h'
  have eab : sm_sf F a b c v a b v := sm_sf_iff.mpr (Or.inr (Or.inl (sm_R0 _ _ _)))
  have eva : sm_sf F a b c v v a b := sm_sf_iff.mpr (Or.inr (Or.inl (sm_R2 _ _ _)))
  have ebc : sm_sf F a b c v b c v := sm_sf_iff.mpr (Or.inr (Or.inr (Or.inl (sm_R0 _ _ _))))
  have eca : sm_sf F a b c v c a v := sm_sf_iff.mpr (Or.inr (Or.inr (Or.inr (sm_R0 _ _ _))))
  have eav : sm_sf F a b c v a v c := sm_sf_iff.mpr (Or.inr (Or.inr (Or.inr (sm_R1 _ _ _))))
  have cl : ∀ x y z, F x y z → S x → S y := by
    intro x y z k sx
    by_cases e : sm_R a b c x y z
    · rcases e with ⟨rfl, rfl, rfl⟩ | ⟨rfl, rfl, rfl⟩ | ⟨rfl, rfl, rfl⟩
      · exact hS _ _ _ eab sx
      · exact hS _ _ _ ebc sx
      · exact hS _ _ _ eca sx
    · exact hS _ _ _ (sm_sf_iff.mpr (Or.inl ⟨k, e⟩)) sx
  have V : ∀ x y z, sm_sf F a b c v x y z → x = v ∨ ∃ q r, F x q r := by
    intro x y z k
    rw [sm_sf_iff] at k
    rcases k with ⟨k, _⟩ | (⟨rfl, rfl, rfl⟩ | ⟨rfl, rfl, rfl⟩ | ⟨rfl, rfl, rfl⟩) | (⟨rfl, rfl, rfl⟩ | ⟨rfl, rfl, rfl⟩ | ⟨rfl, rfl, rfl⟩) | (⟨rfl, rfl, rfl⟩ | ⟨rfl, rfl, rfl⟩ | ⟨rfl, rfl, rfl⟩)
    · exact Or.inr ⟨_, _, k⟩
    · exact Or.inr ⟨_, _, h⟩
    · exact Or.inr ⟨_, _, h'⟩
    · exact Or.inl rfl
    · exact Or.inr ⟨_, _, h'⟩
    · exact Or.inr ⟨_, _, h''⟩
    · exact Or.inl rfl
    · exact Or.inr ⟨_, _, h''⟩
    · exact Or.inr ⟨_, _, h⟩
    · exact Or.inl rfl
  have A : ∃ p q r, F p q r ∧ S p := by
    rcases V x y z h1 with rfl | ⟨q, r, k⟩
    · exact ⟨_, _, _, h, hS _ _ _ eva sx⟩
    · exact ⟨_, _, _, k, sx⟩
  obtain ⟨p, q, r, k, sp⟩ := A
  have all : ∀ p' q' r', F p' q' r' → S p' := fun p' q' r' k' => co S cl _ _ _ _ _ _ k k' sp
  rcases V x' y' z' h2 with rfl | ⟨q, r, k⟩
  · exact hS _ _ _ eav (all _ _ _ h)
  · exact all _ _ _ k
theorem sm_sf_T (t : sm_T F) (h : F a b c) (hv : ∀ x y z, F x y z → x ≠ v) : sm_T (sm_sf F a b c v) := by
  obtain ⟨rot, dis, unq, clo, thi, st, co⟩ := t
  have h' := rot _ _ _ h
  have h'' := rot _ _ _ h'
  have ab := dis _ _ _ h
  have bc := dis _ _ _ h'
  have ca := dis _ _ _ h''
  have av := hv _ _ _ h
  have bv := hv _ _ _ h'
  have cv := hv _ _ _ h''
  exact ⟨sm_sf_rot rot, sm_sf_dis dis ab bc ca av bv cv, sm_sf_unq rot unq hv h ab bc ca av bv cv, sm_sf_clo rot clo h ab bc ca, sm_sf_thi rot thi hv ab bc ca av bv cv, sm_sf_star rot clo st hv h av bv cv, sm_sf_conn rot co h⟩
theorem sm_sf_V (rot : ∀ x y z, F x y z → F y z x) (h : F a b c) (x : α) : sm_Vt (sm_sf F a b c v) x ↔ sm_Vt F x ∨ x = v := by
  have h' := rot _ _ _ h
  have h'' := rot _ _ _ h'
  constructor
  · rintro ⟨y, z, k⟩
    rw [sm_sf_iff] at k
    rcases k with ⟨k, _⟩ | (⟨rfl, rfl, rfl⟩ | ⟨rfl, rfl, rfl⟩ | ⟨rfl, rfl, rfl⟩) | (⟨rfl, rfl, rfl⟩ | ⟨rfl, rfl, rfl⟩ | ⟨rfl, rfl, rfl⟩) | (⟨rfl, rfl, rfl⟩ | ⟨rfl, rfl, rfl⟩ | ⟨rfl, rfl, rfl⟩)
    · exact Or.inl ⟨_, _, k⟩
    · exact Or.inl ⟨_, _, h⟩
    · exact Or.inl ⟨_, _, h'⟩
    · exact Or.inr rfl
    · exact Or.inl ⟨_, _, h'⟩
    · exact Or.inl ⟨_, _, h''⟩
    · exact Or.inr rfl
    · exact Or.inl ⟨_, _, h''⟩
    · exact Or.inl ⟨_, _, h⟩
    · exact Or.inr rfl
  · rintro (⟨y, z, k⟩ | rfl)
    · by_cases e : sm_R a b c x y z
      · rcases e with ⟨rfl, rfl, rfl⟩ | ⟨rfl, rfl, rfl⟩ | ⟨rfl, rfl, rfl⟩
        · exact ⟨_, _, sm_sf_iff.mpr (Or.inr (Or.inl (sm_R0 _ _ _)))⟩
        · exact ⟨_, _, sm_sf_iff.mpr (Or.inr (Or.inr (Or.inl (sm_R0 _ _ _))))⟩
        · exact ⟨_, _, sm_sf_iff.mpr (Or.inr (Or.inr (Or.inr (sm_R0 _ _ _))))⟩
      · exact ⟨_, _, sm_sf_iff.mpr (Or.inl ⟨k, e⟩)⟩
    · exact ⟨_, _, sm_sf_iff.mpr (Or.inr (Or.inl (sm_R2 _ _ _)))⟩
end
end
section
section
variable {α : Type} {F : α → α → α → Prop} {a b c d v : α}
theorem sm_fl_iff {x y z : α} : sm_fl F a b c d x y z ↔ (F x y z ∧ ¬ sm_R a b c x y z ∧ ¬ sm_R b a d x y z) ∨ sm_R c a d x y z ∨ sm_R d b c x y z := by
  simp only [sm_fl, sm_ins, sm_del, or_assoc, and_assoc]
theorem sm_fl_sym {x y z : α} : sm_fl F a b c d x y z ↔ sm_fl F b a d c x y z := by
  rw [sm_fl_iff, sm_fl_iff]
  constructor
  · rintro (⟨h, p, q⟩ | h | h)
    · exact Or.inl ⟨h, q, p⟩
    · exact Or.inr (Or.inr h)
    · exact Or.inr (Or.inl h)
  · rintro (⟨h, p, q⟩ | h | h)
    · exact Or.inl ⟨h, q, p⟩
    · exact Or.inr (Or.inr h)
    · exact Or.inr (Or.inl h)
theorem sm_fl_rot (rot : ∀ x y z, F x y z → F y z x) : ∀ x y z, sm_fl F a b c d x y z → sm_fl F a b c d y z x := by
  intro x y z h
  rw [sm_fl_iff] at h ⊢
  rcases h with ⟨h, n, m⟩ | h | h
  · exact Or.inl ⟨rot _ _ _ h, fun k => n (sm_Rr (sm_Rr k)), fun k => m (sm_Rr (sm_Rr k))⟩
  · exact Or.inr (Or.inl (sm_Rr h))
  · exact Or.inr (Or.inr (sm_Rr h))
theorem sm_fl_dis (dis : ∀ x y z, F x y z → x ≠ y) (bc : b ≠ c) (ca : c ≠ a) (ad : a ≠ d) (db : d ≠ b) (cd : c ≠ d) : ∀ x y z, sm_fl F a b c d x y z → x ≠ y := by
  intro x y z h
  rw [sm_fl_iff] at h
  have := dis x y z
  unfold sm_R at h
  grind
theorem sm_fl_unq (rot : ∀ x y z, F x y z → F y z x) (unq : ∀ x y z w, F x y z → F x y w → z = w) (h : F a b c) (k : F b a d) (ncd : ∀ z, ¬ F c d z) (ndc : ∀ z, ¬ F d c z) (ab : a ≠ b) (bc : b ≠ c) (ca : c ≠ a) (ad : a ≠ d) (db : d ≠ b) (cd : c ≠ d) : ∀ x y z w, sm_fl F a b c d x y z → sm_fl F a b c d x y w → z = w := by
  intro x y z w h1 h2
  rw [sm_fl_iff] at h1 h2
  have u1 : ∀ z, F b c z → z = a := fun z q => unq _ _ _ _ q (rot _ _ _ h)
  have u2 : ∀ z, F c a z → z = b := fun z q => unq _ _ _ _ q (rot _ _ _ (rot _ _ _ h))
  have u3 : ∀ z, F a d z → z = b := fun z q => unq _ _ _ _ q (rot _ _ _ k)
  have u4 : ∀ z, F d b z → z = a := fun z q => unq _ _ _ _ q (rot _ _ _ (rot _ _ _ k))
  have u5 := unq x y z w
  clear rot unq h k
  rcases h1 with ⟨f1, n1, m1⟩ | h1
  · rcases h2 with ⟨f2, n2, m2⟩ | h2
    · exact u5 f1 f2
    · unfold sm_R at n1 m1 h2
      grind (splits := 30)
  · rcases h2 with ⟨f2, n2, m2⟩ | h2
    · unfold sm_R at n2 m2 h1
      grind (splits := 30)
    · unfold sm_R at h1 h2
      grind (splits := 30)
theorem sm_fl_thi (rot : ∀ x y z, F x y z → F y z x) (thi : ∀ x y z, F x y z → ¬ F y x z) (ncd : ∀ z, ¬ F c d z) (ndc : ∀ z, ¬ F d c z) (ab : a ≠ b) (bc : b ≠ c) (ca : c ≠ a) (ad : a ≠ d) (db : d ≠ b) (cd : c ≠ d) : ∀ x y z, sm_fl F a b c d x y z → ¬ sm_fl F a b c d y x z := by
  intro x y z h1 h2
  rw [sm_fl_iff] at h1 h2
  have n1 : ∀ z, ¬ F z c d := fun z q => ncd _ (rot _ _ _ q)
  have n2 : ∀ z, ¬ F z d c := fun z q => ndc _ (rot _ _ _ q)
  have n3 : ∀ z, ¬ F d z c := fun z q => ncd _ (rot _ _ _ (rot _ _ _ q))
  have n4 : ∀ z, ¬ F c z d := fun z q => ndc _ (rot _ _ _ (rot _ _ _ q))
  have t := thi x y z
  unfold sm_R at h1 h2
  grind
theorem sm_fl_clo (rot : ∀ x y z, F x y z → F y z x) (unq : ∀ x y z w, F x y z → F x y w → z = w) (clo : ∀ x y z, F x y z → ∃ w, F y x w) (h : F a b c) (k : F b a d) (ab : a ≠ b) (bc : b ≠ c) (ca : c ≠ a) (ad : a ≠ d) (db : d ≠ b) (cd : c ≠ d) : ∀ x y z, sm_fl F a b c d x y z → ∃ w, sm_fl F a b c d y x w := by
  intro x y z h1
  rw [sm_fl_iff] at h1
  obtain ⟨p, hp⟩ := clo _ _ _ (rot _ _ _ h)
  obtain ⟨q, hq⟩ := clo _ _ _ (rot _ _ _ (rot _ _ _ h))
  obtain ⟨r, hr⟩ := clo _ _ _ (rot _ _ _ k)
  obtain ⟨s, hs⟩ := clo _ _ _ (rot _ _ _ (rot _ _ _ k))
  have np : ¬ sm_R a b c c b p ∧ ¬ sm_R b a d c b p := by unfold sm_R; grind
  have nq : ¬ sm_R a b c a c q ∧ ¬ sm_R b a d a c q := by unfold sm_R; grind
  have nr : ¬ sm_R a b c d a r ∧ ¬ sm_R b a d d a r := by unfold sm_R; grind
  have ns : ¬ sm_R a b c b d s ∧ ¬ sm_R b a d b d s := by unfold sm_R; grind
  rcases h1 with ⟨g, n1, n2⟩ | (⟨rfl, rfl, rfl⟩ | ⟨rfl, rfl, rfl⟩ | ⟨rfl, rfl, rfl⟩) | (⟨rfl, rfl, rfl⟩ | ⟨rfl, rfl, rfl⟩ | ⟨rfl, rfl, rfl⟩)
  · obtain ⟨w, hw⟩ := clo _ _ _ g
    by_cases e : sm_R a b c y x w
    · rcases e with ⟨rfl, rfl, rfl⟩ | ⟨rfl, rfl, rfl⟩ | ⟨rfl, rfl, rfl⟩
      · cases unq _ _ _ _ g k
        exact absurd (sm_R0 _ _ _) n2
      · exact ⟨d, sm_fl_iff.mpr (Or.inr (Or.inr (sm_R1 _ _ _)))⟩
      · exact ⟨d, sm_fl_iff.mpr (Or.inr (Or.inl (sm_R0 _ _ _)))⟩
    · by_cases e2 : sm_R b a d y x w
      · rcases e2 with ⟨rfl, rfl, rfl⟩ | ⟨rfl, rfl, rfl⟩ | ⟨rfl, rfl, rfl⟩
        · cases unq _ _ _ _ g h
          exact absurd (sm_R0 _ _ _) n1
        · exact ⟨c, sm_fl_iff.mpr (Or.inr (Or.inl (sm_R1 _ _ _)))⟩
        · exact ⟨c, sm_fl_iff.mpr (Or.inr (Or.inr (sm_R0 _ _ _)))⟩
      · exact ⟨w, sm_fl_iff.mpr (Or.inl ⟨hw, e, e2⟩)⟩
  · exact ⟨q, sm_fl_iff.mpr (Or.inl ⟨hq, nq⟩)⟩
  · exact ⟨r, sm_fl_iff.mpr (Or.inl ⟨hr, nr⟩)⟩
  · exact ⟨b, sm_fl_iff.mpr (Or.inr (Or.inr (sm_R2 _ _ _)))⟩
  · exact ⟨s, sm_fl_iff.mpr (Or.inl ⟨hs, ns⟩)⟩
  · exact ⟨p, sm_fl_iff.mpr (Or.inl ⟨hp, np⟩)⟩
  · exact ⟨a, sm_fl_iff.mpr (Or.inr (Or.inl (sm_R2 _ _ _)))⟩
/-- the star at a -/
theorem sm_fl_stA (rot : ∀ x y z, F x y z → F y z x) (unq : ∀ x y z w, F x y z → F x y w → z = w) (st : sm_star F) (h : F a b c) (k : F b a d) (ab : a ≠ b) (bc : b ≠ c) (ca : c ≠ a) (ad : a ≠ d) (db : d ≠ b) (S : α → Prop) (hS : ∀ x y, sm_fl F a b c d a x y → S x → S y) : ∀ x y x' y', sm_fl F a b c d a x y → sm_fl F a b c d a x' y' → S x → S x' := by
  intro x y x' y' h1 h2 sx
  have ead : sm_fl F a b c d a d c := sm_fl_iff.mpr (Or.inr (Or.inl (sm_R1 _ _ _)))
  have cl : ∀ x y, F a x y → ((x = b ∧ S d) ∨ (x ≠ b ∧ S x)) → ((y = b ∧ S d) ∨ (y ≠ b ∧ S y)) := by
    intro x y g s
    by_cases yb : y = b
    · subst yb
      have e : x = d := unq _ _ _ _ (rot _ _ _ (rot _ _ _ g)) k
      subst e
      rcases s with ⟨e, _⟩ | ⟨_, s⟩
      · exact absurd e db
      · exact Or.inl ⟨rfl, s⟩
    · refine Or.inr ⟨yb, ?_⟩
      rcases s with ⟨rfl, s⟩ | ⟨n, s⟩
      · have e : y = c := unq _ _ _ _ g h
        subst e
        exact hS _ _ ead s
      · refine hS x y (sm_fl_iff.mpr (Or.inl ⟨g, ?_, ?_⟩)) s
        · unfold sm_R; grind
        · unfold sm_R; grind
  have nb : ∀ x y, sm_fl F a b c d a x y → x ≠ b ∧ ∃ z, F a x z := by
    intro x y g
    rw [sm_fl_iff] at g
    rcases g with ⟨g, n, _⟩ | (⟨e, _, _⟩ | ⟨_, rfl, rfl⟩ | ⟨e, _, _⟩) | (⟨e, _, _⟩ | ⟨e, _, _⟩ | ⟨e, _, _⟩)
    · refine ⟨?_, _, g⟩
      intro e
      subst e
      cases unq _ _ _ _ g h
      exact n (sm_R0 _ _ _)
    · exact absurd e.symm ca
    · exact ⟨db, _, rot _ _ _ k⟩
    · exact absurd e ad
    · exact absurd e ad
    · exact absurd e ab
    · exact absurd e.symm ca
  obtain ⟨n1, z1, g1⟩ := nb _ _ h1
  obtain ⟨n2, z2, g2⟩ := nb _ _ h2
  rcases st a (fun x => (x = b ∧ S d) ∨ (x ≠ b ∧ S x)) cl x z1 x' z2 g1 g2 (Or.inr ⟨n1, sx⟩) with ⟨e, _⟩ | ⟨_, s⟩
  · exact absurd e n2
  · exact s
/-- the star at c -/
theorem sm_fl_stC (rot : ∀ x y z, F x y z → F y z x) (clo : ∀ x y z, F x y z → ∃ w, F y x w) (st : sm_star F) (h : F a b c) (bc : b ≠ c) (ca : c ≠ a) (cd : c ≠ d) (S : α → Prop) (hS : ∀ x y, sm_fl F a b c d c x y → S x → S y) : ∀ x y x' y', sm_fl F a b c d c x y → sm_fl F a b c d c x' y' → S x → S x' := by
  intro x y x' y' h1 h2 sx
  have eca : sm_fl F a b c d c a d := sm_fl_iff.mpr (Or.inr (Or.inl (sm_R0 _ _ _)))
  have ecd : sm_fl F a b c d c d b := sm_fl_iff.mpr (Or.inr (Or.inr (sm_R2 _ _ _)))
  have h'' := rot _ _ _ (rot _ _ _ h)
  obtain ⟨p, hp⟩ := clo _ _ _ (rot _ _ _ h)
  have cl : ∀ x y, F c x y → S x → S y := by
    intro x y g s
    by_cases e : sm_R a b c c x y
    · rcases e with ⟨e, _, _⟩ | ⟨e, _, _⟩ | ⟨_, rfl, rfl⟩
      · exact absurd e ca
      · exact absurd e.symm bc
      · exact hS _ _ ecd (hS _ _ eca s)
    · refine hS x y (sm_fl_iff.mpr (Or.inl ⟨g, e, ?_⟩)) s
      unfold sm_R; grind
  have nb : ∀ x y, sm_fl F a b c d c x y → x = d ∨ ∃ z, F c x z := by
    intro x y g
    rw [sm_fl_iff] at g
    rcases g with ⟨g, _, _⟩ | (⟨_, rfl, _⟩ | ⟨e, _, _⟩ | ⟨e, _, _⟩) | (⟨e, _, _⟩ | ⟨e, _, _⟩ | ⟨_, rfl, _⟩)
    · exact Or.inr ⟨_, g⟩
    · exact Or.inr ⟨_, h''⟩
    · exact absurd e ca
    · exact absurd e cd
    · exact absurd e cd
    · exact absurd e.symm bc
    · exact Or.inl rfl
  have A : ∃ q r, F c q r ∧ S q := by
    rcases nb _ _ h1 with rfl | ⟨z, g⟩
    · exact ⟨_, _, hp, hS _ _ ecd sx⟩
    · exact ⟨_, _, g, sx⟩
  obtain ⟨q, r, g, sq⟩ := A
  rcases nb _ _ h2 with rfl | ⟨z, g2⟩
  · exact hS _ _ eca (st c S cl _ _ _ _ g h'' sq)
  · exact st c S cl _ _ _ _ g g2 sq
theorem sm_fl_star (rot : ∀ x y z, F x y z → F y z x) (unq : ∀ x y z w, F x y z → F x y w → z = w) (clo : ∀ x y z, F x y z → ∃ w, F y x w) (st : sm_star F) (h : F a b c) (k : F b a d) (ab : a ≠ b) (bc : b ≠ c) (ca : c ≠ a) (ad : a ≠ d) (db : d ≠ b) (cd : c ≠ d) : sm_star (sm_fl F a b c d) := by
  intro w S hS x y x' y' h1 h2 sx
  by_cases wa : w = a
  · subst wa
    exact sm_fl_stA rot unq st h k ab bc ca ad db S hS x y x' y' h1 h2 sx
  by_cases wb : w = b
  · subst wb
    rw [sm_fl_sym] at h1 h2
    exact sm_fl_stA rot unq st k h ab.symm ad db bc ca S (fun x y g => hS x y (sm_fl_sym.mpr g)) x y x' y' h1 h2 sx
  by_cases wc : w = c
  · subst wc
    exact sm_fl_stC rot clo st h bc ca cd S hS x y x' y' h1 h2 sx
  by_cases wd : w = d
  · subst wd
    rw [sm_fl_sym] at h1 h2
    exact sm_fl_stC rot clo st k ad db cd.symm S (fun x y g => hS x y (sm_fl_sym.mpr g)) x y x' y' h1 h2 sx
  have eq : ∀ x y, sm_fl F a b c d w x y ↔ F w x y := by
    intro x y
    rw [sm_fl_iff]
    unfold sm_R
    grind
  exact st w S (fun x y g => hS x y ((eq x y).mpr g)) x y x' y' ((eq _ _).mp h1) ((eq _ _).mp h2) sx
theorem sm_fl_V (rot : ∀ x y z, F x y z → F y z x) (h : F a b c) (k : F b a d) (x : α) : sm_Vt (sm_fl F a b c d) x ↔ sm_Vt F x := by
  have h' := rot _ _ _ h
  have h'' := rot _ _ _ h'
  have k' := rot _ _ _ k
  have k'' := rot _ _ _ k'
  constructor
  · rintro ⟨y, z, g⟩
    rw [sm_fl_iff] at g
    rcases g with ⟨g, _, _⟩ | (⟨rfl, rfl, rfl⟩ | ⟨rfl, rfl, rfl⟩ | ⟨rfl, rfl, rfl⟩) | (⟨rfl, rfl, rfl⟩ | ⟨rfl, rfl, rfl⟩ | ⟨rfl, rfl, rfl⟩)
    · exact ⟨_, _, g⟩
    · exact ⟨_, _, h''⟩
    · exact ⟨_, _, h⟩
    · exact ⟨_, _, k''⟩
    · exact ⟨_, _, k''⟩
    · exact ⟨_, _, h'⟩
    · exact ⟨_, _, h''⟩
  · rintro ⟨y, z, g⟩
    by_cases e : sm_R a b c x y z
    · rcases e with ⟨rfl, _, _⟩ | ⟨rfl, _, _⟩ | ⟨rfl, _, _⟩
      · exact ⟨_, _, sm_fl_iff.mpr (Or.inr (Or.inl (sm_R1 _ _ _)))⟩
      · exact ⟨_, _, sm_fl_iff.mpr (Or.inr (Or.inr (sm_R1 _ _ _)))⟩
      · exact ⟨_, _, sm_fl_iff.mpr (Or.inr (Or.inl (sm_R0 _ _ _)))⟩
    · by_cases e2 : sm_R b a d x y z
      · rcases e2 with ⟨rfl, _, _⟩ | ⟨rfl, _, _⟩ | ⟨rfl, _, _⟩
        · exact ⟨_, _, sm_fl_iff.mpr (Or.inr (Or.inr (sm_R1 _ _ _)))⟩
        · exact ⟨_, _, sm_fl_iff.mpr (Or.inr (Or.inl (sm_R1 _ _ _)))⟩
        · exact ⟨_, _, sm_fl_iff.mpr (Or.inr (Or.inr (sm_R0 _ _ _)))⟩
      · exact ⟨_, _, sm_fl_iff.mpr (Or.inl ⟨g, e, e2⟩)⟩
theorem sm_fl_conn (rot : ∀ x y z, F x y z → F y z x) (co : sm_conn F) (h : F a b c) (k : F b a d) : sm_conn (sm_fl F a b c d) := by
  intro S hS x y z x' y' z' h1 h2 sx
  have eca : sm_fl F a b c d c a d := sm_fl_iff.mpr (Or.inr (Or.inl (sm_R0 _ _ _)))
  have ead : sm_fl F a b c d a d c := sm_fl_iff.mpr (Or.inr (Or.inl (sm_R1 _ _ _)))
  have edb : sm_fl F a b c d d b c := sm_fl_iff.mpr (Or.inr (Or.inr (sm_R0 _ _ _)))
  have ebc : sm_fl F a b c d b c d := sm_fl_iff.mpr (Or.inr (Or.inr (sm_R1 _ _ _)))
  have cl : ∀ x y z, F x y z → S x → S y := by
    intro x y z g s
    by_cases e : sm_R a b c x y z
    · rcases e with ⟨rfl, rfl, rfl⟩ | ⟨rfl, rfl, rfl⟩ | ⟨rfl, rfl, rfl⟩
      · exact hS _ _ _ edb (hS _ _ _ ead s)
      · exact hS _ _ _ ebc s
      · exact hS _ _ _ eca s
    · by_cases e2 : sm_R b a d x y z
      · rcases e2 with ⟨rfl, rfl, rfl⟩ | ⟨rfl, rfl, rfl⟩ | ⟨rfl, rfl, rfl⟩
        · exact hS _ _ _ eca (hS _ _ _ ebc s)
        · exact hS _ _ _ ead s
        · exact hS _ _ _ edb s
      · exact hS _ _ _ (sm_fl_iff.mpr (Or.inl ⟨g, e, e2⟩)) s
  obtain ⟨p, q, g1⟩ := (sm_fl_V rot h k x).mp ⟨_, _, h1⟩
  obtain ⟨p', q', g2⟩ := (sm_fl_V rot h k x').mp ⟨_, _, h2⟩
  exact co S cl _ _ _ _ _ _ g1 g2 sx
theorem sm_fl_T (t : sm_T F) (h : F a b c) (k : F b a d) (cd : c ≠ d) (ncd : ∀ z, ¬ F c d z) : sm_T (sm_fl F a b c d) := by
  obtain ⟨rot, dis, unq, clo, thi, st, co⟩ := t
  have h' := rot _ _ _ h
  have h'' := rot _ _ _ h'
  have k' := rot _ _ _ k
  have k'' := rot _ _ _ k'
  have ab := dis _ _ _ h
  have bc := dis _ _ _ h'
  have ca := dis _ _ _ h''
  have ad := dis _ _ _ k'
  have db := dis _ _ _ k''
  have ndc : ∀ z, ¬ F d c z := by
    intro z g
    obtain ⟨w, hw⟩ := clo _ _ _ g
    exact ncd _ hw
  exact ⟨sm_fl_rot rot, sm_fl_dis dis bc ca ad db cd, sm_fl_unq rot unq h k ncd ndc ab bc ca ad db cd, sm_fl_clo rot unq clo h k ab bc ca ad db cd, sm_fl_thi rot thi ncd ndc ab bc ca ad db cd, sm_fl_star rot unq clo st h k ab bc ca ad db cd, sm_fl_conn rot co h k⟩
/-- an edge cut is a face cut and a turn -/
theorem sm_se_eq (rot : ∀ x y z, F x y z → F y z x) (hv : ∀ x y z, F x y z → x ≠ v) (ab : a ≠ b) (bc : b ≠ c) (ca : c ≠ a) (ad : a ≠ d) (db : d ≠ b) (cd : c ≠ d) (av : a ≠ v) (bv : b ≠ v) (cv : c ≠ v) (dv : d ≠ v) (x y z : α) : sm_se F a b c d v x y z ↔ sm_fl (sm_sf F a b c v) a b v d x y z := by
  rw [sm_fl_iff, sm_sf_iff]
  simp only [sm_se, sm_ins, sm_del]
  have f1 := hv x y z
  have f2 : F x y z → y ≠ v := fun g => hv _ _ _ (rot _ _ _ g)
  have f3 : F x y z → z ≠ v := fun g => hv _ _ _ (rot _ _ _ (rot _ _ _ g))
  have r1 : sm_R a v c x y z ↔ sm_R c a v x y z := ⟨fun g => sm_Rt (sm_R1 _ _ _) g, fun g => sm_Rt (sm_R2 _ _ _) g⟩
  have r2 : sm_R v b c x y z ↔ sm_R b c v x y z := ⟨fun g => sm_Rt (sm_R2 _ _ _) g, fun g => sm_Rt (sm_R1 _ _ _) g⟩
  have r3 : sm_R b v d x y z ↔ sm_R d b v x y z := ⟨fun g => sm_Rt (sm_R1 _ _ _) g, fun g => sm_Rt (sm_R2 _ _ _) g⟩
  rw [r1, r2, r3]
  have g1 : F x y z → ¬ sm_R a b v x y z := by unfold sm_R; grind
  have g2 : sm_R b c v x y z → ¬ sm_R a b v x y z ∧ ¬ sm_R b a d x y z := by unfold sm_R; grind
  have g3 : sm_R c a v x y z → ¬ sm_R a b v x y z ∧ ¬ sm_R b a d x y z := by unfold sm_R; grind
  clear f1 f2 f3 r1 r2 r3
  grind
end
end
section
section
variable {α : Type} {F : α → α → α → Prop} {a b c d v : α}
theorem sm_se_T (t : sm_T F) (h : F a b c) (k : F b a d) (hv : ∀ x y z, F x y z → x ≠ v) : sm_T (sm_se F a b c d v) := by
  have t0 := t
  obtain ⟨rot, dis, unq, clo, thi, st, co⟩ := t
  have h' := rot _ _ _ h
  have h'' := rot _ _ _ h'
  have k' := rot _ _ _ k
  have k'' := rot _ _ _ k'
  have ab := dis _ _ _ h
  have bc := dis _ _ _ h'
  have ca := dis _ _ _ h''
  have ad := dis _ _ _ k'
  have db := dis _ _ _ k''
  have av := hv _ _ _ h
  have bv := hv _ _ _ h'
  have cv := hv _ _ _ h''
  have dv := hv _ _ _ k''
  have cd : c ≠ d := by
    intro e
    subst e
    exact thi _ _ _ h k
  have e : sm_se F a b c d v = sm_fl (sm_sf F a b c v) a b v d := by
    funext x y z
    exact propext (sm_se_eq rot hv ab bc ca ad db cd av bv cv dv x y z)
  rw [e]
  refine sm_fl_T (sm_sf_T t0 h hv) ?_ ?_ dv.symm ?_
  · exact sm_sf_iff.mpr (Or.inr (Or.inl (sm_R0 _ _ _)))
  · refine sm_sf_iff.mpr (Or.inl ⟨k, ?_⟩)
    unfold sm_R; grind
  · intro z g
    rw [sm_sf_iff] at g
    have := hv v d z
    unfold sm_R at g
    grind
theorem sm_se_V (t : sm_T F) (h : F a b c) (k : F b a d) (hv : ∀ x y z, F x y z → x ≠ v) (x : α) : sm_Vt (sm_se F a b c d v) x ↔ sm_Vt F x ∨ x = v := by
  obtain ⟨rot, dis, unq, clo, thi, st, co⟩ := t
  have h' := rot _ _ _ h
  have h'' := rot _ _ _ h'
  have k' := rot _ _ _ k
  have k'' := rot _ _ _ k'
  have ab := dis _ _ _ h
  have bc := dis _ _ _ h'
  have ca := dis _ _ _ h''
  have ad := dis _ _ _ k'
  have db := dis _ _ _ k''
  have av := hv _ _ _ h
  have bv := hv _ _ _ h'
  have cv := hv _ _ _ h''
  have dv := hv _ _ _ k''
  have cd : c ≠ d := by
    intro e
    subst e
    exact thi _ _ _ h k
  have e : sm_se F a b c d v = sm_fl (sm_sf F a b c v) a b v d := by
    funext x y z
    exact propext (sm_se_eq rot hv ab bc ca ad db cd av bv cv dv x y z)
  rw [e, sm_fl_V (sm_sf_rot rot) (sm_sf_iff.mpr (Or.inr (Or.inl (sm_R0 _ _ _)))) (sm_sf_iff.mpr (Or.inl ⟨k, by unfold sm_R; grind⟩)), sm_sf_V rot h]
end
section
variable {α : Type} {F : α → α → α → Prop} {a b c d : α} {m : α → α}
/-- what is left when abc and bad are taken out -/
def sm_K {α : Type} (F : α → α → α → Prop) (a b c d : α) : α → α → α → Prop := sm_del (sm_del F a b c) b a d
theorem sm_K_iff {x y z : α} : sm_K F a b c d x y z ↔ F x y z ∧ ¬ sm_R a b c x y z ∧ ¬ sm_R b a d x y z := by
  simp only [sm_K, sm_del, and_assoc]
theorem sm_K_rot (rot : ∀ x y z, F x y z → F y z x) : ∀ x y z, sm_K F a b c d x y z → sm_K F a b c d y z x := by
  intro x y z h
  rw [sm_K_iff] at h ⊢
  exact ⟨rot _ _ _ h.1, fun k => h.2.1 (sm_Rr (sm_Rr k)), fun k => h.2.2 (sm_Rr (sm_Rr k))⟩
/-- the six edges that K has lost -/
theorem sm_K_no (rot : ∀ x y z, F x y z → F y z x) (unq : ∀ x y z w, F x y z → F x y w → z = w) (h : F a b c) (k : F b a d) : (∀ z, ¬ sm_K F a b c d a b z) ∧ (∀ z, ¬ sm_K F a b c d b c z) ∧ (∀ z, ¬ sm_K F a b c d c a z) ∧ (∀ z, ¬ sm_K F a b c d b a z) ∧ (∀ z, ¬ sm_K F a b c d a d z) ∧ (∀ z, ¬ sm_K F a b c d d b z) := by
  have h' := rot _ _ _ h
  have h'' := rot _ _ _ h'
  have k' := rot _ _ _ k
  have k'' := rot _ _ _ k'
  refine ⟨?_, ?_, ?_, ?_, ?_, ?_⟩ <;> intro z g <;> rw [sm_K_iff] at g
  · cases unq _ _ _ _ g.1 h; exact g.2.1 (sm_R0 _ _ _)
  · cases unq _ _ _ _ g.1 h'; exact g.2.1 (sm_R1 _ _ _)
  · cases unq _ _ _ _ g.1 h''; exact g.2.1 (sm_R2 _ _ _)
  · cases unq _ _ _ _ g.1 k; exact g.2.2 (sm_R0 _ _ _)
  · cases unq _ _ _ _ g.1 k'; exact g.2.2 (sm_R1 _ _ _)
  · cases unq _ _ _ _ g.1 k''; exact g.2.2 (sm_R2 _ _ _)
theorem sm_m_eq (mb : m b = a) (mo : ∀ t, t ≠ b → m t = t) {s t : α} (e : m s = m t) : s = t ∨ (s = a ∧ t = b) ∨ (s = b ∧ t = a) := by
  by_cases sb : s = b
  · by_cases tb : t = b
    · exact Or.inl (sb.trans tb.symm)
    · rw [sb, mb, mo t tb] at e
      exact Or.inr (Or.inr ⟨sb, e.symm⟩)
  · by_cases tb : t = b
    · rw [tb, mb, mo s sb] at e
      exact Or.inr (Or.inl ⟨e, tb⟩)
    · rw [mo s sb, mo t tb] at e
      exact Or.inl e
theorem sm_co_inj (rot : ∀ x y z, F x y z → F y z x) (dis : ∀ x y z, F x y z → x ≠ y) (unq : ∀ x y z w, F x y z → F x y w → z = w) (clo : ∀ x y z, F x y z → ∃ w, F y x w) (h : F a b c) (k : F b a d) (com : ∀ y, sm_E F a y → sm_E F b y → y = c ∨ y = d) (mb : m b = a) (mo : ∀ t, t ≠ b → m t = t) {x1 y1 z1 x2 y2 z2 : α} (g1 : sm_K F a b c d x1 y1 z1) (g2 : sm_K F a b c d x2 y2 z2) (ex : m x1 = m x2) (ey : m y1 = m y2) : x1 = x2 ∧ y1 = y2 ∧ z1 = z2 := by
  obtain ⟨nab, nbc, nca, nba, nad, ndb⟩ := sm_K_no rot unq h k
  have f1 := (sm_K_iff.mp g1).1
  have f2 := (sm_K_iff.mp g2).1
  have main : x1 = x2 ∧ y1 = y2 := by
    rcases sm_m_eq mb mo ex with rfl | ⟨rfl, rfl⟩ | ⟨rfl, rfl⟩ <;> rcases sm_m_eq mb mo ey with rfl | ⟨rfl, rfl⟩ | ⟨rfl, rfl⟩
    · exact ⟨rfl, rfl⟩
    · obtain ⟨p, hp⟩ := clo _ _ _ f1
      obtain ⟨q, hq⟩ := clo _ _ _ f2
      rcases com _ ⟨p, hp⟩ ⟨q, hq⟩ with rfl | rfl
      · exact absurd g1 (nca _)
      · exact absurd g2 (ndb _)
    · obtain ⟨p, hp⟩ := clo _ _ _ f1
      obtain ⟨q, hq⟩ := clo _ _ _ f2
      rcases com _ ⟨q, hq⟩ ⟨p, hp⟩ with rfl | rfl
      · exact absurd g2 (nca _)
      · exact absurd g1 (ndb _)
    · rcases com _ ⟨_, f1⟩ ⟨_, f2⟩ with rfl | rfl
      · exact absurd g2 (nbc _)
      · exact absurd g1 (nad _)
    · exact absurd rfl (dis _ _ _ f1)
    · exact absurd g1 (nab _)
    · rcases com _ ⟨_, f2⟩ ⟨_, f1⟩ with rfl | rfl
      · exact absurd g1 (nbc _)
      · exact absurd g2 (nad _)
    · exact absurd g1 (nba _)
    · exact absurd rfl (dis _ _ _ f1)
  obtain ⟨rfl, rfl⟩ := main
  exact ⟨rfl, rfl, unq _ _ _ _ f1 f2⟩
theorem sm_cyc3 (unq : ∀ x y z w, F x y z → F x y w → z = w) (st : sm_star F) {p q r w : α} (e1 : F p q r) (e2 : F p r w) (e3 : F p w q) : ∀ x y, F p x y → x = q ∨ x = r ∨ x = w := by
  intro x y g
  refine st p (fun x => x = q ∨ x = r ∨ x = w) ?_ q r x y e1 g (Or.inl rfl)
  rintro x y g (rfl | rfl | rfl)
  · exact Or.inr (Or.inl (unq _ _ _ _ g e1))
  · exact Or.inr (Or.inr (unq _ _ _ _ g e2))
  · exact Or.inl (unq _ _ _ _ g e3)
/-- a tetrahedron is all of a connected surface -/
theorem sm_tet (rot : ∀ x y z, F x y z → F y z x) (unq : ∀ x y z w, F x y z → F x y w → z = w) (st : sm_star F) (co : sm_conn F) (h : F a b c) (k : F b a d) (g : F a c d) (l : F b d c) : ∀ x y z, F x y z → x = a ∨ x = b ∨ x = c ∨ x = d := by
  have h' := rot _ _ _ h
  have h'' := rot _ _ _ h'
  have k' := rot _ _ _ k
  have k'' := rot _ _ _ k'
  have g' := rot _ _ _ g
  have g'' := rot _ _ _ g'
  have l' := rot _ _ _ l
  have l'' := rot _ _ _ l'
  have sa := sm_cyc3 unq st h g k'
  have sb := sm_cyc3 unq st k l h'
  have sc := sm_cyc3 unq st h'' l'' g'
  have sd := sm_cyc3 unq st k'' g'' l'
  intro x y z e
  refine co (fun x => x = a ∨ x = b ∨ x = c ∨ x = d) ?_ _ _ _ _ _ _ h e (Or.inl rfl)
  rintro x y z e (rfl | rfl | rfl | rfl)
  · rcases sa _ _ e with rfl | rfl | rfl
    · exact Or.inr (Or.inl rfl)
    · exact Or.inr (Or.inr (Or.inl rfl))
    · exact Or.inr (Or.inr (Or.inr rfl))
  · rcases sb _ _ e with rfl | rfl | rfl
    · exact Or.inl rfl
    · exact Or.inr (Or.inr (Or.inr rfl))
    · exact Or.inr (Or.inr (Or.inl rfl))
  · rcases sc _ _ e with rfl | rfl | rfl
    · exact Or.inl rfl
    · exact Or.inr (Or.inl rfl)
    · exact Or.inr (Or.inr (Or.inr rfl))
  · rcases sd _ _ e with rfl | rfl | rfl
    · exact Or.inr (Or.inl rfl)
    · exact Or.inl rfl
    · exact Or.inr (Or.inr (Or.inl rfl))
theorem sm_co_iff {x y z : α} : sm_co F a b c d m x y z ↔ ∃ x' y' z', sm_K F a b c d x' y' z' ∧ x = m x' ∧ y = m y' ∧ z = m z' := Iff.rfl
/-- four edges that stand behind the two triangles -/
theorem sm_K_has (rot : ∀ x y z, F x y z → F y z x) (clo : ∀ x y z, F x y z → ∃ w, F y x w) (h : F a b c) (k : F b a d) (ab : a ≠ b) (bc : b ≠ c) (ca : c ≠ a) (ad : a ≠ d) (db : d ≠ b) (cd : c ≠ d) : (∃ p, sm_K F a b c d c b p) ∧ (∃ p, sm_K F a b c d a c p) ∧ (∃ p, sm_K F a b c d d a p) ∧ (∃ p, sm_K F a b c d b d p) := by
  obtain ⟨p, hp⟩ := clo _ _ _ (rot _ _ _ h)
  obtain ⟨q, hq⟩ := clo _ _ _ (rot _ _ _ (rot _ _ _ h))
  obtain ⟨r, hr⟩ := clo _ _ _ (rot _ _ _ k)
  obtain ⟨s, hs⟩ := clo _ _ _ (rot _ _ _ (rot _ _ _ k))
  refine ⟨⟨p, sm_K_iff.mpr ⟨hp, ?_⟩⟩, ⟨q, sm_K_iff.mpr ⟨hq, ?_⟩⟩, ⟨r, sm_K_iff.mpr ⟨hr, ?_⟩⟩, ⟨s, sm_K_iff.mpr ⟨hs, ?_⟩⟩⟩ <;> unfold sm_R <;> grind
theorem sm_co_clo (clo : ∀ x y z, F x y z → ∃ w, F y x w) (no : (∀ z, ¬ sm_K F a b c d a b z) ∧ (∀ z, ¬ sm_K F a b c d b c z) ∧ (∀ z, ¬ sm_K F a b c d c a z) ∧ (∀ z, ¬ sm_K F a b c d b a z) ∧ (∀ z, ¬ sm_K F a b c d a d z) ∧ (∀ z, ¬ sm_K F a b c d d b z)) (has : (∃ p, sm_K F a b c d c b p) ∧ (∃ p, sm_K F a b c d a c p) ∧ (∃ p, sm_K F a b c d d a p) ∧ (∃ p, sm_K F a b c d b d p)) (mab : m a = m b) : ∀ x y z, sm_co F a b c d m x y z → ∃ w, sm_co F a b c d m y x w := by
  rintro x y z ⟨x1, y1, z1, g, rfl, rfl, rfl⟩
  obtain ⟨nab, nbc, nca, nba, nad, ndb⟩ := no
  obtain ⟨⟨p, hp⟩, ⟨q, hq⟩, ⟨r, hr⟩, ⟨s, hs⟩⟩ := has
  obtain ⟨w, hw⟩ := clo _ _ _ (sm_K_iff.mp g).1
  by_cases e : sm_R a b c y1 x1 w
  · rcases e with ⟨rfl, rfl, rfl⟩ | ⟨rfl, rfl, rfl⟩ | ⟨rfl, rfl, rfl⟩
    · exact absurd g (nba _)
    · exact ⟨_, _, _, _, hq, mab.symm, rfl, rfl⟩
    · exact ⟨_, _, _, _, hp, rfl, mab, rfl⟩
  · by_cases e2 : sm_R b a d y1 x1 w
    · rcases e2 with ⟨rfl, rfl, rfl⟩ | ⟨rfl, rfl, rfl⟩ | ⟨rfl, rfl, rfl⟩
      · exact absurd g (nab _)
      · exact ⟨_, _, _, _, hs, mab, rfl, rfl⟩
      · exact ⟨_, _, _, _, hr, rfl, mab.symm, rfl⟩
    · exact ⟨_, _, _, _, sm_K_iff.mpr ⟨hw, e, e2⟩, rfl, rfl, rfl⟩
theorem sm_co_core (rot : ∀ x y z, F x y z → F y z x) (dis : ∀ x y z, F x y z → x ≠ y) (unq : ∀ x y z w, F x y z → F x y w → z = w) (clo : ∀ x y z, F x y z → ∃ w, F y x w) (st : sm_star F) (co : sm_conn F) (h : F a b c) (k : F b a d) (com : ∀ y, sm_E F a y → sm_E F b y → y = c ∨ y = d) (big : ¬ ∀ x y z, F x y z → x = a ∨ x = b ∨ x = c ∨ x = d) {y z : α} : ¬ (sm_K F a b c d a y z ∧ sm_K F a b c d y b z) ∧ ¬ (sm_K F a b c d b y z ∧ sm_K F a b c d y a z) := by
  obtain ⟨nab, nbc, nca, nba, nad, ndb⟩ := sm_K_no rot unq h k
  have both : F a y z → F b z y → (y = c ∨ y = d) ∧ (z = c ∨ z = d) := by
    intro e f
    obtain ⟨p, hp⟩ := clo _ _ _ (rot _ _ _ (rot _ _ _ f))
    obtain ⟨q, hq⟩ := clo _ _ _ (rot _ _ _ (rot _ _ _ e))
    exact ⟨com _ ⟨_, e⟩ ⟨_, hp⟩, com _ ⟨_, hq⟩ ⟨_, f⟩⟩
  have both2 : F b y z → F a z y → (y = c ∨ y = d) ∧ (z = c ∨ z = d) := by
    intro e f
    obtain ⟨p, hp⟩ := clo _ _ _ (rot _ _ _ (rot _ _ _ f))
    obtain ⟨q, hq⟩ := clo _ _ _ (rot _ _ _ (rot _ _ _ e))
    exact ⟨com _ ⟨_, hp⟩ ⟨_, e⟩, com _ ⟨_, f⟩ ⟨_, hq⟩⟩
  constructor
  · rintro ⟨g1, g2⟩
    have f1 := (sm_K_iff.mp g1).1
    have f2 := rot _ _ _ (sm_K_iff.mp g2).1
    have yz := dis _ _ _ (rot _ _ _ f1)
    obtain ⟨rfl | rfl, rfl | rfl⟩ := both f1 f2
    · exact yz rfl
    · exact big (sm_tet rot unq st co h k f1 f2)
    · exact nad _ g1
    · exact yz rfl
  · rintro ⟨g1, g2⟩
    have f1 := (sm_K_iff.mp g1).1
    have f2 := rot _ _ _ (sm_K_iff.mp g2).1
    have yz := dis _ _ _ (rot _ _ _ f1)
    obtain ⟨rfl | rfl, rfl | rfl⟩ := both2 f1 f2
    · exact yz rfl
    · exact nbc _ g1
    · exact big (sm_tet rot unq st co h k f2 f1)
    · exact yz rfl
theorem sm_co_thi (rot : ∀ x y z, F x y z → F y z x) (dis : ∀ x y z, F x y z → x ≠ y) (unq : ∀ x y z w, F x y z → F x y w → z = w) (clo : ∀ x y z, F x y z → ∃ w, F y x w) (thi : ∀ x y z, F x y z → ¬ F y x z) (st : sm_star F) (co : sm_conn F) (h : F a b c) (k : F b a d) (com : ∀ y, sm_E F a y → sm_E F b y → y = c ∨ y = d) (big : ¬ ∀ x y z, F x y z → x = a ∨ x = b ∨ x = c ∨ x = d) (mb : m b = a) (mo : ∀ t, t ≠ b → m t = t) : ∀ x y z, sm_co F a b c d m x y z → ¬ sm_co F a b c d m y x z := by
  rintro x y z ⟨x1, y1, z1, g1, rfl, rfl, rfl⟩ ⟨y2, x2, z2, g2, ey, ex, ez⟩
  obtain ⟨nab, nbc, nca, nba, nad, ndb⟩ := sm_K_no rot unq h k
  have core : ∀ {y z : α}, ¬ (sm_K F a b c d a y z ∧ sm_K F a b c d y b z) ∧ ¬ (sm_K F a b c d b y z ∧ sm_K F a b c d y a z) := fun {y z} => sm_co_core rot dis unq clo st co h k com big
  have Kr := sm_K_rot (a := a) (b := b) (c := c) (d := d) rot
  have Kd : ∀ x y z, sm_K F a b c d x y z → x ≠ y := fun x y z g => dis _ _ _ (sm_K_iff.mp g).1
  have g1' := Kr _ _ _ g1
  have g1'' := Kr _ _ _ g1'
  have g2' := Kr _ _ _ g2
  have g2'' := Kr _ _ _ g2'
  rcases sm_m_eq mb mo ex with rfl | ⟨rfl, rfl⟩ | ⟨rfl, rfl⟩
  · rcases sm_m_eq mb mo ey with rfl | ⟨rfl, rfl⟩ | ⟨rfl, rfl⟩
    · rcases sm_m_eq mb mo ez with rfl | ⟨rfl, rfl⟩ | ⟨rfl, rfl⟩
      · exact thi _ _ _ (sm_K_iff.mp g1).1 (sm_K_iff.mp g2).1
      · exact core.1 ⟨g1'', g2'⟩
      · exact core.2 ⟨g1'', g2'⟩
    · rcases sm_m_eq mb mo ez with rfl | ⟨rfl, rfl⟩ | ⟨rfl, rfl⟩
      · exact core.1 ⟨g1', g2''⟩
      · exact Kd _ _ _ g1' rfl
      · exact nab _ g1'
    · rcases sm_m_eq mb mo ez with rfl | ⟨rfl, rfl⟩ | ⟨rfl, rfl⟩
      · exact core.2 ⟨g1', g2''⟩
      · exact nba _ g1'
      · exact Kd _ _ _ g1' rfl
  · rcases sm_m_eq mb mo ey with rfl | ⟨rfl, rfl⟩ | ⟨rfl, rfl⟩
    · rcases sm_m_eq mb mo ez with rfl | ⟨rfl, rfl⟩ | ⟨rfl, rfl⟩
      · exact core.1 ⟨g1, g2⟩
      · exact Kd _ _ _ g1'' rfl
      · exact nba _ g1''
    · exact Kd _ _ _ g1 rfl
    · exact nab _ g1
  · rcases sm_m_eq mb mo ey with rfl | ⟨rfl, rfl⟩ | ⟨rfl, rfl⟩
    · rcases sm_m_eq mb mo ez with rfl | ⟨rfl, rfl⟩ | ⟨rfl, rfl⟩
      · exact core.2 ⟨g1, g2⟩
      · exact nab _ g1''
      · exact Kd _ _ _ g1'' rfl
    · exact nba _ g1
    · exact Kd _ _ _ g1 rfl
end
end
section
section
variable {α : Type} {F : α → α → α → Prop} {a b c d : α} {m : α → α}
theorem sm_co_star (rot : ∀ x y z, F x y z → F y z x) (unq : ∀ x y z w, F x y z → F x y w → z = w) (st : sm_star F) (h : F a b c) (k : F b a d) (ab : a ≠ b) (bc : b ≠ c) (ca : c ≠ a) (ad : a ≠ d) (db : d ≠ b) (has : (∃ p, sm_K F a b c d c b p) ∧ (∃ p, sm_K F a b c d a c p) ∧ (∃ p, sm_K F a b c d d a p) ∧ (∃ p, sm_K F a b c d b d p)) (mb : m b = a) (mo : ∀ t, t ≠ b → m t = t) : sm_star (sm_co F a b c d m) := by
  intro w S hS x y x' y' h1 h2 sx
  obtain ⟨nab, nbc, nca, nba, nad, ndb⟩ := sm_K_no rot unq h k
  obtain ⟨⟨p, hp⟩, ⟨q, hq⟩, ⟨r, hr⟩, ⟨s, hs⟩⟩ := has
  have Kr := sm_K_rot (a := a) (b := b) (c := c) (d := d) rot
  have ma : m a = a := mo a ab
  have mc : m c = c := mo c bc.symm
  have md : m d = d := mo d db
  have toF : ∀ {x y z}, sm_K F a b c d x y z → F x y z := fun g => (sm_K_iff.mp g).1
  by_cases wa : w = a
  · subst wa
    have T1 : ∀ x y, sm_K F w b c d w x y → S (m x) → S (m y) := fun x y g => hS _ _ ⟨w, x, y, g, ma.symm, rfl, rfl⟩
    have T2 : ∀ x y, sm_K F w b c d b x y → S (m x) → S (m y) := fun x y g => hS _ _ ⟨b, x, y, g, mb.symm, rfl, rfl⟩
    have casA : ∀ x y, F w x y → sm_K F w b c d w x y ∨ (x = b ∧ y = c) ∨ (x = d ∧ y = b) := by
      intro x y g
      by_cases e : sm_R w b c w x y
      · rcases e with ⟨_, e⟩ | ⟨e, _⟩ | ⟨e, _⟩
        · exact Or.inr (Or.inl e)
        · exact absurd e ab
        · exact absurd e.symm ca
      · by_cases e2 : sm_R b w d w x y
        · rcases e2 with ⟨e, _⟩ | ⟨_, e⟩ | ⟨e, _⟩
          · exact absurd e ab
          · exact Or.inr (Or.inr e)
          · exact absurd e ad
        · exact Or.inl (sm_K_iff.mpr ⟨g, e, e2⟩)
    have casB : ∀ x y, F b x y → sm_K F w b c d b x y ∨ (x = c ∧ y = w) ∨ (x = w ∧ y = d) := by
      intro x y g
      by_cases e : sm_R w b c b x y
      · rcases e with ⟨e, _⟩ | ⟨_, e⟩ | ⟨e, _⟩
        · exact absurd e.symm ab
        · exact Or.inr (Or.inl e)
        · exact absurd e bc
      · by_cases e2 : sm_R b w d b x y
        · rcases e2 with ⟨_, e⟩ | ⟨e, _⟩ | ⟨e, _⟩
          · exact Or.inr (Or.inr e)
          · exact absurd e.symm ab
          · exact absurd e.symm db
        · exact Or.inl (sm_K_iff.mpr ⟨g, e, e2⟩)
    have allB : S d → ∀ x z, F b x z → x = w ∨ S (m x) := by
      intro sd x z g
      refine st b (fun t => t = w ∨ S (m t)) ?_ d s x z (toF hs) g (Or.inr (by rw [md]; exact sd))
      intro x y g e
      rcases casB x y g with g | ⟨rfl, rfl⟩ | ⟨rfl, rfl⟩
      · rcases e with rfl | e
        · exact absurd g (nba _)
        · exact Or.inr (T2 _ _ g e)
      · exact Or.inl rfl
      · exact Or.inr (by rw [md]; exact sd)
    have allA : S c → ∀ x z, F w x z → x = b ∨ S (m x) := by
      intro sc x z g
      refine st w (fun t => t = b ∨ S (m t)) ?_ c q x z (toF hq) g (Or.inr (by rw [mc]; exact sc))
      intro x y g e
      rcases casA x y g with g | ⟨rfl, rfl⟩ | ⟨rfl, rfl⟩
      · rcases e with rfl | e
        · exact absurd g (nab _)
        · exact Or.inr (T1 _ _ g e)
      · exact Or.inr (by rw [mc]; exact sc)
      · exact Or.inl rfl
    have dc : S d → S c := by
      intro sd
      rcases allB sd _ _ (rot _ _ _ h) with e | e
      · exact absurd e ca
      · rw [mc] at e; exact e
    have cd' : S c → S d := by
      intro sc
      rcases allA sc _ _ (rot _ _ _ k) with e | e
      · exact absurd e db
      · rw [md] at e; exact e
    have sc : S c := by
      obtain ⟨x1, y1, z1, g, e1, rfl, _⟩ := h1
      by_cases xb : x1 = b
      · subst xb
        have z := st x1 (fun t => (t = w ∧ S c) ∨ (t ≠ w ∧ S (m t))) ?_ y1 z1 c w (toF g) (rot _ _ _ h) (Or.inr ⟨fun e => nba z1 (e ▸ g), sx⟩)
        · rcases z with ⟨e, _⟩ | ⟨_, e⟩
          · exact absurd e ca
          · rw [mc] at e; exact e
        · intro x y g e
          rcases casB x y g with g | ⟨rfl, rfl⟩ | ⟨rfl, rfl⟩
          · refine Or.inr ⟨?_, ?_⟩
            · intro e
              subst e
              exact nab _ (Kr _ _ _ (Kr _ _ _ g))
            · rcases e with ⟨rfl, _⟩ | ⟨_, e⟩
              · exact absurd g (nba _)
              · exact T2 _ _ g e
          · rcases e with ⟨e, _⟩ | ⟨_, e⟩
            · exact absurd e ca
            · rw [mc] at e; exact Or.inl ⟨rfl, e⟩
          · rcases e with ⟨_, e⟩ | ⟨e, _⟩
            · exact Or.inr ⟨ad.symm, by rw [md]; exact cd' e⟩
            · exact absurd rfl e
      · rw [mo x1 xb] at e1
        subst e1
        have z := st w (fun t => (t = b ∧ S c) ∨ (t ≠ b ∧ S (m t))) ?_ y1 z1 c q (toF g) (toF hq) (Or.inr ⟨fun e => nab z1 (e ▸ g), sx⟩)
        · rcases z with ⟨e, _⟩ | ⟨_, e⟩
          · exact absurd e.symm bc
          · rw [mc] at e; exact e
        · intro x y g e
          rcases casA x y g with g | ⟨rfl, rfl⟩ | ⟨rfl, rfl⟩
          · refine Or.inr ⟨?_, ?_⟩
            · intro e
              subst e
              exact nba _ (Kr _ _ _ (Kr _ _ _ g))
            · rcases e with ⟨rfl, _⟩ | ⟨_, e⟩
              · exact absurd g (nab _)
              · exact T1 _ _ g e
          · rcases e with ⟨_, e⟩ | ⟨e, _⟩
            · exact Or.inr ⟨bc.symm, by rw [mc]; exact e⟩
            · exact absurd rfl e
          · rcases e with ⟨e, _⟩ | ⟨_, e⟩
            · exact absurd e db
            · rw [md] at e; exact Or.inl ⟨rfl, dc e⟩
    obtain ⟨x2, y2, z2, g, e2, rfl, _⟩ := h2
    by_cases xb : x2 = b
    · subst xb
      rcases allB (cd' sc) _ _ (toF g) with rfl | e
      · exact absurd g (nba _)
      · exact e
    · rw [mo x2 xb] at e2
      subst e2
      rcases allA sc _ _ (toF g) with rfl | e
      · exact absurd g (nab _)
      · exact e
  · have pre : ∀ x, w = m x → x = w := by
      intro x e
      by_cases xb : x = b
      · rw [xb, mb] at e; exact absurd e wa
      · rw [mo x xb] at e; exact e.symm
    have cl : ∀ x y, F w x y → S (m x) → S (m y) := by
      intro x y g e
      have wb : w ≠ b := by
        intro wb
        obtain ⟨x1, y1, z1, _, e1, _⟩ := h1
        have := pre x1 e1
        rw [this, wb, mb] at e1
        exact wa (wb.trans e1)
      by_cases r1 : sm_R a b c w x y
      · rcases r1 with ⟨e1, _⟩ | ⟨e1, _⟩ | ⟨_, rfl, rfl⟩
        · exact absurd e1 wa
        · exact absurd e1 wb
        · rw [mb]; rw [ma] at e; exact e
      · by_cases r2 : sm_R b a d w x y
        · rcases r2 with ⟨e1, _⟩ | ⟨e1, _⟩ | ⟨_, rfl, rfl⟩
          · exact absurd e1 wb
          · exact absurd e1 wa
          · rw [ma]; rw [mb] at e; exact e
        · exact hS _ _ ⟨w, x, y, sm_K_iff.mpr ⟨g, r1, r2⟩, (mo w wb).symm, rfl, rfl⟩ e
    obtain ⟨x1, y1, z1, g1, e1, rfl, _⟩ := h1
    obtain ⟨x2, y2, z2, g2, e2, rfl, _⟩ := h2
    cases pre x1 e1
    cases pre x2 e2
    exact st w (fun t => S (m t)) cl _ _ _ _ (toF g1) (toF g2) sx
theorem sm_co_conn (co : sm_conn F) (has : (∃ p, sm_K F a b c d c b p) ∧ (∃ p, sm_K F a b c d a c p) ∧ (∃ p, sm_K F a b c d d a p) ∧ (∃ p, sm_K F a b c d b d p)) (mab : m a = m b) : sm_conn (sm_co F a b c d m) := by
  intro S hS x y z x' y' z' h1 h2 sx
  obtain ⟨⟨p, hp⟩, ⟨q, hq⟩, ⟨r, hr⟩, ⟨s, hs⟩⟩ := has
  have T : ∀ x y z, sm_K F a b c d x y z → S (m x) → S (m y) := fun x y z g => hS _ _ _ ⟨x, y, z, g, rfl, rfl, rfl⟩
  have cl : ∀ x y z, F x y z → S (m x) → S (m y) := by
    intro x y z g e
    by_cases r1 : sm_R a b c x y z
    · rcases r1 with ⟨rfl, rfl, rfl⟩ | ⟨rfl, rfl, rfl⟩ | ⟨rfl, rfl, rfl⟩
      · rw [← mab]; exact e
      · exact T _ _ _ hq (by rw [mab]; exact e)
      · rw [mab]; exact T _ _ _ hp e
    · by_cases r2 : sm_R b a d x y z
      · rcases r2 with ⟨rfl, rfl, rfl⟩ | ⟨rfl, rfl, rfl⟩ | ⟨rfl, rfl, rfl⟩
        · rw [mab]; exact e
        · exact T _ _ _ hs (by rw [← mab]; exact e)
        · rw [← mab]; exact T _ _ _ hr e
      · exact T _ _ _ (sm_K_iff.mpr ⟨g, r1, r2⟩) e
  obtain ⟨x1, y1, z1, g1, rfl, _⟩ := h1
  obtain ⟨x2, y2, z2, g2, rfl, _⟩ := h2
  exact co (fun t => S (m t)) cl _ _ _ _ _ _ (sm_K_iff.mp g1).1 (sm_K_iff.mp g2).1 sx
theorem sm_co_T (t : sm_T F) (h : F a b c) (k : F b a d) (com : ∀ y, sm_E F a y → sm_E F b y → y = c ∨ y = d) (big : ¬ ∀ x y z, F x y z → x = a ∨ x = b ∨ x = c ∨ x = d) (mb : m b = a) (mo : ∀ t, t ≠ b → m t = t) : sm_T (sm_co F a b c d m) := by
  obtain ⟨rot, dis, unq, clo, thi, st, co⟩ := t
  have h' := rot _ _ _ h
  have h'' := rot _ _ _ h'
  have k' := rot _ _ _ k
  have k'' := rot _ _ _ k'
  have ab := dis _ _ _ h
  have bc := dis _ _ _ h'
  have ca := dis _ _ _ h''
  have ad := dis _ _ _ k'
  have db := dis _ _ _ k''
  have cd : c ≠ d := by
    intro e
    subst e
    exact thi _ _ _ h k
  have no := sm_K_no rot unq h k
  have has := sm_K_has rot clo h k ab bc ca ad db cd
  have mab : m a = m b := (mo a ab).trans mb.symm
  refine ⟨?_, ?_, ?_, sm_co_clo clo no has mab, sm_co_thi rot dis unq clo thi st co h k com big mb mo, sm_co_star rot unq st h k ab bc ca ad db has mb mo, sm_co_conn co has mab⟩
  · rintro x y z ⟨x1, y1, z1, g, rfl, rfl, rfl⟩
    exact ⟨_, _, _, sm_K_rot rot _ _ _ g, rfl, rfl, rfl⟩
  · rintro x y z ⟨x1, y1, z1, g, rfl, rfl, rfl⟩ e
    rcases sm_m_eq mb mo e with rfl | ⟨rfl, rfl⟩ | ⟨rfl, rfl⟩
    · exact dis _ _ _ (sm_K_iff.mp g).1 rfl
    · exact no.1 _ g
    · exact no.2.2.2.1 _ g
  · rintro x y z w ⟨x1, y1, z1, g1, rfl, rfl, rfl⟩ ⟨x2, y2, z2, g2, e1, e2, rfl⟩
    obtain ⟨_, _, e⟩ := sm_co_inj rot dis unq clo h k com mb mo g1 g2 e1 e2
    rw [e]
theorem sm_co_V (t : sm_T F) (h : F a b c) (k : F b a d) (mb : m b = a) (mo : ∀ t, t ≠ b → m t = t) (x : α) : sm_Vt (sm_co F a b c d m) x ↔ sm_Vt F x ∧ x ≠ b := by
  obtain ⟨rot, dis, unq, clo, thi, st, co⟩ := t
  have h' := rot _ _ _ h
  have h'' := rot _ _ _ h'
  have k' := rot _ _ _ k
  have k'' := rot _ _ _ k'
  have ab := dis _ _ _ h
  have bc := dis _ _ _ h'
  have ca := dis _ _ _ h''
  have ad := dis _ _ _ k'
  have db := dis _ _ _ k''
  have cd : c ≠ d := by
    intro e
    subst e
    exact thi _ _ _ h k
  obtain ⟨⟨p, hp⟩, ⟨q, hq⟩, ⟨r, hr⟩, ⟨s, hs⟩⟩ := sm_K_has rot clo h k ab bc ca ad db cd
  constructor
  · rintro ⟨y, z, x1, y1, z1, g, rfl, _, _⟩
    by_cases xb : x1 = b
    · rw [xb, mb]
      exact ⟨⟨_, _, h⟩, ab⟩
    · rw [mo x1 xb]
      exact ⟨⟨_, _, (sm_K_iff.mp g).1⟩, xb⟩
  · rintro ⟨⟨y, z, g⟩, n⟩
    by_cases r1 : sm_R a b c x y z
    · rcases r1 with ⟨rfl, _⟩ | ⟨rfl, _⟩ | ⟨rfl, _⟩
      · exact ⟨_, _, _, _, _, hq, (mo _ n).symm, rfl, rfl⟩
      · exact absurd rfl n
      · exact ⟨_, _, _, _, _, hp, (mo _ n).symm, rfl, rfl⟩
    · by_cases r2 : sm_R b a d x y z
      · rcases r2 with ⟨rfl, _⟩ | ⟨rfl, _⟩ | ⟨rfl, _⟩
        · exact absurd rfl n
        · exact ⟨_, _, _, _, _, hq, (mo _ n).symm, rfl, rfl⟩
        · exact ⟨_, _, _, _, _, hr, (mo _ n).symm, rfl, rfl⟩
      · exact ⟨_, _, _, _, _, sm_K_iff.mpr ⟨g, r1, r2⟩, (mo _ n).symm, rfl, rfl⟩
end
end
section
/-! a family of triples that represents F: each triangle once, up to rotation -/
def sm_Rep {α : Type} (I : Nat → Prop) (A B C : Nat → α) (F : α → α → α → Prop) : Prop := (∀ x y z, F x y z ↔ ∃ i, I i ∧ sm_R (A i) (B i) (C i) x y z) ∧ (∀ i j, I i → I j → sm_R (A i) (B i) (C i) (A j) (B j) (C j) → i = j)
section
variable {α : Type} {I I' : Nat → Prop} {A B C A' B' C' : Nat → α} {F : α → α → α → Prop}
theorem sm_rep_re (φ : Nat → Nat) (hI : ∀ j, I' j → I (φ j)) (hT : ∀ j, I' j → A' j = A (φ j) ∧ B' j = B (φ j) ∧ C' j = C (φ j)) (sur : ∀ k, I k → ∃ j, I' j ∧ φ j = k) (inj : ∀ i j, I' i → I' j → φ i = φ j → i = j) (r : sm_Rep I A B C F) : sm_Rep I' A' B' C' F := by
  constructor
  · intro x y z
    rw [r.1]
    constructor
    · rintro ⟨k, hk, e⟩
      obtain ⟨j, hj, rfl⟩ := sur k hk
      obtain ⟨e1, e2, e3⟩ := hT j hj
      exact ⟨j, hj, by rw [e1, e2, e3]; exact e⟩
    · rintro ⟨j, hj, e⟩
      obtain ⟨e1, e2, e3⟩ := hT j hj
      rw [e1, e2, e3] at e
      exact ⟨φ j, hI j hj, e⟩
  · intro i j hi hj e
    obtain ⟨e1, e2, e3⟩ := hT i hi
    obtain ⟨f1, f2, f3⟩ := hT j hj
    rw [e1, e2, e3, f1, f2, f3] at e
    exact inj i j hi hj (r.2 _ _ (hI i hi) (hI j hj) e)
theorem sm_rep_eq (hI : ∀ j, I' j ↔ I j) (hT : ∀ j, I' j → A' j = A j ∧ B' j = B j ∧ C' j = C j) (r : sm_Rep I A B C F) : sm_Rep I' A' B' C' F :=
  sm_rep_re (fun j => j) (fun j h => (hI j).mp h) hT (fun k h => ⟨k, (hI k).mpr h, rfl⟩) (fun _ _ _ _ e => e) r
theorem sm_rep_del {i : Nat} {a b c : α} (r : sm_Rep I A B C F) (hi : I i) (e : sm_R (A i) (B i) (C i) a b c) (hI : ∀ j, I' j ↔ I j ∧ j ≠ i) : sm_Rep I' A B C (sm_del F a b c) := by
  constructor
  · intro x y z
    constructor
    · rintro ⟨f, n⟩
      obtain ⟨j, hj, g⟩ := (r.1 x y z).mp f
      refine ⟨j, (hI j).mpr ⟨hj, ?_⟩, g⟩
      rintro rfl
      exact n (sm_Rt (sm_Rs e) g)
    · rintro ⟨j, hj, g⟩
      obtain ⟨hj, n⟩ := (hI j).mp hj
      refine ⟨(r.1 x y z).mpr ⟨j, hj, g⟩, fun k => n ?_⟩
      exact (r.2 i j hi hj (sm_Rt (sm_Rt e k) (sm_Rs g))).symm
  · intro p q hp hq
    exact r.2 p q ((hI p).mp hp).1 ((hI q).mp hq).1
theorem sm_rep_ins {i : Nat} {a b c : α} (r : sm_Rep I A B C F) (hi : ¬ I i) (nf : ¬ F a b c) (rot : ∀ x y z, F x y z → F y z x) (e : sm_R (A' i) (B' i) (C' i) a b c) (hT : ∀ j, j ≠ i → A' j = A j ∧ B' j = B j ∧ C' j = C j) (hI : ∀ j, I' j ↔ I j ∨ j = i) : sm_Rep I' A' B' C' (sm_ins F a b c) := by
  have nf3 : ∀ x y z, sm_R a b c x y z → ¬ F x y z := by
    rintro x y z (⟨rfl, rfl, rfl⟩ | ⟨rfl, rfl, rfl⟩ | ⟨rfl, rfl, rfl⟩) g
    · exact nf g
    · exact nf (rot _ _ _ (rot _ _ _ g))
    · exact nf (rot _ _ _ g)
  constructor
  · intro x y z
    constructor
    · rintro (f | g)
      · obtain ⟨j, hj, g⟩ := (r.1 x y z).mp f
        have n : j ≠ i := fun e => hi (e ▸ hj)
        obtain ⟨e1, e2, e3⟩ := hT j n
        exact ⟨j, (hI j).mpr (Or.inl hj), by rw [e1, e2, e3]; exact g⟩
      · exact ⟨i, (hI i).mpr (Or.inr rfl), sm_Rt e g⟩
    · rintro ⟨j, hj, g⟩
      by_cases n : j = i
      · subst n
        exact Or.inr (sm_Rt (sm_Rs e) g)
      · obtain ⟨e1, e2, e3⟩ := hT j n
        rw [e1, e2, e3] at g
        rcases (hI j).mp hj with hj | hj
        · exact Or.inl ((r.1 x y z).mpr ⟨j, hj, g⟩)
        · exact absurd hj n
  · intro p q hp hq g
    by_cases np : p = i
    · by_cases nq : q = i
      · exact np.trans nq.symm
      · obtain ⟨e1, e2, e3⟩ := hT q nq
        rcases (hI q).mp hq with hq | hq
        · rw [np, e1, e2, e3] at g
          exact absurd ((r.1 _ _ _).mpr ⟨q, hq, sm_R0 _ _ _⟩) (nf3 _ _ _ (sm_Rt (sm_Rs e) g))
        · exact absurd hq nq
    · obtain ⟨f1, f2, f3⟩ := hT p np
      rcases (hI p).mp hp with hp | hp
      · by_cases nq : q = i
        · rw [nq, f1, f2, f3] at g
          exact absurd ((r.1 _ _ _).mpr ⟨p, hp, sm_Rt g e⟩) nf
        · obtain ⟨e1, e2, e3⟩ := hT q nq
          rcases (hI q).mp hq with hq | hq
          · rw [f1, f2, f3, e1, e2, e3] at g
            exact r.2 p q hp hq g
          · exact absurd hq nq
      · exact absurd hp np
/-- the image under m, where m keeps different triangles different -/
theorem sm_rep_map {m : α → α} (r : sm_Rep I A B C F) (inj : ∀ x y z x' y' z', F x y z → F x' y' z' → m x = m x' → m y = m y' → m z = m z' → x = x' ∧ y = y' ∧ z = z') (rot : ∀ x y z, F x y z → F y z x) (hT : ∀ j, I j → A' j = m (A j) ∧ B' j = m (B j) ∧ C' j = m (C j)) : sm_Rep I A' B' C' (fun x y z => ∃ x' y' z', F x' y' z' ∧ x = m x' ∧ y = m y' ∧ z = m z') := by
  constructor
  · intro x y z
    constructor
    · rintro ⟨x', y', z', f, rfl, rfl, rfl⟩
      obtain ⟨j, hj, g⟩ := (r.1 _ _ _).mp f
      obtain ⟨e1, e2, e3⟩ := hT j hj
      exact ⟨j, hj, by rw [e1, e2, e3]; exact sm_Rm m g⟩
    · rintro ⟨j, hj, g⟩
      obtain ⟨e1, e2, e3⟩ := hT j hj
      rw [e1, e2, e3] at g
      have f := (r.1 (A j) (B j) (C j)).mpr ⟨j, hj, sm_R0 _ _ _⟩
      rcases g with ⟨rfl, rfl, rfl⟩ | ⟨rfl, rfl, rfl⟩ | ⟨rfl, rfl, rfl⟩
      · exact ⟨_, _, _, f, rfl, rfl, rfl⟩
      · exact ⟨_, _, _, rot _ _ _ f, rfl, rfl, rfl⟩
      · exact ⟨_, _, _, rot _ _ _ (rot _ _ _ f), rfl, rfl, rfl⟩
  · intro p q hp hq g
    obtain ⟨e1, e2, e3⟩ := hT p hp
    obtain ⟨f1, f2, f3⟩ := hT q hq
    rw [e1, e2, e3, f1, f2, f3] at g
    have fp := (r.1 (A p) (B p) (C p)).mpr ⟨p, hp, sm_R0 _ _ _⟩
    have fq := (r.1 (A q) (B q) (C q)).mpr ⟨q, hq, sm_R0 _ _ _⟩
    refine r.2 p q hp hq ?_
    rcases g with ⟨g1, g2, g3⟩ | ⟨g1, g2, g3⟩ | ⟨g1, g2, g3⟩
    · obtain ⟨k1, k2, k3⟩ := inj _ _ _ _ _ _ fq fp g1 g2 g3
      exact Or.inl ⟨k1, k2, k3⟩
    · obtain ⟨k1, k2, k3⟩ := inj _ _ _ _ _ _ fq (rot _ _ _ fp) g1 g2 g3
      exact Or.inr (Or.inl ⟨k1, k2, k3⟩)
    · obtain ⟨k1, k2, k3⟩ := inj _ _ _ _ _ _ fq (rot _ _ _ (rot _ _ _ fp)) g1 g2 g3
      exact Or.inr (Or.inr ⟨k1, k2, k3⟩)
/-- Y's takeOut: the last triple moves to the place of the one taken out -/
theorem sm_rep_take {n i : Nat} {a b c : α} (r : sm_Rep (fun j => j < n + 1) A B C F) (hi : i < n + 1) (e : sm_R (A i) (B i) (C i) a b c) (hT : ∀ j, A' j = (if j = i then A n else A j) ∧ B' j = (if j = i then B n else B j) ∧ C' j = (if j = i then C n else C j)) : sm_Rep (fun j => j < n) A' B' C' (sm_del F a b c) := by
  have r2 := sm_rep_del (I' := fun j => j < n + 1 ∧ j ≠ i) r hi e (fun j => Iff.rfl)
  refine sm_rep_re (fun j => if j = i then n else j) ?_ ?_ ?_ ?_ r2
  · intro j hj
    show (if j = i then n else j) < n + 1 ∧ (if j = i then n else j) ≠ i
    have hj : j < n := hj
    by_cases h : j = i
    · rw [if_pos h]; omega
    · rw [if_neg h]; omega
  · intro j hj
    obtain ⟨e1, e2, e3⟩ := hT j
    rw [e1, e2, e3]
    by_cases h : j = i
    · simp only [if_pos h]; exact ⟨trivial, trivial, trivial⟩
    · simp only [if_neg h]; exact ⟨trivial, trivial, trivial⟩
  · rintro k ⟨h1, h2⟩
    by_cases h : k = n
    · exact ⟨i, by show i < n; omega, by show (if i = i then n else i) = k; rw [if_pos rfl, h]⟩
    · exact ⟨k, by show k < n; omega, by show (if k = i then n else k) = k; rw [if_neg h2]⟩
  · intro p q hp hq
    show (if p = i then n else p) = (if q = i then n else q) → p = q
    have hp : p < n := hp
    have hq : q < n := hq
    intro e
    by_cases h1 : p = i
    · by_cases h2 : q = i
      · exact h1.trans h2.symm
      · rw [if_pos h1, if_neg h2] at e; omega
    · by_cases h2 : q = i
      · rw [if_neg h1, if_pos h2] at e; omega
      · rw [if_neg h1, if_neg h2] at e; exact e
end
/-! arrows: h = 3 * face + corner -/
def sm_nx (h : Nat) : Nat := if h % 3 = 2 then h - 2 else h + 1
def sm_bf (h : Nat) : Nat := if h % 3 = 0 then h + 2 else h - 1
theorem sm_nx_d (h : Nat) : sm_nx h / 3 = h / 3 := by unfold sm_nx; split <;> omega
theorem sm_bf_d (h : Nat) : sm_bf h / 3 = h / 3 := by unfold sm_bf; split <;> omega
theorem sm_nx_lt {h : Nat} (k : h < 48) : sm_nx h < 48 := by unfold sm_nx; split <;> omega
theorem sm_bf_lt {h : Nat} (k : h < 48) : sm_bf h < 48 := by unfold sm_bf; split <;> omega
theorem sm_nx_nx (h : Nat) : sm_nx (sm_nx h) = sm_bf h := by unfold sm_nx sm_bf; split <;> split <;> split <;> omega
theorem sm_nx_bf (h : Nat) : sm_nx (sm_bf h) = h := by unfold sm_nx sm_bf; split <;> split <;> omega
theorem sm_bf_nx (h : Nat) : sm_bf (sm_nx h) = h := by unfold sm_nx sm_bf; split <;> split <;> omega
theorem sm_bf_bf (h : Nat) : sm_bf (sm_bf h) = sm_nx h := by unfold sm_nx sm_bf; split <;> split <;> split <;> omega
theorem sm_same {g h : Nat} (e : g / 3 = h / 3) : g = h ∨ g = sm_nx h ∨ g = sm_bf h := by unfold sm_nx sm_bf; split <;> split <;> omega
theorem sm_nx0 (f : Nat) : sm_nx (3 * f) = 3 * f + 1 ∧ sm_nx (3 * f + 1) = 3 * f + 2 ∧ sm_nx (3 * f + 2) = 3 * f := by unfold sm_nx; refine ⟨?_, ?_, ?_⟩ <;> split <;> omega
theorem sm_bf0 (f : Nat) : sm_bf (3 * f) = 3 * f + 2 ∧ sm_bf (3 * f + 1) = 3 * f ∧ sm_bf (3 * f + 2) = 3 * f + 1 := by unfold sm_bf; refine ⟨?_, ?_, ?_⟩ <;> split <;> omega
theorem sm_c3 (h : Nat) : h = 3 * (h / 3) ∨ h = 3 * (h / 3) + 1 ∨ h = 3 * (h / 3) + 2 := by omega
def sm_RX (I : Nat → Prop) (fr : Nat → Int32) (F : Int32 → Int32 → Int32 → Prop) : Prop := sm_Rep I (fun i => fr (3 * i)) (fun i => fr (3 * i + 1)) (fun i => fr (3 * i + 2)) F
theorem sm_ar (fr : Nat → Int32) (h : Nat) : sm_R (fr (3 * (h / 3))) (fr (3 * (h / 3) + 1)) (fr (3 * (h / 3) + 2)) (fr h) (fr (sm_nx h)) (fr (sm_bf h)) := by
  obtain ⟨n0, n1, n2⟩ := sm_nx0 (h / 3)
  obtain ⟨b0, b1, b2⟩ := sm_bf0 (h / 3)
  rcases sm_c3 h with e | e | e
  · have en : sm_nx h = 3 * (h / 3) + 1 := (congrArg sm_nx e).trans n0
    have eb : sm_bf h = 3 * (h / 3) + 2 := (congrArg sm_bf e).trans b0
    rw [en, eb]
    exact Or.inl ⟨congrArg fr e, rfl, rfl⟩
  · have en : sm_nx h = 3 * (h / 3) + 2 := (congrArg sm_nx e).trans n1
    have eb : sm_bf h = 3 * (h / 3) := (congrArg sm_bf e).trans b1
    rw [en, eb]
    exact Or.inr (Or.inl ⟨congrArg fr e, rfl, rfl⟩)
  · have en : sm_nx h = 3 * (h / 3) := (congrArg sm_nx e).trans n2
    have eb : sm_bf h = 3 * (h / 3) + 1 := (congrArg sm_bf e).trans b2
    rw [en, eb]
    exact Or.inr (Or.inr ⟨congrArg fr e, rfl, rfl⟩)
section
variable {I : Nat → Prop} {fr : Nat → Int32} {F : Int32 → Int32 → Int32 → Prop}
theorem sm_RX_F (r : sm_RX I fr F) {h : Nat} (hI : I (h / 3)) : F (fr h) (fr (sm_nx h)) (fr (sm_bf h)) := (r.1 _ _ _).mpr ⟨h / 3, hI, sm_ar fr h⟩
theorem sm_RX_h (r : sm_RX I fr F) {x y z : Int32} (f : F x y z) : ∃ h, I (h / 3) ∧ fr h = x ∧ fr (sm_nx h) = y ∧ fr (sm_bf h) = z := by
  obtain ⟨i, hi, g⟩ := (r.1 _ _ _).mp f
  obtain ⟨n0, n1, n2⟩ := sm_nx0 i
  obtain ⟨b0, b1, b2⟩ := sm_bf0 i
  rcases g with ⟨rfl, rfl, rfl⟩ | ⟨rfl, rfl, rfl⟩ | ⟨rfl, rfl, rfl⟩
  · exact ⟨3 * i, by rw [show 3 * i / 3 = i from by omega]; exact hi, rfl, by rw [n0], by rw [b0]⟩
  · exact ⟨3 * i + 1, by rw [show (3 * i + 1) / 3 = i from by omega]; exact hi, rfl, by rw [n1], by rw [b1]⟩
  · exact ⟨3 * i + 2, by rw [show (3 * i + 2) / 3 = i from by omega]; exact hi, rfl, by rw [n2], by rw [b2]⟩
theorem sm_RX_u (t : sm_T F) (r : sm_RX I fr F) {h g : Nat} (hh : I (h / 3)) (hg : I (g / 3)) (e : fr h = fr g) (e2 : fr (sm_nx h) = fr (sm_nx g)) : h = g := by
  obtain ⟨rot, dis, unq, _⟩ := t
  have f1 := sm_RX_F r hh
  have f2 := sm_RX_F r hg
  have e3 : fr (sm_bf h) = fr (sm_bf g) := by
    rw [← e, ← e2] at f2
    exact unq _ _ _ _ f1 f2
  have a1 := sm_ar fr h
  have a2 := sm_ar fr g
  rw [← e, ← e2, ← e3] at a2
  have q := r.2 _ _ hh hg (sm_Rt a1 (sm_Rs a2))
  rcases sm_same q with k | k | k
  · exact k
  · have := dis _ _ _ f2
    rw [← k] at this
    exact absurd e.symm this
  · have := dis _ _ _ (rot _ _ _ (rot _ _ _ f2))
    rw [← k] at this
    exact absurd e this
/-- the arrow against h carries h's labels turned round -/
def sm_OK (I : Nat → Prop) (fr ag : Nat → Int32) (h : Nat) : Prop := ∃ g, ag h = nI g ∧ g < 48 ∧ I (g / 3) ∧ fr g = fr (sm_nx h) ∧ fr (sm_nx g) = fr h
theorem sm_lk {ag : Nat → Int32} {h g x : Nat} (hh : h < 48) (ih : I (h / 3)) (hg : g < 48) (ig : I (g / 3)) (e1 : fr h = fr (sm_nx g)) (e2 : fr (sm_nx h) = fr g) (ok : sm_OK I fr ag x ∨ x = h ∨ x = g) : sm_OK I fr (upd (upd ag h (nI g)) g (nI h)) x := by
  by_cases xg : x = g
  · subst xg
    exact ⟨h, pk_us, hh, ih, e1, e2⟩
  · by_cases xh : x = h
    · subst xh
      exact ⟨g, by rw [pk_un xg, pk_us], hg, ig, e2.symm, e1.symm⟩
    · rcases ok with ⟨q, eq, k⟩ | e | e
      · exact ⟨q, by rw [pk_un xg, pk_un xh]; exact eq, k⟩
      · exact absurd e xh
      · exact absurd e xg
end
end
section
/-! masks and counts -/
def sm_Mk (s : Int32) (P : Nat → Prop) : Prop := ∀ i, i < 32 → (bt s i = true ↔ P i)
theorem sm_Mk_ext {s t : Int32} {P : Nat → Prop} (h : sm_Mk s P) (k : sm_Mk t P) : s = t := by
  apply b_ext
  intro i hi
  have e := (h i hi).trans (k i hi).symm
  cases hs : bt s i <;> cases ht : bt t i <;> simp_all
theorem sm_Mk_eq {s : Int32} {P Q : Nat → Prop} (h : sm_Mk s P) (e : ∀ i, i < 32 → (P i ↔ Q i)) : sm_Mk s Q := fun i hi => (h i hi).trans (e i hi)
theorem sm_b1 : ∀ j, j < 32 → bt 1 j = decide (j = 0) := by decide +kernel
theorem sm_bit (s : Int32) {i : Nat} (hi : i < 32) : ((s >>> (nI i &&& 31)) &&& 1) = if bt s i = true then 1 else 0 := by
  apply b_ext
  intro j hj
  rw [b_and, b_sshr i hi s hj, sm_b1 j hj]
  by_cases h0 : j = 0
  · subst h0
    simp only [Nat.add_zero, if_pos hi, decide_true, Bool.and_true]
    cases bt s i
    · rw [if_neg (by decide), b_0]
    · rw [if_pos rfl, sm_b1 0 (by omega)]; rfl
  · simp only [h0, decide_false, Bool.and_false]
    cases bt s i
    · rw [if_neg (by decide), b_0]
    · rw [if_pos rfl, sm_b1 j hj, decide_eq_false h0]
theorem sm_bit0 (s : Int32) {i : Nat} (hi : i < 32) : ((s >>> (nI i &&& 31)) &&& 1) = 0 ↔ bt s i = false := by
  rw [sm_bit s hi]
  cases bt s i <;> simp
theorem sm_bit1 (s : Int32) {i : Nat} (hi : i < 32) : ((s >>> (nI i &&& 31)) &&& 1) = 1 ↔ bt s i = true := by
  rw [sm_bit s hi]
  cases bt s i <;> simp
theorem sm_sh {k i : Nat} (hk : k < 32) (hi : i < 32) : bt ((1 : Int32) <<< (nI k &&& 31)) i = decide (i = k) := by
  rw [b_shl k hk 1 hi]
  by_cases h : k ≤ i
  · rw [decide_eq_true h, sm_b1 (i - k) (by omega), Bool.true_and]
    by_cases e : i = k
    · rw [decide_eq_true e, decide_eq_true (by omega)]
    · rw [decide_eq_false e, decide_eq_false (by omega)]
  · rw [decide_eq_false h, Bool.false_and, decide_eq_false (by omega)]
theorem sm_or (s : Int32) {k i : Nat} (hk : k < 32) (hi : i < 32) : bt (s ||| ((1 : Int32) <<< (nI k &&& 31))) i = (bt s i || decide (i = k)) := by
  rw [b_or, sm_sh hk hi]
theorem sm_clr (s : Int32) {k i : Nat} (hk : k < 32) (hi : i < 32) : bt (s &&& (((1 : Int32) <<< (nI k &&& 31)) ^^^ (-1))) i = (bt s i && !decide (i = k)) := by
  rw [b_and, b_xor, sm_sh hk hi, b_m1 i hi]
  cases bt s i <;> cases decide (i = k) <;> rfl
theorem sm_clr2 (s : Int32) {k l i : Nat} (hk : k < 32) (hl : l < 32) (hi : i < 32) : bt (s &&& ((((1 : Int32) <<< (nI k &&& 31)) ||| ((1 : Int32) <<< (nI l &&& 31))) ^^^ (-1))) i = (bt s i && !decide (i = k) && !decide (i = l)) := by
  rw [b_and, b_xor, b_or, sm_sh hk hi, sm_sh hl hi, b_m1 i hi]
  cases bt s i <;> cases decide (i = k) <;> cases decide (i = l) <;> rfl
theorem sm_Mk_0 : sm_Mk 0 (fun _ => False) := fun i _ => by rw [b_0]; simp
theorem sm_Mk_or {s : Int32} {P : Nat → Prop} (h : sm_Mk s P) {k : Nat} (hk : k < 32) : sm_Mk (s ||| ((1 : Int32) <<< (nI k &&& 31))) (fun i => P i ∨ i = k) := by
  intro i hi
  rw [sm_or s hk hi, Bool.or_eq_true, decide_eq_true_eq, h i hi]
theorem sm_Mk_clr {s : Int32} {P : Nat → Prop} (h : sm_Mk s P) {k : Nat} (hk : k < 32) : sm_Mk (s &&& (((1 : Int32) <<< (nI k &&& 31)) ^^^ (-1))) (fun i => P i ∧ i ≠ k) := by
  intro i hi
  rw [sm_clr s hk hi, Bool.and_eq_true, h i hi]
  simp
theorem sm_Mk_and {s t : Int32} {P Q : Nat → Prop} (h : sm_Mk s P) (k : sm_Mk t Q) : sm_Mk (s &&& t) (fun i => P i ∧ Q i) := by
  intro i hi
  rw [b_and, Bool.and_eq_true, h i hi, k i hi]
theorem sm_Mk_un {s t : Int32} {P Q : Nat → Prop} (h : sm_Mk s P) (k : sm_Mk t Q) : sm_Mk (s ||| t) (fun i => P i ∨ Q i) := by
  intro i hi
  rw [b_or, Bool.or_eq_true, h i hi, k i hi]
/-- every set below n has its mask -/
theorem sm_Mk_ex (P : Nat → Prop) : ∀ n, n ≤ 32 → ∃ s, sm_Mk s (fun i => i < n ∧ P i) := by
  intro n
  induction n with
  | zero => exact fun _ => ⟨0, sm_Mk_eq sm_Mk_0 (fun i _ => ⟨fun h => h.elim, fun h => absurd h.1 (by omega)⟩)⟩
  | succ n ih =>
    intro hn
    obtain ⟨s, hs⟩ := ih (by omega)
    by_cases p : P n
    · refine ⟨_, sm_Mk_eq (sm_Mk_or hs (k := n) (by omega)) (fun i _ => ⟨?_, ?_⟩)⟩
      · rintro (⟨h, q⟩ | rfl)
        · exact ⟨by omega, q⟩
        · exact ⟨by omega, p⟩
      · rintro ⟨h, q⟩
        by_cases e : i = n
        · exact Or.inr e
        · exact Or.inl ⟨by omega, q⟩
    · refine ⟨s, sm_Mk_eq hs (fun i _ => ⟨fun h => ⟨by omega, h.2⟩, fun h => ⟨?_, h.2⟩⟩)⟩
      by_cases e : i = n
      · exact absurd (e ▸ h.2) p
      · omega
/-! counts -/
def sm_cnt (p : Nat → Bool) : Nat → Nat
  | 0 => 0
  | n + 1 => sm_cnt p n + (if p n = true then 1 else 0)
theorem sm_cnt_le (p : Nat → Bool) (n : Nat) : sm_cnt p n ≤ n := by
  induction n with
  | zero => exact Nat.le_refl 0
  | succ n ih => unfold sm_cnt; split <;> omega
theorem sm_cnt_eq {p q : Nat → Bool} {n : Nat} (h : ∀ i, i < n → p i = q i) : sm_cnt p n = sm_cnt q n := by
  induction n with
  | zero => rfl
  | succ n ih => unfold sm_cnt; rw [ih (fun i hi => h i (by omega)), h n (by omega)]
theorem sm_cnt_mono {p q : Nat → Bool} {n : Nat} (h : ∀ i, i < n → p i = true → q i = true) : sm_cnt p n ≤ sm_cnt q n := by
  induction n with
  | zero => exact Nat.le_refl 0
  | succ n ih =>
    unfold sm_cnt
    have := ih (fun i hi => h i (by omega))
    have := h n (by omega)
    by_cases e : p n = true
    · rw [if_pos e, if_pos (this e)]; omega
    · rw [if_neg e]; omega
theorem sm_cnt_f {p : Nat → Bool} {n : Nat} (h : ∀ i, i < n → p i = false) : sm_cnt p n = 0 := by
  induction n with
  | zero => rfl
  | succ n ih => unfold sm_cnt; rw [ih (fun i hi => h i (by omega)), h n (by omega)]; rfl
theorem sm_cnt_t {p : Nat → Bool} {n : Nat} (h : ∀ i, i < n → p i = true) : sm_cnt p n = n := by
  induction n with
  | zero => rfl
  | succ n ih => unfold sm_cnt; rw [ih (fun i hi => h i (by omega)), h n (by omega)]; rfl
/-- one more -/
theorem sm_cnt_add {p q : Nat → Bool} {n k : Nat} (hk : k < n) (pk : p k = false) (h : ∀ i, i < n → q i = (p i || decide (i = k))) : sm_cnt q n = sm_cnt p n + 1 := by
  induction n with
  | zero => omega
  | succ n ih =>
    unfold sm_cnt
    by_cases e : k = n
    · subst e
      rw [sm_cnt_eq (p := q) (q := p) (n := k) (fun i hi => by rw [h i (by omega), decide_eq_false (by omega), Bool.or_false]), h k (by omega), pk]
      simp
    · rw [ih (by omega) (fun i hi => h i (by omega)), h n (by omega), decide_eq_false (fun z => e z.symm), Bool.or_false]
      omega
/-- one less -/
theorem sm_cnt_del {p : Nat → Bool} {n k : Nat} (hk : k < n) (pk : p k = true) : sm_cnt p n = sm_cnt (fun i => p i && !decide (i = k)) n + 1 := by
  apply sm_cnt_add hk
  · simp
  · intro i _
    by_cases e : i = k
    · subst e; simp [pk]
    · simp [e]
theorem sm_cnt_2 {p : Nat → Bool} {n c d : Nat} (hc : c < n) (hd : d < n) (cd : c ≠ d) (pc : p c = true) (pd : p d = true) : 2 ≤ sm_cnt p n := by
  rw [sm_cnt_del hc pc, sm_cnt_del hd (by simp [pd, cd.symm])]
  omega
theorem sm_cnt_3 {p : Nat → Bool} {n c d e : Nat} (hc : c < n) (hd : d < n) (he : e < n) (cd : c ≠ d) (ce : c ≠ e) (de : d ≠ e) (pc : p c = true) (pd : p d = true) (pe : p e = true) : 3 ≤ sm_cnt p n := by
  rw [sm_cnt_del hc pc, sm_cnt_del hd (by simp [pd, cd.symm]), sm_cnt_del he (by simp [pe, ce.symm, de.symm])]
  omega
theorem sm_cnt_1 {p : Nat → Bool} {n k : Nat} : sm_cnt p n ≤ sm_cnt (fun i => p i && !decide (i = k)) n + 1 := by
  by_cases hk : k < n
  · by_cases pk : p k = true
    · rw [sm_cnt_del hk pk]; exact Nat.le_refl _
    · apply Nat.le_succ_of_le
      apply sm_cnt_mono
      intro i _ pi
      have : i ≠ k := fun e => pk (e ▸ pi)
      simp [pi, this]
  · apply Nat.le_succ_of_le
    apply sm_cnt_mono
    intro i hi pi
    have : i ≠ k := fun e => hk (e ▸ hi)
    simp [pi, this]
theorem sm_cnt_4 {p : Nat → Bool} {n a b c d : Nat} (h : ∀ i, i < n → p i = true → i = a ∨ i = b ∨ i = c ∨ i = d) : sm_cnt p n ≤ 4 := by
  refine Nat.le_trans (sm_cnt_1 (k := a)) (Nat.succ_le_succ (Nat.le_trans (sm_cnt_1 (k := b)) (Nat.succ_le_succ (Nat.le_trans (sm_cnt_1 (k := c)) (Nat.succ_le_succ (Nat.le_trans (sm_cnt_1 (k := d)) (Nat.succ_le_succ ?_)))))))
  rw [sm_cnt_f]
  · exact Nat.le_refl 0
  · intro i hi
    cases e : p i
    · simp
    · rcases h i hi e with h | h | h | h <;> simp [h]
/-- a free place -/
theorem sm_cnt_free {p : Nat → Bool} {n : Nat} (h : sm_cnt p n < n) : ∃ i, i < n ∧ p i = false := by
  by_cases e : ∃ i, i < n ∧ p i = false
  · exact e
  · exfalso
    have : sm_cnt p n = n := sm_cnt_t (fun i hi => by
      cases z : p i
      · exact absurd ⟨i, hi, z⟩ e
      · rfl)
    omega
/-- counts over a bijection -/
theorem sm_cnt_bij {p : Nat → Bool} (φ : Nat → Nat) {m : Nat} : ∀ (n : Nat) (q : Nat → Bool), (∀ h, h < n → p h = true → φ h < m) → (∀ h g, h < n → g < n → p h = true → p g = true → φ h = φ g → h = g) → (∀ c, c < m → (q c = true ↔ ∃ h, h < n ∧ p h = true ∧ φ h = c)) → sm_cnt q m = sm_cnt p n := by
  intro n
  induction n with
  | zero =>
    intro q _ _ h
    rw [sm_cnt_f (n := m)]
    · rfl
    · intro c hc
      cases e : q c
      · rfl
      · obtain ⟨x, hx, _⟩ := (h c hc).mp e
        omega
  | succ n ih =>
    intro q h1 h2 h3
    show sm_cnt q m = sm_cnt p n + (if p n = true then 1 else 0)
    by_cases pn : p n = true
    · rw [if_pos pn, sm_cnt_del (h1 n (by omega) pn) ((h3 _ (h1 n (by omega) pn)).mpr ⟨n, by omega, pn, rfl⟩)]
      rw [ih (fun i => q i && !decide (i = φ n)) (fun h hh => h1 h (by omega)) (fun h g hh hg => h2 h g (by omega) (by omega))]
      intro c hc
      rw [Bool.and_eq_true, h3 c hc]
      constructor
      · rintro ⟨⟨h, hh, ph, e⟩, n1⟩
        have : h ≠ n := by
          intro z
          subst z
          rw [e] at n1
          simp at n1
        exact ⟨h, by omega, ph, e⟩
      · rintro ⟨h, hh, ph, e⟩
        refine ⟨⟨h, by omega, ph, e⟩, ?_⟩
        have : c ≠ φ n := by
          intro z
          have := h2 h n (by omega) (by omega) ph pn (e.trans z)
          omega
        simp [this]
    · rw [if_neg pn]
      apply ih q (fun h hh => h1 h (by omega)) (fun h g hh hg => h2 h g (by omega) (by omega))
      intro c hc
      rw [h3 c hc]
      constructor
      · rintro ⟨h, hh, ph, e⟩
        have : h ≠ n := fun z => pn (z ▸ ph)
        exact ⟨h, by omega, ph, e⟩
      · rintro ⟨h, hh, ph, e⟩
        exact ⟨h, by omega, ph, e⟩
noncomputable def sm_b (P : Prop) : Bool := @decide P (Classical.propDecidable P)
theorem sm_b_t {P : Prop} : sm_b P = true ↔ P := @decide_eq_true_iff P (Classical.propDecidable P)
theorem sm_b_f {P : Prop} : sm_b P = false ↔ ¬ P := @decide_eq_false_iff_not P (Classical.propDecidable P)
/-- pigeonhole -/
theorem sm_pig : ∀ (n : Nat) (f : Nat → Nat), (∀ i, i ≤ n → f i < n) → ∃ i j, i < j ∧ j ≤ n ∧ f i = f j := by
  intro n
  induction n with
  | zero => intro f h; exact absurd (h 0 (Nat.le_refl 0)) (by omega)
  | succ n ih =>
    intro f h
    by_cases e : ∃ i, i ≤ n ∧ f i = f (n + 1)
    · obtain ⟨i, hi, e⟩ := e
      exact ⟨i, n + 1, by omega, Nat.le_refl _, e⟩
    · -- swap the value n with f (n + 1)
      have hl := h (n + 1) (Nat.le_refl _)
      obtain ⟨i, j, hij, hj, e2⟩ := ih (fun i => if f i = n then f (n + 1) else f i) (by
        intro i hi
        have h1 := h i (by omega)
        have h2 : f i ≠ f (n + 1) := fun z => e ⟨i, hi, z⟩
        show (if f i = n then f (n + 1) else f i) < n
        split <;> omega)
      refine ⟨i, j, hij, by omega, ?_⟩
      have h1 : f i ≠ f (n + 1) := fun z => e ⟨i, by omega, z⟩
      have h2 : f j ≠ f (n + 1) := fun z => e ⟨j, by omega, z⟩
      have e3 : (if f i = n then f (n + 1) else f i) = (if f j = n then f (n + 1) else f j) := e2
      split at e3 <;> split at e3 <;> omega
end
section
/-! X: what the small questions answer -/
def sm_V (x : Int32) : Prop := ∃ i, i < 10 ∧ x = nI i
def sm_Fs (fs : Int32) (f : Nat) : Prop := f < 16 ∧ bt fs f = true
theorem sm_V_pos {x : Int32} (h : sm_V x) : ¬ x < 0 := by
  obtain ⟨i, hi, rfl⟩ := h
  exact nI_pos (by omega)
theorem sm_V_10 {x : Int32} (h : sm_V x) : ¬ 10 ≤ x := by
  obtain ⟨i, hi, rfl⟩ := h
  exact nI_ge (b := 10) hi (by omega)
theorem sm_V_of {x : Int32} (h : ¬ x < 0) (k : ¬ 10 ≤ x) : sm_V x := by
  obtain ⟨j, hj, rfl⟩ := nI_of h
  by_cases e : j < 10
  · exact ⟨j, e, rfl⟩
  · exact absurd (nI_le (a := 10) (by omega) hj) k
theorem sm_V_in {x : Int32} (h : sm_V x) : vp_in x 10 := by
  obtain ⟨i, hi, rfl⟩ := h
  exact vp_in_nI hi (by omega)
theorem sm_V_cl {x : Int32} (h : sm_V x) : x = nI x.toNatClampNeg ∧ x.toNatClampNeg < 10 := by
  obtain ⟨i, hi, rfl⟩ := h
  rw [nI_clamp (by omega)]
  exact ⟨rfl, hi⟩
/-- the component's picture of F -/
def sm_X (F : Int32 → Int32 → Int32 → Prop) (vs fs : Int32) (fr ag ot : Nat → Int32) : Prop := sm_T F ∧ (∀ x y z, F x y z → sm_V x) ∧ sm_Mk vs (fun i => sm_Vt F (nI i)) ∧ sm_RX (sm_Fs fs) fr F ∧ (∀ h, sm_Fs fs (h / 3) → sm_OK (sm_Fs fs) fr ag h) ∧ (∀ x, sm_Vt F x → ∃ g, ot x.toNatClampNeg = nI g ∧ g < 48 ∧ sm_Fs fs (g / 3) ∧ fr g = x) ∧ (∀ h, sm_V (fr h))
theorem sm_lt48 {fs : Int32} {h : Nat} (k : sm_Fs fs (h / 3)) : h < 48 := by
  have := k.1
  omega
theorem sm_next {post : Int32 → Prop} {h : Nat} (hh : h < 48) (H : post (nI (sm_nx h))) : wpX_next post (nI h) := by
  unfold wpX_next
  refine ⟨by decide, ?_⟩
  have e : nI h - nI h / 3 * 3 = nI (h % 3) := pk_rem (d := 3) (by omega) (by omega) (by omega)
  rw [e]
  refine pk_eq (h % 3) 2 (fun k => ?_) (fun k => ?_)
  · have e2 : nI h - 2 = nI (h - 2) := pk_sub (b := 2) (by omega)
    rw [e2]
    unfold sm_nx at H
    rw [if_pos k] at H
    exact H
  · rw [nI_1]
    unfold sm_nx at H
    rw [if_neg k] at H
    exact H
theorem sm_before {post : Int32 → Prop} {h : Nat} (hh : h < 48) (H : post (nI (sm_bf h))) : wpX_before post (nI h) := by
  unfold wpX_before
  refine ⟨by decide, ?_⟩
  have e : nI h - nI h / 3 * 3 = nI (h % 3) := pk_rem (d := 3) (by omega) (by omega) (by omega)
  rw [e]
  refine pk_eq (h % 3) 0 (fun k => ?_) (fun k => ?_)
  · have e2 : nI h + 2 = nI (h + 2) := nI_add h 2
    rw [e2]
    unfold sm_bf at H
    rw [if_pos k] at H
    exact H
  · have e2 : nI h - 1 = nI (h - 1) := pk_sub (b := 1) (by omega)
    rw [e2]
    unfold sm_bf at H
    rw [if_neg k] at H
    exact H
section
variable {F : Int32 → Int32 → Int32 → Prop} {vs fs : Int32} {fr ag ot : Nat → Int32} {post : Int32 → Prop}
theorem sm_to {h : Nat} (hh : h < 48) (H : post (fr (sm_nx h))) : wpX_to post (vs, fs, fr, ag, ot) (nI h) := by
  unfold wpX_to
  dsimp only
  refine sm_next hh ⟨vp_in_nI (sm_nx_lt hh) (by omega), ?_⟩
  have := sm_nx_lt hh
  rw [nI_clamp (by omega)]
  exact H
theorem sm_third {h : Nat} (hh : h < 48) (H : post (fr (sm_bf h))) : wpX_third post (vs, fs, fr, ag, ot) (nI h) := by
  unfold wpX_third
  dsimp only
  refine sm_before hh ⟨vp_in_nI (sm_bf_lt hh) (by omega), ?_⟩
  have := sm_bf_lt hh
  rw [nI_clamp (by omega)]
  exact H
theorem sm_isV (X : sm_X F vs fs fr ag ot) {x : Int32} (H1 : sm_Vt F x → post 1) (H0 : ¬ sm_Vt F x → post 0) : wpX_isVertex post (vs, fs, fr, ag, ot) x := by
  obtain ⟨_, rg, mk, _⟩ := X
  unfold wpX_isVertex
  dsimp only
  refine br_c (fun h => H0 ?_) (fun h => br_c (fun k => H0 ?_) (fun k => ?_))
  · rintro ⟨y, z, f⟩
    exact sm_V_pos (rg _ _ _ f) h
  · rintro ⟨y, z, f⟩
    exact sm_V_10 (rg _ _ _ f) k
  · obtain ⟨i, hi, rfl⟩ := sm_V_of h k
    rw [sm_bit0 vs (by omega)]
    refine br_c (fun e => H0 (fun v => ?_)) (fun e => H1 ?_)
    · rw [(mk i (by omega)).mpr v] at e
      cases e
    · apply (mk i (by omega)).mp
      cases z : bt vs i
      · exact absurd z e
      · rfl
theorem sm_used {f : Nat} (hf : f < 16) (H1 : sm_Fs fs f → post 1) (H0 : ¬ sm_Fs fs f → post 0) : wpX_isUsed post (vs, fs, fr, ag, ot) (nI f) := by
  unfold wpX_isUsed
  dsimp only
  rw [sm_bit0 fs (by omega)]
  refine br_c (fun e => H0 (fun v => ?_)) (fun e => H1 ⟨hf, ?_⟩)
  · rw [v.2] at e
    cases e
  · cases z : bt fs f
    · exact absurd z e
    · rfl
def sm_stp (ag : Nat → Int32) (h : Nat) : Nat := (ag (sm_bf h)).toNatClampNeg
def sm_it (ag : Nat → Int32) (h0 : Nat) : Nat → Nat
  | 0 => h0
  | n + 1 => sm_stp ag (sm_it ag h0 n)
theorem sm_stp_ok (X : sm_X F vs fs fr ag ot) {h : Nat} (hh : sm_Fs fs (h / 3)) : ag (sm_bf h) = nI (sm_stp ag h) ∧ sm_Fs fs (sm_stp ag h / 3) ∧ fr (sm_stp ag h) = fr h ∧ fr (sm_nx (sm_stp ag h)) = fr (sm_bf h) := by
  obtain ⟨_, _, _, _, ok, _⟩ := X
  obtain ⟨g, e, hg, ig, e1, e2⟩ := ok (sm_bf h) (by rw [sm_bf_d]; exact hh)
  have z : sm_stp ag h = g := by unfold sm_stp; rw [e, nI_clamp (by omega)]
  rw [z]
  rw [sm_nx_bf] at e1
  exact ⟨e, ig, e1, e2⟩
theorem sm_it_ok (X : sm_X F vs fs fr ag ot) {h : Nat} (hh : sm_Fs fs (h / 3)) : ∀ n, sm_Fs fs (sm_it ag h n / 3) ∧ fr (sm_it ag h n) = fr h := by
  intro n
  induction n with
  | zero => exact ⟨hh, rfl⟩
  | succ n ih =>
    obtain ⟨_, k1, k2, _⟩ := sm_stp_ok X ih.1
    exact ⟨k1, k2.trans ih.2⟩
theorem sm_it_add {h i j : Nat} (e : sm_it ag h i = sm_it ag h j) : ∀ k, sm_it ag h (i + k) = sm_it ag h (j + k) := by
  intro k
  induction k with
  | zero => exact e
  | succ k ih =>
    show sm_stp ag (sm_it ag h (i + k)) = sm_stp ag (sm_it ag h (j + k))
    rw [ih]
/-- ten steps about a vertex meet every neighbour -/
theorem sm_visit (X : sm_X F vs fs fr ag ot) {h : Nat} (hh : sm_Fs fs (h / 3)) {y z : Int32} (f : F (fr h) y z) : ∃ j, j < 10 ∧ fr (sm_nx (sm_it ag h j)) = y := by
  have X0 := X
  obtain ⟨t, rg, mk, rx, ok, out, lab⟩ := X
  have t0 := t
  obtain ⟨rot, dis, unq, clo, thi, st, co⟩ := t
  refine st (fr h) (fun x => ∃ j, j < 10 ∧ fr (sm_nx (sm_it ag h j)) = x) ?_ (fr (sm_nx h)) (fr (sm_bf h)) y z (sm_RX_F rx hh) f ⟨0, by omega, rfl⟩
  rintro x y g ⟨j, hj, rfl⟩
  obtain ⟨u1, e1⟩ := sm_it_ok X0 hh j
  have g2 := sm_RX_F rx u1
  rw [e1] at g2
  have ey := unq _ _ _ _ g g2
  obtain ⟨_, _, _, s2⟩ := sm_stp_ok X0 u1
  have e3 : fr (sm_nx (sm_it ag h (j + 1))) = y := s2.trans ey.symm
  by_cases j9 : j + 1 < 10
  · exact ⟨j + 1, j9, e3⟩
  · have j9 : j = 9 := by omega
    subst j9
    obtain ⟨p, q, pq, hq, e⟩ := sm_pig 10 (fun i => (fr (sm_nx (sm_it ag h i))).toNatClampNeg) (fun i _ => (sm_V_cl (lab _)).2)
    have e4 : fr (sm_nx (sm_it ag h p)) = fr (sm_nx (sm_it ag h q)) := by
      rw [(sm_V_cl (lab (sm_nx (sm_it ag h p)))).1, (sm_V_cl (lab (sm_nx (sm_it ag h q)))).1]
      exact congrArg nI e
    obtain ⟨up, ep⟩ := sm_it_ok X0 hh p
    obtain ⟨uq, eq⟩ := sm_it_ok X0 hh q
    have e5 := sm_RX_u t0 rx up uq (ep.trans eq.symm) e4
    have e6 := sm_it_add e5 (10 - q)
    rw [show q + (10 - q) = 9 + 1 from by omega] at e6
    exact ⟨p + (10 - q), by omega, by rw [e6]; exact e3⟩
theorem sm_find_lp (X : sm_X F vs fs fr ag ot) {h0 : Nat} {b : Int32} (hh : sm_Fs fs (h0 / 3)) (H1 : ∀ h, sm_Fs fs (h / 3) → fr h = fr h0 → fr (sm_nx h) = b → post (nI h)) (H2 : (∀ j, j < 10 → fr (sm_nx (sm_it ag h0 j)) ≠ b) → post (-1)) : ∀ d i, i + d = 10 → (∀ j, j < i → fr (sm_nx (sm_it ag h0 j)) ≠ b) → wX_find_28 post b vs fs fr ag ot (d + 1) (nI (sm_it ag h0 i)) (nI i) := by
  intro d
  induction d with
  | zero =>
    intro i hi hn
    have e : i = 10 := by omega
    subst e
    exact br_t (nI_le (a := 10) (by omega) (by omega)) (H2 hn)
  | succ d ih =>
    intro i hi hn
    obtain ⟨u1, e1⟩ := sm_it_ok X hh i
    obtain ⟨s1, s2, s3, s4⟩ := sm_stp_ok X u1
    have l1 := sm_lt48 u1
    have l2 := sm_bf_lt l1
    refine br_f (nI_ge (b := 10) (by omega) (by omega)) (sm_to l1 ?_)
    refine br_c (fun e => H1 _ u1 e1 e) (fun e => sm_before l1 ⟨vp_in_nI l2 (by omega), ?_⟩)
    refine nm_r (e' := nI (sm_it ag h0 (i + 1))) (by rw [nI_clamp (by omega)]; exact s1) (nm_r (nI_1 i) (ih (i + 1) (by omega) ?_))
    intro j hj
    by_cases ej : j = i
    · rw [ej]; exact e
    · exact hn j (by omega)
theorem sm_find (X : sm_X F vs fs fr ag ot) {a b : Int32} (H1 : ∀ h, sm_Fs fs (h / 3) → fr h = a → fr (sm_nx h) = b → post (nI h)) (H2 : (∀ z, ¬ F a b z) → post (-1)) : wpX_find post (vs, fs, fr, ag, ot) a b := by
  have X0 := X
  obtain ⟨t, rg, mk, rx, ok, out, lab⟩ := X
  unfold wpX_find
  dsimp only
  refine sm_isV X0 (fun va => br_f (by decide) ?_) (fun na => br_t rfl (H2 (fun z f => na ⟨_, _, f⟩)))
  refine sm_isV X0 (fun vb => br_f (by decide) ?_) (fun na => br_t rfl (H2 (fun z f => na ⟨_, _, t.1 _ _ _ f⟩)))
  obtain ⟨g, e, hg, ig, eg⟩ := out a va
  obtain ⟨y, z, f⟩ := va
  refine ⟨sm_V_in (rg _ _ _ f), nm_r e ⟨11, ?_⟩⟩
  refine sm_find_lp X0 ig (fun h k1 k2 k3 => H1 h k1 (k2.trans eg) k3) (fun all => H2 (fun z f => ?_)) 10 0 rfl (fun j hj => absurd hj (by omega))
  rw [← eg] at f
  obtain ⟨j, hj, ej⟩ := sm_visit X0 ig f
  exact all j hj ej
theorem sm_jt_lp (X : sm_X F vs fs fr ag ot) {h0 : Nat} (hh : sm_Fs fs (h0 / 3)) (H : ∀ s, sm_Mk s (fun k => ∃ j, j < 10 ∧ fr (sm_nx (sm_it ag h0 j)) = nI k) → post s) : ∀ d i s, i + d = 10 → sm_Mk s (fun k => ∃ j, j < i ∧ fr (sm_nx (sm_it ag h0 j)) = nI k) → wX_joinedTo_12 post vs fs fr ag ot (d + 1) s (nI (sm_it ag h0 i)) (nI i) := by
  intro d
  induction d with
  | zero =>
    intro i s hi hs
    have e : i = 10 := by omega
    subst e
    exact br_t (nI_le (a := 10) (by omega) (by omega)) (H s hs)
  | succ d ih =>
    intro i s hi hs
    obtain ⟨u1, e1⟩ := sm_it_ok X hh i
    obtain ⟨s1, s2, s3, s4⟩ := sm_stp_ok X u1
    have l1 := sm_lt48 u1
    have l2 := sm_bf_lt l1
    refine br_f (nI_ge (b := 10) (by omega) (by omega)) (sm_to l1 (nm_e ?_))
    refine sm_before l1 ⟨vp_in_nI l2 (by omega), ?_⟩
    refine nm_r (e' := nI (sm_it ag h0 (i + 1))) (by rw [nI_clamp (by omega)]; exact s1) (nm_r (nI_1 i) (ih (i + 1) _ (by omega) ?_))
    obtain ⟨l, hl, el⟩ := X.2.2.2.2.2.2 (sm_nx (sm_it ag h0 i))
    rw [el]
    refine sm_Mk_eq (sm_Mk_or hs (k := l) (by omega)) (fun k hk => ⟨?_, ?_⟩)
    · rintro (⟨j, hj, e⟩ | rfl)
      · exact ⟨j, by omega, e⟩
      · exact ⟨i, by omega, el⟩
    · rintro ⟨j, hj, e⟩
      by_cases ej : j = i
      · rw [ej, el, nI_eq (by omega) (by omega)] at e
        exact Or.inr e.symm
      · exact Or.inl ⟨j, by omega, e⟩
theorem sm_joinedTo (X : sm_X F vs fs fr ag ot) {a : Int32} (va : sm_Vt F a) (H : ∀ s, sm_Mk s (fun k => sm_E F a (nI k)) → post s) : wpX_joinedTo post (vs, fs, fr, ag, ot) a := by
  have X0 := X
  obtain ⟨t, rg, mk, rx, ok, out, lab⟩ := X
  unfold wpX_joinedTo
  dsimp only
  obtain ⟨g, e, hg, ig, eg⟩ := out a va
  obtain ⟨y, z, f⟩ := va
  refine ⟨sm_V_in (rg _ _ _ f), nm_r e ⟨11, ?_⟩⟩
  refine sm_jt_lp X0 ig (fun s hs => H s (sm_Mk_eq hs (fun k hk => ⟨?_, ?_⟩))) 10 0 0 rfl (sm_Mk_eq sm_Mk_0 (fun i _ => ⟨fun z => z.elim, fun ⟨j, hj, _⟩ => absurd hj (by omega)⟩))
  · rintro ⟨j, hj, e⟩
    obtain ⟨u1, e1⟩ := sm_it_ok X0 ig j
    have f := sm_RX_F rx u1
    rw [e1, eg, e] at f
    exact ⟨_, f⟩
  · rintro ⟨z, f⟩
    rw [← eg] at f
    exact sm_visit X0 ig f
theorem sm_joined (X : sm_X F vs fs fr ag ot) {a : Int32} (H : ∀ s, sm_Mk s (fun k => sm_E F a (nI k)) → post s) : wpX_joined post (vs, fs, fr, ag, ot) a := by
  unfold wpX_joined
  dsimp only
  refine sm_isV X (fun va => br_f (by decide) (sm_joinedTo X va H)) (fun na => br_t rfl (H 0 (sm_Mk_eq sm_Mk_0 (fun i _ => ⟨fun z => z.elim, fun ⟨z, f⟩ => na ⟨_, _, f⟩⟩))))
theorem sm_ones_lp {s : Int32} (H : post (nI (sm_cnt (bt s) 16))) : ∀ d i, i + d = 16 → wX_ones_4 post s vs fs fr ag ot (d + 1) (nI (sm_cnt (bt s) i)) (nI i) := by
  intro d
  induction d with
  | zero =>
    intro i hi
    have e : i = 16 := by omega
    subst e
    exact br_t (nI_le (a := 16) (by omega) (by omega)) H
  | succ d ih =>
    intro i hi
    refine br_f (nI_ge (b := 16) (by omega) (by omega)) ?_
    refine nm_r (e' := nI (sm_cnt (bt s) (i + 1))) ?_ (nm_r (nI_1 i) (ih (i + 1) (by omega)))
    rw [sm_bit s (by omega)]
    show nI (sm_cnt (bt s) i) + _ = nI (sm_cnt (bt s) i + _)
    cases bt s i
    · rw [if_neg (by decide), if_neg (by decide)]; exact nI_add _ 0
    · rw [if_pos rfl, if_pos rfl]; exact nI_add _ 1
theorem sm_ones {s : Int32} (H : post (nI (sm_cnt (bt s) 16))) : wpX_ones post (vs, fs, fr, ag, ot) s := by
  unfold wpX_ones
  dsimp only
  exact ⟨17, sm_ones_lp H 16 0 rfl⟩
end
end
section
/-! X: the turn and the drawing together are allowed -/
def sm_CF (F : Int32 → Int32 → Int32 → Prop) (a b : Int32) : Prop := ∃ c d, F a b c ∧ F b a d ∧ c ≠ d ∧ ∀ z, ¬ F c d z
def sm_CC (F : Int32 → Int32 → Int32 → Prop) (a b : Int32) : Prop := sm_E F a b ∧ (∃ s, sm_Mk s (fun k => sm_Vt F (nI k)) ∧ 4 < sm_cnt (bt s) 10) ∧ (∃ s, sm_Mk s (fun k => sm_E F a (nI k) ∧ sm_E F b (nI k)) ∧ sm_cnt (bt s) 10 ≤ 2)
theorem sm_cnt_10 {s : Int32} {P : Nat → Prop} (h : sm_Mk s P) (k : ∀ i, P i → i < 10) : sm_cnt (bt s) 16 = sm_cnt (bt s) 10 := by
  have z : ∀ i, i < 16 → 10 ≤ i → bt s i = false := by
    intro i hi h10
    cases e : bt s i
    · rfl
    · have := k i ((h i (by omega)).mp e)
      omega
  show sm_cnt (bt s) 10 + (if bt s 10 = true then 1 else 0) + (if bt s 11 = true then 1 else 0) + (if bt s 12 = true then 1 else 0) + (if bt s 13 = true then 1 else 0) + (if bt s 14 = true then 1 else 0) + (if bt s 15 = true then 1 else 0) = _
  rw [z 10 (by omega) (by omega), z 11 (by omega) (by omega), z 12 (by omega) (by omega), z 13 (by omega) (by omega), z 14 (by omega) (by omega), z 15 (by omega) (by omega)]
  rfl
theorem sm_V10 {i : Nat} (hi : i < 2 ^ 31) (h : sm_V (nI i)) : i < 10 := by
  obtain ⟨j, hj, e⟩ := h
  rw [nI_eq hi (by omega)] at e
  omega
section
variable {F : Int32 → Int32 → Int32 → Prop} {vs fs : Int32} {fr ag ot : Nat → Int32} {post : Int32 → Prop}
theorem sm_Mk_V (rg : ∀ x y z, F x y z → sm_V x) {s : Int32} (h : sm_Mk s (fun k => sm_Vt F (nI k))) : sm_cnt (bt s) 16 = sm_cnt (bt s) 10 := by
  refine sm_cnt_10 (P := fun k => k < 32 ∧ sm_Vt F (nI k)) (sm_Mk_eq h (fun i hi => ⟨fun z => ⟨hi, z⟩, fun z => z.2⟩)) ?_
  rintro i ⟨hi, y, z, f⟩
  exact sm_V10 (by omega) (rg _ _ _ f)
theorem sm_E_lt (t : sm_T F) (rg : ∀ x y z, F x y z → sm_V x) {a : Int32} {k : Nat} (hk : k < 32) (h : sm_E F a (nI k)) : k < 10 := by
  obtain ⟨z, f⟩ := h
  exact sm_V10 (by omega) (rg _ _ _ (t.1 _ _ _ f))
theorem sm_Mk_E (t : sm_T F) (rg : ∀ x y z, F x y z → sm_V x) {s : Int32} {a : Int32} (h : sm_Mk s (fun k => sm_E F a (nI k))) : sm_cnt (bt s) 16 = sm_cnt (bt s) 10 :=
  sm_cnt_10 (P := fun k => k < 32 ∧ sm_E F a (nI k)) (sm_Mk_eq h (fun i hi => ⟨fun z => ⟨hi, z⟩, fun z => z.2⟩)) (fun i hi => sm_E_lt t rg hi.1 hi.2)
theorem sm_Mk_EE (t : sm_T F) (rg : ∀ x y z, F x y z → sm_V x) {s : Int32} {a b : Int32} (h : sm_Mk s (fun k => sm_E F a (nI k) ∧ sm_E F b (nI k))) : sm_cnt (bt s) 16 = sm_cnt (bt s) 10 :=
  sm_cnt_10 (P := fun k => k < 32 ∧ sm_E F a (nI k) ∧ sm_E F b (nI k)) (sm_Mk_eq h (fun i hi => ⟨fun z => ⟨hi, z⟩, fun z => z.2⟩)) (fun i hi => sm_E_lt t rg hi.1 hi.2.1)
theorem sm_canFlip (X : sm_X F vs fs fr ag ot) {h : Nat} (hh : sm_Fs fs (h / 3)) (H1 : sm_CF F (fr h) (fr (sm_nx h)) → post 1) (H0 : ¬ sm_CF F (fr h) (fr (sm_nx h)) → post 0) : wpX_canFlip post (vs, fs, fr, ag, ot) (nI h) := by
  have X0 := X
  obtain ⟨t, rg, mk, rx, ok, out, lab⟩ := X
  have l1 := sm_lt48 hh
  obtain ⟨g, e, hg, ig, e1, e2⟩ := ok h hh
  have f1 := sm_RX_F rx hh
  have f2 := sm_RX_F rx ig
  rw [e1, e2] at f2
  have un : ∀ c d, F (fr h) (fr (sm_nx h)) c → F (fr (sm_nx h)) (fr h) d → c = fr (sm_bf h) ∧ d = fr (sm_bf g) := fun c d k1 k2 => ⟨t.2.2.1 _ _ _ _ k1 f1, t.2.2.1 _ _ _ _ k2 f2⟩
  unfold wpX_canFlip
  dsimp only
  refine sm_third l1 ⟨vp_in_nI l1 (by omega), ?_⟩
  rw [nI_clamp (by omega), e]
  refine sm_third hg (br_c (fun q => H0 ?_) (fun q => ?_))
  · rintro ⟨c, d, k1, k2, n, _⟩
    obtain ⟨rfl, rfl⟩ := un c d k1 k2
    exact n q
  · refine sm_find X0 (fun j u1 u2 u3 => ?_) (fun no => ?_)
    · refine br_t (nI_pos' (by have := sm_lt48 u1; omega)) (H0 ?_)
      rintro ⟨c, d, k1, k2, _, no⟩
      obtain ⟨rfl, rfl⟩ := un c d k1 k2
      have f := sm_RX_F rx u1
      rw [u2, u3] at f
      exact no _ f
    · exact br_f (by decide) (H1 ⟨_, _, f1, f2, q, no⟩)
theorem sm_canColl (X : sm_X F vs fs fr ag ot) {a b c : Int32} (f : F a b c) (H1 : sm_CC F a b → post 1) (H0 : ¬ sm_CC F a b → post 0) : wpX_canCollapse post (vs, fs, fr, ag, ot) a b := by
  have X0 := X
  obtain ⟨t, rg, mk, rx, ok, out, lab⟩ := X
  have t0 := t
  obtain ⟨rot, dis, unq, clo, thi, st, co⟩ := t
  obtain ⟨d, k⟩ := clo _ _ _ f
  unfold wpX_canCollapse
  dsimp only
  refine sm_joinedTo X0 ⟨_, _, f⟩ (fun s hs => sm_joinedTo X0 ⟨_, _, k⟩ (fun r hr => nm_e ?_))
  have hm := sm_Mk_and hs hr
  refine sm_ones ?_
  rw [sm_Mk_V rg mk]
  have c10 := sm_cnt_le (bt vs) 10
  refine pk_le (sm_cnt (bt vs) 10) 4 (fun q => H0 ?_) (fun q => sm_ones ?_)
  · rintro ⟨_, ⟨s', h', q'⟩, _⟩
    rw [← sm_Mk_ext mk h'] at q'
    omega
  · rw [sm_Mk_EE t0 rg hm]
    have d10 := sm_cnt_le (bt (s &&& r)) 10
    refine pk_eq (sm_cnt (bt (s &&& r)) 10) 2 (fun w => H1 ⟨⟨_, f⟩, ⟨vs, mk, q⟩, ⟨_, hm, by omega⟩⟩) (fun w => H0 ?_)
    rintro ⟨_, _, ⟨s', h', q'⟩⟩
    rw [← sm_Mk_ext hm h'] at q'
    obtain ⟨i, hi, ei⟩ := rg _ _ _ (rot _ _ _ (rot _ _ _ f))
    obtain ⟨j, hj, ej⟩ := rg _ _ _ (rot _ _ _ (rot _ _ _ k))
    have cd : c ≠ d := by
      intro e
      subst e
      exact thi _ _ _ f k
    obtain ⟨p1, h1⟩ := clo _ _ _ (rot _ _ _ (rot _ _ _ f))
    obtain ⟨p2, h2⟩ := clo _ _ _ (rot _ _ _ (rot _ _ _ k))
    rw [ei] at h1 cd
    rw [ej] at h2 cd
    have k1 : sm_E F b (nI i) := ⟨_, by have := rot _ _ _ f; rw [ei] at this; exact this⟩
    have k2 : sm_E F a (nI j) := ⟨_, by have := rot _ _ _ k; rw [ej] at this; exact this⟩
    have := sm_cnt_2 (p := bt (s &&& r)) (n := 10) hi hj (fun e => cd (congrArg nI e)) ((hm i (by omega)).mpr ⟨⟨_, h1⟩, k1⟩) ((hm j (by omega)).mpr ⟨k2, ⟨_, h2⟩⟩)
    omega
theorem sm_freeV_lp (X : sm_X F vs fs fr ag ot) {v : Nat} (hv : v ≤ 10) (lo : ∀ i, i < v → sm_Vt F (nI i)) (hi : v < 10 → ¬ sm_Vt F (nI v)) (H : post (nI v)) : ∀ d i, i + d = v → wX_freeVertex_2 post vs fs fr ag ot (d + 1) (nI i) := by
  intro d
  induction d with
  | zero =>
    intro i e
    have e : i = v := by omega
    subst e
    refine pk_le 10 i (fun _ => H) (fun q => ?_)
    exact sm_isV X (fun k => absurd k (hi q)) (fun _ => br_t rfl H)
  | succ d ih =>
    intro i e
    refine br_f (nI_ge (b := 10) (by omega) (by omega)) ?_
    exact sm_isV X (fun k => br_f (by decide) (nm_r (nI_1 i) (ih (i + 1) (by omega)))) (fun k => absurd (lo i (by omega)) k)
theorem sm_freeV (X : sm_X F vs fs fr ag ot) {v : Nat} (hv : v ≤ 10) (lo : ∀ i, i < v → sm_Vt F (nI i)) (hi : v < 10 → ¬ sm_Vt F (nI v)) (H : post (nI v)) : wpX_freeVertex post (vs, fs, fr, ag, ot) := by
  unfold wpX_freeVertex
  dsimp only
  exact ⟨v + 1, sm_freeV_lp X hv lo hi H v 0 (by omega)⟩
end
/-- the least number that is no vertex -/
theorem sm_least (P : Nat → Prop) : ∀ n, ∃ v, v ≤ n ∧ (∀ i, i < v → P i) ∧ (v < n → ¬ P v) := by
  intro n
  induction n with
  | zero => exact ⟨0, Nat.le_refl 0, fun i hi => absurd hi (by omega), fun h => absurd h (by omega)⟩
  | succ n ih =>
    obtain ⟨v, h1, h2, h3⟩ := ih
    by_cases e : v < n
    · exact ⟨v, by omega, h2, fun _ => h3 e⟩
    · have e : v = n := by omega
      subst e
      by_cases p : P v
      · refine ⟨v + 1, by omega, fun i hi => ?_, fun h => absurd h (by omega)⟩
        by_cases q : i = v
        · exact q ▸ p
        · exact h2 i (by omega)
      · exact ⟨v, by omega, h2, fun _ => p⟩
section
variable {vs fs : Int32} {fr ag ot : Nat → Int32} {post : Int32 → SX → Prop}
theorem sm_newF_lp {f : Nat} (hf : f < 16) (lo : ∀ i, i < f → sm_Fs fs i) (nf : ¬ sm_Fs fs f) (H : post (nI f) (vs, fs ||| ((1 : Int32) <<< (nI f &&& 31)), fr, ag, ot)) : ∀ d i, i + d = f → wX_newFace_2 post vs fs fr ag ot (d + 1) (nI i) := by
  intro d
  induction d with
  | zero =>
    intro i e
    have e : i = f := by omega
    subst e
    refine pk_le 15 i (fun _ => nm_e H) (fun q => ?_)
    exact sm_used hf (fun k => absurd k nf) (fun _ => br_t rfl (nm_e H))
  | succ d ih =>
    intro i e
    refine br_f (nI_ge (b := 15) (by omega) (by omega)) ?_
    exact sm_used (by omega) (fun k => br_f (by decide) (nm_r (nI_1 i) (ih (i + 1) (by omega)))) (fun k => absurd (lo i (by omega)) k)
theorem sm_newF (fr' : ∃ i, i < 16 ∧ bt fs i = false) (H : ∀ f, f < 16 → bt fs f = false → post (nI f) (vs, fs ||| ((1 : Int32) <<< (nI f &&& 31)), fr, ag, ot)) : wpX_newFace post (vs, fs, fr, ag, ot) := by
  unfold wpX_newFace
  dsimp only
  obtain ⟨f, h1, h2, h3⟩ := sm_least (fun i => sm_Fs fs i) 16
  obtain ⟨i, hi, e⟩ := fr'
  have hf : f < 16 := by
    by_cases q : f < 16
    · exact q
    · have := (h2 i (by omega)).2
      rw [e] at this
      cases this
  refine ⟨f + 1, sm_newF_lp hf h2 (h3 hf) (H f hf ?_) f 0 (by omega)⟩
  cases z : bt fs f
  · rfl
  · exact absurd ⟨hf, z⟩ (h3 hf)
end
section
variable {vs fs : Int32} {fr ag ot : Nat → Int32} {post : SX → Prop}
theorem sm_byte : ∀ i, i < 128 → (nI i).toInt8.toInt32 = nI i := by decide +kernel
theorem sm_nar {i : Nat} (hi : i < 128) : vp_nar .byte (nI i).toInt8.toInt32 = nI i := by
  rw [pk_vb, sm_byte i hi]
theorem sm_narV {x : Int32} (h : sm_V x) : vp_nar .byte x.toInt8.toInt32 = x := by
  obtain ⟨i, hi, rfl⟩ := h
  exact sm_nar (by omega)
theorem sm_narV2 {x : Int32} (h : sm_V x) : vp_nar .byte x = x := by
  obtain ⟨i, hi, rfl⟩ := h
  rw [vp_nar_byte, sm_byte i (by omega)]
/-- three corners written -/
def sm_wr (fr : Nat → Int32) (f : Nat) (a b c : Int32) : Nat → Int32 := upd (upd (upd fr (3 * f) a) (3 * f + 1) b) (3 * f + 2) c
theorem sm_write {f : Nat} (hf : f < 16) {a b c : Int32} (ha : sm_V a) (hb : sm_V b) (hc : sm_V c) (H : post (vs, fs, sm_wr fr f a b c, ag, ot)) : wpX_write post (vs, fs, fr, ag, ot) (nI f) a b c := by
  unfold wpX_write
  dsimp only
  have e0 : 3 * nI f = nI (3 * f) := pk_mul 3 f
  have e1 : nI (3 * f) + 1 = nI (3 * f + 1) := nI_1 _
  have e2 : nI (3 * f) + 2 = nI (3 * f + 2) := nI_add _ 2
  rw [e0, e1, e2, nI_clamp (n := 3 * f) (by omega), nI_clamp (n := 3 * f + 1) (by omega), nI_clamp (n := 3 * f + 2) (by omega), sm_narV ha, sm_narV hb, sm_narV hc]
  exact ⟨vp_in_nI (by omega) (by omega), nm_e ⟨vp_in_nI (by omega) (by omega), nm_e ⟨vp_in_nI (by omega) (by omega), nm_e H⟩⟩⟩
theorem sm_link {h g : Nat} (hh : h < 48) (hg : g < 48) (H : post (vs, fs, fr, upd (upd ag h (nI g)) g (nI h), ot)) : wpX_link post (vs, fs, fr, ag, ot) (nI h) (nI g) := by
  unfold wpX_link
  dsimp only
  rw [nI_clamp (n := h) (by omega), nI_clamp (n := g) (by omega), sm_nar (i := h) (by omega), sm_nar (i := g) (by omega)]
  exact ⟨vp_in_nI (by omega) (by omega), nm_e ⟨vp_in_nI (by omega) (by omega), nm_e H⟩⟩
/-- some arrow from every vertex that has one -/
theorem sm_refr_lp (lab : ∀ h, sm_V (fr h)) (H : ∀ ot' : Nat → Int32, (∀ h, sm_Fs fs (h / 3) → ∃ g, ot' (fr h).toNatClampNeg = nI g ∧ g < 48 ∧ sm_Fs fs (g / 3) ∧ fr g = fr h) → post (vs, fs, fr, ag, ot')) : ∀ d i ot, i + d = 48 → (∀ h, h < i → sm_Fs fs (h / 3) → ∃ g, ot (fr h).toNatClampNeg = nI g ∧ g < 48 ∧ sm_Fs fs (g / 3) ∧ fr g = fr h) → wX_refresh_2 post vs fs (d + 1) (nI i) fr ag ot := by
  intro d
  induction d with
  | zero =>
    intro i ot hi K
    have e : i = 48 := by omega
    subst e
    exact br_t (nI_le (a := 48) (by omega) (by omega)) (H ot (fun h k => K h (sm_lt48 k) k))
  | succ d ih =>
    intro i ot hi K
    refine br_f (nI_ge (b := 48) (by omega) (by omega)) ⟨by decide, ?_⟩
    have e : nI i / 3 = nI (i / 3) := pk_div (d := 3) (by omega) (by omega) (by omega)
    rw [e]
    refine sm_used (by omega) (fun u => br_f (by decide) ?_) (fun u => br_t rfl (nm_r (nI_1 i) (ih (i + 1) ot (by omega) ?_)))
    · refine ⟨vp_in_nI (by omega) (by omega), ?_⟩
      rw [nI_clamp (n := i) (by omega)]
      refine ⟨sm_V_in (lab i), nm_e (nm_r (nI_1 i) (ih (i + 1) _ (by omega) ?_))⟩
      intro h hh k
      rw [sm_nar (i := i) (by omega)]
      by_cases q : (fr h).toNatClampNeg = (fr i).toNatClampNeg
      · have q2 : fr i = fr h := by rw [(sm_V_cl (lab h)).1, (sm_V_cl (lab i)).1, q]
        exact ⟨i, by rw [q, pk_us], by omega, u, q2⟩
      · rw [pk_un q]
        refine K h ?_ k
        by_cases z : h = i
        · exact absurd (by rw [z]) q
        · omega
    · intro h hh k
      refine K h ?_ k
      by_cases z : h = i
      · exact absurd (z ▸ k) u
      · omega
theorem sm_refresh (lab : ∀ h, sm_V (fr h)) (H : ∀ ot' : Nat → Int32, (∀ h, sm_Fs fs (h / 3) → ∃ g, ot' (fr h).toNatClampNeg = nI g ∧ g < 48 ∧ sm_Fs fs (g / 3) ∧ fr g = fr h) → post (vs, fs, fr, ag, ot')) : wpX_refresh post (vs, fs, fr, ag, ot) := by
  unfold wpX_refresh
  dsimp only
  exact ⟨49, sm_refr_lp lab H 48 0 ot rfl (fun h hh => absurd hh (by omega))⟩
end
end
section
/-! Y: a list of triangles -/
def sm_Y (F : Int32 → Int32 → Int32 → Prop) (ct : Nat) (pa pb pc : Nat → Int32) : Prop := ct ≤ 16 ∧ sm_Rep (fun j => j < ct) pa pb pc F
section
variable {F : Int32 → Int32 → Int32 → Prop} {ct : Nat} {pa pb pc : Nat → Int32} {post : Int32 → Prop}
theorem sm_Y_F (Y : sm_Y F ct pa pb pc) {j : Nat} (hj : j < ct) : F (pa j) (pb j) (pc j) := (Y.2.1 _ _ _).mpr ⟨j, hj, sm_R0 _ _ _⟩
theorem sm_has62 {i : Nat} (hi : i < 16) {a b c : Int32} (H1 : pa i = c → pb i = a → pc i = b → post 1) (H0 : ¬ (pa i = c ∧ pb i = a ∧ pc i = b) → post 0) : wY_has_62 post (nI i) a b c (nI ct) pa pb pc := by
  unfold wY_has_62
  rw [nI_clamp (by omega)]
  have hv : vp_in (nI i) 16 := vp_in_nI hi (by omega)
  exact ⟨hv, br_c (fun e1 => ⟨hv, br_c (fun e2 => ⟨hv, br_c (fun e3 => H1 e1 e2 e3) (fun e3 => H0 (fun k => e3 k.2.2))⟩) (fun e2 => H0 (fun k => e2 k.2.1))⟩) (fun e1 => H0 (fun k => e1 k.1))⟩
theorem sm_has31 {i : Nat} (hi : i < 16) {a b c : Int32} (H1 : pa i = b → pb i = c → pc i = a → post 1) (H0 : ¬ (pa i = b ∧ pb i = c ∧ pc i = a) → wY_has_62 post (nI i) a b c (nI ct) pa pb pc) : wY_has_31 post (nI i) a b c (nI ct) pa pb pc := by
  unfold wY_has_31
  rw [nI_clamp (by omega)]
  have hv : vp_in (nI i) 16 := vp_in_nI hi (by omega)
  exact ⟨hv, br_c (fun e1 => ⟨hv, br_c (fun e2 => ⟨hv, br_c (fun e3 => H1 e1 e2 e3) (fun e3 => H0 (fun k => e3 k.2.2))⟩) (fun e2 => H0 (fun k => e2 k.2.1))⟩) (fun e1 => H0 (fun k => e1 k.1))⟩
theorem sm_has {i : Nat} (hi : i < 16) {a b c : Int32} (H1 : sm_R (pa i) (pb i) (pc i) a b c → post 1) (H0 : ¬ sm_R (pa i) (pb i) (pc i) a b c → post 0) : wpY_has post (nI ct, pa, pb, pc) (nI i) a b c := by
  unfold wpY_has
  dsimp only
  rw [nI_clamp (by omega)]
  have hv : vp_in (nI i) 16 := vp_in_nI hi (by omega)
  have K : ¬ (pa i = a ∧ pb i = b ∧ pc i = c) → wY_has_31 post (nI i) a b c (nI ct) pa pb pc := by
    intro n1
    refine sm_has31 hi (fun e1 e2 e3 => H1 (Or.inr (Or.inr ⟨e3.symm, e1.symm, e2.symm⟩))) (fun n2 => ?_)
    refine sm_has62 hi (fun e1 e2 e3 => H1 (Or.inr (Or.inl ⟨e2.symm, e3.symm, e1.symm⟩))) (fun n3 => H0 ?_)
    rintro (⟨e1, e2, e3⟩ | ⟨e1, e2, e3⟩ | ⟨e1, e2, e3⟩)
    · exact n1 ⟨e1.symm, e2.symm, e3.symm⟩
    · exact n3 ⟨e3.symm, e1.symm, e2.symm⟩
    · exact n2 ⟨e2.symm, e3.symm, e1.symm⟩
  exact ⟨hv, br_c (fun e1 => ⟨hv, br_c (fun e2 => ⟨hv, br_c (fun e3 => H1 (Or.inl ⟨e1.symm, e2.symm, e3.symm⟩)) (fun e3 => K (fun k => e3 k.2.2))⟩) (fun e2 => K (fun k => e2 k.2.1))⟩) (fun e1 => K (fun k => e1 k.1))⟩
theorem sm_yfind_lp (hc : ct ≤ 16) {a b c : Int32} (H1 : ∀ f, f < ct → sm_R (pa f) (pb f) (pc f) a b c → post (nI f)) (H2 : (∀ f, f < ct → ¬ sm_R (pa f) (pb f) (pc f) a b c) → post (-1)) : ∀ d i, i + d = ct → (∀ j, j < i → ¬ sm_R (pa j) (pb j) (pc j) a b c) → wY_find_3 post a b c (nI ct) pa pb pc (d + 1) (nI i) := by
  intro d
  induction d with
  | zero =>
    intro i hi K
    have e : i = ct := by omega
    subst e
    exact br_t (nI_le (Nat.le_refl _) (by omega)) (H2 K)
  | succ d ih =>
    intro i hi K
    refine br_f (nI_ge (by omega) (by omega)) (sm_has (by omega) (fun r => br_f (by decide) (H1 i (by omega) r)) (fun r => br_t rfl (nm_r (nI_1 i) (ih (i + 1) (by omega) ?_))))
    intro j hj
    by_cases e : j = i
    · rw [e]; exact r
    · exact K j (by omega)
theorem sm_yfind (hc : ct ≤ 16) {a b c : Int32} (H1 : ∀ f, f < ct → sm_R (pa f) (pb f) (pc f) a b c → post (nI f)) (H2 : (∀ f, f < ct → ¬ sm_R (pa f) (pb f) (pc f) a b c) → post (-1)) : wpY_find post (nI ct, pa, pb, pc) a b c := by
  unfold wpY_find
  dsimp only
  exact ⟨ct + 1, sm_yfind_lp hc H1 H2 ct 0 (by omega) (fun j hj => absurd hj (by omega))⟩
theorem sm_yisF (Y : sm_Y F ct pa pb pc) {a b c : Int32} (H1 : F a b c → post 1) (H0 : ¬ F a b c → post 0) : wpY_isFace post (nI ct, pa, pb, pc) a b c := by
  unfold wpY_isFace
  dsimp only
  refine sm_yfind Y.1 (fun f hf r => br_f (nI_pos (by have := Y.1; omega)) (H1 ((Y.2.1 _ _ _).mpr ⟨f, hf, r⟩))) (fun no => br_t (by decide) (H0 ?_))
  intro f
  obtain ⟨i, hi, r⟩ := (Y.2.1 _ _ _).mp f
  exact no i hi r
theorem sm_size_lp {s : Int32} (H : post (nI (sm_cnt (bt s) 10))) : ∀ d i, i + d = 10 → wY_size_4 post s (nI ct) pa pb pc (d + 1) (nI (sm_cnt (bt s) i)) (nI i) := by
  intro d
  induction d with
  | zero =>
    intro i hi
    have e : i = 10 := by omega
    subst e
    exact br_t (nI_le (a := 10) (by omega) (by omega)) H
  | succ d ih =>
    intro i hi
    refine br_f (nI_ge (b := 10) (by omega) (by omega)) ?_
    refine nm_r (e' := nI (sm_cnt (bt s) (i + 1))) ?_ (nm_r (nI_1 i) (ih (i + 1) (by omega)))
    rw [sm_bit s (by omega)]
    show nI (sm_cnt (bt s) i) + _ = nI (sm_cnt (bt s) i + _)
    cases bt s i
    · rw [if_neg (by decide), if_neg (by decide)]; exact nI_add _ 0
    · rw [if_pos rfl, if_pos rfl]; exact nI_add _ 1
theorem sm_size {s : Int32} (H : post (nI (sm_cnt (bt s) 10))) : wpY_size post (nI ct, pa, pb, pc) s := by
  unfold wpY_size
  dsimp only
  exact ⟨11, sm_size_lp H 10 0 rfl⟩
/-- three more bits -/
theorem sm_Mk_or3 {s : Int32} {P : Nat → Prop} (h : sm_Mk s P) {x y z : Int32} (hx : sm_V x) (hy : sm_V y) (hz : sm_V z) : sm_Mk (((s ||| ((1 : Int32) <<< (x &&& 31))) ||| ((1 : Int32) <<< (y &&& 31))) ||| ((1 : Int32) <<< (z &&& 31))) (fun i => P i ∨ nI i = x ∨ nI i = y ∨ nI i = z) := by
  obtain ⟨i, hi, rfl⟩ := hx
  obtain ⟨j, hj, rfl⟩ := hy
  obtain ⟨k, hk, rfl⟩ := hz
  refine sm_Mk_eq (sm_Mk_or (sm_Mk_or (sm_Mk_or h (k := i) (by omega)) (k := j) (by omega)) (k := k) (by omega)) (fun l hl => ?_)
  rw [nI_eq (by omega) (by omega), nI_eq (by omega) (by omega), nI_eq (by omega) (by omega), or_assoc, or_assoc]
theorem sm_verts_lp (Y : sm_Y F ct pa pb pc) (t : sm_T F) (rg : ∀ x y z, F x y z → sm_V x) (H : ∀ s, sm_Mk s (fun k => ∃ j, j < ct ∧ (nI k = pa j ∨ nI k = pb j ∨ nI k = pc j)) → post s) : ∀ d i s, i + d = ct → sm_Mk s (fun k => ∃ j, j < i ∧ (nI k = pa j ∨ nI k = pb j ∨ nI k = pc j)) → wY_vertices_4 post (nI ct) pa pb pc (d + 1) s (nI i) := by
  have hc := Y.1
  intro d
  induction d with
  | zero =>
    intro i s hi K
    have e : i = ct := by omega
    subst e
    exact br_t (nI_le (Nat.le_refl _) (by omega)) (H s K)
  | succ d ih =>
    intro i s hi K
    have f := sm_Y_F Y (j := i) (by omega)
    have hv : vp_in (nI i) 16 := vp_in_nI (by omega) (by omega)
    refine br_f (nI_ge (by omega) (by omega)) ⟨hv, hv, hv, nm_e (nm_r (nI_1 i) (ih (i + 1) _ (by omega) ?_))⟩
    rw [nI_clamp (by omega)]
    refine sm_Mk_eq (sm_Mk_or3 K (rg _ _ _ f) (rg _ _ _ (t.1 _ _ _ f)) (rg _ _ _ (t.1 _ _ _ (t.1 _ _ _ f)))) (fun k hk => ⟨?_, ?_⟩)
    · rintro (⟨j, hj, e⟩ | e)
      · exact ⟨j, by omega, e⟩
      · exact ⟨i, by omega, e⟩
    · rintro ⟨j, hj, e⟩
      by_cases q : j = i
      · rw [q] at e; exact Or.inr e
      · exact Or.inl ⟨j, by omega, e⟩
theorem sm_verts (Y : sm_Y F ct pa pb pc) (t : sm_T F) (rg : ∀ x y z, F x y z → sm_V x) (H : ∀ s, sm_Mk s (fun k => sm_Vt F (nI k)) → post s) : wpY_vertices post (nI ct, pa, pb, pc) := by
  unfold wpY_vertices
  dsimp only
  refine ⟨ct + 1, sm_verts_lp Y t rg (fun s hs => H s (sm_Mk_eq hs (fun k hk => ⟨?_, ?_⟩))) ct 0 0 (by omega) (sm_Mk_eq sm_Mk_0 (fun i _ => ⟨fun z => z.elim, fun ⟨j, hj, _⟩ => absurd hj (by omega)⟩))⟩
  · rintro ⟨j, hj, e⟩
    have f := sm_Y_F Y hj
    rcases e with e | e | e
    · rw [e]; exact ⟨_, _, f⟩
    · rw [e]; exact ⟨_, _, t.1 _ _ _ f⟩
    · rw [e]; exact ⟨_, _, t.1 _ _ _ (t.1 _ _ _ f)⟩
  · rintro ⟨y, z, f⟩
    obtain ⟨j, hj, r⟩ := (Y.2.1 _ _ _).mp f
    rcases r with ⟨e, _, _⟩ | ⟨e, _, _⟩ | ⟨e, _, _⟩
    · exact ⟨j, hj, Or.inl e⟩
    · exact ⟨j, hj, Or.inr (Or.inl e)⟩
    · exact ⟨j, hj, Or.inr (Or.inr e)⟩
theorem sm_fresh_lp {s : Int32} {v : Nat} (hv : v ≤ 10) (lo : ∀ i, i < v → bt s i = true) (hi : v < 10 → bt s v = false) (H : post (nI v)) : ∀ d i, i + d = v → wY_fresh_7 post s (nI ct) pa pb pc (d + 1) (nI i) := by
  intro d
  induction d with
  | zero =>
    intro i e
    have e : i = v := by omega
    subst e
    refine pk_le 10 i (fun _ => H) (fun q => ?_)
    rw [sm_bit1 s (by omega)]
    exact br_f (by rw [hi q]; decide) H
  | succ d ih =>
    intro i e
    refine br_f (nI_ge (b := 10) (by omega) (by omega)) ?_
    rw [sm_bit1 s (by omega)]
    exact br_t (lo i (by omega)) (nm_r (nI_1 i) (ih (i + 1) (by omega)))
theorem sm_fresh (Y : sm_Y F ct pa pb pc) (t : sm_T F) (rg : ∀ x y z, F x y z → sm_V x) {v : Nat} (hv : v ≤ 10) (lo : ∀ i, i < v → sm_Vt F (nI i)) (hi : v < 10 → ¬ sm_Vt F (nI v)) (H : post (nI v)) : wpY_fresh post (nI ct, pa, pb, pc) := by
  unfold wpY_fresh
  dsimp only
  refine sm_verts Y t rg (fun s hs => ⟨v + 1, sm_fresh_lp hv (fun i h => (hs i (by omega)).mpr (lo i h)) (fun h => ?_) H v 0 (by omega)⟩)
  cases e : bt s v
  · rfl
  · exact absurd ((hs v (by omega)).mp e) (hi h)
theorem sm_o97 {J : Int32 → Prop} {a b : Int32} {i : Nat} (H : J (nI (i + 1))) : wY_opposite_97 post J a b (nI i) (nI ct) pa pb pc := by
  unfold wY_opposite_97 wY_opposite_98
  exact br_t (by decide) (nm_r (nI_1 i) H)
theorem sm_o98 {J : Int32 → Prop} {a b x z : Int32} (hz : ¬ z < 0) (H : post z) : wY_opposite_98 post J a b x z (nI ct) pa pb pc := by
  unfold wY_opposite_98
  exact br_f hz H
theorem sm_o68 {J : Int32 → Prop} {a b : Int32} {i : Nat} (hi : i < 16) (hz : ¬ pb i < 0) (H1 : pc i = a → pa i = b → post (pb i)) (H0 : ¬ (pc i = a ∧ pa i = b) → J (nI (i + 1))) : wY_opposite_68 post J a b (nI i) (nI ct) pa pb pc := by
  unfold wY_opposite_68
  rw [nI_clamp (by omega)]
  have hv : vp_in (nI i) 16 := vp_in_nI hi (by omega)
  exact ⟨hv, br_c (fun e1 => ⟨hv, br_c (fun e2 => ⟨hv, sm_o98 hz (H1 e1 e2)⟩) (fun e2 => sm_o97 (H0 (fun k => e2 k.2)))⟩) (fun e1 => sm_o97 (H0 (fun k => e1 k.1)))⟩
theorem sm_o39 {J : Int32 → Prop} {a b : Int32} {i : Nat} (hi : i < 16) (hz : ¬ pa i < 0) (H1 : pb i = a → pc i = b → post (pa i)) (H0 : ¬ (pb i = a ∧ pc i = b) → wY_opposite_68 post J a b (nI i) (nI ct) pa pb pc) : wY_opposite_39 post J a b (nI i) (nI ct) pa pb pc := by
  unfold wY_opposite_39
  rw [nI_clamp (by omega)]
  have hv : vp_in (nI i) 16 := vp_in_nI hi (by omega)
  exact ⟨hv, br_c (fun e1 => ⟨hv, br_c (fun e2 => ⟨hv, sm_o98 hz (H1 e1 e2)⟩) (fun e2 => H0 (fun k => e2 k.2))⟩) (fun e1 => H0 (fun k => e1 k.1))⟩
theorem sm_opp_lp (Y : sm_Y F ct pa pb pc) (rot : ∀ x y z, F x y z → F y z x) (rg : ∀ x y z, F x y z → sm_V x) {a b : Int32} (H1 : ∀ z, F a b z → post z) (H2 : (∀ z, ¬ F a b z) → post (-1)) : ∀ d i, i + d = ct → (∀ j, j < i → ∀ z, ¬ sm_R (pa j) (pb j) (pc j) a b z) → wY_opposite_2 post a b (nI ct) pa pb pc (d + 1) (nI i) := by
  have hc := Y.1
  intro d
  induction d with
  | zero =>
    intro i hi K
    have e : i = ct := by omega
    subst e
    refine br_t (nI_le (Nat.le_refl _) (by omega)) (H2 (fun z f => ?_))
    obtain ⟨j, hj, r⟩ := (Y.2.1 _ _ _).mp f
    exact K j hj z r
  | succ d ih =>
    intro i hi K
    have f := sm_Y_F Y (j := i) (by omega)
    have f' := rot _ _ _ f
    have f'' := rot _ _ _ f'
    have hv : vp_in (nI i) 16 := vp_in_nI (by omega) (by omega)
    have N : ¬ (pa i = a ∧ pb i = b) → wY_opposite_39 post (wY_opposite_2 post a b (nI ct) pa pb pc (d + 1)) a b (nI i) (nI ct) pa pb pc := by
      intro n1
      refine sm_o39 (by omega) (sm_V_pos (rg _ _ _ f)) (fun e1 e2 => H1 _ (by rw [← e1, ← e2]; exact f')) (fun n2 => ?_)
      refine sm_o68 (by omega) (sm_V_pos (rg _ _ _ f')) (fun e1 e2 => H1 _ (by rw [← e1, ← e2]; exact f'')) (fun n3 => ?_)
      refine ih (i + 1) (by omega) (fun j hj z r => ?_)
      by_cases q : j = i
      · rw [q] at r
        rcases r with ⟨e1, e2, _⟩ | ⟨e1, e2, _⟩ | ⟨e1, e2, _⟩
        · exact n1 ⟨e1.symm, e2.symm⟩
        · exact n2 ⟨e1.symm, e2.symm⟩
        · exact n3 ⟨e1.symm, e2.symm⟩
      · exact K j (by omega) z r
    refine br_f (nI_ge (by omega) (by omega)) ⟨hv, ?_⟩
    rw [nI_clamp (by omega)]
    exact br_c (fun e1 => ⟨hv, br_c (fun e2 => ⟨hv, sm_o98 (sm_V_pos (rg _ _ _ f'')) (H1 _ (by rw [← e1, ← e2]; exact f))⟩) (fun e2 => N (fun k => e2 k.2))⟩) (fun e1 => N (fun k => e1 k.1))
theorem sm_oppR (Y : sm_Y F ct pa pb pc) (rot : ∀ x y z, F x y z → F y z x) (rg : ∀ x y z, F x y z → sm_V x) {a b : Int32} (H1 : ∀ z, F a b z → post z) (H2 : (∀ z, ¬ F a b z) → post (-1)) : wpY_opposite post (nI ct, pa, pb, pc) a b := by
  unfold wpY_opposite
  dsimp only
  exact ⟨ct + 1, sm_opp_lp Y rot rg H1 H2 ct 0 (by omega) (fun j hj => absurd hj (by omega))⟩
theorem sm_opp (Y : sm_Y F ct pa pb pc) (t : sm_T F) (rg : ∀ x y z, F x y z → sm_V x) {a b : Int32} (H1 : ∀ z, F a b z → post z) (H2 : (∀ z, ¬ F a b z) → post (-1)) : wpY_opposite post (nI ct, pa, pb, pc) a b := sm_oppR Y t.1 rg H1 H2
theorem sm_flips (Y : sm_Y F ct pa pb pc) (t : sm_T F) (rg : ∀ x y z, F x y z → sm_V x) {a b : Int32} (H1 : sm_CF F a b → post 1) (H0 : ¬ sm_CF F a b → post 0) : wpY_flips post (nI ct, pa, pb, pc) a b := by
  have no1 : (∀ z, ¬ F a b z) → ¬ sm_CF F a b := fun n ⟨c, d, k, _⟩ => n c k
  unfold wpY_flips
  dsimp only
  refine sm_opp Y t rg (fun c fc => ?_) (fun n => ?_)
  · refine sm_opp Y t rg (fun d fd => ?_) (fun n => ?_)
    · refine br_f (sm_V_pos (rg _ _ _ (t.1 _ _ _ (t.1 _ _ _ fc)))) (br_c (fun e => H0 ?_) (fun e => ?_))
      · rintro ⟨c', d', k1, k2, q, _⟩
        exact q ((t.2.2.1 _ _ _ _ k1 fc).trans (e.trans (t.2.2.1 _ _ _ _ fd k2)))
      · refine sm_opp Y t rg (fun z fz => br_t (Int32.not_lt.mp (sm_V_pos (rg _ _ _ (t.1 _ _ _ (t.1 _ _ _ fz))))) (H0 ?_)) (fun n => br_f (by decide) (H1 ⟨c, d, fc, fd, e, n⟩))
        rintro ⟨c', d', k1, k2, _, q⟩
        cases t.2.2.1 _ _ _ _ k1 fc
        cases t.2.2.1 _ _ _ _ k2 fd
        exact q _ fz
    · obtain ⟨w, hw⟩ := t.2.2.2.1 _ _ _ fc
      exact absurd hw (n w)
  · refine sm_opp Y t rg (fun d fd => ?_) (fun _ => br_t (by decide) (H0 (no1 n)))
    exact br_t (by decide) (H0 (no1 n))
end
end
section
section
variable {F : Int32 → Int32 → Int32 → Prop} {ct : Nat} {pa pb pc : Nat → Int32} {post : Int32 → Prop}
/-- triangle j has the corner a -/
def sm_on (pa pb pc : Nat → Int32) (a : Int32) (j : Nat) : Prop := pa j = a ∨ pb j = a ∨ pc j = a
theorem sm_j47a {J : Int32 → Int32 → Prop} {a s : Int32} {i : Nat} (H : J s (nI (i + 1))) : wY_joined_47 post J a s (nI i) 0 (nI ct) pa pb pc := by
  unfold wY_joined_47
  exact br_t rfl (nm_r (nI_1 i) H)
theorem sm_j42 {J : Int32 → Int32 → Prop} {a s : Int32} {i : Nat} (hi : i < 16) (H : J (((s ||| ((1 : Int32) <<< (pa i &&& 31))) ||| ((1 : Int32) <<< (pb i &&& 31))) ||| ((1 : Int32) <<< (pc i &&& 31))) (nI (i + 1))) : wY_joined_42 post J a s (nI i) (nI ct) pa pb pc := by
  unfold wY_joined_42 wY_joined_47
  rw [nI_clamp (by omega)]
  have hv : vp_in (nI i) 16 := vp_in_nI hi (by omega)
  exact br_f (by decide) ⟨hv, hv, hv, nm_e (nm_r (nI_1 i) H)⟩
theorem sm_yj_lp (Y : sm_Y F ct pa pb pc) (t : sm_T F) (rg : ∀ x y z, F x y z → sm_V x) {a : Int32} (H : ∀ s, sm_Mk s (fun k => ∃ j, j < ct ∧ sm_on pa pb pc a j ∧ sm_on pa pb pc (nI k) j) → ((s = 0 → post 0) ∧ (¬ s = 0 → post (s &&& (((1 : Int32) <<< (a &&& 31)) ^^^ (-1)))))) : ∀ d i s, i + d = ct → sm_Mk s (fun k => ∃ j, j < i ∧ sm_on pa pb pc a j ∧ sm_on pa pb pc (nI k) j) → wY_joined_4 post a (nI ct) pa pb pc (d + 1) s (nI i) := by
  have hc := Y.1
  intro d
  induction d with
  | zero =>
    intro i s hi K
    have e : i = ct := by omega
    subst e
    exact br_t (nI_le (Nat.le_refl _) (by omega)) (H s K)
  | succ d ih =>
    intro i s hi K
    have f := sm_Y_F Y (j := i) (by omega)
    have hv : vp_in (nI i) 16 := vp_in_nI (by omega) (by omega)
    have G : sm_on pa pb pc a i → wY_joined_42 post (wY_joined_4 post a (nI ct) pa pb pc (d + 1)) a s (nI i) (nI ct) pa pb pc := by
      intro on
      refine sm_j42 (by omega) (ih (i + 1) _ (by omega) ?_)
      refine sm_Mk_eq (sm_Mk_or3 K (rg _ _ _ f) (rg _ _ _ (t.1 _ _ _ f)) (rg _ _ _ (t.1 _ _ _ (t.1 _ _ _ f)))) (fun k hk => ⟨?_, ?_⟩)
      · rintro (⟨j, hj, e⟩ | e)
        · exact ⟨j, by omega, e⟩
        · refine ⟨i, by omega, on, ?_⟩
          rcases e with e | e | e
          · exact Or.inl e.symm
          · exact Or.inr (Or.inl e.symm)
          · exact Or.inr (Or.inr e.symm)
      · rintro ⟨j, hj, e1, e⟩
        by_cases q : j = i
        · rw [q] at e
          refine Or.inr ?_
          rcases e with e | e | e
          · exact Or.inl e.symm
          · exact Or.inr (Or.inl e.symm)
          · exact Or.inr (Or.inr e.symm)
        · exact Or.inl ⟨j, by omega, e1, e⟩
    have N : ¬ sm_on pa pb pc a i → wY_joined_47 post (wY_joined_4 post a (nI ct) pa pb pc (d + 1)) a s (nI i) 0 (nI ct) pa pb pc := by
      intro no
      refine sm_j47a (ih (i + 1) _ (by omega) (sm_Mk_eq K (fun k hk => ⟨?_, ?_⟩)))
      · rintro ⟨j, hj, e⟩
        exact ⟨j, by omega, e⟩
      · rintro ⟨j, hj, e1, e⟩
        by_cases q : j = i
        · rw [q] at e1
          exact absurd e1 no
        · exact ⟨j, by omega, e1, e⟩
    refine br_f (nI_ge (by omega) (by omega)) ⟨hv, ?_⟩
    rw [nI_clamp (by omega)]
    refine br_c (fun e1 => G (Or.inl e1)) (fun e1 => ⟨hv, br_c (fun e2 => G (Or.inr (Or.inl e2))) (fun e2 => ⟨hv, br_c (fun e3 => G (Or.inr (Or.inr e3))) (fun e3 => N ?_)⟩)⟩)
    rintro (e | e | e)
    · exact e1 e
    · exact e2 e
    · exact e3 e
theorem sm_yjoined (Y : sm_Y F ct pa pb pc) (t : sm_T F) (rg : ∀ x y z, F x y z → sm_V x) {a : Int32} (H : ∀ s, sm_Mk s (fun k => sm_E F a (nI k)) → post s) : wpY_joined post (nI ct, pa, pb, pc) a := by
  have t0 := t
  obtain ⟨rot, dis, unq, clo, thi, st, co⟩ := t
  have onF : ∀ x j, j < ct → sm_on pa pb pc x j → ∃ y z, F x y z ∧ sm_on pa pb pc y j ∧ sm_on pa pb pc z j ∧ ∀ w, sm_on pa pb pc w j → w = x ∨ w = y ∨ w = z := by
    intro x j hj on
    have f := sm_Y_F Y hj
    rcases on with rfl | rfl | rfl
    · refine ⟨_, _, f, Or.inr (Or.inl rfl), Or.inr (Or.inr rfl), ?_⟩
      rintro w (rfl | rfl | rfl)
      · exact Or.inl rfl
      · exact Or.inr (Or.inl rfl)
      · exact Or.inr (Or.inr rfl)
    · refine ⟨_, _, rot _ _ _ f, Or.inr (Or.inr rfl), Or.inl rfl, ?_⟩
      rintro w (rfl | rfl | rfl)
      · exact Or.inr (Or.inr rfl)
      · exact Or.inl rfl
      · exact Or.inr (Or.inl rfl)
    · refine ⟨_, _, rot _ _ _ (rot _ _ _ f), Or.inl rfl, Or.inr (Or.inl rfl), ?_⟩
      rintro w (rfl | rfl | rfl)
      · exact Or.inr (Or.inl rfl)
      · exact Or.inr (Or.inr rfl)
      · exact Or.inl rfl
  have Fon : ∀ x y z, F x y z → ∃ j, j < ct ∧ sm_on pa pb pc x j ∧ sm_on pa pb pc y j := by
    intro x y z f
    obtain ⟨j, hj, r⟩ := (Y.2.1 _ _ _).mp f
    rcases r with ⟨rfl, rfl, rfl⟩ | ⟨rfl, rfl, rfl⟩ | ⟨rfl, rfl, rfl⟩
    · exact ⟨j, hj, Or.inl rfl, Or.inr (Or.inl rfl)⟩
    · exact ⟨j, hj, Or.inr (Or.inl rfl), Or.inr (Or.inr rfl)⟩
    · exact ⟨j, hj, Or.inr (Or.inr rfl), Or.inl rfl⟩
  unfold wpY_joined
  dsimp only
  refine ⟨ct + 1, sm_yj_lp Y t0 rg (fun s hs => br_c (fun e => ?_) (fun e => ?_)) ct 0 0 (by omega) (sm_Mk_eq sm_Mk_0 (fun i _ => ⟨fun z => z.elim, fun ⟨j, hj, _⟩ => absurd hj (by omega)⟩))⟩
  · subst e
    refine H 0 (sm_Mk_eq hs (fun k hk => ⟨fun h => ?_, fun ⟨z, f⟩ => Fon _ _ _ f⟩))
    exact absurd ((hs k hk).mpr h) (by rw [b_0]; decide)
  · have ex : ∃ k, k < 32 ∧ bt s k = true := by
      by_cases q : ∃ k, k < 32 ∧ bt s k = true
      · exact q
      · refine absurd (b_ext (fun i hi => ?_)) e
        rw [b_0]
        cases z : bt s i
        · rfl
        · exact absurd ⟨i, hi, z⟩ q
    obtain ⟨k0, hk0, b0⟩ := ex
    obtain ⟨j0, hj0, on0, _⟩ := (hs k0 hk0).mp b0
    obtain ⟨y0, z0, f0, _⟩ := onF a j0 hj0 on0
    obtain ⟨l, hl, el⟩ := rg _ _ _ f0
    have hm := sm_Mk_clr hs (k := l) (by omega)
    rw [el]
    rw [el] at hm H
    refine H _ (sm_Mk_eq hm (fun k hk => ⟨?_, ?_⟩))
    · rintro ⟨⟨j, hj, o1, o2⟩, n⟩
      obtain ⟨y, z, f, _, _, all⟩ := onF _ j hj o1
      rcases all _ o2 with q | q | q
      · rw [nI_eq (by omega) (by omega)] at q
        exact absurd q n
      · rw [q]; exact ⟨_, f⟩
      · rw [q]
        obtain ⟨w, hw⟩ := clo _ _ _ (rot _ _ _ (rot _ _ _ f))
        exact ⟨w, hw⟩
    · rintro ⟨z, f⟩
      refine ⟨Fon _ _ _ f, ?_⟩
      intro q
      rw [q] at f
      exact dis _ _ _ f rfl
theorem sm_colls (Y : sm_Y F ct pa pb pc) (t : sm_T F) (rg : ∀ x y z, F x y z → sm_V x) {a b : Int32} (H1 : sm_CC F a b → post 1) (H0 : ¬ sm_CC F a b → post 0) : wpY_collapses post (nI ct, pa, pb, pc) a b := by
  unfold wpY_collapses
  dsimp only
  refine sm_verts Y t rg (fun vs mk => sm_opp Y t rg (fun c f => ?_) (fun n => br_t (by decide) (H0 (fun q => q.1.elim n))))
  refine br_f (sm_V_pos (rg _ _ _ (t.1 _ _ _ (t.1 _ _ _ f)))) (sm_size ?_)
  have c10 := sm_cnt_le (bt vs) 10
  refine pk_le (sm_cnt (bt vs) 10) 4 (fun q => H0 ?_) (fun q => ?_)
  · rintro ⟨_, ⟨s', h', q'⟩, _⟩
    rw [← sm_Mk_ext mk h'] at q'
    omega
  · refine sm_yjoined Y t rg (fun s hs => sm_yjoined Y t rg (fun r hr => sm_size ?_))
    have hm := sm_Mk_and hs hr
    have d10 := sm_cnt_le (bt (s &&& r)) 10
    refine pk_lt 2 (sm_cnt (bt (s &&& r)) 10) (fun w => H0 ?_) (fun w => H1 ⟨⟨_, f⟩, ⟨vs, mk, q⟩, ⟨_, hm, w⟩⟩)
    rintro ⟨_, _, ⟨s', h', q'⟩⟩
    rw [← sm_Mk_ext hm h'] at q'
    omega
end
section
variable {F : Int32 → Int32 → Int32 → Prop} {ct : Nat} {pa pb pc : Nat → Int32} {post : SY → Prop}
theorem sm_put (Y : sm_Y F ct pa pb pc) (hc : ct < 16) (rot : ∀ x y z, F x y z → F y z x) {a b c : Int32} (nf : ¬ F a b c) (H : ∀ qa qb qc, sm_Y (sm_ins F a b c) (ct + 1) qa qb qc → post (nI (ct + 1), qa, qb, qc)) : wpY_put post (nI ct, pa, pb, pc) a b c := by
  unfold wpY_put
  dsimp only
  have hv : vp_in (nI ct) 16 := vp_in_nI hc (by omega)
  refine ⟨hv, nm_e ⟨hv, nm_e ⟨hv, nm_e (nm_r (nI_1 ct) (H _ _ _ ⟨hc, ?_⟩))⟩⟩⟩
  rw [nI_clamp (by omega)]
  refine sm_rep_ins (i := ct) Y.2 (Nat.lt_irrefl ct) nf rot ?_ ?_ ?_
  · rw [pk_us, pk_us, pk_us]; exact sm_R0 _ _ _
  · intro j hj
    exact ⟨pk_un hj, pk_un hj, pk_un hj⟩
  · intro j
    show j < ct + 1 ↔ j < ct ∨ j = ct
    omega
theorem sm_take {n : Nat} (Y : sm_Y F (n + 1) pa pb pc) {a b c : Int32} (f : F a b c) (H : ∀ qa qb qc, sm_Y (sm_del F a b c) n qa qb qc → post (nI n, qa, qb, qc)) : wpY_takeOut post (nI (n + 1), pa, pb, pc) a b c := by
  have hc := Y.1
  unfold wpY_takeOut
  dsimp only
  refine sm_yfind Y.1 (fun i hi r => ?_) (fun no => ?_)
  · refine br_f (nI_pos (by omega)) (nm_r (e' := nI n) (pk_sub (a := n + 1) (b := 1) (by omega)) ?_)
    rw [nI_clamp (n := n) (by omega), nI_clamp (n := i) (by omega)]
    have hn : vp_in (nI n) 16 := vp_in_nI (by omega) (by omega)
    have hv : vp_in (nI i) 16 := vp_in_nI (by omega) (by omega)
    refine ⟨hn, hv, nm_e ⟨hn, hv, nm_e ⟨hn, hv, nm_e (H _ _ _ ⟨by omega, ?_⟩)⟩⟩⟩
    exact sm_rep_take Y.2 hi r (fun j => ⟨rfl, rfl, rfl⟩)
  · obtain ⟨i, hi, r⟩ := (Y.2.1 _ _ _).mp f
    exact absurd r (no i hi)
end
end
section
/-! the relation, and the calls that only look -/
def sm_rel (F : Int32 → Int32 → Int32 → Prop) (vs fs : Int32) (fr ag ot : Nat → Int32) (ct : Nat) (pa pb pc : Nat → Int32) : Prop := sm_X F vs fs fr ag ot ∧ sm_Y F ct pa pb pc ∧ sm_cnt (bt fs) 16 = ct ∧ ct + 4 = 2 * sm_cnt (bt vs) 10
/-- one surface F that both sides hold; as many triangles on both sides; twice the vertices less four -/
def i_Rel (_ : Nat) (u : SX) (v : SY) : Prop := ∃ F vs fs fr ag ot ct pa pb pc, sm_rel F vs fs fr ag ot ct pa pb pc ∧ u = (vs, fs, fr, ag, ot) ∧ v = (nI ct, pa, pb, pc)
theorem i_up {k : Nat} {u : SX} {v : SY} (h : i_Rel k u v) : i_Rel (k + 4) u v := h
theorem i_vc_vertices {k : Nat} {u : SX} {v : SY} (I : i_Rel k u v) (hk : k + 4 ≤ 2048) : wpX_vertices (fun r => wpY_vertices (fun r' => r' = r ∧ i_Rel (k + 4) u v) v) u := by
  have J := i_up I
  obtain ⟨F, vs, fs, fr, ag, ot, ct, pa, pb, pc, ⟨X, Y, c1, c2⟩, rfl, rfl⟩ := I
  unfold wpX_vertices
  dsimp only
  exact sm_verts Y X.1 X.2.1 (fun s hs => ⟨sm_Mk_ext hs X.2.2.1, J⟩)
theorem i_vc_faces {k : Nat} {u : SX} {v : SY} (I : i_Rel k u v) (hk : k + 4 ≤ 2048) : wpX_faces (fun r => wpY_faces (fun r' => r' = r ∧ i_Rel (k + 4) u v) v) u := by
  have J := i_up I
  obtain ⟨F, vs, fs, fr, ag, ot, ct, pa, pb, pc, ⟨X, Y, c1, c2⟩, rfl, rfl⟩ := I
  unfold wpX_faces
  dsimp only
  refine sm_ones ?_
  unfold wpY_faces
  dsimp only
  exact ⟨by rw [c1], J⟩
theorem i_vc_isFace {k : Nat} {u : SX} {v : SY} (I : i_Rel k u v) (hk : k + 4 ≤ 2048) (v1 : Int32) (v2 : Int32) (v3 : Int32) : wpX_isFace (fun r => wpY_isFace (fun r' => r' = r ∧ i_Rel (k + 4) u v) v v1 v2 v3) u v1 v2 v3 := by
  have J := i_up I
  obtain ⟨F, vs, fs, fr, ag, ot, ct, pa, pb, pc, ⟨X, Y, c1, c2⟩, rfl, rfl⟩ := I
  unfold wpX_isFace
  dsimp only
  refine sm_find X (fun h u1 e1 e2 => br_f (nI_pos (by have := sm_lt48 u1; omega)) (sm_third (sm_lt48 u1) ?_)) (fun no => br_t (by decide) ?_)
  · have f := sm_RX_F X.2.2.2.1 u1
    rw [e1, e2] at f
    refine br_c (fun e => ?_) (fun e => ?_)
    · rw [e] at f
      exact sm_yisF Y (fun _ => ⟨rfl, J⟩) (fun n => absurd f n)
    · exact sm_yisF Y (fun g => absurd (X.1.2.2.1 _ _ _ _ f g) e) (fun n => ⟨rfl, J⟩)
  · exact sm_yisF Y (fun g => absurd g (no _)) (fun n => ⟨rfl, J⟩)
theorem i_vc_joined {k : Nat} {u : SX} {v : SY} (I : i_Rel k u v) (hk : k + 4 ≤ 2048) (v1 : Int32) : wpX_joined (fun r => wpY_joined (fun r' => r' = r ∧ i_Rel (k + 4) u v) v v1) u v1 := by
  have J := i_up I
  obtain ⟨F, vs, fs, fr, ag, ot, ct, pa, pb, pc, ⟨X, Y, c1, c2⟩, rfl, rfl⟩ := I
  exact sm_joined X (fun s hs => sm_yjoined Y X.1 X.2.1 (fun r hr => ⟨sm_Mk_ext hr hs, J⟩))
theorem i_vc_opposite {k : Nat} {u : SX} {v : SY} (I : i_Rel k u v) (hk : k + 4 ≤ 2048) (v1 : Int32) (v2 : Int32) : wpX_opposite (fun r => wpY_opposite (fun r' => r' = r ∧ i_Rel (k + 4) u v) v v1 v2) u v1 v2 := by
  have J := i_up I
  obtain ⟨F, vs, fs, fr, ag, ot, ct, pa, pb, pc, ⟨X, Y, c1, c2⟩, rfl, rfl⟩ := I
  unfold wpX_opposite
  dsimp only
  refine sm_find X (fun h u1 e1 e2 => br_t (nI_pos' (by have := sm_lt48 u1; omega)) (sm_third (sm_lt48 u1) ?_)) (fun no => br_f (by decide) ?_)
  · have f := sm_RX_F X.2.2.2.1 u1
    rw [e1, e2] at f
    exact sm_opp Y X.1 X.2.1 (fun z g => ⟨X.1.2.2.1 _ _ _ _ g f, J⟩) (fun n => absurd f (n _))
  · exact sm_opp Y X.1 X.2.1 (fun z g => absurd g (no z)) (fun _ => ⟨rfl, J⟩)
section
variable {F : Int32 → Int32 → Int32 → Prop} {vs fs : Int32} {fr ag ot : Nat → Int32} {ct : Nat} {pa pb pc : Nat → Int32}
/-- forward about a -/
theorem sm_ar1 (X : sm_X F vs fs fr ag ot) (Y : sm_Y F ct pa pb pc) {m : Nat} (hm : m ≤ 20) : ∀ d i h, i + d = m → sm_Fs fs (h / 3) → ∃ r : Int32, (∀ post : Int32 → Prop, post r → wX_around_30 post (nI m) vs fs fr ag ot (d + 1) (nI h) (nI i)) ∧ (∀ post : Int32 → Prop, post r → wY_around_29 post (fr h) (nI m) (nI ct) pa pb pc (d + 1) (fr (sm_nx h)) (nI i)) := by
  intro d
  induction d with
  | zero =>
    intro i h e u
    have e : i = m := by omega
    subst e
    have z : -nI i ≤ 0 := (sb_nle (b := 0) (by omega) (by omega)).mpr (by omega)
    refine ⟨fr (sm_nx h), fun post H => ?_, fun post H => ?_⟩
    · exact br_t (nI_le (Nat.le_refl _) (by omega)) ⟨1, br_t z (sm_to (sm_lt48 u) H)⟩
    · exact br_t (nI_le (Nat.le_refl _) (by omega)) ⟨1, br_t (nI_pos' (by omega)) H⟩
  | succ d ih =>
    intro i h e u
    obtain ⟨s1, s2, s3, s4⟩ := sm_stp_ok X u
    have l1 := sm_lt48 u
    have l2 := sm_bf_lt l1
    have f := sm_RX_F X.2.2.2.1 u
    obtain ⟨r, hX, hY⟩ := ih (i + 1) (sm_stp ag h) (by omega) s2
    rw [s3, s4] at hY
    refine ⟨r, fun post H => ?_, fun post H => ?_⟩
    · refine br_f (nI_ge (by omega) (by omega)) (sm_before l1 ⟨vp_in_nI l2 (by omega), ?_⟩)
      exact nm_r (e' := nI (sm_stp ag h)) (by rw [nI_clamp (by omega)]; exact s1) (nm_r (nI_1 i) (hX post H))
    · refine br_f (nI_ge (by omega) (by omega)) (sm_opp Y X.1 X.2.1 (fun z g => nm_r (nI_1 i) ?_) (fun n => absurd f (n _)))
      rw [X.1.2.2.1 _ _ _ _ g f]
      exact hY post H
/-- backward about a -/
theorem sm_ar2 (X : sm_X F vs fs fr ag ot) (Y : sm_Y F ct pa pb pc) {m : Nat} (hm : m ≤ 20) : ∀ d i h, i + d = m → sm_Fs fs (h / 3) → ∃ r : Int32, (∀ post : Int32 → Prop, post r → wX_around_61 post (-nI m) vs fs fr ag ot (d + 1) (nI h) (nI i)) ∧ (∀ post : Int32 → Prop, post r → wY_around_53 post (fr h) (-nI m) (nI ct) pa pb pc (d + 1) (fr (sm_nx h)) (-nI i)) := by
  have nn : - -nI m = nI m := Int32.neg_neg
  intro d
  induction d with
  | zero =>
    intro i h e u
    have e : i = m := by omega
    subst e
    refine ⟨fr (sm_nx h), fun post H => ?_, fun post H => ?_⟩
    · exact br_t (by rw [nn]; exact nI_le (Nat.le_refl _) (by omega)) (sm_to (sm_lt48 u) H)
    · exact br_t ((sb_nle (by omega) (by omega)).mpr (Nat.le_refl _)) H
  | succ d ih =>
    intro i h e u
    have l1 := sm_lt48 u
    obtain ⟨g, eg, hg, ig, e1, e2⟩ := X.2.2.2.2.1 h u
    have f := sm_RX_F X.2.2.2.1 ig
    have l2 := sm_nx_lt hg
    rw [e1, e2] at f
    obtain ⟨r, hX, hY⟩ := ih (i + 1) (sm_nx g) (by omega) (by rw [sm_nx_d]; exact ig)
    rw [sm_nx_nx, e2] at hY
    refine ⟨r, fun post H => ?_, fun post H => ?_⟩
    · refine br_f (by rw [nn]; exact nI_ge (by omega) (by omega)) ⟨vp_in_nI l1 (by omega), ?_⟩
      refine nm_r (e' := nI g) (by rw [nI_clamp (by omega)]; exact eg) (sm_next hg (nm_r (nI_1 i) (hX post H)))
    · refine br_f (fun q => ?_) (sm_opp Y X.1 X.2.1 (fun z k => nm_r (e' := -nI (i + 1)) ?_ ?_) (fun n => absurd f (n _)))
      · have := (sb_nle (by omega) (by omega)).mp q
        omega
      · rw [← nI_1, Int32.neg_add, Int32.sub_eq_add_neg]
      · rw [X.1.2.2.1 _ _ _ _ k f]
        exact hY post H
end
theorem sm_k20 {x : Int32} (h1 : ¬ x < -20) (h2 : x ≤ 20) : (∃ m, m ≤ 20 ∧ x = nI m) ∨ (∃ m, m ≤ 20 ∧ 0 < m ∧ x = -nI m) := by
  by_cases h : x < 0
  · refine Or.inr ?_
    have a1 : ¬ x.toInt < (-20 : Int32).toInt := fun z => h1 (Int32.lt_iff_toInt_lt.mpr z)
    have a2 : x.toInt < (0 : Int32).toInt := Int32.lt_iff_toInt_lt.mp h
    have b1 : (-20 : Int32).toInt = -20 := by decide
    have b2 : (0 : Int32).toInt = 0 := by decide
    rw [b1] at a1
    rw [b2] at a2
    refine ⟨(-x.toInt).toNat, by omega, by omega, ?_⟩
    apply Int32.toInt_inj.mp
    rw [sb_negT (by omega)]
    omega
  · obtain ⟨j, hj, e⟩ := nI_of2 (n := 20) (by decide) h h2
    exact Or.inl ⟨j, hj, e⟩
theorem i_vc_around {k : Nat} {u : SX} {v : SY} (I : i_Rel k u v) (hk : k + 4 ≤ 2048) (v1 : Int32) (v2 : Int32) (v3 : Int32) : wpX_around (fun r => wpY_around (fun r' => r' = r ∧ i_Rel (k + 4) u v) v v1 v2 v3) u v1 v2 v3 := by
  have J := i_up I
  obtain ⟨F, vs, fs, fr, ag, ot, ct, pa, pb, pc, ⟨X, Y, c1, c2⟩, rfl, rfl⟩ := I
  unfold wpX_around
  dsimp only
  refine sm_find X (fun h u1 e1 e2 => br_f (nI_pos (by have := sm_lt48 u1; omega)) ?_) (fun no => br_t (by decide) ?_)
  · have f := sm_RX_F X.2.2.2.1 u1
    rw [e1, e2] at f
    have YY : ∀ post : Int32 → Prop, ((v3 < (-20) → post (-1)) ∧ (¬ v3 < (-20) → ((v3 ≤ 20 → (∃ n29 : Nat, wY_around_29 post v1 v3 (nI ct) pa pb pc n29 v2 0)) ∧ (¬ v3 ≤ 20 → post (-1))))) → wpY_around post (nI ct, pa, pb, pc) v1 v2 v3 := by
      intro post H
      unfold wpY_around
      dsimp only
      exact sm_opp Y X.1 X.2.1 (fun z g => br_f (sm_V_pos (X.2.1 _ _ _ (X.1.1 _ _ _ (X.1.1 _ _ _ g)))) H) (fun n => absurd f (n _))
    refine br_c (fun q => YY _ (br_t q ⟨rfl, J⟩)) (fun q => br_c (fun q2 => ?_) (fun q2 => YY _ (br_f q (br_f q2 ⟨rfl, J⟩))))
    rcases sm_k20 q q2 with ⟨m, hm, rfl⟩ | ⟨m, hm, m0, rfl⟩
    · obtain ⟨r, hX, hY⟩ := sm_ar1 X Y hm m 0 h (by omega) u1
      rw [e1, e2] at hY
      exact ⟨m + 1, hX _ (YY _ (br_f q (br_t q2 ⟨m + 1, hY _ ⟨rfl, J⟩⟩)))⟩
    · obtain ⟨r, hX, hY⟩ := sm_ar2 X Y hm m 0 h (by omega) u1
      rw [e1, e2] at hY
      have z : -nI m ≤ 0 := (sb_nle (b := 0) (by omega) (by omega)).mpr (by omega)
      exact ⟨1, br_t z ⟨m + 1, hX _ (YY _ (br_f q (br_t q2 ⟨1, br_t z ⟨m + 1, hY _ ⟨rfl, J⟩⟩⟩)))⟩⟩
  · unfold wpY_around
    dsimp only
    exact sm_opp Y X.1 X.2.1 (fun z g => absurd g (no z)) (fun _ => br_t (by decide) ⟨rfl, J⟩)
end
section
/-! distance -/
def sm_wd (J : Nat → Int32) (r : Int32) : Nat → Int32
  | 0 => r
  | k + 1 => if bt r k = true then sm_wd J r k ||| J k else sm_wd J r k
theorem sm_Jex (F : Int32 → Int32 → Int32 → Prop) : ∃ J : Nat → Int32, ∀ v, sm_Mk (J v) (fun k => sm_E F (nI v) (nI k)) := by
  have ex : ∀ v, ∃ s, sm_Mk s (fun k => sm_E F (nI v) (nI k)) := by
    intro v
    obtain ⟨s, hs⟩ := sm_Mk_ex (fun k => sm_E F (nI v) (nI k)) 32 (Nat.le_refl _)
    exact ⟨s, sm_Mk_eq hs (fun i hi => ⟨fun h => h.2, fun h => ⟨hi, h⟩⟩)⟩
  exact ⟨fun v => Classical.choose (ex v), fun v => Classical.choose_spec (ex v)⟩
section
variable {F : Int32 → Int32 → Int32 → Prop} {vs fs : Int32} {fr ag ot : Nat → Int32} {ct : Nat} {pa pb pc : Nat → Int32}
theorem sm_dX (X : sm_X F vs fs fr ag ot) {J : Nat → Int32} (hJ : ∀ v, sm_Mk (J v) (fun k => sm_E F (nI v) (nI k))) {post : Int32 → Prop} {b r : Int32} (hr : ∀ i, i < 32 → bt r i = true → sm_Vt F (nI i)) {JJ : Int32 → Int32 → Prop} {n : Nat} (H : JJ (sm_wd J r 10) (nI (n + 1))) : ∀ d i, i + d = 10 → wX_distance_46 post JJ b r (nI n) vs fs fr ag ot (d + 1) (sm_wd J r i) (nI i) := by
  intro d
  induction d with
  | zero =>
    intro i hi
    have e : i = 10 := by omega
    subst e
    exact br_t (nI_le (a := 10) (by omega) (by omega)) (nm_r (nI_1 n) H)
  | succ d ih =>
    intro i hi
    refine br_f (nI_ge (b := 10) (by omega) (by omega)) ?_
    rw [sm_bit0 r (by omega)]
    have hw : sm_wd J r (i + 1) = if bt r i = true then sm_wd J r i ||| J i else sm_wd J r i := rfl
    refine br_c (fun e => nm_r (e' := sm_wd J r (i + 1)) ?_ (nm_r (nI_1 i) (ih (i + 1) (by omega)))) (fun e => ?_)
    · rw [hw, e, if_neg (by decide), Int32.or_zero]
    · have e : bt r i = true := by
        cases z : bt r i
        · exact absurd z e
        · rfl
      refine sm_joinedTo X (hr i (by omega) e) (fun s hs => nm_r (e' := sm_wd J r (i + 1)) ?_ (nm_r (nI_1 i) (ih (i + 1) (by omega))))
      rw [hw, if_pos e, sm_Mk_ext hs (hJ i)]
theorem sm_dY (Y : sm_Y F ct pa pb pc) (t : sm_T F) (rg : ∀ x y z, F x y z → sm_V x) {J : Nat → Int32} (hJ : ∀ v, sm_Mk (J v) (fun k => sm_E F (nI v) (nI k))) {post : Int32 → Prop} {b r : Int32} {JJ : Int32 → Int32 → Prop} {n : Nat} (H : JJ (sm_wd J r 10) (nI (n + 1))) : ∀ d i, i + d = 10 → wY_distance_74 post JJ b r (nI n) (nI ct) pa pb pc (d + 1) (sm_wd J r i) (nI i) := by
  intro d
  induction d with
  | zero =>
    intro i hi
    have e : i = 10 := by omega
    subst e
    exact br_t (nI_le (a := 10) (by omega) (by omega)) (nm_r (nI_1 n) H)
  | succ d ih =>
    intro i hi
    refine br_f (nI_ge (b := 10) (by omega) (by omega)) ?_
    rw [sm_bit1 r (by omega)]
    have hw : sm_wd J r (i + 1) = if bt r i = true then sm_wd J r i ||| J i else sm_wd J r i := rfl
    have K := ih (i + 1) (by omega)
    refine br_c (fun e => ?_) (fun e => ?_)
    · refine sm_yjoined Y t rg (fun s hs => nm_r (e' := sm_wd J r (i + 1)) ?_ (nm_r (nI_1 i) K))
      rw [hw, if_pos e, sm_Mk_ext hs (hJ i)]
    · rw [hw, if_neg e] at K
      exact nm_r (nI_1 i) K
theorem sm_wd_V (t : sm_T F) {J : Nat → Int32} (hJ : ∀ v, sm_Mk (J v) (fun k => sm_E F (nI v) (nI k))) {r : Int32} (hr : ∀ i, i < 32 → bt r i = true → sm_Vt F (nI i)) : ∀ k i, i < 32 → bt (sm_wd J r k) i = true → sm_Vt F (nI i) := by
  intro k
  induction k with
  | zero => exact hr
  | succ k ih =>
    intro i hi h
    have hw : sm_wd J r (k + 1) = if bt r k = true then sm_wd J r k ||| J k else sm_wd J r k := rfl
    rw [hw] at h
    by_cases e : bt r k = true
    · rw [if_pos e, b_or, Bool.or_eq_true] at h
      rcases h with h | h
      · exact ih i hi h
      · obtain ⟨z, f⟩ := (hJ k i hi).mp h
        exact ⟨_, _, t.1 _ _ _ f⟩
    · rw [if_neg e] at h
      exact ih i hi h
theorem sm_dist (X : sm_X F vs fs fr ag ot) (Y : sm_Y F ct pa pb pc) {J : Nat → Int32} (hJ : ∀ v, sm_Mk (J v) (fun k => sm_E F (nI v) (nI k))) {b : Int32} : ∀ d n r, n + d = 10 → (∀ i, i < 32 → bt r i = true → sm_Vt F (nI i)) → ∃ q : Int32, (∀ post : Int32 → Prop, post q → wX_distance_25 post b vs fs fr ag ot (d + 1) r (nI n)) ∧ (∀ post : Int32 → Prop, post q → wY_distance_51 post b (nI ct) pa pb pc (d + 1) r (nI n)) := by
  intro d
  induction d with
  | zero =>
    intro n r hn hr
    have e : n = 10 := by omega
    subst e
    have z : (10 : Int32) ≤ nI 10 := nI_le (a := 10) (by omega) (by omega)
    exact ⟨nI 10, fun post H => br_t z H, fun post H => br_t z H⟩
  | succ d ih =>
    intro n r hn hr
    have z : ¬ (10 : Int32) ≤ nI n := nI_ge (b := 10) (by omega) (by omega)
    by_cases e : ((r >>> (b &&& 31)) &&& 1) = 0
    · obtain ⟨q, hX, hY⟩ := ih (n + 1) (sm_wd J r 10) (by omega) (sm_wd_V X.1 hJ hr 10)
      refine ⟨q, fun post H => br_f z (br_t e ⟨11, ?_⟩), fun post H => br_f z (br_t e ⟨11, ?_⟩)⟩
      · exact sm_dX X hJ hr (hX post H) 10 0 rfl
      · exact sm_dY Y X.1 X.2.1 hJ (hY post H) 10 0 rfl
    · exact ⟨nI n, fun post H => br_f z (br_f e H), fun post H => br_f z (br_f e H)⟩
theorem sm_ydist (Y : sm_Y F ct pa pb pc) (t : sm_T F) (rg : ∀ x y z, F x y z → sm_V x) {post : Int32 → Prop} {a b : Int32} (H0 : ¬ (sm_Vt F a ∧ sm_Vt F b) → post (-1)) (H1 : sm_Vt F a → sm_Vt F b → ∃ n51, wY_distance_51 post b (nI ct) pa pb pc n51 ((1 : Int32) <<< (a &&& 31)) 0) : wpY_distance post (nI ct, pa, pb, pc) a b := by
  unfold wpY_distance
  dsimp only
  have rv : ∀ x, sm_Vt F x → sm_V x := fun x ⟨y, z, f⟩ => rg _ _ _ f
  have ten : ∀ x : Int32, 9 < x → 10 ≤ x := by
    intro x h
    rw [Int32.lt_iff_toInt_lt] at h
    rw [Int32.le_iff_toInt_le]
    have b1 : (9 : Int32).toInt = 9 := by decide
    have b2 : (10 : Int32).toInt = 10 := by decide
    rw [b1] at h
    rw [b2]
    omega
  have nine : ∀ x : Int32, ¬ 9 < x → ¬ 10 ≤ x := by
    intro x h k
    rw [Int32.le_iff_toInt_le] at k
    rw [Int32.lt_iff_toInt_lt] at h
    have b1 : (9 : Int32).toInt = 9 := by decide
    have b2 : (10 : Int32).toInt = 10 := by decide
    rw [b1] at h
    rw [b2] at k
    omega
  refine sm_verts Y t rg (fun s mk => ?_)
  refine br_c (fun h => H0 (fun v => sm_V_pos (rv _ v.1) h)) (fun h1 => ?_)
  refine br_c (fun h => H0 (fun v => sm_V_10 (rv _ v.1) (ten _ h))) (fun h2 => ?_)
  refine br_c (fun h => H0 (fun v => sm_V_pos (rv _ v.2) h)) (fun h3 => ?_)
  refine br_c (fun h => H0 (fun v => sm_V_10 (rv _ v.2) (ten _ h))) (fun h4 => ?_)
  obtain ⟨i, hi, rfl⟩ := sm_V_of h1 (nine _ h2)
  obtain ⟨j, hj, rfl⟩ := sm_V_of h3 (nine _ h4)
  rw [sm_bit0 s (by omega), sm_bit0 s (by omega)]
  have no : ∀ i, i < 32 → bt s i = false → ¬ sm_Vt F (nI i) := by
    intro i hi e v
    rw [(mk i hi).mpr v] at e
    cases e
  have ye : ∀ i, i < 32 → ¬ bt s i = false → sm_Vt F (nI i) := by
    intro i hi e
    apply (mk i hi).mp
    cases z : bt s i
    · exact absurd z e
    · rfl
  refine br_c (fun h => H0 (fun v => no i (by omega) h v.1)) (fun h5 => ?_)
  refine br_c (fun h => H0 (fun v => no j (by omega) h v.2)) (fun h6 => ?_)
  exact nm_e (H1 (ye i (by omega) h5) (ye j (by omega) h6))
end
theorem i_vc_distance {k : Nat} {u : SX} {v : SY} (I : i_Rel k u v) (hk : k + 4 ≤ 2048) (v1 : Int32) (v2 : Int32) : wpX_distance (fun r => wpY_distance (fun r' => r' = r ∧ i_Rel (k + 4) u v) v v1 v2) u v1 v2 := by
  have Jr := i_up I
  obtain ⟨F, vs, fs, fr, ag, ot, ct, pa, pb, pc, ⟨X, Y, c1, c2⟩, rfl, rfl⟩ := I
  obtain ⟨J, hJ⟩ := sm_Jex F
  unfold wpX_distance
  dsimp only
  refine sm_isV X (fun va => br_f (by decide) ?_) (fun na => br_t rfl (sm_ydist Y X.1 X.2.1 (fun _ => ⟨rfl, Jr⟩) (fun q => absurd q na)))
  refine sm_isV X (fun vb => br_f (by decide) (nm_e ?_)) (fun nb => br_t rfl (sm_ydist Y X.1 X.2.1 (fun _ => ⟨rfl, Jr⟩) (fun _ q => absurd q nb)))
  have hr : ∀ i, i < 32 → bt ((1 : Int32) <<< (v1 &&& 31)) i = true → sm_Vt F (nI i) := by
    intro i hi h
    obtain ⟨y, z, f⟩ := va
    obtain ⟨l, hl, el⟩ := X.2.1 _ _ _ f
    rw [el, sm_sh (by omega) hi, decide_eq_true_eq] at h
    rw [h, ← el]
    exact ⟨_, _, f⟩
  obtain ⟨q, hX, hY⟩ := sm_dist X Y hJ (b := v2) 10 0 _ rfl hr
  exact ⟨11, hX _ (sm_ydist Y X.1 X.2.1 (fun n => absurd ⟨va, vb⟩ n) (fun _ _ => ⟨11, hY _ ⟨rfl, Jr⟩⟩))⟩
section
variable {F : Int32 → Int32 → Int32 → Prop} {vs fs : Int32} {fr ag ot : Nat → Int32} {ct : Nat} {pa pb pc : Nat → Int32}
theorem sm_deg (X : sm_X F vs fs fr ag ot) (Y : sm_Y F ct pa pb pc) {J : Nat → Int32} (hJ : ∀ v, sm_Mk (J v) (fun k => sm_E F (nI v) (nI k))) {n s : Int32} (mk : sm_Mk s (fun k => sm_Vt F (nI k))) : ∀ d i c, i + d = 10 → ∃ q : Int32, (∀ post : Int32 → Prop, post q → wX_ofDegree_4 post n vs fs fr ag ot (d + 1) c (nI i)) ∧ (∀ post : Int32 → Prop, post q → wY_ofDegree_10 post n s (nI ct) pa pb pc (d + 1) c (nI i)) := by
  intro d
  induction d with
  | zero =>
    intro i c hi
    have e : i = 10 := by omega
    subst e
    have z : (10 : Int32) ≤ nI 10 := nI_le (a := 10) (by omega) (by omega)
    exact ⟨c, fun post H => br_t z H, fun post H => br_t z H⟩
  | succ d ih =>
    intro i c hi
    have z : ¬ (10 : Int32) ≤ nI i := nI_ge (b := 10) (by omega) (by omega)
    by_cases va : sm_Vt F (nI i)
    · by_cases e : nI (sm_cnt (bt (J i)) 10) = n
      · obtain ⟨q, hX, hY⟩ := ih (i + 1) (c + 1) (by omega)
        refine ⟨q, fun post H => br_f z ?_, fun post H => br_f z ?_⟩
        · refine sm_joined X (fun r hr => sm_isV X (fun _ => br_f (by decide) (sm_ones ?_)) (fun na => absurd va na))
          rw [sm_Mk_E X.1 X.2.1 hr, sm_Mk_ext hr (hJ i)]
          exact br_t e (nm_e (nm_r (nI_1 i) (hX post H)))
        · rw [sm_bit1 s (by omega)]
          refine br_t ((mk i (by omega)).mpr va) (sm_yjoined Y X.1 X.2.1 (fun r hr => sm_size ?_))
          rw [sm_Mk_ext hr (hJ i)]
          exact br_t e (nm_e (nm_r (nI_1 i) (hY post H)))
      · obtain ⟨q, hX, hY⟩ := ih (i + 1) c (by omega)
        refine ⟨q, fun post H => br_f z ?_, fun post H => br_f z ?_⟩
        · refine sm_joined X (fun r hr => sm_isV X (fun _ => br_f (by decide) (sm_ones ?_)) (fun na => absurd va na))
          rw [sm_Mk_E X.1 X.2.1 hr, sm_Mk_ext hr (hJ i)]
          exact br_f e (nm_r (Int32.add_zero c) (nm_r (nI_1 i) (hX post H)))
        · rw [sm_bit1 s (by omega)]
          refine br_t ((mk i (by omega)).mpr va) (sm_yjoined Y X.1 X.2.1 (fun r hr => sm_size ?_))
          rw [sm_Mk_ext hr (hJ i)]
          exact br_f e (nm_r (nI_1 i) (hY post H))
    · obtain ⟨q, hX, hY⟩ := ih (i + 1) c (by omega)
      refine ⟨q, fun post H => br_f z ?_, fun post H => br_f z ?_⟩
      · refine sm_joined X (fun r hr => sm_isV X (fun v => absurd v va) (fun na => br_t rfl (nm_r (Int32.add_zero c) (nm_r (nI_1 i) (hX post H)))))
      · rw [sm_bit1 s (by omega)]
        refine br_f (fun e => va ((mk i (by omega)).mp e)) (nm_r (nI_1 i) (hY post H))
end
theorem i_vc_ofDegree {k : Nat} {u : SX} {v : SY} (I : i_Rel k u v) (hk : k + 4 ≤ 2048) (v1 : Int32) : wpX_ofDegree (fun r => wpY_ofDegree (fun r' => r' = r ∧ i_Rel (k + 4) u v) v v1) u v1 := by
  have Jr := i_up I
  obtain ⟨F, vs, fs, fr, ag, ot, ct, pa, pb, pc, ⟨X, Y, c1, c2⟩, rfl, rfl⟩ := I
  obtain ⟨J, hJ⟩ := sm_Jex F
  obtain ⟨q, hX, hY⟩ := sm_deg X Y hJ (n := v1) X.2.2.1 10 0 0 rfl
  unfold wpX_ofDegree
  dsimp only
  refine ⟨11, hX _ ?_⟩
  unfold wpY_ofDegree
  dsimp only
  refine sm_verts Y X.1 X.2.1 (fun s hs => ⟨11, ?_⟩)
  rw [sm_Mk_ext hs X.2.2.1]
  exact hY _ ⟨rfl, Jr⟩
end
section
/-! flippable and collapsible: counts of edges -/
theorem sm_cnt_s1 {p : Nat → Bool} {i : Nat} (h : p i = true) : sm_cnt p (i + 1) = sm_cnt p i + 1 := by
  show sm_cnt p i + _ = _
  rw [if_pos h]
theorem sm_cnt_s0 {p : Nat → Bool} {i : Nat} (h : p i = false) : sm_cnt p (i + 1) = sm_cnt p i := by
  show sm_cnt p i + _ = _
  rw [h, if_neg (by decide), Nat.add_zero]
section
variable {F : Int32 → Int32 → Int32 → Prop} {vs fs : Int32} {fr ag ot : Nat → Int32} {ct : Nat} {pa pb pc : Nat → Int32} {post : Int32 → Prop}
noncomputable def sm_pF (F : Int32 → Int32 → Int32 → Prop) (fs : Int32) (fr ag : Nat → Int32) (h : Nat) : Bool := sm_b (sm_Fs fs (h / 3) ∧ ¬ ag h ≤ nI h ∧ sm_CF F (fr h) (fr (sm_nx h)))
noncomputable def sm_qF (F : Int32 → Int32 → Int32 → Prop) (c : Nat) : Bool := sm_b (c / 10 < c % 10 ∧ sm_CF F (nI (c / 10)) (nI (c % 10)))
noncomputable def sm_pC (F : Int32 → Int32 → Int32 → Prop) (fs : Int32) (fr : Nat → Int32) (h : Nat) : Bool := sm_b (sm_Fs fs (h / 3) ∧ sm_CC F (fr h) (fr (sm_nx h)))
noncomputable def sm_qC (F : Int32 → Int32 → Int32 → Prop) (c : Nat) : Bool := sm_b (sm_CC F (nI (c / 10)) (nI (c % 10)))
theorem sm_xF_lp (X : sm_X F vs fs fr ag ot) (H : post (nI (sm_cnt (sm_pF F fs fr ag) 48))) : ∀ d i, i + d = 48 → wX_flippable_4 post vs fs fr ag ot (d + 1) (nI (sm_cnt (sm_pF F fs fr ag) i)) (nI i) := by
  intro d
  induction d with
  | zero =>
    intro i hi
    have e : i = 48 := by omega
    subst e
    exact br_t (nI_le (a := 48) (by omega) (by omega)) H
  | succ d ih =>
    intro i hi
    have K := ih (i + 1) (by omega)
    have no : ¬ (sm_Fs fs (i / 3) ∧ ¬ ag i ≤ nI i ∧ sm_CF F (fr i) (fr (sm_nx i))) → ∀ x, x = nI (sm_cnt (sm_pF F fs fr ag) i) + 0 → ∀ y, y = nI i + 1 → wX_flippable_4 post vs fs fr ag ot (d + 1) x y := by
      intro n
      rw [sm_cnt_s0 (p := sm_pF F fs fr ag) (sm_b_f.mpr n)] at K
      exact nm_r (Int32.add_zero _) (nm_r (nI_1 i) K)
    have ye : (sm_Fs fs (i / 3) ∧ ¬ ag i ≤ nI i ∧ sm_CF F (fr i) (fr (sm_nx i))) → ∀ x, x = nI (sm_cnt (sm_pF F fs fr ag) i) + 1 → ∀ y, y = nI i + 1 → wX_flippable_4 post vs fs fr ag ot (d + 1) x y := by
      intro n
      rw [sm_cnt_s1 (p := sm_pF F fs fr ag) (sm_b_t.mpr n)] at K
      exact nm_r (nI_1 _) (nm_r (nI_1 i) K)
    refine br_f (nI_ge (b := 48) (by omega) (by omega)) ⟨by decide, ?_⟩
    have e : nI i / 3 = nI (i / 3) := pk_div (d := 3) (by omega) (by omega) (by omega)
    rw [e]
    refine sm_used (by omega) (fun u => br_f (by decide) ⟨vp_in_nI (by omega) (by omega), ?_⟩) (fun u => br_t rfl (no (fun q => u q.1)))
    rw [nI_clamp (by omega)]
    refine br_c (fun q => no (fun r => r.2.1 q)) (fun q => ?_)
    exact sm_canFlip X u (fun cf => br_f (by decide) (ye ⟨u, q, cf⟩)) (fun cf => br_t rfl (no (fun r => cf r.2.2)))
theorem sm_yF_lp (Y : sm_Y F ct pa pb pc) (t : sm_T F) (rg : ∀ x y z, F x y z → sm_V x) (H : post (nI (sm_cnt (sm_qF F) 100))) : ∀ d i, i + d = 100 → wY_flippable_4 post (nI ct) pa pb pc (d + 1) (nI (sm_cnt (sm_qF F) i)) (nI i) := by
  intro d
  induction d with
  | zero =>
    intro i hi
    have e : i = 100 := by omega
    subst e
    exact br_t (nI_le (a := 100) (by omega) (by omega)) H
  | succ d ih =>
    intro i hi
    have K := ih (i + 1) (by omega)
    have no : ¬ (i / 10 < i % 10 ∧ sm_CF F (nI (i / 10)) (nI (i % 10))) → ∀ y, y = nI i + 1 → wY_flippable_4 post (nI ct) pa pb pc (d + 1) (nI (sm_cnt (sm_qF F) i)) y := by
      intro n
      rw [sm_cnt_s0 (p := sm_qF F) (sm_b_f.mpr n)] at K
      exact nm_r (nI_1 i) K
    have ye : (i / 10 < i % 10 ∧ sm_CF F (nI (i / 10)) (nI (i % 10))) → ∀ x, x = nI (sm_cnt (sm_qF F) i) + 1 → ∀ y, y = nI i + 1 → wY_flippable_4 post (nI ct) pa pb pc (d + 1) x y := by
      intro n
      rw [sm_cnt_s1 (p := sm_qF F) (sm_b_t.mpr n)] at K
      exact nm_r (nI_1 _) (nm_r (nI_1 i) K)
    have e1 : nI i / 10 = nI (i / 10) := pk_div (d := 10) (by omega) (by omega) (by omega)
    have e2 : nI i - nI i / 10 * 10 = nI (i % 10) := pk_rem (d := 10) (by omega) (by omega) (by omega)
    refine br_f (nI_ge (b := 100) (by omega) (by omega)) ⟨by decide, by decide, ?_⟩
    rw [e2, e1]
    refine pk_le (i % 10) (i / 10) (fun q => no (fun r => by omega)) (fun q => ⟨by decide, by decide, ?_⟩)
    exact sm_flips Y t rg (fun cf => br_f (by decide) (ye ⟨q, cf⟩)) (fun cf => br_t rfl (no (fun r => cf r.2)))
theorem sm_xC_lp (X : sm_X F vs fs fr ag ot) (H : post (nI (sm_cnt (sm_pC F fs fr) 48))) : ∀ d i, i + d = 48 → wX_collapsible_4 post vs fs fr ag ot (d + 1) (nI (sm_cnt (sm_pC F fs fr) i)) (nI i) := by
  intro d
  induction d with
  | zero =>
    intro i hi
    have e : i = 48 := by omega
    subst e
    exact br_t (nI_le (a := 48) (by omega) (by omega)) H
  | succ d ih =>
    intro i hi
    have K := ih (i + 1) (by omega)
    have no : ¬ (sm_Fs fs (i / 3) ∧ sm_CC F (fr i) (fr (sm_nx i))) → ∀ x, x = nI (sm_cnt (sm_pC F fs fr) i) + 0 → ∀ y, y = nI i + 1 → wX_collapsible_4 post vs fs fr ag ot (d + 1) x y := by
      intro n
      rw [sm_cnt_s0 (p := sm_pC F fs fr) (sm_b_f.mpr n)] at K
      exact nm_r (Int32.add_zero _) (nm_r (nI_1 i) K)
    have ye : (sm_Fs fs (i / 3) ∧ sm_CC F (fr i) (fr (sm_nx i))) → ∀ x, x = nI (sm_cnt (sm_pC F fs fr) i) + 1 → ∀ y, y = nI i + 1 → wX_collapsible_4 post vs fs fr ag ot (d + 1) x y := by
      intro n
      rw [sm_cnt_s1 (p := sm_pC F fs fr) (sm_b_t.mpr n)] at K
      exact nm_r (nI_1 _) (nm_r (nI_1 i) K)
    refine br_f (nI_ge (b := 48) (by omega) (by omega)) (sm_to (by omega) ⟨by decide, ?_⟩)
    have e : nI i / 3 = nI (i / 3) := pk_div (d := 3) (by omega) (by omega) (by omega)
    rw [e]
    refine sm_used (by omega) (fun u => br_f (by decide) ⟨vp_in_nI (by omega) (by omega), ?_⟩) (fun u => br_t rfl (no (fun q => u q.1)))
    rw [nI_clamp (by omega)]
    exact sm_canColl X (sm_RX_F X.2.2.2.1 u) (fun cf => br_f (by decide) (ye ⟨u, cf⟩)) (fun cf => br_t rfl (no (fun r => cf r.2)))
theorem sm_yC_lp (Y : sm_Y F ct pa pb pc) (t : sm_T F) (rg : ∀ x y z, F x y z → sm_V x) (H : post (nI (sm_cnt (sm_qC F) 100))) : ∀ d i, i + d = 100 → wY_collapsible_4 post (nI ct) pa pb pc (d + 1) (nI (sm_cnt (sm_qC F) i)) (nI i) := by
  intro d
  induction d with
  | zero =>
    intro i hi
    have e : i = 100 := by omega
    subst e
    exact br_t (nI_le (a := 100) (by omega) (by omega)) H
  | succ d ih =>
    intro i hi
    have K := ih (i + 1) (by omega)
    have no : ¬ (sm_CC F (nI (i / 10)) (nI (i % 10))) → ∀ y, y = nI i + 1 → wY_collapsible_4 post (nI ct) pa pb pc (d + 1) (nI (sm_cnt (sm_qC F) i)) y := by
      intro n
      rw [sm_cnt_s0 (p := sm_qC F) (sm_b_f.mpr n)] at K
      exact nm_r (nI_1 i) K
    have ye : sm_CC F (nI (i / 10)) (nI (i % 10)) → ∀ x, x = nI (sm_cnt (sm_qC F) i) + 1 → ∀ y, y = nI i + 1 → wY_collapsible_4 post (nI ct) pa pb pc (d + 1) x y := by
      intro n
      rw [sm_cnt_s1 (p := sm_qC F) (sm_b_t.mpr n)] at K
      exact nm_r (nI_1 _) (nm_r (nI_1 i) K)
    have e1 : nI i / 10 = nI (i / 10) := pk_div (d := 10) (by omega) (by omega) (by omega)
    have e2 : nI i - nI i / 10 * 10 = nI (i % 10) := pk_rem (d := 10) (by omega) (by omega) (by omega)
    refine br_f (nI_ge (b := 100) (by omega) (by omega)) ⟨by decide, by decide, ?_⟩
    rw [e2, e1]
    exact sm_colls Y t rg (fun cf => br_f (by decide) (ye cf)) (fun cf => br_t rfl (no cf))
theorem sm_CF_sym (t : sm_T F) {a b : Int32} (h : sm_CF F a b) : sm_CF F b a := by
  obtain ⟨c, d, k1, k2, n, no⟩ := h
  refine ⟨d, c, k2, k1, n.symm, fun z f => ?_⟩
  obtain ⟨w, hw⟩ := t.2.2.2.1 _ _ _ f
  exact no w hw
/-- the number of an edge, the lesser end first -/
def sm_eN (a b : Nat) : Nat := if a < b then 10 * a + b else 10 * b + a
theorem sm_eN_inj {a b c d : Nat} (ha : a < 10) (hb : b < 10) (hc : c < 10) (hd : d < 10) (e : sm_eN a b = sm_eN c d) : (a = c ∧ b = d) ∨ (a = d ∧ b = c) := by
  unfold sm_eN at e
  split at e <;> split at e <;> omega
theorem sm_F_cnt (X : sm_X F vs fs fr ag ot) : sm_cnt (sm_qF F) 100 = sm_cnt (sm_pF F fs fr ag) 48 := by
  have X0 := X
  obtain ⟨t, rg, mk, rx, ok, out, lab⟩ := X
  have vc := fun h => sm_V_cl (lab h)
  -- a pair of arrows against each other
  have agd : ∀ h, sm_Fs fs (h / 3) → ∃ g, ag h = nI g ∧ sm_Fs fs (g / 3) ∧ fr g = fr (sm_nx h) ∧ fr (sm_nx g) = fr h ∧ ag g = nI h := by
    intro h u
    obtain ⟨g, e, hg, ig, e1, e2⟩ := ok h u
    obtain ⟨g', e', hg', ig', e1', e2'⟩ := ok g ig
    have z : g' = h := sm_RX_u t rx ig' u (e1'.trans e2) (e2'.trans e1)
    rw [z] at e'
    exact ⟨g, e, ig, e1, e2, e'⟩
  apply sm_cnt_bij (fun h => sm_eN (fr h).toNatClampNeg (fr (sm_nx h)).toNatClampNeg)
  · intro h hh _
    have a1 := (vc h).2
    have a2 := (vc (sm_nx h)).2
    show sm_eN _ _ < 100
    unfold sm_eN
    split <;> omega
  · intro h g hh hg ph pg e
    obtain ⟨uh, lh, _⟩ := sm_b_t.mp ph
    obtain ⟨ug, lg, _⟩ := sm_b_t.mp pg
    have e : sm_eN (fr h).toNatClampNeg (fr (sm_nx h)).toNatClampNeg = sm_eN (fr g).toNatClampNeg (fr (sm_nx g)).toNatClampNeg := e
    rcases sm_eN_inj (vc _).2 (vc _).2 (vc _).2 (vc _).2 e with ⟨e1, e2⟩ | ⟨e1, e2⟩
    · refine sm_RX_u t rx uh ug ?_ ?_
      · rw [(vc h).1, (vc g).1, e1]
      · rw [(vc (sm_nx h)).1, (vc (sm_nx g)).1, e2]
    · have k1 : fr h = fr (sm_nx g) := by rw [(vc h).1, (vc (sm_nx g)).1, e1]
      have k2 : fr (sm_nx h) = fr g := by rw [(vc (sm_nx h)).1, (vc g).1, e2]
      obtain ⟨q, eq, uq, f1, f2, eq'⟩ := agd h uh
      have z : q = g := sm_RX_u t rx uq ug (f1.trans k2) (f2.trans k1)
      subst z
      rw [eq, nI_leI (by have := sm_lt48 uq; omega) (by have := sm_lt48 uh; omega)] at lh
      rw [eq', nI_leI (by have := sm_lt48 uh; omega) (by have := sm_lt48 uq; omega)] at lg
      omega
  · intro c hc
    constructor
    · intro q
      obtain ⟨lt, cf⟩ := sm_b_t.mp q
      obtain ⟨x, y, k1, k2, n, no⟩ := cf
      obtain ⟨h, uh, e1, e2, _⟩ := sm_RX_h rx k1
      obtain ⟨g, eg, ug, f1, f2, eg'⟩ := agd h uh
      have lh := sm_lt48 uh
      have lg := sm_lt48 ug
      have v1 : (fr h).toNatClampNeg = c / 10 := by rw [e1]; exact nI_clamp (by omega)
      have v2 : (fr (sm_nx h)).toNatClampNeg = c % 10 := by rw [e2]; exact nI_clamp (by omega)
      by_cases hg : h < g
      · refine ⟨h, lh, sm_b_t.mpr ⟨uh, ?_, ?_⟩, ?_⟩
        · rw [eg, nI_leI (by omega) (by omega)]; omega
        · rw [e1, e2]; exact ⟨x, y, k1, k2, n, no⟩
        · show sm_eN _ _ = c
          rw [v1, v2]
          unfold sm_eN
          rw [if_pos lt]
          omega
      · refine ⟨g, lg, sm_b_t.mpr ⟨ug, ?_, ?_⟩, ?_⟩
        · rw [eg', nI_leI (by omega) (by omega)]
          have : g ≠ h := by
            intro z
            rw [z] at f1
            exact t.2.1 _ _ _ (sm_RX_F rx uh) f1
          omega
        · rw [f1, f2, e1, e2]; exact sm_CF_sym t ⟨x, y, k1, k2, n, no⟩
        · show sm_eN _ _ = c
          rw [f1, f2, v1, v2]
          unfold sm_eN
          rw [if_neg (by omega)]
          omega
    · rintro ⟨h, hh, ph, e⟩
      obtain ⟨uh, lh, cf⟩ := sm_b_t.mp ph
      have e : sm_eN (fr h).toNatClampNeg (fr (sm_nx h)).toNatClampNeg = c := e
      have ne := t.2.1 _ _ _ (sm_RX_F rx uh)
      have w1 := vc h
      have w2 := vc (sm_nx h)
      have ne2 : (fr h).toNatClampNeg ≠ (fr (sm_nx h)).toNatClampNeg := by
        intro z
        rw [w1.1, w2.1, z] at ne
        exact ne rfl
      unfold sm_eN at e
      by_cases lt : (fr h).toNatClampNeg < (fr (sm_nx h)).toNatClampNeg
      · rw [if_pos lt] at e
        have d1 : c / 10 = (fr h).toNatClampNeg := by have := w1.2; have := w2.2; omega
        have d2 : c % 10 = (fr (sm_nx h)).toNatClampNeg := by have := w1.2; have := w2.2; omega
        refine sm_b_t.mpr ⟨by omega, ?_⟩
        rw [d1, d2, ← w1.1, ← w2.1]
        exact cf
      · rw [if_neg lt] at e
        have d1 : c / 10 = (fr (sm_nx h)).toNatClampNeg := by have := w1.2; have := w2.2; omega
        have d2 : c % 10 = (fr h).toNatClampNeg := by have := w1.2; have := w2.2; omega
        refine sm_b_t.mpr ⟨by omega, ?_⟩
        rw [d1, d2, ← w1.1, ← w2.1]
        exact sm_CF_sym t cf
theorem sm_C_cnt (X : sm_X F vs fs fr ag ot) : sm_cnt (sm_qC F) 100 = sm_cnt (sm_pC F fs fr) 48 := by
  obtain ⟨t, rg, mk, rx, ok, out, lab⟩ := X
  have vc := fun h => sm_V_cl (lab h)
  apply sm_cnt_bij (fun h => 10 * (fr h).toNatClampNeg + (fr (sm_nx h)).toNatClampNeg)
  · intro h hh _
    have a1 := (vc h).2
    have a2 := (vc (sm_nx h)).2
    show 10 * _ + _ < 100
    omega
  · intro h g hh hg ph pg e
    obtain ⟨uh, _⟩ := sm_b_t.mp ph
    obtain ⟨ug, _⟩ := sm_b_t.mp pg
    have e : 10 * (fr h).toNatClampNeg + (fr (sm_nx h)).toNatClampNeg = 10 * (fr g).toNatClampNeg + (fr (sm_nx g)).toNatClampNeg := e
    have a1 := (vc h).2
    have a2 := (vc (sm_nx h)).2
    have a3 := (vc g).2
    have a4 := (vc (sm_nx g)).2
    refine sm_RX_u t rx uh ug ?_ ?_
    · rw [(vc h).1, (vc g).1]; exact congrArg nI (by omega)
    · rw [(vc (sm_nx h)).1, (vc (sm_nx g)).1]; exact congrArg nI (by omega)
  · intro c hc
    constructor
    · intro q
      have cc := sm_b_t.mp q
      obtain ⟨z, f⟩ := cc.1
      obtain ⟨h, uh, e1, e2, _⟩ := sm_RX_h rx f
      refine ⟨h, sm_lt48 uh, sm_b_t.mpr ⟨uh, by rw [e1, e2]; exact cc⟩, ?_⟩
      show 10 * _ + _ = c
      rw [e1, e2, nI_clamp (by omega), nI_clamp (by omega)]
      omega
    · rintro ⟨h, hh, ph, e⟩
      obtain ⟨uh, cc⟩ := sm_b_t.mp ph
      have e : 10 * (fr h).toNatClampNeg + (fr (sm_nx h)).toNatClampNeg = c := e
      have w1 := vc h
      have w2 := vc (sm_nx h)
      have d1 : c / 10 = (fr h).toNatClampNeg := by have := w1.2; have := w2.2; omega
      have d2 : c % 10 = (fr (sm_nx h)).toNatClampNeg := by have := w1.2; have := w2.2; omega
      apply sm_b_t.mpr
      rw [d1, d2, ← w1.1, ← w2.1]
      exact cc
end
theorem i_vc_flippable {k : Nat} {u : SX} {v : SY} (I : i_Rel k u v) (hk : k + 4 ≤ 2048) : wpX_flippable (fun r => wpY_flippable (fun r' => r' = r ∧ i_Rel (k + 4) u v) v) u := by
  have J := i_up I
  obtain ⟨F, vs, fs, fr, ag, ot, ct, pa, pb, pc, ⟨X, Y, c1, c2⟩, rfl, rfl⟩ := I
  unfold wpX_flippable
  dsimp only
  refine ⟨49, sm_xF_lp X ?_ 48 0 rfl⟩
  unfold wpY_flippable
  dsimp only
  refine ⟨101, sm_yF_lp Y X.1 X.2.1 ⟨?_, J⟩ 100 0 rfl⟩
  rw [sm_F_cnt X]
theorem i_vc_collapsible {k : Nat} {u : SX} {v : SY} (I : i_Rel k u v) (hk : k + 4 ≤ 2048) : wpX_collapsible (fun r => wpY_collapsible (fun r' => r' = r ∧ i_Rel (k + 4) u v) v) u := by
  have J := i_up I
  obtain ⟨F, vs, fs, fr, ag, ot, ct, pa, pb, pc, ⟨X, Y, c1, c2⟩, rfl, rfl⟩ := I
  unfold wpX_collapsible
  dsimp only
  refine ⟨49, sm_xC_lp X ?_ 48 0 rfl⟩
  unfold wpY_collapsible
  dsimp only
  refine ⟨101, sm_yC_lp Y X.1 X.2.1 ⟨?_, J⟩ 100 0 rfl⟩
  rw [sm_C_cnt X]
end
section
/-! X: what the stores do to the picture -/
theorem sm_wr_at (fr : Nat → Int32) (f : Nat) (a b c : Int32) : sm_wr fr f a b c (3 * f) = a ∧ sm_wr fr f a b c (3 * f + 1) = b ∧ sm_wr fr f a b c (3 * f + 2) = c := by
  unfold sm_wr
  refine ⟨?_, ?_, pk_us⟩
  · rw [pk_un (by omega), pk_un (by omega), pk_us]
  · rw [pk_un (by omega), pk_us]
theorem sm_wr_ne {fr : Nat → Int32} {f : Nat} {a b c : Int32} {h : Nat} (n : h / 3 ≠ f) : sm_wr fr f a b c h = fr h := by
  unfold sm_wr
  rw [pk_un (by omega), pk_un (by omega), pk_un (by omega)]
theorem sm_wr_V {fr : Nat → Int32} (lab : ∀ h, sm_V (fr h)) {f : Nat} {a b c : Int32} (ha : sm_V a) (hb : sm_V b) (hc : sm_V c) : ∀ h, sm_V (sm_wr fr f a b c h) := by
  intro h
  obtain ⟨e0, e1, e2⟩ := sm_wr_at fr f a b c
  by_cases n : h / 3 = f
  · rcases sm_c3 h with e | e | e <;> rw [n] at e <;> rw [e]
    · rw [e0]; exact ha
    · rw [e1]; exact hb
    · rw [e2]; exact hc
  · rw [sm_wr_ne n]; exact lab h
theorem sm_del_rot {α : Type} {F : α → α → α → Prop} {a b c : α} (rot : ∀ x y z, F x y z → F y z x) : ∀ x y z, sm_del F a b c x y z → sm_del F a b c y z x := fun x y z h => ⟨rot _ _ _ h.1, fun k => h.2 (sm_Rr (sm_Rr k))⟩
theorem sm_ins_rot {α : Type} {F : α → α → α → Prop} {a b c : α} (rot : ∀ x y z, F x y z → F y z x) : ∀ x y z, sm_ins F a b c x y z → sm_ins F a b c y z x := fun x y z h => h.elim (fun k => Or.inl (rot _ _ _ k)) (fun k => Or.inr (sm_Rr k))
section
variable {I I' : Nat → Prop} {fr : Nat → Int32} {F : Int32 → Int32 → Int32 → Prop}
theorem sm_RX_ins (r : sm_RX I fr F) {f : Nat} {a b c : Int32} (hf : ¬ I f) (nf : ¬ F a b c) (rot : ∀ x y z, F x y z → F y z x) (hI : ∀ j, I' j ↔ I j ∨ j = f) : sm_RX I' (sm_wr fr f a b c) (sm_ins F a b c) := by
  obtain ⟨e0, e1, e2⟩ := sm_wr_at fr f a b c
  refine sm_rep_ins (i := f) r hf nf rot ?_ ?_ hI
  · rw [e0, e1, e2]; exact sm_R0 _ _ _
  · intro j hj
    exact ⟨sm_wr_ne (by omega), sm_wr_ne (by omega), sm_wr_ne (by omega)⟩
theorem sm_RX_del (r : sm_RX I fr F) {h : Nat} (hh : I (h / 3)) (hI : ∀ j, I' j ↔ I j ∧ j ≠ h / 3) : sm_RX I' fr (sm_del F (fr h) (fr (sm_nx h)) (fr (sm_bf h))) :=
  sm_rep_del r hh (sm_ar fr h) hI
/-- a run of links -/
def sm_lks (ag : Nat → Int32) (l : List (Nat × Nat)) : Nat → Int32 := l.foldl (fun ag p => upd (upd ag p.1 (nI p.2)) p.2 (nI p.1)) ag
def sm_gp (I : Nat → Prop) (fr : Nat → Int32) (h g : Nat) : Prop := h < 48 ∧ I (h / 3) ∧ g < 48 ∧ I (g / 3) ∧ fr h = fr (sm_nx g) ∧ fr (sm_nx h) = fr g
theorem sm_lks_ok : ∀ (l : List (Nat × Nat)) (ag : Nat → Int32), (∀ p, p ∈ l → sm_gp I fr p.1 p.2) → ∀ x, (sm_OK I fr ag x ∨ ∃ p, p ∈ l ∧ (x = p.1 ∨ x = p.2)) → sm_OK I fr (sm_lks ag l) x := by
  intro l
  induction l with
  | nil =>
    rintro ag _ x (h | ⟨p, hp, _⟩)
    · exact h
    · cases hp
  | cons q l ih =>
    intro ag gp x h
    obtain ⟨g1, g2, g3, g4, g5, g6⟩ := gp q (List.mem_cons_self ..)
    show sm_OK I fr (sm_lks (upd (upd ag q.1 (nI q.2)) q.2 (nI q.1)) l) x
    apply ih _ (fun p hp => gp p (List.mem_cons_of_mem _ hp))
    rcases h with h | ⟨p, hp, e⟩
    · exact Or.inl (sm_lk g1 g2 g3 g4 g5 g6 (Or.inl h))
    · rcases List.mem_cons.mp hp with rfl | hp
      · exact Or.inl (sm_lk g1 g2 g3 g4 g5 g6 (Or.inr e))
      · exact Or.inr ⟨p, hp, e⟩
/-- the arrow against h lies in another face -/
theorem sm_OK_ne (t : sm_T F) (r : sm_RX I fr F) {h g : Nat} (hh : I (h / 3)) (e1 : fr g = fr (sm_nx h)) (e2 : fr (sm_nx g) = fr h) : g / 3 ≠ h / 3 := by
  intro e
  obtain ⟨rot, dis, _⟩ := t
  have f := sm_RX_F r hh
  have d1 := dis _ _ _ f
  have d2 := dis _ _ _ (rot _ _ _ f)
  have d3 := dis _ _ _ (rot _ _ _ (rot _ _ _ f))
  rcases sm_same e with q | q | q
  · rw [q] at e1; exact d1 e1
  · rw [q, sm_nx_nx] at e2; exact d3 e2
  · rw [q] at e1; exact d2 e1.symm
end
theorem sm_Fs_or {fs : Int32} {g j : Nat} (hg : g < 16) : sm_Fs (fs ||| ((1 : Int32) <<< (nI g &&& 31))) j ↔ sm_Fs fs j ∨ j = g := by
  unfold sm_Fs
  constructor
  · rintro ⟨h1, h2⟩
    rw [sm_or fs (by omega) (by omega), Bool.or_eq_true, decide_eq_true_eq] at h2
    rcases h2 with h2 | h2
    · exact Or.inl ⟨h1, h2⟩
    · exact Or.inr h2
  · rintro (⟨h1, h2⟩ | rfl)
    · exact ⟨h1, by rw [sm_or fs (by omega) (by omega), h2]; rfl⟩
    · exact ⟨hg, by rw [sm_or fs (by omega) (by omega), decide_eq_true rfl, Bool.or_true]⟩
theorem sm_cnt_or {fs : Int32} {n g : Nat} (hn : n ≤ 32) (hg : g < n) (e : bt fs g = false) : sm_cnt (bt (fs ||| ((1 : Int32) <<< (nI g &&& 31)))) n = sm_cnt (bt fs) n + 1 :=
  sm_cnt_add hg e (fun i hi => sm_or fs (by omega) (by omega))
/-- a picture from its parts -/
theorem sm_X_mk {F : Int32 → Int32 → Int32 → Prop} {vs fs : Int32} {fr ag ot : Nat → Int32} (t : sm_T F) (mk : sm_Mk vs (fun i => sm_Vt F (nI i))) (rx : sm_RX (sm_Fs fs) fr F) (ok : ∀ h, sm_Fs fs (h / 3) → sm_OK (sm_Fs fs) fr ag h) (lab : ∀ h, sm_V (fr h)) (out : ∀ h, sm_Fs fs (h / 3) → ∃ g, ot (fr h).toNatClampNeg = nI g ∧ g < 48 ∧ sm_Fs fs (g / 3) ∧ fr g = fr h) : sm_X F vs fs fr ag ot := by
  refine ⟨t, ?_, mk, rx, ok, ?_, lab⟩
  · intro x y z f
    obtain ⟨h, _, e, _⟩ := sm_RX_h rx f
    rw [← e]; exact lab h
  · rintro x ⟨y, z, f⟩
    obtain ⟨h, u, e, _⟩ := sm_RX_h rx f
    rw [← e]; exact out h u
end
section
theorem sm_link' {vs fs : Int32} {fr ag ot : Nat → Int32} {post : SX → Prop} {x y : Int32} (h g : Nat) (ex : x = nI h) (ey : y = nI g) (hh : h < 48) (hg : g < 48) (H : post (vs, fs, fr, upd (upd ag h (nI g)) g (nI h), ot)) : wpX_link post (vs, fs, fr, ag, ot) x y := by
  subst ex ey
  exact sm_link hh hg H
theorem sm_e0 (f : Nat) : 3 * nI f = nI (3 * f) := pk_mul 3 f
theorem sm_e1 (f : Nat) : (3 * nI f) + 1 = nI (3 * f + 1) := by rw [sm_e0]; exact nI_1 _
theorem sm_e2 (f : Nat) : (3 * nI f) + 2 = nI (3 * f + 2) := by rw [sm_e0]; exact nI_add _ 2
theorem sm_nFs {fs : Int32} {g : Nat} (e : bt fs g = false) : ¬ sm_Fs fs g := by
  intro h
  rw [h.2] at e
  cases e
section
variable {F : Int32 → Int32 → Int32 → Prop} {vs fs : Int32} {fr ag ot : Nat → Int32}
theorem sm_sfX (X : sm_X F vs fs fr ag ot) {a b c : Int32} {h : Nat} (u : sm_Fs fs (h / 3)) (ea : fr h = a) (eb : fr (sm_nx h) = b) (ec : fr (sm_bf h) = c) {v : Nat} (hv : v < 10) (nv : ¬ sm_Vt F (nI v)) {g k : Nat} (hg : g < 16) (eg : bt fs g = false) (hk : k < 16) (ek : bt (fs ||| ((1 : Int32) <<< (nI g &&& 31))) k = false) {g1 g2 g3 : Nat} (a1 : ag h = nI g1) (a2 : ag (sm_nx h) = nI g2) (a3 : ag (sm_bf h) = nI g3) (l1 : g1 < 48) (l2 : g2 < 48) (l3 : g3 < 48) {ot' : Nat → Int32}
    (out : ∀ x, sm_Fs ((fs ||| ((1 : Int32) <<< (nI g &&& 31))) ||| ((1 : Int32) <<< (nI k &&& 31))) (x / 3) → ∃ y, ot' (sm_wr (sm_wr (sm_wr fr (h / 3) a b (nI v)) g b c (nI v)) k c a (nI v) x).toNatClampNeg = nI y ∧ y < 48 ∧ sm_Fs ((fs ||| ((1 : Int32) <<< (nI g &&& 31))) ||| ((1 : Int32) <<< (nI k &&& 31))) (y / 3) ∧ sm_wr (sm_wr (sm_wr fr (h / 3) a b (nI v)) g b c (nI v)) k c a (nI v) y = sm_wr (sm_wr (sm_wr fr (h / 3) a b (nI v)) g b c (nI v)) k c a (nI v) x) :
    sm_X (sm_sf F a b c (nI v)) (vs ||| ((1 : Int32) <<< (nI v &&& 31))) ((fs ||| ((1 : Int32) <<< (nI g &&& 31))) ||| ((1 : Int32) <<< (nI k &&& 31))) (sm_wr (sm_wr (sm_wr fr (h / 3) a b (nI v)) g b c (nI v)) k c a (nI v)) (sm_lks ag [(3 * (h / 3), g1), (3 * g, g2), (3 * k, g3), (3 * (h / 3) + 1, 3 * g + 2), (3 * g + 1, 3 * k + 2), (3 * k + 1, 3 * (h / 3) + 2)]) ot' := by
  obtain ⟨t, rg, mk, rx, ok, _, lab⟩ := X
  have t0 := t
  obtain ⟨rot, dis, unq, clo, thi, st, co⟩ := t
  have hf := u.1
  have f0 := sm_RX_F rx u
  rw [ea, eb, ec] at f0
  have f1 := rot _ _ _ f0
  have f2 := rot _ _ _ f1
  have nv1 : ∀ x y z, F x y z → x ≠ nI v := fun x y z f e => nv ⟨y, z, e ▸ f⟩
  have va : a ≠ nI v := nv1 _ _ _ f0
  have vb : b ≠ nI v := nv1 _ _ _ f1
  have vc : c ≠ nI v := nv1 _ _ _ f2
  have ab := dis _ _ _ f0
  have bc := dis _ _ _ f1
  have ca := dis _ _ _ f2
  have fg : h / 3 ≠ g := fun e => sm_nFs eg (e ▸ u)
  have fk : h / 3 ≠ k := fun e => sm_nFs ek ((sm_Fs_or hg).mpr (Or.inl (e ▸ u)))
  have gk : g ≠ k := fun e => sm_nFs ek ((sm_Fs_or hg).mpr (Or.inr e.symm))
  have nfk : ¬ sm_Fs fs k := fun e => sm_nFs ek ((sm_Fs_or hg).mpr (Or.inl e))
  have Vv : sm_V (nI v) := ⟨v, hv, rfl⟩
  have Va : sm_V a := ea ▸ lab h
  have Vb : sm_V b := eb ▸ lab _
  have Vc : sm_V c := ec ▸ lab _
  -- the family
  have r1 := sm_RX_del (I' := fun j => sm_Fs fs j ∧ j ≠ h / 3) rx u (fun _ => Iff.rfl)
  rw [ea, eb, ec] at r1
  have r2 := sm_RX_ins (I' := sm_Fs fs) (f := h / 3) (a := a) (b := b) (c := nI v) r1 (fun z => z.2 rfl) (fun z => nv1 _ _ _ (rot _ _ _ (rot _ _ _ z.1)) rfl) (sm_del_rot rot) (fun j => ⟨fun z => by
    by_cases e : j = h / 3
    · exact Or.inr e
    · exact Or.inl ⟨z, e⟩, fun z => z.elim (fun q => q.1) (fun q => q ▸ u)⟩)
  have r3 := sm_RX_ins (I' := sm_Fs (fs ||| ((1 : Int32) <<< (nI g &&& 31)))) (f := g) (a := b) (b := c) (c := nI v) r2 (sm_nFs eg) (by
    rintro (z | z)
    · exact nv1 _ _ _ (rot _ _ _ (rot _ _ _ z.1)) rfl
    · unfold sm_R at z; grind) (sm_ins_rot (sm_del_rot rot)) (fun j => sm_Fs_or hg)
  have r4 := sm_RX_ins (I' := sm_Fs ((fs ||| ((1 : Int32) <<< (nI g &&& 31))) ||| ((1 : Int32) <<< (nI k &&& 31)))) (f := k) (a := c) (b := a) (c := nI v) r3 (sm_nFs ek) (by
    rintro ((z | z) | z)
    · exact nv1 _ _ _ (rot _ _ _ (rot _ _ _ z.1)) rfl
    · unfold sm_R at z; grind
    · unfold sm_R at z; grind) (sm_ins_rot (sm_ins_rot (sm_del_rot rot))) (fun j => sm_Fs_or hk)
  -- labels
  have old0 : ∀ x, x / 3 ≠ h / 3 → x / 3 ≠ g → x / 3 ≠ k → sm_wr (sm_wr (sm_wr fr (h / 3) a b (nI v)) g b c (nI v)) k c a (nI v) x = fr x := by
    intro x n1 n2 n3
    rw [sm_wr_ne n3, sm_wr_ne n2, sm_wr_ne n1]
  have Lf : ∀ x, x / 3 = h / 3 → sm_wr (sm_wr (sm_wr fr (h / 3) a b (nI v)) g b c (nI v)) k c a (nI v) x = sm_wr fr (h / 3) a b (nI v) x := by
    intro x n1
    rw [sm_wr_ne (by omega), sm_wr_ne (by omega)]
  have Lg : ∀ x, x / 3 = g → sm_wr (sm_wr (sm_wr fr (h / 3) a b (nI v)) g b c (nI v)) k c a (nI v) x = sm_wr (sm_wr fr (h / 3) a b (nI v)) g b c (nI v) x := by
    intro x n1
    rw [sm_wr_ne (by omega)]
  obtain ⟨p0, p1, p2⟩ := sm_wr_at fr (h / 3) a b (nI v)
  obtain ⟨q0, q1, q2⟩ := sm_wr_at (sm_wr fr (h / 3) a b (nI v)) g b c (nI v)
  obtain ⟨s0, s1, s2⟩ := sm_wr_at (sm_wr (sm_wr fr (h / 3) a b (nI v)) g b c (nI v)) k c a (nI v)
  rw [← Lf (3 * (h / 3)) (by omega)] at p0
  rw [← Lf (3 * (h / 3) + 1) (by omega)] at p1
  rw [← Lf (3 * (h / 3) + 2) (by omega)] at p2
  rw [← Lg (3 * g) (by omega)] at q0
  rw [← Lg (3 * g + 1) (by omega)] at q1
  rw [← Lg (3 * g + 2) (by omega)] at q2
  have lab' : ∀ x, sm_V (sm_wr (sm_wr (sm_wr fr (h / 3) a b (nI v)) g b c (nI v)) k c a (nI v) x) := sm_wr_V (sm_wr_V (sm_wr_V lab Va Vb Vv) Vb Vc Vv) Vc Va Vv
  have iff2 : ∀ j, sm_Fs ((fs ||| ((1 : Int32) <<< (nI g &&& 31))) ||| ((1 : Int32) <<< (nI k &&& 31))) j ↔ (sm_Fs fs j ∨ j = g) ∨ j = k := fun j => by rw [sm_Fs_or hk, sm_Fs_or hg]
  refine sm_X_mk (sm_sf_T t0 f0 nv1) ?_ r4 ?_ lab' out
  · refine sm_Mk_eq (sm_Mk_or mk (k := v) (by omega)) (fun i hi => ?_)
    rw [sm_sf_V rot f0, nI_eq (by omega) (by omega)]
  · revert old0 p0 p1 p2 q0 q1 q2 s0 s1 s2 iff2
    generalize sm_wr (sm_wr (sm_wr fr (h / 3) a b (nI v)) g b c (nI v)) k c a (nI v) = L
    generalize sm_Fs ((fs ||| ((1 : Int32) <<< (nI g &&& 31))) ||| ((1 : Int32) <<< (nI k &&& 31))) = I
    intro old0 p0 p1 p2 q0 q1 q2 s0 s1 s2 iff2
    clear out r1 r2 r3 r4 Lf Lg lab'
    have old : ∀ y, sm_Fs fs (y / 3) → y / 3 ≠ h / 3 → L y = fr y ∧ L (sm_nx y) = fr (sm_nx y) := by
      intro y uy ny
      have n1 : y / 3 ≠ g := fun e => sm_nFs eg (e ▸ uy)
      have n2 : y / 3 ≠ k := fun e => nfk (e ▸ uy)
      exact ⟨old0 y ny n1 n2, old0 _ (by rw [sm_nx_d]; exact ny) (by rw [sm_nx_d]; exact n1) (by rw [sm_nx_d]; exact n2)⟩
    have If : I (h / 3) := (iff2 _).mpr (Or.inl (Or.inl u))
    have Ig : I g := (iff2 _).mpr (Or.inl (Or.inr rfl))
    have Ik : I k := (iff2 _).mpr (Or.inr rfl)
    have part : ∀ x y, sm_Fs fs (x / 3) → ag x = nI y → y < 48 → sm_Fs fs (y / 3) ∧ fr y = fr (sm_nx x) ∧ fr (sm_nx y) = fr x := by
      intro x y ux e hy
      obtain ⟨y', e', hy', iy', k1, k2⟩ := ok x ux
      have z : y = y' := by
        rw [e, nI_eq (by omega) (by omega)] at e'
        exact e'
      subst z
      exact ⟨iy', k1, k2⟩
    have un : sm_Fs fs (sm_nx h / 3) := by rw [sm_nx_d]; exact u
    have ub : sm_Fs fs (sm_bf h / 3) := by rw [sm_bf_d]; exact u
    obtain ⟨i1, b1, c1⟩ := part h g1 u a1 l1
    obtain ⟨i2, b2, c2⟩ := part (sm_nx h) g2 un a2 l2
    obtain ⟨i3, b3, c3⟩ := part (sm_bf h) g3 ub a3 l3
    have d1 := sm_OK_ne t0 rx u b1 c1
    have d2 := sm_OK_ne t0 rx un b2 c2
    have d3 := sm_OK_ne t0 rx ub b3 c3
    rw [sm_nx_d] at d2
    rw [sm_bf_d] at d3
    rw [sm_nx_nx] at b2
    rw [sm_nx_bf] at b3
    obtain ⟨o1, o1'⟩ := old g1 i1 d1
    obtain ⟨o2, o2'⟩ := old g2 i2 d2
    obtain ⟨o3, o3'⟩ := old g3 i3 d3
    obtain ⟨nf0, nf1, nf2⟩ := sm_nx0 (h / 3)
    obtain ⟨ng0, ng1, ng2⟩ := sm_nx0 g
    obtain ⟨nk0, nk1, nk2⟩ := sm_nx0 k
    have dv : ∀ j, 3 * j / 3 = j ∧ (3 * j + 1) / 3 = j ∧ (3 * j + 2) / 3 = j := fun j => by omega
    obtain ⟨vf0, vf1, vf2⟩ := dv (h / 3)
    obtain ⟨vg0, vg1, vg2⟩ := dv g
    obtain ⟨vk0, vk1, vk2⟩ := dv k
    intro x ux
    apply sm_lks_ok
    · intro p hp
      simp only [List.mem_cons, List.not_mem_nil, or_false] at hp
      rcases hp with rfl | rfl | rfl | rfl | rfl | rfl
      · exact ⟨by show _ < 48; omega, by show I (3 * (h / 3) / 3); rw [vf0]; exact If, l1, (iff2 _).mpr (Or.inl (Or.inl i1)), by show L (3 * (h / 3)) = L (sm_nx g1); rw [p0, o1', c1, ea], by show L (sm_nx (3 * (h / 3))) = L g1; rw [nf0, p1, o1, b1, eb]⟩
      · exact ⟨by show _ < 48; omega, by show I (3 * g / 3); rw [vg0]; exact Ig, l2, (iff2 _).mpr (Or.inl (Or.inl i2)), by show L (3 * g) = L (sm_nx g2); rw [q0, o2', c2, eb], by show L (sm_nx (3 * g)) = L g2; rw [ng0, q1, o2, b2, ec]⟩
      · exact ⟨by show _ < 48; omega, by show I (3 * k / 3); rw [vk0]; exact Ik, l3, (iff2 _).mpr (Or.inl (Or.inl i3)), by show L (3 * k) = L (sm_nx g3); rw [s0, o3', c3, ec], by show L (sm_nx (3 * k)) = L g3; rw [nk0, s1, o3, b3, ea]⟩
      · exact ⟨by show _ < 48; omega, by show I ((3 * (h / 3) + 1) / 3); rw [vf1]; exact If, by show _ < 48; omega, by show I ((3 * g + 2) / 3); rw [vg2]; exact Ig, by show L (3 * (h / 3) + 1) = L (sm_nx (3 * g + 2)); rw [ng2, p1, q0], by show L (sm_nx (3 * (h / 3) + 1)) = L (3 * g + 2); rw [nf1, p2, q2]⟩
      · exact ⟨by show _ < 48; omega, by show I ((3 * g + 1) / 3); rw [vg1]; exact Ig, by show _ < 48; omega, by show I ((3 * k + 2) / 3); rw [vk2]; exact Ik, by show L (3 * g + 1) = L (sm_nx (3 * k + 2)); rw [nk2, q1, s0], by show L (sm_nx (3 * g + 1)) = L (3 * k + 2); rw [ng1, q2, s2]⟩
      · exact ⟨by show _ < 48; omega, by show I ((3 * k + 1) / 3); rw [vk1]; exact Ik, by show _ < 48; omega, by show I ((3 * (h / 3) + 2) / 3); rw [vf2]; exact If, by show L (3 * k + 1) = L (sm_nx (3 * (h / 3) + 2)); rw [nf2, s1, p0], by show L (sm_nx (3 * k + 1)) = L (3 * (h / 3) + 2); rw [nk1, s2, p2]⟩
    · have new : ∀ p, p ∈ [(3 * (h / 3), g1), (3 * g, g2), (3 * k, g3), (3 * (h / 3) + 1, 3 * g + 2), (3 * g + 1, 3 * k + 2), (3 * k + 1, 3 * (h / 3) + 2)] → (x = p.1 ∨ x = p.2) → sm_OK I L ag x ∨ ∃ p, p ∈ [(3 * (h / 3), g1), (3 * g, g2), (3 * k, g3), (3 * (h / 3) + 1, 3 * g + 2), (3 * g + 1, 3 * k + 2), (3 * k + 1, 3 * (h / 3) + 2)] ∧ (x = p.1 ∨ x = p.2) := fun p hp e => Or.inr ⟨p, hp, e⟩
      by_cases xf : x / 3 = h / 3
      · rcases sm_c3 x with e | e | e <;> rw [xf] at e
        · exact new (3 * (h / 3), g1) (by simp) (Or.inl e)
        · exact new (3 * (h / 3) + 1, 3 * g + 2) (by simp) (Or.inl e)
        · exact new (3 * k + 1, 3 * (h / 3) + 2) (by simp) (Or.inr e)
      by_cases xg : x / 3 = g
      · rcases sm_c3 x with e | e | e <;> rw [xg] at e
        · exact new (3 * g, g2) (by simp) (Or.inl e)
        · exact new (3 * g + 1, 3 * k + 2) (by simp) (Or.inl e)
        · exact new (3 * (h / 3) + 1, 3 * g + 2) (by simp) (Or.inr e)
      by_cases xk : x / 3 = k
      · rcases sm_c3 x with e | e | e <;> rw [xk] at e
        · exact new (3 * k, g3) (by simp) (Or.inl e)
        · exact new (3 * k + 1, 3 * (h / 3) + 2) (by simp) (Or.inl e)
        · exact new (3 * g + 1, 3 * k + 2) (by simp) (Or.inr e)
      have uo : sm_Fs fs (x / 3) := by
        rcases (iff2 _).mp ux with (z | z) | z
        · exact z
        · exact absurd z xg
        · exact absurd z xk
      obtain ⟨q, eq, hq, iq, m1, m2⟩ := ok x uo
      by_cases qf : q / 3 = h / 3
      · rcases sm_same qf with e | e | e
        · subst e
          have z : x = g1 := sm_RX_u t0 rx uo i1 (m2.symm.trans b1.symm) (m1.symm.trans c1.symm)
          exact new (3 * (q / 3), g1) (by simp) (Or.inr z)
        · rw [e] at m1 m2
          rw [sm_nx_nx] at m2
          have z : x = g2 := sm_RX_u t0 rx uo i2 (m2.symm.trans b2.symm) (m1.symm.trans c2.symm)
          exact new (3 * g, g2) (by simp) (Or.inr z)
        · rw [e] at m1 m2
          rw [sm_nx_bf] at m2
          have z : x = g3 := sm_RX_u t0 rx uo i3 (m2.symm.trans b3.symm) (m1.symm.trans c3.symm)
          exact new (3 * k, g3) (by simp) (Or.inr z)
      · obtain ⟨w1, w2⟩ := old x uo xf
        obtain ⟨w3, w4⟩ := old q iq qf
        exact Or.inl ⟨q, eq, hq, (iff2 _).mpr (Or.inl (Or.inl iq)), by rw [w3, w2, m1], by rw [w4, w1, m2]⟩
end
end
section
section
variable {F : Int32 → Int32 → Int32 → Prop} {vs fs : Int32} {fr ag ot : Nat → Int32}
/-- the arrow against h, by name -/
theorem sm_agn (X : sm_X F vs fs fr ag ot) {h : Nat} (u : sm_Fs fs (h / 3)) : ∃ g, ag h = nI g ∧ g < 48 ∧ sm_Fs fs (g / 3) ∧ fr g = fr (sm_nx h) ∧ fr (sm_nx g) = fr h := X.2.2.2.2.1 h u
theorem sm_nm {x : Int32} {h : Nat} (hh : h < 48) (e : ag h = x) : ag (nI h).toNatClampNeg = x := by
  rw [nI_clamp (by omega)]; exact e
theorem sm_room {v : Nat} (X : sm_X F vs fs fr ag ot) (hv : v < 10) (nv : ¬ sm_Vt F (nI v)) {ct : Nat} (c1 : sm_cnt (bt fs) 16 = ct) (c2 : ct + 4 = 2 * sm_cnt (bt vs) 10) : sm_cnt (bt fs) 16 ≤ 14 ∧ bt vs v = false := by
  have e : bt vs v = false := by
    cases z : bt vs v
    · rfl
    · exact absurd ((X.2.2.1 v (by omega)).mp z) nv
  have k := sm_cnt_or (n := 10) (g := v) (by omega) hv e
  have l := sm_cnt_le (bt (vs ||| ((1 : Int32) <<< (nI v &&& 31)))) 10
  exact ⟨by omega, e⟩
theorem sm_xsf (X : sm_X F vs fs fr ag ot) {a b c : Int32} {v : Nat} (hv : v ≤ 10) (lo : ∀ i, i < v → sm_Vt F (nI i)) (hi : v < 10 → ¬ sm_Vt F (nI v)) {ct : Nat} (c1 : sm_cnt (bt fs) 16 = ct) (c2 : ct + 4 = 2 * sm_cnt (bt vs) 10) {post : Int32 → SX → Prop} (H0 : ¬ F a b c → post (-1) (vs, fs, fr, ag, ot)) (H1 : F a b c → v = 10 → post (-2) (vs, fs, fr, ag, ot)) (H2 : ∀ vs' fs' fr' ag' ot', F a b c → v < 10 → sm_X (sm_sf F a b c (nI v)) vs' fs' fr' ag' ot' → sm_cnt (bt fs') 16 = sm_cnt (bt fs) 16 + 2 → sm_cnt (bt vs') 10 = sm_cnt (bt vs) 10 + 1 → post (nI v) (vs', fs', fr', ag', ot')) : wpX_splitFace post (vs, fs, fr, ag, ot) a b c := by
  unfold wpX_splitFace
  dsimp only
  refine sm_find X (fun h u e1 e2 => br_f (nI_pos (by have := sm_lt48 u; omega)) (sm_third (sm_lt48 u) ?_)) (fun no => br_t (by decide) (H0 (no c)))
  have f := sm_RX_F X.2.2.2.1 u
  have lh := sm_lt48 u
  have lab := X.2.2.2.2.2.2
  refine br_c (fun e3 => ?_) (fun e3 => H0 (fun g => e3 (X.1.2.2.1 _ _ _ _ (by rw [e1, e2] at f; exact f) g)))
  have fF := f
  rw [e1, e2, e3] at fF
  refine sm_freeV X hv lo hi (pk_eq v 10 (fun e => H1 fF e) (fun e => ?_))
  have v10 : v < 10 := by omega
  obtain ⟨room, ev⟩ := sm_room X v10 (hi v10) c1 c2
  have un : sm_Fs fs (sm_nx h / 3) := by rw [sm_nx_d]; exact u
  have ub : sm_Fs fs (sm_bf h / 3) := by rw [sm_bf_d]; exact u
  obtain ⟨g1, a1, l1, _⟩ := sm_agn X u
  obtain ⟨g2, a2, l2, _⟩ := sm_agn X un
  obtain ⟨g3, a3, l3, _⟩ := sm_agn X ub
  have ln := sm_nx_lt lh
  have lb := sm_bf_lt lh
  refine sm_next lh (sm_before lh ⟨vp_in_nI ln (by omega), nm_r (e' := nI g2) (sm_nm ln a2) ⟨vp_in_nI lb (by omega), nm_r (e' := nI g3) (sm_nm lb a3) ⟨vp_in_nI lh (by omega), nm_r (e' := nI g1) (sm_nm lh a1) ⟨by decide, nm_r (e' := nI (h / 3)) (pk_div (d := 3) (by omega) (by omega) (by omega)) ?_⟩⟩⟩⟩)
  refine sm_newF (sm_cnt_free (by omega)) (fun g hg eg => ?_)
  dsimp only
  have cg := sm_cnt_or (n := 16) (by omega) hg eg
  refine sm_newF (sm_cnt_free (by omega)) (fun k hk ek => ?_)
  dsimp only
  have ck := sm_cnt_or (n := 16) (by omega) hk ek
  have Vv : sm_V (nI v) := ⟨v, v10, rfl⟩
  have Va : sm_V a := e1 ▸ lab h
  have Vb : sm_V b := e2 ▸ lab _
  have Vc : sm_V c := e3 ▸ lab _
  have hf := u.1
  refine sm_write hf Va Vb Vv ?_
  dsimp only
  refine sm_write hg Vb Vc Vv ?_
  dsimp only
  refine sm_write hk Vc Va Vv ?_
  dsimp only
  refine sm_link' (3 * (h / 3)) g1 (sm_e0 _) rfl (by omega) l1 ?_
  dsimp only
  refine sm_link' (3 * g) g2 (sm_e0 _) rfl (by omega) l2 ?_
  dsimp only
  refine sm_link' (3 * k) g3 (sm_e0 _) rfl (by omega) l3 ?_
  dsimp only
  refine sm_link' (3 * (h / 3) + 1) (3 * g + 2) (sm_e1 _) (sm_e2 _) (by omega) (by omega) ?_
  dsimp only
  refine sm_link' (3 * g + 1) (3 * k + 2) (sm_e1 _) (sm_e2 _) (by omega) (by omega) ?_
  dsimp only
  refine sm_link' (3 * k + 1) (3 * (h / 3) + 2) (sm_e1 _) (sm_e2 _) (by omega) (by omega) ?_
  dsimp only
  refine nm_e (sm_refresh (sm_wr_V (sm_wr_V (sm_wr_V lab Va Vb Vv) Vb Vc Vv) Vc Va Vv) (fun ot' out => ?_))
  dsimp only
  exact H2 _ _ _ _ _ fF v10 (sm_sfX X u e1 e2 e3 v10 (hi v10) hg eg hk ek a1 a2 a3 l1 l2 l3 out) (by omega) (sm_cnt_or (n := 10) (by omega) v10 ev)
theorem sm_ysf {ct : Nat} {pa pb pc : Nat → Int32} (Y : sm_Y F ct pa pb pc) (t : sm_T F) (rg : ∀ x y z, F x y z → sm_V x) {a b c : Int32} {v : Nat} (hv : v ≤ 10) (lo : ∀ i, i < v → sm_Vt F (nI i)) (hi : v < 10 → ¬ sm_Vt F (nI v)) (room : v < 10 → ct ≤ 14) {post : Int32 → SY → Prop} (H0 : ¬ F a b c → post (-1) (nI ct, pa, pb, pc)) (H1 : F a b c → v = 10 → post (-2) (nI ct, pa, pb, pc)) (H2 : ∀ qa qb qc, F a b c → v < 10 → sm_Y (sm_sf F a b c (nI v)) (ct + 2) qa qb qc → post (nI v) (nI (ct + 2), qa, qb, qc)) : wpY_splitFace post (nI ct, pa, pb, pc) a b c := by
  unfold wpY_splitFace
  dsimp only
  refine sm_yisF Y (fun f => br_f (by decide) ?_) (fun n => br_t rfl (H0 n))
  refine sm_fresh Y t rg hv lo hi (pk_eq v 10 (fun e => H1 f e) (fun e => ?_))
  have v10 : v < 10 := by omega
  have rm := room v10
  obtain ⟨rot, dis, _⟩ := t
  have f1 := rot _ _ _ f
  have f2 := rot _ _ _ f1
  have nv1 : ∀ x y z, F x y z → x ≠ nI v := fun x y z g e => hi v10 ⟨y, z, e ▸ g⟩
  have va := nv1 _ _ _ f
  have vb := nv1 _ _ _ f1
  have vc := nv1 _ _ _ f2
  have ab := dis _ _ _ f
  have bc := dis _ _ _ f1
  have ca := dis _ _ _ f2
  have cp : 0 < ct := by
    obtain ⟨i, hi, _⟩ := (Y.2.1 _ _ _).mp f
    exact Nat.lt_of_le_of_lt (Nat.zero_le i) hi
  obtain ⟨n, rfl⟩ : ∃ n, ct = n + 1 := ⟨ct - 1, by omega⟩
  refine sm_take Y f (fun qa qb qc Y1 => ?_)
  refine sm_put Y1 (by omega) (sm_del_rot rot) (fun z => nv1 _ _ _ (rot _ _ _ (rot _ _ _ z.1)) rfl) (fun qa qb qc Y2 => ?_)
  refine sm_put Y2 (by omega) (sm_ins_rot (sm_del_rot rot)) ?_ (fun qa qb qc Y3 => ?_)
  · rintro (z | z)
    · exact nv1 _ _ _ (rot _ _ _ (rot _ _ _ z.1)) rfl
    · unfold sm_R at z; grind
  refine sm_put Y3 (by omega) (sm_ins_rot (sm_ins_rot (sm_del_rot rot))) ?_ (fun qa qb qc Y4 => ?_)
  · rintro ((z | z) | z)
    · exact nv1 _ _ _ (rot _ _ _ (rot _ _ _ z.1)) rfl
    · unfold sm_R at z; grind
    · unfold sm_R at z; grind
  exact H2 _ _ _ f v10 Y4
end
theorem i_vc_splitFace {k : Nat} {u : SX} {v : SY} (I : i_Rel k u v) (hk : k + 4 ≤ 2048) (v1 : Int32) (v2 : Int32) (v3 : Int32) : wpX_splitFace (fun r u' => wpY_splitFace (fun r' v' => r' = r ∧ i_Rel (k + 4) u' v') v v1 v2 v3) u v1 v2 v3 := by
  have J := i_up I
  obtain ⟨F, vs, fs, fr, ag, ot, ct, pa, pb, pc, ⟨X, Y, c1, c2⟩, rfl, rfl⟩ := I
  obtain ⟨w, hw, lo, hi⟩ := sm_least (fun i => sm_Vt F (nI i)) 10
  have room : w < 10 → ct ≤ 14 := fun h => by have := (sm_room X h (hi h) c1 c2).1; omega
  refine sm_xsf X hw lo hi c1 c2 (fun n => ?_) (fun f e => ?_) (fun vs' fs' fr' ag' ot' f w10 X' d1 d2 => ?_)
  · exact sm_ysf Y X.1 X.2.1 hw lo hi room (fun _ => ⟨rfl, J⟩) (fun f => absurd f n) (fun _ _ _ f => absurd f n)
  · exact sm_ysf Y X.1 X.2.1 hw lo hi room (fun n => absurd f n) (fun _ _ => ⟨rfl, J⟩) (fun _ _ _ _ w10 => absurd w10 (by omega))
  · refine sm_ysf Y X.1 X.2.1 hw lo hi room (fun n => absurd f n) (fun _ e => absurd w10 (by omega)) (fun qa qb qc _ _ Y' => ⟨rfl, ?_⟩)
    exact ⟨_, vs', fs', fr', ag', ot', ct + 2, qa, qb, qc, ⟨X', Y', by omega, by omega⟩, rfl, rfl⟩
end
section
/-- links that mend all arrows: D are the faces that were written or taken out -/
theorem sm_lks_all {I0 I D : Nat → Prop} {fr L ag : Nat → Int32} {l : List (Nat × Nat)} (ok : ∀ h, I0 (h / 3) → sm_OK I0 fr ag h) (h1 : ∀ x q, I0 (x / 3) → ¬ D (x / 3) → I0 (q / 3) → ¬ D (q / 3) → fr q = fr (sm_nx x) → fr (sm_nx q) = fr x → I (q / 3) ∧ L q = L (sm_nx x) ∧ L (sm_nx q) = L x) (h2 : ∀ p, p ∈ l → sm_gp I L p.1 p.2) (h3 : ∀ x, I (x / 3) → D (x / 3) → ∃ p, p ∈ l ∧ (x = p.1 ∨ x = p.2)) (h4 : ∀ x q, I0 (x / 3) → ¬ D (x / 3) → I0 (q / 3) → D (q / 3) → fr q = fr (sm_nx x) → fr (sm_nx q) = fr x → ∃ p, p ∈ l ∧ (x = p.1 ∨ x = p.2)) (h5 : ∀ j, I j → ¬ D j → I0 j) : ∀ x, I (x / 3) → sm_OK I L (sm_lks ag l) x := by
  intro x ux
  apply sm_lks_ok l ag h2
  by_cases dx : D (x / 3)
  · exact Or.inr (h3 x ux dx)
  · have u0 := h5 _ ux dx
    obtain ⟨q, eq, hq, iq, m1, m2⟩ := ok x u0
    by_cases dq : D (q / 3)
    · exact Or.inr (h4 x q u0 dx iq dq m1 m2)
    · obtain ⟨k1, k2, k3⟩ := h1 x q u0 dx iq dq m1 m2
      exact Or.inl ⟨q, eq, hq, k1, k2, k3⟩
theorem sm_dv (j : Nat) : 3 * j / 3 = j ∧ (3 * j + 1) / 3 = j ∧ (3 * j + 2) / 3 = j := by omega
/-- a pair by its two faces -/
theorem sm_gp0 {I : Nat → Prop} {L : Nat → Int32} {h g : Nat} {x y : Int32} (hh : h < 48) (ih : I (h / 3)) (hg : g < 48) (ig : I (g / 3)) (e1 : L h = x) (e2 : L (sm_nx h) = y) (e3 : L g = y) (e4 : L (sm_nx g) = x) : sm_gp I L h g := ⟨hh, ih, hg, ig, e1.trans e4.symm, e2.trans e3.symm⟩
section
variable {F : Int32 → Int32 → Int32 → Prop} {vs fs : Int32} {fr ag ot : Nat → Int32}
/-- the two faces at an edge, their four outer arrows -/
theorem sm_edge (X : sm_X F vs fs fr ag ot) {a b : Int32} {h : Nat} (u : sm_Fs fs (h / 3)) (ea : fr h = a) (eb : fr (sm_nx h) = b) : ∃ r g1 g2 g3 g4, ag h = nI r ∧ ag (sm_nx h) = nI g1 ∧ ag (sm_bf h) = nI g2 ∧ ag (sm_nx r) = nI g3 ∧ ag (sm_bf r) = nI g4 ∧ sm_Fs fs (r / 3) ∧ fr r = b ∧ fr (sm_nx r) = a ∧ r / 3 ≠ h / 3 ∧ F a b (fr (sm_bf h)) ∧ F b a (fr (sm_bf r)) ∧ (sm_Fs fs (g1 / 3) ∧ fr g1 = fr (sm_bf h) ∧ fr (sm_nx g1) = b) ∧ (sm_Fs fs (g2 / 3) ∧ fr g2 = a ∧ fr (sm_nx g2) = fr (sm_bf h)) ∧ (sm_Fs fs (g3 / 3) ∧ fr g3 = fr (sm_bf r) ∧ fr (sm_nx g3) = a) ∧ (sm_Fs fs (g4 / 3) ∧ fr g4 = b ∧ fr (sm_nx g4) = fr (sm_bf r)) := by
  have ok := X.2.2.2.2.1
  obtain ⟨r, er, lr, ur, r1, r2⟩ := ok h u
  obtain ⟨g1, e1, l1, u1, p1, q1⟩ := ok (sm_nx h) (by rw [sm_nx_d]; exact u)
  obtain ⟨g2, e2, l2, u2, p2, q2⟩ := ok (sm_bf h) (by rw [sm_bf_d]; exact u)
  obtain ⟨g3, e3, l3, u3, p3, q3⟩ := ok (sm_nx r) (by rw [sm_nx_d]; exact ur)
  obtain ⟨g4, e4, l4, u4, p4, q4⟩ := ok (sm_bf r) (by rw [sm_bf_d]; exact ur)
  have f1 := sm_RX_F X.2.2.2.1 u
  have f2 := sm_RX_F X.2.2.2.1 ur
  have ne := sm_OK_ne X.1 X.2.2.2.1 u r1 r2
  rw [eb] at r1
  rw [ea] at r2
  rw [ea, eb] at f1
  rw [r1, r2] at f2
  rw [sm_nx_nx] at p1
  rw [eb] at q1
  rw [sm_nx_bf, ea] at p2
  rw [sm_nx_nx] at p3
  rw [r2] at q3
  rw [sm_nx_bf, r1] at p4
  exact ⟨r, g1, g2, g3, g4, er, e1, e2, e3, e4, ur, r1, r2, ne, f1, f2, ⟨u1, p1, q1⟩, ⟨u2, p2, q2⟩, ⟨u3, p3, q3⟩, ⟨u4, p4, q4⟩⟩
/-- a used arrow whose edge is none of a face's three lies in another face -/
theorem sm_off {h g : Nat} (n0 : ¬ (fr g = fr h ∧ fr (sm_nx g) = fr (sm_nx h))) (n1 : ¬ (fr g = fr (sm_nx h) ∧ fr (sm_nx g) = fr (sm_bf h))) (n2 : ¬ (fr g = fr (sm_bf h) ∧ fr (sm_nx g) = fr h)) : g / 3 ≠ h / 3 := by
  intro e
  rcases sm_same e with q | q | q
  · subst q; exact n0 ⟨rfl, rfl⟩
  · subst q; exact n1 ⟨rfl, by rw [sm_nx_nx]⟩
  · subst q; exact n2 ⟨rfl, by rw [sm_nx_bf]⟩
theorem sm_flX (X : sm_X F vs fs fr ag ot) {a b c d : Int32} {h r g1 g2 g3 g4 : Nat} (u : sm_Fs fs (h / 3)) (ea : fr h = a) (eb : fr (sm_nx h) = b) (ec : fr (sm_bf h) = c) (ur : sm_Fs fs (r / 3)) (ra : fr r = b) (rb : fr (sm_nx r) = a) (rc : fr (sm_bf r) = d) (ne : r / 3 ≠ h / 3) (f1 : F a b c) (f2 : F b a d) (cd : c ≠ d) (ncd : ∀ z, ¬ F c d z) (G1 : sm_Fs fs (g1 / 3) ∧ fr g1 = c ∧ fr (sm_nx g1) = b) (G2 : sm_Fs fs (g2 / 3) ∧ fr g2 = a ∧ fr (sm_nx g2) = c) (G3 : sm_Fs fs (g3 / 3) ∧ fr g3 = d ∧ fr (sm_nx g3) = a) (G4 : sm_Fs fs (g4 / 3) ∧ fr g4 = b ∧ fr (sm_nx g4) = d) {ot' : Nat → Int32}
    (out : ∀ x, sm_Fs fs (x / 3) → ∃ y, ot' (sm_wr (sm_wr fr (h / 3) c a d) (r / 3) d b c x).toNatClampNeg = nI y ∧ y < 48 ∧ sm_Fs fs (y / 3) ∧ sm_wr (sm_wr fr (h / 3) c a d) (r / 3) d b c y = sm_wr (sm_wr fr (h / 3) c a d) (r / 3) d b c x) :
    sm_X (sm_fl F a b c d) vs fs (sm_wr (sm_wr fr (h / 3) c a d) (r / 3) d b c) (sm_lks ag [(3 * (h / 3), g2), (3 * (h / 3) + 1, g3), (3 * (h / 3) + 2, 3 * (r / 3) + 2), (3 * (r / 3), g4), (3 * (r / 3) + 1, g1)]) ot' := by
  obtain ⟨t, rg, mk, rx, ok, _, lab⟩ := X
  have t0 := t
  obtain ⟨rot, dis, unq, clo, thi, st, co⟩ := t
  have hf := u.1
  have he := ur.1
  have f1' := rot _ _ _ f1
  have f1'' := rot _ _ _ f1'
  have f2' := rot _ _ _ f2
  have f2'' := rot _ _ _ f2'
  have ab := dis _ _ _ f1
  have bc := dis _ _ _ f1'
  have ca := dis _ _ _ f1''
  have ad := dis _ _ _ f2'
  have db := dis _ _ _ f2''
  have Va : sm_V a := ea ▸ lab h
  have Vb : sm_V b := eb ▸ lab _
  have Vc : sm_V c := ec ▸ lab _
  have Vd : sm_V d := rc ▸ lab _
  have r1 := sm_RX_del (I' := fun j => sm_Fs fs j ∧ j ≠ h / 3) rx u (fun _ => Iff.rfl)
  rw [ea, eb, ec] at r1
  have r2 := sm_RX_del (I' := fun j => (sm_Fs fs j ∧ j ≠ h / 3) ∧ j ≠ r / 3) (h := r) r1 ⟨ur, ne⟩ (fun _ => Iff.rfl)
  rw [ra, rb, rc] at r2
  have r3 := sm_RX_ins (I' := fun j => sm_Fs fs j ∧ j ≠ r / 3) (f := h / 3) (a := c) (b := a) (c := d) r2 (fun z => z.1.2 rfl) (fun z => db (unq _ _ _ _ z.1.1 f1'')) (sm_del_rot (sm_del_rot rot)) (fun j => ⟨fun z => by
    by_cases e : j = h / 3
    · exact Or.inr e
    · exact Or.inl ⟨⟨z.1, e⟩, z.2⟩, fun z => z.elim (fun q => ⟨q.1.1, q.2⟩) (fun q => ⟨q ▸ u, q ▸ ne.symm⟩)⟩)
  have r4 := sm_RX_ins (I' := sm_Fs fs) (f := r / 3) (a := d) (b := b) (c := c) r3 (fun z => z.2 rfl) (by
    rintro (z | z)
    · exact ca (unq _ _ _ _ z.1.1 f2'')
    · unfold sm_R at z; grind) (sm_ins_rot (sm_del_rot (sm_del_rot rot))) (fun j => ⟨fun z => by
    by_cases e : j = r / 3
    · exact Or.inr e
    · exact Or.inl ⟨z, e⟩, fun z => z.elim (fun q => q.1) (fun q => q ▸ ur)⟩)
  have old0 : ∀ x, x / 3 ≠ h / 3 → x / 3 ≠ r / 3 → sm_wr (sm_wr fr (h / 3) c a d) (r / 3) d b c x = fr x := by
    intro x n1 n2
    rw [sm_wr_ne n2, sm_wr_ne n1]
  have Lf : ∀ x, x / 3 = h / 3 → sm_wr (sm_wr fr (h / 3) c a d) (r / 3) d b c x = sm_wr fr (h / 3) c a d x := by
    intro x n1
    rw [sm_wr_ne (by omega)]
  obtain ⟨p0, p1, p2⟩ := sm_wr_at fr (h / 3) c a d
  obtain ⟨q0, q1, q2⟩ := sm_wr_at (sm_wr fr (h / 3) c a d) (r / 3) d b c
  rw [← Lf (3 * (h / 3)) (by omega)] at p0
  rw [← Lf (3 * (h / 3) + 1) (by omega)] at p1
  rw [← Lf (3 * (h / 3) + 2) (by omega)] at p2
  have lab' : ∀ x, sm_V (sm_wr (sm_wr fr (h / 3) c a d) (r / 3) d b c x) := sm_wr_V (sm_wr_V lab Vc Va Vd) Vd Vb Vc
  refine sm_X_mk (sm_fl_T t0 f1 f2 cd ncd) ?_ r4 ?_ lab' out
  · exact sm_Mk_eq mk (fun i hi => (sm_fl_V rot f1 f2 _).symm)
  · revert old0 p0 p1 p2 q0 q1 q2
    generalize sm_wr (sm_wr fr (h / 3) c a d) (r / 3) d b c = L
    intro old0 p0 p1 p2 q0 q1 q2
    clear out r1 r2 r3 r4 Lf lab' mk Va Vb Vc Vd rg
    have old : ∀ y, y / 3 ≠ h / 3 → y / 3 ≠ r / 3 → L y = fr y ∧ L (sm_nx y) = fr (sm_nx y) := by
      intro y n1 n2
      exact ⟨old0 y n1 n2, old0 _ (by rw [sm_nx_d]; exact n1) (by rw [sm_nx_d]; exact n2)⟩
    obtain ⟨i1, b1, c1⟩ := G1
    obtain ⟨i2, b2, c2⟩ := G2
    obtain ⟨i3, b3, c3⟩ := G3
    obtain ⟨i4, b4, c4⟩ := G4
    have offh : ∀ g x y, fr g = x → fr (sm_nx g) = y → ¬ (x = a ∧ y = b) → ¬ (x = b ∧ y = c) → ¬ (x = c ∧ y = a) → g / 3 ≠ h / 3 := by
      intro g x y e1 e2 n0 n1 n2
      exact sm_off (fr := fr) (by rw [e1, e2, ea, eb]; exact n0) (by rw [e1, e2, eb, ec]; exact n1) (by rw [e1, e2, ec, ea]; exact n2)
    have offr : ∀ g x y, fr g = x → fr (sm_nx g) = y → ¬ (x = b ∧ y = a) → ¬ (x = a ∧ y = d) → ¬ (x = d ∧ y = b) → g / 3 ≠ r / 3 := by
      intro g x y e1 e2 n0 n1 n2
      exact sm_off (fr := fr) (by rw [e1, e2, ra, rb]; exact n0) (by rw [e1, e2, rb, rc]; exact n1) (by rw [e1, e2, rc, ra]; exact n2)
    obtain ⟨o1, o1'⟩ := old g1 (offh _ _ _ b1 c1 (by grind) (by grind) (by grind)) (offr _ _ _ b1 c1 (by grind) (by grind) (by grind))
    obtain ⟨o2, o2'⟩ := old g2 (offh _ _ _ b2 c2 (by grind) (by grind) (by grind)) (offr _ _ _ b2 c2 (by grind) (by grind) (by grind))
    obtain ⟨o3, o3'⟩ := old g3 (offh _ _ _ b3 c3 (by grind) (by grind) (by grind)) (offr _ _ _ b3 c3 (by grind) (by grind) (by grind))
    obtain ⟨o4, o4'⟩ := old g4 (offh _ _ _ b4 c4 (by grind) (by grind) (by grind)) (offr _ _ _ b4 c4 (by grind) (by grind) (by grind))
    obtain ⟨nf0, nf1, nf2⟩ := sm_nx0 (h / 3)
    obtain ⟨ng0, ng1, ng2⟩ := sm_nx0 (r / 3)
    obtain ⟨vf0, vf1, vf2⟩ := sm_dv (h / 3)
    obtain ⟨vg0, vg1, vg2⟩ := sm_dv (r / 3)
    have l1 := sm_lt48 i1
    have l2 := sm_lt48 i2
    have l3 := sm_lt48 i3
    have l4 := sm_lt48 i4
    refine sm_lks_all (I0 := sm_Fs fs) (D := fun j => j = h / 3 ∨ j = r / 3) (fr := fr) ok ?_ ?_ ?_ ?_ (fun j z _ => z)
    · intro x q ux dx uq dq m1 m2
      obtain ⟨w1, w2⟩ := old x (fun z => dx (Or.inl z)) (fun z => dx (Or.inr z))
      obtain ⟨w3, w4⟩ := old q (fun z => dq (Or.inl z)) (fun z => dq (Or.inr z))
      exact ⟨uq, by rw [w3, w2, m1], by rw [w4, w1, m2]⟩
    · intro p hp
      simp only [List.mem_cons, List.not_mem_nil, or_false] at hp
      rcases hp with rfl | rfl | rfl | rfl | rfl
      · exact sm_gp0 (by show _ < 48; omega) (by show sm_Fs fs (3 * (h / 3) / 3); rw [vf0]; exact u) l2 i2 p0 (by show L (sm_nx (3 * (h / 3))) = _; rw [nf0]; exact p1) (o2.trans b2) (o2'.trans c2)
      · exact sm_gp0 (by show _ < 48; omega) (by show sm_Fs fs ((3 * (h / 3) + 1) / 3); rw [vf1]; exact u) l3 i3 p1 (by show L (sm_nx (3 * (h / 3) + 1)) = _; rw [nf1]; exact p2) (o3.trans b3) (o3'.trans c3)
      · exact sm_gp0 (by show _ < 48; omega) (by show sm_Fs fs ((3 * (h / 3) + 2) / 3); rw [vf2]; exact u) (by show _ < 48; omega) (by show sm_Fs fs ((3 * (r / 3) + 2) / 3); rw [vg2]; exact ur) p2 (by show L (sm_nx (3 * (h / 3) + 2)) = _; rw [nf2]; exact p0) q2 (by show L (sm_nx (3 * (r / 3) + 2)) = _; rw [ng2]; exact q0)
      · exact sm_gp0 (by show _ < 48; omega) (by show sm_Fs fs (3 * (r / 3) / 3); rw [vg0]; exact ur) l4 i4 q0 (by show L (sm_nx (3 * (r / 3))) = _; rw [ng0]; exact q1) (o4.trans b4) (o4'.trans c4)
      · exact sm_gp0 (by show _ < 48; omega) (by show sm_Fs fs ((3 * (r / 3) + 1) / 3); rw [vg1]; exact ur) l1 i1 q1 (by show L (sm_nx (3 * (r / 3) + 1)) = _; rw [ng1]; exact q2) (o1.trans b1) (o1'.trans c1)
    · rintro x ux (xf | xf)
      · rcases sm_c3 x with e | e | e <;> rw [xf] at e
        · exact ⟨(3 * (h / 3), g2), by simp, Or.inl e⟩
        · exact ⟨(3 * (h / 3) + 1, g3), by simp, Or.inl e⟩
        · exact ⟨(3 * (h / 3) + 2, 3 * (r / 3) + 2), by simp, Or.inl e⟩
      · rcases sm_c3 x with e | e | e <;> rw [xf] at e
        · exact ⟨(3 * (r / 3), g4), by simp, Or.inl e⟩
        · exact ⟨(3 * (r / 3) + 1, g1), by simp, Or.inl e⟩
        · exact ⟨(3 * (h / 3) + 2, 3 * (r / 3) + 2), by simp, Or.inr e⟩
    · rintro x q ux dx uq (qf | qf) m1 m2
      · rcases sm_same qf with e | e | e
        · subst e
          have z : x = r := sm_RX_u t0 rx ux ur (m2.symm.trans (eb.trans ra.symm)) (m1.symm.trans (ea.trans rb.symm))
          exact absurd (Or.inr (by rw [z])) dx
        · rw [e] at m1 m2
          rw [sm_nx_nx] at m2
          have z : x = g1 := sm_RX_u t0 rx ux i1 (m2.symm.trans (ec.trans b1.symm)) (m1.symm.trans (eb.trans c1.symm))
          exact ⟨(3 * (r / 3) + 1, g1), by simp, Or.inr z⟩
        · rw [e] at m1 m2
          rw [sm_nx_bf] at m2
          have z : x = g2 := sm_RX_u t0 rx ux i2 (m2.symm.trans (ea.trans b2.symm)) (m1.symm.trans (ec.trans c2.symm))
          exact ⟨(3 * (h / 3), g2), by simp, Or.inr z⟩
      · rcases sm_same qf with e | e | e
        · subst e
          have z : x = h := sm_RX_u t0 rx ux u (m2.symm.trans (rb.trans ea.symm)) (m1.symm.trans (ra.trans eb.symm))
          exact absurd (Or.inl (by rw [z])) dx
        · rw [e] at m1 m2
          rw [sm_nx_nx] at m2
          have z : x = g3 := sm_RX_u t0 rx ux i3 (m2.symm.trans (rc.trans b3.symm)) (m1.symm.trans (rb.trans c3.symm))
          exact ⟨(3 * (h / 3) + 1, g3), by simp, Or.inr z⟩
        · rw [e] at m1 m2
          rw [sm_nx_bf] at m2
          have z : x = g4 := sm_RX_u t0 rx ux i4 (m2.symm.trans (ra.trans b4.symm)) (m1.symm.trans (rc.trans c4.symm))
          exact ⟨(3 * (r / 3), g4), by simp, Or.inr z⟩
end
end
section
section
variable {F : Int32 → Int32 → Int32 → Prop} {vs fs : Int32} {fr ag ot : Nat → Int32}
theorem sm_xfl (X : sm_X F vs fs fr ag ot) {a b : Int32} {post : Int32 → SX → Prop} (H0 : (∀ z, ¬ F a b z) → post (-1) (vs, fs, fr, ag, ot)) (H1 : sm_E F a b → ¬ sm_CF F a b → post (-3) (vs, fs, fr, ag, ot)) (H2 : ∀ c d fr' ag' ot', F a b c → F b a d → c ≠ d → (∀ z, ¬ F c d z) → sm_X (sm_fl F a b c d) vs fs fr' ag' ot' → post 0 (vs, fs, fr', ag', ot')) : wpX_flip post (vs, fs, fr, ag, ot) a b := by
  unfold wpX_flip
  dsimp only
  refine sm_find X (fun h u ea eb => br_t (nI_pos' (by have := sm_lt48 u; omega)) ?_) (fun no => br_f (by decide) (H0 no))
  obtain ⟨r, g1, g2, g3, g4, er, e1, e2, e3, e4, ur, ra, rb, ne, f1, f2, G1, G2, G3, G4⟩ := sm_edge X u ea eb
  have lh := sm_lt48 u
  have lr := sm_lt48 ur
  have lab := X.2.2.2.2.2.2
  refine sm_canFlip X u (fun cf => br_f (by decide) ?_) (fun cf => br_t rfl (H1 ⟨_, f1⟩ (by rw [ea, eb] at cf; exact cf)))
  rw [ea, eb] at cf
  obtain ⟨c, d, k1, k2, cd, ncd⟩ := cf
  have ec : fr (sm_bf h) = c := X.1.2.2.1 _ _ _ _ f1 k1
  have ed : fr (sm_bf r) = d := X.1.2.2.1 _ _ _ _ f2 k2
  rw [ec] at f1 G1 G2
  rw [ed] at f2 G3 G4
  have l1 := sm_lt48 G1.1
  have l2 := sm_lt48 G2.1
  have l3 := sm_lt48 G3.1
  have l4 := sm_lt48 G4.1
  have nh := sm_nx_lt lh
  have bh := sm_bf_lt lh
  have nr := sm_nx_lt lr
  have br := sm_bf_lt lr
  refine ⟨vp_in_nI lh (by omega), nm_r (e' := nI r) (sm_nm lh er) (sm_third lh (sm_third lr (sm_next lh (sm_before lh (sm_next lr (sm_before lr ?_))))))⟩
  rw [ec, ed]
  refine ⟨vp_in_nI nh (by omega), nm_r (e' := nI g1) (sm_nm nh e1) ⟨vp_in_nI bh (by omega), nm_r (e' := nI g2) (sm_nm bh e2) ⟨vp_in_nI nr (by omega), nm_r (e' := nI g3) (sm_nm nr e3) ⟨vp_in_nI br (by omega), nm_r (e' := nI g4) (sm_nm br e4) ⟨by decide, nm_r (e' := nI (h / 3)) (pk_div (d := 3) (by omega) (by omega) (by omega)) ⟨by decide, nm_r (e' := nI (r / 3)) (pk_div (d := 3) (by omega) (by omega) (by omega)) ?_⟩⟩⟩⟩⟩⟩
  have Va : sm_V a := ea ▸ lab h
  have Vb : sm_V b := eb ▸ lab _
  have Vc : sm_V c := ec ▸ lab _
  have Vd : sm_V d := ed ▸ lab _
  have hf := u.1
  have he := ur.1
  refine sm_write hf Vc Va Vd ?_
  dsimp only
  refine sm_write he Vd Vb Vc ?_
  dsimp only
  refine sm_link' (3 * (h / 3)) g2 (sm_e0 _) rfl (by omega) l2 ?_
  dsimp only
  refine sm_link' (3 * (h / 3) + 1) g3 (sm_e1 _) rfl (by omega) l3 ?_
  dsimp only
  refine sm_link' (3 * (h / 3) + 2) (3 * (r / 3) + 2) (sm_e2 _) (sm_e2 _) (by omega) (by omega) ?_
  dsimp only
  refine sm_link' (3 * (r / 3)) g4 (sm_e0 _) rfl (by omega) l4 ?_
  dsimp only
  refine sm_link' (3 * (r / 3) + 1) g1 (sm_e1 _) rfl (by omega) l1 ?_
  dsimp only
  refine sm_refresh (sm_wr_V (sm_wr_V lab Vc Va Vd) Vd Vb Vc) (fun ot' out => ?_)
  dsimp only
  exact H2 c d _ _ _ f1 f2 cd ncd (sm_flX X u ea eb ec ur ra rb ed ne f1 f2 cd ncd G1 G2 G3 G4 out)
theorem sm_yfl {ct : Nat} {pa pb pc : Nat → Int32} (Y : sm_Y F ct pa pb pc) (t : sm_T F) (rg : ∀ x y z, F x y z → sm_V x) {a b : Int32} {post : Int32 → SY → Prop} (H0 : (∀ z, ¬ F a b z) → post (-1) (nI ct, pa, pb, pc)) (H1 : sm_E F a b → ¬ sm_CF F a b → post (-3) (nI ct, pa, pb, pc)) (H2 : ∀ c d qa qb qc, F a b c → F b a d → c ≠ d → (∀ z, ¬ F c d z) → sm_Y (sm_fl F a b c d) ct qa qb qc → post 0 (nI ct, qa, qb, qc)) : wpY_flip post (nI ct, pa, pb, pc) a b := by
  unfold wpY_flip
  dsimp only
  refine sm_opp Y t rg (fun c fc => ?_) (fun no => sm_opp Y t rg (fun d fd => br_f (by decide) (H0 no)) (fun _ => br_f (by decide) (H0 no)))
  refine sm_opp Y t rg (fun d fd => ?_) (fun no => ?_)
  · refine br_t (Int32.not_lt.mp (sm_V_pos (rg _ _ _ (t.1 _ _ _ (t.1 _ _ _ fc))))) ?_
    refine sm_flips Y t rg (fun cf => br_f (by decide) ?_) (fun cf => br_t rfl (H1 ⟨_, fc⟩ cf))
    obtain ⟨c', d', k1, k2, cd, ncd⟩ := cf
    cases t.2.2.1 _ _ _ _ fc k1
    cases t.2.2.1 _ _ _ _ fd k2
    obtain ⟨rot, dis, unq, _⟩ := t
    have f1' := rot _ _ _ fc
    have f1'' := rot _ _ _ f1'
    have f2' := rot _ _ _ fd
    have f2'' := rot _ _ _ f2'
    have ab := dis _ _ _ fc
    have bc := dis _ _ _ f1'
    have ca := dis _ _ _ f1''
    have ad := dis _ _ _ f2'
    have db := dis _ _ _ f2''
    have two : ∃ n, ct = n + 2 := by
      obtain ⟨i, hi, r1⟩ := (Y.2.1 _ _ _).mp fc
      obtain ⟨j, hj, r2⟩ := (Y.2.1 _ _ _).mp fd
      have ij : i ≠ j := by
        intro e
        subst e
        have := sm_Rt (sm_Rs r1) r2
        unfold sm_R at this
        grind
      have hi : i < ct := hi
      have hj : j < ct := hj
      exact ⟨ct - 2, by omega⟩
    obtain ⟨n, rfl⟩ := two
    have hc := Y.1
    refine sm_take (n := n + 1) Y fc (fun qa qb qc Y1 => ?_)
    dsimp only
    refine sm_take (n := n) Y1 ⟨fd, by unfold sm_R; grind⟩ (fun qa qb qc Y2 => ?_)
    dsimp only
    refine sm_put Y2 (by omega) (sm_del_rot (sm_del_rot rot)) (fun z => db (unq _ _ _ _ z.1.1 f1'')) (fun qa qb qc Y3 => ?_)
    dsimp only
    refine sm_put Y3 (by omega) (sm_ins_rot (sm_del_rot (sm_del_rot rot))) ?_ (fun qa qb qc Y4 => ?_)
    · rintro (z | z)
      · exact ca (unq _ _ _ _ z.1.1 f2'')
      · unfold sm_R at z; grind
    dsimp only
    exact H2 _ _ _ _ _ fc fd cd ncd Y4
  · obtain ⟨w, hw⟩ := t.2.2.2.1 _ _ _ fc
    exact absurd hw (no w)
end
theorem i_vc_flip {k : Nat} {u : SX} {v : SY} (I : i_Rel k u v) (hk : k + 4 ≤ 2048) (v1 : Int32) (v2 : Int32) : wpX_flip (fun r u' => wpY_flip (fun r' v' => r' = r ∧ i_Rel (k + 4) u' v') v v1 v2) u v1 v2 := by
  have J := i_up I
  obtain ⟨F, vs, fs, fr, ag, ot, ct, pa, pb, pc, ⟨X, Y, c1, c2⟩, rfl, rfl⟩ := I
  refine sm_xfl X (fun n => ?_) (fun f n => ?_) (fun c d fr' ag' ot' f1 f2 cd ncd X' => ?_)
  · exact sm_yfl Y X.1 X.2.1 (fun _ => ⟨rfl, J⟩) (fun f => f.elim (fun z q => absurd q (n z))) (fun c _ _ _ _ f => absurd f (n c))
  · exact sm_yfl Y X.1 X.2.1 (fun n => f.elim (fun z q => absurd q (n z))) (fun _ _ => ⟨rfl, J⟩) (fun c d _ _ _ f1 f2 cd ncd => absurd ⟨c, d, f1, f2, cd, ncd⟩ n)
  · refine sm_yfl Y X.1 X.2.1 (fun n => absurd f1 (n _)) (fun _ n => absurd ⟨c, d, f1, f2, cd, ncd⟩ n) (fun c' d' qa qb qc k1 k2 _ _ Y' => ⟨rfl, ?_⟩)
    cases X.1.2.2.1 _ _ _ _ f1 k1
    cases X.1.2.2.1 _ _ _ _ f2 k2
    exact ⟨_, vs, fs, fr', ag', ot', ct, qa, qb, qc, ⟨X', Y', c1, c2⟩, rfl, rfl⟩
end
section
section
variable {F : Int32 → Int32 → Int32 → Prop} {vs fs : Int32} {fr ag ot : Nat → Int32}
/-- the labels after an edge cut -/
def sm_seL (fr : Nat → Int32) (f e g k : Nat) (a b c d v : Int32) : Nat → Int32 := sm_wr (sm_wr (sm_wr (sm_wr fr f a v c) g v b c) e b v d) k v a d
theorem sm_seX (X : sm_X F vs fs fr ag ot) {a b c d : Int32} {h r g1 g2 g3 g4 : Nat} (u : sm_Fs fs (h / 3)) (ea : fr h = a) (eb : fr (sm_nx h) = b) (ec : fr (sm_bf h) = c) (ur : sm_Fs fs (r / 3)) (ra : fr r = b) (rb : fr (sm_nx r) = a) (rc : fr (sm_bf r) = d) (ne : r / 3 ≠ h / 3) (f1 : F a b c) (f2 : F b a d) (G1 : sm_Fs fs (g1 / 3) ∧ fr g1 = c ∧ fr (sm_nx g1) = b) (G2 : sm_Fs fs (g2 / 3) ∧ fr g2 = a ∧ fr (sm_nx g2) = c) (G3 : sm_Fs fs (g3 / 3) ∧ fr g3 = d ∧ fr (sm_nx g3) = a) (G4 : sm_Fs fs (g4 / 3) ∧ fr g4 = b ∧ fr (sm_nx g4) = d) {v : Nat} (hv : v < 10) (nv : ¬ sm_Vt F (nI v)) {g k : Nat} (hg : g < 16) (eg : bt fs g = false) (hk : k < 16) (ek : bt (fs ||| ((1 : Int32) <<< (nI g &&& 31))) k = false) {ot' : Nat → Int32}
    (out : ∀ x, sm_Fs ((fs ||| ((1 : Int32) <<< (nI g &&& 31))) ||| ((1 : Int32) <<< (nI k &&& 31))) (x / 3) → ∃ y, ot' (sm_seL fr (h / 3) (r / 3) g k a b c d (nI v) x).toNatClampNeg = nI y ∧ y < 48 ∧ sm_Fs ((fs ||| ((1 : Int32) <<< (nI g &&& 31))) ||| ((1 : Int32) <<< (nI k &&& 31))) (y / 3) ∧ sm_seL fr (h / 3) (r / 3) g k a b c d (nI v) y = sm_seL fr (h / 3) (r / 3) g k a b c d (nI v) x) :
    sm_X (sm_se F a b c d (nI v)) (vs ||| ((1 : Int32) <<< (nI v &&& 31))) ((fs ||| ((1 : Int32) <<< (nI g &&& 31))) ||| ((1 : Int32) <<< (nI k &&& 31))) (sm_seL fr (h / 3) (r / 3) g k a b c d (nI v)) (sm_lks ag [(3 * (h / 3), 3 * k), (3 * g, 3 * (r / 3)), (3 * (h / 3) + 1, 3 * g + 2), (3 * (r / 3) + 1, 3 * k + 2), (3 * (h / 3) + 2, g2), (3 * g + 1, g1), (3 * (r / 3) + 2, g4), (3 * k + 1, g3)]) ot' := by
  obtain ⟨t, rg, mk, rx, ok, _, lab⟩ := X
  have t0 := t
  obtain ⟨rot, dis, unq, clo, thi, st, co⟩ := t
  have hf := u.1
  have he := ur.1
  have f1' := rot _ _ _ f1
  have f1'' := rot _ _ _ f1'
  have f2' := rot _ _ _ f2
  have f2'' := rot _ _ _ f2'
  have ab := dis _ _ _ f1
  have bc := dis _ _ _ f1'
  have ca := dis _ _ _ f1''
  have ad := dis _ _ _ f2'
  have db := dis _ _ _ f2''
  have cd : c ≠ d := by
    intro e
    subst e
    exact thi _ _ _ f1 f2
  have nv1 : ∀ x y z, F x y z → x ≠ nI v := fun x y z f e => nv ⟨y, z, e ▸ f⟩
  have nv2 : ∀ x y z, F x y z → y ≠ nI v := fun x y z f e => nv1 _ _ _ (rot _ _ _ f) e
  have va : a ≠ nI v := nv1 _ _ _ f1
  have vb : b ≠ nI v := nv1 _ _ _ f1'
  have vc : c ≠ nI v := nv1 _ _ _ f1''
  have vd : d ≠ nI v := nv1 _ _ _ f2''
  have Va : sm_V a := ea ▸ lab h
  have Vb : sm_V b := eb ▸ lab _
  have Vc : sm_V c := ec ▸ lab _
  have Vd : sm_V d := rc ▸ lab _
  have Vv : sm_V (nI v) := ⟨v, hv, rfl⟩
  have fg : h / 3 ≠ g := fun e => sm_nFs eg (e ▸ u)
  have fk : h / 3 ≠ k := fun e => sm_nFs ek ((sm_Fs_or hg).mpr (Or.inl (e ▸ u)))
  have rG : r / 3 ≠ g := fun e => sm_nFs eg (e ▸ ur)
  have rK : r / 3 ≠ k := fun e => sm_nFs ek ((sm_Fs_or hg).mpr (Or.inl (e ▸ ur)))
  have gk : g ≠ k := fun e => sm_nFs ek ((sm_Fs_or hg).mpr (Or.inr e.symm))
  have nfk : ¬ sm_Fs fs k := fun e => sm_nFs ek ((sm_Fs_or hg).mpr (Or.inl e))
  have r1 := sm_RX_del (I' := fun j => sm_Fs fs j ∧ j ≠ h / 3) rx u (fun _ => Iff.rfl)
  rw [ea, eb, ec] at r1
  have r2 := sm_RX_del (I' := fun j => (sm_Fs fs j ∧ j ≠ h / 3) ∧ j ≠ r / 3) (h := r) r1 ⟨ur, ne⟩ (fun _ => Iff.rfl)
  rw [ra, rb, rc] at r2
  have r3 := sm_RX_ins (I' := fun j => sm_Fs fs j ∧ j ≠ r / 3) (f := h / 3) (a := a) (b := nI v) (c := c) r2 (fun z => z.1.2 rfl) (fun z => nv2 _ _ _ z.1.1 rfl) (sm_del_rot (sm_del_rot rot)) (fun j => ⟨fun z => by
    by_cases e : j = h / 3
    · exact Or.inr e
    · exact Or.inl ⟨⟨z.1, e⟩, z.2⟩, fun z => z.elim (fun q => ⟨q.1.1, q.2⟩) (fun q => ⟨q ▸ u, q ▸ ne.symm⟩)⟩)
  have r4 := sm_RX_ins (I' := fun j => sm_Fs (fs ||| ((1 : Int32) <<< (nI g &&& 31))) j ∧ j ≠ r / 3) (f := g) (a := nI v) (b := b) (c := c) r3 (fun z => sm_nFs eg z.1) (by
    rintro (z | z)
    · exact nv1 _ _ _ z.1.1 rfl
    · unfold sm_R at z; grind) (sm_ins_rot (sm_del_rot (sm_del_rot rot))) (fun j => by
    show sm_Fs (fs ||| ((1 : Int32) <<< (nI g &&& 31))) j ∧ j ≠ r / 3 ↔ (sm_Fs fs j ∧ j ≠ r / 3) ∨ j = g
    rw [sm_Fs_or hg]
    constructor
    · rintro ⟨z | z, w⟩
      · exact Or.inl ⟨z, w⟩
      · exact Or.inr z
    · rintro (z | z)
      · exact ⟨Or.inl z.1, z.2⟩
      · exact ⟨Or.inr z, fun w => rG (w.symm.trans z)⟩)
  have r5 := sm_RX_ins (I' := sm_Fs (fs ||| ((1 : Int32) <<< (nI g &&& 31)))) (f := r / 3) (a := b) (b := nI v) (c := d) r4 (fun z => z.2 rfl) (by
    rintro ((z | z) | z)
    · exact nv2 _ _ _ z.1.1 rfl
    · unfold sm_R at z; grind
    · unfold sm_R at z; grind) (sm_ins_rot (sm_ins_rot (sm_del_rot (sm_del_rot rot)))) (fun j => ⟨fun z => by
    by_cases e : j = r / 3
    · exact Or.inr e
    · exact Or.inl ⟨z, e⟩, fun z => z.elim (fun q => q.1) (fun q => (sm_Fs_or hg).mpr (Or.inl (q ▸ ur)))⟩)
  have r6 := sm_RX_ins (I' := sm_Fs ((fs ||| ((1 : Int32) <<< (nI g &&& 31))) ||| ((1 : Int32) <<< (nI k &&& 31)))) (f := k) (a := nI v) (b := a) (c := d) r5 (sm_nFs ek) (by
    rintro (((z | z) | z) | z)
    · exact nv1 _ _ _ z.1.1 rfl
    · unfold sm_R at z; grind
    · unfold sm_R at z; grind
    · unfold sm_R at z; grind) (sm_ins_rot (sm_ins_rot (sm_ins_rot (sm_del_rot (sm_del_rot rot))))) (fun j => sm_Fs_or hk)
  have iff2 : ∀ j, sm_Fs ((fs ||| ((1 : Int32) <<< (nI g &&& 31))) ||| ((1 : Int32) <<< (nI k &&& 31))) j ↔ (sm_Fs fs j ∨ j = g) ∨ j = k := fun j => by rw [sm_Fs_or hk, sm_Fs_or hg]
  have old0 : ∀ x, x / 3 ≠ h / 3 → x / 3 ≠ r / 3 → x / 3 ≠ g → x / 3 ≠ k → sm_seL fr (h / 3) (r / 3) g k a b c d (nI v) x = fr x := by
    intro x n1 n2 n3 n4
    unfold sm_seL
    rw [sm_wr_ne n4, sm_wr_ne n2, sm_wr_ne n3, sm_wr_ne n1]
  have Lf : ∀ x, x / 3 = h / 3 → sm_seL fr (h / 3) (r / 3) g k a b c d (nI v) x = sm_wr fr (h / 3) a (nI v) c x := by
    intro x n1
    unfold sm_seL
    rw [sm_wr_ne (by omega), sm_wr_ne (by omega), sm_wr_ne (by omega)]
  have Lg : ∀ x, x / 3 = g → sm_seL fr (h / 3) (r / 3) g k a b c d (nI v) x = sm_wr (sm_wr fr (h / 3) a (nI v) c) g (nI v) b c x := by
    intro x n1
    unfold sm_seL
    rw [sm_wr_ne (by omega), sm_wr_ne (by omega)]
  have Le : ∀ x, x / 3 = r / 3 → sm_seL fr (h / 3) (r / 3) g k a b c d (nI v) x = sm_wr (sm_wr (sm_wr fr (h / 3) a (nI v) c) g (nI v) b c) (r / 3) b (nI v) d x := by
    intro x n1
    unfold sm_seL
    rw [sm_wr_ne (by omega)]
  obtain ⟨p0, p1, p2⟩ := sm_wr_at fr (h / 3) a (nI v) c
  obtain ⟨q0, q1, q2⟩ := sm_wr_at (sm_wr fr (h / 3) a (nI v) c) g (nI v) b c
  obtain ⟨s0, s1, s2⟩ := sm_wr_at (sm_wr (sm_wr fr (h / 3) a (nI v) c) g (nI v) b c) (r / 3) b (nI v) d
  have w012 : sm_seL fr (h / 3) (r / 3) g k a b c d (nI v) (3 * k) = nI v ∧ sm_seL fr (h / 3) (r / 3) g k a b c d (nI v) (3 * k + 1) = a ∧ sm_seL fr (h / 3) (r / 3) g k a b c d (nI v) (3 * k + 2) = d := sm_wr_at _ k (nI v) a d
  obtain ⟨w0, w1, w2⟩ := w012
  rw [← Lf (3 * (h / 3)) (by omega)] at p0
  rw [← Lf (3 * (h / 3) + 1) (by omega)] at p1
  rw [← Lf (3 * (h / 3) + 2) (by omega)] at p2
  rw [← Lg (3 * g) (by omega)] at q0
  rw [← Lg (3 * g + 1) (by omega)] at q1
  rw [← Lg (3 * g + 2) (by omega)] at q2
  rw [← Le (3 * (r / 3)) (by omega)] at s0
  rw [← Le (3 * (r / 3) + 1) (by omega)] at s1
  rw [← Le (3 * (r / 3) + 2) (by omega)] at s2
  have lab' : ∀ x, sm_V (sm_seL fr (h / 3) (r / 3) g k a b c d (nI v) x) := sm_wr_V (sm_wr_V (sm_wr_V (sm_wr_V lab Va Vv Vc) Vv Vb Vc) Vb Vv Vd) Vv Va Vd
  refine sm_X_mk (sm_se_T t0 f1 f2 nv1) ?_ r6 ?_ lab' out
  · refine sm_Mk_eq (sm_Mk_or mk (k := v) (by omega)) (fun i hi => ?_)
    rw [sm_se_V t0 f1 f2 nv1, nI_eq (by omega) (by omega)]
  · revert old0 p0 p1 p2 q0 q1 q2 s0 s1 s2 w0 w1 w2 iff2
    generalize sm_seL fr (h / 3) (r / 3) g k a b c d (nI v) = L
    generalize sm_Fs ((fs ||| ((1 : Int32) <<< (nI g &&& 31))) ||| ((1 : Int32) <<< (nI k &&& 31))) = I
    intro iff2 old0 p0 p1 p2 q0 q1 q2 s0 s1 s2 w0 w1 w2
    clear out r1 r2 r3 r4 r5 r6 Lf Lg Le lab' mk Va Vb Vc Vd Vv rg
    have old : ∀ y, sm_Fs fs (y / 3) → y / 3 ≠ h / 3 → y / 3 ≠ r / 3 → L y = fr y ∧ L (sm_nx y) = fr (sm_nx y) := by
      intro y uy n1 n2
      have n3 : y / 3 ≠ g := fun e => sm_nFs eg (e ▸ uy)
      have n4 : y / 3 ≠ k := fun e => nfk (e ▸ uy)
      exact ⟨old0 y n1 n2 n3 n4, old0 _ (by rw [sm_nx_d]; exact n1) (by rw [sm_nx_d]; exact n2) (by rw [sm_nx_d]; exact n3) (by rw [sm_nx_d]; exact n4)⟩
    have io : ∀ j, sm_Fs fs j → I j := fun j z => (iff2 j).mpr (Or.inl (Or.inl z))
    have If := io _ u
    have Ie := io _ ur
    have Ig : I g := (iff2 _).mpr (Or.inl (Or.inr rfl))
    have Ik : I k := (iff2 _).mpr (Or.inr rfl)
    obtain ⟨i1, b1, c1⟩ := G1
    obtain ⟨i2, b2, c2⟩ := G2
    obtain ⟨i3, b3, c3⟩ := G3
    obtain ⟨i4, b4, c4⟩ := G4
    have offh : ∀ g x y, fr g = x → fr (sm_nx g) = y → ¬ (x = a ∧ y = b) → ¬ (x = b ∧ y = c) → ¬ (x = c ∧ y = a) → g / 3 ≠ h / 3 := by
      intro g x y e1 e2 n0 n1 n2
      exact sm_off (fr := fr) (by rw [e1, e2, ea, eb]; exact n0) (by rw [e1, e2, eb, ec]; exact n1) (by rw [e1, e2, ec, ea]; exact n2)
    have offr : ∀ g x y, fr g = x → fr (sm_nx g) = y → ¬ (x = b ∧ y = a) → ¬ (x = a ∧ y = d) → ¬ (x = d ∧ y = b) → g / 3 ≠ r / 3 := by
      intro g x y e1 e2 n0 n1 n2
      exact sm_off (fr := fr) (by rw [e1, e2, ra, rb]; exact n0) (by rw [e1, e2, rb, rc]; exact n1) (by rw [e1, e2, rc, ra]; exact n2)
    obtain ⟨o1, o1'⟩ := old g1 i1 (offh _ _ _ b1 c1 (by grind) (by grind) (by grind)) (offr _ _ _ b1 c1 (by grind) (by grind) (by grind))
    obtain ⟨o2, o2'⟩ := old g2 i2 (offh _ _ _ b2 c2 (by grind) (by grind) (by grind)) (offr _ _ _ b2 c2 (by grind) (by grind) (by grind))
    obtain ⟨o3, o3'⟩ := old g3 i3 (offh _ _ _ b3 c3 (by grind) (by grind) (by grind)) (offr _ _ _ b3 c3 (by grind) (by grind) (by grind))
    obtain ⟨o4, o4'⟩ := old g4 i4 (offh _ _ _ b4 c4 (by grind) (by grind) (by grind)) (offr _ _ _ b4 c4 (by grind) (by grind) (by grind))
    obtain ⟨nf0, nf1, nf2⟩ := sm_nx0 (h / 3)
    obtain ⟨ne0, ne1, ne2⟩ := sm_nx0 (r / 3)
    obtain ⟨ng0, ng1, ng2⟩ := sm_nx0 g
    obtain ⟨nk0, nk1, nk2⟩ := sm_nx0 k
    obtain ⟨vf0, vf1, vf2⟩ := sm_dv (h / 3)
    obtain ⟨ve0, ve1, ve2⟩ := sm_dv (r / 3)
    obtain ⟨vg0, vg1, vg2⟩ := sm_dv g
    obtain ⟨vk0, vk1, vk2⟩ := sm_dv k
    have l1 := sm_lt48 i1
    have l2 := sm_lt48 i2
    have l3 := sm_lt48 i3
    have l4 := sm_lt48 i4
    refine sm_lks_all (I0 := sm_Fs fs) (D := fun j => (j = h / 3 ∨ j = r / 3) ∨ j = g ∨ j = k) (fr := fr) ok ?_ ?_ ?_ ?_ ?_
    · intro x q ux dx uq dq m1 m2
      obtain ⟨z1, z2⟩ := old x ux (fun z => dx (Or.inl (Or.inl z))) (fun z => dx (Or.inl (Or.inr z)))
      obtain ⟨z3, z4⟩ := old q uq (fun z => dq (Or.inl (Or.inl z))) (fun z => dq (Or.inl (Or.inr z)))
      exact ⟨io _ uq, by rw [z3, z2, m1], by rw [z4, z1, m2]⟩
    · intro p hp
      simp only [List.mem_cons, List.not_mem_nil, or_false] at hp
      rcases hp with rfl | rfl | rfl | rfl | rfl | rfl | rfl | rfl
      · exact sm_gp0 (by show _ < 48; omega) (by show I (3 * (h / 3) / 3); rw [vf0]; exact If) (by show _ < 48; omega) (by show I (3 * k / 3); rw [vk0]; exact Ik) p0 (by show L (sm_nx (3 * (h / 3))) = _; rw [nf0]; exact p1) w0 (by show L (sm_nx (3 * k)) = _; rw [nk0]; exact w1)
      · exact sm_gp0 (by show _ < 48; omega) (by show I (3 * g / 3); rw [vg0]; exact Ig) (by show _ < 48; omega) (by show I (3 * (r / 3) / 3); rw [ve0]; exact Ie) q0 (by show L (sm_nx (3 * g)) = _; rw [ng0]; exact q1) s0 (by show L (sm_nx (3 * (r / 3))) = _; rw [ne0]; exact s1)
      · exact sm_gp0 (by show _ < 48; omega) (by show I ((3 * (h / 3) + 1) / 3); rw [vf1]; exact If) (by show _ < 48; omega) (by show I ((3 * g + 2) / 3); rw [vg2]; exact Ig) p1 (by show L (sm_nx (3 * (h / 3) + 1)) = _; rw [nf1]; exact p2) q2 (by show L (sm_nx (3 * g + 2)) = _; rw [ng2]; exact q0)
      · exact sm_gp0 (by show _ < 48; omega) (by show I ((3 * (r / 3) + 1) / 3); rw [ve1]; exact Ie) (by show _ < 48; omega) (by show I ((3 * k + 2) / 3); rw [vk2]; exact Ik) s1 (by show L (sm_nx (3 * (r / 3) + 1)) = _; rw [ne1]; exact s2) w2 (by show L (sm_nx (3 * k + 2)) = _; rw [nk2]; exact w0)
      · exact sm_gp0 (by show _ < 48; omega) (by show I ((3 * (h / 3) + 2) / 3); rw [vf2]; exact If) l2 (io _ i2) p2 (by show L (sm_nx (3 * (h / 3) + 2)) = _; rw [nf2]; exact p0) (o2.trans b2) (o2'.trans c2)
      · exact sm_gp0 (by show _ < 48; omega) (by show I ((3 * g + 1) / 3); rw [vg1]; exact Ig) l1 (io _ i1) q1 (by show L (sm_nx (3 * g + 1)) = _; rw [ng1]; exact q2) (o1.trans b1) (o1'.trans c1)
      · exact sm_gp0 (by show _ < 48; omega) (by show I ((3 * (r / 3) + 2) / 3); rw [ve2]; exact Ie) l4 (io _ i4) s2 (by show L (sm_nx (3 * (r / 3) + 2)) = _; rw [ne2]; exact s0) (o4.trans b4) (o4'.trans c4)
      · exact sm_gp0 (by show _ < 48; omega) (by show I ((3 * k + 1) / 3); rw [vk1]; exact Ik) l3 (io _ i3) w1 (by show L (sm_nx (3 * k + 1)) = _; rw [nk1]; exact w2) (o3.trans b3) (o3'.trans c3)
    · rintro x ux ((xf | xf) | (xf | xf)) <;> rcases sm_c3 x with e | e | e <;> rw [xf] at e
      · exact ⟨(3 * (h / 3), 3 * k), by simp, Or.inl e⟩
      · exact ⟨(3 * (h / 3) + 1, 3 * g + 2), by simp, Or.inl e⟩
      · exact ⟨(3 * (h / 3) + 2, g2), by simp, Or.inl e⟩
      · exact ⟨(3 * g, 3 * (r / 3)), by simp, Or.inr e⟩
      · exact ⟨(3 * (r / 3) + 1, 3 * k + 2), by simp, Or.inl e⟩
      · exact ⟨(3 * (r / 3) + 2, g4), by simp, Or.inl e⟩
      · exact ⟨(3 * g, 3 * (r / 3)), by simp, Or.inl e⟩
      · exact ⟨(3 * g + 1, g1), by simp, Or.inl e⟩
      · exact ⟨(3 * (h / 3) + 1, 3 * g + 2), by simp, Or.inr e⟩
      · exact ⟨(3 * (h / 3), 3 * k), by simp, Or.inr e⟩
      · exact ⟨(3 * k + 1, g3), by simp, Or.inl e⟩
      · exact ⟨(3 * (r / 3) + 1, 3 * k + 2), by simp, Or.inr e⟩
    · rintro x q ux dx uq ((qf | qf) | (qf | qf)) m1 m2
      · rcases sm_same qf with e | e | e
        · subst e
          have z : x = r := sm_RX_u t0 rx ux ur (m2.symm.trans (eb.trans ra.symm)) (m1.symm.trans (ea.trans rb.symm))
          exact absurd (Or.inl (Or.inr (by rw [z]))) dx
        · rw [e] at m1 m2
          rw [sm_nx_nx] at m2
          have z : x = g1 := sm_RX_u t0 rx ux i1 (m2.symm.trans (ec.trans b1.symm)) (m1.symm.trans (eb.trans c1.symm))
          exact ⟨(3 * g + 1, g1), by simp, Or.inr z⟩
        · rw [e] at m1 m2
          rw [sm_nx_bf] at m2
          have z : x = g2 := sm_RX_u t0 rx ux i2 (m2.symm.trans (ea.trans b2.symm)) (m1.symm.trans (ec.trans c2.symm))
          exact ⟨(3 * (h / 3) + 2, g2), by simp, Or.inr z⟩
      · rcases sm_same qf with e | e | e
        · subst e
          have z : x = h := sm_RX_u t0 rx ux u (m2.symm.trans (rb.trans ea.symm)) (m1.symm.trans (ra.trans eb.symm))
          exact absurd (Or.inl (Or.inl (by rw [z]))) dx
        · rw [e] at m1 m2
          rw [sm_nx_nx] at m2
          have z : x = g3 := sm_RX_u t0 rx ux i3 (m2.symm.trans (rc.trans b3.symm)) (m1.symm.trans (rb.trans c3.symm))
          exact ⟨(3 * k + 1, g3), by simp, Or.inr z⟩
        · rw [e] at m1 m2
          rw [sm_nx_bf] at m2
          have z : x = g4 := sm_RX_u t0 rx ux i4 (m2.symm.trans (ra.trans b4.symm)) (m1.symm.trans (rc.trans c4.symm))
          exact ⟨(3 * (r / 3) + 2, g4), by simp, Or.inr z⟩
      · exact absurd (qf ▸ uq) (sm_nFs eg)
      · exact absurd (qf ▸ uq) nfk
    · intro j z dz
      rcases (iff2 j).mp z with (w | w) | w
      · exact w
      · exact absurd (Or.inr (Or.inl w)) dz
      · exact absurd (Or.inr (Or.inr w)) dz
end
end
section
section
variable {F : Int32 → Int32 → Int32 → Prop} {vs fs : Int32} {fr ag ot : Nat → Int32}
theorem sm_xse (X : sm_X F vs fs fr ag ot) {a b : Int32} {v : Nat} (hv : v ≤ 10) (lo : ∀ i, i < v → sm_Vt F (nI i)) (hi : v < 10 → ¬ sm_Vt F (nI v)) {ct : Nat} (c1 : sm_cnt (bt fs) 16 = ct) (c2 : ct + 4 = 2 * sm_cnt (bt vs) 10) {post : Int32 → SX → Prop} (H0 : (∀ z, ¬ F a b z) → post (-1) (vs, fs, fr, ag, ot)) (H1 : sm_E F a b → v = 10 → post (-2) (vs, fs, fr, ag, ot)) (H2 : ∀ c d vs' fs' fr' ag' ot', F a b c → F b a d → v < 10 → sm_X (sm_se F a b c d (nI v)) vs' fs' fr' ag' ot' → sm_cnt (bt fs') 16 = sm_cnt (bt fs) 16 + 2 → sm_cnt (bt vs') 10 = sm_cnt (bt vs) 10 + 1 → post (nI v) (vs', fs', fr', ag', ot')) : wpX_splitEdge post (vs, fs, fr, ag, ot) a b := by
  unfold wpX_splitEdge
  dsimp only
  refine sm_find X (fun h u ea eb => br_t (nI_pos' (by have := sm_lt48 u; omega)) ?_) (fun no => br_f (by decide) (H0 no))
  obtain ⟨r, g1, g2, g3, g4, er, e1, e2, e3, e4, ur, ra, rb, ne, f1, f2, G1, G2, G3, G4⟩ := sm_edge X u ea eb
  have lh := sm_lt48 u
  have lr := sm_lt48 ur
  have lab := X.2.2.2.2.2.2
  refine sm_freeV X hv lo hi (pk_eq v 10 (fun e => H1 ⟨_, f1⟩ e) (fun e => ?_))
  have v10 : v < 10 := by omega
  obtain ⟨room, ev⟩ := sm_room X v10 (hi v10) c1 c2
  obtain ⟨c, ec⟩ : ∃ c, fr (sm_bf h) = c := ⟨_, rfl⟩
  obtain ⟨d, ed⟩ : ∃ d, fr (sm_bf r) = d := ⟨_, rfl⟩
  rw [ec] at f1 G1 G2
  rw [ed] at f2 G3 G4
  have l1 := sm_lt48 G1.1
  have l2 := sm_lt48 G2.1
  have l3 := sm_lt48 G3.1
  have l4 := sm_lt48 G4.1
  have nh := sm_nx_lt lh
  have bh := sm_bf_lt lh
  have nr := sm_nx_lt lr
  have br := sm_bf_lt lr
  refine ⟨vp_in_nI lh (by omega), nm_r (e' := nI r) (sm_nm lh er) (sm_third lh (sm_third lr (sm_next lh (sm_before lh (sm_next lr (sm_before lr ?_))))))⟩
  rw [ec, ed]
  refine ⟨vp_in_nI nh (by omega), nm_r (e' := nI g1) (sm_nm nh e1) ⟨vp_in_nI bh (by omega), nm_r (e' := nI g2) (sm_nm bh e2) ⟨vp_in_nI nr (by omega), nm_r (e' := nI g3) (sm_nm nr e3) ⟨vp_in_nI br (by omega), nm_r (e' := nI g4) (sm_nm br e4) ⟨by decide, nm_r (e' := nI (h / 3)) (pk_div (d := 3) (by omega) (by omega) (by omega)) ⟨by decide, nm_r (e' := nI (r / 3)) (pk_div (d := 3) (by omega) (by omega) (by omega)) ?_⟩⟩⟩⟩⟩⟩
  have Va : sm_V a := ea ▸ lab h
  have Vb : sm_V b := eb ▸ lab _
  have Vc : sm_V c := ec ▸ lab _
  have Vd : sm_V d := ed ▸ lab _
  have Vv : sm_V (nI v) := ⟨v, v10, rfl⟩
  have hf := u.1
  have he := ur.1
  refine sm_newF (sm_cnt_free (by omega)) (fun g hg eg => ?_)
  dsimp only
  have cg := sm_cnt_or (n := 16) (by omega) hg eg
  refine sm_newF (sm_cnt_free (by omega)) (fun k hk ek => ?_)
  dsimp only
  have ck := sm_cnt_or (n := 16) (by omega) hk ek
  refine sm_write hf Va Vv Vc ?_
  dsimp only
  refine sm_write hg Vv Vb Vc ?_
  dsimp only
  refine sm_write he Vb Vv Vd ?_
  dsimp only
  refine sm_write hk Vv Va Vd ?_
  dsimp only
  refine sm_link' (3 * (h / 3)) (3 * k) (sm_e0 _) (sm_e0 _) (by omega) (by omega) ?_
  dsimp only
  refine sm_link' (3 * g) (3 * (r / 3)) (sm_e0 _) (sm_e0 _) (by omega) (by omega) ?_
  dsimp only
  refine sm_link' (3 * (h / 3) + 1) (3 * g + 2) (sm_e1 _) (sm_e2 _) (by omega) (by omega) ?_
  dsimp only
  refine sm_link' (3 * (r / 3) + 1) (3 * k + 2) (sm_e1 _) (sm_e2 _) (by omega) (by omega) ?_
  dsimp only
  refine sm_link' (3 * (h / 3) + 2) g2 (sm_e2 _) rfl (by omega) l2 ?_
  dsimp only
  refine sm_link' (3 * g + 1) g1 (sm_e1 _) rfl (by omega) l1 ?_
  dsimp only
  refine sm_link' (3 * (r / 3) + 2) g4 (sm_e2 _) rfl (by omega) l4 ?_
  dsimp only
  refine sm_link' (3 * k + 1) g3 (sm_e1 _) rfl (by omega) l3 ?_
  dsimp only
  refine nm_e (sm_refresh (sm_wr_V (sm_wr_V (sm_wr_V (sm_wr_V lab Va Vv Vc) Vv Vb Vc) Vb Vv Vd) Vv Va Vd) (fun ot' out => ?_))
  dsimp only
  exact H2 c d _ _ _ _ _ f1 f2 v10 (sm_seX X u ea eb ec ur ra rb ed ne f1 f2 G1 G2 G3 G4 v10 (hi v10) hg eg hk ek out) (by omega) (sm_cnt_or (n := 10) (by omega) v10 ev)
theorem sm_yse {ct : Nat} {pa pb pc : Nat → Int32} (Y : sm_Y F ct pa pb pc) (t : sm_T F) (rg : ∀ x y z, F x y z → sm_V x) {a b : Int32} {v : Nat} (hv : v ≤ 10) (lo : ∀ i, i < v → sm_Vt F (nI i)) (hi : v < 10 → ¬ sm_Vt F (nI v)) (room : v < 10 → ct ≤ 14) {post : Int32 → SY → Prop} (H0 : (∀ z, ¬ F a b z) → post (-1) (nI ct, pa, pb, pc)) (H1 : sm_E F a b → v = 10 → post (-2) (nI ct, pa, pb, pc)) (H2 : ∀ c d qa qb qc, F a b c → F b a d → v < 10 → sm_Y (sm_se F a b c d (nI v)) (ct + 2) qa qb qc → post (nI v) (nI (ct + 2), qa, qb, qc)) : wpY_splitEdge post (nI ct, pa, pb, pc) a b := by
  unfold wpY_splitEdge
  dsimp only
  refine sm_opp Y t rg (fun c fc => ?_) (fun no => sm_opp Y t rg (fun d fd => br_f (by decide) (H0 no)) (fun _ => br_f (by decide) (H0 no)))
  refine sm_opp Y t rg (fun d fd => ?_) (fun no => ?_)
  · refine br_t (Int32.not_lt.mp (sm_V_pos (rg _ _ _ (t.1 _ _ _ (t.1 _ _ _ fc))))) ?_
    refine sm_fresh Y t rg hv lo hi (pk_eq v 10 (fun e => H1 ⟨_, fc⟩ e) (fun e => ?_))
    have v10 : v < 10 := by omega
    have rm := room v10
    obtain ⟨rot, dis, unq, clo, thi, _⟩ := t
    have f1' := rot _ _ _ fc
    have f1'' := rot _ _ _ f1'
    have f2' := rot _ _ _ fd
    have f2'' := rot _ _ _ f2'
    have ab := dis _ _ _ fc
    have bc := dis _ _ _ f1'
    have ca := dis _ _ _ f1''
    have ad := dis _ _ _ f2'
    have db := dis _ _ _ f2''
    have cd : c ≠ d := by
      intro e
      subst e
      exact thi _ _ _ fc fd
    have nv1 : ∀ x y z, F x y z → x ≠ nI v := fun x y z f e => hi v10 ⟨y, z, e ▸ f⟩
    have nv2 : ∀ x y z, F x y z → y ≠ nI v := fun x y z f e => nv1 _ _ _ (rot _ _ _ f) e
    have va : a ≠ nI v := nv1 _ _ _ fc
    have vb : b ≠ nI v := nv1 _ _ _ f1'
    have vc : c ≠ nI v := nv1 _ _ _ f1''
    have vd : d ≠ nI v := nv1 _ _ _ f2''
    have two : ∃ n, ct = n + 2 := by
      obtain ⟨i, hi, r1⟩ := (Y.2.1 _ _ _).mp fc
      obtain ⟨j, hj, r2⟩ := (Y.2.1 _ _ _).mp fd
      have ij : i ≠ j := by
        intro e
        subst e
        have := sm_Rt (sm_Rs r1) r2
        unfold sm_R at this
        grind
      have hi : i < ct := hi
      have hj : j < ct := hj
      exact ⟨ct - 2, by omega⟩
    obtain ⟨n, rfl⟩ := two
    refine sm_take (n := n + 1) Y fc (fun qa qb qc Y1 => ?_)
    dsimp only
    refine sm_take (n := n) Y1 ⟨fd, by unfold sm_R; grind⟩ (fun qa qb qc Y2 => ?_)
    dsimp only
    have R2 := sm_del_rot (a := b) (b := a) (c := d) (sm_del_rot (a := a) (b := b) (c := c) rot)
    refine sm_put Y2 (by omega) R2 (fun z => nv2 _ _ _ z.1.1 rfl) (fun qa qb qc Y3 => ?_)
    dsimp only
    refine sm_put Y3 (by omega) (sm_ins_rot R2) ?_ (fun qa qb qc Y4 => ?_)
    · rintro (z | z)
      · exact nv1 _ _ _ z.1.1 rfl
      · unfold sm_R at z; grind
    dsimp only
    refine sm_put Y4 (by omega) (sm_ins_rot (sm_ins_rot R2)) ?_ (fun qa qb qc Y5 => ?_)
    · rintro ((z | z) | z)
      · exact nv2 _ _ _ z.1.1 rfl
      · unfold sm_R at z; grind
      · unfold sm_R at z; grind
    dsimp only
    refine sm_put Y5 (by omega) (sm_ins_rot (sm_ins_rot (sm_ins_rot R2))) ?_ (fun qa qb qc Y6 => ?_)
    · rintro (((z | z) | z) | z)
      · exact nv1 _ _ _ z.1.1 rfl
      · unfold sm_R at z; grind
      · unfold sm_R at z; grind
      · unfold sm_R at z; grind
    dsimp only
    exact H2 _ _ _ _ _ fc fd v10 Y6
  · obtain ⟨w, hw⟩ := t.2.2.2.1 _ _ _ fc
    exact absurd hw (no w)
end
theorem i_vc_splitEdge {k : Nat} {u : SX} {v : SY} (I : i_Rel k u v) (hk : k + 4 ≤ 2048) (v1 : Int32) (v2 : Int32) : wpX_splitEdge (fun r u' => wpY_splitEdge (fun r' v' => r' = r ∧ i_Rel (k + 4) u' v') v v1 v2) u v1 v2 := by
  have J := i_up I
  obtain ⟨F, vs, fs, fr, ag, ot, ct, pa, pb, pc, ⟨X, Y, c1, c2⟩, rfl, rfl⟩ := I
  obtain ⟨w, hw, lo, hi⟩ := sm_least (fun i => sm_Vt F (nI i)) 10
  have room : w < 10 → ct ≤ 14 := fun h => by have := (sm_room X h (hi h) c1 c2).1; omega
  refine sm_xse X hw lo hi c1 c2 (fun n => ?_) (fun f e => ?_) (fun c d vs' fs' fr' ag' ot' f1 f2 w10 X' d1 d2 => ?_)
  · exact sm_yse Y X.1 X.2.1 hw lo hi room (fun _ => ⟨rfl, J⟩) (fun f => f.elim (fun z q => absurd q (n z))) (fun c _ _ _ _ f => absurd f (n c))
  · exact sm_yse Y X.1 X.2.1 hw lo hi room (fun n => f.elim (fun z q => absurd q (n z))) (fun _ _ => ⟨rfl, J⟩) (fun _ _ _ _ _ _ _ w10 => absurd w10 (by omega))
  · refine sm_yse Y X.1 X.2.1 hw lo hi room (fun n => absurd f1 (n _)) (fun _ e => absurd w10 (by omega)) (fun c' d' qa qb qc k1 k2 _ Y' => ⟨rfl, ?_⟩)
    cases X.1.2.2.1 _ _ _ _ f1 k1
    cases X.1.2.2.1 _ _ _ _ f2 k2
    exact ⟨_, vs', fs', fr', ag', ot', ct + 2, qa, qb, qc, ⟨X', Y', by omega, by omega⟩, rfl, rfl⟩
end
section
/-! drawing an edge together -/
def sm_mp (a b t : Int32) : Int32 := if t = b then a else t
theorem sm_mp_b (a b : Int32) : sm_mp a b b = a := if_pos rfl
theorem sm_mp_o (a b : Int32) : ∀ t, t ≠ b → sm_mp a b t = t := fun _ h => if_neg h
section
variable {F : Int32 → Int32 → Int32 → Prop} {vs fs : Int32} {fr ag ot : Nat → Int32}
/-- what the drawing together needs of the surface -/
theorem sm_CC_com (t : sm_T F) (rg : ∀ x y z, F x y z → sm_V x) {a b c d : Int32} (f1 : F a b c) (f2 : F b a d) (cc : sm_CC F a b) : (∀ y, sm_E F a y → sm_E F b y → y = c ∨ y = d) ∧ ¬ ∀ x y z, F x y z → x = a ∨ x = b ∨ x = c ∨ x = d := by
  obtain ⟨rot, dis, unq, clo, thi, st, co⟩ := t
  obtain ⟨_, ⟨s1, m1, n1⟩, ⟨s2, m2, n2⟩⟩ := cc
  obtain ⟨i, hi, ei⟩ := rg _ _ _ (rot _ _ _ (rot _ _ _ f1))
  obtain ⟨j, hj, ej⟩ := rg _ _ _ (rot _ _ _ (rot _ _ _ f2))
  obtain ⟨k, hk, ek⟩ := rg _ _ _ f1
  obtain ⟨l, hl, el⟩ := rg _ _ _ f2
  have cd : c ≠ d := by
    intro e
    subst e
    exact thi _ _ _ f1 f2
  constructor
  · intro y ya yb
    by_cases yc : y = c
    · exact Or.inl yc
    by_cases yd : y = d
    · exact Or.inr yd
    exfalso
    obtain ⟨p, hp, ep⟩ := rg _ _ _ (rot _ _ _ ya.choose_spec)
    obtain ⟨p1, h1⟩ := clo _ _ _ (rot _ _ _ (rot _ _ _ f1))
    obtain ⟨p2, h2⟩ := clo _ _ _ (rot _ _ _ (rot _ _ _ f2))
    have B : ∀ q x, q < 10 → x = nI q → sm_E F a x → sm_E F b x → bt s2 q = true := by
      intro q x hq e z1 z2
      subst e
      exact (m2 q (by omega)).mpr ⟨z1, z2⟩
    have b1 := B i c hi ei ⟨_, h1⟩ ⟨_, rot _ _ _ f1⟩
    have b2 := B j d hj ej ⟨_, rot _ _ _ f2⟩ ⟨_, h2⟩
    have b3 := B p y hp ep ya yb
    have := sm_cnt_3 (p := bt s2) (n := 10) hi hj hp (fun e => cd (by rw [ei, ej, e])) (fun e => yc (by rw [ep, ei, e])) (fun e => yd (by rw [ep, ej, e])) b1 b2 b3
    omega
  · intro all
    have := sm_cnt_4 (p := bt s1) (n := 10) (a := k) (b := l) (c := i) (d := j) (by
      intro q hq bq
      obtain ⟨y, z, f⟩ := (m1 q (by omega)).mp bq
      rcases all _ _ _ f with e | e | e | e
      · rw [ek, nI_eq (by omega) (by omega)] at e; exact Or.inl e
      · rw [el, nI_eq (by omega) (by omega)] at e; exact Or.inr (Or.inl e)
      · rw [ei, nI_eq (by omega) (by omega)] at e; exact Or.inr (Or.inr (Or.inl e))
      · rw [ej, nI_eq (by omega) (by omega)] at e; exact Or.inr (Or.inr (Or.inr e)))
    omega
theorem sm_Fs_clr {f e j : Nat} (hf : f < 16) (he : e < 16) : sm_Fs (fs &&& ((((1 : Int32) <<< (nI f &&& 31)) ||| ((1 : Int32) <<< (nI e &&& 31))) ^^^ (-1))) j ↔ (sm_Fs fs j ∧ j ≠ f) ∧ j ≠ e := by
  unfold sm_Fs
  constructor
  · rintro ⟨h1, h2⟩
    rw [sm_clr2 fs (by omega) (by omega) (by omega)] at h2
    simp at h2
    exact ⟨⟨⟨h1, h2.1.1⟩, h2.1.2⟩, h2.2⟩
  · rintro ⟨⟨⟨h1, h2⟩, h3⟩, h4⟩
    refine ⟨h1, ?_⟩
    rw [sm_clr2 fs (by omega) (by omega) (by omega)]
    simp [h2, h3, h4]
theorem sm_cnt_clr2 {f e : Nat} (hf : sm_Fs fs f) (he : sm_Fs fs e) (ne : e ≠ f) : sm_cnt (bt fs) 16 = sm_cnt (bt (fs &&& ((((1 : Int32) <<< (nI f &&& 31)) ||| ((1 : Int32) <<< (nI e &&& 31))) ^^^ (-1)))) 16 + 2 := by
  have h1 := hf.1
  have h2 := he.1
  rw [sm_cnt_del hf.1 hf.2, sm_cnt_del he.1 (p := fun i => bt fs i && !decide (i = f)) (by simp [he.2, ne])]
  rw [sm_cnt_eq (p := bt (fs &&& ((((1 : Int32) <<< (nI f &&& 31)) ||| ((1 : Int32) <<< (nI e &&& 31))) ^^^ (-1)))) (q := fun i => bt fs i && !decide (i = f) && !decide (i = e)) (fun i hi => sm_clr2 fs (by omega) (by omega) (by omega))]
theorem sm_coX (X : sm_X F vs fs fr ag ot) {a b c d : Int32} {h r g1 g2 g3 g4 : Nat} (u : sm_Fs fs (h / 3)) (ea : fr h = a) (eb : fr (sm_nx h) = b) (ec : fr (sm_bf h) = c) (ur : sm_Fs fs (r / 3)) (ra : fr r = b) (rb : fr (sm_nx r) = a) (rc : fr (sm_bf r) = d) (ne : r / 3 ≠ h / 3) (f1 : F a b c) (f2 : F b a d) (cc : sm_CC F a b) (G1 : sm_Fs fs (g1 / 3) ∧ fr g1 = c ∧ fr (sm_nx g1) = b) (G2 : sm_Fs fs (g2 / 3) ∧ fr g2 = a ∧ fr (sm_nx g2) = c) (G3 : sm_Fs fs (g3 / 3) ∧ fr g3 = d ∧ fr (sm_nx g3) = a) (G4 : sm_Fs fs (g4 / 3) ∧ fr g4 = b ∧ fr (sm_nx g4) = d) {L : Nat → Int32} (hL : ∀ x, x < 48 → L x = sm_mp a b (fr x)) (lab' : ∀ x, sm_V (L x)) {ot' : Nat → Int32}
    (out : ∀ x, sm_Fs (fs &&& ((((1 : Int32) <<< (nI (h / 3) &&& 31)) ||| ((1 : Int32) <<< (nI (r / 3) &&& 31))) ^^^ (-1))) (x / 3) → ∃ y, ot' (L x).toNatClampNeg = nI y ∧ y < 48 ∧ sm_Fs (fs &&& ((((1 : Int32) <<< (nI (h / 3) &&& 31)) ||| ((1 : Int32) <<< (nI (r / 3) &&& 31))) ^^^ (-1))) (y / 3) ∧ L y = L x) :
    sm_X (sm_co F a b c d (sm_mp a b)) (vs &&& (((1 : Int32) <<< (b &&& 31)) ^^^ (-1))) (fs &&& ((((1 : Int32) <<< (nI (h / 3) &&& 31)) ||| ((1 : Int32) <<< (nI (r / 3) &&& 31))) ^^^ (-1))) L (sm_lks ag [(g1, g2), (g3, g4)]) ot' := by
  obtain ⟨t, rg, mk, rx, ok, _, lab⟩ := X
  have t0 := t
  obtain ⟨rot, dis, unq, clo, thi, st, co⟩ := t
  have hf := u.1
  have he := ur.1
  have f1' := rot _ _ _ f1
  have f1'' := rot _ _ _ f1'
  have f2' := rot _ _ _ f2
  have f2'' := rot _ _ _ f2'
  have ab := dis _ _ _ f1
  have bc := dis _ _ _ f1'
  have ca := dis _ _ _ f1''
  have ad := dis _ _ _ f2'
  have db := dis _ _ _ f2''
  have cd : c ≠ d := by
    intro e
    subst e
    exact thi _ _ _ f1 f2
  obtain ⟨com, big⟩ := sm_CC_com t0 rg f1 f2 cc
  have mb := sm_mp_b a b
  have mo := sm_mp_o a b
  have r1 := sm_RX_del (I' := fun j => sm_Fs fs j ∧ j ≠ h / 3) rx u (fun _ => Iff.rfl)
  rw [ea, eb, ec] at r1
  have r2 := sm_RX_del (I' := fun j => (sm_Fs fs j ∧ j ≠ h / 3) ∧ j ≠ r / 3) (h := r) r1 ⟨ur, ne⟩ (fun _ => Iff.rfl)
  rw [ra, rb, rc] at r2
  have r3 := sm_rep_map (m := sm_mp a b) (A' := fun i => L (3 * i)) (B' := fun i => L (3 * i + 1)) (C' := fun i => L (3 * i + 2)) r2 (fun x y z x' y' z' k1 k2 e1 e2 _ => sm_co_inj rot dis unq clo f1 f2 com mb mo k1 k2 e1 e2) (sm_del_rot (sm_del_rot rot)) (fun j hj => by
    have := hj.1.1.1
    exact ⟨hL _ (by omega), hL _ (by omega), hL _ (by omega)⟩)
  have iff2 : ∀ j, sm_Fs (fs &&& ((((1 : Int32) <<< (nI (h / 3) &&& 31)) ||| ((1 : Int32) <<< (nI (r / 3) &&& 31))) ^^^ (-1))) j ↔ (sm_Fs fs j ∧ j ≠ h / 3) ∧ j ≠ r / 3 := fun j => sm_Fs_clr hf he
  have r4 : sm_RX (sm_Fs (fs &&& ((((1 : Int32) <<< (nI (h / 3) &&& 31)) ||| ((1 : Int32) <<< (nI (r / 3) &&& 31))) ^^^ (-1)))) L (sm_co F a b c d (sm_mp a b)) := sm_rep_eq iff2 (fun j hj => ⟨rfl, rfl, rfl⟩) r3
  refine sm_X_mk (sm_co_T t0 f1 f2 com big mb mo) ?_ r4 ?_ lab' out
  · obtain ⟨l, hl, el⟩ := rg _ _ _ f2
    have hm := sm_Mk_clr mk (k := l) (by omega)
    rw [← el] at hm
    refine sm_Mk_eq hm (fun i hi => ?_)
    rw [sm_co_V t0 f1 f2 mb mo, el, Ne, Ne, nI_eq (by omega) (by omega)]
  · revert iff2
    generalize sm_Fs (fs &&& ((((1 : Int32) <<< (nI (h / 3) &&& 31)) ||| ((1 : Int32) <<< (nI (r / 3) &&& 31))) ^^^ (-1))) = I
    intro iff2
    clear out r1 r2 r3 r4 lab' mk com big cc
    obtain ⟨i1, b1, c1⟩ := G1
    obtain ⟨i2, b2, c2⟩ := G2
    obtain ⟨i3, b3, c3⟩ := G3
    obtain ⟨i4, b4, c4⟩ := G4
    have offh : ∀ g x y, fr g = x → fr (sm_nx g) = y → ¬ (x = a ∧ y = b) → ¬ (x = b ∧ y = c) → ¬ (x = c ∧ y = a) → g / 3 ≠ h / 3 := by
      intro g x y e1 e2 n0 n1 n2
      exact sm_off (fr := fr) (by rw [e1, e2, ea, eb]; exact n0) (by rw [e1, e2, eb, ec]; exact n1) (by rw [e1, e2, ec, ea]; exact n2)
    have offr : ∀ g x y, fr g = x → fr (sm_nx g) = y → ¬ (x = b ∧ y = a) → ¬ (x = a ∧ y = d) → ¬ (x = d ∧ y = b) → g / 3 ≠ r / 3 := by
      intro g x y e1 e2 n0 n1 n2
      exact sm_off (fr := fr) (by rw [e1, e2, ra, rb]; exact n0) (by rw [e1, e2, rb, rc]; exact n1) (by rw [e1, e2, rc, ra]; exact n2)
    have I1 : I (g1 / 3) := (iff2 _).mpr ⟨⟨i1, offh _ _ _ b1 c1 (by grind) (by grind) (by grind)⟩, offr _ _ _ b1 c1 (by grind) (by grind) (by grind)⟩
    have I2 : I (g2 / 3) := (iff2 _).mpr ⟨⟨i2, offh _ _ _ b2 c2 (by grind) (by grind) (by grind)⟩, offr _ _ _ b2 c2 (by grind) (by grind) (by grind)⟩
    have I3 : I (g3 / 3) := (iff2 _).mpr ⟨⟨i3, offh _ _ _ b3 c3 (by grind) (by grind) (by grind)⟩, offr _ _ _ b3 c3 (by grind) (by grind) (by grind)⟩
    have I4 : I (g4 / 3) := (iff2 _).mpr ⟨⟨i4, offh _ _ _ b4 c4 (by grind) (by grind) (by grind)⟩, offr _ _ _ b4 c4 (by grind) (by grind) (by grind)⟩
    have ma : sm_mp a b a = a := mo a ab
    have mc : sm_mp a b c = c := mo c bc.symm
    have md : sm_mp a b d = d := mo d db
    have l1 := sm_lt48 i1
    have l2 := sm_lt48 i2
    have l3 := sm_lt48 i3
    have l4 := sm_lt48 i4
    refine sm_lks_all (I0 := sm_Fs fs) (D := fun j => j = h / 3 ∨ j = r / 3) (fr := fr) ok ?_ ?_ ?_ ?_ (fun j z _ => ((iff2 j).mp z).1.1)
    · intro x q ux dx uq dq m1 m2
      have lx := sm_lt48 ux
      have lq := sm_lt48 uq
      refine ⟨(iff2 _).mpr ⟨⟨uq, fun z => dq (Or.inl z)⟩, fun z => dq (Or.inr z)⟩, ?_, ?_⟩
      · rw [hL q lq, hL _ (sm_nx_lt lx), m1]
      · rw [hL _ (sm_nx_lt lq), hL x lx, m2]
    · intro p hp
      simp only [List.mem_cons, List.not_mem_nil, or_false] at hp
      rcases hp with rfl | rfl
      · exact sm_gp0 (x := c) (y := a) l1 I1 l2 I2 (by show L g1 = _; rw [hL _ l1, b1, mc]) (by show L (sm_nx g1) = _; rw [hL _ (sm_nx_lt l1), c1, mb]) (by show L g2 = _; rw [hL _ l2, b2, ma]) (by show L (sm_nx g2) = _; rw [hL _ (sm_nx_lt l2), c2, mc])
      · exact sm_gp0 (x := d) (y := a) l3 I3 l4 I4 (by show L g3 = _; rw [hL _ l3, b3, md]) (by show L (sm_nx g3) = _; rw [hL _ (sm_nx_lt l3), c3, ma]) (by show L g4 = _; rw [hL _ l4, b4, mb]) (by show L (sm_nx g4) = _; rw [hL _ (sm_nx_lt l4), c4, md])
    · rintro x ux (xf | xf)
      · exact absurd xf ((iff2 _).mp ux).1.2
      · exact absurd xf ((iff2 _).mp ux).2
    · rintro x q ux dx uq (qf | qf) m1 m2
      · rcases sm_same qf with e | e | e
        · subst e
          have z : x = r := sm_RX_u t0 rx ux ur (m2.symm.trans (eb.trans ra.symm)) (m1.symm.trans (ea.trans rb.symm))
          exact absurd (Or.inr (by rw [z])) dx
        · rw [e] at m1 m2
          rw [sm_nx_nx] at m2
          have z : x = g1 := sm_RX_u t0 rx ux i1 (m2.symm.trans (ec.trans b1.symm)) (m1.symm.trans (eb.trans c1.symm))
          exact ⟨(g1, g2), by simp, Or.inl z⟩
        · rw [e] at m1 m2
          rw [sm_nx_bf] at m2
          have z : x = g2 := sm_RX_u t0 rx ux i2 (m2.symm.trans (ea.trans b2.symm)) (m1.symm.trans (ec.trans c2.symm))
          exact ⟨(g1, g2), by simp, Or.inr z⟩
      · rcases sm_same qf with e | e | e
        · subst e
          have z : x = h := sm_RX_u t0 rx ux u (m2.symm.trans (rb.trans ea.symm)) (m1.symm.trans (ra.trans eb.symm))
          exact absurd (Or.inl (by rw [z])) dx
        · rw [e] at m1 m2
          rw [sm_nx_nx] at m2
          have z : x = g3 := sm_RX_u t0 rx ux i3 (m2.symm.trans (rc.trans b3.symm)) (m1.symm.trans (rb.trans c3.symm))
          exact ⟨(g3, g4), by simp, Or.inl z⟩
        · rw [e] at m1 m2
          rw [sm_nx_bf] at m2
          have z : x = g4 := sm_RX_u t0 rx ux i4 (m2.symm.trans (ra.trans b4.symm)) (m1.symm.trans (rc.trans c4.symm))
          exact ⟨(g3, g4), by simp, Or.inr z⟩
end
end
section
theorem sm_mp_V {a b t : Int32} (ha : sm_V a) (ht : sm_V t) : sm_V (sm_mp a b t) := by
  unfold sm_mp
  split
  · exact ha
  · exact ht
section
variable {F : Int32 → Int32 → Int32 → Prop} {vs fs : Int32} {fr ag ot : Nat → Int32}
theorem sm_cX_lp {a b : Int32} (Va : sm_V a) (lab : ∀ h, sm_V (fr h)) {post : Int32 → SX → Prop} (H : ∀ L ot', (∀ x, x < 48 → L x = sm_mp a b (fr x)) → (∀ x, sm_V (L x)) → (∀ x, sm_Fs fs (x / 3) → ∃ y, ot' (L x).toNatClampNeg = nI y ∧ y < 48 ∧ sm_Fs fs (y / 3) ∧ L y = L x) → post (nI (sm_cnt (bt (vs &&& (((1 : Int32) <<< (b &&& 31)) ^^^ (-1)))) 16)) (vs &&& (((1 : Int32) <<< (b &&& 31)) ^^^ (-1)), fs, L, ag, ot')) : ∀ d i L, i + d = 48 → (∀ x, x < i → L x = sm_mp a b (fr x)) → (∀ x, i ≤ x → L x = fr x) → wX_collapse_137 post a b vs fs (d + 1) (nI i) L ag ot := by
  intro d
  induction d with
  | zero =>
    intro i L hi K1 K2
    have e : i = 48 := by omega
    subst e
    have lab' : ∀ x, sm_V (L x) := by
      intro x
      by_cases z : x < 48
      · rw [K1 x z]; exact sm_mp_V Va (lab x)
      · rw [K2 x (by omega)]; exact lab x
    refine br_t (nI_le (a := 48) (by omega) (by omega)) (nm_e (sm_refresh lab' (fun ot' out => ?_)))
    dsimp only
    exact sm_ones (H L ot' K1 lab' out)
  | succ d ih =>
    intro i L hi K1 K2
    have hv : vp_in (nI i) 48 := vp_in_nI (by omega) (by omega)
    have Li := K2 i (Nat.le_refl _)
    have nxt : ∀ y, y = sm_mp a b (fr i) → wX_collapse_137 post a b vs fs (d + 1) (nI (i + 1)) (upd L i y) ag ot := by
      intro y e
      refine ih (i + 1) _ (by omega) (fun x hx => ?_) (fun x hx => ?_)
      · by_cases z : x = i
        · rw [z, pk_us, e]
        · rw [pk_un z]; exact K1 x (by omega)
      · rw [pk_un (by omega)]; exact K2 x (by omega)
    refine br_f (nI_ge (b := 48) (by omega) (by omega)) ⟨hv, ?_⟩
    rw [nI_clamp (by omega), Li]
    refine br_c (fun e => ⟨hv, nm_e (nm_r (nI_1 i) ?_)⟩) (fun e => ⟨hv, hv, nm_e (nm_r (nI_1 i) ?_)⟩)
    · rw [sm_narV Va]
      refine nxt _ ?_
      rw [e, sm_mp_b]
    · rw [sm_narV2 (lab i)]
      refine nxt _ ?_
      rw [sm_mp_o a b _ e]
theorem sm_xco (X : sm_X F vs fs fr ag ot) {a b : Int32} {post : Int32 → SX → Prop} (H0 : (∀ z, ¬ F a b z) → post (-1) (vs, fs, fr, ag, ot)) (H1 : sm_E F a b → ¬ sm_CC F a b → post (-3) (vs, fs, fr, ag, ot)) (H2 : ∀ c d vs' fs' fr' ag' ot', F a b c → F b a d → sm_CC F a b → sm_X (sm_co F a b c d (sm_mp a b)) vs' fs' fr' ag' ot' → sm_cnt (bt fs) 16 = sm_cnt (bt fs') 16 + 2 → sm_cnt (bt vs) 10 = sm_cnt (bt vs') 10 + 1 → post (nI (sm_cnt (bt vs') 16)) (vs', fs', fr', ag', ot')) : wpX_collapse post (vs, fs, fr, ag, ot) a b := by
  unfold wpX_collapse
  dsimp only
  refine sm_find X (fun h u ea eb => br_t (nI_pos' (by have := sm_lt48 u; omega)) ?_) (fun no => br_f (by decide) (H0 no))
  obtain ⟨r, g1, g2, g3, g4, er, e1, e2, e3, e4, ur, ra, rb, ne, f1, f2, G1, G2, G3, G4⟩ := sm_edge X u ea eb
  have lh := sm_lt48 u
  have lr := sm_lt48 ur
  have lab := X.2.2.2.2.2.2
  refine sm_canColl X f1 (fun cc => br_f (by decide) ?_) (fun cc => br_t rfl (H1 ⟨_, f1⟩ cc))
  obtain ⟨c, ec⟩ : ∃ c, fr (sm_bf h) = c := ⟨_, rfl⟩
  obtain ⟨d, ed⟩ : ∃ d, fr (sm_bf r) = d := ⟨_, rfl⟩
  rw [ec] at f1 G1 G2
  rw [ed] at f2 G3 G4
  have l1 := sm_lt48 G1.1
  have l2 := sm_lt48 G2.1
  have l3 := sm_lt48 G3.1
  have l4 := sm_lt48 G4.1
  have nh := sm_nx_lt lh
  have bh := sm_bf_lt lh
  have nr := sm_nx_lt lr
  have br := sm_bf_lt lr
  have Va : sm_V a := ea ▸ lab h
  have d1 : nI h / 3 = nI (h / 3) := pk_div (d := 3) (by omega) (by omega) (by omega)
  have d2 : nI r / 3 = nI (r / 3) := pk_div (d := 3) (by omega) (by omega) (by omega)
  refine ⟨vp_in_nI lh (by omega), nm_r (e' := nI r) (sm_nm lh er) (sm_next lh (sm_before lh (sm_next lr (sm_before lr ?_))))⟩
  refine ⟨vp_in_nI nh (by omega), nm_r (e' := nI g1) (sm_nm nh e1) ⟨vp_in_nI bh (by omega), nm_r (e' := nI g2) (sm_nm bh e2) ⟨vp_in_nI nr (by omega), nm_r (e' := nI g3) (sm_nm nr e3) ⟨vp_in_nI br (by omega), nm_r (e' := nI g4) (sm_nm br e4) ⟨by decide, by decide, ?_⟩⟩⟩⟩⟩
  rw [d1, d2]
  refine nm_e ?_
  refine sm_link l1 l2 ?_
  dsimp only
  refine sm_link l3 l4 ?_
  dsimp only
  refine ⟨49, sm_cX_lp Va lab (fun L ot' hL lab' out => ?_) 48 0 fr rfl (fun x hx => absurd hx (by omega)) (fun x _ => rfl)⟩
  refine H2 c d _ _ _ _ _ f1 f2 cc (sm_coX X u ea eb ec ur ra rb ed ne f1 f2 cc G1 G2 G3 G4 hL lab' out) (sm_cnt_clr2 u ur ne) ?_
  obtain ⟨l, hl, el⟩ := X.2.1 _ _ _ f2
  have vb : sm_Vt F (nI l) := el ▸ ⟨_, _, f2⟩
  rw [el, sm_cnt_del hl ((X.2.2.1 l (by omega)).mpr vb)]
  rw [sm_cnt_eq (p := bt (vs &&& (((1 : Int32) <<< (nI l &&& 31)) ^^^ (-1)))) (q := fun i => bt vs i && !decide (i = l)) (fun i hi => sm_clr vs (by omega) (by omega))]
end
section
variable {F : Int32 → Int32 → Int32 → Prop} {n : Nat} {pa pb pc : Nat → Int32} {post : Int32 → SY → Prop} {a b : Int32}
theorem sm_c108 {J : Int32 → (Nat → Int32) → (Nat → Int32) → (Nat → Int32) → Prop} {i : Nat} (hi : i < 16) {z : Int32} (H : J (nI (i + 1)) pa (upd pb i z) (upd pc i (sm_mp a b (pc i)))) : wY_collapse_108 post J a b (nI i) z (nI i) (nI n) pa pb pc := by
  unfold wY_collapse_108
  rw [nI_clamp (by omega)]
  have hv : vp_in (nI i) 16 := vp_in_nI hi (by omega)
  refine ⟨hv, nm_e ⟨hv, br_c (fun e => ⟨hv, nm_e (nm_r (nI_1 i) ?_)⟩) (fun e => ⟨hv, hv, nm_e (nm_r (nI_1 i) ?_)⟩)⟩⟩
  · rw [e, sm_mp_b] at H; exact H
  · rw [sm_mp_o a b _ e] at H; exact H
theorem sm_c82 {J : Int32 → (Nat → Int32) → (Nat → Int32) → (Nat → Int32) → Prop} {i : Nat} (hi : i < 16) {z : Int32} (H : J (nI (i + 1)) (upd pa i z) (upd pb i (sm_mp a b (pb i))) (upd pc i (sm_mp a b (pc i)))) : wY_collapse_82 post J a b (nI i) z (nI i) (nI n) pa pb pc := by
  unfold wY_collapse_82
  rw [nI_clamp (by omega)]
  have hv : vp_in (nI i) 16 := vp_in_nI hi (by omega)
  refine ⟨hv, nm_e ⟨hv, br_c (fun e => sm_c108 hi ?_) (fun e => ⟨hv, sm_c108 hi ?_⟩)⟩⟩
  · rw [e, sm_mp_b] at H; exact H
  · rw [sm_mp_o a b _ e] at H; exact H
theorem sm_cY_lp (hn : n ≤ 16) (H : ∀ qa qb qc, (∀ j, j < n → qa j = sm_mp a b (pa j) ∧ qb j = sm_mp a b (pb j) ∧ qc j = sm_mp a b (pc j)) → wpY_vertices (fun r => wpY_size (fun r' => post r' (nI n, qa, qb, qc)) (nI n, qa, qb, qc) r) (nI n, qa, qb, qc)) : ∀ d i qa qb qc, i + d = n → (∀ j, j < i → qa j = sm_mp a b (pa j) ∧ qb j = sm_mp a b (pb j) ∧ qc j = sm_mp a b (pc j)) → (∀ j, i ≤ j → qa j = pa j ∧ qb j = pb j ∧ qc j = pc j) → wY_collapse_49 post a b (nI n) (d + 1) (nI i) qa qb qc := by
  intro d
  induction d with
  | zero =>
    intro i qa qb qc hi K1 K2
    have e : i = n := by omega
    subst e
    exact br_t (nI_le (Nat.le_refl _) (by omega)) (H qa qb qc K1)
  | succ d ih =>
    intro i qa qb qc hi K1 K2
    have hv : vp_in (nI i) 16 := vp_in_nI (by omega) (by omega)
    obtain ⟨k1, k2, k3⟩ := K2 i (Nat.le_refl _)
    have nxt : wY_collapse_49 post a b (nI n) (d + 1) (nI (i + 1)) (upd qa i (sm_mp a b (qa i))) (upd qb i (sm_mp a b (qb i))) (upd qc i (sm_mp a b (qc i))) := by
      refine ih (i + 1) _ _ _ (by omega) (fun j hj => ?_) (fun j hj => ?_)
      · by_cases z : j = i
        · rw [z, pk_us, pk_us, pk_us, k1, k2, k3]; exact ⟨rfl, rfl, rfl⟩
        · rw [pk_un z, pk_un z, pk_un z]; exact K1 j (by omega)
      · rw [pk_un (by omega), pk_un (by omega), pk_un (by omega)]; exact K2 j (by omega)
    refine br_f (nI_ge (by omega) (by omega)) ⟨hv, ?_⟩
    rw [nI_clamp (by omega)]
    refine br_c (fun e => sm_c82 (by omega) ?_) (fun e => ⟨hv, sm_c82 (by omega) ?_⟩)
    · rw [e, sm_mp_b] at nxt; exact nxt
    · rw [sm_mp_o a b _ e] at nxt; exact nxt
end
section
variable {F : Int32 → Int32 → Int32 → Prop}
theorem sm_yco {ct : Nat} {pa pb pc : Nat → Int32} (Y : sm_Y F ct pa pb pc) (t : sm_T F) (rg : ∀ x y z, F x y z → sm_V x) {a b : Int32} {post : Int32 → SY → Prop} (H0 : (∀ z, ¬ F a b z) → post (-1) (nI ct, pa, pb, pc)) (H1 : sm_E F a b → ¬ sm_CC F a b → post (-3) (nI ct, pa, pb, pc)) (H2 : ∀ c d n qa qb qc s, F a b c → F b a d → sm_CC F a b → ct = n + 2 → sm_Y (sm_co F a b c d (sm_mp a b)) n qa qb qc → sm_Mk s (fun k => sm_Vt (sm_co F a b c d (sm_mp a b)) (nI k)) → post (nI (sm_cnt (bt s) 10)) (nI n, qa, qb, qc)) : wpY_collapse post (nI ct, pa, pb, pc) a b := by
  unfold wpY_collapse
  dsimp only
  refine sm_opp Y t rg (fun c fc => ?_) (fun no => br_f (by decide) (H0 no))
  refine br_t (Int32.not_lt.mp (sm_V_pos (rg _ _ _ (t.1 _ _ _ (t.1 _ _ _ fc))))) ?_
  refine sm_colls Y t rg (fun cc => br_f (by decide) ?_) (fun cc => br_t rfl (H1 ⟨_, fc⟩ cc))
  refine sm_opp Y t rg (fun c' fc' => ?_) (fun no => absurd fc (no _))
  cases t.2.2.1 _ _ _ _ fc fc'
  have t0 := t
  obtain ⟨rot, dis, unq, clo, thi, st, co⟩ := t
  obtain ⟨d, fd⟩ := clo _ _ _ fc
  have f1' := rot _ _ _ fc
  have f1'' := rot _ _ _ f1'
  have f2' := rot _ _ _ fd
  have f2'' := rot _ _ _ f2'
  have ab := dis _ _ _ fc
  have bc := dis _ _ _ f1'
  have ca := dis _ _ _ f1''
  have ad := dis _ _ _ f2'
  have db := dis _ _ _ f2''
  have nR : ¬ sm_R a b c b a d := by unfold sm_R; grind
  have two : ∃ n, ct = n + 2 := by
    obtain ⟨i, hi, r1⟩ := (Y.2.1 _ _ _).mp fc
    obtain ⟨j, hj, r2⟩ := (Y.2.1 _ _ _).mp fd
    have ij : i ≠ j := by
      intro e
      subst e
      exact nR (sm_Rt (sm_Rs r1) r2)
    have hi : i < ct := hi
    have hj : j < ct := hj
    exact ⟨ct - 2, by omega⟩
  obtain ⟨n, rfl⟩ := two
  have hc := Y.1
  refine sm_take (n := n + 1) Y fc (fun qa qb qc Y1 => ?_)
  dsimp only
  refine sm_oppR Y1 (sm_del_rot rot) (fun x y z f => rg _ _ _ f.1) (fun d' fd' => ?_) (fun no => absurd ⟨fd, nR⟩ (no _))
  cases unq _ _ _ _ fd fd'.1
  refine sm_take (n := n) Y1 fd' (fun qa qb qc Y2 => ?_)
  dsimp only
  obtain ⟨com, big⟩ := sm_CC_com t0 rg fc fd cc
  have mb := sm_mp_b a b
  have mo := sm_mp_o a b
  refine ⟨n + 1, sm_cY_lp (by omega) (fun ra rb rc hq => ?_) n 0 qa qb qc (by omega) (fun j hj => absurd hj (by omega)) (fun j _ => ⟨rfl, rfl, rfl⟩)⟩
  have Y3 : sm_Y (sm_co F a b c d (sm_mp a b)) n ra rb rc := ⟨by omega, sm_rep_map (m := sm_mp a b) Y2.2 (fun x y z x' y' z' k1 k2 e1 e2 _ => sm_co_inj rot dis unq clo fc fd com mb mo k1 k2 e1 e2) (sm_del_rot (sm_del_rot rot)) hq⟩
  have T3 := sm_co_T t0 fc fd com big mb mo
  refine sm_verts Y3 T3 ?_ (fun s hs => sm_size (H2 c d n ra rb rc s fc fd cc rfl Y3 hs))
  rintro x y z ⟨x', y', z', f, rfl, _, _⟩
  exact sm_mp_V (rg _ _ _ fc) (rg _ _ _ f.1.1)
end
theorem i_vc_collapse {k : Nat} {u : SX} {v : SY} (I : i_Rel k u v) (hk : k + 4 ≤ 2048) (v1 : Int32) (v2 : Int32) : wpX_collapse (fun r u' => wpY_collapse (fun r' v' => r' = r ∧ i_Rel (k + 4) u' v') v v1 v2) u v1 v2 := by
  have J := i_up I
  obtain ⟨F, vs, fs, fr, ag, ot, ct, pa, pb, pc, ⟨X, Y, c1, c2⟩, rfl, rfl⟩ := I
  refine sm_xco X (fun n => ?_) (fun f n => ?_) (fun c d vs' fs' fr' ag' ot' f1 f2 cc X' d1 d2 => ?_)
  · exact sm_yco Y X.1 X.2.1 (fun _ => ⟨rfl, J⟩) (fun f => f.elim (fun z q => absurd q (n z))) (fun c _ _ _ _ _ _ f => absurd f (n c))
  · exact sm_yco Y X.1 X.2.1 (fun n => f.elim (fun z q => absurd q (n z))) (fun _ _ => ⟨rfl, J⟩) (fun _ _ _ _ _ _ _ _ _ cc => absurd cc n)
  · refine sm_yco Y X.1 X.2.1 (fun n => absurd f1 (n _)) (fun _ n => absurd cc n) (fun c' d' n qa qb qc s k1 k2 _ en Y' hs => ?_)
    cases X.1.2.2.1 _ _ _ _ f1 k1
    cases X.1.2.2.1 _ _ _ _ f2 k2
    refine ⟨?_, ⟨_, vs', fs', fr', ag', ot', n, qa, qb, qc, ⟨X', Y', by omega, by omega⟩, rfl, rfl⟩⟩
    rw [sm_Mk_V X'.2.1 X'.2.2.1, sm_Mk_ext hs X'.2.2.1]
end
section
/-! the constructors: a tetrahedron -/
def sm_F0 : Int32 → Int32 → Int32 → Prop := sm_ins (sm_ins (sm_ins (sm_ins (fun _ _ _ => False) 0 1 2) 0 2 3) 0 3 1) 1 3 2
def sm_l0 : List (Int32 × Int32 × Int32) := [(0, 1, 2), (1, 2, 0), (2, 0, 1), (0, 2, 3), (2, 3, 0), (3, 0, 2), (0, 3, 1), (3, 1, 0), (1, 0, 3), (1, 3, 2), (3, 2, 1), (2, 1, 3)]
theorem sm_F0_iff {x y z : Int32} : sm_F0 x y z ↔ (x, y, z) ∈ sm_l0 := by
  simp only [sm_F0, sm_ins, sm_R, sm_l0, List.mem_cons, List.not_mem_nil, or_false, Prod.mk.injEq, false_or, or_assoc]
theorem sm_l0_rot : ∀ p, p ∈ sm_l0 → (p.2.1, p.2.2, p.1) ∈ sm_l0 := by decide +kernel
theorem sm_l0_dis : ∀ p, p ∈ sm_l0 → p.1 ≠ p.2.1 := by decide +kernel
theorem sm_l0_unq : ∀ p, p ∈ sm_l0 → ∀ q, q ∈ sm_l0 → p.1 = q.1 → p.2.1 = q.2.1 → p.2.2 = q.2.2 := by decide +kernel
theorem sm_l0_clo : ∀ p, p ∈ sm_l0 → (p.2.1, p.1, 0) ∈ sm_l0 ∨ (p.2.1, p.1, 1) ∈ sm_l0 ∨ (p.2.1, p.1, 2) ∈ sm_l0 ∨ (p.2.1, p.1, 3) ∈ sm_l0 := by decide +kernel
theorem sm_l0_thi : ∀ p, p ∈ sm_l0 → ¬ (p.2.1, p.1, p.2.2) ∈ sm_l0 := by decide +kernel
theorem sm_l0_all : ∀ p, p ∈ sm_l0 → p.1 = 0 ∨ p.1 = 1 ∨ p.1 = 2 ∨ p.1 = 3 := by decide +kernel
theorem sm_l0_adj : ∀ p, p ∈ sm_l0 → ∀ q, q ∈ sm_l0 → p.1 = q.1 → p.2.1 = q.2.1 ∨ p.2.2 = q.2.1 ∨ q.2.2 = p.2.1 := by decide +kernel
theorem sm_l0_con : ∀ p, p ∈ sm_l0 → ∀ q, q ∈ sm_l0 → p.1 = q.1 ∨ (p.1, q.1, 0) ∈ sm_l0 ∨ (p.1, q.1, 1) ∈ sm_l0 ∨ (p.1, q.1, 2) ∈ sm_l0 ∨ (p.1, q.1, 3) ∈ sm_l0 := by decide +kernel
theorem sm_T0 : sm_T sm_F0 := by
  have rot : ∀ x y z, sm_F0 x y z → sm_F0 y z x := fun x y z h => sm_F0_iff.mpr (sm_l0_rot _ (sm_F0_iff.mp h))
  have unq : ∀ x y z w, sm_F0 x y z → sm_F0 x y w → z = w := fun x y z w h k => sm_l0_unq _ (sm_F0_iff.mp h) _ (sm_F0_iff.mp k) rfl rfl
  have clo : ∀ x y z, sm_F0 x y z → ∃ w, sm_F0 y x w := by
    intro x y z h
    rcases sm_l0_clo _ (sm_F0_iff.mp h) with k | k | k | k <;> exact ⟨_, sm_F0_iff.mpr k⟩
  refine ⟨rot, fun x y z h => sm_l0_dis _ (sm_F0_iff.mp h), unq, clo, fun x y z h k => sm_l0_thi _ (sm_F0_iff.mp h) (sm_F0_iff.mp k), ?_, ?_⟩
  · intro v S hS x y x' y' h h' sx
    have sy := hS _ _ h sx
    rcases sm_l0_adj _ (sm_F0_iff.mp h) _ (sm_F0_iff.mp h') rfl with e | e | e
    · have e : x = x' := e
      exact e ▸ sx
    · have e : y = x' := e
      exact e ▸ sy
    · have e : y' = x := e
      obtain ⟨w, hw⟩ := clo _ _ _ (rot _ _ _ (rot _ _ _ h))
      have sw := hS _ _ hw sy
      -- about v the three neighbours are x, y, w; w comes back to x, and so w is x'
      rcases sm_l0_adj _ (sm_F0_iff.mp hw) _ (sm_F0_iff.mp h') rfl with k | k | k
      · have k : y = x' := k
        exact k ▸ sy
      · have k : w = x' := k
        exact k ▸ sw
      · have k : y' = y := k
        have z : x = y := e.symm.trans k
        exact absurd z (sm_l0_dis _ (sm_F0_iff.mp (rot _ _ _ h)))
  · intro S hS x y z x' y' z' h h' sx
    rcases sm_l0_con _ (sm_F0_iff.mp h) _ (sm_F0_iff.mp h') with k | k | k | k | k
    · have k : x = x' := k
      exact k ▸ sx
    · exact hS _ _ _ (sm_F0_iff.mpr k) sx
    · exact hS _ _ _ (sm_F0_iff.mpr k) sx
    · exact hS _ _ _ (sm_F0_iff.mpr k) sx
    · exact hS _ _ _ (sm_F0_iff.mpr k) sx
def sm_L0 : Nat → Int32 := sm_wr (sm_wr (sm_wr (sm_wr (fun _ => 0) 0 0 1 2) 1 0 2 3) 2 0 3 1) 3 1 3 2
theorem sm_V0 : sm_V 0 ∧ sm_V 1 ∧ sm_V 2 ∧ sm_V 3 := ⟨⟨0, by omega, rfl⟩, ⟨1, by omega, rfl⟩, ⟨2, by omega, rfl⟩, ⟨3, by omega, rfl⟩⟩
theorem sm_lab0 : ∀ x, sm_V (sm_L0 x) := by
  obtain ⟨v0, v1, v2, v3⟩ := sm_V0
  exact sm_wr_V (sm_wr_V (sm_wr_V (sm_wr_V (fun _ => v0) v0 v1 v2) v0 v2 v3) v0 v3 v1) v1 v3 v2
theorem sm_15 : ∀ i, i < 32 → (bt 15 i = true ↔ i < 4) := by decide +kernel
theorem sm_Fs15 (j : Nat) : sm_Fs 15 j ↔ (((False ∨ j = 0) ∨ j = 1) ∨ j = 2) ∨ j = 3 := by
  unfold sm_Fs
  constructor
  · rintro ⟨h1, h2⟩
    rw [sm_15 j (by omega)] at h2
    omega
  · intro h
    have : j < 4 := by rcases h with (((h | h) | h) | h) | h <;> first | exact h.elim | omega
    exact ⟨by omega, (sm_15 j (by omega)).mpr this⟩
theorem sm_RE {fr : Nat → Int32} : sm_RX (fun _ => False) fr (fun _ _ _ => False) := ⟨fun _ _ _ => ⟨fun z => z.elim, fun ⟨_, z, _⟩ => z.elim⟩, fun _ _ z => z.elim⟩
theorem sm_nF1 : ¬ sm_ins (fun _ _ _ => False) (0 : Int32) 1 2 0 2 3 := by
  unfold sm_ins sm_R; decide
theorem sm_nF2 : ¬ sm_ins (sm_ins (fun _ _ _ => False) (0 : Int32) 1 2) 0 2 3 0 3 1 := by
  unfold sm_ins sm_R; decide
theorem sm_nF3 : ¬ sm_ins (sm_ins (sm_ins (fun _ _ _ => False) (0 : Int32) 1 2) 0 2 3) 0 3 1 1 3 2 := by
  unfold sm_ins sm_R; decide
theorem sm_rE : ∀ x y z : Int32, (fun _ _ _ => False : Int32 → Int32 → Int32 → Prop) x y z → (fun _ _ _ => False : Int32 → Int32 → Int32 → Prop) y z x := fun _ _ _ h => h
theorem sm_RX0 : sm_RX (sm_Fs 15) sm_L0 sm_F0 := by
  have r1 := sm_RX_ins (I' := fun j => False ∨ j = 0) (f := 0) (a := 0) (b := 1) (c := 2) (sm_RE (fr := fun _ => 0)) (fun z => z) (fun z => z) sm_rE (fun _ => Iff.rfl)
  have r2 := sm_RX_ins (I' := fun j => (False ∨ j = 0) ∨ j = 1) (f := 1) (a := 0) (b := 2) (c := 3) r1 (by show ¬ (False ∨ (1 : Nat) = 0); decide) sm_nF1 (sm_ins_rot sm_rE) (fun _ => Iff.rfl)
  have r3 := sm_RX_ins (I' := fun j => ((False ∨ j = 0) ∨ j = 1) ∨ j = 2) (f := 2) (a := 0) (b := 3) (c := 1) r2 (by show ¬ ((False ∨ (2 : Nat) = 0) ∨ (2 : Nat) = 1); decide) sm_nF2 (sm_ins_rot (sm_ins_rot sm_rE)) (fun _ => Iff.rfl)
  exact sm_RX_ins (I' := sm_Fs 15) (f := 3) (a := 1) (b := 3) (c := 2) r3 (by show ¬ (((False ∨ (3 : Nat) = 0) ∨ (3 : Nat) = 1) ∨ (3 : Nat) = 2); decide) sm_nF3 (sm_ins_rot (sm_ins_rot (sm_ins_rot sm_rE))) sm_Fs15
theorem sm_u15 {h : Nat} (hh : h < 12) : sm_Fs 15 (h / 3) := ⟨by omega, (sm_15 _ (by omega)).mpr (by omega)⟩
theorem sm_gpn {h g : Nat} (hh : h < 12) (hg : g < 12) (e1 : sm_L0 h = sm_L0 (sm_nx g)) (e2 : sm_L0 (sm_nx h) = sm_L0 g) : sm_gp (sm_Fs 15) sm_L0 h g :=
  ⟨by omega, sm_u15 hh, by omega, sm_u15 hg, e1, e2⟩
theorem sm_X0 {ot : Nat → Int32} (out : ∀ x, sm_Fs 15 (x / 3) → ∃ y, ot (sm_L0 x).toNatClampNeg = nI y ∧ y < 48 ∧ sm_Fs 15 (y / 3) ∧ sm_L0 y = sm_L0 x) : sm_X sm_F0 15 15 sm_L0 (sm_lks (fun _ => 0) [(0, 8), (1, 11), (2, 3), (4, 10), (5, 6), (7, 9)]) ot := by
  refine sm_X_mk sm_T0 ?_ sm_RX0 ?_ sm_lab0 out
  · intro i hi
    rw [sm_15 i hi]
    constructor
    · intro h
      obtain h | h | h | h : i = 0 ∨ i = 1 ∨ i = 2 ∨ i = 3 := by omega
      · subst h; exact ⟨1, 2, sm_F0_iff.mpr (by decide)⟩
      · subst h; exact ⟨2, 0, sm_F0_iff.mpr (by decide)⟩
      · subst h; exact ⟨0, 1, sm_F0_iff.mpr (by decide)⟩
      · subst h; exact ⟨0, 2, sm_F0_iff.mpr (by decide)⟩
    · rintro ⟨y, z, f⟩
      have : nI i = nI 0 ∨ nI i = nI 1 ∨ nI i = nI 2 ∨ nI i = nI 3 := sm_l0_all _ (sm_F0_iff.mp f)
      rw [nI_eq (by omega) (by omega), nI_eq (by omega) (by omega), nI_eq (by omega) (by omega), nI_eq (by omega) (by omega)] at this
      omega
  · intro x ux
    have hx : x < 12 := by
      rcases (sm_Fs15 _).mp ux with (((h | h) | h) | h) | h <;> first | exact h.elim | omega
    apply sm_lks_ok
    · intro p hp
      simp only [List.mem_cons, List.not_mem_nil, or_false] at hp
      rcases hp with rfl | rfl | rfl | rfl | rfl | rfl
      · exact sm_gpn (by decide) (by decide) (by decide) (by decide)
      · exact sm_gpn (by decide) (by decide) (by decide) (by decide)
      · exact sm_gpn (by decide) (by decide) (by decide) (by decide)
      · exact sm_gpn (by decide) (by decide) (by decide) (by decide)
      · exact sm_gpn (by decide) (by decide) (by decide) (by decide)
      · exact sm_gpn (by decide) (by decide) (by decide) (by decide)
    · exact Or.inr ((by decide : ∀ x, x < 12 → ∃ p, p ∈ [(0, 8), (1, 11), (2, 3), (4, 10), (5, 6), (7, 9)] ∧ (x = p.1 ∨ x = p.2)) x hx)
theorem sm_YE : sm_Y (fun _ _ _ => False) 0 (fun _ => 0) (fun _ => 0) (fun _ => 0) := ⟨by omega, fun _ _ _ => ⟨fun z => z.elim, fun ⟨_, z, _⟩ => absurd z (Nat.not_lt_zero _)⟩, fun _ _ z => absurd z (Nat.not_lt_zero _)⟩
theorem sm_yinit {post : SY → Prop} (H : ∀ qa qb qc, sm_Y sm_F0 4 qa qb qc → post (nI 4, qa, qb, qc)) : wpY_init post := by
  unfold wpY_init
  refine sm_put (ct := 0) sm_YE (by omega) sm_rE (fun z => z) (fun qa qb qc Y1 => ?_)
  dsimp only
  refine sm_put Y1 (by omega) (sm_ins_rot sm_rE) sm_nF1 (fun qa qb qc Y2 => ?_)
  dsimp only
  refine sm_put Y2 (by omega) (sm_ins_rot (sm_ins_rot sm_rE)) sm_nF2 (fun qa qb qc Y3 => ?_)
  dsimp only
  refine sm_put Y3 (by omega) (sm_ins_rot (sm_ins_rot (sm_ins_rot sm_rE))) sm_nF3 (fun qa qb qc Y4 => ?_)
  exact H _ _ _ Y4
theorem i_vc0 : wpX_init (fun u => wpY_init (fun v => i_Rel 0 u v)) := by
  obtain ⟨v0, v1, v2, v3⟩ := sm_V0
  unfold wpX_init
  refine sm_write (f := 0) (by omega) v0 v1 v2 ?_
  dsimp only
  refine sm_write (f := 1) (by omega) v0 v2 v3 ?_
  dsimp only
  refine sm_write (f := 2) (by omega) v0 v3 v1 ?_
  dsimp only
  refine sm_write (f := 3) (by omega) v1 v3 v2 ?_
  dsimp only
  refine sm_link' 0 8 rfl rfl (by omega) (by omega) ?_
  dsimp only
  refine sm_link' 1 11 rfl rfl (by omega) (by omega) ?_
  dsimp only
  refine sm_link' 2 3 rfl rfl (by omega) (by omega) ?_
  dsimp only
  refine sm_link' 4 10 rfl rfl (by omega) (by omega) ?_
  dsimp only
  refine sm_link' 5 6 rfl rfl (by omega) (by omega) ?_
  dsimp only
  refine sm_link' 7 9 rfl rfl (by omega) (by omega) ?_
  dsimp only
  refine sm_refresh sm_lab0 (fun ot' out => ?_)
  dsimp only
  refine sm_yinit (fun qa qb qc Y => ?_)
  exact ⟨sm_F0, 15, 15, sm_L0, _, ot', 4, qa, qb, qc, ⟨sm_X0 out, Y, by decide +kernel, by decide +kernel⟩, rfl, rfl⟩
end
