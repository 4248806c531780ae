section
/-! rows of kit/rows/PURE-ROWS, as they stand (a starting text) -/
theorem pk_us {f : Nat → Int32} {k : Nat} {x : Int32} : upd f k x k = x := if_pos rfl
theorem pk_un {f : Nat → Int32} {k j : Nat} {x : Int32} (h : j ≠ k) : upd f k x j = f j := if_neg h
theorem pk_sub {a b : Nat} (h : b ≤ a) : nI a - nI b = nI (a - b) := by
  obtain ⟨c, rfl⟩ : ∃ c, a = c + b := ⟨a - b, by omega⟩
  rw [← nI_add, Int32.add_sub_cancel, Nat.add_sub_cancel]
theorem pk_mul (a b : Nat) : nI a * nI b = nI (a * b) := (Int32.ofNat_mul a b).symm
theorem pk_div {a d : Nat} (ha : a < 2 ^ 31) (h0 : 0 < d) (hd : d < 2 ^ 31) : nI a / nI d = nI (a / d) := by
  apply Int32.toInt_inj.mp
  rw [lg_idiv_nonneg (by rw [nI_toInt ha]; omega) (by rw [nI_toInt hd]; omega), nI_toInt ha, nI_toInt hd, nI_toInt (Nat.lt_of_le_of_lt (Nat.div_le_self a d) ha)]
  first | rfl | exact (Int.natCast_ediv _ _).symm
theorem pk_rem {a d : Nat} (ha : a < 2 ^ 31) (h0 : 0 < d) (hd : d < 2 ^ 31) : nI a - nI a / nI d * nI d = nI (a % d) := by
  rw [pk_div ha h0 hd, pk_mul, pk_sub (Nat.div_mul_le_self a d)]
  exact congrArg nI (by have := Nat.div_add_mod' a d; omega)
theorem pk_tn {n : Nat} (h : n < 2 ^ 32) : (nI n).toBitVec.toNat = n := Nat.mod_eq_of_lt h
theorem pk_and (x : Int32) {m : Int32} (k : Nat) (hm : m.toBitVec.toNat = 2 ^ k - 1) : x &&& m = nI (x.toBitVec.toNat % 2 ^ k) := by
  apply Int32.toBitVec_inj.mp
  apply BitVec.eq_of_toNat_eq
  rw [Int32.toBitVec_and, BitVec.toNat_and, hm, Nat.and_two_pow_sub_one_eq_mod]
  show _ = (BitVec.ofNat 32 _).toNat
  rw [BitVec.toNat_ofNat]
  exact (Nat.mod_eq_of_lt (Nat.lt_of_le_of_lt (Nat.mod_le _ _) x.toBitVec.isLt)).symm
theorem pk_andN {n : Nat} (h : n < 2 ^ 32) {m : Int32} (k : Nat) (hm : m.toBitVec.toNat = 2 ^ k - 1) : nI n &&& m = nI (n % 2 ^ k) := by
  rw [pk_and _ k hm, pk_tn h]
theorem pk_shr (a s : Int32) (k : Nat) (hs : (s.toBitVec.smod 32).toNat = k) : (a >>> s).toInt = a.toInt >>> k := by
  show (a.toBitVec.sshiftRight (s.toBitVec.smod 32).toNat).toInt = _
  rw [hs, BitVec.toInt_sshiftRight]
  rfl
theorem pk_shrN {n : Nat} (h : n < 2 ^ 31) (s : Int32) (k : Nat) (hs : (s.toBitVec.smod 32).toNat = k) : nI n >>> s = nI (n / 2 ^ k) := by
  apply Int32.toInt_inj.mp
  have h2 : n / 2 ^ k ≤ n := Nat.div_le_self _ _
  rw [pk_shr _ _ k hs, nI_toInt h, nI_toInt (by omega), Int.shiftRight_eq_div_pow]
  rfl
theorem pk_vb (z : Int32) : vp_nar .byte z.toInt8.toInt32 = z.toInt8.toInt32 := by rw [vp_nar_byte]; simp
/-! small facts about numbers and stores -/
theorem cm_4 (a b : Nat) : (4 : Int32) * nI a + nI b = nI (4 * a + b) := by
  rw [show (4 : Int32) = nI 4 from rfl, pk_mul, nI_add]
theorem cm_8 (a b : Nat) : (8 : Int32) * nI a + nI b = nI (8 * a + b) := by
  rw [show (8 : Int32) = nI 8 from rfl, pk_mul, nI_add]
theorem cm_p4 (a : Nat) : (4 : Int32) + nI a = nI (4 + a) := by
  rw [show (4 : Int32) = nI 4 from rfl, nI_add]
theorem cm_nm {b : Nat} (h : b < 2 ^ 31) : ¬ nI b = -1 := by
  intro e
  have h2 := nI_pos' h
  rw [e] at h2
  exact absurd h2 (by decide)
theorem cm_nb {n : Nat} (h : n < 128) : vp_nar .byte (nI n) = nI n := by
  have e := nI_toInt (n := n) (by omega)
  rw [vp_nar_byte, lg_i2b_small (by omega) (by omega)]
theorem cm_nbb {n : Nat} (h : n < 128) : vp_nar .byte (nI n).toInt8.toInt32 = nI n := by
  rw [pk_vb, ← vp_nar_byte, cm_nb h]
theorem cm_bm : vp_nar .byte (-1) = -1 := by rw [vp_nar_byte]; decide
theorem cm_z0 : vp_nar .boolean 0 = 0 := rfl
theorem cm_z1 : vp_nar .boolean 1 = 1 := rfl
theorem cm_zz {x : Int32} (h : x = 0 ∨ x = 1) : vp_nar .boolean x = x := by
  rcases h with rfl | rfl
  · rfl
  · rfl
theorem cm_s2 {n : Nat} (h : n < 2 ^ 31) : nI n >>> ((2 : Int32) &&& 31) = nI (n / 4) := pk_shrN h _ 2 (by decide)
theorem cm_s3 {n : Nat} (h : n < 2 ^ 31) : nI n >>> ((3 : Int32) &&& 31) = nI (n / 8) := pk_shrN h _ 3 (by decide)
theorem cm_a3 {n : Nat} (h : n < 2 ^ 31) : nI n &&& 3 = nI (n % 4) := pk_andN (by omega) 2 (by decide)
theorem cm_a7 {n : Nat} (h : n < 2 ^ 31) : nI n &&& 7 = nI (n % 8) := pk_andN (by omega) 3 (by decide)
theorem cm_uu {f : Nat → Int32} {k : Nat} {x : Int32} (h : f k = x) : upd f k x = f := by
  funext j
  by_cases e : j = k
  · subst e
    rw [pk_us, h]
  · rw [pk_un e]
theorem cm_ix (x : Int32) (n : Nat) (hn : n + 1 < 2 ^ 31) : x < 0 ∨ (¬ x < 0 ∧ nI n < x ∧ ¬ x ≤ nI n) ∨ ∃ j : Nat, j ≤ n ∧ x = nI j := by
  by_cases h : x < 0
  · exact Or.inl h
  · obtain ⟨j, hj, rfl⟩ := nI_of h
    by_cases h2 : j ≤ n
    · exact Or.inr (Or.inr ⟨j, h2, rfl⟩)
    · exact Or.inr (Or.inl ⟨h, nI_lt (by omega) hj, nI_ge (by omega) hj⟩)
theorem cm_iy (x : Int32) (n : Nat) (hn : n + 1 < 2 ^ 31) : (x < 0 ∨ nI n < x) ∨ ∃ j : Nat, j ≤ n ∧ x = nI j := by
  rcases cm_ix x n hn with h | ⟨_, h, _⟩ | h
  · exact Or.inl (Or.inl h)
  · exact Or.inl (Or.inr h)
  · exact Or.inr h
end
section
/-! THE RELATION in four parts: the numbers, the entries, the kept translations, the cache -/
def cm_F (cn kn nn ln : Nat) : Prop := cn < 4 ∧ 1 ≤ kn ∧ kn ≤ 4 ∧ nn < kn ∧ 1 ≤ ln ∧ ln ≤ 4
def cm_E (fr wr : Nat → Int32) : Prop := ∀ e, e < 32 → (fr e = -1 ∨ ∃ f, f < 8 ∧ fr e = nI f) ∧ (wr e = 0 ∨ wr e = 1)
def cm_T (kn : Nat) (fr wr ke kf kw : Nat → Int32) : Prop :=
  ∀ k e, k < kn → e < 32 → ke k = nI e → ¬ fr e = -1 ∧ kf k = fr e ∧ kw k = wr e
/-- wx, bl, di, ca: the words, the lines' blocks, which are dirty, what they hold; wy: what a program sees -/
def cm_C (ln : Nat) (wx bl di ca wy : Nat → Int32) : Prop :=
  (∀ l, l < 8 → bl l = -1 ∨ ∃ b, b < 16 ∧ bl l = nI b) ∧
  (∀ l b, l < 8 → b < 16 → bl l = nI b → l % 4 = b % ln) ∧
  (∀ l m b, l < 8 → m < 8 → b < 16 → bl l = nI b → bl m = nI b → l = m) ∧
  (∀ l b i, l < 8 → b < 16 → i < 4 → bl l = nI b → ca (4 * l + i) = wy (4 * b + i) ∧ (di l = 0 → wx (4 * b + i) = wy (4 * b + i))) ∧
  (∀ b i, b < 16 → i < 4 → (∀ l, l < 8 → ¬ bl l = nI b) → wx (4 * b + i) = wy (4 * b + i))

/-! the cache: giving up a line, taking one, a store, a device's write -/
theorem cm_un1 {bl : Nat → Int32} {l m b : Nat} (hb : b < 16) (h : upd bl l (-1) m = nI b) : m ≠ l ∧ bl m = nI b := by
  by_cases e : m = l
  · subst e
    rw [pk_us] at h
    exact absurd h.symm (cm_nm (by omega))
  · rw [pk_un e] at h
    exact ⟨e, h⟩
theorem cm_un2 {bl : Nat → Int32} {l m b c : Nat} (hb : b < 16) (hc : c < 16) (h : upd bl l (nI b) m = nI c) : (m = l ∧ c = b) ∨ (m ≠ l ∧ bl m = nI c) := by
  by_cases e : m = l
  · subst e
    rw [pk_us, nI_eq (by omega) (by omega)] at h
    exact Or.inl ⟨rfl, h.symm⟩
  · rw [pk_un e] at h
    exact Or.inr ⟨e, h⟩
theorem cm_law_evict {ln : Nat} {wx wx' bl di ca wy : Nat → Int32} {l : Nat} (C : cm_C ln wx bl di ca wy) (hl : l < 8)
    (hk : ∀ b i, b < 16 → i < 4 → ¬ bl l = nI b → wx' (4 * b + i) = wx (4 * b + i))
    (hw : ∀ b i, b < 16 → i < 4 → bl l = nI b → wx' (4 * b + i) = wy (4 * b + i)) :
    cm_C ln wx' (upd bl l (-1)) (upd di l 0) ca wy := by
  obtain ⟨c1, c2, c3, c4, c5⟩ := C
  refine ⟨?_, ?_, ?_, ?_, ?_⟩
  · intro m hm
    by_cases e : m = l
    · subst e
      exact Or.inl pk_us
    · rw [pk_un e]
      exact c1 m hm
  · intro m b hm hb h
    exact c2 m b hm hb (cm_un1 hb h).2
  · intro m m' b hm hm' hb h h'
    exact c3 m m' b hm hm' hb (cm_un1 hb h).2 (cm_un1 hb h').2
  · intro m b i hm hb hi h
    obtain ⟨e, h⟩ := cm_un1 hb h
    obtain ⟨p, q⟩ := c4 m b i hm hb hi h
    refine ⟨p, ?_⟩
    rw [pk_un e]
    intro z
    have n : ¬ bl l = nI b := fun z' => e (c3 m l b hm hl hb h z')
    rw [hk b i hb hi n]
    exact q z
  · intro b i hb hi h
    by_cases z : bl l = nI b
    · exact hw b i hb hi z
    · rw [hk b i hb hi z]
      refine c5 b i hb hi ?_
      intro m hm zm
      by_cases e : m = l
      · subst e
        exact z zm
      · exact h m hm (by rw [pk_un e]; exact zm)
theorem cm_law_bring {ln : Nat} {wx bl di ca ca' wy : Nat → Int32} {l b : Nat} (C : cm_C ln wx bl di ca wy) (hl : l < 8) (hb : b < 16)
    (hm : l % 4 = b % ln) (he : bl l = -1) (hn : ∀ m, m < 8 → ¬ bl m = nI b)
    (hk : ∀ m i, m < 8 → i < 4 → m ≠ l → ca' (4 * m + i) = ca (4 * m + i))
    (hc : ∀ i, i < 4 → ca' (4 * l + i) = wx (4 * b + i)) :
    cm_C ln wx (upd bl l (nI b)) di ca' wy := by
  obtain ⟨c1, c2, c3, c4, c5⟩ := C
  refine ⟨?_, ?_, ?_, ?_, ?_⟩
  · intro m h
    by_cases e : m = l
    · subst e
      exact Or.inr ⟨b, hb, pk_us⟩
    · rw [pk_un e]
      exact c1 m h
  · intro m c h hc' z
    rcases cm_un2 hb hc' z with ⟨rfl, rfl⟩ | ⟨_, z⟩
    · exact hm
    · exact c2 m c h hc' z
  · intro m m' c h h' hc' z z'
    rcases cm_un2 hb hc' z with ⟨rfl, rfl⟩ | ⟨_, y⟩
    · rcases cm_un2 hb hc' z' with ⟨rfl, _⟩ | ⟨_, y'⟩
      · rfl
      · exact absurd y' (hn m' h')
    · rcases cm_un2 hb hc' z' with ⟨rfl, rfl⟩ | ⟨_, y'⟩
      · exact absurd y (hn m h)
      · exact c3 m m' c h h' hc' y y'
  · intro m c i h hc' hi z
    rcases cm_un2 hb hc' z with ⟨rfl, rfl⟩ | ⟨e, z⟩
    · have q := c5 c i hc' hi hn
      exact ⟨(hc i hi).trans q, fun _ => q⟩
    · obtain ⟨p, q⟩ := c4 m c i h hc' hi z
      exact ⟨(hk m i h hi e).trans p, q⟩
  · intro c i hc' hi h
    refine c5 c i hc' hi ?_
    intro m h' z
    by_cases e : m = l
    · subst e
      exact cm_nm (b := c) (by omega) (z.symm.trans he)
    · exact h m h' (by rw [pk_un e]; exact z)
theorem cm_law_store {ln : Nat} {wx bl di ca wy : Nat → Int32} {l b i : Nat} {x : Int32} (C : cm_C ln wx bl di ca wy) (hl : l < 8) (hb : b < 16) (hi : i < 4)
    (h : bl l = nI b) : cm_C ln wx bl (upd di l 1) (upd ca (4 * l + i) x) (upd wy (4 * b + i) x) := by
  obtain ⟨c1, c2, c3, c4, c5⟩ := C
  refine ⟨c1, c2, c3, ?_, ?_⟩
  · intro m c j hm hc hj z
    obtain ⟨p, q⟩ := c4 m c j hm hc hj z
    by_cases e : m = l
    · subst e
      have e2 : c = b := by
        rw [h, nI_eq (by omega) (by omega)] at z
        exact z.symm
      subst e2
      refine ⟨?_, ?_⟩
      · by_cases e3 : j = i
        · subst e3
          rw [pk_us, pk_us]
        · rw [pk_un (by omega), pk_un (by omega)]
          exact p
      · rw [pk_us]
        intro z1
        exact absurd z1 (by decide)
    · have e2 : c ≠ b := by
        intro e2
        subst e2
        exact e (c3 m l c hm hl hc z h)
      rw [pk_un (by omega), pk_un (by omega), pk_un e]
      exact ⟨p, q⟩
  · intro c j hc hj z
    have e2 : c ≠ b := by
      intro e2
      subst e2
      exact z l hl h
    rw [pk_un (by omega)]
    exact c5 c j hc hj z
theorem cm_law_dev {ln : Nat} {wx bl di ca wy : Nat → Int32} {b i : Nat} {x : Int32} (C : cm_C ln wx bl di ca wy) (hb : b < 16) (hi : i < 4)
    (h : ∀ l, l < 8 → ¬ bl l = nI b) : cm_C ln (upd wx (4 * b + i) x) bl di ca (upd wy (4 * b + i) x) := by
  obtain ⟨c1, c2, c3, c4, c5⟩ := C
  refine ⟨c1, c2, c3, ?_, ?_⟩
  · intro m c j hm hc hj z
    have e2 : c ≠ b := by
      intro e2
      subst e2
      exact h m hm z
    rw [pk_un (by omega), pk_un (by omega)]
    exact c4 m c j hm hc hj z
  · intro c j hc hj z
    by_cases e : 4 * c + j = 4 * b + i
    · rw [e, pk_us, pk_us]
    · rw [pk_un e, pk_un e]
      exact c5 c j hc hj z

/-! the kept translations: one is forgotten, one is taken -/
theorem cm_T_fg {kn e : Nat} {fr wr ke kf kw fr' wr' ke' : Nat → Int32} (T : cm_T kn fr wr ke kf kw) (he : e < 32)
    (hk : ∀ k, k < kn → (ke k = nI e ∧ ke' k = -1) ∨ (¬ ke k = nI e ∧ ke' k = ke k))
    (hf : ∀ j, j ≠ e → fr' j = fr j) (hw : ∀ j, j ≠ e → wr' j = wr j) : cm_T kn fr' wr' ke' kf kw := by
  intro k j h hj z
  rcases hk k h with ⟨_, q⟩ | ⟨p, q⟩
  · exact absurd (z.symm.trans q) (cm_nm (by omega))
  · rw [q] at z
    have e2 : j ≠ e := by
      intro e2
      subst e2
      exact p z
    rw [hf j e2, hw j e2]
    exact T k j h hj z
theorem cm_T_tk {kn e n : Nat} {fr wr ke kf kw : Nat → Int32} (T : cm_T kn fr wr ke kf kw) (he : e < 32) (hf : ¬ fr e = -1) :
    cm_T kn fr wr (upd ke n (nI e)) (upd kf n (fr e)) (upd kw n (wr e)) := by
  intro k j h hj z
  by_cases q : k = n
  · subst q
    rw [pk_us, nI_eq (by omega) (by omega)] at z
    subst z
    rw [pk_us, pk_us]
    exact ⟨hf, rfl, rfl⟩
  · rw [pk_un q] at z
    rw [pk_un q, pk_un q]
    exact T k j h hj z
theorem cm_E_up {fr wr : Nat → Int32} (E : cm_E fr wr) {e : Nat} {x y : Int32} (hx : x = -1 ∨ ∃ f, f < 8 ∧ x = nI f) (hy : y = 0 ∨ y = 1) : cm_E (upd fr e x) (upd wr e y) := by
  intro j hj
  by_cases q : j = e
  · subst q
    rw [pk_us, pk_us]
    exact ⟨hx, hy⟩
  · rw [pk_un q, pk_un q]
    exact E j hj
theorem cm_E_fr {fr wr : Nat → Int32} (E : cm_E fr wr) {e : Nat} {x : Int32} (hx : x = -1 ∨ ∃ f, f < 8 ∧ x = nI f) : cm_E (upd fr e x) wr := by
  intro j hj
  by_cases q : j = e
  · subst q
    rw [pk_us]
    exact ⟨hx, (E j hj).2⟩
  · rw [pk_un q]
    exact E j hj
theorem cm_E_wr {fr wr : Nat → Int32} (E : cm_E fr wr) {e : Nat} {y : Int32} (hy : y = 0 ∨ y = 1) : cm_E fr (upd wr e y) := by
  intro j hj
  by_cases q : j = e
  · subst q
    rw [pk_us]
    exact ⟨(E j hj).1, hy⟩
  · rw [pk_un q]
    exact E j hj
end
section
/-! forget -/
section
variable {post : SX → Prop} {cu ll nk lc x : Int32} {wx fr wr kf kw bl di ca lw : Nat → Int32} {kn : Nat}
theorem cm_fg_loop (hk : kn ≤ 4) (ke : Nat → Int32)
    (K : ∀ ke' : Nat → Int32, (∀ k, k < kn → (ke k = x ∧ ke' k = -1) ∨ (¬ ke k = x ∧ ke' k = ke k)) → post (cu, ll, nI kn, nk, lc, wx, fr, wr, ke', kf, kw, bl, di, ca, lw)) :
    ∀ (d i : Nat) (g : Nat → Int32), i + d = kn → (∀ k, k < i → (ke k = x ∧ g k = -1) ∨ (¬ ke k = x ∧ g k = ke k)) → (∀ k, i ≤ k → g k = ke k) →
      wX_forget_2 post x cu ll (nI kn) nk lc (d + 1) (nI i) wx fr wr g kf kw bl di ca lw := by
  intro d
  induction d with
  | zero =>
    intro i g hi h1 h2
    have h : nI kn ≤ nI i := nI_le (by omega) (by omega)
    exact br_t h (K g (fun k hk' => h1 k (by omega)))
  | succ d ih =>
    intro i g hi h1 h2
    have h : ¬ nI kn ≤ nI i := nI_ge (by omega) (by omega)
    have hv : vp_in (nI i) 4 := vp_in_nI (by omega) (by omega)
    have ec : (nI i).toNatClampNeg = i := nI_clamp (by omega)
    have e0 : g i = ke i := h2 i (by omega)
    by_cases z : g i = x
    · refine br_f h ⟨hv, br_t (by rw [ec]; exact z) ⟨hv, fun g' eg y ey => ?_⟩⟩
      rw [ec, cm_bm] at eg
      rw [ey, nI_1, eg]
      refine ih (i + 1) _ (by omega) ?_ ?_
      · intro k hk'
        by_cases e : k = i
        · subst e
          exact Or.inl ⟨e0.symm.trans z, pk_us⟩
        · rw [pk_un e]
          exact h1 k (by omega)
      · intro k hk'
        rw [pk_un (by omega)]
        exact h2 k (by omega)
    · refine br_f h ⟨hv, br_f (by rw [ec]; exact z) (fun y ey => ?_)⟩
      rw [ey, nI_1]
      refine ih (i + 1) _ (by omega) ?_ ?_
      · intro k hk'
        by_cases e : k = i
        · subst e
          exact Or.inr ⟨fun q => z (e0.trans q), e0⟩
        · exact h1 k (by omega)
      · intro k hk'
        exact h2 k (by omega)
theorem cm_forget {ke : Nat → Int32} (hk : kn ≤ 4)
    (K : ∀ ke' : Nat → Int32, (∀ k, k < kn → (ke k = x ∧ ke' k = -1) ∨ (¬ ke k = x ∧ ke' k = ke k)) → post (cu, ll, nI kn, nk, lc, wx, fr, wr, ke', kf, kw, bl, di, ca, lw)) :
    wpX_forget post (cu, ll, nI kn, nk, lc, wx, fr, wr, ke, kf, kw, bl, di, ca, lw) x := by
  refine Exists.intro (kn + 1) ?_
  exact cm_fg_loop hk ke K kn 0 ke (by omega) (fun k h => absurd h (by omega)) (fun _ _ => rfl)
end

/-! translation -/
section
variable {post : Int32 → SX → Prop} {cu ll lc : Int32} {wx fr wr ke kf kw bl di ca lw : Nat → Int32} {kn nn e : Nat}
theorem cm_tr_join {f n' : Nat} (hk : kn ≤ 4) (hn : nn < kn) (hn' : n' < kn) (he : e < 32) (hf : f < 8) (ef : fr e = nI f) (E : cm_E fr wr) (T : cm_T kn fr wr ke kf kw)
    (K1 : ∀ (k f nn' : Nat) (ke' kf' kw' : Nat → Int32), k < 4 → f < 8 → fr e = nI f → kf' k = nI f → kw' k = wr e → nn' < kn → cm_T kn fr wr ke' kf' kw' → post (nI k) (cu, ll, nI kn, nI nn', lc, wx, fr, wr, ke', kf', kw', bl, di, ca, lw)) :
    wX_translation_78 post (nI e) (nI nn) (nI n') cu ll (nI kn) (nI nn) lc wx fr wr ke kf kw bl di ca lw := by
  have hv : vp_in (nI nn) 4 := vp_in_nI (by omega) (by omega)
  have hw : vp_in (nI e) 32 := vp_in_nI (by omega) (by omega)
  have ec : (nI e).toNatClampNeg = e := nI_clamp (by omega)
  have en : (nI nn).toNatClampNeg = nn := nI_clamp (by omega)
  refine And.intro hv fun a ea => ⟨hw, hv, fun b eb => ⟨hw, hv, fun c ec' => ?_⟩⟩
  rw [en, cm_nbb (by omega)] at ea
  rw [en, ec, ef, cm_nb (by omega), ← ef] at eb
  rw [en, ec, cm_zz (E e he).2] at ec'
  subst ea eb ec'
  exact K1 nn f n' _ _ _ (by omega) hf ef (pk_us.trans ef) pk_us hn' (cm_T_tk T he (by rw [ef]; exact cm_nm (by omega)))
theorem cm_tr_loop (hk : kn ≤ 4) (hn : nn < kn) (he : e < 32) (E : cm_E fr wr) (T : cm_T kn fr wr ke kf kw)
    (K1 : ∀ (k f nn' : Nat) (ke' kf' kw' : Nat → Int32), k < 4 → f < 8 → fr e = nI f → kf' k = nI f → kw' k = wr e → nn' < kn → cm_T kn fr wr ke' kf' kw' → post (nI k) (cu, ll, nI kn, nI nn', lc, wx, fr, wr, ke', kf', kw', bl, di, ca, lw))
    (K2 : fr e = -1 → post (-1) (cu, ll, nI kn, nI nn, lc, wx, fr, wr, ke, kf, kw, bl, di, ca, lw)) :
    ∀ d i : Nat, i + d = kn → wX_translation_12 post (nI e) cu ll (nI kn) (nI nn) lc wx fr wr ke kf kw bl di ca lw (d + 1) (nI i) := by
  have ec : (nI e).toNatClampNeg = e := nI_clamp (by omega)
  intro d
  induction d with
  | zero =>
    intro i hi
    have h : nI kn ≤ nI i := nI_le (by omega) (by omega)
    refine br_t h ⟨vp_in_nI he (by omega), ?_⟩
    rcases (E e he).1 with z | ⟨f, hf, z⟩
    · exact br_f (by rw [ec, z]; decide) (K2 z)
    · refine br_t (by rw [ec, z]; exact nI_pos' (by omega)) ?_
      by_cases q : kn ≤ nn + 1
      · exact br_t (by rw [nI_1]; exact nI_le q (by omega)) (cm_tr_join (n' := 0) hk hn (by omega) he hf z E T K1)
      · refine br_f (by rw [nI_1]; exact nI_ge (by omega) (by omega)) ?_
        rw [nI_1]
        exact cm_tr_join (n' := nn + 1) hk hn (by omega) he hf z E T K1
  | succ d ih =>
    intro i hi
    have h : ¬ nI kn ≤ nI i := nI_ge (by omega) (by omega)
    have hv : vp_in (nI i) 4 := vp_in_nI (by omega) (by omega)
    have ei : (nI i).toNatClampNeg = i := nI_clamp (by omega)
    by_cases z : ke i = nI e
    · refine br_f h ⟨hv, br_t (by rw [ei]; exact z) ?_⟩
      obtain ⟨p, q, r⟩ := T i e (by omega) he z
      rcases (E e he).1 with w | ⟨f, hf, w⟩
      · exact absurd w p
      · exact K1 i f nn ke kf kw (by omega) hf w (q.trans w) r hn T
    · refine br_f h ⟨hv, br_f (by rw [ei]; exact z) (fun y ey => ?_)⟩
      rw [ey, nI_1]
      exact ih (i + 1) (by omega)
end
section
variable {post : Int32 → SX → Prop} {ll lc : Int32} {wx fr wr ke kf kw bl di ca lw : Nat → Int32} {cn kn nn p : Nat}
theorem cm_trans (hc : cn < 4) (hp : p < 8) (hk : kn ≤ 4) (hn : nn < kn) (E : cm_E fr wr) (T : cm_T kn fr wr ke kf kw)
    (K1 : ∀ (k f nn' : Nat) (ke' kf' kw' : Nat → Int32), k < 4 → f < 8 → fr (8 * cn + p) = nI f → kf' k = nI f → kw' k = wr (8 * cn + p) → nn' < kn → cm_T kn fr wr ke' kf' kw' → post (nI k) (nI cn, ll, nI kn, nI nn', lc, wx, fr, wr, ke', kf', kw', bl, di, ca, lw))
    (K2 : fr (8 * cn + p) = -1 → post (-1) (nI cn, ll, nI kn, nI nn, lc, wx, fr, wr, ke, kf, kw, bl, di, ca, lw)) :
    wpX_translation post (nI cn, ll, nI kn, nI nn, lc, wx, fr, wr, ke, kf, kw, bl, di, ca, lw) (nI p) := by
  unfold wpX_translation
  exact nm_r (cm_8 cn p) ⟨kn + 1, cm_tr_loop hk hn (by omega) E T K1 K2 kn 0 (by omega)⟩
end

/-! the line that holds a block -/
section
variable {cu ll kc nk : Int32} {wx fr wr ke kf kw bl di ca lw wy : Nat → Int32} {ln b l : Nat}
theorem cm_line {post : Int32 → Prop} (C : cm_C ln wx bl di ca wy) (h1 : 1 ≤ ln) (h4 : ln ≤ 4) (hb : b < 16)
    (K1 : ∀ l, l < 8 → bl l = nI b → post (nI l)) (K2 : (∀ l, l < 8 → ¬ bl l = nI b) → post (-1)) :
    wpX_lineWith post (cu, ll, kc, nk, nI ln, wx, fr, wr, ke, kf, kw, bl, di, ca, lw) (nI b) := by
  have hm : b % ln < ln := Nat.mod_lt _ (by omega)
  have ec : (nI (b % ln)).toNatClampNeg = b % ln := nI_clamp (by omega)
  have ed : (4 + nI (b % ln)).toNatClampNeg = 4 + b % ln := by rw [cm_p4]; exact nI_clamp (by omega)
  refine And.intro (nI_ne0 (by omega) (by omega)) (nm_r (pk_rem (by omega) (by omega) (by omega)) ⟨vp_in_nI (by omega) (by omega), ?_⟩)
  by_cases z : bl (b % ln) = nI b
  · exact br_t (by rw [ec]; exact z) (K1 _ (by omega) z)
  · refine br_f (by rw [ec]; exact z) ⟨by rw [cm_p4]; exact vp_in_nI (by omega) (by omega), ?_⟩
    by_cases w : bl (4 + b % ln) = nI b
    · refine br_t (by rw [ed]; exact w) ?_
      rw [cm_p4]
      exact K1 _ (by omega) w
    · refine br_f (by rw [ed]; exact w) (K2 ?_)
      intro l hl q
      have e := C.2.1 l b hl hb q
      rcases (show l = b % ln ∨ l = 4 + b % ln by omega) with e2 | e2
      · rw [e2] at q
        exact z q
      · rw [e2] at q
        exact w q
end

/-! giving up a line -/
section
variable {post : SX → Prop} {cu ll kc nk lc : Int32} {wx fr wr ke kf kw bl di ca lw wy : Nat → Int32} {ln b l : Nat}
theorem cm_e56 (hl : l < 8) (K : ∀ wx' bl' di' : Nat → Int32, cm_C ln wx' bl' di' ca wy → bl' = upd bl l (-1) → post (cu, ll, kc, nk, lc, wx', fr, wr, ke, kf, kw, bl', di', ca, lw))
    (w : Nat → Int32) (C : cm_C ln w (upd bl l (-1)) (upd di l 0) ca wy) : wX_evict_56 post (nI l) cu ll kc nk lc w fr wr ke kf kw bl di ca lw := by
  have hv : vp_in (nI l) 8 := vp_in_nI hl (by omega)
  have ec : (nI l).toNatClampNeg = l := nI_clamp (by omega)
  refine And.intro hv fun b' eb => ⟨hv, fun d' ed => ?_⟩
  rw [ec, cm_bm] at eb
  rw [ec, cm_z0] at ed
  subst eb ed
  exact K w _ _ C rfl
theorem cm_e20 (hl : l < 8) (hb : b < 16) (h : bl l = nI b)
    (K : ∀ w : Nat → Int32, (∀ j, j < 4 → w (4 * b + j) = ca (4 * l + j)) → (∀ j, j < 4 * b ∨ 4 * b + 4 ≤ j → w j = wx j) → wX_evict_56 post (nI l) cu ll kc nk lc w fr wr ke kf kw bl di ca lw) :
    ∀ (d i : Nat) (w : Nat → Int32), i + d = 4 → (∀ j, j < i → w (4 * b + j) = ca (4 * l + j)) → (∀ j, j < 4 * b ∨ 4 * b + 4 ≤ j → w j = wx j) →
      wX_evict_20 post (nI l) cu ll kc nk lc (d + 1) (nI i) w fr wr ke kf kw bl di ca lw := by
  have hv : vp_in (nI l) 8 := vp_in_nI hl (by omega)
  have ec : (nI l).toNatClampNeg = l := nI_clamp (by omega)
  intro d
  induction d with
  | zero =>
    intro i w hi g1 g2
    have q : (4 : Int32) ≤ nI i := nI_le (a := 4) (by omega) (by omega)
    exact br_t q (K w (fun j hj => g1 j (by omega)) g2)
  | succ d ih =>
    intro i w hi g1 g2
    have q : ¬ (4 : Int32) ≤ nI i := nI_ge (b := 4) (by omega) (by omega)
    have e1 : 4 * nI l + nI i = nI (4 * l + i) := cm_4 l i
    have e2 : 4 * bl (nI l).toNatClampNeg + nI i = nI (4 * b + i) := by rw [ec, h]; exact cm_4 b i
    refine br_f q ⟨hv, by rw [e1]; exact vp_in_nI (by omega) (by omega), by rw [e2]; exact vp_in_nI (by omega) (by omega), fun v ev y ey => ?_⟩
    rw [e1, e2, nI_clamp (by omega), nI_clamp (by omega)] at ev
    rw [ey, nI_1, ev]
    refine ih (i + 1) _ (by omega) ?_ ?_
    · intro j hj
      by_cases e : j = i
      · subst e
        exact pk_us
      · rw [pk_un (by omega)]
        exact g1 j (by omega)
    · intro j hj
      rw [pk_un (by omega)]
      exact g2 j hj
theorem cm_evict (C : cm_C ln wx bl di ca wy) (hl : l < 8)
    (K : ∀ wx' bl' di' : Nat → Int32, cm_C ln wx' bl' di' ca wy → bl' = upd bl l (-1) → post (cu, ll, kc, nk, lc, wx', fr, wr, ke, kf, kw, bl', di', ca, lw)) :
    wpX_evict post (cu, ll, kc, nk, lc, wx, fr, wr, ke, kf, kw, bl, di, ca, lw) (nI l) := by
  have hv : vp_in (nI l) 8 := vp_in_nI hl (by omega)
  have ec : (nI l).toNatClampNeg = l := nI_clamp (by omega)
  rcases C.1 l hl with z | ⟨b, hb, z⟩
  · refine And.intro hv (br_t (by rw [ec, z]; decide) ?_)
    exact cm_e56 hl K wx (cm_law_evict C hl (fun _ _ _ _ _ => rfl) (fun b i hb _ q => absurd (q.symm.trans z) (cm_nm (by omega))))
  · by_cases q : di l = 0
    · refine And.intro hv (br_f (by rw [ec, z]; exact nI_pos (by omega)) ⟨hv, br_t (by rw [ec]; exact q) ?_⟩)
      exact cm_e56 hl K wx (cm_law_evict C hl (fun _ _ _ _ _ => rfl) (fun b' i hb' hi w => (C.2.2.2.1 l b' i hl hb' hi w).2 q))
    · refine And.intro hv (br_f (by rw [ec, z]; exact nI_pos (by omega)) ⟨hv, br_f (by rw [ec]; exact q) ⟨5, ?_⟩⟩)
      refine cm_e20 hl hb z ?_ 4 0 wx rfl (fun j hj => absurd hj (by omega)) (fun _ _ => rfl)
      intro w w1 w2
      refine cm_e56 hl K w (cm_law_evict C hl ?_ ?_)
      · intro c i hc hi n
        have e : c ≠ b := by
          intro e
          subst e
          exact n z
        exact w2 _ (by omega)
      · intro c i hc hi n
        have e : b = c := by
          rw [z, nI_eq (by omega) (by omega)] at n
          exact n
        subst e
        exact (w1 i hi).trans (C.2.2.2.1 l b i hl hb hi z).1
end

/-! taking a block in -/
section
variable {post : Int32 → SX → Prop} {cu ll kc nk lc : Int32} {wx fr wr ke kf kw bl di ca lw wy : Nat → Int32} {ln b l q : Nat}
theorem cm_b84 (hq : q < 4) (K : ∀ lw' : Nat → Int32, post (nI l) (cu, ll, kc, nk, lc, wx, fr, wr, ke, kf, kw, bl, di, ca, lw')) : wX_bringIn_84 post (nI q) (nI l) cu ll kc nk lc wx fr wr ke kf kw bl di ca lw :=
  And.intro (vp_in_nI hq (by omega)) fun lw' _ => K lw'
theorem cm_b50 (hl : l < 8) (hb : b < 16)
    (K : ∀ g : Nat → Int32, (∀ j, j < 4 → g (4 * l + j) = wx (4 * b + j)) → (∀ m j, m < 8 → j < 4 → m ≠ l → g (4 * m + j) = ca (4 * m + j)) → wX_bringIn_84 post (nI q) (nI l) cu ll kc nk lc wx fr wr ke kf kw bl di g lw) :
    ∀ (d i : Nat) (g : Nat → Int32), i + d = 4 → (∀ j, j < i → g (4 * l + j) = wx (4 * b + j)) → (∀ m j, m < 8 → j < 4 → m ≠ l → g (4 * m + j) = ca (4 * m + j)) →
      wX_bringIn_50 post (nI b) (nI q) (nI l) cu ll kc nk lc (d + 1) (nI i) wx fr wr ke kf kw bl di g lw := by
  intro d
  induction d with
  | zero =>
    intro i g hi g1 g2
    have z : (4 : Int32) ≤ nI i := nI_le (a := 4) (by omega) (by omega)
    exact br_t z (K g (fun j hj => g1 j (by omega)) g2)
  | succ d ih =>
    intro i g hi g1 g2
    have z : ¬ (4 : Int32) ≤ nI i := nI_ge (b := 4) (by omega) (by omega)
    have e1 : 4 * nI l + nI i = nI (4 * l + i) := cm_4 l i
    have e2 : 4 * nI b + nI i = nI (4 * b + i) := cm_4 b i
    refine br_f z ⟨by rw [e2]; exact vp_in_nI (by omega) (by omega), by rw [e1]; exact vp_in_nI (by omega) (by omega), fun v ev y ey => ?_⟩
    rw [e1, e2, nI_clamp (by omega), nI_clamp (by omega)] at ev
    rw [ey, nI_1, ev]
    refine ih (i + 1) _ (by omega) ?_ ?_
    · intro j hj
      by_cases e : j = i
      · subst e
        exact pk_us
      · rw [pk_un (by omega)]
        exact g1 j (by omega)
    · intro m j hm hj e
      rw [pk_un (by omega)]
      exact g2 m j hm hj e
theorem cm_b33 (C : cm_C ln wx bl di ca wy) (hl : l < 8) (hb : b < 16) (hq : q < 4) (hm : l % 4 = b % ln) (hn : ∀ m, m < 8 → ¬ bl m = nI b)
    (K : ∀ (l : Nat) (wx' bl' di' ca' lw' : Nat → Int32), l < 8 → bl' l = nI b → cm_C ln wx' bl' di' ca' wy → post (nI l) (cu, ll, kc, nk, lc, wx', fr, wr, ke, kf, kw, bl', di', ca', lw')) :
    wX_bringIn_33 post (nI b) (nI q) (nI l) cu ll kc nk lc wx fr wr ke kf kw bl di ca lw := by
  unfold wX_bringIn_33
  refine cm_evict C hl ?_
  intro wx' bl' di' C' e
  refine And.intro (vp_in_nI hl (by omega)) fun b' eb => ⟨5, ?_⟩
  rw [nI_clamp (by omega), cm_nbb (by omega)] at eb
  refine cm_b50 hl hb ?_ 4 0 ca rfl (fun j hj => absurd hj (by omega)) (fun _ _ _ _ _ => rfl)
  intro g g1 g2
  refine cm_b84 hq fun lw' => ?_
  rw [eb]
  refine K l wx' _ di' g lw' hl pk_us (cm_law_bring C' hl hb hm ?_ ?_ g2 g1)
  · rw [e]
    exact pk_us
  · intro m h z
    rw [e] at z
    exact hn m h (cm_un1 hb z).2
end
section
variable {post : Int32 → SX → Prop} {cu ll kc nk : Int32} {wx fr wr ke kf kw bl di ca lw wy : Nat → Int32} {ln b : Nat}
theorem cm_bring (C : cm_C ln wx bl di ca wy) (h1 : 1 ≤ ln) (h4 : ln ≤ 4) (hb : b < 16)
    (K : ∀ (l : Nat) (wx' bl' di' ca' lw' : Nat → Int32), l < 8 → bl' l = nI b → cm_C ln wx' bl' di' ca' wy → post (nI l) (cu, ll, kc, nk, nI ln, wx', fr, wr, ke, kf, kw, bl', di', ca', lw')) :
    wpX_bringIn post (cu, ll, kc, nk, nI ln, wx, fr, wr, ke, kf, kw, bl, di, ca, lw) (nI b) := by
  have hm : b % ln < ln := Nat.mod_lt _ (by omega)
  refine And.intro (nI_ne0 (by omega) (by omega)) (nm_r (pk_rem (by omega) (by omega) (by omega)) ?_)
  refine cm_line C h1 h4 hb ?_ ?_
  · intro l hl z
    exact br_t (nI_pos' (by omega)) (cm_b84 (by omega) fun lw' => K l wx bl di ca lw' hl z C)
  · intro hn
    refine br_f (by decide) ⟨vp_in_nI (by omega) (by omega), br_c (fun _ => ?_) (fun _ => ?_)⟩
    · rw [cm_p4]
      exact cm_b33 C (by omega) hb (by omega) (by omega) hn K
    · exact cm_b33 C (by omega) hb (by omega) (by omega) hn K
end
end
section
/-! the small questions of both sides -/
theorem cm_ys0 {post : Int32 → Prop} {a b x : Int32} {c d e : Nat → Int32} (h : x < 0 ∨ 3 < x) (k : post 0) : wpY_isSpace post (a, b, c, d, e) x := by
  by_cases z : x < 0
  · exact br_t z k
  · exact br_f z (br_t (h.resolve_left z) k)
theorem cm_ys1 {post : Int32 → Prop} {a b : Int32} {c d e : Nat → Int32} {n : Nat} (h : n ≤ 3) (k : post 1) : wpY_isSpace post (a, b, c, d, e) (nI n) :=
  br_f (nI_pos (by omega)) (br_f (nI_nlt (a := 3) h (by decide)) k)
theorem cm_yp0 {post : Int32 → Prop} {a b x : Int32} {c d e : Nat → Int32} (h : x < 0 ∨ 7 < x) (k : post 0) : wpY_isPage post (a, b, c, d, e) x := by
  by_cases z : x < 0
  · exact br_t z k
  · exact br_f z (br_t (h.resolve_left z) k)
theorem cm_yp1 {post : Int32 → Prop} {a b : Int32} {c d e : Nat → Int32} {n : Nat} (h : n ≤ 7) (k : post 1) : wpY_isPage post (a, b, c, d, e) (nI n) :=
  br_f (nI_pos (by omega)) (br_f (nI_nlt (a := 7) h (by decide)) k)
theorem cm_yw0 {post : Int32 → Prop} {a b x : Int32} {c d e : Nat → Int32} (h : x < 0 ∨ 63 < x) (k : post 0) : wpY_isWord post (a, b, c, d, e) x := by
  by_cases z : x < 0
  · exact br_t z k
  · exact br_f z (br_t (h.resolve_left z) k)
theorem cm_yw1 {post : Int32 → Prop} {a b : Int32} {c d e : Nat → Int32} {n : Nat} (h : n ≤ 63) (k : post 1) : wpY_isWord post (a, b, c, d, e) (nI n) :=
  br_f (nI_pos (by omega)) (br_f (nI_nlt (a := 63) h (by decide)) k)
theorem cm_xp0 {post : Int32 → Prop} {cu ll kc nk lc x y : Int32} {wx fr wr ke kf kw bl di ca lw : Nat → Int32} (h : (x < 0 ∨ 3 < x) ∨ (y < 0 ∨ 7 < y)) (k : post 0) : wpX_isPage post (cu, ll, kc, nk, lc, wx, fr, wr, ke, kf, kw, bl, di, ca, lw) x y := by
  by_cases z : x < 0
  · exact br_t z k
  · refine br_f z ?_
    by_cases z2 : 3 < x
    · exact br_t z2 k
    · refine br_f z2 ?_
      have h2 : y < 0 ∨ 7 < y := h.resolve_left (fun q => q.elim z z2)
      by_cases z3 : y < 0
      · exact br_t z3 k
      · exact br_f z3 (br_t (h2.resolve_left z3) k)
theorem cm_xp1 {post : Int32 → Prop} {cu ll kc nk lc : Int32} {wx fr wr ke kf kw bl di ca lw : Nat → Int32} {s p : Nat} (hs : s ≤ 3) (hp : p ≤ 7) (k : post 1) : wpX_isPage post (cu, ll, kc, nk, lc, wx, fr, wr, ke, kf, kw, bl, di, ca, lw) (nI s) (nI p) :=
  br_f (nI_pos (by omega)) (br_f (nI_nlt (a := 3) hs (by decide)) (br_f (nI_pos (by omega)) (br_f (nI_nlt (a := 7) hp (by decide)) k)))

/-! the reference's translate -/
section
variable {post : Int32 → Prop} {lv x : Int32} {wy fr wr : Nat → Int32} {cn a f : Nat}
theorem cm_yt0 {cu : Int32} (h : x < 0 ∨ 63 < x) (k : post (-1)) : wpY_translate post (cu, lv, wy, fr, wr) x := by
  unfold wpY_translate
  exact cm_yw0 h (br_t rfl k)
theorem cm_ye (hc : cn < 4) (ha : a ≤ 63) : 8 * nI cn + nI a >>> ((3 : Int32) &&& 31) = nI (8 * cn + a / 8) := by
  rw [cm_s3 (by omega), cm_8]
theorem cm_yt2 (hc : cn < 4) (ha : a ≤ 63) (h : fr (8 * cn + a / 8) = -1) (k : post (-2)) : wpY_translate post (nI cn, lv, wy, fr, wr) (nI a) := by
  unfold wpY_translate
  refine cm_yw1 ha (br_f (by decide) ?_)
  rw [cm_ye hc ha]
  refine ⟨vp_in_nI (by omega) (by omega), nm_r (e' := -1) (by rw [nI_clamp (by omega)]; exact h) (br_f (by decide) k)⟩
theorem cm_yt1 (hc : cn < 4) (ha : a ≤ 63) (hf : f < 8) (h : fr (8 * cn + a / 8) = nI f) (k : post (nI (8 * f + a % 8))) : wpY_translate post (nI cn, lv, wy, fr, wr) (nI a) := by
  unfold wpY_translate
  refine cm_yw1 ha (br_f (by decide) ?_)
  rw [cm_ye hc ha]
  refine ⟨vp_in_nI (by omega) (by omega), nm_r (e' := nI f) (by rw [nI_clamp (by omega)]; exact h) (br_t (nI_pos' (by omega)) ?_)⟩
  rw [cm_a7 (by omega), cm_8]
  exact k
end

/-! the component's devices -/
section
variable {cu ll kc nk : Int32} {wx fr wr ke kf kw bl di ca lw wy : Nat → Int32} {ln a : Nat}
theorem cm_dread {post : Int32 → Prop} (C : cm_C ln wx bl di ca wy) (h1 : 1 ≤ ln) (h4 : ln ≤ 4) (ha : a < 64) (k : post (wy a)) : wpX_deviceRead post (cu, ll, kc, nk, nI ln, wx, fr, wr, ke, kf, kw, bl, di, ca, lw) (nI a) := by
  refine br_f (nI_pos (by omega)) (br_t (nI_le (b := 63) (by omega) (by decide)) ?_)
  rw [cm_s2 (by omega)]
  have e0 : 4 * (a / 4) + a % 4 = a := by omega
  refine cm_line C h1 h4 (by omega) ?_ ?_
  · intro l hl z
    have e1 : 4 * nI l + (nI a &&& 3) = nI (4 * l + a % 4) := by rw [cm_a3 (by omega), cm_4]
    refine br_f (nI_pos (by omega)) ⟨by rw [e1]; exact vp_in_nI (by omega) (by omega), ?_⟩
    rw [e1, nI_clamp (by omega), (C.2.2.2.1 l (a / 4) (a % 4) hl (by omega) (by omega) z).1, e0]
    exact k
  · intro hn
    refine br_t (by decide) ⟨vp_in_nI ha (by omega), ?_⟩
    have e2 := C.2.2.2.2 (a / 4) (a % 4) (by omega) (by omega) hn
    rw [e0] at e2
    rw [nI_clamp (by omega), e2]
    exact k
theorem cm_dwrite {post : Int32 → SX → Prop} {x : Int32} (C : cm_C ln wx bl di ca wy) (h1 : 1 ≤ ln) (h4 : ln ≤ 4) (ha : a < 64)
    (K : ∀ wx' bl' di' : Nat → Int32, cm_C ln wx' bl' di' ca (upd wy a x) → post 0 (cu, ll, kc, nk, nI ln, wx', fr, wr, ke, kf, kw, bl', di', ca, lw)) : wpX_deviceWrite post (cu, ll, kc, nk, nI ln, wx, fr, wr, ke, kf, kw, bl, di, ca, lw) (nI a) x := by
  refine br_f (nI_pos (by omega)) (br_t (nI_le (b := 63) (by omega) (by decide)) ?_)
  rw [cm_s2 (by omega)]
  have e0 : 4 * (a / 4) + a % 4 = a := by omega
  refine cm_line C h1 h4 (by omega) ?_ ?_
  · intro l hl z
    refine br_f (nI_pos (by omega)) ?_
    refine cm_evict C hl ?_
    intro wx' bl' di' C' e
    refine And.intro (vp_in_nI ha (by omega)) fun w ew => ?_
    rw [nI_clamp (by omega)] at ew
    have q := cm_law_dev (b := a / 4) (i := a % 4) (x := x) C' (by omega) (by omega) (by
      intro m hm zm
      rw [e] at zm
      obtain ⟨n1, n2⟩ := cm_un1 (by omega) zm
      exact n1 (C.2.2.1 m l (a / 4) hm hl (by omega) n2 z))
    rw [e0] at q
    rw [ew]
    exact K _ _ _ q
  · intro hn
    refine br_t (by decide) ⟨vp_in_nI ha (by omega), fun w ew => ?_⟩
    rw [nI_clamp (by omega)] at ew
    have q := cm_law_dev (b := a / 4) (i := a % 4) (x := x) C (by omega) (by omega) hn
    rw [e0] at q
    rw [ew]
    exact K _ _ _ q
end

/-! a copy, step by step -/
def cm_cp (a b : Nat) (wy : Nat → Int32) : Nat → (Nat → Int32)
  | 0 => wy
  | i + 1 => upd (cm_cp a b wy i) (b + i) (cm_cp a b wy i (a + i))
section
variable {cu ll kc nk : Int32} {fr wr ke kf kw ca lw wy : Nat → Int32} {ln a b c : Nat}
theorem cm_xcp {post : Int32 → SX → Prop} (h1 : 1 ≤ ln) (h4 : ln ≤ 4) (ha : a + c ≤ 64) (hb : b + c ≤ 64)
    (K : ∀ wx bl di : Nat → Int32, cm_C ln wx bl di ca (cm_cp a b wy c) → post (nI c) (cu, ll, kc, nk, nI ln, wx, fr, wr, ke, kf, kw, bl, di, ca, lw)) :
    ∀ (d i : Nat) (wx bl di : Nat → Int32), i + d = c → cm_C ln wx bl di ca (cm_cp a b wy i) → wX_deviceCopy_47 post (nI a) (nI b) (nI c) (d + 1) (nI i) cu ll kc nk (nI ln) wx fr wr ke kf kw bl di ca lw := by
  intro d
  induction d with
  | zero =>
    intro i wx bl di hi C
    have e : i = c := by omega
    subst e
    exact br_t (nI_le (by omega) (by omega)) (K wx bl di C)
  | succ d ih =>
    intro i wx bl di hi C
    refine br_f (nI_ge (by omega) (by omega)) ?_
    rw [nI_add a i, nI_add b i]
    refine cm_dread C h1 h4 (by omega) ?_
    refine cm_dwrite C h1 h4 (by omega) ?_
    intro wx' bl' di' C'
    exact nm_r (nI_1 i) (ih (i + 1) wx' bl' di' (by omega) C')
theorem cm_ycp {post : Int32 → SY → Prop} (ha : a + c ≤ 64) (hb : b + c ≤ 64) (K : post (nI c) (cu, ll, cm_cp a b wy c, fr, wr)) :
    ∀ d i : Nat, i + d = c → wY_deviceCopy_53 post (nI a) (nI b) (nI c) cu ll (d + 1) (nI i) (cm_cp a b wy i) fr wr := by
  intro d
  induction d with
  | zero =>
    intro i hi
    have e : i = c := by omega
    subst e
    exact br_t (nI_le (by omega) (by omega)) K
  | succ d ih =>
    intro i hi
    refine br_f (nI_ge (by omega) (by omega)) ⟨by rw [nI_add]; exact vp_in_nI (by omega) (by omega), by rw [nI_add]; exact vp_in_nI (by omega) (by omega), fun w ew y ey => ?_⟩
    rw [nI_add, nI_add, nI_clamp (by omega), nI_clamp (by omega)] at ew
    rw [ey, nI_1, ew]
    exact ih (i + 1) (by omega)
end

/-! protect, step by step: the entries' flags and the count -/
def cm_pw (F : Int32) (fr wr : Nat → Int32) : Nat → (Nat → Int32)
  | 0 => wr
  | i + 1 => if fr i = F then upd (cm_pw F fr wr i) i 0 else cm_pw F fr wr i
def cm_pc (F : Int32) (fr wr : Nat → Int32) : Nat → Int32
  | 0 => 0
  | i + 1 => if fr i = F then (if cm_pw F fr wr i i = 0 then cm_pc F fr wr i else cm_pc F fr wr i + 1) else cm_pc F fr wr i
section
variable {F : Int32} {fr wr : Nat → Int32} {i : Nat}
theorem cm_pw_t (h : fr i = F) : cm_pw F fr wr (i + 1) = upd (cm_pw F fr wr i) i 0 := by
  rw [cm_pw]
  exact if_pos h
theorem cm_pw_f (h : ¬ fr i = F) : cm_pw F fr wr (i + 1) = cm_pw F fr wr i := by
  rw [cm_pw]
  exact if_neg h
theorem cm_pc_z (h : fr i = F) (z : cm_pw F fr wr i i = 0) : cm_pc F fr wr (i + 1) = cm_pc F fr wr i := by
  rw [cm_pc, if_pos h, if_pos z]
theorem cm_pc_t (h : fr i = F) (z : ¬ cm_pw F fr wr i i = 0) : cm_pc F fr wr (i + 1) = cm_pc F fr wr i + 1 := by
  rw [cm_pc, if_pos h, if_neg z]
theorem cm_pc_f (h : ¬ fr i = F) : cm_pc F fr wr (i + 1) = cm_pc F fr wr i := by
  rw [cm_pc, if_neg h]
end
section
variable {cu ll nk lc F : Int32} {wx fr wr kf kw bl di ca lw wy : Nat → Int32} {kn : Nat}
theorem cm_ypr {post : Int32 → SY → Prop} (K : post (cm_pc F fr wr 32) (cu, ll, wy, fr, cm_pw F fr wr 32)) :
    ∀ d i : Nat, i + d = 32 → wY_protect_14 post F cu ll (d + 1) (cm_pc F fr wr i) (nI i) wy fr (cm_pw F fr wr i) := by
  intro d
  induction d with
  | zero =>
    intro i hi
    have e : i = 32 := by omega
    subst e
    exact br_t (nI_le (a := 32) (by omega) (by omega)) K
  | succ d ih =>
    intro i hi
    have h : ¬ (32 : Int32) ≤ nI i := nI_ge (b := 32) (by omega) (by omega)
    have hv : vp_in (nI i) 32 := vp_in_nI (by omega) (by omega)
    have ec : (nI i).toNatClampNeg = i := nI_clamp (by omega)
    have g := ih (i + 1) (by omega)
    by_cases z : fr i = F
    · by_cases w : cm_pw F fr wr i i = 0
      · refine br_f h ⟨hv, br_t (by rw [ec]; exact z) ⟨hv, br_t (by rw [ec]; exact w) ⟨hv, fun o eo y ey => ?_⟩⟩⟩
        rw [ec, cm_z0, ← cm_pw_t z] at eo
        rw [ey, nI_1, eo, ← cm_pc_z z w]
        exact g
      · refine br_f h ⟨hv, br_t (by rw [ec]; exact z) ⟨hv, br_f (by rw [ec]; exact w) (fun q eq => ⟨hv, fun o eo y ey => ?_⟩)⟩⟩
        rw [ec, cm_z0, ← cm_pw_t z] at eo
        rw [ey, nI_1, eo, eq, ← cm_pc_t z w]
        exact g
    · refine br_f h ⟨hv, br_f (by rw [ec]; exact z) (fun y ey => ?_)⟩
      rw [ey, nI_1, ← cm_pc_f z, ← cm_pw_f z]
      exact g
theorem cm_xpr {post : Int32 → SX → Prop} (hk : kn ≤ 4)
    (K : ∀ ke : Nat → Int32, cm_E fr (cm_pw F fr wr 32) → cm_T kn fr (cm_pw F fr wr 32) ke kf kw → post (cm_pc F fr wr 32) (cu, ll, nI kn, nk, lc, wx, fr, cm_pw F fr wr 32, ke, kf, kw, bl, di, ca, lw)) :
    ∀ (d i : Nat) (ke : Nat → Int32), i + d = 32 → cm_E fr (cm_pw F fr wr i) → cm_T kn fr (cm_pw F fr wr i) ke kf kw →
      wX_protect_16 post F (d + 1) (cm_pc F fr wr i) (nI i) cu ll (nI kn) nk lc wx fr (cm_pw F fr wr i) ke kf kw bl di ca lw := by
  intro d
  induction d with
  | zero =>
    intro i ke hi E T
    have e : i = 32 := by omega
    subst e
    exact br_t (nI_le (a := 32) (by omega) (by omega)) (K ke E T)
  | succ d ih =>
    intro i ke hi E T
    have h : ¬ (32 : Int32) ≤ nI i := nI_ge (b := 32) (by omega) (by omega)
    have hv : vp_in (nI i) 32 := vp_in_nI (by omega) (by omega)
    have ec : (nI i).toNatClampNeg = i := nI_clamp (by omega)
    have g := fun ke => ih (i + 1) ke (by omega)
    by_cases z : fr i = F
    · by_cases w : cm_pw F fr wr i i = 0
      · refine br_f h ⟨hv, br_t (by rw [ec]; exact z) ⟨hv, br_t (by rw [ec]; exact w) (fun y ey => ?_)⟩⟩
        have g1 := g ke
        rw [cm_pw_t z, cm_uu w, cm_pc_z z w] at g1
        rw [ey, nI_1]
        exact g1 E T
      · refine br_f h ⟨hv, br_t (by rw [ec]; exact z) ⟨hv, br_f (by rw [ec]; exact w) ⟨hv, fun o eo => ?_⟩⟩⟩
        rw [ec, cm_z0, ← cm_pw_t z] at eo
        rw [eo]
        refine cm_forget hk ?_
        intro ke' q
        refine nm_r (cm_pc_t z w).symm (nm_r (nI_1 i) (g ke' ?_ ?_))
        · rw [cm_pw_t z]
          exact cm_E_wr E (Or.inl rfl)
        · rw [cm_pw_t z]
          exact cm_T_fg T (e := i) (by omega) q (fun _ _ => rfl) (fun j hj => pk_un hj)
    · refine br_f h ⟨hv, br_f (by rw [ec]; exact z) (fun y ey => ?_)⟩
      have g1 := g ke
      rw [cm_pw_f z, cm_pc_f z] at g1
      rw [ey, nI_1]
      exact g1 E T
end

/-! store and add -/
section
variable {post : Int32 → SX → Prop} {ll x m : Int32} {wx fr wr ke kf kw bl di ca lw wy : Nat → Int32} {cn kn nn ln a : Nat}
theorem cm_change (hF : cm_F cn kn nn ln) (E : cm_E fr wr) (T : cm_T kn fr wr ke kf kw) (C : cm_C ln wx bl di ca wy) (ha : a ≤ 63)
    (K2 : fr (8 * cn + a / 8) = -1 → post (-2) (nI cn, ll, nI kn, nI nn, nI ln, wx, fr, wr, ke, kf, kw, bl, di, ca, lw))
    (K3 : ∀ (f nn' : Nat) (ke' kf' kw' : Nat → Int32), f < 8 → fr (8 * cn + a / 8) = nI f → wr (8 * cn + a / 8) = 0 → cm_F cn kn nn' ln → cm_T kn fr wr ke' kf' kw' →
      post (-3) (nI cn, ll, nI kn, nI nn', nI ln, wx, fr, wr, ke', kf', kw', bl, di, ca, lw))
    (K0 : ∀ (f nn' : Nat) (ke' kf' kw' wx' bl' di' ca' lw' : Nat → Int32), f < 8 → fr (8 * cn + a / 8) = nI f → ¬ wr (8 * cn + a / 8) = 0 → cm_F cn kn nn' ln → cm_T kn fr wr ke' kf' kw' →
      cm_C ln wx' bl' di' ca' (upd wy (8 * f + a % 8) (if m = 0 then x else wy (8 * f + a % 8) + x)) →
      post 0 (nI cn, ll, nI kn, nI nn', nI ln, wx', fr, wr, ke', kf', kw', bl', di', ca', lw')) :
    wpX_change post (nI cn, ll, nI kn, nI nn, nI ln, wx, fr, wr, ke, kf, kw, bl, di, ca, lw) (nI a) x m := by
  obtain ⟨f1, f2, f3, f4, f5, f6⟩ := hF
  refine br_f (nI_pos (by omega)) (br_t (nI_le (b := 63) (by omega) (by decide)) ?_)
  rw [cm_s3 (by omega)]
  refine cm_trans f1 (by omega) f3 f4 E T ?_ ?_
  · intro k f nn' ke' kf' kw' hk hf ef ekf ekw hn' T'
    have ec : (nI k).toNatClampNeg = k := nI_clamp (by omega)
    have hv : vp_in (nI k) 4 := vp_in_nI hk (by omega)
    have F' : cm_F cn kn nn' ln := ⟨f1, f2, f3, hn', f5, f6⟩
    refine br_t (nI_pos' (by omega)) ⟨hv, ?_⟩
    by_cases z : wr (8 * cn + a / 8) = 0
    · exact br_t (by rw [ec, ekw]; exact z) (K3 f nn' ke' kf' kw' hf ef z F' T')
    · refine br_f (by rw [ec, ekw]; exact z) ⟨hv, nm_r (e' := nI (8 * f + a % 8)) (by rw [ec, ekf, cm_a7 (by omega), cm_8]) ?_⟩
      rw [cm_s2 (by omega)]
      refine cm_bring C f5 f6 (by omega) ?_
      intro l wx' bl' di' ca' lw' hl eb C'
      have e0 : 4 * ((8 * f + a % 8) / 4) + (8 * f + a % 8) % 4 = 8 * f + a % 8 := by omega
      have hi : vp_in (nI (4 * l + (8 * f + a % 8) % 4)) 32 := vp_in_nI (by omega) (by omega)
      have hvl : vp_in (nI l) 8 := vp_in_nI hl (by omega)
      have e1 : (nI (4 * l + (8 * f + a % 8) % 4)).toNatClampNeg = 4 * l + (8 * f + a % 8) % 4 := nI_clamp (by omega)
      have e2 : (nI l).toNatClampNeg = l := nI_clamp (by omega)
      have key := fun v => cm_law_store (x := v) C' hl (b := (8 * f + a % 8) / 4) (i := (8 * f + a % 8) % 4) (by omega) (by omega) eb
      rw [e0] at key
      have rd := (C'.2.2.2.1 l ((8 * f + a % 8) / 4) ((8 * f + a % 8) % 4) hl (by omega) (by omega) eb).1
      rw [e0] at rd
      refine nm_r (e' := nI (4 * l + (8 * f + a % 8) % 4)) (by rw [cm_a3 (by omega), cm_4]) ?_
      by_cases q : m = 0
      · refine br_t q (And.intro hi fun c ec' => ⟨hvl, fun d ed => ?_⟩)
        rw [e1] at ec'
        rw [e2, cm_z1] at ed
        rw [ec', ed]
        refine K0 f nn' ke' kf' kw' wx' bl' _ _ lw' hf ef z F' T' ?_
        rw [if_pos q]
        exact key x
      · refine br_f q ⟨hi, And.intro hi fun c ec' => ⟨hvl, fun d ed => ?_⟩⟩
        rw [e1, rd] at ec'
        rw [e2, cm_z1] at ed
        rw [ec', ed]
        refine K0 f nn' ke' kf' kw' wx' bl' _ _ lw' hf ef z F' T' ?_
        rw [if_neg q]
        exact key _
  · intro z
    exact br_f (by decide) (K2 z)
end
end
section
/-! WHAT IS OWED -/
def i_Rel (k : Nat) (u : SX) (v : SY) : Prop :=
  ∃ (cn kn nn ln : Nat) (ll : Int32) (wx fr wr ke kf kw bl di ca lw wy : Nat → Int32),
    u = (nI cn, ll, nI kn, nI nn, nI ln, wx, fr, wr, ke, kf, kw, bl, di, ca, lw) ∧ v = (nI cn, ll, wy, fr, wr) ∧
    cm_F cn kn nn ln ∧ cm_E fr wr ∧ cm_T kn fr wr ke kf kw ∧ cm_C ln wx bl di ca wy
theorem cm_el {k : Nat} {u : SX} {v : SY} {P : SX → SY → Prop}
    (h : ∀ (cn kn nn ln : Nat) (ll : Int32) (wx fr wr ke kf kw bl di ca lw wy : Nat → Int32),
      cm_F cn kn nn ln → cm_E fr wr → cm_T kn fr wr ke kf kw → cm_C ln wx bl di ca wy → P (nI cn, ll, nI kn, nI nn, nI ln, wx, fr, wr, ke, kf, kw, bl, di, ca, lw) (nI cn, ll, wy, fr, wr))
    (I : i_Rel k u v) : P u v := by
  obtain ⟨cn, kn, nn, ln, ll, wx, fr, wr, ke, kf, kw, bl, di, ca, lw, wy, hu, hv, hF, E, T, C⟩ := I
  rw [hu, hv]
  exact h cn kn nn ln ll wx fr wr ke kf kw bl di ca lw wy hF E T C
theorem cm_mk {k cn kn nn ln : Nat} {ll : Int32} {wx fr wr ke kf kw bl di ca lw wy : Nat → Int32}
    (hF : cm_F cn kn nn ln) (E : cm_E fr wr) (T : cm_T kn fr wr ke kf kw) (C : cm_C ln wx bl di ca wy) :
    i_Rel k (nI cn, ll, nI kn, nI nn, nI ln, wx, fr, wr, ke, kf, kw, bl, di, ca, lw) (nI cn, ll, wy, fr, wr) :=
  ⟨cn, kn, nn, ln, ll, wx, fr, wr, ke, kf, kw, bl, di, ca, lw, wy, rfl, rfl, hF, E, T, C⟩
theorem i_up {k : Nat} {u : SX} {v : SY} (h : i_Rel k u v) : i_Rel (k + 5) u v := h

/-! the constructors -/
def cm_fl (n : Nat) : Nat → Int32 := fun j => if j < n then -1 else 0
theorem cm_fl0 : cm_fl 0 = fun _ => 0 := by
  funext j
  exact if_neg (by omega)
theorem cm_fl1 (i : Nat) : upd (cm_fl i) i (-1) = cm_fl (i + 1) := by
  funext j
  by_cases e : j = i
  · subst e
    rw [pk_us]
    exact (if_pos (by omega)).symm
  · rw [pk_un e]
    by_cases h : j < i
    · exact (if_pos h).trans (if_pos (by omega)).symm
    · exact (if_neg h).trans (if_neg (by omega)).symm
theorem cm_flm {n j : Nat} (h : j < n) : cm_fl n j = -1 := if_pos h
section
variable {post : SX → Prop} {cu ll kc nk lc : Int32} {wx fr wr ke kf kw bl di ca lw : Nat → Int32}
theorem cm_i169 (K : post (cu, ll, kc, nk, lc, wx, fr, wr, ke, kf, kw, cm_fl 8, di, ca, lw)) : ∀ d i : Nat, i + d = 8 → wX_init_169 post cu ll kc nk lc (d + 1) (nI i) wx fr wr ke kf kw (cm_fl i) di ca lw := by
  intro d
  induction d with
  | zero =>
    intro i hi
    have e : i = 8 := by omega
    subst e
    exact br_t (nI_le (a := 8) (by omega) (by omega)) K
  | succ d ih =>
    intro i hi
    refine br_f (nI_ge (b := 8) (by omega) (by omega)) ⟨vp_in_nI (by omega) (by omega), fun g eg y ey => ?_⟩
    rw [nI_clamp (by omega), cm_bm, cm_fl1] at eg
    rw [ey, nI_1, eg]
    exact ih (i + 1) (by omega)
theorem cm_i149 (K : ∃ n, wX_init_169 post cu ll kc nk lc n 0 wx fr wr (cm_fl 4) kf kw bl di ca lw) : ∀ d i : Nat, i + d = 4 → wX_init_149 post cu ll kc nk lc (d + 1) (nI i) wx fr wr (cm_fl i) kf kw bl di ca lw := by
  intro d
  induction d with
  | zero =>
    intro i hi
    have e : i = 4 := by omega
    subst e
    exact br_t (nI_le (a := 4) (by omega) (by omega)) K
  | succ d ih =>
    intro i hi
    refine br_f (nI_ge (b := 4) (by omega) (by omega)) ⟨vp_in_nI (by omega) (by omega), fun g eg y ey => ?_⟩
    rw [nI_clamp (by omega), cm_bm, cm_fl1] at eg
    rw [ey, nI_1, eg]
    exact ih (i + 1) (by omega)
theorem cm_i128 (K : ∃ n, wX_init_149 post cu ll kc nk lc n 0 wx (cm_fl 32) wr ke kf kw bl di ca lw) : ∀ d i : Nat, i + d = 32 → wX_init_128 post cu ll kc nk lc (d + 1) (nI i) wx (cm_fl i) wr ke kf kw bl di ca lw := by
  intro d
  induction d with
  | zero =>
    intro i hi
    have e : i = 32 := by omega
    subst e
    exact br_t (nI_le (a := 32) (by omega) (by omega)) K
  | succ d ih =>
    intro i hi
    refine br_f (nI_ge (b := 32) (by omega) (by omega)) ⟨vp_in_nI (by omega) (by omega), fun g eg y ey => ?_⟩
    rw [nI_clamp (by omega), cm_bm, cm_fl1] at eg
    rw [ey, nI_1, eg]
    exact ih (i + 1) (by omega)
theorem cm_iX (K : post (cu, ll, kc, nk, lc, wx, cm_fl 32, wr, cm_fl 4, kf, kw, cm_fl 8, di, ca, lw)) : ∃ n, wX_init_128 post cu ll kc nk lc n 0 wx (cm_fl 0) wr (cm_fl 0) kf kw (cm_fl 0) di ca lw :=
  ⟨33, cm_i128 ⟨5, cm_i149 ⟨9, cm_i169 K 8 0 rfl⟩ 4 0 rfl⟩ 32 0 rfl⟩
end
theorem cm_iY {post : SY → Prop} {cu ll : Int32} {wy wr : Nat → Int32} (K : post (cu, ll, wy, cm_fl 32, wr)) :
    ∀ d i : Nat, i + d = 32 → wY_init_40 post cu ll (d + 1) (nI i) wy (cm_fl i) wr := by
  intro d
  induction d with
  | zero =>
    intro i hi
    have e : i = 32 := by omega
    subst e
    exact br_t (nI_le (a := 32) (by omega) (by omega)) K
  | succ d ih =>
    intro i hi
    refine br_f (nI_ge (b := 32) (by omega) (by omega)) ⟨vp_in_nI (by omega) (by omega), fun g eg y ey => ?_⟩
    rw [nI_clamp (by omega), cm_fl1] at eg
    rw [ey, nI_1, eg]
    exact ih (i + 1) (by omega)
theorem cm_C0 (ln : Nat) : cm_C ln (fun _ => 0) (cm_fl 8) (fun _ => 0) (fun _ => 0) (fun _ => 0) := by
  have q : ∀ (l b : Nat), l < 8 → b < 16 → ¬ cm_fl 8 l = nI b := fun l b hl hb z => cm_nm (b := b) (by omega) (z.symm.trans (cm_flm hl))
  exact ⟨fun l hl => Or.inl (cm_flm hl), fun l b hl hb z => absurd z (q l b hl hb), fun l m b hl _ hb z => absurd z (q l b hl hb), fun l b i hl hb _ z => absurd z (q l b hl hb), fun _ _ _ _ _ => rfl⟩
theorem cm_R0 {kn ln : Nat} (h1 : 1 ≤ kn) (h2 : kn ≤ 4) (h3 : 1 ≤ ln) (h4 : ln ≤ 4) (k0 k1 : Int32) :
    wpY_init (fun v => i_Rel 2 (0, 0, nI kn, 0, nI ln, (fun _ => 0), cm_fl 32, (fun _ => 0), cm_fl 4, (fun _ => 0), (fun _ => 0), cm_fl 8, (fun _ => 0), (fun _ => 0), (fun _ => 0)) v) k0 k1 := by
  refine Exists.intro 33 ?_
  rw [← cm_fl0]
  refine cm_iY ?_ 32 0 rfl
  rw [cm_fl0]
  refine cm_mk (cn := 0) (nn := 0) ⟨by omega, h1, h2, by omega, h3, h4⟩ ?_ ?_ (cm_C0 ln)
  · intro e he
    exact ⟨Or.inl (cm_flm he), Or.inl rfl⟩
  · intro k e hk he z
    exact absurd (z.symm.trans (cm_flm (by omega))) (cm_nm (by omega))
theorem cm_i100 {ln : Nat} (h3 : 1 ≤ ln) (h4 : ln ≤ 4) (k0 k1 x : Int32) :
    wX_init_100 (fun u => wpY_init (fun v => i_Rel 2 u v) k0 k1) x (nI ln) 0 0 0 0 0 (fun _ => 0) (fun _ => 0) (fun _ => 0) (fun _ => 0) (fun _ => 0) (fun _ => 0) (fun _ => 0) (fun _ => 0) (fun _ => 0) (fun _ => 0) := by
  have G : ∀ kn : Nat, 1 ≤ kn → kn ≤ 4 → ∃ n, wX_init_128 (fun u => wpY_init (fun v => i_Rel 2 u v) k0 k1) 0 0 (nI kn) 0 (nI ln) n 0 (fun _ => 0) (fun _ => 0) (fun _ => 0) (fun _ => 0) (fun _ => 0) (fun _ => 0) (fun _ => 0) (fun _ => 0) (fun _ => 0) (fun _ => 0) := by
    intro kn a b
    have g := cm_iX (post := fun u => wpY_init (fun v => i_Rel 2 u v) k0 k1) (cm_R0 a b h3 h4 k0 k1)
    rw [cm_fl0] at g
    exact g
  by_cases a : 1 ≤ x
  · refine br_t a ?_
    by_cases b : x ≤ 4
    · refine br_t b ?_
      obtain ⟨j, hj, rfl⟩ := nI_of2 (M := 4) (n := 4) (by decide) (show ¬ x < 0 from fun z => absurd (Int32.le_trans a (Int32.le_of_lt z)) (by decide)) b
      exact G j (by
        have a2 := (nI_leI (a := 1) (b := j) (by omega) (by omega)).mp a
        omega) hj
    · exact br_f b (G 4 (by omega) (by omega))
  · exact br_f a (G 1 (by omega) (by omega))
theorem i_vc0 (k0 : Int32) (k1 : Int32) : wpX_init (fun u => wpY_init (fun v => i_Rel 2 u v) k0 k1) k0 k1 := by
  by_cases a : 1 ≤ k0
  · refine br_t a ?_
    by_cases b : k0 ≤ 4
    · refine br_t b ?_
      obtain ⟨j, hj, rfl⟩ := nI_of2 (M := 4) (n := 4) (by decide) (show ¬ k0 < 0 from fun z => absurd (Int32.le_trans a (Int32.le_of_lt z)) (by decide)) b
      exact cm_i100 (by
        have a2 := (nI_leI (a := 1) (b := j) (by omega) (by omega)).mp a
        omega) hj _ _ _
    · exact br_f b (cm_i100 (ln := 4) (by omega) (by omega) _ _ _)
  · exact br_f a (cm_i100 (ln := 1) (by omega) (by omega) _ _ _)
end
section
/-! the calls, one by one -/
theorem i_vc_enter {k : Nat} {u : SX} {v : SY} (I : i_Rel k u v) (hk : k + 5 ≤ 2562) (v1 : Int32) : wpX_enter (fun r u' => wpY_enter (fun r' v' => r' = r ∧ i_Rel (k + 5) u' v') v v1) u v1 := by
  refine cm_el (P := fun u v => wpX_enter (fun r u' => wpY_enter (fun r' v' => r' = r ∧ i_Rel (k + 5) u' v') v v1) u v1) ?_ I
  intro cn kn nn ln ll wx fr wr ke kf kw bl di ca lw wy hF E T C
  show wpX_enter _ _ _
  rcases cm_ix v1 3 (by decide) with h | ⟨h0, h1, h2⟩ | ⟨s, hs, rfl⟩
  · refine br_t h ?_
    unfold wpY_enter
    exact cm_ys0 (Or.inl h) (br_t rfl ⟨rfl, cm_mk hF E T C⟩)
  · refine br_f h0 (br_f h2 ?_)
    unfold wpY_enter
    exact cm_ys0 (Or.inr h1) (br_t rfl ⟨rfl, cm_mk hF E T C⟩)
  · refine br_f (nI_pos (by omega)) (br_t (nI_le (b := 3) hs (by decide)) ?_)
    unfold wpY_enter
    exact cm_ys1 hs (br_f (by decide) ⟨rfl, cm_mk ⟨by omega, hF.2⟩ E T C⟩)
theorem i_vc_map {k : Nat} {u : SX} {v : SY} (I : i_Rel k u v) (hk : k + 5 ≤ 2562) (v1 : Int32) (v2 : Int32) (v3 : Int32) (v4 : Int32) : wpX_map (fun r u' => wpY_map (fun r' v' => r' = r ∧ i_Rel (k + 5) u' v') v v1 v2 v3 (lw_bz v4)) u v1 v2 v3 (lw_bz v4) := by
  refine cm_el (P := fun u v => wpX_map (fun r u' => wpY_map (fun r' v' => r' = r ∧ i_Rel (k + 5) u' v') v v1 v2 v3 (lw_bz v4)) u v1 v2 v3 (lw_bz v4)) ?_ I
  intro cn kn nn ln ll wx fr wr ke kf kw bl di ca lw wy hF E T C
  show wpX_map _ _ _ _ _ _
  have hz : lw_bz v4 = 0 ∨ lw_bz v4 = 1 := lw_bz_01 v4
  generalize lw_bz v4 = bz at hz
  have R : i_Rel (k + 5) (nI cn, ll, nI kn, nI nn, nI ln, wx, fr, wr, ke, kf, kw, bl, di, ca, lw) (nI cn, ll, wy, fr, wr) := cm_mk hF E T C
  rcases cm_iy v1 3 (by decide) with h | ⟨s, hs, rfl⟩
  · unfold wpX_map
    refine cm_xp0 (Or.inl h) (br_t rfl ?_)
    unfold wpY_map
    exact cm_ys0 h (br_t rfl ⟨rfl, R⟩)
  rcases cm_iy v2 7 (by decide) with h | ⟨p, hp, rfl⟩
  · unfold wpX_map
    refine cm_xp0 (Or.inr h) (br_t rfl ?_)
    unfold wpY_map
    exact cm_ys1 hs (br_f (by decide) (cm_yp0 h (br_t rfl ⟨rfl, R⟩)))
  rcases cm_ix v3 7 (by decide) with h | ⟨h0, h1, h2⟩ | ⟨f, hf, rfl⟩
  · unfold wpX_map
    refine cm_xp1 hs hp (br_f (by decide) (br_t h ?_))
    unfold wpY_map
    exact cm_ys1 hs (br_f (by decide) (cm_yp1 hp (br_f (by decide) (cm_yp0 (Or.inl h) (br_t rfl ⟨rfl, R⟩)))))
  · unfold wpX_map
    refine cm_xp1 hs hp (br_f (by decide) (br_f h0 (br_f h2 ?_)))
    unfold wpY_map
    exact cm_ys1 hs (br_f (by decide) (cm_yp1 hp (br_f (by decide) (cm_yp0 (Or.inr h1) (br_t rfl ⟨rfl, R⟩)))))
  · have he : 8 * s + p < 32 := by omega
    have hv : vp_in (nI (8 * s + p)) 32 := vp_in_nI he (by omega)
    have hv2 : vp_in (8 * nI s + nI p) 32 := by rw [cm_8]; exact hv
    have ec : (nI (8 * s + p)).toNatClampNeg = 8 * s + p := nI_clamp (by omega)
    have ec2 : (8 * nI s + nI p).toNatClampNeg = 8 * s + p := by rw [cm_8]; exact ec
    have G : ∀ z : Int32, (∀ post : Int32 → SY → Prop, wY_map_45 post (nI s) (nI p) (nI f) bz z (nI cn) ll wy fr wr → wpY_map post (nI cn, ll, wy, fr, wr) (nI s) (nI p) (nI f) bz) →
        wX_map_44 (fun r u' => wpY_map (fun r' v' => r' = r ∧ i_Rel (k + 5) u' v') (nI cn, ll, wy, fr, wr) (nI s) (nI p) (nI f) bz) (nI f) bz (nI (8 * s + p)) z (nI cn) ll (nI kn) (nI nn) (nI ln) wx fr wr ke kf kw bl di ca lw := by
      intro z hY
      refine And.intro hv fun fr' ef => ⟨hv, fun wr' ew => ?_⟩
      rw [ec, cm_nbb (by omega)] at ef
      rw [ec, cm_zz hz] at ew
      rw [ef, ew]
      refine cm_forget hF.2.2.1 ?_
      intro ke' q
      refine hY _ (And.intro hv2 fun fy efy => ⟨hv2, fun wz ewz => ⟨rfl, ?_⟩⟩)
      rw [ec2] at efy
      rw [ec2, cm_zz hz] at ewz
      rw [efy, ewz]
      exact cm_mk hF (cm_E_up E (Or.inr ⟨f, by omega, rfl⟩) hz) (cm_T_fg T he q (fun j hj => pk_un hj) (fun j hj => pk_un hj)) C
    unfold wpX_map
    refine cm_xp1 hs hp (br_f (by decide) (br_f (nI_pos (by omega)) (br_t (nI_le (b := 7) hf (by decide)) (nm_r (cm_8 s p) ⟨hv, ?_⟩))))
    by_cases z : 0 ≤ fr (8 * s + p)
    · refine br_t (by rw [ec]; exact z) (G 1 ?_)
      intro post w
      unfold wpY_map
      exact cm_ys1 hs (br_f (by decide) (cm_yp1 hp (br_f (by decide) (cm_yp1 hf (br_f (by decide) ⟨hv2, br_t (by rw [ec2]; exact z) w⟩)))))
    · refine br_f (by rw [ec]; exact z) (G 0 ?_)
      intro post w
      unfold wpY_map
      exact cm_ys1 hs (br_f (by decide) (cm_yp1 hp (br_f (by decide) (cm_yp1 hf (br_f (by decide) ⟨hv2, br_f (by rw [ec2]; exact z) w⟩)))))
theorem i_vc_unmap {k : Nat} {u : SX} {v : SY} (I : i_Rel k u v) (hk : k + 5 ≤ 2562) (v1 : Int32) (v2 : Int32) : wpX_unmap (fun r u' => wpY_unmap (fun r' v' => r' = r ∧ i_Rel (k + 5) u' v') v v1 v2) u v1 v2 := by
  refine cm_el (P := fun u v => wpX_unmap (fun r u' => wpY_unmap (fun r' v' => r' = r ∧ i_Rel (k + 5) u' v') v v1 v2) u v1 v2) ?_ I
  intro cn kn nn ln ll wx fr wr ke kf kw bl di ca lw wy hF E T C
  show wpX_unmap _ _ _ _
  have R : i_Rel (k + 5) (nI cn, ll, nI kn, nI nn, nI ln, wx, fr, wr, ke, kf, kw, bl, di, ca, lw) (nI cn, ll, wy, fr, wr) := cm_mk hF E T C
  rcases cm_iy v1 3 (by decide) with h | ⟨s, hs, rfl⟩
  · unfold wpX_unmap
    refine cm_xp0 (Or.inl h) (br_t rfl ?_)
    unfold wpY_unmap
    exact cm_ys0 h (br_t rfl ⟨rfl, R⟩)
  rcases cm_iy v2 7 (by decide) with h | ⟨p, hp, rfl⟩
  · unfold wpX_unmap
    refine cm_xp0 (Or.inr h) (br_t rfl ?_)
    unfold wpY_unmap
    exact cm_ys1 hs (br_f (by decide) (cm_yp0 h (br_t rfl ⟨rfl, R⟩)))
  have he : 8 * s + p < 32 := by omega
  have hv : vp_in (nI (8 * s + p)) 32 := vp_in_nI he (by omega)
  have hv2 : vp_in (8 * nI s + nI p) 32 := by rw [cm_8]; exact hv
  have ec : (nI (8 * s + p)).toNatClampNeg = 8 * s + p := nI_clamp (by omega)
  have ec2 : (8 * nI s + nI p).toNatClampNeg = 8 * s + p := by rw [cm_8]; exact ec
  unfold wpX_unmap
  refine cm_xp1 hs hp (br_f (by decide) (nm_r (cm_8 s p) ⟨hv, ?_⟩))
  by_cases z : 0 ≤ fr (8 * s + p)
  · refine br_t (by rw [ec]; exact z) ⟨hv, fun fr' ef => ?_⟩
    rw [ec, cm_bm] at ef
    rw [ef]
    refine cm_forget hF.2.2.1 ?_
    intro ke' q
    show wpY_unmap _ _ _ _
    unfold wpY_unmap
    refine cm_ys1 hs (br_f (by decide) (cm_yp1 hp (br_f (by decide) ⟨hv2, br_t (by rw [ec2]; exact z) ⟨hv2, fun fy efy => ⟨rfl, ?_⟩⟩⟩)))
    rw [ec2] at efy
    rw [efy]
    exact cm_mk hF (cm_E_fr E (Or.inl rfl)) (cm_T_fg T he q (fun j hj => pk_un hj) (fun _ _ => rfl)) C
  · refine br_f (by rw [ec]; exact z) ?_
    unfold wpY_unmap
    exact cm_ys1 hs (br_f (by decide) (cm_yp1 hp (br_f (by decide) ⟨hv2, br_f (by rw [ec2]; exact z) ⟨rfl, R⟩⟩)))
theorem i_vc_protect {k : Nat} {u : SX} {v : SY} (I : i_Rel k u v) (hk : k + 5 ≤ 2562) (v1 : Int32) : wpX_protect (fun r u' => wpY_protect (fun r' v' => r' = r ∧ i_Rel (k + 5) u' v') v v1) u v1 := by
  refine cm_el (P := fun u v => wpX_protect (fun r u' => wpY_protect (fun r' v' => r' = r ∧ i_Rel (k + 5) u' v') v v1) u v1) ?_ I
  intro cn kn nn ln ll wx fr wr ke kf kw bl di ca lw wy hF E T C
  show wpX_protect _ _ _
  rcases cm_ix v1 7 (by decide) with h | ⟨h0, h1, h2⟩ | ⟨f, hf, rfl⟩
  · refine br_t h ?_
    unfold wpY_protect
    exact cm_yp0 (Or.inl h) (br_t rfl ⟨rfl, cm_mk hF E T C⟩)
  · refine br_f h0 (br_f h2 ?_)
    unfold wpY_protect
    exact cm_yp0 (Or.inr h1) (br_t rfl ⟨rfl, cm_mk hF E T C⟩)
  · refine br_f (nI_pos (by omega)) (br_t (nI_le (b := 7) hf (by decide)) ⟨33, ?_⟩)
    refine cm_xpr (F := nI f) (wr := wr) hF.2.2.1 ?_ 32 0 ke rfl E T
    intro ke' E' T'
    show wpY_protect _ _ _
    unfold wpY_protect
    refine cm_yp1 hf (br_f (by decide) ⟨33, ?_⟩)
    refine cm_ypr (F := nI f) (wr := wr) ?_ 32 0 rfl
    exact ⟨rfl, cm_mk hF E' T' C⟩
theorem i_vc_load {k : Nat} {u : SX} {v : SY} (I : i_Rel k u v) (hk : k + 5 ≤ 2562) (v1 : Int32) : wpX_load (fun r u' => wpY_load (fun r' v' => r' = r ∧ i_Rel (k + 5) u' v') v v1) u v1 := by
  refine cm_el (P := fun u v => wpX_load (fun r u' => wpY_load (fun r' v' => r' = r ∧ i_Rel (k + 5) u' v') v v1) u v1) ?_ I
  intro cn kn nn ln ll wx fr wr ke kf kw bl di ca lw wy hF E T C
  show wpX_load _ _ _
  have R : i_Rel (k + 5) (nI cn, ll, nI kn, nI nn, nI ln, wx, fr, wr, ke, kf, kw, bl, di, ca, lw) (nI cn, ll, wy, fr, wr) := cm_mk hF E T C
  rcases cm_ix v1 63 (by decide) with h | ⟨h0, h1, h2⟩ | ⟨a, ha, rfl⟩
  · refine br_t h ?_
    unfold wpY_load
    exact cm_yt0 (Or.inl h) (br_f (by decide) ⟨rfl, R⟩)
  · refine br_f h0 (br_f h2 ?_)
    unfold wpY_load
    exact cm_yt0 (Or.inr h1) (br_f (by decide) ⟨rfl, R⟩)
  · obtain ⟨f1, f2, f3, f4, f5, f6⟩ := hF
    refine br_f (nI_pos (by omega)) (br_t (nI_le (b := 63) ha (by decide)) ?_)
    rw [cm_s3 (n := a) (by omega)]
    refine cm_trans f1 (by omega) f3 f4 E T ?_ ?_
    · intro j f nn' ke' kf' kw' hj hf ef ekf ekw hn' T'
      have ec : (nI j).toNatClampNeg = j := nI_clamp (by omega)
      have e0 : 4 * ((8 * f + a % 8) / 4) + (8 * f + a % 8) % 4 = 8 * f + a % 8 := by omega
      refine br_t (nI_pos' (by omega)) ⟨vp_in_nI hj (by omega), nm_r (e' := nI (8 * f + a % 8)) (by rw [ec, ekf, cm_a7 (by omega), cm_8]) ?_⟩
      rw [cm_s2 (n := 8 * f + a % 8) (by omega)]
      refine cm_bring C f5 f6 (by omega) ?_
      intro l wx' bl' di' ca' lw' hl eb C'
      have e1 : 4 * nI l + (nI (8 * f + a % 8) &&& 3) = nI (4 * l + (8 * f + a % 8) % 4) := by rw [cm_a3 (by omega), cm_4]
      have rd := (C'.2.2.2.1 l ((8 * f + a % 8) / 4) ((8 * f + a % 8) % 4) hl (by omega) (by omega) eb).1
      rw [e0] at rd
      refine And.intro (by rw [e1]; exact vp_in_nI (by omega) (by omega)) (nm_r (e' := wy (8 * f + a % 8)) (by rw [e1, nI_clamp (by omega)]; exact rd) ?_)
      show wpY_load _ _ _
      unfold wpY_load
      refine cm_yt1 f1 ha hf ef (br_t (nI_pos' (by omega)) ⟨vp_in_nI (by omega) (by omega), nm_r (e' := wy (8 * f + a % 8)) (by rw [nI_clamp (by omega)]) ⟨rfl, ?_⟩⟩)
      exact cm_mk ⟨f1, f2, f3, hn', f5, f6⟩ E T' C'
    · intro z
      refine br_f (by decide) ?_
      unfold wpY_load
      exact cm_yt2 f1 ha z (br_f (by decide) ⟨rfl, R⟩)
theorem i_vc_last {k : Nat} {u : SX} {v : SY} (I : i_Rel k u v) (hk : k + 5 ≤ 2562) : wpX_last (fun r => wpY_last (fun r' => r' = r ∧ i_Rel (k + 5) u v) v) u := by
  refine cm_el (P := fun u v => wpX_last (fun r => wpY_last (fun r' => r' = r ∧ i_Rel (k + 5) u v) v) u) ?_ I
  intro cn kn nn ln ll wx fr wr ke kf kw bl di ca lw wy hF E T C
  exact And.intro rfl (cm_mk hF E T C)
/-- the reference's store: what it answers and leaves -/
theorem cm_ystore {post : Int32 → SY → Prop} {ll x : Int32} {wy fr wr : Nat → Int32} {cn a f : Nat} (hc : cn < 4) (ha : a ≤ 63) (hf : f < 8) (ef : fr (8 * cn + a / 8) = nI f) (z : ¬ wr (8 * cn + a / 8) = 0)
    (k : post 0 (nI cn, ll, upd wy (8 * f + a % 8) x, fr, wr)) : wpY_store post (nI cn, ll, wy, fr, wr) (nI a) x := by
  have ei : (8 * nI cn + nI a >>> ((3 : Int32) &&& 31)).toNatClampNeg = 8 * cn + a / 8 := by rw [cm_ye hc ha]; exact nI_clamp (by omega)
  unfold wpY_store
  refine cm_yt1 hc ha hf ef (br_t (nI_pos' (by omega)) ⟨by rw [cm_ye hc ha]; exact vp_in_nI (by omega) (by omega), br_f (by rw [ei]; exact z) ⟨vp_in_nI (by omega) (by omega), fun w ew => ?_⟩⟩)
  rw [nI_clamp (by omega)] at ew
  rw [ew]
  exact k
theorem cm_ystore3 {post : Int32 → SY → Prop} {ll x : Int32} {wy fr wr : Nat → Int32} {cn a f : Nat} (hc : cn < 4) (ha : a ≤ 63) (hf : f < 8) (ef : fr (8 * cn + a / 8) = nI f) (z : wr (8 * cn + a / 8) = 0)
    (k : post (-3) (nI cn, ll, wy, fr, wr)) : wpY_store post (nI cn, ll, wy, fr, wr) (nI a) x := by
  have ei : (8 * nI cn + nI a >>> ((3 : Int32) &&& 31)).toNatClampNeg = 8 * cn + a / 8 := by rw [cm_ye hc ha]; exact nI_clamp (by omega)
  unfold wpY_store
  exact cm_yt1 hc ha hf ef (br_t (nI_pos' (by omega)) ⟨by rw [cm_ye hc ha]; exact vp_in_nI (by omega) (by omega), br_t (by rw [ei]; exact z) k⟩)
theorem cm_ystore2 {post : Int32 → SY → Prop} {ll x : Int32} {wy fr wr : Nat → Int32} {cn a : Nat} (hc : cn < 4) (ha : a ≤ 63) (ef : fr (8 * cn + a / 8) = -1)
    (k : post (-2) (nI cn, ll, wy, fr, wr)) : wpY_store post (nI cn, ll, wy, fr, wr) (nI a) x := by
  unfold wpY_store
  exact cm_yt2 hc ha ef (br_f (by decide) k)
theorem cm_ystore1 {post : Int32 → SY → Prop} {cu ll x y : Int32} {wy fr wr : Nat → Int32} (h : y < 0 ∨ 63 < y)
    (k : post (-1) (cu, ll, wy, fr, wr)) : wpY_store post (cu, ll, wy, fr, wr) y x := by
  unfold wpY_store
  exact cm_yt0 h (br_f (by decide) k)
theorem i_vc_store {k : Nat} {u : SX} {v : SY} (I : i_Rel k u v) (hk : k + 5 ≤ 2562) (v1 : Int32) (v2 : Int32) : wpX_store (fun r u' => wpY_store (fun r' v' => r' = r ∧ i_Rel (k + 5) u' v') v v1 v2) u v1 v2 := by
  refine cm_el (P := fun u v => wpX_store (fun r u' => wpY_store (fun r' v' => r' = r ∧ i_Rel (k + 5) u' v') v v1 v2) u v1 v2) ?_ I
  intro cn kn nn ln ll wx fr wr ke kf kw bl di ca lw wy hF E T C
  show wpX_store _ _ _ _
  unfold wpX_store
  have R : i_Rel (k + 5) (nI cn, ll, nI kn, nI nn, nI ln, wx, fr, wr, ke, kf, kw, bl, di, ca, lw) (nI cn, ll, wy, fr, wr) := cm_mk hF E T C
  rcases cm_ix v1 63 (by decide) with h | ⟨h0, h1, h2⟩ | ⟨a, ha, rfl⟩
  · exact br_t h (cm_ystore1 (Or.inl h) ⟨rfl, R⟩)
  · exact br_f h0 (br_f h2 (cm_ystore1 (Or.inr h1) ⟨rfl, R⟩))
  · refine cm_change (m := 0) hF E T C ha ?_ ?_ ?_
    · intro z
      exact cm_ystore2 hF.1 ha z ⟨rfl, R⟩
    · intro f nn' ke' kf' kw' hf ef z F' T'
      exact cm_ystore3 hF.1 ha hf ef z ⟨rfl, cm_mk F' E T' C⟩
    · intro f nn' ke' kf' kw' wx' bl' di' ca' lw' hf ef z F' T' C'
      rw [if_pos rfl] at C'
      exact cm_ystore hF.1 ha hf ef z ⟨rfl, cm_mk F' E T' C'⟩
theorem i_vc_add {k : Nat} {u : SX} {v : SY} (I : i_Rel k u v) (hk : k + 5 ≤ 2562) (v1 : Int32) (v2 : Int32) : wpX_add (fun r u' => wpY_add (fun r' v' => r' = r ∧ i_Rel (k + 5) u' v') v v1 v2) u v1 v2 := by
  refine cm_el (P := fun u v => wpX_add (fun r u' => wpY_add (fun r' v' => r' = r ∧ i_Rel (k + 5) u' v') v v1 v2) u v1 v2) ?_ I
  intro cn kn nn ln ll wx fr wr ke kf kw bl di ca lw wy hF E T C
  show wpX_add _ _ _ _
  unfold wpX_add
  have R : i_Rel (k + 5) (nI cn, ll, nI kn, nI nn, nI ln, wx, fr, wr, ke, kf, kw, bl, di, ca, lw) (nI cn, ll, wy, fr, wr) := cm_mk hF E T C
  rcases cm_ix v1 63 (by decide) with h | ⟨h0, h1, h2⟩ | ⟨a, ha, rfl⟩
  · refine br_t h ?_
    unfold wpY_add
    refine cm_yt0 (Or.inl h) (br_f (by decide) ?_)
    unfold wY_add_24
    exact cm_ystore1 (Or.inl h) ⟨rfl, R⟩
  · refine br_f h0 (br_f h2 ?_)
    unfold wpY_add
    refine cm_yt0 (Or.inr h1) (br_f (by decide) ?_)
    unfold wY_add_24
    exact cm_ystore1 (Or.inr h1) ⟨rfl, R⟩
  · refine cm_change (m := 1) hF E T C ha ?_ ?_ ?_
    · intro z
      show wpY_add _ _ _ _
      unfold wpY_add
      refine cm_yt2 hF.1 ha z (br_f (by decide) ?_)
      unfold wY_add_24
      exact cm_ystore2 hF.1 ha z ⟨rfl, R⟩
    · intro f nn' ke' kf' kw' hf ef z F' T'
      show wpY_add _ _ _ _
      unfold wpY_add
      refine cm_yt1 hF.1 ha hf ef (br_t (nI_pos' (by omega)) ⟨vp_in_nI (by omega) (by omega), ?_⟩)
      unfold wY_add_24
      exact cm_ystore3 hF.1 ha hf ef z ⟨rfl, cm_mk F' E T' C⟩
    · intro f nn' ke' kf' kw' wx' bl' di' ca' lw' hf ef z F' T' C'
      rw [if_neg (by decide)] at C'
      show wpY_add _ _ _ _
      unfold wpY_add
      refine cm_yt1 hF.1 ha hf ef (br_t (nI_pos' (by omega)) ⟨vp_in_nI (by omega) (by omega), ?_⟩)
      rw [nI_clamp (n := 8 * f + a % 8) (by omega)]
      unfold wY_add_24
      exact cm_ystore hF.1 ha hf ef z ⟨rfl, cm_mk F' E T' C'⟩
theorem i_vc_deviceRead {k : Nat} {u : SX} {v : SY} (I : i_Rel k u v) (hk : k + 5 ≤ 2562) (v1 : Int32) : wpX_deviceRead (fun r => wpY_deviceRead (fun r' => r' = r ∧ i_Rel (k + 5) u v) v v1) u v1 := by
  refine cm_el (P := fun u v => wpX_deviceRead (fun r => wpY_deviceRead (fun r' => r' = r ∧ i_Rel (k + 5) u v) v v1) u v1) ?_ I
  intro cn kn nn ln ll wx fr wr ke kf kw bl di ca lw wy hF E T C
  show wpX_deviceRead _ _ _
  have R : i_Rel (k + 5) (nI cn, ll, nI kn, nI nn, nI ln, wx, fr, wr, ke, kf, kw, bl, di, ca, lw) (nI cn, ll, wy, fr, wr) := cm_mk hF E T C
  rcases cm_ix v1 63 (by decide) with h | ⟨h0, h1, h2⟩ | ⟨a, ha, rfl⟩
  · refine br_t h ?_
    unfold wpY_deviceRead
    exact cm_yw0 (Or.inl h) (br_t rfl ⟨rfl, R⟩)
  · refine br_f h0 (br_f h2 ?_)
    unfold wpY_deviceRead
    exact cm_yw0 (Or.inr h1) (br_t rfl ⟨rfl, R⟩)
  · refine cm_dread C hF.2.2.2.2.1 hF.2.2.2.2.2 (by omega) ?_
    unfold wpY_deviceRead
    exact cm_yw1 ha (br_f (by decide) ⟨vp_in_nI (by omega) (by omega), by rw [nI_clamp (by omega)], R⟩)
theorem i_vc_deviceWrite {k : Nat} {u : SX} {v : SY} (I : i_Rel k u v) (hk : k + 5 ≤ 2562) (v1 : Int32) (v2 : Int32) : wpX_deviceWrite (fun r u' => wpY_deviceWrite (fun r' v' => r' = r ∧ i_Rel (k + 5) u' v') v v1 v2) u v1 v2 := by
  refine cm_el (P := fun u v => wpX_deviceWrite (fun r u' => wpY_deviceWrite (fun r' v' => r' = r ∧ i_Rel (k + 5) u' v') v v1 v2) u v1 v2) ?_ I
  intro cn kn nn ln ll wx fr wr ke kf kw bl di ca lw wy hF E T C
  show wpX_deviceWrite _ _ _ _
  have R : i_Rel (k + 5) (nI cn, ll, nI kn, nI nn, nI ln, wx, fr, wr, ke, kf, kw, bl, di, ca, lw) (nI cn, ll, wy, fr, wr) := cm_mk hF E T C
  rcases cm_ix v1 63 (by decide) with h | ⟨h0, h1, h2⟩ | ⟨a, ha, rfl⟩
  · refine br_t h ?_
    unfold wpY_deviceWrite
    exact cm_yw0 (Or.inl h) (br_t rfl ⟨rfl, R⟩)
  · refine br_f h0 (br_f h2 ?_)
    unfold wpY_deviceWrite
    exact cm_yw0 (Or.inr h1) (br_t rfl ⟨rfl, R⟩)
  · refine cm_dwrite C hF.2.2.2.2.1 hF.2.2.2.2.2 (by omega) ?_
    intro wx' bl' di' C'
    show wpY_deviceWrite _ _ _ _
    unfold wpY_deviceWrite
    refine cm_yw1 ha (br_f (by decide) ⟨vp_in_nI (by omega) (by omega), fun w ew => ⟨rfl, ?_⟩⟩)
    rw [nI_clamp (by omega)] at ew
    rw [ew]
    exact cm_mk hF E T C'
theorem i_vc_deviceCopy {k : Nat} {u : SX} {v : SY} (I : i_Rel k u v) (hk : k + 5 ≤ 2562) (v1 : Int32) (v2 : Int32) (v3 : Int32) : wpX_deviceCopy (fun r u' => wpY_deviceCopy (fun r' v' => r' = r ∧ i_Rel (k + 5) u' v') v v1 v2 v3) u v1 v2 v3 := by
  refine cm_el (P := fun u v => wpX_deviceCopy (fun r u' => wpY_deviceCopy (fun r' v' => r' = r ∧ i_Rel (k + 5) u' v') v v1 v2 v3) u v1 v2 v3) ?_ I
  intro cn kn nn ln ll wx fr wr ke kf kw bl di ca lw wy hF E T C
  show wpX_deviceCopy _ _ _ _ _
  have R : i_Rel (k + 5) (nI cn, ll, nI kn, nI nn, nI ln, wx, fr, wr, ke, kf, kw, bl, di, ca, lw) (nI cn, ll, wy, fr, wr) := cm_mk hF E T C
  by_cases g1 : v1 < 0
  · exact br_t g1 (br_t g1 ⟨rfl, R⟩)
  by_cases g2 : v2 < 0
  · exact br_f g1 (br_t g2 (br_f g1 (br_t g2 ⟨rfl, R⟩)))
  by_cases g3 : v3 < 0
  · have g3' : ¬ 0 ≤ v3 := Int32.not_le.mpr g3
    exact br_f g1 (br_f g2 (br_f g3' (br_f g1 (br_f g2 (br_t g3 ⟨rfl, R⟩)))))
  have g3' : 0 ≤ v3 := Int32.not_lt.mp g3
  by_cases g4 : 64 < v1
  · exact br_f g1 (br_f g2 (br_t g3' (br_t g4 (br_f g1 (br_f g2 (br_f g3 (br_t g4 ⟨rfl, R⟩)))))))
  by_cases g5 : 64 < v2
  · exact br_f g1 (br_f g2 (br_t g3' (br_f g4 (br_t g5 (br_f g1 (br_f g2 (br_f g3 (br_f g4 (br_t g5 ⟨rfl, R⟩)))))))))
  obtain ⟨a, ha, rfl⟩ := nI_of g1
  obtain ⟨b, hb, rfl⟩ := nI_of g2
  obtain ⟨c, hc, rfl⟩ := nI_of g3
  have ha4 : a ≤ 64 := by
    have q : ¬ 64 < a := fun z => g4 (nI_lt (a := 64) (b := a) z ha)
    omega
  have hb4 : b ≤ 64 := by
    have q : ¬ 64 < b := fun z => g5 (nI_lt (a := 64) (b := b) z hb)
    omega
  have ea : (64 : Int32) - nI a = nI (64 - a) := pk_sub (a := 64) ha4
  have eb : (64 : Int32) - nI b = nI (64 - b) := pk_sub (a := 64) hb4
  by_cases g6 : 64 - a < c
  · refine br_f g1 (br_f g2 (br_t g3' (br_f g4 (br_f g5 (br_t (by rw [ea]; exact nI_lt g6 hc) (br_f g1 (br_f g2 (br_f g3 (br_f g4 (br_f g5 ?_))))))))))
    by_cases g7 : c ≤ 64
    · exact br_t (nI_le (b := 64) g7 (by omega)) (br_t (by rw [nI_add]; exact nI_lt (a := 64) (by omega) (by omega)) ⟨rfl, R⟩)
    · exact br_f (nI_ge (a := 64) (by omega) hc) ⟨rfl, R⟩
  have n6 : ¬ (64 : Int32) - nI a < nI c := by rw [ea]; exact nI_nlt (by omega) (by omega)
  by_cases g8 : c ≤ 64 - b
  · refine br_f g1 (br_f g2 (br_t g3' (br_f g4 (br_f g5 (br_f n6 (br_t (by rw [eb]; exact nI_le g8 (by omega)) ⟨c + 1, ?_⟩))))))
    refine cm_xcp (wy := wy) hF.2.2.2.2.1 hF.2.2.2.2.2 (by omega) (by omega) ?_ c 0 wx bl di (by omega) C
    intro wx' bl' di' C'
    refine br_f g1 (br_f g2 (br_f g3 (br_f g4 (br_f g5 (br_t (nI_le (b := 64) (by omega) (by omega)) (br_f (by rw [nI_add]; exact nI_nlt (a := 64) (by omega) (by omega)) (br_t (by rw [nI_add]; exact nI_le (b := 64) (by omega) (by omega)) ⟨c + 1, ?_⟩)))))))
    exact cm_ycp (wy := wy) (by omega) (by omega) ⟨rfl, cm_mk hF E T C'⟩ c 0 (by omega)
  · refine br_f g1 (br_f g2 (br_t g3' (br_f g4 (br_f g5 (br_f n6 (br_f (by rw [eb]; exact nI_ge (by omega) hc) ?_))))))
    exact br_f g1 (br_f g2 (br_f g3 (br_f g4 (br_f g5 (br_t (nI_le (b := 64) (by omega) (by omega)) (br_f (by rw [nI_add]; exact nI_nlt (a := 64) (by omega) (by omega)) (br_f (by rw [nI_add]; exact nI_ge (a := 64) (by omega) (by omega)) ⟨rfl, R⟩)))))))
theorem i_vc_translate {k : Nat} {u : SX} {v : SY} (I : i_Rel k u v) (hk : k + 5 ≤ 2562) (v1 : Int32) : wpX_translate (fun r u' => wpY_translate (fun r' => r' = r ∧ i_Rel (k + 5) u' v) v v1) u v1 := by
  refine cm_el (P := fun u v => wpX_translate (fun r u' => wpY_translate (fun r' => r' = r ∧ i_Rel (k + 5) u' v) v v1) u v1) ?_ I
  intro cn kn nn ln ll wx fr wr ke kf kw bl di ca lw wy hF E T C
  show wpX_translate _ _ _
  have R : i_Rel (k + 5) (nI cn, ll, nI kn, nI nn, nI ln, wx, fr, wr, ke, kf, kw, bl, di, ca, lw) (nI cn, ll, wy, fr, wr) := cm_mk hF E T C
  rcases cm_ix v1 63 (by decide) with h | ⟨h0, h1, h2⟩ | ⟨a, ha, rfl⟩
  · exact br_t h (cm_yt0 (Or.inl h) ⟨rfl, R⟩)
  · exact br_f h0 (br_f h2 (cm_yt0 (Or.inr h1) ⟨rfl, R⟩))
  · obtain ⟨f1, f2, f3, f4, f5, f6⟩ := hF
    refine br_f (nI_pos (by omega)) (br_t (nI_le (b := 63) ha (by decide)) ?_)
    rw [cm_s3 (n := a) (by omega)]
    refine cm_trans f1 (by omega) f3 f4 E T ?_ ?_
    · intro j f nn' ke' kf' kw' hj hf ef ekf ekw hn' T'
      have ec : (nI j).toNatClampNeg = j := nI_clamp (by omega)
      refine br_t (nI_pos' (by omega)) ⟨vp_in_nI hj (by omega), ?_⟩
      refine cm_yt1 f1 ha hf ef ⟨?_, cm_mk ⟨f1, f2, f3, hn', f5, f6⟩ E T' C⟩
      rw [ec, ekf, cm_a7 (by omega), cm_8]
    · intro z
      exact br_f (by decide) (cm_yt2 f1 ha z ⟨rfl, R⟩)
end
