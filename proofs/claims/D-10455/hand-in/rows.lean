section
/-- a set of the four arguments, as bits of an int -/
def pm_S (x : Int32) : Prop := ∃ s : Nat, s < 16 ∧ x = nI s
def pm_has (x : Int32) (g : Nat) : Prop := ¬ ((x >>> (nI g &&& 31)) &&& 1) = 0
def pm_sub (x y : Int32) : Prop := (x &&& (y ^^^ (-1))) = 0
def pm_add (x : Int32) (g : Nat) : Int32 := x ||| ((1 : Int32) <<< (nI g &&& 31))
theorem pm_b1 : ∀ s, s < 16 → ∀ g, g < 4 → nI s ||| ((1 : Int32) <<< (nI g &&& 31)) = nI (s ||| 2 ^ g) ∧ s ||| 2 ^ g < 16 := by decide +kernel
theorem pm_b2 : ∀ s, s < 16 → ∀ g, g < 4 → ¬ (((nI s ||| ((1 : Int32) <<< (nI g &&& 31))) >>> (nI g &&& 31)) &&& 1) = 0 := by decide +kernel
theorem pm_b3 : ∀ s, s < 16 → ∀ g, g < 4 → ∀ h, h < 4 → ¬ ((nI s >>> (nI h &&& 31)) &&& 1) = 0 → ¬ (((nI s ||| ((1 : Int32) <<< (nI g &&& 31))) >>> (nI h &&& 31)) &&& 1) = 0 := by decide +kernel
theorem pm_b4 : ∀ s, s < 16 → ∀ t, t < 16 → ∀ g, g < 4 → (¬ (nI s &&& (nI t ^^^ (-1))) = 0 ∨ ((nI t >>> (nI g &&& 31)) &&& 1) = 0 ∨ ((nI s ||| ((1 : Int32) <<< (nI g &&& 31))) &&& (nI t ^^^ (-1))) = 0) := by decide +kernel
theorem pm_S_0 : pm_S 0 := ⟨0, by omega, rfl⟩
theorem pm_S_add {x : Int32} {g : Nat} (h : pm_S x) (hg : g < 4) : pm_S (pm_add x g) := by
  obtain ⟨s, hs, rfl⟩ := h
  exact ⟨_, (pm_b1 s hs g hg).2, (pm_b1 s hs g hg).1⟩
theorem pm_has_add {x : Int32} {g : Nat} (h : pm_S x) (hg : g < 4) : pm_has (pm_add x g) g := by
  obtain ⟨s, hs, rfl⟩ := h
  exact pm_b2 s hs g hg
theorem pm_has_mono {x : Int32} {g : Nat} (h : pm_S x) (hg : g < 4) (k : Nat) (hk : k < 4) (q : pm_has x k) : pm_has (pm_add x g) k := by
  obtain ⟨s, hs, rfl⟩ := h
  exact pm_b3 s hs g hg k hk q
theorem pm_sub_add {x y : Int32} {g : Nat} (h : pm_S x) (h' : pm_S y) (hg : g < 4) (q : pm_sub x y) (q' : pm_has y g) : pm_sub (pm_add x g) y := by
  obtain ⟨s, hs, rfl⟩ := h
  obtain ⟨t, ht, rfl⟩ := h'
  exact ((pm_b4 s hs t ht g hg).resolve_left (fun z => z q)).resolve_left q'
theorem pm_sub_0 {y : Int32} (h' : pm_S y) : pm_sub 0 y := by
  obtain ⟨t, ht, rfl⟩ := h'
  have z : ∀ t, t < 16 → ((0 : Int32) &&& (nI t ^^^ (-1))) = 0 := by decide +kernel
  exact z t ht
theorem pm_i8 : ∀ n, n < 128 → (nI n).toInt8.toInt32 = nI n := by decide +kernel
theorem pm_c16 {n : Nat} (h : n < 65536) : ((nI n).toUInt32 % 65536).toInt32 = nI n := by
  rw [pk_char, pk_tn (by omega), Nat.mod_eq_of_lt h]
theorem pm_inj {a b : Nat} (ha : a < 2 ^ 31) (hb : b < 2 ^ 31) (h : nI a = nI b) : a = b := (nI_eq ha hb).mp h
theorem pm_m1n {n : Nat} (h : n < 2 ^ 31) : ¬ (-1 : Int32) = nI n := by
  intro e
  have e' := congrArg Int32.toInt e
  rw [nI_toInt h] at e'
  have z : (-1 : Int32).toInt = -1 := by decide
  omega

/-- the choice c, an operation of which stands at p: still open, or its end lies behind p -/
def pm_clos (ce oc : Nat) (a9 a13 : Nat → Int32) (p c : Nat) : Prop := (∃ k, k < oc ∧ a13 k = nI c) ∨ ∃ e, p < e ∧ e ≤ ce ∧ a9 c = nI e
/-- the choice c, opened at p: no branch yet, or a first one; all branches from it on start behind p -/
def pm_fst (ce bc : Nat) (a7 a11 : Nat → Int32) (p c : Nat) : Prop := a7 c = -1 ∨ ∃ f, f < bc ∧ a7 c = nI f ∧ ∀ b, f ≤ b → b < bc → ∃ s, p < s ∧ s ≤ ce ∧ a11 b = nI s
def pm_opk (nm : Int32) (ce cc bc oc : Nat) (a3 a4 a7 a9 a11 a13 : Nat → Int32) (p : Nat) : Prop :=
  a3 p = 0 ∨ (a3 p = 1 ∧ ∃ g, g < 4 ∧ a4 p = nI g ∧ pm_has nm g) ∨ (a3 p = 2 ∧ ∃ c, c < cc ∧ a4 p = nI c ∧ pm_clos ce oc a9 a13 p c ∧ pm_fst ce bc a7 a11 p c) ∨ (a3 p = 3 ∧ ∃ c, c < cc ∧ a4 p = nI c ∧ pm_clos ce oc a9 a13 p c)
def pm_chk (nm : Int32) (bc : Nat) (a5 a7 a8 : Nat → Int32) (c : Nat) : Prop := (∃ g, g < 4 ∧ a5 c = nI g ∧ pm_has nm g) ∧ (a7 c = -1 ∨ ∃ f l, f < bc ∧ l < bc ∧ a7 c = nI f ∧ a8 c = nI l)
def pm_nxt (bc : Nat) (a12 : Nat → Int32) (b : Nat) : Prop := a12 b = -1 ∨ ∃ n, b < n ∧ n < bc ∧ a12 b = nI n
def pm_sgn (nm v : Int32) : Prop := v = -1 ∨ ∃ g, g < 4 ∧ v = nI g ∧ pm_has nm g
/-- the code so far -/
def pm_inv (nm : Int32) (ce cc bc oc : Nat) (a3 a4 a5 a7 a8 a9 a11 a12 a13 a14 : Nat → Int32) : Prop :=
  pm_S nm ∧ (∀ p, p < ce → pm_opk nm ce cc bc oc a3 a4 a7 a9 a11 a13 p) ∧ (∀ c, c < cc → pm_chk nm bc a5 a7 a8 c) ∧ (∀ b, b < bc → pm_nxt bc a12 b) ∧ (∀ k, k < oc → ∃ c, c < cc ∧ a13 k = nI c) ∧ (∀ k, k ≤ oc → pm_sgn nm (a14 k))

theorem pm_opk_map {nm nm' : Int32} {ce ce' cc cc' bc bc' oc oc' : Nat} {a3 a4 a7 a9 a11 a13 b3 b4 b7 b9 b11 b13 : Nat → Int32} {p : Nat} (e3 : b3 p = a3 p) (e4 : b4 p = a4 p) (hn : ∀ g, g < 4 → pm_has nm g → pm_has nm' g) (hc : cc ≤ cc')
    (h1 : ∀ c, c < cc → pm_clos ce oc a9 a13 p c → pm_clos ce' oc' b9 b13 p c) (h2 : ∀ c, c < cc → pm_fst ce bc a7 a11 p c → pm_fst ce' bc' b7 b11 p c)
    (h : pm_opk nm ce cc bc oc a3 a4 a7 a9 a11 a13 p) : pm_opk nm' ce' cc' bc' oc' b3 b4 b7 b9 b11 b13 p := by
  rcases h with h | ⟨h, g, hg, e, q⟩ | ⟨h, c, hc', e, q1, q2⟩ | ⟨h, c, hc', e, q⟩
  · exact Or.inl (e3.trans h)
  · exact Or.inr (Or.inl ⟨e3.trans h, g, hg, e4.trans e, hn g hg q⟩)
  · exact Or.inr (Or.inr (Or.inl ⟨e3.trans h, c, by omega, e4.trans e, h1 c hc' q1, h2 c hc' q2⟩))
  · exact Or.inr (Or.inr (Or.inr ⟨e3.trans h, c, by omega, e4.trans e, h1 c hc' q⟩))
theorem pm_clos_ce {ce ce' oc : Nat} {a9 a13 : Nat → Int32} {p c : Nat} (hc : ce ≤ ce') (h : pm_clos ce oc a9 a13 p c) : pm_clos ce' oc a9 a13 p c := by
  rcases h with h | ⟨e, h1, h2, h3⟩
  · exact Or.inl h
  · exact Or.inr ⟨e, h1, by omega, h3⟩
theorem pm_fst_ce {ce ce' bc : Nat} {a7 a11 : Nat → Int32} {p c : Nat} (hc : ce ≤ ce') (h : pm_fst ce bc a7 a11 p c) : pm_fst ce' bc a7 a11 p c := by
  rcases h with h | ⟨f, h1, h2, h3⟩
  · exact Or.inl h
  · refine Or.inr ⟨f, h1, h2, fun b hb hb' => ?_⟩
    obtain ⟨s, s1, s2, s3⟩ := h3 b hb hb'
    exact ⟨s, s1, by omega, s3⟩
theorem pm_sgn_mono {nm nm' v : Int32} (hn : ∀ g, g < 4 → pm_has nm g → pm_has nm' g) (h : pm_sgn nm v) : pm_sgn nm' v := by
  rcases h with h | ⟨g, hg, e, q⟩
  · exact Or.inl h
  · exact Or.inr ⟨g, hg, e, hn g hg q⟩
/-- one more operation -/
theorem pm_wr {nm : Int32} {ce cc bc oc : Nat} {a3 a4 a5 a7 a8 a9 a11 a12 a13 a14 : Nat → Int32} {v3 v4 : Int32} (I : pm_inv nm ce cc bc oc a3 a4 a5 a7 a8 a9 a11 a12 a13 a14)
    (ho : pm_opk nm (ce + 1) cc bc oc (upd a3 ce v3) (upd a4 ce v4) a7 a9 a11 a13 ce) : pm_inv nm (ce + 1) cc bc oc (upd a3 ce v3) (upd a4 ce v4) a5 a7 a8 a9 a11 a12 a13 a14 := by
  obtain ⟨i1, i2, i3, i4, i5, i6⟩ := I
  refine ⟨i1, fun p hp => ?_, i3, i4, i5, i6⟩
  by_cases e : p = ce
  · subst e
    exact ho
  · exact pm_opk_map (pk_un e) (pk_un e) (fun _ _ h => h) (Nat.le_refl _) (fun c _ h => pm_clos_ce (by omega) h) (fun c _ h => pm_fst_ce (by omega) h) (i2 p (by omega))
/-- one more argument is named -/
theorem pm_nmd {nm : Int32} {g ce cc bc oc : Nat} {a3 a4 a5 a7 a8 a9 a11 a12 a13 a14 : Nat → Int32} (I : pm_inv nm ce cc bc oc a3 a4 a5 a7 a8 a9 a11 a12 a13 a14) (hg : g < 4) : pm_inv (pm_add nm g) ce cc bc oc a3 a4 a5 a7 a8 a9 a11 a12 a13 a14 := by
  obtain ⟨i1, i2, i3, i4, i5, i6⟩ := I
  have hm := pm_has_mono i1 hg
  refine ⟨pm_S_add i1 hg, fun p hp => pm_opk_map rfl rfl hm (Nat.le_refl _) (fun _ _ h => h) (fun _ _ h => h) (i2 p hp), fun c hc => ?_, i4, i5, fun k hk => pm_sgn_mono hm (i6 k hk)⟩
  obtain ⟨⟨g', hg', e, q⟩, r⟩ := i3 c hc
  exact ⟨⟨g', hg', e, hm g' hg' q⟩, r⟩
/-- a choice is opened -/
theorem pm_open {nm : Int32} {g ce cc bc oc : Nat} {a3 a4 a5 a7 a8 a9 a11 a12 a13 a14 : Nat → Int32} {v : Int32} (I : pm_inv nm ce cc bc oc a3 a4 a5 a7 a8 a9 a11 a12 a13 a14) (hg : g < 4) (hn : pm_has nm g) (hv : pm_sgn nm v) :
    pm_inv nm (ce + 1) (cc + 1) bc (oc + 1) (upd a3 ce 2) (upd a4 ce (nI cc)) (upd a5 cc (nI g)) (upd a7 cc (-1)) a8 a9 a11 a12 (upd a13 oc (nI cc)) (upd a14 (oc + 1) v) := by
  obtain ⟨i1, i2, i3, i4, i5, i6⟩ := I
  refine ⟨i1, fun p hp => ?_, fun c hc => ?_, i4, fun k hk => ?_, fun k hk => ?_⟩
  · by_cases e : p = ce
    · subst e
      exact Or.inr (Or.inr (Or.inl ⟨pk_us, cc, by omega, pk_us, Or.inl ⟨oc, by omega, pk_us⟩, Or.inl pk_us⟩))
    · refine pm_opk_map (pk_un e) (pk_un e) (fun _ _ h => h) (by omega) (fun c hc h => ?_) (fun c hc h => ?_) (i2 p (by omega))
      · rcases h with ⟨k, hk, ek⟩ | ⟨z, z1, z2, z3⟩
        · exact Or.inl ⟨k, by omega, (pk_un (by omega)).trans ek⟩
        · exact Or.inr ⟨z, z1, by omega, z3⟩
      · have h' := pm_fst_ce (ce' := ce + 1) (by omega) h
        have e7 : upd a7 cc (-1) c = a7 c := pk_un (by omega)
        unfold pm_fst
        rw [e7]
        exact h'
  · by_cases e : c = cc
    · subst e
      exact ⟨⟨g, hg, pk_us, hn⟩, Or.inl pk_us⟩
    · have e5 : upd a5 cc (nI g) c = a5 c := pk_un e
      have e7 : upd a7 cc (-1) c = a7 c := pk_un e
      unfold pm_chk
      rw [e5, e7]
      exact i3 c (by omega)
  · by_cases e : k = oc
    · subst e
      exact ⟨cc, by omega, pk_us⟩
    · obtain ⟨c, hc, ec⟩ := i5 k (by omega)
      exact ⟨c, by omega, (pk_un e).trans ec⟩
  · by_cases e : k = oc + 1
    · subst e
      rw [pk_us]
      exact hv
    · rw [pk_un e]
      exact i6 k (by omega)
/-- a branch is opened: what all its cases share -/
theorem pm_brn {nm : Int32} {ch ce cc bc oc : Nat} {a3 a4 a5 a7 a8 a9 a11 a12 a13 a14 b7 b12 : Nat → Int32} (I : pm_inv nm ce cc bc oc a3 a4 a5 a7 a8 a9 a11 a12 a13 a14)
    (h7 : ∀ c, c < cc → b7 c = a7 c ∨ (c = ch ∧ b7 c = nI bc)) (h8 : b7 ch = -1 ∨ ∃ f, f < bc + 1 ∧ b7 ch = nI f) (h12 : ∀ b, b < bc + 1 → pm_nxt (bc + 1) b12 b) :
    pm_inv nm ce cc (bc + 1) oc a3 a4 a5 b7 (upd a8 ch (nI bc)) a9 (upd a11 bc (nI ce)) b12 a13 a14 := by
  obtain ⟨i1, i2, i3, i4, i5, i6⟩ := I
  refine ⟨i1, fun p hp => ?_, fun c hc => ?_, h12, i5, i6⟩
  · refine pm_opk_map rfl rfl (fun _ _ h => h) (by omega) (fun c _ h => h) (fun c hc h => ?_) (i2 p hp)
    rcases h7 c hc with e | ⟨_, e⟩
    · rcases h with h | ⟨f, f1, f2, f3⟩
      · exact Or.inl (e.trans h)
      · refine Or.inr ⟨f, by omega, e.trans f2, fun b hb hb' => ?_⟩
        by_cases eb : b = bc
        · subst eb
          exact ⟨ce, hp, Nat.le_refl _, pk_us⟩
        · obtain ⟨s, s1, s2, s3⟩ := f3 b hb (by omega)
          exact ⟨s, s1, s2, (pk_un eb).trans s3⟩
    · refine Or.inr ⟨bc, by omega, e, fun b hb hb' => ?_⟩
      have eb : b = bc := by omega
      subst eb
      exact ⟨ce, hp, Nat.le_refl _, pk_us⟩
  · obtain ⟨j1, j2⟩ := i3 c hc
    refine ⟨j1, ?_⟩
    by_cases e : c = ch
    · subst e
      rcases h8 with h | ⟨f, f1, f2⟩
      · exact Or.inl h
      · exact Or.inr ⟨f, bc, f1, by omega, f2, pk_us⟩
    · rcases h7 c hc with e' | ⟨z, _⟩
      · rcases j2 with j | ⟨f, l, k1, k2, k3, k4⟩
        · exact Or.inl (e'.trans j)
        · exact Or.inr ⟨f, l, by omega, by omega, e'.trans k3, (pk_un e).trans k4⟩
      · exact absurd z e
theorem pm_nxt_up {bc : Nat} {a12 : Nat → Int32} (h : ∀ b, b < bc → pm_nxt bc a12 b) : ∀ b, b < bc + 1 → pm_nxt (bc + 1) (upd a12 bc (-1)) b := by
  intro b hb
  by_cases e : b = bc
  · subst e
    exact Or.inl pk_us
  · rcases h b (by omega) with z | ⟨n, n1, n2, n3⟩
    · exact Or.inl ((pk_un e).trans z)
    · exact Or.inr ⟨n, n1, by omega, (pk_un e).trans n3⟩
/-- the first branch of a choice -/
theorem pm_brn0 {nm : Int32} {ch ce cc bc oc : Nat} {a3 a4 a5 a7 a8 a9 a11 a12 a13 a14 : Nat → Int32} (I : pm_inv nm ce cc bc oc a3 a4 a5 a7 a8 a9 a11 a12 a13 a14) :
    pm_inv nm ce cc (bc + 1) oc a3 a4 a5 (upd a7 ch (nI bc)) (upd a8 ch (nI bc)) a9 (upd a11 bc (nI ce)) (upd a12 bc (-1)) a13 a14 := by
  refine pm_brn I (fun c _ => ?_) (Or.inr ⟨bc, by omega, pk_us⟩) (pm_nxt_up I.2.2.2.1)
  by_cases e : c = ch
  · subst e
    exact Or.inr ⟨rfl, pk_us⟩
  · exact Or.inl (pk_un e)
/-- a further branch, behind the branch l -/
theorem pm_brn1 {nm : Int32} {ch l ce cc bc oc : Nat} {a3 a4 a5 a7 a8 a9 a11 a12 a13 a14 : Nat → Int32} (I : pm_inv nm ce cc bc oc a3 a4 a5 a7 a8 a9 a11 a12 a13 a14) (hl : l < bc) (h7 : ∃ f, f < bc ∧ a7 ch = nI f) :
    pm_inv nm ce cc (bc + 1) oc a3 a4 a5 a7 (upd a8 ch (nI bc)) a9 (upd a11 bc (nI ce)) (upd (upd a12 bc (-1)) l (nI bc)) a13 a14 := by
  obtain ⟨f, f1, f2⟩ := h7
  refine pm_brn I (fun c _ => Or.inl rfl) (Or.inr ⟨f, by omega, f2⟩) (fun b hb => ?_)
  by_cases e : b = l
  · subst e
    exact Or.inr ⟨bc, hl, by omega, pk_us⟩
  · have h := pm_nxt_up I.2.2.2.1 b hb
    unfold pm_nxt at h ⊢
    rw [pk_un e]
    exact h
/-- a choice is closed -/
theorem pm_close {nm : Int32} {c0 ce cc bc o : Nat} {a3 a4 a5 a7 a8 a9 a11 a12 a13 a14 : Nat → Int32} (I : pm_inv nm ce cc bc (o + 1) a3 a4 a5 a7 a8 a9 a11 a12 a13 a14) (hc : cc < 2 ^ 31) (h0 : c0 < cc) (e0 : a13 o = nI c0) :
    pm_inv nm ce cc bc o a3 a4 a5 a7 a8 (upd a9 c0 (nI ce)) a11 a12 a13 a14 := by
  obtain ⟨i1, i2, i3, i4, i5, i6⟩ := I
  refine ⟨i1, fun p hp => ?_, i3, i4, fun k hk => i5 k (by omega), fun k hk => i6 k (by omega)⟩
  refine pm_opk_map rfl rfl (fun _ _ h => h) (by omega) (fun c hcc h => ?_) (fun c _ h => h) (i2 p hp)
  by_cases e : c = c0
  · subst e
    exact Or.inr ⟨ce, hp, Nat.le_refl _, pk_us⟩
  · rcases h with ⟨k, hk, ek⟩ | ⟨z, z1, z2, z3⟩
    · by_cases ek' : k = o
      · subst ek'
        exact absurd (pm_inj (by omega) (by omega) (ek.symm.trans e0)) e
      · exact Or.inl ⟨k, by omega, ek⟩
    · exact Or.inr ⟨z, z1, z2, (pk_un e).trans z3⟩
end
section
/-- one answer for every index and every post -/
def pm_D {ι : Type} (F : ι → (Int32 → Prop) → Prop) : Prop := ∃ r : Int32, ∀ i post, post r → F i post
theorem pm_Dr {ι : Type} (r : Int32) : pm_D (fun (_ : ι) (post : Int32 → Prop) => post r) := ⟨r, fun _ _ h => h⟩
theorem pm_Db {ι : Type} {c : Prop} {F G : ι → (Int32 → Prop) → Prop} (hF : pm_D F) (hG : pm_D G) : pm_D (fun i post => (c → F i post) ∧ (¬ c → G i post)) := by
  by_cases h : c
  · obtain ⟨r, hr⟩ := hF
    exact ⟨r, fun i post hp => br_t h (hr i post hp)⟩
  · obtain ⟨r, hr⟩ := hG
    exact ⟨r, fun i post hp => br_f h (hr i post hp)⟩
theorem pm_Dc {ι : Type} {A : ι → (Int32 → Prop) → Prop} {K : Int32 → ι → (Int32 → Prop) → Prop} (hA : pm_D A) (hK : ∀ r, pm_D (K r)) : pm_D (fun i post => A i (fun r => K r i post)) := by
  obtain ⟨r, hr⟩ := hA
  obtain ⟨q, hq⟩ := hK r
  exact ⟨q, fun i post hp => hr i _ (hq i post hp)⟩
theorem pm_isLetter (p : Int32) : pm_D (fun (u : St2) post => wpX_isLetter post u p) := pm_Db (pm_Dr 0) (pm_Db (pm_Dr 0) (pm_Dr 1))
theorem pm_isDigit (p : Int32) : pm_D (fun (u : St2) post => wpX_isDigit post u p) := pm_Db (pm_Dr 0) (pm_Db (pm_Dr 0) (pm_Dr 1))
theorem pm_isPlain (p : Int32) : pm_D (fun (u : St2) post => wpX_isPlain post u p) := by
  obtain ⟨r1, h1⟩ := pm_isLetter p
  obtain ⟨r2, h2⟩ := pm_isDigit p
  have H : pm_D (fun (_ : Unit) (post : Int32 → Prop) => ((p = 32 → (post 1)) ∧ (¬ p = 32 → (((p = 44 → (post 1)) ∧ (¬ p = 44 → (((p = 46 → (post 1)) ∧ (¬ p = 46 → (((p = 33 → (post 1)) ∧ (¬ p = 33 → (((p = 45 → (post 1)) ∧ (¬ p = 45 → (post 0)))))))))))))))) := pm_Db (pm_Dr 1) (pm_Db (pm_Dr 1) (pm_Db (pm_Dr 1) (pm_Db (pm_Dr 1) (pm_Db (pm_Dr 1) (pm_Dr 0)))))
  obtain ⟨r3, h3⟩ := H
  by_cases c1 : r1 = 0
  · by_cases c2 : r2 = 0
    · refine ⟨r3, fun u post hp => ?_⟩
      obtain ⟨rs, tl, cp, sd, nm, ce, cc, bc, ix, oc, ab, ol, ov, lo, cs, a1, a2, a3, a4, a5, a6, a7, a8, a9, a10, a11, a12, a13, a14, a15, a16⟩ := u
      unfold wpX_isPlain
      dsimp only
      exact h1 _ _ (br_t c1 (h2 _ _ (br_t c2 (h3 () post hp))))
    · refine ⟨1, fun u post hp => ?_⟩
      obtain ⟨rs, tl, cp, sd, nm, ce, cc, bc, ix, oc, ab, ol, ov, lo, cs, a1, a2, a3, a4, a5, a6, a7, a8, a9, a10, a11, a12, a13, a14, a15, a16⟩ := u
      unfold wpX_isPlain
      dsimp only
      exact h1 _ _ (br_t c1 (h2 _ _ (br_f c2 hp)))
  · refine ⟨1, fun u post hp => ?_⟩
    obtain ⟨rs, tl, cp, sd, nm, ce, cc, bc, ix, oc, ab, ol, ov, lo, cs, a1, a2, a3, a4, a5, a6, a7, a8, a9, a10, a11, a12, a13, a14, a15, a16⟩ := u
    unfold wpX_isPlain
    dsimp only
    exact h1 _ _ (br_f c1 hp)

def pm_chr (x : Int32) : Prop := narrow .char (.int x) = .int x
/-- the state while the text is read -/
def pm_CK (tl : Nat) (nm : Int32) (ce cc bc ix oc ab : Nat) (a1 a3 a4 a5 a7 a8 a9 a11 a12 a13 a14 : Nat → Int32) : Prop :=
  tl ≤ 96 ∧ ix ≤ tl ∧ ce ≤ ix ∧ 3 * cc ≤ ix ∧ 3 * bc + ab ≤ ix ∧ oc ≤ 4 ∧ ab ≤ 1 ∧ ab ≤ oc ∧ (∀ k, pm_chr (a1 k)) ∧ pm_inv nm ce cc bc oc a3 a4 a5 a7 a8 a9 a11 a12 a13 a14
/-- a step of the reader: it answers 0 and leaves the state, or 1 and the state is sound and further on -/
def pm_stp (W : (Int32 → St2 → Prop) → Prop) (tl ix : Nat) (rs cp sd ol ov lo cs : Int32) (a1 a2 a15 a16 : Nat → Int32) (u : St2) : Prop :=
  (∀ post, post 0 u → W post) ∨ ∃ (nm : Int32) (ce cc bc ix' oc ab : Nat) (a3 a4 a5 a6 a7 a8 a9 a10 a11 a12 a13 a14 : Nat → Int32),
    pm_CK tl nm ce cc bc ix' oc ab a1 a3 a4 a5 a7 a8 a9 a11 a12 a13 a14 ∧ ix < ix' ∧ ∀ post, post 1 (rs, nI tl, cp, sd, nm, nI ce, nI cc, nI bc, nI ix', nI oc, nI ab, ol, ov, lo, cs, a1, a2, a3, a4, a5, a6, a7, a8, a9, a10, a11, a12, a13, a14, a15, a16) → W post

def pm_nx (tl ix : Nat) (a1 : Nat → Int32) (k : Nat) : Int32 := if ix + k < tl then a1 (ix + k) else 0
theorem pm_nx_lt {tl ix : Nat} {a1 : Nat → Int32} {k : Nat} (h : ¬ pm_nx tl ix a1 k = 0) : ix + k < tl := by
  by_cases e : ix + k < tl
  · exact e
  · exact absurd (if_neg e) h
theorem pm_next {rs cp sd nm ce cc bc oc ab ol ov lo cs : Int32} {a1 a2 a3 a4 a5 a6 a7 a8 a9 a10 a11 a12 a13 a14 a15 a16 : Nat → Int32} {tl ix : Nat} (k : Nat) {post : Int32 → Prop} {q : Int32} (hq : q = nI k) (ht : tl ≤ 96) (hi : ix ≤ 96) (hk : k ≤ 2) (hc : ∀ k, pm_chr (a1 k)) (hp : post (pm_nx tl ix a1 k)) : wpX_next post (rs, nI tl, cp, sd, nm, ce, cc, bc, nI ix, oc, ab, ol, ov, lo, cs, a1, a2, a3, a4, a5, a6, a7, a8, a9, a10, a11, a12, a13, a14, a15, a16) q := by
  subst hq
  unfold wpX_next
  dsimp only
  rw [nI_add, nI_clamp (show ix + k < 2 ^ 31 by omega)]
  unfold pm_nx at hp
  by_cases h : ix + k < tl
  · rw [if_pos h] at hp
    exact br_f (nI_ge h (by omega)) ⟨pk_in (ix + k) 96 (by omega), hc _, hp⟩
  · rw [if_neg h] at hp
    exact br_t (nI_le (by omega) (by omega)) hp
theorem pm_write {rs tl cp sd nm cc bc ix oc ab ol ov lo cs : Int32} {a1 a2 a3 a4 a5 a6 a7 a8 a9 a10 a11 a12 a13 a14 a15 a16 : Nat → Int32} {ce : Nat} {post : St2 → Prop} {p0 p1 v3 v4 : Int32} (hce : ce < 100) (e3 : p0.toInt8.toInt32 = v3) (e4 : (p1.toUInt32 % 65536).toInt32 = v4) (hp : post (rs, tl, cp, sd, nm, nI (ce + 1), cc, bc, ix, oc, ab, ol, ov, lo, cs, a1, a2, upd a3 ce v3, upd a4 ce v4, a5, a6, a7, a8, a9, a10, a11, a12, a13, a14, a15, a16)) : wpX_write post (rs, tl, cp, sd, nm, nI ce, cc, bc, ix, oc, ab, ol, ov, lo, cs, a1, a2, a3, a4, a5, a6, a7, a8, a9, a10, a11, a12, a13, a14, a15, a16) p0 p1 := by
  unfold wpX_write
  dsimp only
  rw [nI_clamp (show ce < 2 ^ 31 by omega), e3, e4]
  exact ⟨pk_in ce 100 hce, nm_e ⟨pk_in ce 100 hce, nm_e (nm_r (nI_1 ce) hp)⟩⟩
theorem pm_t : (0 : Int32).toInt8.toInt32 = 0 ∧ (1 : Int32).toInt8.toInt32 = 1 ∧ (2 : Int32).toInt8.toInt32 = 2 ∧ (3 : Int32).toInt8.toInt32 = 3 := by decide
theorem pm_184 {rs tl cp sd nm ce bc ix ab ol ov lo cs : Int32} {a1 a2 a3 a4 a5 a6 a7 a8 a9 a10 a11 a12 a13 a14 a15 a16 : Nat → Int32} {cc oc : Nat} {post : Int32 → St2 → Prop} {z0 v : Int32} (hv : vp_nar .byte z0 = v) (ho : oc ≤ 4) (hp : post 1 (rs, tl, cp, sd, nm, ce, nI (cc + 1), bc, ix, nI (oc + 1), 1, ol, ov, lo, cs, a1, a2, a3, a4, a5, a6, a7, a8, a9, a10, a11, a12, a13, upd a14 (oc + 1) v, a15, a16)) :
    wX_readBrace_184 post z0 (nI oc + 1) rs tl cp sd nm ce (nI cc) bc ix (nI oc) ab ol ov lo cs a1 a2 a3 a4 a5 a6 a7 a8 a9 a10 a11 a12 a13 a14 a15 a16 := by
  unfold wX_readBrace_184
  rw [nI_1 oc, nI_clamp (show oc + 1 < 2 ^ 31 by omega), hv]
  exact ⟨pk_in (oc + 1) 6 (by omega), nm_e (nm_e (nm_r (nI_1 cc) hp))⟩
theorem pm_120 {rs tl cp sd nm bc ix ab ol ov lo cs : Int32} {a1 a2 a3 a4 a5 a6 a7 a8 a9 a10 a11 a12 a13 a14 a15 a16 : Nat → Int32} {ce cc oc g : Nat} {post : Int32 → St2 → Prop} {x2 z0 v : Int32} (hcc : cc < 32) (hce : ce < 100) (ho : oc ≤ 4) (hv : (x2 = 63 ∧ vp_nar .byte (nI g).toInt8.toInt32 = v) ∨ (¬ x2 = 63 ∧ vp_nar .byte (a14 oc) = v))
    (hp : post 1 (rs, tl, cp, sd, nm, nI (ce + 1), nI (cc + 1), bc, ix, nI (oc + 1), 1, ol, ov, lo, cs, a1, a2, upd a3 ce 2, upd a4 ce (nI cc), a5, upd a6 cc (vp_nar .boolean z0), upd a7 cc (-1), a8, a9, a10, a11, a12, upd a13 oc (nI cc), upd a14 (oc + 1) v, a15, a16)) :
    wX_readBrace_120 post (nI g) x2 z0 (nI cc) rs tl cp sd nm (nI ce) (nI cc) bc ix (nI oc) ab ol ov lo cs a1 a2 a3 a4 a5 a6 a7 a8 a9 a10 a11 a12 a13 a14 a15 a16 := by
  unfold wX_readBrace_120
  rw [nI_clamp (show cc < 2 ^ 31 by omega)]
  refine ⟨pk_in cc 32 hcc, nm_e ⟨pk_in cc 32 hcc, nm_e (pm_write hce pm_t.2.2.1 (pm_c16 (by omega)) ?_)⟩⟩
  dsimp only
  rw [nI_clamp (show oc < 2 ^ 31 by omega), pm_i8 cc (by omega)]
  refine ⟨pk_in oc 5 (by omega), nm_e ?_⟩
  rcases hv with ⟨h, e⟩ | ⟨h, e⟩
  · exact br_t h (pm_184 e ho hp)
  · exact br_f h ⟨pk_in oc 6 (by omega), pm_184 e ho hp⟩
theorem pm_vsgn {nm v : Int32} (h : pm_sgn nm v) : vp_nar .byte v = v := by
  rw [vp_nar_byte]
  rcases h with h | ⟨g, hg, e, _⟩
  · rw [h]
    decide
  · rw [e]
    exact pm_i8 g (by omega)
end
section
theorem pm_brace {rs cp sd nm ol ov lo cs : Int32} {a1 a2 a3 a4 a5 a6 a7 a8 a9 a10 a11 a12 a13 a14 a15 a16 : Nat → Int32} {tl ce cc bc ix oc ab : Nat} (K : pm_CK tl nm ce cc bc ix oc ab a1 a3 a4 a5 a7 a8 a9 a11 a12 a13 a14) (h0 : ab = 0) :
    pm_stp (fun post => wpX_readBrace post (rs, nI tl, cp, sd, nm, nI ce, nI cc, nI bc, nI ix, nI oc, nI ab, ol, ov, lo, cs, a1, a2, a3, a4, a5, a6, a7, a8, a9, a10, a11, a12, a13, a14, a15, a16)) tl ix rs cp sd ol ov lo cs a1 a2 a15 a16 (rs, nI tl, cp, sd, nm, nI ce, nI cc, nI bc, nI ix, nI oc, nI ab, ol, ov, lo, cs, a1, a2, a3, a4, a5, a6, a7, a8, a9, a10, a11, a12, a13, a14, a15, a16) := by
  obtain ⟨k1, k2, k3, k4, k5, k6, k7, k8, kc, I⟩ := K
  have N1 : ∀ {post : Int32 → Prop}, post (pm_nx tl ix a1 1) → wpX_next post (rs, nI tl, cp, sd, nm, nI ce, nI cc, nI bc, nI ix, nI oc, nI ab, ol, ov, lo, cs, a1, a2, a3, a4, a5, a6, a7, a8, a9, a10, a11, a12, a13, a14, a15, a16) 1 := fun hp => pm_next 1 rfl k1 (by omega) (by omega) kc hp
  have N2 : ∀ {post : Int32 → Prop}, post (pm_nx tl ix a1 2) → wpX_next post (rs, nI tl, cp, sd, nm, nI ce, nI cc, nI bc, nI ix, nI oc, nI ab, ol, ov, lo, cs, a1, a2, a3, a4, a5, a6, a7, a8, a9, a10, a11, a12, a13, a14, a15, a16) 2 := fun hp => pm_next 2 rfl k1 (by omega) (by omega) kc hp
  by_cases c1 : nI oc = 4
  · refine Or.inl (fun post hp => ?_)
    unfold wpX_readBrace
    dsimp only
    exact N1 (nm_e (N2 (br_t c1 hp)))
  by_cases c2 : pm_nx tl ix a1 1 - 48 < 0
  · refine Or.inl (fun post hp => ?_)
    unfold wpX_readBrace
    dsimp only
    exact N1 (nm_e (N2 (br_f c1 (br_t c2 hp))))
  by_cases c3 : pm_nx tl ix a1 1 - 48 ≤ 3
  · obtain ⟨g, hg, eg⟩ := nI_of2 (M := 3) (n := 3) rfl c2 c3
    rw [eg] at c2 c3
    have hg4 : g < 4 := by omega
    have ho4 : oc < 4 := by
      rcases Nat.lt_or_ge oc 4 with z | z
      · exact z
      · exact absurd (show nI oc = 4 by rw [show oc = 4 by omega]; rfl) c1
    by_cases d1 : pm_nx tl ix a1 2 = 125
    · have hr : ix + 2 < tl := pm_nx_lt (by rw [d1]; decide)
      refine Or.inr ⟨pm_add nm g, ce + 1, cc, bc, ix + 3, oc, ab, upd a3 ce 1, upd a4 ce (nI g), a5, a6, a7, a8, a9, a10, a11, a12, a13, a14, ⟨k1, by omega, by omega, by omega, by omega, k6, k7, k8, kc, pm_wr (pm_nmd I hg4) (Or.inr (Or.inl ⟨pk_us, g, hg4, pk_us, pm_has_add I.1 hg4⟩))⟩, by omega, fun post hp => ?_⟩
      unfold wpX_readBrace
      dsimp only
      refine N1 (nm_r eg (N2 (br_f c1 (br_f c2 (br_t c3 (br_t d1 ?_))))))
      unfold wX_readBrace_54
      exact nm_e (nm_r (nI_add ix 3) (br_t d1 (pm_write (by omega) pm_t.2.1 (pm_c16 (by omega)) hp)))
    · have go : ∀ (x v : Int32), (pm_nx tl ix a1 2 = 63 ∨ pm_nx tl ix a1 2 = 58) → ((pm_nx tl ix a1 2 = 63 ∧ x = 1 ∧ v = nI g) ∨ (¬ pm_nx tl ix a1 2 = 63 ∧ x = 0 ∧ v = a14 oc)) → pm_stp (fun post => wpX_readBrace post (rs, nI tl, cp, sd, nm, nI ce, nI cc, nI bc, nI ix, nI oc, nI ab, ol, ov, lo, cs, a1, a2, a3, a4, a5, a6, a7, a8, a9, a10, a11, a12, a13, a14, a15, a16)) tl ix rs cp sd ol ov lo cs a1 a2 a15 a16 (rs, nI tl, cp, sd, nm, nI ce, nI cc, nI bc, nI ix, nI oc, nI ab, ol, ov, lo, cs, a1, a2, a3, a4, a5, a6, a7, a8, a9, a10, a11, a12, a13, a14, a15, a16) := by
        intro x v hk hx
        have hr : ix + 2 < tl := pm_nx_lt (by rcases hk with e | e <;> rw [e] <;> decide)
        have I1 := pm_nmd I hg4
        have sv : pm_sgn (pm_add nm g) v := by
          rcases hx with ⟨_, _, e⟩ | ⟨_, _, e⟩
          · exact Or.inr ⟨g, hg4, e, pm_has_add I.1 hg4⟩
          · rw [e]
            exact I1.2.2.2.2.2 oc (Nat.le_refl _)
        have hv : (pm_nx tl ix a1 2 = 63 ∧ vp_nar .byte (nI g).toInt8.toInt32 = v) ∨ (¬ pm_nx tl ix a1 2 = 63 ∧ vp_nar .byte (a14 oc) = v) := by
          rcases hx with ⟨z, _, e⟩ | ⟨z, _, e⟩
          · exact Or.inl ⟨z, by rw [pk_vb, pm_i8 g (by omega), e]⟩
          · refine Or.inr ⟨z, ?_⟩
            rw [← e]
            exact pm_vsgn sv
        refine Or.inr ⟨pm_add nm g, ce + 1, cc + 1, bc, ix + 3, oc + 1, 1, upd a3 ce 2, upd a4 ce (nI cc), upd a5 cc (nI g), upd a6 cc (vp_nar .boolean x), upd a7 cc (-1), a8, a9, a10, a11, a12, upd a13 oc (nI cc), upd a14 (oc + 1) v, ⟨k1, by omega, by omega, by omega, by omega, by omega, by omega, by omega, kc, pm_open I1 hg4 (pm_has_add I.1 hg4) sv⟩, by omega, fun post hp => ?_⟩
        unfold wpX_readBrace
        dsimp only
        refine N1 (nm_r eg (N2 (br_f c1 (br_f c2 (br_t c3 (br_f d1 ?_))))))
        have M : wX_readBrace_54 post (nI g) (pm_nx tl ix a1 2) rs (nI tl) cp sd nm (nI ce) (nI cc) (nI bc) (nI ix) (nI oc) (nI ab) ol ov lo cs a1 a2 a3 a4 a5 a6 a7 a8 a9 a10 a11 a12 a13 a14 a15 a16 := by
          unfold wX_readBrace_54
          refine nm_e (nm_r (nI_add ix 3) (br_f d1 ?_))
          rw [nI_clamp (show cc < 2 ^ 31 by omega), pm_i8 g (by omega)]
          refine ⟨pk_in cc 32 (by omega), nm_e ?_⟩
          rcases hx with ⟨z, e, _⟩ | ⟨z, e, _⟩
          · subst e
            exact br_t z (pm_120 (by omega) (by omega) k6 hv hp)
          · subst e
            exact br_f z (pm_120 (by omega) (by omega) k6 hv hp)
        by_cases z : pm_nx tl ix a1 2 = 63
        · exact br_t z M
        · exact br_f z (br_t (hk.resolve_left z) M)
      by_cases d2 : pm_nx tl ix a1 2 = 63
      · exact go 1 (nI g) (Or.inl d2) (Or.inl ⟨d2, rfl, rfl⟩)
      by_cases d3 : pm_nx tl ix a1 2 = 58
      · exact go 0 (a14 oc) (Or.inr d3) (Or.inr ⟨d2, rfl, rfl⟩)
      refine Or.inl (fun post hp => ?_)
      unfold wpX_readBrace
      dsimp only
      exact N1 (nm_r eg (N2 (br_f c1 (br_f c2 (br_t c3 (br_f d1 (br_f d2 (br_f d3 hp))))))))
  · refine Or.inl (fun post hp => ?_)
    unfold wpX_readBrace
    dsimp only
    exact N1 (nm_e (N2 (br_f c1 (br_f c2 (br_f c3 hp)))))

theorem pm_p109 {rs tl cp sd nm cc bc oc ab ol ov lo cs : Int32} {a1 a2 a3 a4 a5 a6 a7 a8 a9 a10 a11 a12 a13 a14 a15 a16 : Nat → Int32} {ce ix : Nat} {post : Int32 → St2 → Prop} {x1 : Int32} (hce : ce < 100) (hp : post 1 (rs, tl, cp, sd, nm, nI (ce + 1), cc, bc, nI (ix + 1), oc, ab, ol, ov, lo, cs, a1, a2, upd a3 ce 0, upd a4 ce ((x1.toUInt32 % 65536).toInt32), a5, a6, a7, a8, a9, a10, a11, a12, a13, a14, a15, a16)) :
    wX_readPiece_109 post x1 rs tl cp sd nm (nI ce) cc bc (nI ix) oc ab ol ov lo cs a1 a2 a3 a4 a5 a6 a7 a8 a9 a10 a11 a12 a13 a14 a15 a16 := by
  unfold wX_readPiece_109
  refine pm_write hce pm_t.1 rfl ?_
  dsimp only
  unfold wX_readPiece_120
  exact nm_r (nI_1 ix) hp
theorem pm_piece {rs cp sd nm ol ov lo cs : Int32} {a1 a2 a3 a4 a5 a6 a7 a8 a9 a10 a11 a12 a13 a14 a15 a16 : Nat → Int32} {tl ce cc bc ix oc ab : Nat} (K : pm_CK tl nm ce cc bc ix oc ab a1 a3 a4 a5 a7 a8 a9 a11 a12 a13 a14) (h1 : ix < tl) (h0 : ab = 0) :
    pm_stp (fun post => wpX_readPiece post (rs, nI tl, cp, sd, nm, nI ce, nI cc, nI bc, nI ix, nI oc, nI ab, ol, ov, lo, cs, a1, a2, a3, a4, a5, a6, a7, a8, a9, a10, a11, a12, a13, a14, a15, a16)) tl ix rs cp sd ol ov lo cs a1 a2 a15 a16 (rs, nI tl, cp, sd, nm, nI ce, nI cc, nI bc, nI ix, nI oc, nI ab, ol, ov, lo, cs, a1, a2, a3, a4, a5, a6, a7, a8, a9, a10, a11, a12, a13, a14, a15, a16) := by
  have K0 := K
  obtain ⟨k1, k2, k3, k4, k5, k6, k7, k8, kc, I⟩ := K
  have ea : a1 (nI ix).toNatClampNeg = a1 ix := by rw [nI_clamp (by omega)]
  have vi : vp_in (nI ix) 96 := pk_in ix 96 (by omega)
  by_cases e1 : a1 ix = 123
  · rcases pm_brace (rs := rs) (cp := cp) (sd := sd) (ol := ol) (ov := ov) (lo := lo) (cs := cs) (a2 := a2) (a6 := a6) (a10 := a10) (a15 := a15) (a16 := a16) K0 h0 with hb | ⟨nm', ce', cc', bc', ix', oc', ab', b3, b4, b5, b6, b7, b8, b9, b10, b11, b12, b13, b14, K', hl, hb⟩
    · refine Or.inl (fun post hp => ?_)
      unfold wpX_readPiece
      dsimp only
      exact ⟨vi, nm_r ea (br_t e1 (hb _ ⟨rfl, hp⟩))⟩
    · refine Or.inr ⟨nm', ce', cc', bc', ix', oc', ab', b3, b4, b5, b6, b7, b8, b9, b10, b11, b12, b13, b14, K', hl, fun post hp => ?_⟩
      unfold wpX_readPiece
      dsimp only
      exact ⟨vi, nm_r ea (br_t e1 (hb _ ⟨rfl, hp⟩))⟩
  by_cases e2 : a1 ix = 41
  · rcases Nat.eq_zero_or_pos oc with o0 | op
    · refine Or.inl (fun post hp => ?_)
      unfold wpX_readPiece
      dsimp only
      exact ⟨vi, nm_r ea (br_f e1 (br_t e2 (br_t (by rw [o0]; rfl) hp)))⟩
    · obtain ⟨o, rfl⟩ : ∃ o, oc = o + 1 := ⟨oc - 1, by omega⟩
      obtain ⟨c, hc, ec⟩ := I.2.2.2.2.1 o (by omega)
      refine Or.inr ⟨nm, ce + 1, cc, bc, ix + 1, o + 1, 1, upd a3 ce 3, upd a4 ce (nI c), a5, a6, a7, a8, a9, a10, a11, a12, a13, a14, ⟨k1, by omega, by omega, by omega, by omega, k6, by omega, by omega, kc, pm_wr I (Or.inr (Or.inr (Or.inr ⟨pk_us, c, hc, pk_us, Or.inl ⟨o, by omega, ec⟩⟩)))⟩, by omega, fun post hp => ?_⟩
      unfold wpX_readPiece
      dsimp only
      refine ⟨vi, nm_r ea (br_f e1 (br_t e2 (br_f (nI_ne0 (by omega) (by omega)) ⟨pk_in o 5 (by omega) (nI_pred o), ?_⟩)))⟩
      rw [nI_pred o, nI_clamp (show o < 2 ^ 31 by omega), ec]
      refine pm_write (by omega) pm_t.2.2.2 (pm_c16 (by omega)) ?_
      dsimp only
      unfold wX_readPiece_120
      exact nm_r (nI_1 ix) hp
  have wr : (∀ post : Int32 → St2 → Prop, wX_readPiece_109 post (a1 ix) rs (nI tl) cp sd nm (nI ce) (nI cc) (nI bc) (nI ix) (nI oc) (nI ab) ol ov lo cs a1 a2 a3 a4 a5 a6 a7 a8 a9 a10 a11 a12 a13 a14 a15 a16 → wpX_readPiece post (rs, nI tl, cp, sd, nm, nI ce, nI cc, nI bc, nI ix, nI oc, nI ab, ol, ov, lo, cs, a1, a2, a3, a4, a5, a6, a7, a8, a9, a10, a11, a12, a13, a14, a15, a16)) → pm_stp (fun post => wpX_readPiece post (rs, nI tl, cp, sd, nm, nI ce, nI cc, nI bc, nI ix, nI oc, nI ab, ol, ov, lo, cs, a1, a2, a3, a4, a5, a6, a7, a8, a9, a10, a11, a12, a13, a14, a15, a16)) tl ix rs cp sd ol ov lo cs a1 a2 a15 a16 (rs, nI tl, cp, sd, nm, nI ce, nI cc, nI bc, nI ix, nI oc, nI ab, ol, ov, lo, cs, a1, a2, a3, a4, a5, a6, a7, a8, a9, a10, a11, a12, a13, a14, a15, a16) := by
    intro hw
    exact Or.inr ⟨nm, ce + 1, cc, bc, ix + 1, oc, ab, upd a3 ce 0, upd a4 ce (((a1 ix).toUInt32 % 65536).toInt32), a5, a6, a7, a8, a9, a10, a11, a12, a13, a14, ⟨k1, by omega, by omega, by omega, by omega, k6, k7, k8, kc, pm_wr I (Or.inl pk_us)⟩, by omega, fun post hp => hw post (pm_p109 (by omega) hp)⟩
  by_cases e3 : a1 ix = 35
  · have eo : a14 (nI oc).toNatClampNeg = a14 oc := by rw [nI_clamp (by omega)]
    have vo : vp_in (nI oc) 6 := pk_in oc 6 (by omega)
    rcases I.2.2.2.2.2 oc (Nat.le_refl _) with es | ⟨g, hg, eg, hn⟩
    · refine wr (fun post hw => ?_)
      unfold wpX_readPiece
      dsimp only
      exact ⟨vi, nm_r ea (br_f e1 (br_f e2 (br_t e3 ⟨vo, br_t (by rw [eo, es]; decide) (br_t e3 hw)⟩)))⟩
    · refine Or.inr ⟨nm, ce + 1, cc, bc, ix + 1, oc, ab, upd a3 ce 1, upd a4 ce (nI g), a5, a6, a7, a8, a9, a10, a11, a12, a13, a14, ⟨k1, by omega, by omega, by omega, by omega, k6, k7, k8, kc, pm_wr I (Or.inr (Or.inl ⟨pk_us, g, hg, pk_us, hn⟩))⟩, by omega, fun post hp => ?_⟩
      unfold wpX_readPiece
      dsimp only
      refine ⟨vi, nm_r ea (br_f e1 (br_f e2 (br_t e3 ⟨vo, br_f (by rw [eo, eg]; exact nI_pos (by omega)) ⟨vo, ?_⟩⟩)))⟩
      rw [eo, eg]
      refine pm_write (by omega) pm_t.2.1 (pm_c16 (by omega)) ?_
      dsimp only
      unfold wX_readPiece_120
      exact nm_r (nI_1 ix) hp
  · obtain ⟨r, hr⟩ := pm_isPlain (a1 ix)
    by_cases er : r = 0
    · refine Or.inl (fun post hp => ?_)
      unfold wpX_readPiece
      dsimp only
      refine ⟨vi, nm_r ea (br_f e1 (br_f e2 (br_f e3 ?_)))⟩
      unfold wX_readPiece_95
      exact br_f e3 (hr _ _ (br_t er hp))
    · refine wr (fun post hw => ?_)
      unfold wpX_readPiece
      dsimp only
      refine ⟨vi, nm_r ea (br_f e1 (br_f e2 (br_f e3 ?_)))⟩
      unfold wX_readPiece_95
      exact br_f e3 (hr _ _ (br_f er hw))

theorem pm_oBr {rs tl cp sd nm ix ab ol ov lo cs : Int32} {a1 a2 a3 a4 a5 a6 a7 a8 a9 a10 a11 a12 a13 a14 a15 a16 : Nat → Int32} {ce cc bc oc c : Nat} (I : pm_inv nm ce cc bc oc a3 a4 a5 a7 a8 a9 a11 a12 a13 a14) (hcc : cc ≤ 32) (hb : bc < 32) (hce : ce ≤ 96) (hc : c < cc) (key : Int32) :
    ∃ b7 b8 b10 b11 b12, pm_inv nm ce cc (bc + 1) oc a3 a4 a5 b7 b8 a9 b11 b12 a13 a14 ∧ ∀ post : St2 → Prop, post (rs, tl, cp, sd, nm, nI ce, nI cc, nI (bc + 1), ix, nI oc, 0, ol, ov, lo, cs, a1, a2, a3, a4, a5, a6, b7, b8, a9, b10, b11, b12, a13, a14, a15, a16) → wpX_openBranch post (rs, tl, cp, sd, nm, nI ce, nI cc, nI bc, ix, nI oc, ab, ol, ov, lo, cs, a1, a2, a3, a4, a5, a6, a7, a8, a9, a10, a11, a12, a13, a14, a15, a16) (nI c) key := by
  have vb : vp_in (nI bc) 32 := pk_in bc 32 hb
  have vc : vp_in (nI c) 32 := pk_in c 32 (by omega)
  rcases (I.2.2.1 c hc).2 with h7 | ⟨f, l, hf, hl, h7, h8⟩
  · refine ⟨upd a7 c (nI bc), upd a8 c (nI bc), upd a10 bc ((key.toUInt32 % 65536).toInt32), upd a11 bc (nI ce), upd a12 bc (-1), pm_brn0 I, fun post hp => ?_⟩
    unfold wpX_openBranch
    dsimp only
    rw [nI_clamp (show bc < 2 ^ 31 by omega), nI_clamp (show c < 2 ^ 31 by omega), pm_i8 ce (by omega), pm_i8 bc (by omega), h7]
    refine nm_r (nI_1 bc) ⟨vb, nm_e ⟨vb, nm_e ⟨vb, nm_e ⟨vc, br_f (by decide) ⟨vc, nm_e ?_⟩⟩⟩⟩⟩
    unfold wX_openBranch_74
    rw [nI_clamp (show c < 2 ^ 31 by omega), pm_i8 bc (by omega)]
    exact ⟨vc, nm_e hp⟩
  · refine ⟨a7, upd a8 c (nI bc), upd a10 bc ((key.toUInt32 % 65536).toInt32), upd a11 bc (nI ce), upd (upd a12 bc (-1)) l (nI bc), pm_brn1 I hl ⟨f, hf, h7⟩, fun post hp => ?_⟩
    unfold wpX_openBranch
    dsimp only
    rw [nI_clamp (show bc < 2 ^ 31 by omega), nI_clamp (show c < 2 ^ 31 by omega), pm_i8 ce (by omega), pm_i8 bc (by omega), h8, nI_clamp (show l < 2 ^ 31 by omega)]
    refine nm_r (nI_1 bc) ⟨vb, nm_e ⟨vb, nm_e ⟨vb, nm_e ⟨vc, br_t (by rw [h7]; exact nI_pos' (by omega)) ⟨vc, pk_in l 32 (by omega), nm_e ?_⟩⟩⟩⟩⟩
    unfold wX_openBranch_74
    rw [nI_clamp (show c < 2 ^ 31 by omega), pm_i8 bc (by omega)]
    exact ⟨vc, nm_e hp⟩

theorem pm_branch {rs cp sd nm ol ov lo cs : Int32} {a1 a2 a3 a4 a5 a6 a7 a8 a9 a10 a11 a12 a13 a14 a15 a16 : Nat → Int32} {tl ce cc bc ix oc ab : Nat} (K : pm_CK tl nm ce cc bc ix oc ab a1 a3 a4 a5 a7 a8 a9 a11 a12 a13 a14) (h1 : ix < tl) (h0 : ab = 1) :
    pm_stp (fun post => wpX_readBranch post (rs, nI tl, cp, sd, nm, nI ce, nI cc, nI bc, nI ix, nI oc, nI ab, ol, ov, lo, cs, a1, a2, a3, a4, a5, a6, a7, a8, a9, a10, a11, a12, a13, a14, a15, a16)) tl ix rs cp sd ol ov lo cs a1 a2 a15 a16 (rs, nI tl, cp, sd, nm, nI ce, nI cc, nI bc, nI ix, nI oc, nI ab, ol, ov, lo, cs, a1, a2, a3, a4, a5, a6, a7, a8, a9, a10, a11, a12, a13, a14, a15, a16) := by
  obtain ⟨k1, k2, k3, k4, k5, k6, k7, k8, kc, I⟩ := K
  have N1 : ∀ {post : Int32 → Prop}, post (pm_nx tl ix a1 1) → wpX_next post (rs, nI tl, cp, sd, nm, nI ce, nI cc, nI bc, nI ix, nI oc, nI ab, ol, ov, lo, cs, a1, a2, a3, a4, a5, a6, a7, a8, a9, a10, a11, a12, a13, a14, a15, a16) 1 := fun hp => pm_next 1 rfl k1 (by omega) (by omega) kc hp
  have N2 : ∀ {post : Int32 → Prop}, post (pm_nx tl ix a1 2) → wpX_next post (rs, nI tl, cp, sd, nm, nI ce, nI cc, nI bc, nI ix, nI oc, nI ab, ol, ov, lo, cs, a1, a2, a3, a4, a5, a6, a7, a8, a9, a10, a11, a12, a13, a14, a15, a16) 2 := fun hp => pm_next 2 rfl k1 (by omega) (by omega) kc hp
  have ea : a1 (nI ix).toNatClampNeg = a1 ix := by rw [nI_clamp (by omega)]
  have vi : vp_in (nI ix) 96 := pk_in ix 96 (by omega)
  obtain ⟨o, rfl⟩ : ∃ o, oc = o + 1 := ⟨oc - 1, by omega⟩
  obtain ⟨c, hc, ec⟩ := I.2.2.2.2.1 o (by omega)
  have vo : vp_in (nI (o + 1) - 1) 5 := pk_in o 5 (by omega) (nI_pred o)
  have eo : a13 (nI (o + 1) - 1).toNatClampNeg = nI c := by rw [nI_pred o, nI_clamp (by omega), ec]
  have vc : vp_in (nI c) 32 := pk_in c 32 (by omega)
  have e7 : a7 (nI c).toNatClampNeg = a7 c := by rw [nI_clamp (by omega)]
  by_cases e1 : a1 ix = 125
  · rcases (I.2.2.1 c hc).2 with h7 | ⟨f, l, hf, hl, h7, h8⟩
    · refine Or.inl (fun post hp => ?_)
      unfold wpX_readBranch
      dsimp only
      exact ⟨vo, nm_r eo ⟨vi, nm_r ea (br_t e1 ⟨vc, br_f (by rw [e7, h7]; decide) hp⟩)⟩⟩
    · refine Or.inr ⟨nm, ce, cc, bc, ix + 1, o, 0, a3, a4, a5, a6, a7, a8, upd a9 c (nI ce), a10, a11, a12, a13, a14, ⟨k1, by omega, by omega, by omega, by omega, by omega, by omega, by omega, kc, pm_close I (by omega) hc ec⟩, by omega, fun post hp => ?_⟩
      unfold wpX_readBranch
      dsimp only
      refine ⟨vo, nm_r eo ⟨vi, nm_r ea (br_t e1 ⟨vc, br_t (by rw [e7, h7]; exact nI_pos' (by omega)) ⟨vc, nm_r ?_ (nm_r (nI_pred o) (nm_r (nI_1 ix) hp))⟩⟩)⟩⟩
      rw [nI_clamp (by omega), pm_i8 ce (by omega)]
  by_cases e2 : a1 ix = 61
  · obtain ⟨r, hr⟩ := pm_isDigit (pm_nx tl ix a1 1)
    by_cases er : r = 0
    · refine Or.inl (fun post hp => ?_)
      unfold wpX_readBranch
      dsimp only
      exact ⟨vo, nm_r eo ⟨vi, nm_r ea (br_f e1 (br_t e2 (N1 (hr _ _ (br_t er hp)))))⟩⟩
    by_cases en : pm_nx tl ix a1 2 = 40
    · have hr2 : ix + 2 < tl := pm_nx_lt (by rw [en]; decide)
      obtain ⟨b7, b8, b10, b11, b12, I', hw⟩ := pm_oBr (rs := rs) (tl := nI tl) (cp := cp) (sd := sd) (ix := nI ix) (ab := nI ab) (ol := ol) (ov := ov) (lo := lo) (cs := cs) (a1 := a1) (a2 := a2) (a6 := a6) (a10 := a10) (a15 := a15) (a16 := a16) I (by omega) (by omega) (by omega) hc (pm_nx tl ix a1 1 - 48)
      refine Or.inr ⟨nm, ce, cc, bc + 1, ix + 3, o + 1, 0, a3, a4, a5, a6, b7, b8, a9, b10, b11, b12, a13, a14, ⟨k1, by omega, by omega, by omega, by omega, by omega, by omega, by omega, kc, I'⟩, by omega, fun post hp => ?_⟩
      unfold wpX_readBranch
      dsimp only
      exact ⟨vo, nm_r eo ⟨vi, nm_r ea (br_f e1 (br_t e2 (N1 (hr _ _ (br_f er (N2 (br_t en (hw _ (nm_r (nI_add ix 3) hp)))))))))⟩⟩
    · refine Or.inl (fun post hp => ?_)
      unfold wpX_readBranch
      dsimp only
      exact ⟨vo, nm_r eo ⟨vi, nm_r ea (br_f e1 (br_t e2 (N1 (hr _ _ (br_f er (N2 (br_f en hp)))))))⟩⟩
  · obtain ⟨r, hr⟩ := pm_isLetter (a1 ix)
    by_cases er : r = 0
    · refine Or.inl (fun post hp => ?_)
      unfold wpX_readBranch
      dsimp only
      exact ⟨vo, nm_r eo ⟨vi, nm_r ea (br_f e1 (br_f e2 (hr _ _ (br_t er hp))))⟩⟩
    by_cases en : pm_nx tl ix a1 1 = 40
    · have hr2 : ix + 1 < tl := pm_nx_lt (by rw [en]; decide)
      obtain ⟨b7, b8, b10, b11, b12, I', hw⟩ := pm_oBr (rs := rs) (tl := nI tl) (cp := cp) (sd := sd) (ix := nI ix) (ab := nI ab) (ol := ol) (ov := ov) (lo := lo) (cs := cs) (a1 := a1) (a2 := a2) (a6 := a6) (a10 := a10) (a15 := a15) (a16 := a16) I (by omega) (by omega) (by omega) hc (a1 ix)
      refine Or.inr ⟨nm, ce, cc, bc + 1, ix + 2, o + 1, 0, a3, a4, a5, a6, b7, b8, a9, b10, b11, b12, a13, a14, ⟨k1, by omega, by omega, by omega, by omega, by omega, by omega, by omega, kc, I'⟩, by omega, fun post hp => ?_⟩
      unfold wpX_readBranch
      dsimp only
      exact ⟨vo, nm_r eo ⟨vi, nm_r ea (br_f e1 (br_f e2 (hr _ _ (br_f er (N1 (br_t en (hw _ (nm_r (nI_add ix 2) hp))))))))⟩⟩
    · refine Or.inl (fun post hp => ?_)
      unfold wpX_readBranch
      dsimp only
      exact ⟨vo, nm_r eo ⟨vi, nm_r ea (br_f e1 (br_f e2 (hr _ _ (br_f er (N1 (br_f en hp))))))⟩⟩
end
section
/-- the compiler's end: unsound, or all choices closed and the code sound -/
def pm_fin (W : (St2 → Prop) → Prop) (tl : Nat) (rs cp ol ov lo cs : Int32) (a1 a2 a15 a16 : Nat → Int32) : Prop :=
  ∃ (sd nm : Int32) (ce cc bc ix oc ab : Nat) (a3 a4 a5 a6 a7 a8 a9 a10 a11 a12 a13 a14 : Nat → Int32),
    (sd = 0 ∨ (sd = 1 ∧ oc = 0 ∧ pm_CK tl nm ce cc bc ix oc ab a1 a3 a4 a5 a7 a8 a9 a11 a12 a13 a14)) ∧ ∀ post, post (rs, nI tl, cp, sd, nm, nI ce, nI cc, nI bc, nI ix, nI oc, nI ab, ol, ov, lo, cs, a1, a2, a3, a4, a5, a6, a7, a8, a9, a10, a11, a12, a13, a14, a15, a16) → W post
theorem pm_one : ¬ (1 : Int32) = 0 := by decide
theorem pm_cloop {rs cp sd ol ov lo cs : Int32} {a1 a2 a15 a16 : Nat → Int32} {tl : Nat} : ∀ (d : Nat) (nm : Int32) (ce cc bc ix oc ab : Nat) (a3 a4 a5 a6 a7 a8 a9 a10 a11 a12 a13 a14 : Nat → Int32),
    pm_CK tl nm ce cc bc ix oc ab a1 a3 a4 a5 a7 a8 a9 a11 a12 a13 a14 → tl - ix ≤ d → pm_fin (fun post => wX_compile_57 post (d + 2) 1 rs (nI tl) cp sd nm (nI ce) (nI cc) (nI bc) (nI ix) (nI oc) (nI ab) ol ov lo cs a1 a2 a3 a4 a5 a6 a7 a8 a9 a10 a11 a12 a13 a14 a15 a16) tl rs cp ol ov lo cs a1 a2 a15 a16 := by
  intro d
  induction d with
  | zero =>
    intro nm ce cc bc ix oc ab a3 a4 a5 a6 a7 a8 a9 a10 a11 a12 a13 a14 K hd
    have k1 := K.1
    have k2 := K.2.1
    have hx : nI tl ≤ nI ix := nI_le (by omega) (by omega)
    by_cases ho : oc = 0
    · exact ⟨1, nm, ce, cc, bc, ix, oc, ab, a3, a4, a5, a6, a7, a8, a9, a10, a11, a12, a13, a14, Or.inr ⟨rfl, ho, K⟩, fun post hp => br_f pm_one (br_t hx (br_f pm_one (br_t (by rw [ho]; rfl) hp)))⟩
    · exact ⟨0, nm, ce, cc, bc, ix, oc, ab, a3, a4, a5, a6, a7, a8, a9, a10, a11, a12, a13, a14, Or.inl rfl, fun post hp => br_f pm_one (br_t hx (br_f pm_one (br_f (nI_ne0 (by omega) (by have := K.2.2.2.2.2.1; omega)) hp)))⟩
  | succ d ih =>
    intro nm ce cc bc ix oc ab a3 a4 a5 a6 a7 a8 a9 a10 a11 a12 a13 a14 K hd
    have k1 := K.1
    have k2 := K.2.1
    have k6 := K.2.2.2.2.2.1
    have k7 := K.2.2.2.2.2.2.1
    by_cases hlt : ix < tl
    · have hx : ¬ nI tl ≤ nI ix := nI_ge hlt (by omega)
      by_cases hab : ab = 0
      · have hab' : nI ab = 0 := by rw [hab]; rfl
        rcases pm_piece (rs := rs) (cp := cp) (sd := sd) (ol := ol) (ov := ov) (lo := lo) (cs := cs) (a2 := a2) (a6 := a6) (a10 := a10) (a15 := a15) (a16 := a16) K hlt hab with hb | ⟨nm', ce', cc', bc', ix', oc', ab', b3, b4, b5, b6, b7, b8, b9, b10, b11, b12, b13, b14, K', hl, hb⟩
        · exact ⟨0, nm, ce, cc, bc, ix, oc, ab, a3, a4, a5, a6, a7, a8, a9, a10, a11, a12, a13, a14, Or.inl rfl, fun post hp => br_f pm_one (br_f hx (br_t hab' (hb _ (br_t rfl (br_t rfl hp)))))⟩
        · obtain ⟨sd2, nm2, ce2, cc2, bc2, ix2, oc2, ab2, c3, c4, c5, c6, c7, c8, c9, c10, c11, c12, c13, c14, F, hw⟩ := ih nm' ce' cc' bc' ix' oc' ab' b3 b4 b5 b6 b7 b8 b9 b10 b11 b12 b13 b14 K' (by omega)
          exact ⟨sd2, nm2, ce2, cc2, bc2, ix2, oc2, ab2, c3, c4, c5, c6, c7, c8, c9, c10, c11, c12, c13, c14, F, fun post hp => br_f pm_one (br_f hx (br_t hab' (hb _ (hw post hp))))⟩
      · have hab' : ¬ nI ab = 0 := nI_ne0 (by omega) (by omega)
        rcases pm_branch (rs := rs) (cp := cp) (sd := sd) (ol := ol) (ov := ov) (lo := lo) (cs := cs) (a2 := a2) (a6 := a6) (a10 := a10) (a15 := a15) (a16 := a16) K hlt (by omega) with hb | ⟨nm', ce', cc', bc', ix', oc', ab', b3, b4, b5, b6, b7, b8, b9, b10, b11, b12, b13, b14, K', hl, hb⟩
        · exact ⟨0, nm, ce, cc, bc, ix, oc, ab, a3, a4, a5, a6, a7, a8, a9, a10, a11, a12, a13, a14, Or.inl rfl, fun post hp => br_f pm_one (br_f hx (br_f hab' (hb _ (br_t rfl (br_t rfl hp)))))⟩
        · obtain ⟨sd2, nm2, ce2, cc2, bc2, ix2, oc2, ab2, c3, c4, c5, c6, c7, c8, c9, c10, c11, c12, c13, c14, F, hw⟩ := ih nm' ce' cc' bc' ix' oc' ab' b3 b4 b5 b6 b7 b8 b9 b10 b11 b12 b13 b14 K' (by omega)
          exact ⟨sd2, nm2, ce2, cc2, bc2, ix2, oc2, ab2, c3, c4, c5, c6, c7, c8, c9, c10, c11, c12, c13, c14, F, fun post hp => br_f pm_one (br_f hx (br_f hab' (hb _ (hw post hp))))⟩
    · have hx : nI tl ≤ nI ix := nI_le (by omega) (by omega)
      by_cases ho : oc = 0
      · exact ⟨1, nm, ce, cc, bc, ix, oc, ab, a3, a4, a5, a6, a7, a8, a9, a10, a11, a12, a13, a14, Or.inr ⟨rfl, ho, K⟩, fun post hp => br_f pm_one (br_t hx (br_f pm_one (br_t (by rw [ho]; rfl) hp)))⟩
      · exact ⟨0, nm, ce, cc, bc, ix, oc, ab, a3, a4, a5, a6, a7, a8, a9, a10, a11, a12, a13, a14, Or.inl rfl, fun post hp => br_f pm_one (br_t hx (br_f pm_one (br_f (nI_ne0 (by omega) (by omega)) hp)))⟩
theorem pm_compile {rs sd nm ce cc bc ix oc ab ol ov lo cs : Int32} {a1 a2 a3 a4 a5 a6 a7 a8 a9 a10 a11 a12 a13 a14 a15 a16 : Nat → Int32} {tl : Nat} (ht : tl ≤ 96) (hc : ∀ k, pm_chr (a1 k)) : pm_fin (fun post => wpX_compile post (rs, nI tl, 0, sd, nm, ce, cc, bc, ix, oc, ab, ol, ov, lo, cs, a1, a2, a3, a4, a5, a6, a7, a8, a9, a10, a11, a12, a13, a14, a15, a16)) tl rs 1 ol ov lo cs a1 a2 a15 a16 := by
  have K : pm_CK tl 0 0 0 0 0 0 0 a1 a3 a4 a5 a7 a8 a9 a11 a12 a13 (upd a14 0 (-1)) := by
    refine ⟨ht, by omega, by omega, by omega, by omega, by omega, by omega, by omega, hc, pm_S_0, fun p hp => absurd hp (by omega), fun p hp => absurd hp (by omega), fun p hp => absurd hp (by omega), fun p hp => absurd hp (by omega), fun k hk => ?_⟩
    have e : k = 0 := by omega
    subst e
    exact Or.inl pk_us
  obtain ⟨sd2, nm2, ce2, cc2, bc2, ix2, oc2, ab2, c3, c4, c5, c6, c7, c8, c9, c10, c11, c12, c13, c14, F, hw⟩ := pm_cloop (rs := rs) (cp := 1) (sd := sd) (ol := ol) (ov := ov) (lo := lo) (cs := cs) (a2 := a2) (a15 := a15) (a16 := a16) tl 0 0 0 0 0 0 0 a3 a4 a5 a6 a7 a8 a9 a10 a11 a12 a13 (upd a14 0 (-1)) K (by omega)
  refine ⟨sd2, nm2, ce2, cc2, bc2, ix2, oc2, ab2, c3, c4, c5, c6, c7, c8, c9, c10, c11, c12, c13, c14, F, fun post hp => ?_⟩
  unfold wpX_compile
  dsimp only
  exact br_t rfl (nm_e ⟨tl + 2, hw post hp⟩)
end
section
/-- writes into an array, as an overlay -/
def pm_ap (o : Nat → Option Int32) (a : Nat → Int32) : Nat → Int32 := fun k => (o k).getD (a k)
def pm_oo (o2 o1 : Nat → Option Int32) : Nat → Option Int32 := fun k => (o2 k).or (o1 k)
def pm_up (k : Nat) (v : Int32) : Nat → Option Int32 := fun j => if j = k then some v else none
def pm_no : Nat → Option Int32 := fun _ => none
theorem pm_ap_oo (o2 o1 : Nat → Option Int32) (a : Nat → Int32) : pm_ap (pm_oo o2 o1) a = pm_ap o2 (pm_ap o1 a) := by
  funext k
  unfold pm_ap pm_oo
  cases o2 k <;> rfl
theorem pm_ap_no (a : Nat → Int32) : pm_ap pm_no a = a := rfl
theorem pm_ap_up (k : Nat) (v : Int32) (a : Nat → Int32) : upd a k v = pm_ap (pm_up k v) a := by
  funext j
  unfold pm_ap pm_up
  by_cases e : j = k
  · subst e
    rw [pk_us, if_pos rfl]
    rfl
  · rw [pk_un e, if_neg e]
    rfl
theorem pm_ap_id (o : Nat → Option Int32) (a : Nat → Int32) : pm_ap o (pm_ap o a) = pm_ap o a := by
  funext k
  unfold pm_ap
  cases o k <;> rfl

theorem pm_put (o : Nat) (ho : o ≤ 120) (ov p : Int32) : ∃ (o' : Nat) (ov' : Int32) (w : Nat → Option Int32), o' ≤ 120 ∧ ∀ {rs tl cp sd nm ce cc bc ix oc ab lo cs : Int32} {a1 a2 a3 a4 a5 a6 a7 a8 a9 a10 a11 a12 a13 a14 a15 a16 : Nat → Int32} {post : St2 → Prop}, post (rs, tl, cp, sd, nm, ce, cc, bc, ix, oc, ab, nI o', ov', lo, cs, a1, a2, a3, a4, a5, a6, a7, a8, a9, a10, a11, a12, a13, a14, pm_ap w a15, a16) → wpX_put post (rs, tl, cp, sd, nm, ce, cc, bc, ix, oc, ab, nI o, ov, lo, cs, a1, a2, a3, a4, a5, a6, a7, a8, a9, a10, a11, a12, a13, a14, a15, a16) p := by
  by_cases h : o = 120
  · refine ⟨o, 1, pm_no, ho, ?_⟩
    intro rs tl cp sd nm ce cc bc ix oc ab lo cs a1 a2 a3 a4 a5 a6 a7 a8 a9 a10 a11 a12 a13 a14 a15 a16 post hp
    exact br_t (by rw [h]; rfl) hp
  · refine ⟨o + 1, ov, pm_up o (vp_nar .char p), by omega, ?_⟩
    intro rs tl cp sd nm ce cc bc ix oc ab lo cs a1 a2 a3 a4 a5 a6 a7 a8 a9 a10 a11 a12 a13 a14 a15 a16 post hp
    refine br_f (fun z => h (pm_inj (by omega) (by omega) z)) ⟨pk_in o 120 (by omega), nm_r ?_ (nm_r (nI_1 o) hp)⟩
    rw [nI_clamp (by omega), pm_ap_up]
theorem pm_p100 (dv : Nat → Int32) : ∀ (m : Nat), m ≤ 10 → ∀ (o : Nat) (ov : Int32), o ≤ 120 → ∃ (o' : Nat) (ov' : Int32) (w : Nat → Option Int32), o' ≤ 120 ∧ ∀ {rs tl cp sd nm ce cc bc ix oc ab lo cs : Int32} {a1 a2 a3 a4 a5 a6 a7 a8 a9 a10 a11 a12 a13 a14 a15 a16 : Nat → Int32} {post : St2 → Prop} {x6 : Int32}, x6 = nI m - 1 → (∀ k, k < m → a16 k = dv k) → post (rs, tl, cp, sd, nm, ce, cc, bc, ix, oc, ab, nI o', ov', lo, cs, a1, a2, a3, a4, a5, a6, a7, a8, a9, a10, a11, a12, a13, a14, pm_ap w a15, a16) → wX_putNumber_100 post (m + 1) x6 rs tl cp sd nm ce cc bc ix oc ab (nI o) ov lo cs a1 a2 a3 a4 a5 a6 a7 a8 a9 a10 a11 a12 a13 a14 a15 a16 := by
  intro m
  induction m with
  | zero =>
    intro hm o ov ho
    refine ⟨o, ov, pm_no, ho, ?_⟩
    intro rs tl cp sd nm ce cc bc ix oc ab lo cs a1 a2 a3 a4 a5 a6 a7 a8 a9 a10 a11 a12 a13 a14 a15 a16 post x6 hx hd hp
    exact br_t (by rw [hx]; decide) hp
  | succ m ih =>
    intro hm o ov ho
    obtain ⟨o1, ov1, w1, ho1, h1⟩ := pm_put o ho ov (dv m)
    obtain ⟨o2, ov2, w2, ho2, h2⟩ := ih (by omega) o1 ov1 ho1
    refine ⟨o2, ov2, pm_oo w2 w1, ho2, ?_⟩
    intro rs tl cp sd nm ce cc bc ix oc ab lo cs a1 a2 a3 a4 a5 a6 a7 a8 a9 a10 a11 a12 a13 a14 a15 a16 post x6 hx hd hp
    rw [nI_pred] at hx
    subst hx
    rw [pm_ap_oo] at hp
    have e : a16 (nI m).toNatClampNeg = dv m := by
      rw [nI_clamp (by omega)]
      exact hd m (by omega)
    refine br_f (nI_pos (by omega)) ⟨pk_in m 10 (by omega), ?_⟩
    rw [e]
    refine h1 (nm_r ?_ (h2 rfl (fun k hk => hd k (by omega)) hp))
    rw [Int32.sub_eq_add_neg]
theorem pm_dg : ∀ (d k : Nat), k + d = 10 → ∀ x3 : Int64, ∃ (m : Nat) (w : Nat → Option Int32), m ≤ 10 ∧ (∀ j, k ≤ j → j < m → ∃ v, w j = some v) ∧ ∀ {rs tl cp sd nm ce cc bc ix oc ab ol ov lo cs : Int32} {a1 a2 a3 a4 a5 a6 a7 a8 a9 a10 a11 a12 a13 a14 a15 a16 : Nat → Int32} {post : St2 → Prop}, (∃ fu, wX_putNumber_100 post fu (nI m - 1) rs tl cp sd nm ce cc bc ix oc ab ol ov lo cs a1 a2 a3 a4 a5 a6 a7 a8 a9 a10 a11 a12 a13 a14 a15 (pm_ap w a16)) → wX_putNumber_41 post rs tl cp sd nm ce cc bc ix oc ab ol ov lo cs (d + 1) x3 (nI k) (nI k) a1 a2 a3 a4 a5 a6 a7 a8 a9 a10 a11 a12 a13 a14 a15 a16 := by
  intro d
  induction d with
  | zero =>
    intro k hk x3
    refine ⟨k, pm_no, by omega, fun j h1 h2 => absurd h2 (by omega), ?_⟩
    intro rs tl cp sd nm ce cc bc ix oc ab ol ov lo cs a1 a2 a3 a4 a5 a6 a7 a8 a9 a10 a11 a12 a13 a14 a15 a16 post hp
    exact br_t (nI_le (show 10 ≤ k by omega) (by omega)) (nm_e hp)
  | succ d ih =>
    intro k hk x3
    by_cases hc : 0 < x3 ∨ nI k = 0
    · obtain ⟨m, w, hm, hj, hw⟩ := ih (k + 1) (by omega) (x3 / 10)
      have hd : ∃ v, v = ((48 + ((x3 - x3 / 10 * 10).toInt32)).toUInt32 % 65536).toInt32 := ⟨_, rfl⟩
      obtain ⟨v, ev⟩ := hd
      refine ⟨m, pm_oo w (pm_up k v), hm, fun j h1 h2 => ?_, ?_⟩
      · by_cases e : j = k
        · subst e
          unfold pm_oo pm_up
          rw [if_pos rfl]
          cases w j with
          | none => exact ⟨v, rfl⟩
          | some y => exact ⟨y, rfl⟩
        · obtain ⟨y, hy⟩ := hj j (by omega) h2
          refine ⟨y, ?_⟩
          unfold pm_oo
          rw [hy]
          rfl
      · intro rs tl cp sd nm ce cc bc ix oc ab ol ov lo cs a1 a2 a3 a4 a5 a6 a7 a8 a9 a10 a11 a12 a13 a14 a15 a16 post hp
        rw [pm_ap_oo] at hp
        have M : wX_putNumber_59 post (wX_putNumber_41 post rs tl cp sd nm ce cc bc ix oc ab ol ov lo cs (d + 1)) x3 (nI k) rs tl cp sd nm ce cc bc ix oc ab ol ov lo cs a1 a2 a3 a4 a5 a6 a7 a8 a9 a10 a11 a12 a13 a14 a15 a16 := by
          unfold wX_putNumber_59
          rw [nI_clamp (show k < 2 ^ 31 by omega), ← ev]
          exact ⟨by decide, pk_in k 10 (by omega), nm_r (pm_ap_up k v a16) ⟨by decide, nm_e (nm_r (nI_1 k) (nm_r (nI_1 k) (hw hp)))⟩⟩
        refine br_f (nI_ge (b := 10) (show k < 10 by omega) (by decide)) ?_
        by_cases c1 : 0 < x3
        · exact br_t c1 M
        · exact br_f c1 (br_t (hc.resolve_left c1) M)
    · refine ⟨k, pm_no, by omega, fun j h1 h2 => absurd h2 (by omega), ?_⟩
      intro rs tl cp sd nm ce cc bc ix oc ab ol ov lo cs a1 a2 a3 a4 a5 a6 a7 a8 a9 a10 a11 a12 a13 a14 a15 a16 post hp
      exact br_f (nI_ge (b := 10) (show k < 10 by omega) (by decide)) (br_f (fun z => hc (Or.inl z)) (br_f (fun z => hc (Or.inr z)) (nm_e hp)))
theorem pm_pn (v : Int32) (g : Nat) (hg : g < 4) (o : Nat) (ho : o ≤ 120) (ov : Int32) : ∃ (o' : Nat) (ov' : Int32) (w15 w16 : Nat → Option Int32), o' ≤ 120 ∧ ∀ {rs tl cp sd nm ce cc bc ix oc ab lo cs : Int32} {a1 a2 a3 a4 a5 a6 a7 a8 a9 a10 a11 a12 a13 a14 a15 a16 : Nat → Int32} {post : St2 → Prop}, a2 g = v → post (rs, tl, cp, sd, nm, ce, cc, bc, ix, oc, ab, nI o', ov', pm_add lo g, cs, a1, a2, a3, a4, a5, a6, a7, a8, a9, a10, a11, a12, a13, a14, pm_ap w15 a15, pm_ap w16 a16) → wpX_putNumber post (rs, tl, cp, sd, nm, ce, cc, bc, ix, oc, ab, nI o, ov, lo, cs, a1, a2, a3, a4, a5, a6, a7, a8, a9, a10, a11, a12, a13, a14, a15, a16) (nI g) := by
  have tail : ∀ (x3 : Int64) (o : Nat) (ov : Int32), o ≤ 120 → ∃ (o' : Nat) (ov' : Int32) (w15 w16 : Nat → Option Int32), o' ≤ 120 ∧ ∀ {rs tl cp sd nm ce cc bc ix oc ab lo cs : Int32} {a1 a2 a3 a4 a5 a6 a7 a8 a9 a10 a11 a12 a13 a14 a15 a16 : Nat → Int32} {post : St2 → Prop}, post (rs, tl, cp, sd, nm, ce, cc, bc, ix, oc, ab, nI o', ov', lo, cs, a1, a2, a3, a4, a5, a6, a7, a8, a9, a10, a11, a12, a13, a14, pm_ap w15 a15, pm_ap w16 a16) → ∃ fu, wX_putNumber_41 post rs tl cp sd nm ce cc bc ix oc ab (nI o) ov lo cs fu x3 0 0 a1 a2 a3 a4 a5 a6 a7 a8 a9 a10 a11 a12 a13 a14 a15 a16 := by
    intro x3 o ov ho
    obtain ⟨m, w, hm, hj, hw⟩ := pm_dg 10 0 rfl x3
    obtain ⟨o2, ov2, w2, ho2, h2⟩ := pm_p100 (fun k => (w k).getD 0) m hm o ov ho
    refine ⟨o2, ov2, w2, w, ho2, ?_⟩
    intro rs tl cp sd nm ce cc bc ix oc ab lo cs a1 a2 a3 a4 a5 a6 a7 a8 a9 a10 a11 a12 a13 a14 a15 a16 post hp
    refine ⟨11, hw ⟨m + 1, h2 rfl (fun k hk => ?_) hp⟩⟩
    obtain ⟨y, hy⟩ := hj k (by omega) hk
    show (w k).getD (a16 k) = (w k).getD 0
    rw [hy]
    rfl
  by_cases hv : 0 ≤ v
  · obtain ⟨o2, ov2, w15, w16, ho2, h2⟩ := tail v.toInt64 o ov ho
    refine ⟨o2, ov2, w15, w16, ho2, ?_⟩
    intro rs tl cp sd nm ce cc bc ix oc ab lo cs a1 a2 a3 a4 a5 a6 a7 a8 a9 a10 a11 a12 a13 a14 a15 a16 post ea hp
    unfold wpX_putNumber
    dsimp only
    refine nm_e ⟨pk_in g 4 hg, nm_r (show a2 (nI g).toNatClampNeg = v by rw [nI_clamp (by omega), ea]) ?_⟩
    exact br_t hv (br_t hv (h2 hp))
  · obtain ⟨o1, ov1, w1, ho1, h1⟩ := pm_put o ho ov 45
    obtain ⟨o2, ov2, w15, w16, ho2, h2⟩ := tail (-v.toInt64) o1 ov1 ho1
    refine ⟨o2, ov2, pm_oo w15 w1, w16, ho2, ?_⟩
    intro rs tl cp sd nm ce cc bc ix oc ab lo cs a1 a2 a3 a4 a5 a6 a7 a8 a9 a10 a11 a12 a13 a14 a15 a16 post ea hp
    rw [pm_ap_oo] at hp
    unfold wpX_putNumber
    dsimp only
    refine nm_e ⟨pk_in g 4 hg, nm_r (show a2 (nI g).toNatClampNeg = v by rw [nI_clamp (by omega), ea]) ?_⟩
    exact br_f hv (br_f hv (h1 (h2 hp)))
end
section
theorem pm_select (v : Int32) : pm_D (fun (u : St2) post => wpX_selectLetter post u v) := pm_Db (pm_Dr 120) (pm_Db (pm_Dr 120) (pm_Dr _))
theorem pm_pl67 (x4 x5 : Int32) : ∃ r : Int32, ∀ {rs tl cp sd nm ce cc bc ix oc ab ol ov lo cs : Int32} {a1 a2 a3 a4 a5 a6 a7 a8 a9 a10 a11 a12 a13 a14 a15 a16 : Nat → Int32} {post : Int32 → Prop}, post r → wX_pluralLetter_67 post x4 x5 rs tl cp sd nm ce cc bc ix oc ab ol ov lo cs a1 a2 a3 a4 a5 a6 a7 a8 a9 a10 a11 a12 a13 a14 a15 a16 := by
  have H : ∀ z0 : Int32, ∃ r : Int32, ∀ {rs tl cp sd nm ce cc bc ix oc ab ol ov lo cs : Int32} {a1 a2 a3 a4 a5 a6 a7 a8 a9 a10 a11 a12 a13 a14 a15 a16 : Nat → Int32} {post : Int32 → Prop}, post r → wX_pluralLetter_86 post x4 z0 rs tl cp sd nm ce cc bc ix oc ab ol ov lo cs a1 a2 a3 a4 a5 a6 a7 a8 a9 a10 a11 a12 a13 a14 a15 a16 := by
    intro z0
    by_cases c1 : x4 < 2
    · exact ⟨109, fun hp => br_t c1 hp⟩
    by_cases c2 : 4 < x4
    · exact ⟨109, fun hp => br_f c1 (br_t c2 hp)⟩
    by_cases c3 : z0 = 0
    · exact ⟨102, fun hp => br_f c1 (br_f c2 (br_t c3 hp))⟩
    · exact ⟨109, fun hp => br_f c1 (br_f c2 (br_f c3 hp))⟩
  by_cases c1 : x5 < 12
  · obtain ⟨r, hr⟩ := H 0
    exact ⟨r, fun hp => br_t c1 (hr hp)⟩
  by_cases c2 : 14 < x5
  · obtain ⟨r, hr⟩ := H 0
    exact ⟨r, fun hp => br_f c1 (br_t c2 (hr hp))⟩
  · obtain ⟨r, hr⟩ := H 1
    exact ⟨r, fun hp => br_f c1 (br_f c2 (hr hp))⟩
theorem pm_pl162 (x5 : Int32) : ∃ r : Int32, ∀ {rs tl cp sd nm ce cc bc ix oc ab ol ov lo cs : Int32} {a1 a2 a3 a4 a5 a6 a7 a8 a9 a10 a11 a12 a13 a14 a15 a16 : Nat → Int32} {post : Int32 → Prop}, post r → wX_pluralLetter_162 post x5 rs tl cp sd nm ce cc bc ix oc ab ol ov lo cs a1 a2 a3 a4 a5 a6 a7 a8 a9 a10 a11 a12 a13 a14 a15 a16 := by
  by_cases c1 : x5 < 11
  · exact ⟨120, fun hp => br_t c1 hp⟩
  · exact ⟨109, fun hp => br_f c1 hp⟩
theorem pm_mag (v : Int32) : ∃ r : Int64, ∀ {rs tl cp sd nm ce cc bc ix oc ab ol ov lo cs : Int32} {a1 a2 a3 a4 a5 a6 a7 a8 a9 a10 a11 a12 a13 a14 a15 a16 : Nat → Int32} {post : Int64 → Prop}, post r → wpX_magnitude post (rs, tl, cp, sd, nm, ce, cc, bc, ix, oc, ab, ol, ov, lo, cs, a1, a2, a3, a4, a5, a6, a7, a8, a9, a10, a11, a12, a13, a14, a15, a16) v := by
  by_cases c1 : 0 ≤ v
  · exact ⟨_, fun hp => br_t c1 hp⟩
  · exact ⟨_, fun hp => br_f c1 hp⟩
theorem pm_plural (rs v : Int32) : ∃ r : Int32, ∀ {tl cp sd nm ce cc bc ix oc ab ol ov lo cs : Int32} {a1 a2 a3 a4 a5 a6 a7 a8 a9 a10 a11 a12 a13 a14 a15 a16 : Nat → Int32} {post : Int32 → Prop}, post r → wpX_pluralLetter post (rs, tl, cp, sd, nm, ce, cc, bc, ix, oc, ab, ol, ov, lo, cs, a1, a2, a3, a4, a5, a6, a7, a8, a9, a10, a11, a12, a13, a14, a15, a16) v := by
  obtain ⟨n, hn⟩ := pm_mag v
  have ht : ¬ (10 : Int64) = 0 := by decide
  have hh : ¬ (100 : Int64) = 0 := by decide
  have U : (∃ r : Int32, ∀ {tl cp sd nm ce cc bc ix oc ab ol ov lo cs : Int32} {a1 a2 a3 a4 a5 a6 a7 a8 a9 a10 a11 a12 a13 a14 a15 a16 : Nat → Int32} {post : Int32 → Prop}, post r → ((rs = 0 → (((n = 1 → (post 111)) ∧ (¬ n = 1 → (post 120))))) ∧ (¬ rs = 0 → (((rs = 1 → ((((n - n / 10 * 10).toInt32 = 1 → ((((n - n / 100 * 100).toInt32 = 11 → (wX_pluralLetter_67 post (n - n / 10 * 10).toInt32 (n - n / 100 * 100).toInt32 rs tl cp sd nm ce cc bc ix oc ab ol ov lo cs a1 a2 a3 a4 a5 a6 a7 a8 a9 a10 a11 a12 a13 a14 a15 a16)) ∧ (¬ (n - n / 100 * 100).toInt32 = 11 → (post 111))))) ∧ (¬ (n - n / 10 * 10).toInt32 = 1 → (wX_pluralLetter_67 post (n - n / 10 * 10).toInt32 (n - n / 100 * 100).toInt32 rs tl cp sd nm ce cc bc ix oc ab ol ov lo cs a1 a2 a3 a4 a5 a6 a7 a8 a9 a10 a11 a12 a13 a14 a15 a16))))) ∧ (¬ rs = 1 → (((2 < n → ((((n - n / 100 * 100).toInt32 < 3 → (wX_pluralLetter_162 post (n - n / 100 * 100).toInt32 rs tl cp sd nm ce cc bc ix oc ab ol ov lo cs a1 a2 a3 a4 a5 a6 a7 a8 a9 a10 a11 a12 a13 a14 a15 a16)) ∧ (¬ (n - n / 100 * 100).toInt32 < 3 → (((10 < (n - n / 100 * 100).toInt32 → (wX_pluralLetter_162 post (n - n / 100 * 100).toInt32 rs tl cp sd nm ce cc bc ix oc ab ol ov lo cs a1 a2 a3 a4 a5 a6 a7 a8 a9 a10 a11 a12 a13 a14 a15 a16)) ∧ (¬ 10 < (n - n / 100 * 100).toInt32 → (post 102)))))))) ∧ (¬ 2 < n → (((n = 0 → (post 122)) ∧ (¬ n = 0 → (((n = 1 → (post 111)) ∧ (¬ n = 1 → (post 116)))))))))))))))) → ∃ r : Int32, ∀ {tl cp sd nm ce cc bc ix oc ab ol ov lo cs : Int32} {a1 a2 a3 a4 a5 a6 a7 a8 a9 a10 a11 a12 a13 a14 a15 a16 : Nat → Int32} {post : Int32 → Prop}, post r → wpX_pluralLetter post (rs, tl, cp, sd, nm, ce, cc, bc, ix, oc, ab, ol, ov, lo, cs, a1, a2, a3, a4, a5, a6, a7, a8, a9, a10, a11, a12, a13, a14, a15, a16) v := by
    rintro ⟨r, hr⟩
    refine ⟨r, ?_⟩
    intro tl cp sd nm ce cc bc ix oc ab ol ov lo cs a1 a2 a3 a4 a5 a6 a7 a8 a9 a10 a11 a12 a13 a14 a15 a16 post hp
    unfold wpX_pluralLetter
    dsimp only
    exact hn ⟨ht, nm_e ⟨hh, nm_e (hr hp)⟩⟩
  apply U
  obtain ⟨r6, h6⟩ := pm_pl67 (n - n / 10 * 10).toInt32 (n - n / 100 * 100).toInt32
  obtain ⟨r1, h1⟩ := pm_pl162 (n - n / 100 * 100).toInt32
  by_cases c0 : rs = 0
  · by_cases c1 : n = 1
    · exact ⟨_, fun hp => br_t c0 (br_t c1 hp)⟩
    · exact ⟨_, fun hp => br_t c0 (br_f c1 hp)⟩
  by_cases c2 : rs = 1
  · by_cases c3 : (n - n / 10 * 10).toInt32 = 1
    · by_cases c4 : (n - n / 100 * 100).toInt32 = 11
      · exact ⟨r6, fun hp => br_f c0 (br_t c2 (br_t c3 (br_t c4 (h6 hp))))⟩
      · exact ⟨_, fun hp => br_f c0 (br_t c2 (br_t c3 (br_f c4 hp)))⟩
    · exact ⟨r6, fun hp => br_f c0 (br_t c2 (br_f c3 (h6 hp)))⟩
  by_cases c5 : 2 < n
  · by_cases c6 : (n - n / 100 * 100).toInt32 < 3
    · exact ⟨r1, fun hp => br_f c0 (br_f c2 (br_t c5 (br_t c6 (h1 hp))))⟩
    by_cases c7 : 10 < (n - n / 100 * 100).toInt32
    · exact ⟨r1, fun hp => br_f c0 (br_f c2 (br_t c5 (br_f c6 (br_t c7 (h1 hp)))))⟩
    · exact ⟨_, fun hp => br_f c0 (br_f c2 (br_t c5 (br_f c6 (br_f c7 hp))))⟩
  by_cases c8 : n = 0
  · exact ⟨_, fun hp => br_f c0 (br_f c2 (br_f c5 (br_t c8 hp)))⟩
  by_cases c9 : n = 1
  · exact ⟨_, fun hp => br_f c0 (br_f c2 (br_f c5 (br_f c8 (br_t c9 hp))))⟩
  · exact ⟨_, fun hp => br_f c0 (br_f c2 (br_f c5 (br_f c8 (br_f c9 hp))))⟩

theorem pm_neg1 : (-1 : Int32) < 0 := by decide
theorem pm_neg1' : ¬ 0 ≤ (-1 : Int32) := by decide
theorem pm_fb7 {bc : Nat} {a10 a12 : Nat → Int32} (hb : bc ≤ 32) (hn : ∀ b, b < bc → pm_nxt bc a12 b) (key : Int32) : ∀ (d b : Nat), b < bc → bc - b ≤ d → ∃ r : Int32, (r = -1 ∨ ∃ b', b ≤ b' ∧ b' < bc ∧ r = nI b') ∧ ∀ {rs tl cp sd nm ce cc ix oc ab ol ov lo cs : Int32} {a1 a2 a3 a4 a5 a6 a7 a8 a9 a11 a13 a14 a15 a16 : Nat → Int32} {bcI : Int32} {post : Int32 → Prop}, post r → wX_findBranch_7 post key rs tl cp sd nm ce cc bcI ix oc ab ol ov lo cs a1 a2 a3 a4 a5 a6 a7 a8 a9 a10 a11 a12 a13 a14 a15 a16 (d + 1) (nI b) := by
  intro d
  induction d with
  | zero =>
    intro b h1 h2
    exact absurd h2 (by omega)
  | succ d ih =>
    intro b h1 h2
    have e10 : a10 (nI b).toNatClampNeg = a10 b := by rw [nI_clamp (by omega)]
    have e12 : a12 (nI b).toNatClampNeg = a12 b := by rw [nI_clamp (by omega)]
    have vb : vp_in (nI b) 32 := pk_in b 32 (by omega)
    have nb : ¬ nI b < 0 := nI_pos (by omega)
    by_cases hk : a10 b = key
    · refine ⟨nI b, Or.inr ⟨b, Nat.le_refl _, h1, rfl⟩, ?_⟩
      intro rs tl cp sd nm ce cc ix oc ab ol ov lo cs a1 a2 a3 a4 a5 a6 a7 a8 a9 a11 a13 a14 a15 a16 bcI post hp
      exact br_f nb ⟨vb, br_t (e10.trans hk) hp⟩
    · have hk' : ¬ a10 (nI b).toNatClampNeg = key := fun z => hk (e10.symm.trans z)
      rcases hn b h1 with h | ⟨n, n1, n2, n3⟩
      · refine ⟨-1, Or.inl rfl, ?_⟩
        intro rs tl cp sd nm ce cc ix oc ab ol ov lo cs a1 a2 a3 a4 a5 a6 a7 a8 a9 a11 a13 a14 a15 a16 bcI post hp
        exact br_f nb ⟨vb, br_f hk' ⟨vb, nm_r (e12.trans h) (br_t pm_neg1 hp)⟩⟩
      · obtain ⟨r, hr, hw⟩ := ih n n2 (by omega)
        refine ⟨r, ?_, ?_⟩
        · rcases hr with z | ⟨b', z1, z2, z3⟩
          · exact Or.inl z
          · exact Or.inr ⟨b', by omega, z2, z3⟩
        · intro rs tl cp sd nm ce cc ix oc ab ol ov lo cs a1 a2 a3 a4 a5 a6 a7 a8 a9 a11 a13 a14 a15 a16 bcI post hp
          exact br_f nb ⟨vb, br_f hk' ⟨vb, nm_r (e12.trans n3) (hw hp)⟩⟩
/-- a branch found: none, or one that starts behind p -/
def pm_ob (ce bc p : Nat) (a11 : Nat → Int32) (r : Int32) : Prop := r = -1 ∨ ∃ b, b < bc ∧ r = nI b ∧ ∃ s, p < s ∧ s ≤ ce ∧ a11 b = nI s
theorem pm_fb {ce bc p c : Nat} {a7 a10 a11 a12 : Nat → Int32} (hb : bc ≤ 32) (hc : c < 32) (hn : ∀ b, b < bc → pm_nxt bc a12 b) (hf : pm_fst ce bc a7 a11 p c) (key : Int32) :
    ∃ r : Int32, pm_ob ce bc p a11 r ∧ ∀ {rs tl cp sd nm ce cc ix oc ab ol ov lo cs : Int32} {a1 a2 a3 a4 a5 a6 a8 a9 a11 a13 a14 a15 a16 : Nat → Int32} {bcI : Int32} {post : Int32 → Prop}, post r → wpX_findBranch post (rs, tl, cp, sd, nm, ce, cc, bcI, ix, oc, ab, ol, ov, lo, cs, a1, a2, a3, a4, a5, a6, a7, a8, a9, a10, a11, a12, a13, a14, a15, a16) (nI c) key := by
  have e7 : a7 (nI c).toNatClampNeg = a7 c := by rw [nI_clamp (by omega)]
  have vc : vp_in (nI c) 32 := pk_in c 32 hc
  rcases hf with h | ⟨f, f1, f2, f3⟩
  · refine ⟨-1, Or.inl rfl, ?_⟩
    intro rs tl cp sd nm ce cc ix oc ab ol ov lo cs a1 a2 a3 a4 a5 a6 a8 a9 a11 a13 a14 a15 a16 bcI post hp
    unfold wpX_findBranch
    dsimp only
    exact ⟨vc, nm_r (e7.trans h) ⟨1, br_t pm_neg1 hp⟩⟩
  · obtain ⟨r, hr, hw⟩ := pm_fb7 (a10 := a10) hb hn key 32 f f1 (by omega)
    refine ⟨r, ?_, ?_⟩
    · rcases hr with z | ⟨b', z1, z2, z3⟩
      · exact Or.inl z
      · exact Or.inr ⟨b', z2, z3, f3 b' z1 z2⟩
    · intro rs tl cp sd nm ce cc ix oc ab ol ov lo cs a1 a2 a3 a4 a5 a6 a8 a9 a11 a13 a14 a15 a16 bcI post hp
      unfold wpX_findBranch
      dsimp only
      exact ⟨vc, nm_r (e7.trans f2) ⟨33, hw hp⟩⟩

theorem pm_bo99 {ce bc p c : Nat} {a9 a11 : Nat → Int32} (hb : bc ≤ 32) (hc : c < 32) (he : ∃ e, p < e ∧ e ≤ ce ∧ a9 c = nI e) {x4 : Int32} (hx : pm_ob ce bc p a11 x4) :
    ∃ t : Nat, p < t ∧ t ≤ ce ∧ ∀ {rs tl cp sd nm ce cc bc ix oc ab ol ov lo cs : Int32} {a1 a2 a3 a4 a5 a6 a7 a8 a10 a12 a13 a14 a15 a16 : Nat → Int32} {post : Int32 → St2 → Prop}, post (nI t) (rs, tl, cp, sd, nm, ce, cc, bc, ix, oc, ab, ol, ov, lo, cs, a1, a2, a3, a4, a5, a6, a7, a8, a9, a10, a11, a12, a13, a14, a15, a16) → wX_branchOf_99 post (nI c) x4 rs tl cp sd nm ce cc bc ix oc ab ol ov lo cs a1 a2 a3 a4 a5 a6 a7 a8 a9 a10 a11 a12 a13 a14 a15 a16 := by
  rcases hx with h | ⟨b, hb', eb, s, s1, s2, s3⟩
  · obtain ⟨e, e1, e2, e3⟩ := he
    refine ⟨e, e1, e2, ?_⟩
    intro rs tl cp sd nm ce cc bc ix oc ab ol ov lo cs a1 a2 a3 a4 a5 a6 a7 a8 a10 a12 a13 a14 a15 a16 post hp
    unfold wX_branchOf_99
    rw [h, nI_clamp (show c < 2 ^ 31 by omega), e3]
    exact br_f pm_neg1' ⟨pk_in c 32 hc, hp⟩
  · refine ⟨s, s1, s2, ?_⟩
    intro rs tl cp sd nm ce cc bc ix oc ab ol ov lo cs a1 a2 a3 a4 a5 a6 a7 a8 a10 a12 a13 a14 a15 a16 post hp
    unfold wX_branchOf_99
    rw [eb, nI_clamp (show b < 2 ^ 31 by omega), s3]
    exact br_t (nI_pos' (by omega)) ⟨pk_in b 32 (by omega), hp⟩
theorem pm_ob_ge {ce bc p : Nat} {a11 : Nat → Int32} {r : Int32} (hb : bc ≤ 32) (h : pm_ob ce bc p a11 r) (z : ¬ 0 ≤ r) : r = -1 := by
  rcases h with h | ⟨b, hb', eb, _⟩
  · exact h
  · rw [eb] at z
    exact absurd (nI_pos' (by omega)) z
theorem pm_bo85 {ce bc p c : Nat} {a7 a9 a10 a11 a12 : Nat → Int32} (hb : bc ≤ 32) (hc : c < 32) (hn : ∀ b, b < bc → pm_nxt bc a12 b) (hf : pm_fst ce bc a7 a11 p c) (he : ∃ e, p < e ∧ e ≤ ce ∧ a9 c = nI e) {x4 : Int32} (hx : pm_ob ce bc p a11 x4) :
    ∃ t : Nat, p < t ∧ t ≤ ce ∧ ∀ {rs tl cp sd nm ce cc bc ix oc ab ol ov lo cs : Int32} {a1 a2 a3 a4 a5 a6 a8 a13 a14 a15 a16 : Nat → Int32} {post : Int32 → St2 → Prop}, post (nI t) (rs, tl, cp, sd, nm, ce, cc, bc, ix, oc, ab, ol, ov, lo, cs, a1, a2, a3, a4, a5, a6, a7, a8, a9, a10, a11, a12, a13, a14, a15, a16) → wX_branchOf_85 post (nI c) x4 rs tl cp sd nm ce cc bc ix oc ab ol ov lo cs a1 a2 a3 a4 a5 a6 a7 a8 a9 a10 a11 a12 a13 a14 a15 a16 := by
  by_cases z : 0 ≤ x4
  · obtain ⟨t, t1, t2, hw⟩ := pm_bo99 hb hc he hx
    refine ⟨t, t1, t2, ?_⟩
    intro rs tl cp sd nm ce cc bc ix oc ab ol ov lo cs a1 a2 a3 a4 a5 a6 a8 a13 a14 a15 a16 post hp
    exact br_t z (hw hp)
  · obtain ⟨r, hr, hq⟩ := pm_fb (a10 := a10) hb hc hn hf 120
    obtain ⟨t, t1, t2, hw⟩ := pm_bo99 hb hc he hr
    refine ⟨t, t1, t2, ?_⟩
    intro rs tl cp sd nm ce cc bc ix oc ab ol ov lo cs a1 a2 a3 a4 a5 a6 a8 a13 a14 a15 a16 post hp
    exact br_f z (hq (hw hp))
theorem pm_bo69 {ce bc p c : Nat} {a7 a9 a10 a11 a12 : Nat → Int32} (hb : bc ≤ 32) (hc : c < 32) (hn : ∀ b, b < bc → pm_nxt bc a12 b) (hf : pm_fst ce bc a7 a11 p c) (he : ∃ e, p < e ∧ e ≤ ce ∧ a9 c = nI e) {x4 : Int32} (hx : pm_ob ce bc p a11 x4) (z0 : Int32) :
    ∃ t : Nat, p < t ∧ t ≤ ce ∧ ∀ {rs tl cp sd nm ce cc bc ix oc ab ol ov lo cs : Int32} {a1 a2 a3 a4 a5 a6 a8 a13 a14 a15 a16 : Nat → Int32} {post : Int32 → St2 → Prop}, post (nI t) (rs, tl, cp, sd, nm, ce, cc, bc, ix, oc, ab, ol, ov, lo, cs, a1, a2, a3, a4, a5, a6, a7, a8, a9, a10, a11, a12, a13, a14, a15, a16) → wX_branchOf_69 post (nI c) x4 z0 rs tl cp sd nm ce cc bc ix oc ab ol ov lo cs a1 a2 a3 a4 a5 a6 a7 a8 a9 a10 a11 a12 a13 a14 a15 a16 := by
  by_cases z : 0 ≤ x4
  · obtain ⟨t, t1, t2, hw⟩ := pm_bo85 (a10 := a10) hb hc hn hf he hx
    refine ⟨t, t1, t2, ?_⟩
    intro rs tl cp sd nm ce cc bc ix oc ab ol ov lo cs a1 a2 a3 a4 a5 a6 a8 a13 a14 a15 a16 post hp
    exact br_t z (hw hp)
  · obtain ⟨r, hr, hq⟩ := pm_fb (a10 := a10) hb hc hn hf z0
    obtain ⟨t, t1, t2, hw⟩ := pm_bo85 (a10 := a10) hb hc hn hf he hr
    refine ⟨t, t1, t2, ?_⟩
    intro rs tl cp sd nm ce cc bc ix oc ab ol ov lo cs a1 a2 a3 a4 a5 a6 a8 a13 a14 a15 a16 post hp
    exact br_f z (hq (hw hp))
theorem pm_bo47 {rs : Int32} {ce bc p c : Nat} {a6 a7 a9 a10 a11 a12 : Nat → Int32} (hb : bc ≤ 32) (hc : c < 32) (hn : ∀ b, b < bc → pm_nxt bc a12 b) (hf : pm_fst ce bc a7 a11 p c) (he : ∃ e, p < e ∧ e ≤ ce ∧ a9 c = nI e) {x4 : Int32} (hx : pm_ob ce bc p a11 x4) (v : Int32) :
    ∃ t : Nat, p < t ∧ t ≤ ce ∧ ∀ {tl cp sd nm ce cc bc ix oc ab ol ov lo cs : Int32} {a1 a2 a3 a4 a5 a8 a13 a14 a15 a16 : Nat → Int32} {post : Int32 → St2 → Prop}, post (nI t) (rs, tl, cp, sd, nm, ce, cc, bc, ix, oc, ab, ol, ov, lo, cs, a1, a2, a3, a4, a5, a6, a7, a8, a9, a10, a11, a12, a13, a14, a15, a16) → wX_branchOf_47 post (nI c) v x4 rs tl cp sd nm ce cc bc ix oc ab ol ov lo cs a1 a2 a3 a4 a5 a6 a7 a8 a9 a10 a11 a12 a13 a14 a15 a16 := by
  have e6 : a6 (nI c).toNatClampNeg = a6 c := by rw [nI_clamp (by omega)]
  have vc : vp_in (nI c) 32 := pk_in c 32 hc
  by_cases h6 : a6 c = 0
  · obtain ⟨l, hl⟩ := pm_select v
    obtain ⟨t, t1, t2, hw⟩ := pm_bo69 (a10 := a10) hb hc hn hf he hx l
    refine ⟨t, t1, t2, ?_⟩
    intro tl cp sd nm ce cc bc ix oc ab ol ov lo cs a1 a2 a3 a4 a5 a8 a13 a14 a15 a16 post hp
    unfold wX_branchOf_47
    exact ⟨vc, br_t (e6.trans h6) (hl _ _ (hw hp))⟩
  · obtain ⟨l, hl⟩ := pm_plural rs v
    obtain ⟨t, t1, t2, hw⟩ := pm_bo69 (a10 := a10) hb hc hn hf he hx l
    refine ⟨t, t1, t2, ?_⟩
    intro tl cp sd nm ce cc bc ix oc ab ol ov lo cs a1 a2 a3 a4 a5 a8 a13 a14 a15 a16 post hp
    unfold wX_branchOf_47
    exact ⟨vc, br_f (fun z => h6 (e6.symm.trans z)) (hl (hw hp))⟩
theorem pm_bo {rs : Int32} {ce bc p c g : Nat} {a5 a6 a7 a9 a10 a11 a12 : Nat → Int32} (hb : bc ≤ 32) (hc : c < 32) (hn : ∀ b, b < bc → pm_nxt bc a12 b) (hf : pm_fst ce bc a7 a11 p c) (he : ∃ e, p < e ∧ e ≤ ce ∧ a9 c = nI e) (hg : g < 4) (h5 : a5 c = nI g) (v : Int32) :
    ∃ t : Nat, p < t ∧ t ≤ ce ∧ ∀ {tl cp sd nm ce cc bc ix oc ab ol ov lo cs : Int32} {a1 a2 a3 a4 a8 a13 a14 a15 a16 : Nat → Int32} {post : Int32 → St2 → Prop}, a2 g = v → post (nI t) (rs, tl, cp, sd, nm, ce, cc, bc, ix, oc, ab, ol, ov, pm_add lo g, cs, a1, a2, a3, a4, a5, a6, a7, a8, a9, a10, a11, a12, a13, a14, a15, a16) → wpX_branchOf post (rs, tl, cp, sd, nm, ce, cc, bc, ix, oc, ab, ol, ov, lo, cs, a1, a2, a3, a4, a5, a6, a7, a8, a9, a10, a11, a12, a13, a14, a15, a16) (nI c) := by
  have e5 : a5 (nI c).toNatClampNeg = nI g := by rw [nI_clamp (by omega), h5]
  have vc : vp_in (nI c) 32 := pk_in c 32 hc
  have vg : vp_in (nI g) 4 := pk_in g 4 hg
  by_cases c1 : v < 0
  · obtain ⟨t, t1, t2, hw⟩ := pm_bo47 (rs := rs) (a6 := a6) (a10 := a10) hb hc hn hf he (Or.inl rfl) v
    refine ⟨t, t1, t2, ?_⟩
    intro tl cp sd nm ce cc bc ix oc ab ol ov lo cs a1 a2 a3 a4 a8 a13 a14 a15 a16 post ea hp
    have e2 : a2 (nI g).toNatClampNeg = v := by rw [nI_clamp (by omega), ea]
    unfold wpX_branchOf
    dsimp only
    exact ⟨vc, nm_r e5 ⟨vg, nm_r e2 (nm_e (br_t c1 (hw hp)))⟩⟩
  by_cases c2 : 9 < v
  · obtain ⟨t, t1, t2, hw⟩ := pm_bo47 (rs := rs) (a6 := a6) (a10 := a10) hb hc hn hf he (Or.inl rfl) v
    refine ⟨t, t1, t2, ?_⟩
    intro tl cp sd nm ce cc bc ix oc ab ol ov lo cs a1 a2 a3 a4 a8 a13 a14 a15 a16 post ea hp
    have e2 : a2 (nI g).toNatClampNeg = v := by rw [nI_clamp (by omega), ea]
    unfold wpX_branchOf
    dsimp only
    exact ⟨vc, nm_r e5 ⟨vg, nm_r e2 (nm_e (br_f c1 (br_t c2 (hw hp))))⟩⟩
  · obtain ⟨r, hr, hq⟩ := pm_fb (a10 := a10) hb hc hn hf v
    obtain ⟨t, t1, t2, hw⟩ := pm_bo47 (rs := rs) (a6 := a6) (a10 := a10) hb hc hn hf he hr v
    refine ⟨t, t1, t2, ?_⟩
    intro tl cp sd nm ce cc bc ix oc ab ol ov lo cs a1 a2 a3 a4 a8 a13 a14 a15 a16 post ea hp
    have e2 : a2 (nI g).toNatClampNeg = v := by rw [nI_clamp (by omega), ea]
    unfold wpX_branchOf
    dsimp only
    exact ⟨vc, nm_r e5 ⟨vg, nm_r e2 (nm_e (br_f c1 (br_f c2 (hq (hw hp)))))⟩⟩

/-- the run from pc on: its end, the same for every arguments b2 that agree with a2 where it looked -/
theorem pm_exl {rs tl cp sd nm ix oc ab : Int32} {a1 a2 a3 a4 a5 a6 a7 a8 a9 a10 a11 a12 a13 a14 : Nat → Int32} {ce cc bc : Nat} {ccI bcI : Int32} (I : pm_inv nm ce cc bc 0 a3 a4 a5 a7 a8 a9 a11 a12 a13 a14) (hce : ce ≤ 96) (hcc : cc ≤ 32) (hbc : bc ≤ 32) :
    ∀ (d pc : Nat), pc ≤ ce → ce - pc ≤ d → ∀ (o : Nat) (ov lo : Int32), o ≤ 120 → pm_S lo → pm_sub lo nm →
    ∃ (o' : Nat) (ov' lo' : Int32) (w15 w16 : Nat → Option Int32), o' ≤ 120 ∧ pm_S lo' ∧ pm_sub lo' nm ∧ (∀ g, g < 4 → pm_has lo g → pm_has lo' g) ∧
      ∀ {cs : Int32} {b2 a15 a16 : Nat → Int32} {post : St2 → Prop}, (∀ g, g < 4 → pm_has lo' g → b2 g = a2 g) → post (rs, tl, cp, sd, nm, nI ce, ccI, bcI, ix, oc, ab, nI o', ov', lo', cs, a1, b2, a3, a4, a5, a6, a7, a8, a9, a10, a11, a12, a13, a14, pm_ap w15 a15, pm_ap w16 a16) →
        wX_execute_17 post (d + 1) (nI pc) rs tl cp sd nm (nI ce) ccI bcI ix oc ab (nI o) ov lo cs a1 b2 a3 a4 a5 a6 a7 a8 a9 a10 a11 a12 a13 a14 a15 a16 := by
  intro d
  induction d with
  | zero =>
    intro pc h1 h2 o ov lo ho hS hs
    exact ⟨o, ov, lo, pm_no, pm_no, ho, hS, hs, fun _ _ h => h, fun _ hp => br_t (nI_le (by omega) (by omega)) hp⟩
  | succ d ih =>
    intro pc h1 h2 o ov lo ho hS hs
    by_cases hlt : pc < ce
    · have hx : ¬ nI ce ≤ nI pc := nI_ge hlt (by omega)
      by_cases hov : ov = 0
      · have v1 : vp_in (nI pc) 100 := pk_in pc 100 (by omega)
        have e3 : a3 (nI pc).toNatClampNeg = a3 pc := by rw [nI_clamp (by omega)]
        have e4 : a4 (nI pc).toNatClampNeg = a4 pc := by rw [nI_clamp (by omega)]
        rcases I.2.1 pc hlt with h | ⟨h, g, hg, e, q⟩ | ⟨h, c, hc, e, q1, q2⟩ | ⟨h, c, hc, e, q⟩
        · obtain ⟨o1, ov1, w1, ho1, hw1⟩ := pm_put o ho ov (((a4 pc).toUInt32 % 65536).toInt32)
          obtain ⟨o2, ov2, lo2, w15, w16, r1, r2, r3, r4, hw2⟩ := ih (pc + 1) (by omega) (by omega) o1 ov1 lo ho1 hS hs
          refine ⟨o2, ov2, lo2, pm_oo w15 w1, w16, r1, r2, r3, r4, ?_⟩
          intro cs b2 a15 a16 post hb hp
          rw [pm_ap_oo] at hp
          exact br_f hx (br_t hov ⟨v1, nm_r (e3.trans h) ⟨v1, nm_r e4 (nm_r (nI_1 pc) (br_t rfl (hw1 (hw2 hb hp))))⟩⟩)
        · obtain ⟨o1, ov1, w1, w2, ho1, hw1⟩ := pm_pn (a2 g) g hg o ho ov
          obtain ⟨o2, ov2, lo2, w15, w16, r1, r2, r3, r4, hw2⟩ := ih (pc + 1) (by omega) (by omega) o1 ov1 (pm_add lo g) ho1 (pm_S_add hS hg) (pm_sub_add hS I.1 hg hs q)
          refine ⟨o2, ov2, lo2, pm_oo w15 w1, pm_oo w16 w2, r1, r2, r3, fun k hk z => r4 k hk (pm_has_mono hS hg k hk z), ?_⟩
          intro cs b2 a15 a16 post hb hp
          rw [pm_ap_oo, pm_ap_oo] at hp
          have eb : b2 g = a2 g := hb g hg (r4 g hg (pm_has_add hS hg))
          exact br_f hx (br_t hov ⟨v1, nm_r (e3.trans h) ⟨v1, nm_r (e4.trans e) (nm_r (nI_1 pc) (br_f (by decide) (br_t rfl (hw1 eb (hw2 hb hp)))))⟩⟩)
        · have he : ∃ e, pc < e ∧ e ≤ ce ∧ a9 c = nI e := by
            rcases q1 with ⟨k, hk, _⟩ | z
            · exact absurd hk (by omega)
            · exact z
          obtain ⟨g, hg, e5, hn⟩ := (I.2.2.1 c hc).1
          obtain ⟨t, t1, t2, hw1⟩ := pm_bo (rs := rs) (a6 := a6) (a10 := a10) hbc (by omega) I.2.2.2.1 q2 he hg e5 (a2 g)
          obtain ⟨o2, ov2, lo2, w15, w16, r1, r2, r3, r4, hw2⟩ := ih t (by omega) (by omega) o ov (pm_add lo g) ho (pm_S_add hS hg) (pm_sub_add hS I.1 hg hs hn)
          refine ⟨o2, ov2, lo2, w15, w16, r1, r2, r3, fun k hk z => r4 k hk (pm_has_mono hS hg k hk z), ?_⟩
          intro cs b2 a15 a16 post hb hp
          have eb : b2 g = a2 g := hb g hg (r4 g hg (pm_has_add hS hg))
          exact br_f hx (br_t hov ⟨v1, nm_r (e3.trans h) ⟨v1, nm_r (e4.trans e) (nm_r (nI_1 pc) (br_f (by decide) (br_f (by decide) (br_f (by decide) (hw1 eb (hw2 hb hp))))))⟩⟩)
        · have he : ∃ e, pc < e ∧ e ≤ ce ∧ a9 c = nI e := by
            rcases q with ⟨k, hk, _⟩ | z
            · exact absurd hk (by omega)
            · exact z
          obtain ⟨t, t1, t2, t3⟩ := he
          obtain ⟨o2, ov2, lo2, w15, w16, r1, r2, r3, r4, hw2⟩ := ih t (by omega) (by omega) o ov lo ho hS hs
          refine ⟨o2, ov2, lo2, w15, w16, r1, r2, r3, r4, ?_⟩
          intro cs b2 a15 a16 post hb hp
          have e9 : a9 (nI c).toNatClampNeg = nI t := by rw [nI_clamp (by omega), t3]
          exact br_f hx (br_t hov ⟨v1, nm_r (e3.trans h) ⟨v1, nm_r (e4.trans e) (nm_r (nI_1 pc) (br_f (by decide) (br_f (by decide) (br_t rfl ⟨pk_in c 32 (by omega), nm_r e9 (hw2 hb hp)⟩))))⟩⟩)
      · exact ⟨o, ov, lo, pm_no, pm_no, ho, hS, hs, fun _ _ h => h, fun _ hp => br_f hx (br_f hov hp)⟩
    · exact ⟨o, ov, lo, pm_no, pm_no, ho, hS, hs, fun _ _ h => h, fun _ hp => br_t (nI_le (by omega) (by omega)) hp⟩
end
section
/-- after the compiler: unsound, or the code is sound -/
def pm_J1 (sd nm ce : Int32) (a3 a4 a5 a7 a8 a9 a11 a12 a13 a14 : Nat → Int32) : Prop :=
  sd = 0 ∨ (sd = 1 ∧ ∃ e c b : Nat, e ≤ 96 ∧ c ≤ 32 ∧ b ≤ 32 ∧ ce = nI e ∧ pm_inv nm e c b 0 a3 a4 a5 a7 a8 a9 a11 a12 a13 a14)
def pm_J (tl cp sd nm ce ol : Int32) (a1 a3 a4 a5 a7 a8 a9 a11 a12 a13 a14 : Nat → Int32) : Prop :=
  (∃ o : Nat, o ≤ 120 ∧ ol = nI o) ∧ ((cp = 0 ∧ (∃ t : Nat, t ≤ 96 ∧ tl = nI t) ∧ ∀ k, pm_chr (a1 k)) ∨ (¬ cp = 0 ∧ pm_J1 sd nm ce a3 a4 a5 a7 a8 a9 a11 a12 a13 a14))
theorem pm_m3 : ¬ 0 ≤ (-3 : Int32) := by decide
theorem pm_m4 : ¬ 0 ≤ (-4 : Int32) := by decide
theorem pm_fmt1 {rs tl cp sd nm ce cc bc ix oc ab ol ov lo cs : Int32} {a1 a2 a3 a4 a5 a6 a7 a8 a9 a10 a11 a12 a13 a14 a15 a16 : Nat → Int32} (hcp : ¬ cp = 0) (ho : ∃ o : Nat, o ≤ 120 ∧ ol = nI o) (J : pm_J1 sd nm ce a3 a4 a5 a7 a8 a9 a11 a12 a13 a14) :
    ∃ (r ol' ov' lo' cs' : Int32) (b15 b16 : Nat → Int32), (∃ o : Nat, o ≤ 120 ∧ ol' = nI o) ∧ (∀ post : Int32 → St2 → Prop, post r (rs, tl, cp, sd, nm, ce, cc, bc, ix, oc, ab, ol', ov', lo', cs', a1, a2, a3, a4, a5, a6, a7, a8, a9, a10, a11, a12, a13, a14, b15, b16) → wpX_format post (rs, tl, cp, sd, nm, ce, cc, bc, ix, oc, ab, ol, ov, lo, cs, a1, a2, a3, a4, a5, a6, a7, a8, a9, a10, a11, a12, a13, a14, a15, a16)) ∧
      (0 ≤ r → ¬ sd = 0 ∧ pm_sub cs' nm ∧ ∀ (i : Nat) (v : Int32), i < 4 → ¬ pm_has cs' i → ∀ post : Int32 → St2 → Prop, post r (rs, tl, cp, sd, nm, ce, cc, bc, ix, oc, ab, ol', ov', lo', cs', a1, upd a2 i v, a3, a4, a5, a6, a7, a8, a9, a10, a11, a12, a13, a14, b15, b16) → wpX_format post (rs, tl, cp, sd, nm, ce, cc, bc, ix, oc, ab, ol', ov', lo', cs', a1, upd a2 i v, a3, a4, a5, a6, a7, a8, a9, a10, a11, a12, a13, a14, b15, b16)) := by
  rcases J with e | ⟨e, eN, cN, bN, h1, h2, h3, h4, I⟩
  · refine ⟨-3, ol, ov, lo, cs, a15, a16, ho, fun post hp => ?_, fun z => absurd z pm_m3⟩
    exact br_f hcp (br_t e hp)
  · subst e
    subst h4
    obtain ⟨o, ov', lo', w15, w16, r1, r2, r3, r4, hw⟩ := pm_exl (rs := rs) (tl := tl) (cp := cp) (sd := 1) (ix := ix) (oc := oc) (ab := ab) (a1 := a1) (a2 := a2) (a6 := a6) (a10 := a10) (ccI := cc) (bcI := bc) I h1 h2 h3 96 0 (by omega) (by omega) 0 0 0 (by omega) pm_S_0 (pm_sub_0 I.1)
    by_cases hov : ov' = 0
    · refine ⟨nI o, nI o, ov', lo', lo', pm_ap w15 a15, pm_ap w16 a16, ⟨o, r1, rfl⟩, fun post hp => ?_, fun _ => ⟨pm_one, r3, fun i v hi hh post hp => ?_⟩⟩
      · exact br_f hcp (br_f pm_one ⟨97, hw (fun _ _ _ => rfl) (br_t hov hp)⟩)
      · have ag : ∀ g, g < 4 → pm_has lo' g → upd a2 i v g = a2 g := by
          intro g hg z
          refine pk_un (fun e => hh ?_)
          rw [← e]
          exact z
        refine br_f hcp (br_f pm_one ⟨97, hw ag (br_t hov ?_)⟩)
        rw [pm_ap_id, pm_ap_id]
        exact hp
    · refine ⟨-4, 0, ov', lo', cs, pm_ap w15 a15, pm_ap w16 a16, ⟨0, by omega, rfl⟩, fun post hp => ?_, fun z => absurd z pm_m4⟩
      exact br_f hcp (br_f pm_one ⟨97, hw (fun _ _ _ => rfl) (br_f hov hp)⟩)
theorem pm_fmt {rs tl cp sd nm ce cc bc ix oc ab ol ov lo cs : Int32} {a1 a2 a3 a4 a5 a6 a7 a8 a9 a10 a11 a12 a13 a14 a15 a16 : Nat → Int32} (J : pm_J tl cp sd nm ce ol a1 a3 a4 a5 a7 a8 a9 a11 a12 a13 a14) :
    ∃ (r cp' sd' nm' ce' cc' bc' ix' oc' ab' ol' ov' lo' cs' : Int32) (b3 b4 b5 b6 b7 b8 b9 b10 b11 b12 b13 b14 b15 b16 : Nat → Int32), pm_J tl cp' sd' nm' ce' ol' a1 b3 b4 b5 b7 b8 b9 b11 b12 b13 b14 ∧
      (∀ post : Int32 → St2 → Prop, post r (rs, tl, cp', sd', nm', ce', cc', bc', ix', oc', ab', ol', ov', lo', cs', a1, a2, b3, b4, b5, b6, b7, b8, b9, b10, b11, b12, b13, b14, b15, b16) → wpX_format post (rs, tl, cp, sd, nm, ce, cc, bc, ix, oc, ab, ol, ov, lo, cs, a1, a2, a3, a4, a5, a6, a7, a8, a9, a10, a11, a12, a13, a14, a15, a16)) ∧
      (0 ≤ r → ¬ cp' = 0 ∧ ¬ sd' = 0 ∧ pm_sub cs' nm' ∧ ∀ (i : Nat) (v : Int32), i < 4 → ¬ pm_has cs' i → ∀ post : Int32 → St2 → Prop, post r (rs, tl, cp', sd', nm', ce', cc', bc', ix', oc', ab', ol', ov', lo', cs', a1, upd a2 i v, b3, b4, b5, b6, b7, b8, b9, b10, b11, b12, b13, b14, b15, b16) → wpX_format post (rs, tl, cp', sd', nm', ce', cc', bc', ix', oc', ab', ol', ov', lo', cs', a1, upd a2 i v, b3, b4, b5, b6, b7, b8, b9, b10, b11, b12, b13, b14, b15, b16)) := by
  obtain ⟨ho, ⟨e, ⟨t, ht, et⟩, hc⟩ | ⟨hcp, J1⟩⟩ := J
  · subst e
    subst et
    obtain ⟨sd', nm', ce', cc', bc', ix', oc', ab', b3, b4, b5, b6, b7, b8, b9, b10, b11, b12, b13, b14, F, hw⟩ := pm_compile (rs := rs) (sd := sd) (nm := nm) (ce := ce) (cc := cc) (bc := bc) (ix := ix) (oc := oc) (ab := ab) (ol := ol) (ov := ov) (lo := lo) (cs := cs) (a2 := a2) (a3 := a3) (a4 := a4) (a5 := a5) (a6 := a6) (a7 := a7) (a8 := a8) (a9 := a9) (a10 := a10) (a11 := a11) (a12 := a12) (a13 := a13) (a14 := a14) (a15 := a15) (a16 := a16) ht hc
    have J1 : pm_J1 sd' nm' (nI ce') b3 b4 b5 b7 b8 b9 b11 b12 b13 b14 := by
      rcases F with z | ⟨z1, z2, z3⟩
      · exact Or.inl z
      · subst z2
        obtain ⟨k1, k2, k3, k4, k5, k6, k7, k8, kc, I⟩ := z3
        exact Or.inr ⟨z1, ce', cc', bc', by omega, by omega, by omega, rfl, I⟩
    obtain ⟨r, ol', ov', lo', cs', b15, b16, g1, g2, g3⟩ := pm_fmt1 (rs := rs) (tl := nI t) (cp := 1) (cc := nI cc') (bc := nI bc') (ix := nI ix') (oc := nI oc') (ab := nI ab') (ov := ov) (lo := lo) (cs := cs) (a1 := a1) (a2 := a2) (a6 := b6) (a10 := b10) (a15 := a15) (a16 := a16) pm_one ho J1
    refine ⟨r, 1, sd', nm', nI ce', nI cc', nI bc', nI ix', nI oc', nI ab', ol', ov', lo', cs', b3, b4, b5, b6, b7, b8, b9, b10, b11, b12, b13, b14, b15, b16, ⟨g1, Or.inr ⟨pm_one, J1⟩⟩, fun post hp => ?_, fun z => ⟨pm_one, g3 z⟩⟩
    exact hw _ ((And.right (g2 post hp)) pm_one)
  · obtain ⟨r, ol', ov', lo', cs', b15, b16, g1, g2, g3⟩ := pm_fmt1 (rs := rs) (tl := tl) (cp := cp) (cc := cc) (bc := bc) (ix := ix) (oc := oc) (ab := ab) (ov := ov) (lo := lo) (cs := cs) (a1 := a1) (a2 := a2) (a6 := a6) (a10 := a10) (a15 := a15) (a16 := a16) hcp ho J1
    exact ⟨r, cp, sd, nm, ce, cc, bc, ix, oc, ab, ol', ov', lo', cs', a3, a4, a5, a6, a7, a8, a9, a10, a11, a12, a13, a14, b15, b16, ⟨g1, Or.inr ⟨hcp, J1⟩⟩, g2, fun z => ⟨hcp, g3 z⟩⟩

theorem pm_same17 {rs tl cp sd nm ce cc bc ix oc ab ov lo cs : Int32} {a1 a2 a3 a4 a5 a6 a7 a8 a9 a10 a11 a12 a13 a14 a15 a16 : Nat → Int32} {rs' tl' cp' sd' nm' ce' cc' bc' ix' oc' ab' ov' lo' cs' : Int32} {a1' a2' a3' a4' a5' a6' a7' a8' a9' a10' a11' a12' a13' a14' a16' : Nat → Int32} {o : Nat} (ho : o ≤ 120) {post : Int32 → Prop} (hp : post 1) : ∀ (d i : Nat), i ≤ o → o - i ≤ d → wL_same_17 post (nI o) rs tl cp sd nm ce cc bc ix oc ab (nI o) ov lo cs a1 a2 a3 a4 a5 a6 a7 a8 a9 a10 a11 a12 a13 a14 a15 a16 rs' tl' cp' sd' nm' ce' cc' bc' ix' oc' ab' (nI o) ov' lo' cs' a1' a2' a3' a4' a5' a6' a7' a8' a9' a10' a11' a12' a13' a14' a15 a16' (d + 1) (nI i) := by
  intro d
  induction d with
  | zero =>
    intro i h1 h2
    exact br_t (nI_le (by omega) (by omega)) hp
  | succ d ih =>
    intro i h1 h2
    by_cases h : i < o
    · have n1 : ¬ nI i < 0 := nI_pos (by omega)
      have n2 : nI i < nI o := nI_lt h (by omega)
      have n3 : vp_in (nI i) 120 := pk_in i 120 (by omega)
      exact br_f (nI_ge h (by omega)) (br_f n1 (br_t n2 ⟨n3, br_f n1 (br_t n2 ⟨n3, br_t rfl (nm_r (nI_1 i) (ih (i + 1) (by omega) (by omega)))⟩)⟩))
    · exact br_t (nI_le (by omega) (by omega)) hp
theorem pm_same {rs tl cp sd nm ce cc bc ix oc ab ol ov lo cs : Int32} {a1 a2 a3 a4 a5 a6 a7 a8 a9 a10 a11 a12 a13 a14 a15 a16 : Nat → Int32} {rs' tl' cp' sd' nm' ce' cc' bc' ix' oc' ab' ov' lo' cs' : Int32} {a1' a2' a3' a4' a5' a6' a7' a8' a9' a10' a11' a12' a13' a14' a16' : Nat → Int32} (ho : ∃ o : Nat, o ≤ 120 ∧ ol = nI o) {post : Int32 → Prop} (hp : post 1) : wpL_same post (rs, tl, cp, sd, nm, ce, cc, bc, ix, oc, ab, ol, ov, lo, cs, a1, a2, a3, a4, a5, a6, a7, a8, a9, a10, a11, a12, a13, a14, a15, a16, rs', tl', cp', sd', nm', ce', cc', bc', ix', oc', ab', ol, ov', lo', cs', a1', a2', a3', a4', a5', a6', a7', a8', a9', a10', a11', a12', a13', a14', a15, a16') := by
  obtain ⟨o, ho, rfl⟩ := ho
  unfold wpL_same
  dsimp only
  exact br_t rfl ⟨o + 1, pm_same17 ho hp o 0 (by omega) (by omega)⟩
theorem pm_set {rs tl cp sd nm ce cc bc ix oc ab ol ov lo cs : Int32} {a1 a2 a3 a4 a5 a6 a7 a8 a9 a10 a11 a12 a13 a14 a15 a16 : Nat → Int32} {i : Nat} (hi : i < 4) {v : Int32} {post : Int32 → St2 → Prop} (hp : post 1 (rs, tl, cp, sd, nm, ce, cc, bc, ix, oc, ab, ol, ov, lo, cs, a1, upd a2 i v, a3, a4, a5, a6, a7, a8, a9, a10, a11, a12, a13, a14, a15, a16)) : wpX_set post (rs, tl, cp, sd, nm, ce, cc, bc, ix, oc, ab, ol, ov, lo, cs, a1, a2, a3, a4, a5, a6, a7, a8, a9, a10, a11, a12, a13, a14, a15, a16) (nI i) v := by
  unfold wpX_set
  dsimp only
  rw [nI_clamp (show i < 2 ^ 31 by omega)]
  exact br_f (nI_pos (by omega)) (br_t (nI_le (b := 3) (show i ≤ 3 by omega) (by decide)) ⟨pk_in i 4 hi, nm_e hp⟩)
theorem pm_named {rs tl cp sd nm ce cc bc ix oc ab ol ov lo cs : Int32} {a1 a2 a3 a4 a5 a6 a7 a8 a9 a10 a11 a12 a13 a14 a15 a16 : Nat → Int32} (h1 : ¬ cp = 0) (h2 : ¬ sd = 0) {post : Int32 → St2 → Prop} (hp : post nm (rs, tl, cp, sd, nm, ce, cc, bc, ix, oc, ab, ol, ov, lo, cs, a1, a2, a3, a4, a5, a6, a7, a8, a9, a10, a11, a12, a13, a14, a15, a16)) : wpX_named post (rs, tl, cp, sd, nm, ce, cc, bc, ix, oc, ab, ol, ov, lo, cs, a1, a2, a3, a4, a5, a6, a7, a8, a9, a10, a11, a12, a13, a14, a15, a16) := by
  unfold wpX_named
  dsimp only
  exact br_f h1 (br_f h2 hp)
theorem pm_cons {rs tl cp sd nm ce cc bc ix oc ab ol ov lo cs : Int32} {a1 a2 a3 a4 a5 a6 a7 a8 a9 a10 a11 a12 a13 a14 a15 a16 : Nat → Int32} {post : Int32 → Prop} (hp : post cs) : wpX_consulted post (rs, tl, cp, sd, nm, ce, cc, bc, ix, oc, ab, ol, ov, lo, cs, a1, a2, a3, a4, a5, a6, a7, a8, a9, a10, a11, a12, a13, a14, a15, a16) := hp
theorem pm_back {a2 : Nat → Int32} {i : Nat} {v old : Int32} (h : a2 i = old) : upd (upd a2 i v) i old = a2 := by
  funext j
  by_cases e : j = i
  · subst e
    rw [pk_us, h]
  · rw [pk_un e, pk_un e]
theorem pm_holds {rs tl cp sd nm ce cc bc ix oc ab ol ov lo cs : Int32} {a1 a2 a3 a4 a5 a6 a7 a8 a9 a10 a11 a12 a13 a14 a15 a16 : Nat → Int32} (J : pm_J tl cp sd nm ce ol a1 a3 a4 a5 a7 a8 a9 a11 a12 a13 a14) {i : Nat} (hi : i < 4) {v old : Int32} (ha : a2 i = old) {post : Int32 → St3 → Prop}
    (hp : ∀ (cp' sd' nm' ce' cc' bc' ix' oc' ab' ol' ov' lo' cs' : Int32) (b3 b4 b5 b6 b7 b8 b9 b10 b11 b12 b13 b14 b15 b16 : Nat → Int32), pm_J tl cp' sd' nm' ce' ol' a1 b3 b4 b5 b7 b8 b9 b11 b12 b13 b14 → post 1 (rs, tl, cp', sd', nm', ce', cc', bc', ix', oc', ab', ol', ov', lo', cs', a1, a2, b3, b4, b5, b6, b7, b8, b9, b10, b11, b12, b13, b14, b15, b16, rs, tl, cp', sd', nm', ce', cc', bc', ix', oc', ab', ol', ov', lo', cs', a1, a2, b3, b4, b5, b6, b7, b8, b9, b10, b11, b12, b13, b14, b15, b16)) :
    wpL_holds post (rs, tl, cp, sd, nm, ce, cc, bc, ix, oc, ab, ol, ov, lo, cs, a1, a2, a3, a4, a5, a6, a7, a8, a9, a10, a11, a12, a13, a14, a15, a16, rs, tl, cp, sd, nm, ce, cc, bc, ix, oc, ab, ol, ov, lo, cs, a1, a2, a3, a4, a5, a6, a7, a8, a9, a10, a11, a12, a13, a14, a15, a16) (nI i) v old := by
  obtain ⟨r, cp', sd', nm', ce', cc', bc', ix', oc', ab', ol', ov', lo', cs', b3, b4, b5, b6, b7, b8, b9, b10, b11, b12, b13, b14, b15, b16, J', hf, hn⟩ := pm_fmt (rs := rs) (cc := cc) (bc := bc) (ix := ix) (oc := oc) (ab := ab) (ov := ov) (lo := lo) (cs := cs) (a2 := a2) (a6 := a6) (a10 := a10) (a15 := a15) (a16 := a16) J
  have P := hp cp' sd' nm' ce' cc' bc' ix' oc' ab' ol' ov' lo' cs' b3 b4 b5 b6 b7 b8 b9 b10 b11 b12 b13 b14 b15 b16 J'
  unfold wpL_holds
  dsimp only
  refine hf _ (hf _ (br_t rfl (pm_same J'.1 (br_f pm_one ?_))))
  by_cases h0 : 0 ≤ r
  · obtain ⟨q1, q2, q3, q4⟩ := hn h0
    refine br_t h0 (pm_cons (pm_named q1 q2 (br_t q3 ?_)))
    by_cases hh : ((cs' >>> (nI i &&& 31)) &&& 1) = 0
    · refine br_t hh (pm_set hi (br_f pm_one (q4 i v hi (fun z => z hh) _ (br_t rfl (pm_same J'.1 (br_f pm_one (pm_set hi (br_f pm_one ?_))))))))
      rw [pm_back ha]
      exact P
    · exact br_f hh P
  · exact br_f h0 P
end
section
theorem pm_isSign (p : Int32) : pm_D (fun (u : St2) post => wpX_isSign post u p) :=
  pm_Db (pm_Dr 1) (pm_Db (pm_Dr 1) (pm_Db (pm_Dr 1) (pm_Db (pm_Dr 1) (pm_Db (pm_Dr 1) (pm_Db (pm_Dr 1) (pm_Db (pm_Dr 1) (pm_Db (pm_Dr 1) (pm_Dr 0))))))))
theorem pm_letter (p : Int32) : pm_D (fun (u : St0) post => wpL_letter post u p) := pm_Db (pm_Dr 120) (pm_Db (pm_Dr 111) (pm_Db (pm_Dr 109) (pm_Db (pm_Dr 102) (pm_Dr _))))
theorem pm_typeX {a1 : Nat → Int32} {t : Nat} (ht : t ≤ 96) (hc : ∀ k, pm_chr (a1 k)) (c : Int32) : ∃ (r : Int32) (t' : Nat) (b1 : Nat → Int32), t' ≤ 96 ∧ (∀ k, pm_chr (b1 k)) ∧ ∀ {rs sd nm ce cc bc ix oc ab ol ov lo cs : Int32} {a2 a3 a4 a5 a6 a7 a8 a9 a10 a11 a12 a13 a14 a15 a16 : Nat → Int32} {post : Int32 → St2 → Prop}, post r (rs, nI t', 0, sd, nm, ce, cc, bc, ix, oc, ab, ol, ov, lo, cs, b1, a2, a3, a4, a5, a6, a7, a8, a9, a10, a11, a12, a13, a14, a15, a16) → wpX_type post (rs, nI t, 0, sd, nm, ce, cc, bc, ix, oc, ab, ol, ov, lo, cs, a1, a2, a3, a4, a5, a6, a7, a8, a9, a10, a11, a12, a13, a14, a15, a16) ((c.toUInt32 % 65536).toInt32) := by
  by_cases h : t < 96
  · have hl : nI t < 96 := nI_lt (b := 96) h (by decide)
    have h30 : ∀ {rs sd nm ce cc bc ix oc ab ol ov lo cs : Int32} {a2 a3 a4 a5 a6 a7 a8 a9 a10 a11 a12 a13 a14 a15 a16 : Nat → Int32} {post : Int32 → St2 → Prop}, post (nI (t + 1)) (rs, nI (t + 1), 0, sd, nm, ce, cc, bc, ix, oc, ab, ol, ov, lo, cs, upd a1 t ((c.toUInt32 % 65536).toInt32), a2, a3, a4, a5, a6, a7, a8, a9, a10, a11, a12, a13, a14, a15, a16) → wX_type_30 post ((c.toUInt32 % 65536).toInt32) rs (nI t) 0 sd nm ce cc bc ix oc ab ol ov lo cs a1 a2 a3 a4 a5 a6 a7 a8 a9 a10 a11 a12 a13 a14 a15 a16 := by
      intro rs sd nm ce cc bc ix oc ab ol ov lo cs a2 a3 a4 a5 a6 a7 a8 a9 a10 a11 a12 a13 a14 a15 a16 post hp
      unfold wX_type_30
      rw [nI_clamp (show t < 2 ^ 31 by omega), pk_vc]
      exact ⟨pk_in t 96 h, nm_e (nm_r (nI_1 t) hp)⟩
    have hc' : ∀ k, pm_chr (upd a1 t ((c.toUInt32 % 65536).toInt32) k) := by
      intro k
      by_cases e : k = t
      · subst e
        rw [pk_us]
        exact pk_nc c
      · rw [pk_un e]
        exact hc k
    obtain ⟨r1, hr1⟩ := pm_isPlain ((c.toUInt32 % 65536).toInt32)
    obtain ⟨r2, hr2⟩ := pm_isSign ((c.toUInt32 % 65536).toInt32)
    by_cases e1 : r1 = 0
    · by_cases e2 : r2 = 0
      · refine ⟨-2, t, a1, ht, hc, ?_⟩
        intro rs sd nm ce cc bc ix oc ab ol ov lo cs a2 a3 a4 a5 a6 a7 a8 a9 a10 a11 a12 a13 a14 a15 a16 post hp
        unfold wpX_type
        dsimp only
        exact br_t hl (hr1 _ _ (br_t e1 (hr2 _ _ (br_t e2 hp))))
      · refine ⟨nI (t + 1), t + 1, _, by omega, hc', ?_⟩
        intro rs sd nm ce cc bc ix oc ab ol ov lo cs a2 a3 a4 a5 a6 a7 a8 a9 a10 a11 a12 a13 a14 a15 a16 post hp
        unfold wpX_type
        dsimp only
        exact br_t hl (hr1 _ _ (br_t e1 (hr2 _ _ (br_f e2 (h30 hp)))))
    · refine ⟨nI (t + 1), t + 1, _, by omega, hc', ?_⟩
      intro rs sd nm ce cc bc ix oc ab ol ov lo cs a2 a3 a4 a5 a6 a7 a8 a9 a10 a11 a12 a13 a14 a15 a16 post hp
      unfold wpX_type
      dsimp only
      exact br_t hl (hr1 _ _ (br_f e1 (h30 hp)))
  · refine ⟨-1, t, a1, ht, hc, ?_⟩
    intro rs sd nm ce cc bc ix oc ab ol ov lo cs a2 a3 a4 a5 a6 a7 a8 a9 a10 a11 a12 a13 a14 a15 a16 post hp
    unfold wpX_type
    dsimp only
    exact br_f (nI_nlt (b := 96) (by omega) (by omega)) hp
theorem pm_type {rs sd nm ce cc bc ix oc ab ol ov lo cs : Int32} {a1 a2 a3 a4 a5 a6 a7 a8 a9 a10 a11 a12 a13 a14 a15 a16 : Nat → Int32} {t : Nat} (ht : t ≤ 96) (hc : ∀ k, pm_chr (a1 k)) {c : Int32} {post : St3 → Prop} (hp : ∀ (t' : Nat) (b1 : Nat → Int32), t' ≤ 96 → (∀ k, pm_chr (b1 k)) → post (rs, nI t', 0, sd, nm, ce, cc, bc, ix, oc, ab, ol, ov, lo, cs, b1, a2, a3, a4, a5, a6, a7, a8, a9, a10, a11, a12, a13, a14, a15, a16, rs, nI t', 0, sd, nm, ce, cc, bc, ix, oc, ab, ol, ov, lo, cs, b1, a2, a3, a4, a5, a6, a7, a8, a9, a10, a11, a12, a13, a14, a15, a16)) :
    wpL_type post (rs, nI t, 0, sd, nm, ce, cc, bc, ix, oc, ab, ol, ov, lo, cs, a1, a2, a3, a4, a5, a6, a7, a8, a9, a10, a11, a12, a13, a14, a15, a16, rs, nI t, 0, sd, nm, ce, cc, bc, ix, oc, ab, ol, ov, lo, cs, a1, a2, a3, a4, a5, a6, a7, a8, a9, a10, a11, a12, a13, a14, a15, a16) c := by
  obtain ⟨r, t', b1, h1, h2, hw⟩ := pm_typeX ht hc c
  unfold wpL_type
  dsimp only
  exact hw (hw (hp t' b1 h1 h2))
theorem pm_l293 {rs sd nm ce cc bc ix oc ab ol ov lo cs : Int32} {a1 a2 a3 a4 a5 a6 a7 a8 a9 a10 a11 a12 a13 a14 a15 a16 : Nat → Int32} {J : Int32 → Int32 → Int32 → Int32 → Int32 → Int32 → Int32 → Int32 → Int32 → Int32 → Int32 → Int32 → Int32 → Int32 → Int32 → Int32 → Int32 → (Nat → Int32) → (Nat → Int32) → (Nat → Int32) → (Nat → Int32) → (Nat → Int32) → (Nat → Int32) → (Nat → Int32) → (Nat → Int32) → (Nat → Int32) → (Nat → Int32) → (Nat → Int32) → (Nat → Int32) → (Nat → Int32) → (Nat → Int32) → (Nat → Int32) → (Nat → Int32) →  Int32 → Int32 → Int32 → Int32 → Int32 → Int32 → Int32 → Int32 → Int32 → Int32 → Int32 → Int32 → Int32 → Int32 → Int32 → (Nat → Int32) → (Nat → Int32) → (Nat → Int32) → (Nat → Int32) → (Nat → Int32) → (Nat → Int32) → (Nat → Int32) → (Nat → Int32) → (Nat → Int32) → (Nat → Int32) → (Nat → Int32) → (Nat → Int32) → (Nat → Int32) → (Nat → Int32) → (Nat → Int32) → (Nat → Int32) →  Prop} {post : Int32 → Prop} {L : Nat} {xs : Nat → Int32} {kc ks i : Nat} {x3 z0 : Int32} {t : Nat} (ht : t ≤ 96) (hc : ∀ k, pm_chr (a1 k))
    (hJ : ∀ (y : Int32) (t' : Nat) (b1 : Nat → Int32), t' ≤ 96 → (∀ k, pm_chr (b1 k)) → J y (nI (i + 2)) rs (nI t') 0 sd nm ce cc bc ix oc ab ol ov lo cs b1 a2 a3 a4 a5 a6 a7 a8 a9 a10 a11 a12 a13 a14 a15 a16 rs (nI t') 0 sd nm ce cc bc ix oc ab ol ov lo cs b1 a2 a3 a4 a5 a6 a7 a8 a9 a10 a11 a12 a13 a14 a15 a16) :
    wL_law_293 post L xs J x3 (nI i) z0 kc ks rs (nI t) 0 sd nm ce cc bc ix oc ab ol ov lo cs a1 a2 a3 a4 a5 a6 a7 a8 a9 a10 a11 a12 a13 a14 a15 a16 rs (nI t) 0 sd nm ce cc bc ix oc ab ol ov lo cs a1 a2 a3 a4 a5 a6 a7 a8 a9 a10 a11 a12 a13 a14 a15 a16 := by
  unfold wL_law_293
  exact pm_type ht hc (fun t1 b1 h1 c1 => pm_type h1 c1 (fun t2 b2 h2 c2 => nm_r (nI_add i 2) (hJ _ _ _ h2 c2)))
theorem pm_l270 {rs sd nm ce cc bc ix oc ab ol ov lo cs : Int32} {a1 a2 a3 a4 a5 a6 a7 a8 a9 a10 a11 a12 a13 a14 a15 a16 : Nat → Int32} {J : Int32 → Int32 → Int32 → Int32 → Int32 → Int32 → Int32 → Int32 → Int32 → Int32 → Int32 → Int32 → Int32 → Int32 → Int32 → Int32 → Int32 → (Nat → Int32) → (Nat → Int32) → (Nat → Int32) → (Nat → Int32) → (Nat → Int32) → (Nat → Int32) → (Nat → Int32) → (Nat → Int32) → (Nat → Int32) → (Nat → Int32) → (Nat → Int32) → (Nat → Int32) → (Nat → Int32) → (Nat → Int32) → (Nat → Int32) → (Nat → Int32) →  Int32 → Int32 → Int32 → Int32 → Int32 → Int32 → Int32 → Int32 → Int32 → Int32 → Int32 → Int32 → Int32 → Int32 → Int32 → (Nat → Int32) → (Nat → Int32) → (Nat → Int32) → (Nat → Int32) → (Nat → Int32) → (Nat → Int32) → (Nat → Int32) → (Nat → Int32) → (Nat → Int32) → (Nat → Int32) → (Nat → Int32) → (Nat → Int32) → (Nat → Int32) → (Nat → Int32) → (Nat → Int32) → (Nat → Int32) →  Prop} {post : Int32 → Prop} {L : Nat} {xs : Nat → Int32} {kc ks i : Nat} {x3 x6 x8 : Int32} {t : Nat} (ht : t ≤ 96) (hc : ∀ k, pm_chr (a1 k))
    (hJ : ∀ (y : Int32) (t' : Nat) (b1 : Nat → Int32), t' ≤ 96 → (∀ k, pm_chr (b1 k)) → J y (nI (i + 2)) rs (nI t') 0 sd nm ce cc bc ix oc ab ol ov lo cs b1 a2 a3 a4 a5 a6 a7 a8 a9 a10 a11 a12 a13 a14 a15 a16 rs (nI t') 0 sd nm ce cc bc ix oc ab ol ov lo cs b1 a2 a3 a4 a5 a6 a7 a8 a9 a10 a11 a12 a13 a14 a15 a16) :
    wL_law_270 post L xs J x3 (nI i) x6 x8 kc ks rs (nI t) 0 sd nm ce cc bc ix oc ab ol ov lo cs a1 a2 a3 a4 a5 a6 a7 a8 a9 a10 a11 a12 a13 a14 a15 a16 rs (nI t) 0 sd nm ce cc bc ix oc ab ol ov lo cs a1 a2 a3 a4 a5 a6 a7 a8 a9 a10 a11 a12 a13 a14 a15 a16 := by
  unfold wL_law_270
  exact br_c (fun _ => pm_l293 ht hc hJ) (fun _ => pm_l293 ht hc hJ)
theorem pm_l222 {rs sd nm ce cc bc ix oc ab ol ov lo cs : Int32} {a1 a2 a3 a4 a5 a6 a7 a8 a9 a10 a11 a12 a13 a14 a15 a16 : Nat → Int32} {J : Int32 → Int32 → Int32 → Int32 → Int32 → Int32 → Int32 → Int32 → Int32 → Int32 → Int32 → Int32 → Int32 → Int32 → Int32 → Int32 → Int32 → (Nat → Int32) → (Nat → Int32) → (Nat → Int32) → (Nat → Int32) → (Nat → Int32) → (Nat → Int32) → (Nat → Int32) → (Nat → Int32) → (Nat → Int32) → (Nat → Int32) → (Nat → Int32) → (Nat → Int32) → (Nat → Int32) → (Nat → Int32) → (Nat → Int32) → (Nat → Int32) →  Int32 → Int32 → Int32 → Int32 → Int32 → Int32 → Int32 → Int32 → Int32 → Int32 → Int32 → Int32 → Int32 → Int32 → Int32 → (Nat → Int32) → (Nat → Int32) → (Nat → Int32) → (Nat → Int32) → (Nat → Int32) → (Nat → Int32) → (Nat → Int32) → (Nat → Int32) → (Nat → Int32) → (Nat → Int32) → (Nat → Int32) → (Nat → Int32) → (Nat → Int32) → (Nat → Int32) → (Nat → Int32) → (Nat → Int32) →  Prop} {post : Int32 → Prop} {L : Nat} {xs : Nat → Int32} {kc ks i : Nat} {x3 x7 z0 : Int32} {t : Nat} (ht : t ≤ 96) (hc : ∀ k, pm_chr (a1 k))
    (hJ : ∀ (y : Int32) (t' : Nat) (b1 : Nat → Int32), t' ≤ 96 → (∀ k, pm_chr (b1 k)) → J y (nI (i + 2)) rs (nI t') 0 sd nm ce cc bc ix oc ab ol ov lo cs b1 a2 a3 a4 a5 a6 a7 a8 a9 a10 a11 a12 a13 a14 a15 a16 rs (nI t') 0 sd nm ce cc bc ix oc ab ol ov lo cs b1 a2 a3 a4 a5 a6 a7 a8 a9 a10 a11 a12 a13 a14 a15 a16) :
    wL_law_222 post L xs J x3 (nI i) x7 z0 kc ks rs (nI t) 0 sd nm ce cc bc ix oc ab ol ov lo cs a1 a2 a3 a4 a5 a6 a7 a8 a9 a10 a11 a12 a13 a14 a15 a16 rs (nI t) 0 sd nm ce cc bc ix oc ab ol ov lo cs a1 a2 a3 a4 a5 a6 a7 a8 a9 a10 a11 a12 a13 a14 a15 a16 := by
  unfold wL_law_222
  exact pm_type ht hc (fun t1 b1 h1 c1 => pm_type h1 c1 (fun t2 b2 h2 c2 => pm_type h2 c2 (fun t3 b3 h3 c3 => nm_e (nm_r (nI_add i 2) (hJ _ _ _ h3 c3)))))
theorem pm_l181 {rs sd nm ce cc bc ix oc ab ol ov lo cs : Int32} {a1 a2 a3 a4 a5 a6 a7 a8 a9 a10 a11 a12 a13 a14 a15 a16 : Nat → Int32} {J : Int32 → Int32 → Int32 → Int32 → Int32 → Int32 → Int32 → Int32 → Int32 → Int32 → Int32 → Int32 → Int32 → Int32 → Int32 → Int32 → Int32 → (Nat → Int32) → (Nat → Int32) → (Nat → Int32) → (Nat → Int32) → (Nat → Int32) → (Nat → Int32) → (Nat → Int32) → (Nat → Int32) → (Nat → Int32) → (Nat → Int32) → (Nat → Int32) → (Nat → Int32) → (Nat → Int32) → (Nat → Int32) → (Nat → Int32) → (Nat → Int32) →  Int32 → Int32 → Int32 → Int32 → Int32 → Int32 → Int32 → Int32 → Int32 → Int32 → Int32 → Int32 → Int32 → Int32 → Int32 → (Nat → Int32) → (Nat → Int32) → (Nat → Int32) → (Nat → Int32) → (Nat → Int32) → (Nat → Int32) → (Nat → Int32) → (Nat → Int32) → (Nat → Int32) → (Nat → Int32) → (Nat → Int32) → (Nat → Int32) → (Nat → Int32) → (Nat → Int32) → (Nat → Int32) → (Nat → Int32) →  Prop} {post : Int32 → Prop} {L : Nat} {xs : Nat → Int32} {kc ks i : Nat} {x3 x5 x6 x7 : Int32} {t : Nat} (ht : t ≤ 96) (hc : ∀ k, pm_chr (a1 k))
    (hJ : ∀ (y : Int32) (t' : Nat) (b1 : Nat → Int32), t' ≤ 96 → (∀ k, pm_chr (b1 k)) → J y (nI (i + 2)) rs (nI t') 0 sd nm ce cc bc ix oc ab ol ov lo cs b1 a2 a3 a4 a5 a6 a7 a8 a9 a10 a11 a12 a13 a14 a15 a16 rs (nI t') 0 sd nm ce cc bc ix oc ab ol ov lo cs b1 a2 a3 a4 a5 a6 a7 a8 a9 a10 a11 a12 a13 a14 a15 a16) :
    wL_law_181 post L xs J x3 (nI i) x5 x6 x7 kc ks rs (nI t) 0 sd nm ce cc bc ix oc ab ol ov lo cs a1 a2 a3 a4 a5 a6 a7 a8 a9 a10 a11 a12 a13 a14 a15 a16 rs (nI t) 0 sd nm ce cc bc ix oc ab ol ov lo cs a1 a2 a3 a4 a5 a6 a7 a8 a9 a10 a11 a12 a13 a14 a15 a16 := by
  unfold wL_law_181
  exact br_c (fun _ => nm_r (nI_add i 2) (hJ _ _ _ ht hc)) (fun _ => pm_type ht hc (fun t1 b1 h1 c1 => pm_type h1 c1 (fun t2 b2 h2 c2 => br_c (fun _ => pm_l222 h2 c2 hJ) (fun _ => pm_l222 h2 c2 hJ))))
end
section
def pm_ce (L : Nat) (xs : Nat → Int32) (k : Nat) : Int32 := if k < L then xs k else 0
theorem pm_cell {L : Nat} {xs : Nat → Int32} {q : Int32} (k : Nat) (hq : q = nI k) (hL : L ≤ 260) (hk : k ≤ 10) {post : Int32 → Prop} (hp : post (pm_ce L xs k)) : wpL_cell post L xs () q := by
  subst hq
  unfold wpL_cell
  unfold pm_ce at hp
  rw [nI_clamp (show k < 2 ^ 31 by omega)]
  by_cases h : k < L
  · rw [if_pos h] at hp
    exact br_f (nI_ge h (by omega)) ⟨pk_in k L h, hp⟩
  · rw [if_neg h] at hp
    exact br_t (nI_le (show L ≤ k by omega) (by omega)) hp
theorem pm_l404 {rs tl : Int32} {a1 a2 : Nat → Int32} {post : Int32 → Prop} {L : Nat} {xs : Nat → Int32} {kc ks : Nat} {x4 : Int32} (hL : L ≤ 260) (hp : post 1) (ha : ∀ k, k < 4 → a2 k = pm_ce L xs (k + 1)) :
    ∀ (d i : Nat), i + d = 4 → ∀ (cp sd nm ce cc bc ix oc ab ol ov lo cs : Int32) (a3 a4 a5 a6 a7 a8 a9 a10 a11 a12 a13 a14 a15 a16 : Nat → Int32), pm_J tl cp sd nm ce ol a1 a3 a4 a5 a7 a8 a9 a11 a12 a13 a14 → wL_law_404 post L xs x4 kc ks (d + 1) (nI i) rs tl cp sd nm ce cc bc ix oc ab ol ov lo cs a1 a2 a3 a4 a5 a6 a7 a8 a9 a10 a11 a12 a13 a14 a15 a16 rs tl cp sd nm ce cc bc ix oc ab ol ov lo cs a1 a2 a3 a4 a5 a6 a7 a8 a9 a10 a11 a12 a13 a14 a15 a16 := by
  intro d
  induction d with
  | zero =>
    intro i h cp sd nm ce cc bc ix oc ab ol ov lo cs a3 a4 a5 a6 a7 a8 a9 a10 a11 a12 a13 a14 a15 a16 J
    exact br_t (nI_le (show 4 ≤ i by omega) (by omega)) hp
  | succ d ih =>
    intro i h cp sd nm ce cc bc ix oc ab ol ov lo cs a3 a4 a5 a6 a7 a8 a9 a10 a11 a12 a13 a14 a15 a16 J
    refine br_f (nI_ge (b := 4) (show i < 4 by omega) (by decide)) (pm_cell (i + 1) (nI_1 i) hL (by omega) (pm_holds J (by omega) (ha i (by omega)) ?_))
    intro cp' sd' nm' ce' cc' bc' ix' oc' ab' ol' ov' lo' cs' b3 b4 b5 b6 b7 b8 b9 b10 b11 b12 b13 b14 b15 b16 J'
    exact br_f pm_one (nm_r (nI_1 i) (ih (i + 1) (by omega) _ _ _ _ _ _ _ _ _ _ _ _ _ _ _ _ _ _ _ _ _ _ _ _ _ _ _ J'))
theorem pm_l362 {rs sd nm ce cc bc ix oc ab ol ov lo cs : Int32} {a2 a3 a4 a5 a6 a7 a8 a9 a10 a11 a12 a13 a14 a15 a16 : Nat → Int32} {post : Int32 → Prop} {L : Nat} {xs : Nat → Int32} {kc ks : Nat} {x3 : Int32} (hL : L ≤ 260) (hp : post 1) (ha : ∀ k, k < 4 → a2 k = pm_ce L xs (k + 1)) (ho : ∃ o : Nat, o ≤ 120 ∧ ol = nI o) :
    ∀ (d i : Nat), i + d = 3 → ∀ (t : Nat) (a1 : Nat → Int32), t ≤ 96 → (∀ k, pm_chr (a1 k)) → wL_law_362 post L xs x3 kc ks (d + 1) (nI i) rs (nI t) 0 sd nm ce cc bc ix oc ab ol ov lo cs a1 a2 a3 a4 a5 a6 a7 a8 a9 a10 a11 a12 a13 a14 a15 a16 rs (nI t) 0 sd nm ce cc bc ix oc ab ol ov lo cs a1 a2 a3 a4 a5 a6 a7 a8 a9 a10 a11 a12 a13 a14 a15 a16 := by
  intro d
  induction d with
  | zero =>
    intro i h t a1 ht hc
    exact br_t (nI_le (show 3 ≤ i by omega) (by omega)) (pm_cell 5 rfl hL (by omega) ⟨5, pm_l404 hL hp ha 4 0 rfl _ _ _ _ _ _ _ _ _ _ _ _ _ _ _ _ _ _ _ _ _ _ _ _ _ _ _ ⟨ho, Or.inl ⟨rfl, ⟨t, ht, rfl⟩, hc⟩⟩⟩)
  | succ d ih =>
    intro i h t a1 ht hc
    refine br_f (nI_ge (b := 3) (show i < 3 by omega) (by decide)) (br_c (fun _ => nm_r (nI_1 i) (ih (i + 1) (by omega) t a1 ht hc)) (fun _ => ?_))
    exact pm_type ht hc (fun t1 b1 h1 c1 => pm_type h1 c1 (fun t2 b2 h2 c2 => nm_r (nI_1 i) (ih (i + 1) (by omega) t2 b2 h2 c2)))
theorem pm_lim {L i : Nat} (hL : L ≤ 260) (hi : i ≤ 300) : (Int32.ofNat L - 2 < nI i) ↔ L < i + 2 := by
  have e : (Int32.ofNat L - 2).toInt = (L : Int) - (2 : Nat) := pk_sub_toInt (a := L) (b := 2) (by omega) (by omega)
  rw [Int32.lt_iff_toInt_lt, e, nI_toInt (by omega)]
  omega
theorem pm_l69 {rs sd nm ce cc bc ix oc ab ol ov lo cs : Int32} {a2 a3 a4 a5 a6 a7 a8 a9 a10 a11 a12 a13 a14 a15 a16 : Nat → Int32} {post : Int32 → Prop} {L : Nat} {xs : Nat → Int32} {kc ks : Nat} (hL : L ≤ 260) (hp : post 1) (ha : ∀ k, k < 4 → a2 k = pm_ce L xs (k + 1)) (ho : ∃ o : Nat, o ≤ 120 ∧ ol = nI o) :
    ∀ (d i : Nat), i ≤ 300 → L ≤ i + d → ∀ (x3 : Int32) (t : Nat) (a1 : Nat → Int32), t ≤ 96 → (∀ k, pm_chr (a1 k)) → wL_law_69 post L xs kc ks (d + 1) x3 (nI i) rs (nI t) 0 sd nm ce cc bc ix oc ab ol ov lo cs a1 a2 a3 a4 a5 a6 a7 a8 a9 a10 a11 a12 a13 a14 a15 a16 rs (nI t) 0 sd nm ce cc bc ix oc ab ol ov lo cs a1 a2 a3 a4 a5 a6 a7 a8 a9 a10 a11 a12 a13 a14 a15 a16 := by
  intro d
  induction d with
  | zero =>
    intro i h h' x3 t a1 ht hc
    exact br_t ((pm_lim hL h).mpr (by omega)) ⟨4, pm_l362 hL hp ha ho 3 0 rfl t a1 ht hc⟩
  | succ d ih =>
    intro i h h' x3 t a1 ht hc
    by_cases hi : L < i + 2
    · exact br_t ((pm_lim hL h).mpr hi) ⟨4, pm_l362 hL hp ha ho 3 0 rfl t a1 ht hc⟩
    · have hJ : ∀ (y : Int32) (t' : Nat) (b1 : Nat → Int32), t' ≤ 96 → (∀ k, pm_chr (b1 k)) → wL_law_69 post L xs kc ks (d + 1) y (nI (i + 2)) rs (nI t') 0 sd nm ce cc bc ix oc ab ol ov lo cs b1 a2 a3 a4 a5 a6 a7 a8 a9 a10 a11 a12 a13 a14 a15 a16 rs (nI t') 0 sd nm ce cc bc ix oc ab ol ov lo cs b1 a2 a3 a4 a5 a6 a7 a8 a9 a10 a11 a12 a13 a14 a15 a16 :=
        fun y t' b1 h1 h2 => ih (i + 2) (by omega) (by omega) y t' b1 h1 h2
      have e2 := nI_add i 2
      refine br_f (fun z => hi ((pm_lim hL h).mp z)) ⟨pk_in i L (by omega), nm_e ⟨pk_in (i + 1) L (by omega) (nI_1 i), nm_e ?_⟩⟩
      obtain ⟨r1, hr1⟩ := pm_letter (xs (nI i + 1).toNatClampNeg >>> ((2 : Int32) &&& 31))
      obtain ⟨r2, hr2⟩ := pm_letter (xs (nI i + 1).toNatClampNeg >>> ((1 : Int32) &&& 31))
      refine hr1 () _ (hr2 () _ (nm_e ?_))
      refine br_c (fun _ => pm_type ht hc (fun t1 b1 h1 c1 => nm_r e2 (hJ _ _ _ h1 c1))) (fun _ => ?_)
      refine br_c (fun _ => pm_type ht hc (fun t1 b1 h1 c1 => nm_r e2 (hJ _ _ _ h1 c1))) (fun _ => ?_)
      refine br_c (fun _ => pm_type ht hc (fun t1 b1 h1 c1 => pm_type h1 c1 (fun t2 b2 h2 c2 => pm_type h2 c2 (fun t3 b3 h3 c3 => nm_r e2 (hJ _ _ _ h3 c3))))) (fun _ => ?_)
      refine br_c (fun _ => pm_l181 ht hc hJ) (fun _ => ?_)
      refine br_c (fun _ => pm_l181 ht hc hJ) (fun _ => ?_)
      refine br_c (fun _ => br_c (fun _ => nm_r e2 (hJ _ _ _ ht hc)) (fun _ => pm_type ht hc (fun t1 b1 h1 c1 => br_c (fun _ => pm_type h1 c1 (fun t2 b2 h2 c2 => pm_l270 h2 c2 hJ)) (fun _ => pm_l270 h1 c1 hJ)))) (fun _ => ?_)
      refine br_c (fun _ => br_c (fun _ => nm_r e2 (hJ _ _ _ ht hc)) (fun _ => pm_type ht hc (fun t1 b1 h1 c1 => pm_type h1 c1 (fun t2 b2 h2 c2 => nm_e (nm_r e2 (hJ _ _ _ h2 c2)))))) (fun _ => ?_)
      exact br_c (fun _ => pm_type ht hc (fun t1 b1 h1 c1 => nm_r e2 (hJ _ _ _ h1 c1))) (fun _ => trivial)
theorem pm_l28 {rs sd nm ce cc bc ix oc ab ol ov lo cs : Int32} {a1 a3 a4 a5 a6 a7 a8 a9 a10 a11 a12 a13 a14 a15 a16 : Nat → Int32} {post : Int32 → Prop} {L : Nat} {xs : Nat → Int32} {kc ks : Nat} {t : Nat} (hL : L ≤ 260) (hp : post 1) (ho : ∃ o : Nat, o ≤ 120 ∧ ol = nI o) (ht : t ≤ 96) (hc : ∀ k, pm_chr (a1 k)) :
    ∀ (d i : Nat), i + d = 4 → ∀ a2 : Nat → Int32, (∀ k, k < i → a2 k = pm_ce L xs (k + 1)) → wL_law_28 post L xs kc ks (d + 1) (nI i) rs (nI t) 0 sd nm ce cc bc ix oc ab ol ov lo cs a1 a2 a3 a4 a5 a6 a7 a8 a9 a10 a11 a12 a13 a14 a15 a16 rs (nI t) 0 sd nm ce cc bc ix oc ab ol ov lo cs a1 a2 a3 a4 a5 a6 a7 a8 a9 a10 a11 a12 a13 a14 a15 a16 := by
  intro d
  induction d with
  | zero =>
    intro i h a2 ha
    exact br_t (nI_le (show 4 ≤ i by omega) (by omega)) ⟨L + 1, pm_l69 hL hp (fun k hk => ha k (by omega)) ho L 5 (by omega) (by omega) 0 t a1 ht hc⟩
  | succ d ih =>
    intro i h a2 ha
    refine br_f (nI_ge (b := 4) (show i < 4 by omega) (by decide)) (pm_cell (i + 1) (nI_1 i) hL (by omega) (pm_set (by omega) (pm_set (by omega) (nm_r (nI_1 i) (ih (i + 1) (by omega) _ (fun k hk => ?_))))))
    by_cases e : k = i
    · subst e
      exact pk_us
    · rw [pk_un e]
      exact ha k (by omega)
theorem pm_init (p0 : Int32) : ∃ rs : Int32, ∀ {post : St2 → Prop}, post (rs, 0, 0, 0, 0, 0, 0, 0, 0, 0, 0, 0, 0, 0, 0, (fun _ => 0), (fun _ => 0), (fun _ => 0), (fun _ => 0), (fun _ => 0), (fun _ => 0), (fun _ => 0), (fun _ => 0), (fun _ => 0), (fun _ => 0), (fun _ => 0), (fun _ => 0), (fun _ => 0), (fun _ => 0), (fun _ => 0), (fun _ => 0)) → wpX_init post 16 697 (0, 0, 0, 0, 0, 0, 0, 0, 0, 0, 0, 0, 0, 0, 0) p0 := by
  by_cases c1 : 0 ≤ p0
  · by_cases c2 : p0 ≤ 2
    · refine ⟨p0, fun {post} hp => ?_⟩
      unfold wpX_init
      dsimp only
      refine ⟨by omega, by omega, by omega, by omega, by omega, by omega, by omega, by omega, by omega, by omega, by omega, by omega, by omega, by omega, by omega, by omega, by omega, by omega, by omega, by omega, by omega, by omega, by omega, by omega, by omega, by omega, by omega, by omega, by omega, by omega, by omega, by omega, br_t c1 (br_t c2 hp)⟩
    · refine ⟨2, fun {post} hp => ?_⟩
      unfold wpX_init
      dsimp only
      refine ⟨by omega, by omega, by omega, by omega, by omega, by omega, by omega, by omega, by omega, by omega, by omega, by omega, by omega, by omega, by omega, by omega, by omega, by omega, by omega, by omega, by omega, by omega, by omega, by omega, by omega, by omega, by omega, by omega, by omega, by omega, by omega, by omega, br_t c1 (br_f c2 hp)⟩
  · refine ⟨0, fun {post} hp => ?_⟩
    unfold wpX_init
    dsimp only
    refine ⟨by omega, by omega, by omega, by omega, by omega, by omega, by omega, by omega, by omega, by omega, by omega, by omega, by omega, by omega, by omega, by omega, by omega, by omega, by omega, by omega, by omega, by omega, by omega, by omega, by omega, by omega, by omega, by omega, by omega, by omega, by omega, by omega, br_f c1 hp⟩
theorem pm_chr0 : ∀ k : Nat, pm_chr ((fun _ => 0 : Nat → Int32) k) := fun _ => (pk_charN (q := 0) (by omega)).1
end
section
theorem i_vc (xs : Nat → Int32) (L : Nat) (hL : L ≤ 260) : wpL_law (fun r => r = 1) L xs := by
  obtain ⟨rs, hi⟩ := pm_init (pm_ce L xs 0)
  unfold wpL_law
  refine pm_cell 0 rfl hL (by omega) ⟨16, 697, by omega, by omega, hi ⟨by omega, by omega, pm_cell 0 rfl hL (by omega) ⟨16, 697, by omega, by omega, hi ?_⟩⟩⟩
  exact ⟨5, pm_l28 (post := fun r => r = 1) (t := 0) hL rfl ⟨0, by omega, rfl⟩ (by omega) pm_chr0 4 0 rfl _ (fun k hk => absurd hk (by omega))⟩
end
