section
/-! the methods over one cell: hold, writeOwn, writeOther. Each ends, keeps all but the bit (and the other bit, which becomes the value) -/
def mt_D (c w k o f : Int32) (a1 a2 a3 : Nat → Int32) (W : (St1 → Prop) → Prop) : Prop := ∃ b : Int32, ∀ post : St1 → Prop, post (c, w, k, b, o, f, a1, a2, a3) → W post
section
variable {c w k b o f : Int32} {a1 a2 a3 : Nat → Int32}
theorem mt_Dp : mt_D c w k o f a1 a2 a3 (fun post => post (c, w, k, b, o, f, a1, a2, a3)) := ⟨b, fun _ h => h⟩
theorem mt_Db {p : Prop} {A B : (St1 → Prop) → Prop} (h : p → mt_D c w k o f a1 a2 a3 A) (g : ¬ p → mt_D c w k o f a1 a2 a3 B) : mt_D c w k o f a1 a2 a3 (fun post => (p → A post) ∧ (¬ p → B post)) := by
  by_cases e : p
  · obtain ⟨b, hb⟩ := h e
    exact ⟨b, fun post hp => br_t e (hb post hp)⟩
  · obtain ⟨b, hb⟩ := g e
    exact ⟨b, fun post hp => br_f e (hb post hp)⟩
theorem mt_Dn {e : Int32} {A : (St1 → Prop) → Int32 → Prop} (h : mt_D c w k o f a1 a2 a3 (fun post => A post e)) : mt_D c w k o f a1 a2 a3 (fun post => ∀ x : Int32, x = e → A post x) := by
  obtain ⟨b, hb⟩ := h
  exact ⟨b, fun post hp => nm_e (P := A post) (hb post hp)⟩
theorem mt_Da {p : Prop} {A : (St1 → Prop) → Prop} (hp : p) (h : mt_D c w k o f a1 a2 a3 A) : mt_D c w k o f a1 a2 a3 (fun post => p ∧ A post) := by
  obtain ⟨b, hb⟩ := h
  exact ⟨b, fun post hq => ⟨hp, hb post hq⟩⟩
theorem mt_hold23 : mt_D c w k o f a1 a2 a3 (fun post => wX_hold_23 post c w k b o f a1 a2 a3) :=
  mt_Db (fun _ => mt_Dp) (fun _ => mt_Da (by decide) (mt_Db (fun _ => mt_Dn mt_Dp) (fun _ => mt_Dp)))
theorem mt_hold15 : mt_D c w k o f a1 a2 a3 (fun post => wX_hold_15 post c w k b o f a1 a2 a3) := mt_hold23 (b := k)
theorem mt_hold : mt_D c w k o f a1 a2 a3 (fun post => wpX_hold post (c, w, k, b, o, f, a1, a2, a3)) :=
  mt_Db (fun _ => mt_hold15) (fun _ => mt_Db (fun _ => mt_hold15) (fun _ => mt_hold23))
/-! writeOther -/
theorem mt_o148 : mt_D c w k o f a1 a2 a3 (fun post => wX_writeOther_148 post c w k b o f a1 a2 a3) := by
  obtain ⟨b', hb⟩ := mt_hold (c := c) (w := w) (k := k) (b := b) (o := o) (f := f) (a1 := a1) (a2 := a2) (a3 := a3)
  exact ⟨b', fun post hp => hb _ hp⟩
theorem mt_o128 {z : Int32} : mt_D c w k o f a1 a2 a3 (fun post => wX_writeOther_128 post z c w k b o f a1 a2 a3) :=
  mt_Db (fun _ => mt_o148) (fun _ => mt_Dn mt_o148)
theorem mt_o127 : mt_D c w k o f a1 a2 a3 (fun post => wX_writeOther_127 post c w k b o f a1 a2 a3) := mt_o128 (z := 0)
theorem mt_o123 : mt_D c w k o f a1 a2 a3 (fun post => wX_writeOther_123 post c w k b o f a1 a2 a3) := mt_o128 (z := 1)
theorem mt_o84 {x3 x4 : Int32} : mt_D c w k o f a1 a2 a3 (fun post => wX_writeOther_84 post x3 x4 c w k b o f a1 a2 a3) :=
  mt_Db (fun _ => mt_o127) (fun _ => mt_Db (fun _ => mt_o127) (fun _ => mt_Db (fun _ => mt_Db (fun _ => mt_o127) (fun _ => mt_o123)) (fun _ => mt_Db (fun _ => mt_o127) (fun _ => mt_o123))))
theorem mt_o74 {x3 x4 : Int32} : mt_D c w k o f a1 a2 a3 (fun post => wX_writeOther_74 post x3 x4 c w k b o f a1 a2 a3) := mt_Dn mt_o84
theorem mt_o61 {x3 x4 : Int32} : mt_D c w k o f a1 a2 a3 (fun post => wX_writeOther_61 post x3 x4 c w k b o f a1 a2 a3) :=
  mt_Db (fun _ => mt_o84) (fun _ => mt_Db (fun _ => mt_o74) (fun _ => mt_o84))
theorem mt_o47 {x3 z : Int32} : mt_D c w k o f a1 a2 a3 (fun post => wX_writeOther_47 post x3 z c w k b o f a1 a2 a3) :=
  mt_Db (fun _ => mt_o61) (fun _ => mt_Db (fun _ => mt_o74) (fun _ => mt_o61))
theorem mt_o46 {x3 : Int32} : mt_D c w k o f a1 a2 a3 (fun post => wX_writeOther_46 post x3 c w k b o f a1 a2 a3) := mt_o47 (z := 0)
theorem mt_o33 {x1 x2 z : Int32} : mt_D c w k o f a1 a2 a3 (fun post => wX_writeOther_33 post x1 x2 z c w k b o f a1 a2 a3) :=
  mt_Db (fun _ => mt_o46) (fun _ => mt_Db (fun _ => mt_o47) (fun _ => mt_o46))
theorem mt_o32 {x1 x2 : Int32} : mt_D c w k o f a1 a2 a3 (fun post => wX_writeOther_32 post x1 x2 c w k b o f a1 a2 a3) := mt_o33 (z := 0)
theorem mt_o13 {x1 z : Int32} : mt_D c w k x1 f a1 a2 a3 (fun post => wX_writeOther_13 post x1 z c w k b o f a1 a2 a3) :=
  mt_Db (fun _ => mt_o32) (fun _ => mt_Db (fun _ => mt_o33) (fun _ => mt_o32))
theorem mt_other {p : Int32} : mt_D c w k p f a1 a2 a3 (fun post => wpX_writeOther post (c, w, k, b, o, f, a1, a2, a3) p) :=
  mt_Db (fun _ => mt_o13) (fun _ => mt_o13)
/-! writeOwn -/
theorem mt_w52 {z : Int32} : mt_D c w k o f a1 a2 a3 (fun post => wX_writeOwn_52 post z c w k b o f a1 a2 a3) := by
  obtain ⟨b', hb⟩ := mt_hold (c := c) (w := w) (k := k) (b := z) (o := o) (f := f) (a1 := a1) (a2 := a2) (a3 := a3)
  exact ⟨b', fun post hp => hb _ hp⟩
theorem mt_w51 {x : Int32} : mt_D c w k o f a1 a2 a3 (fun post => wX_writeOwn_51 post x c w k b o f a1 a2 a3) := mt_w52 (z := x)
theorem mt_w30 {x z : Int32} : mt_D c w k o f a1 a2 a3 (fun post => wX_writeOwn_30 post x z c w k b o f a1 a2 a3) :=
  mt_Db (fun _ => mt_w51) (fun _ => mt_Db (fun _ => mt_w51) (fun _ => mt_w52))
theorem mt_w29 {x : Int32} : mt_D c w k o f a1 a2 a3 (fun post => wX_writeOwn_29 post x c w k b o f a1 a2 a3) := mt_w30 (z := 0)
theorem mt_w25 {x : Int32} : mt_D c w k o f a1 a2 a3 (fun post => wX_writeOwn_25 post x c w k b o f a1 a2 a3) := mt_w30 (z := 1)
theorem mt_w13 {x : Int32} : mt_D c w k o f a1 a2 a3 (fun post => wX_writeOwn_13 post x c w k b o f a1 a2 a3) :=
  mt_Db (fun _ => mt_Db (fun _ => mt_w25) (fun _ => mt_w29)) (fun _ => mt_w29)
theorem mt_own {p : Int32} : mt_D c w k o f a1 a2 a3 (fun post => wpX_writeOwn post (c, w, k, b, o, f, a1, a2, a3) p) :=
  mt_Db (fun _ => mt_Db (fun _ => mt_w25) (fun _ => mt_w13)) (fun _ => mt_w13)
end
end
section
/-! visit and runs: they end; the answer of runs is one of the script's state and the arguments, and for a fault of one cell it doesn't hang on the order -/
def mt_Z (a2 : Nat → Int32) : Prop := ∀ m, m < 6 → ∃ s : Nat, s ≤ 4 ∧ a2 m = nI s
def mt_B (f : Int32) : Prop := f = 0 ∨ f = 1
def mt_G (a2 : Nat → Int32) (i : Nat) (f f' : Int32) : Prop := mt_B f' ∧ (a2 i = 0 → f' = f)
theorem mt_or0 {f : Int32} (h : mt_B f) : mt_B (f ||| 0) := by
  rcases h with rfl | rfl
  · exact Or.inl (by decide)
  · exact Or.inr (by decide)
theorem mt_or1 {f : Int32} (h : mt_B f) : mt_B (f ||| 1) := by
  rcases h with rfl | rfl
  · exact Or.inr (by decide)
  · exact Or.inr (by decide)
theorem mt_nar {f : Int32} (h : mt_B f) : narrow .boolean (.int f) = .int f ∧ fits .boolean (.int f) = true := by
  rcases h with rfl | rfl
  · exact ⟨rfl, rfl⟩
  · exact ⟨rfl, rfl⟩
section
variable {c w k b o f : Int32} {a1 a2 a3 : Nat → Int32}
theorem mt_v50 {i : Nat} {x4 z : Int32} (hf : mt_B f) : ∃ f' : Int32, mt_B f' ∧ ∀ (post : St1 → Prop) (J : Int32 → Int32 → Int32 → Int32 → Int32 → Int32 → Int32 → (Nat → Int32) → (Nat → Int32) → (Nat → Int32) → Prop) (x1 x2 : Int32), J (nI (i + 1)) c w k b o f' a1 a2 a3 → wX_visit_50 post J x1 x2 (nI i) x4 z f c w k b o f a1 a2 a3 := by
  by_cases e : z = x4 - 2
  · exact ⟨f ||| 0, mt_or0 hf, fun post J x1 x2 h => br_t e (nm_e ⟨(mt_nar (mt_or0 hf)).1, (mt_nar (mt_or0 hf)).2, nm_r (nI_1 i) h⟩)⟩
  · exact ⟨f ||| 1, mt_or1 hf, fun post J x1 x2 h => br_f e (nm_e ⟨(mt_nar (mt_or1 hf)).1, (mt_nar (mt_or1 hf)).2, nm_r (nI_1 i) h⟩)⟩
end
section
variable {c w k : Int32} {a1 a2 a3 : Nat → Int32}
theorem mt_vloop {m s : Nat} {x2 : Int32} (hm : m < 6) (hs : s ≤ 4) (ha : a2 m = nI s) : ∀ (r i : Nat) (b o f : Int32), i + r = s → mt_B f → ∃ b' o' f' : Int32, mt_B f' ∧ (r = 0 → f' = f) ∧ ∀ post : St1 → Prop, post (c, w, k, b', o', f', a1, a2, a3) → wX_visit_2 post (nI m) x2 (r + 1) (nI i) c w k b o f a1 a2 a3
  | 0, i, b, o, f, h, hf => ⟨b, o, f, hf, fun _ => rfl, fun post hp => ⟨pk_in m 6 hm, br_t (by rw [nI_clamp (by omega), ha]; exact nI_le (by omega) (by omega)) hp⟩⟩
  | r + 1, i, b, o, f, h, hf => by
    have e1 : a2 (nI m).toNatClampNeg = nI s := by rw [nI_clamp (by omega)]; exact ha
    have e2 : nI m * 4 + nI i = nI (m * 4 + i) := by rw [show (4 : Int32) = nI 4 from rfl, pk_mul, nI_add]
    have hin : vp_in (nI m * 4 + nI i) 24 := by rw [e2]; exact vp_in_nI (by omega) (by omega)
    have hle : ¬ a2 (nI m).toNatClampNeg ≤ nI i := by rw [e1]; exact nI_ge (by omega) (by omega)
    obtain ⟨v, hv⟩ : ∃ v : Int32, a3 (nI m * 4 + nI i).toNatClampNeg = v := ⟨_, rfl⟩
    by_cases h2 : v < 2
    · by_cases hx : x2 = 0
      · obtain ⟨b1, h1⟩ := mt_other (c := c) (w := w) (k := k) (b := b) (o := o) (f := f) (a1 := a1) (a2 := a2) (a3 := a3) (p := v)
        obtain ⟨b', o', f', g1, g2, g3⟩ := mt_vloop (x2 := x2) hm hs ha r (i + 1) b1 v f (by omega) hf
        exact ⟨b', o', f', g1, fun z => absurd z (by omega), fun post hp => ⟨pk_in m 6 hm, br_f hle ⟨hin, nm_r hv (br_t h2 (br_t hx (h1 _ (nm_r (nI_1 i) (g3 post hp)))))⟩⟩⟩
      · obtain ⟨b1, h1⟩ := mt_own (c := c) (w := w) (k := k) (b := b) (o := o) (f := f) (a1 := a1) (a2 := a2) (a3 := a3) (p := v)
        obtain ⟨b', o', f', g1, g2, g3⟩ := mt_vloop (x2 := x2) hm hs ha r (i + 1) b1 o f (by omega) hf
        exact ⟨b', o', f', g1, fun z => absurd z (by omega), fun post hp => ⟨pk_in m 6 hm, br_f hle ⟨hin, nm_r hv (br_t h2 (br_f hx (h1 _ (nm_r (nI_1 i) (g3 post hp)))))⟩⟩⟩
    · by_cases hx : x2 = 0
      · obtain ⟨f1, hf1, h1⟩ := mt_v50 (c := c) (w := w) (k := k) (b := b) (o := o) (a1 := a1) (a2 := a2) (a3 := a3) (i := i) (x4 := v) (z := o) hf
        obtain ⟨b', o', f', g1, g2, g3⟩ := mt_vloop (x2 := x2) hm hs ha r (i + 1) b o f1 (by omega) hf1
        exact ⟨b', o', f', g1, fun z => absurd z (by omega), fun post hp => ⟨pk_in m 6 hm, br_f hle ⟨hin, nm_r hv (br_f h2 (br_t hx (h1 post _ _ _ (g3 post hp))))⟩⟩⟩
      · obtain ⟨f1, hf1, h1⟩ := mt_v50 (c := c) (w := w) (k := k) (b := b) (o := o) (a1 := a1) (a2 := a2) (a3 := a3) (i := i) (x4 := v) (z := b) hf
        obtain ⟨b', o', f', g1, g2, g3⟩ := mt_vloop (x2 := x2) hm hs ha r (i + 1) b o f1 (by omega) hf1
        exact ⟨b', o', f', g1, fun z => absurd z (by omega), fun post hp => ⟨pk_in m 6 hm, br_f hle ⟨hin, nm_r hv (br_f h2 (br_f hx (h1 post _ _ _ (g3 post hp))))⟩⟩⟩
theorem mt_visit {m : Nat} (hm : m < 6) (hz : mt_Z a2) (x2 b o f : Int32) (hf : mt_B f) : ∃ b' o' f' : Int32, mt_G a2 m f f' ∧ ∀ post : St1 → Prop, post (c, w, k, b', o', f', a1, a2, a3) → wpX_visit post (c, w, k, b, o, f, a1, a2, a3) (nI m) x2 := by
  obtain ⟨s, hs, ha⟩ := hz m hm
  obtain ⟨b', o', f', g1, g2, g3⟩ := mt_vloop (c := c) (w := w) (k := k) (a1 := a1) (a3 := a3) (x2 := x2) hm hs ha s 0 b o f (by omega) hf
  refine ⟨b', o', f', ⟨g1, fun z => g2 ?_⟩, fun post hp => ⟨s + 1, g3 post hp⟩⟩
  rw [ha, ← nI_0, nI_eq (by omega) (by omega)] at z
  exact z
theorem mt_r61a {i : Nat} (hi : i < 6) (hz : mt_Z a2) (b o f : Int32) (hf : mt_B f) {x1 : Int32} (h4 : ¬ 4 ≤ x1) : ∃ b' o' f' : Int32, mt_G a2 i f f' ∧ ∀ (post : Int32 → St1 → Prop) (J : Int32 → Int32 → Int32 → Int32 → Int32 → Int32 → Int32 → (Nat → Int32) → (Nat → Int32) → (Nat → Int32) → Prop) (x2 z : Int32), J (nI (i + 1)) c w k b' o' f' a1 a2 a3 → wX_runs_61 post J x1 x2 (nI i) z c w k b o f a1 a2 a3 := by
  by_cases hw : nI i = w
  · exact ⟨b, o, f, ⟨hf, fun _ => rfl⟩, fun post J x2 z h => br_t hw (br_t hw (nm_r (nI_1 i) h))⟩
  · obtain ⟨b1, o1, f1, g1, g2⟩ := mt_visit (c := c) (w := w) (k := k) (a1 := a1) (a3 := a3) hi hz 1 b o f hf
    exact ⟨b1, o1, f1, g1, fun post J x2 z h => br_f hw (br_f h4 (g2 _ (nm_r (nI_1 i) h)))⟩
theorem mt_r61b {i : Nat} (hi : i < 6) (hz : mt_Z a2) (b o f : Int32) (hf : mt_B f) {x1 : Int32} (h4 : 4 ≤ x1) (z : Int32) : ∃ b' o' f' : Int32, mt_G a2 i f f' ∧ ∀ (post : Int32 → St1 → Prop) (J : Int32 → Int32 → Int32 → Int32 → Int32 → Int32 → Int32 → (Nat → Int32) → (Nat → Int32) → (Nat → Int32) → Prop) (x2 : Int32), J (nI (i + 1)) c w k b' o' f' a1 a2 a3 → wX_runs_61 post J x1 x2 (nI i) z c w k b o f a1 a2 a3 := by
  by_cases hw : nI i = w
  · exact ⟨b, o, f, ⟨hf, fun _ => rfl⟩, fun post J x2 h => br_t hw (br_t hw (nm_r (nI_1 i) h))⟩
  · obtain ⟨b1, o1, f1, g1, g2⟩ := mt_visit (c := c) (w := w) (k := k) (a1 := a1) (a3 := a3) hi hz z b o f hf
    by_cases h0 : z = 0
    · obtain ⟨b2, o2, f2, g3, g4⟩ := mt_visit (c := c) (w := w) (k := k) (a1 := a1) (a3 := a3) hi hz 1 b1 o1 f1 g1.1
      exact ⟨b2, o2, f2, ⟨g3.1, fun q => (g3.2 q).trans (g1.2 q)⟩, fun post J x2 h => br_f hw (br_t h4 (br_f hw (g2 _ (br_t h0 (g4 _ (nm_r (nI_1 i) h))))))⟩
    · obtain ⟨b2, o2, f2, g3, g4⟩ := mt_visit (c := c) (w := w) (k := k) (a1 := a1) (a3 := a3) hi hz 0 b1 o1 f1 g1.1
      exact ⟨b2, o2, f2, ⟨g3.1, fun q => (g3.2 q).trans (g1.2 q)⟩, fun post J x2 h => br_f hw (br_t h4 (br_f hw (g2 _ (br_f h0 (g4 _ (nm_r (nI_1 i) h))))))⟩
theorem mt_r53 {i : Nat} (hi : i < 6) (hz : mt_Z a2) (b o f : Int32) (hf : mt_B f) (x1 y z : Int32) : ∃ b' o' f' : Int32, mt_G a2 i f f' ∧ ∀ x2 : Int32, (4 ≤ x1 → x2 = y) → ∀ (post : Int32 → St1 → Prop) (J : Int32 → Int32 → Int32 → Int32 → Int32 → Int32 → Int32 → (Nat → Int32) → (Nat → Int32) → (Nat → Int32) → Prop), J (nI (i + 1)) c w k b' o' f' a1 a2 a3 → wX_runs_53 post J x1 x2 (nI i) z x2 c w k b o f a1 a2 a3 := by
  by_cases h4 : 4 ≤ x1
  · by_cases e : y = z
    · obtain ⟨b1, o1, f1, g1, g2⟩ := mt_r61b (c := c) (w := w) (k := k) (a1 := a1) (a3 := a3) hi hz b o f hf h4 1
      exact ⟨b1, o1, f1, g1, fun x2 hx post J h => br_t ((hx h4).trans e) (g2 post J x2 h)⟩
    · obtain ⟨b1, o1, f1, g1, g2⟩ := mt_r61b (c := c) (w := w) (k := k) (a1 := a1) (a3 := a3) hi hz b o f hf h4 0
      exact ⟨b1, o1, f1, g1, fun x2 hx post J h => br_f (fun q => e ((hx h4).symm.trans q)) (g2 post J x2 h)⟩
  · obtain ⟨b1, o1, f1, g1, g2⟩ := mt_r61a (c := c) (w := w) (k := k) (a1 := a1) (a3 := a3) hi hz b o f hf h4
    exact ⟨b1, o1, f1, g1, fun x2 _ post J h => br_c (fun _ => g2 post J x2 1 h) (fun _ => g2 post J x2 0 h)⟩
theorem mt_rloop {n : Nat} (hn : n ≤ 6) (hz : mt_Z a2) (x1 y : Int32) : ∀ (r i : Nat) (b o f : Int32), i + r = n → mt_B f → ∃ v : Int32, mt_B v ∧ ((∀ m, m < n → a2 m = 0) → v = f) ∧ ∀ x2 : Int32, (4 ≤ x1 → x2 = y) → ∀ post : Int32 → St1 → Prop, (∀ k b o f : Int32, post v (nI n, w, k, b, o, f, a1, a2, a3)) → wX_runs_28 post x1 x2 (r + 1) (nI i) (nI n) w k b o f a1 a2 a3
  | 0, i, b, o, f, h, hf => ⟨f, hf, fun _ => rfl, fun x2 _ post hp => br_t (nI_le (by omega) (by omega)) ⟨(mt_nar hf).1, hp k b o f⟩⟩
  | r + 1, i, b, o, f, h, hf => by
    by_cases ha : a1 (nI i).toNatClampNeg = 0
    · obtain ⟨b1, o1, f1, g1, g2⟩ := mt_r53 (c := nI n) (w := w) (k := k) (a1 := a1) (a3 := a3) (i := i) (by omega) hz b o f hf x1 y 1
      obtain ⟨v, h1, h2, h3⟩ := mt_rloop hn hz x1 y r (i + 1) b1 o1 f1 (by omega) g1.1
      exact ⟨v, h1, fun z => (h2 z).trans (g1.2 (z i (by omega))), fun x2 hx post hp => br_f (nI_ge (by omega) (by omega)) ⟨pk_in i 6 (by omega), br_t ha (g2 x2 hx post _ (h3 x2 hx post hp))⟩⟩
    · obtain ⟨b1, o1, f1, g1, g2⟩ := mt_r53 (c := nI n) (w := w) (k := k) (a1 := a1) (a3 := a3) (i := i) (by omega) hz b o f hf x1 y 0
      obtain ⟨v, h1, h2, h3⟩ := mt_rloop hn hz x1 y r (i + 1) b1 o1 f1 (by omega) g1.1
      exact ⟨v, h1, fun z => (h2 z).trans (g1.2 (z i (by omega))), fun x2 hx post hp => br_f (nI_ge (by omega) (by omega)) ⟨pk_in i 6 (by omega), br_f ha (g2 x2 hx post _ (h3 x2 hx post hp))⟩⟩
end
/-- runs: q is 1 where no read fails, else 0 -/
def mt_R (n : Nat) (w : Int32) (a1 a2 a3 : Nat → Int32) (x1 x2 p2 p3 : Int32) (q : Nat) : Prop := ∀ (post : Int32 → St1 → Prop) (k b o f : Int32), (∀ v k b o f : Int32, (v = 0 → q = 1) → (¬ v = 0 → q = 0) → post v (nI n, w, k, b, o, f, a1, a2, a3)) → wpX_runs post (nI n, w, k, b, o, f, a1, a2, a3) x1 x2 p2 p3
theorem mt_runs {n : Nat} {a2 : Nat → Int32} (hn : n ≤ 6) (hz : mt_Z a2) (w : Int32) (a1 a3 : Nat → Int32) (x1 y p2 p3 : Int32) : ∃ q : Nat, q ≤ 1 ∧ ((∀ m, m < n → a2 m = 0) → q = 1) ∧ ∀ x2 : Int32, (4 ≤ x1 → x2 = y) → mt_R n w a1 a2 a3 x1 x2 p2 p3 q := by
  obtain ⟨b0, h0⟩ := mt_hold (c := nI n) (w := w) (k := x1) (b := p2) (o := p3) (f := 0) (a1 := a1) (a2 := a2) (a3 := a3)
  obtain ⟨v, h1, h2, h3⟩ := mt_rloop (w := w) (k := x1) (a1 := a1) (a3 := a3) hn hz x1 y n 0 b0 p3 0 (by omega) (Or.inl rfl)
  by_cases e : v = 0
  · exact ⟨1, by omega, fun _ => rfl, fun x2 hx post k b o f hp => h0 _ ⟨n + 1, h3 x2 hx post (fun k b o f => hp v k b o f (fun _ => rfl) (fun z => absurd e z))⟩⟩
  · exact ⟨0, by omega, fun z => absurd (h2 z) e, fun x2 hx post k b o f hp => h0 _ ⟨n + 1, h3 x2 hx post (fun k b o f => hp v k b o f (fun z => absurd z e) (fun _ => rfl))⟩⟩
end
section
/-! quiet and silent -/
theorem mt_cnt {v : Int32} {q n i : Nat} {J : Int32 → Int32 → Prop} (hv : v = 0 → q = 1) (hv' : ¬ v = 0 → q = 0) (h : J (nI (n + q)) (nI (i + 1))) : (v = 0 → ∀ x : Int32, x = nI n + 1 → ∀ y : Int32, y = nI i + 1 → J x y) ∧ (¬ v = 0 → ∀ x : Int32, x = nI n + 0 → ∀ y : Int32, y = nI i + 1 → J x y) := by
  refine br_c (fun e x ex y ey => ?_) (fun e x ex y ey => ?_)
  · rw [nI_1] at ex ey
    rw [hv e] at h
    rw [ex, ey]
    exact h
  · rw [Int32.add_zero] at ex
    rw [nI_1] at ey
    rw [hv' e] at h
    rw [ex, ey]
    exact h
def mt_QL (n : Nat) (w : Int32) (a1 a2 a3 : Nat → Int32) (Q : Nat) : Prop := ∀ (post : Int32 → St1 → Prop) (k b o f : Int32), (∀ k b o f : Int32, post (nI Q) (nI n, w, k, b, o, f, a1, a2, a3)) → wpX_quiet post (nI n, w, k, b, o, f, a1, a2, a3)
theorem mt_quiet {n : Nat} {a2 : Nat → Int32} (hn : n ≤ 6) (hz : mt_Z a2) (w : Int32) (a1 a3 : Nat → Int32) : ∃ Q : Nat, Q ≤ 2 ∧ ((∀ m, m < n → a2 m = 0) → Q = 2) ∧ mt_QL n w a1 a2 a3 Q := by
  obtain ⟨q0, l0, z0, r0⟩ := mt_runs hn hz w a1 a3 (-1) 1 (nI 0) 0
  obtain ⟨q1, l1, z1, r1⟩ := mt_runs hn hz w a1 a3 (-1) 1 (nI 1) 0
  refine ⟨0 + q0 + q1, by omega, fun z => by have := z0 z; have := z1 z; omega, fun post k b o f hp => ⟨3, ?_⟩⟩
  refine br_f (by decide) (r0 1 (fun _ => rfl) _ k b o f (fun v k b o f e e' => mt_cnt (n := 0) (i := 0) e e' ?_))
  refine br_f (by decide) (r1 1 (fun _ => rfl) _ k b o f (fun v k b o f e e' => mt_cnt (n := 0 + q0) (i := 1) e e' ?_))
  exact br_t (by decide) (hp k b o f)
theorem mt_86 {post : Int32 → St1 → Prop} {c w k b o f : Int32} {a1 a2 a3 : Nat → Int32} {t Q : Nat} (ht : t ≤ 4) : ∀ r i n : Nat, i + r = t → post (nI (n * Q ^ r)) (c, w, k, b, o, f, a1, a2, a3) → wX_silent_86 post (nI t) (nI Q) c w k b o f a1 a2 a3 (r + 1) (nI n) (nI i)
  | 0, i, n, h, hp => br_t (nI_le (by omega) (by omega)) (by rw [Nat.pow_zero, Nat.mul_one] at hp; exact hp)
  | r + 1, i, n, h, hp => br_f (nI_ge (by omega) (by omega)) (nm_r (pk_mul n Q) (nm_r (nI_1 i) (mt_86 ht r (i + 1) (n * Q) (by omega) (by rw [Nat.mul_assoc, ← Nat.pow_succ']; exact hp))))
section
variable {post : Int32 → St1 → Prop} {n Q kk : Nat} {w x2 : Int32} {a1 a2 a3 : Nat → Int32}
/-- one filling that counts -/
theorem mt_s5 {fu i t q : Nat} (hk : kk < 14) (hi : i < 4) (hc : 4 ≤ kk ∨ i < 2) (hr : mt_R n w a1 a2 a3 (nI kk) x2 (nI i &&& 1) (nI i >>> ((1 : Int32) &&& 31)) q) (k b o f : Int32) (H : ∀ k b o f : Int32, wX_silent_5 post (nI kk) x2 fu (nI (t + q)) (nI (i + 1)) (nI n) w k b o f a1 a2 a3) : wX_silent_5 post (nI kk) x2 (fu + 1) (nI t) (nI i) (nI n) w k b o f a1 a2 a3 := by
  have R : wX_silent_27 post (wX_silent_5 post (nI kk) x2 fu) (nI kk) x2 (nI t) (nI i) 1 (nI n) w k b o f a1 a2 a3 :=
    br_f (by decide) (hr _ k b o f (fun v k b o f e e' => mt_cnt (n := t) (i := i) e e' (H k b o f)))
  exact br_f (nI_ge (b := 4) hi (by decide)) (pk_le 4 kk (fun _ => R) (fun z => br_f (nI_ge (b := 2) (by omega) (by decide)) R))
/-- one that doesn't -/
theorem mt_s5z {fu i t : Nat} (hi : i < 4) (hc : kk < 4) (h2 : 2 ≤ i) (k b o f : Int32) (H : wX_silent_5 post (nI kk) x2 fu (nI t) (nI (i + 1)) (nI n) w k b o f a1 a2 a3) : wX_silent_5 post (nI kk) x2 (fu + 1) (nI t) (nI i) (nI n) w k b o f a1 a2 a3 :=
  br_f (nI_ge (b := 4) hi (by decide)) (br_f (nI_ge (b := 4) hc (by decide)) (br_t (nI_le (a := 2) h2 (by omega)) (br_t rfl (nm_r (Int32.add_zero _) (nm_r (nI_1 i) H)))))
theorem mt_s75 {t u : Nat} (hu : u ≤ 4) (hQ : mt_QL n w a1 a2 a3 Q) (k b o f : Int32) (H : ∀ k b o f : Int32, post (nI (t * Q ^ u)) (nI n, w, k, b, o, f, a1, a2, a3)) : wX_silent_75 post (nI t) (nI u) (nI n) w k b o f a1 a2 a3 :=
  hQ _ k b o f (fun k b o f => ⟨u + 1, mt_86 hu u 0 t (by omega) (H k b o f)⟩)
end
def mt_SL (n : Nat) (w : Int32) (a1 a2 a3 : Nat → Int32) (kk : Nat) (x2 : Int32) (s : Nat) : Prop := ∀ (post : Int32 → St1 → Prop) (k b o f : Int32), (∀ k b o f : Int32, post (nI s) (nI n, w, k, b, o, f, a1, a2, a3)) → wpX_silent post (nI n, w, k, b, o, f, a1, a2, a3) (nI kk) x2
theorem mt_p3 {N Q : Nat} (hN : N ≤ 4) (hQ : Q ≤ 2) : N * Q ^ 3 ≤ 32 ∧ (N = 4 → Q = 2 → N * Q ^ 3 = 32) ∧ (Q < 2 → N * Q ^ 3 ≤ 4) := by
  rcases (show Q = 0 ∨ Q = 1 ∨ Q = 2 by omega) with rfl | rfl | rfl
  · exact ⟨by omega, fun _ z => absurd z (by decide), fun _ => by omega⟩
  · exact ⟨by omega, fun _ z => absurd z (by decide), fun _ => by omega⟩
  · exact ⟨by omega, fun z _ => by omega, fun z => absurd z (by decide)⟩
theorem mt_p4 {N Q : Nat} (hN : N ≤ 2) (hQ : Q ≤ 2) : N * Q ^ 4 ≤ 32 ∧ (N = 2 → Q = 2 → N * Q ^ 4 = 32) := by
  rcases (show Q = 0 ∨ Q = 1 ∨ Q = 2 by omega) with rfl | rfl | rfl
  · exact ⟨by omega, fun _ z => absurd z (by decide)⟩
  · exact ⟨by omega, fun _ z => absurd z (by decide)⟩
  · exact ⟨by omega, fun z _ => by omega⟩
theorem mt_silent {n Q : Nat} {w : Int32} {a1 a2 a3 : Nat → Int32} (hn : n ≤ 6) (hz : mt_Z a2) (hQ2 : Q ≤ 2) (hQz : (∀ m, m < n → a2 m = 0) → Q = 2) (hQ : mt_QL n w a1 a2 a3 Q) {kk : Nat} (hk : kk < 14) (y : Int32) : ∃ s : Nat, s ≤ 32 ∧ ((∀ m, m < n → a2 m = 0) → s = 32) ∧ (Q < 2 → 4 ≤ kk → s ≤ 4) ∧ ∀ x2 : Int32, (4 ≤ nI kk → x2 = y) → mt_SL n w a1 a2 a3 kk x2 s := by
  obtain ⟨q0, l0, z0, r0⟩ := mt_runs hn hz w a1 a3 (nI kk) y (nI 0 &&& 1) (nI 0 >>> ((1 : Int32) &&& 31))
  obtain ⟨q1, l1, z1, r1⟩ := mt_runs hn hz w a1 a3 (nI kk) y (nI 1 &&& 1) (nI 1 >>> ((1 : Int32) &&& 31))
  obtain ⟨q2, l2, z2, r2⟩ := mt_runs hn hz w a1 a3 (nI kk) y (nI 2 &&& 1) (nI 2 >>> ((1 : Int32) &&& 31))
  obtain ⟨q3, l3, z3, r3⟩ := mt_runs hn hz w a1 a3 (nI kk) y (nI 3 &&& 1) (nI 3 >>> ((1 : Int32) &&& 31))
  by_cases h4 : 4 ≤ kk
  · obtain ⟨p1, p2, p3⟩ := mt_p3 (N := 0 + q0 + q1 + q2 + q3) (Q := Q) (by omega) hQ2
    refine ⟨(0 + q0 + q1 + q2 + q3) * Q ^ 3, p1, fun z => p2 (by have := z0 z; have := z1 z; have := z2 z; have := z3 z; omega) (hQz z), fun z _ => p3 z, fun x2 hx post k b o f hp => ⟨5, ?_⟩⟩
    refine mt_s5 (t := 0) (i := 0) hk (by omega) (Or.inl h4) (r0 x2 hx) k b o f (fun k b o f => ?_)
    refine mt_s5 (t := 0 + q0) (i := 1) hk (by omega) (Or.inl h4) (r1 x2 hx) k b o f (fun k b o f => ?_)
    refine mt_s5 (t := 0 + q0 + q1) (i := 2) hk (by omega) (Or.inl h4) (r2 x2 hx) k b o f (fun k b o f => ?_)
    refine mt_s5 (t := 0 + q0 + q1 + q2) (i := 3) hk (by omega) (Or.inl h4) (r3 x2 hx) k b o f (fun k b o f => ?_)
    exact br_t (by decide) (br_f (nI_nlt (b := 4) h4 (by omega)) (mt_s75 (u := 3) (by omega) hQ k b o f hp))
  · obtain ⟨p1, p2⟩ := mt_p4 (N := 0 + q0 + q1) (Q := Q) (by omega) hQ2
    refine ⟨(0 + q0 + q1) * Q ^ 4, p1, fun z => p2 (by have := z0 z; have := z1 z; omega) (hQz z), fun _ z => absurd z h4, fun x2 hx post k b o f hp => ⟨5, ?_⟩⟩
    refine mt_s5 (t := 0) (i := 0) hk (by omega) (Or.inr (by omega)) (r0 x2 hx) k b o f (fun k b o f => ?_)
    refine mt_s5 (t := 0 + q0) (i := 1) hk (by omega) (Or.inr (by omega)) (r1 x2 hx) k b o f (fun k b o f => ?_)
    refine mt_s5z (t := 0 + q0 + q1) (i := 2) (by omega) (by omega) (by omega) k b o f ?_
    refine mt_s5z (t := 0 + q0 + q1) (i := 3) (by omega) (by omega) (by omega) k b o f ?_
    exact br_t (by decide) (br_t (nI_lt (b := 4) (by omega) (by decide)) (mt_s75 (u := 4) (by omega) hQ k b o f hp))
/-- all that the answers need of a state: Q (quiet) and S (silent, by kind and order) -/
def mt_Law (n : Nat) (w : Int32) (a1 a2 a3 : Nat → Int32) (Q : Nat) (S : Nat → Nat → Nat) : Prop :=
  Q ≤ 2 ∧ mt_QL n w a1 a2 a3 Q ∧ ∀ k y : Nat, k < 14 → S k y ≤ 32 ∧ ((∀ m, m < n → a2 m = 0) → S k y = 32) ∧ (Q < 2 → 4 ≤ k → S k y ≤ 4) ∧ (k < 4 → S k y = S k 0) ∧ mt_SL n w a1 a2 a3 k (nI y) (S k y)
theorem mt_ex {n : Nat} {a2 : Nat → Int32} (hn : n ≤ 6) (hz : mt_Z a2) (w : Int32) (a1 a3 : Nat → Int32) : ∃ (Q : Nat) (S : Nat → Nat → Nat), mt_Law n w a1 a2 a3 Q S := by
  obtain ⟨Q, hQ2, hQz, hQ⟩ := mt_quiet hn hz w a1 a3
  have H : ∀ p : Nat × Nat, ∃ s : Nat, p.1 < 14 → s ≤ 32 ∧ ((∀ m, m < n → a2 m = 0) → s = 32) ∧ (Q < 2 → 4 ≤ p.1 → s ≤ 4) ∧ ∀ x2 : Int32, (4 ≤ nI p.1 → x2 = nI p.2) → mt_SL n w a1 a2 a3 p.1 x2 s := by
    intro p
    by_cases hp : p.1 < 14
    · obtain ⟨s, hs⟩ := mt_silent hn hz hQ2 hQz hQ hp (nI p.2)
      exact ⟨s, fun _ => hs⟩
    · exact ⟨0, fun z => absurd z hp⟩
  obtain ⟨T, hT⟩ := Classical.axiomOfChoice H
  refine ⟨Q, fun k y => T (k, if k < 4 then 0 else y), hQ2, hQ, fun k y hk => ?_⟩
  obtain ⟨t1, t2, t3, t4⟩ := hT (k, if k < 4 then 0 else y) hk
  refine ⟨t1, t2, t3, fun h => ?_, t4 (nI y) (fun h => ?_)⟩
  · show T (k, if k < 4 then 0 else y) = T (k, if k < 4 then 0 else 0)
    rw [if_pos h, if_pos h]
  · show nI y = nI (if k < 4 then 0 else y)
    have h' : 4 ≤ k := (nI_leI (a := 4) (b := k) (by omega) (by omega)).mp h
    rw [if_neg (by omega)]
end
section
/-! the answers: sound, found, covered, spare, steps, foundFrom, finds -/
def mt_e (s : Nat) : Nat := if s = 0 then 1 else 0
theorem mt_e0 {s : Nat} (h : s = 0) : mt_e s = 1 := if_pos h
theorem mt_e1 {s : Nat} (h : ¬ s = 0) : mt_e s = 0 := if_neg h
theorem mt_el (s : Nat) : mt_e s ≤ 1 := by
  by_cases h : s = 0
  · rw [mt_e0 h]; exact Nat.le_refl 1
  · rw [mt_e1 h]; exact Nat.zero_le 1
def mt_all (k : Nat) : Nat := if k < 4 then 5 else 20
def mt_F (S : Nat → Nat → Nat) (k : Nat) : Nat := if k < 4 then 5 * mt_e (S k 1) else 10 * mt_e (S k 1) + 10 * mt_e (S k 0)
theorem mt_Fl (S : Nat → Nat → Nat) (k : Nat) : mt_F S k ≤ mt_all k := by
  have h1 := mt_el (S k 1)
  have h0 := mt_el (S k 0)
  unfold mt_F mt_all
  by_cases h : k < 4
  · rw [if_pos h, if_pos h]; omega
  · rw [if_neg h, if_neg h]; omega
theorem mt_Al (k : Nat) : mt_all k ≤ 20 := by
  unfold mt_all
  by_cases h : k < 4
  · rw [if_pos h]; omega
  · rw [if_neg h]; omega
theorem mt_sl : ∀ n, n < 32 → ((nI n &&& 31).toBitVec.smod 32).toNat = n := by decide +kernel
theorem mt_or (a b : Nat) : nI a ||| nI b = nI (a ||| b) := by
  apply Int32.toBitVec_inj.1
  show BitVec.ofNat 32 a ||| BitVec.ofNat 32 b = BitVec.ofNat 32 (a ||| b)
  apply BitVec.eq_of_getLsbD_eq
  intro i hi
  simp [hi]
theorem mt_shl {i : Nat} (hi : i < 31) : (1 : Int32) <<< (nI i &&& 31) = nI (2 ^ i) := by
  have h : 2 ^ i < 2 ^ 31 := Nat.pow_lt_pow_right (by omega) hi
  have e := pk_shlN (n := 1) (nI i &&& 31) i (mt_sl i (by omega)) (by omega)
  rw [Nat.one_mul] at e
  exact e
theorem mt_orb {V i : Nat} (hi : i < 31) : nI V ||| ((1 : Int32) <<< (nI i &&& 31)) = nI (V ||| 2 ^ i) := by rw [mt_shl hi, mt_or]
theorem mt_or00 (V : Nat) : nI V ||| 0 = nI V := Int32.or_zero
theorem mt_lt2 {i : Nat} : 2 ^ i < 2 ^ (i + 1) := Nat.pow_lt_pow_right (by omega) (by omega)
theorem mt_orl {V i : Nat} (h : V < 2 ^ i) : V ||| 2 ^ i < 2 ^ (i + 1) := Nat.or_lt_two_pow (Nat.lt_trans h mt_lt2) mt_lt2
section
variable {post : Int32 → St1 → Prop} {n Q : Nat} {S : Nat → Nat → Nat} {w : Int32} {a1 a2 a3 : Nat → Int32} {k b o f : Int32}
theorem mt_isFound {kk : Nat} {x2 : Int32} {s : Nat} (hs : s ≤ 32) (h : mt_SL n w a1 a2 a3 kk x2 s) (H : ∀ k b o f : Int32, post (nI (mt_e s)) (nI n, w, k, b, o, f, a1, a2, a3)) : wpX_isFound post (nI n, w, k, b, o, f, a1, a2, a3) (nI kk) x2 := by
  refine h _ k b o f (fun k b o f => pk_eq s 0 (fun e => ?_) (fun e => ?_))
  · have t := H k b o f
    rw [mt_e0 e] at t
    exact t
  · have t := H k b o f
    rw [mt_e1 e] at t
    exact t
theorem mt_sound (h : mt_Law n w a1 a2 a3 Q S) (H : ∀ x : Int32, (x = 0 → Q < 2) → ∀ k b o f : Int32, post x (nI n, w, k, b, o, f, a1, a2, a3)) : wpX_sound post (nI n, w, k, b, o, f, a1, a2, a3) := by
  have h2 := h.1
  exact h.2.1 _ k b o f (fun k b o f => pk_eq Q 2 (fun e => H 1 (fun z => absurd z (by decide)) k b o f) (fun e => H 0 (fun _ => by omega) k b o f))
theorem mt_f29 (h : mt_Law n w a1 a2 a3 Q S) {kk z : Nat} (hk : kk < 14) (H : ∀ k b o f : Int32, post (nI (z + if kk < 4 then 0 else 10 * mt_e (S kk 0))) (nI n, w, k, b, o, f, a1, a2, a3)) : wX_found_29 post (nI kk) (nI z) (nI n) w k b o f a1 a2 a3 := by
  obtain ⟨s1, -, -, -, s5⟩ := h.2.2 kk 0 hk
  refine pk_lt kk 4 (fun g => ?_) (fun g => mt_isFound s1 s5 (fun k b o f => ?_))
  · have t := H k b o f
    rw [if_pos g] at t
    exact t
  · have t := H k b o f
    rw [if_neg (by omega)] at t
    have l := mt_el (S kk 0)
    refine pk_eq (mt_e (S kk 0)) 0 (fun e => ?_) (fun e => pk_le 4 kk (fun _ => nm_r (nI_add z 10) ?_) (fun g' => absurd g' (by omega)))
    · rw [e] at t
      exact t
    · rw [show mt_e (S kk 0) = 1 by omega] at t
      exact t
theorem mt_found (h : mt_Law n w a1 a2 a3 Q S) {kk : Nat} (hk : kk < 14) (H : ∀ k b o f : Int32, post (nI (mt_F S kk)) (nI n, w, k, b, o, f, a1, a2, a3)) : wpX_found post (nI n, w, k, b, o, f, a1, a2, a3) (nI kk) := by
  obtain ⟨s1, -, -, -, s5⟩ := h.2.2 kk 1 hk
  have l := mt_el (S kk 1)
  refine br_f (nI_pos (by omega)) (br_t (nI_lt (b := 14) hk (by decide)) (mt_isFound s1 s5 (fun k b o f => pk_eq (mt_e (S kk 1)) 0 (fun e => mt_f29 (z := 0) h hk (fun k b o f => ?_)) (fun e => pk_le 4 kk (fun g => mt_f29 (z := 10) h hk (fun k b o f => ?_)) (fun g => mt_f29 (z := 5) h hk (fun k b o f => ?_))))))
  · have t := H k b o f
    unfold mt_F at t
    rw [e] at t
    by_cases g : kk < 4
    · rw [if_pos g] at t ⊢
      exact t
    · rw [if_neg g] at t ⊢
      exact t
  · have t := H k b o f
    unfold mt_F at t
    rw [show mt_e (S kk 1) = 1 by omega, if_neg (by omega)] at t
    rw [if_neg (by omega)]
    exact t
  · have t := H k b o f
    unfold mt_F at t
    rw [show mt_e (S kk 1) = 1 by omega, if_pos g] at t
    rw [if_pos g]
    exact t
theorem mt_tb {V i : Nat} {P : Nat → Prop} (h : V < 2 ^ i) (hp : ∀ j, j < i → (V.testBit j = true ↔ P j)) : (P i → ∀ j, j < i + 1 → ((V ||| 2 ^ i).testBit j = true ↔ P j)) ∧ (¬ P i → ∀ j, j < i + 1 → (V.testBit j = true ↔ P j)) := by
  have hi : V.testBit i = false := Nat.testBit_lt_two_pow h
  refine ⟨fun g j hj => ?_, fun g j hj => ?_⟩
  · rw [Nat.testBit_or, Nat.testBit_two_pow]
    by_cases e : j = i
    · subst e
      simp [g]
    · rw [← hp j (by omega)]
      have e' : ¬ i = j := fun z => e z.symm
      simp [e']
  · by_cases e : j = i
    · subst e
      simp [g, hi]
    · exact hp j (by omega)
theorem mt_cov (h : mt_Law n w a1 a2 a3 Q S) (H : ∀ V : Nat, V < 2 ^ 14 → (∀ j, j < 14 → (V.testBit j = true ↔ mt_F S j = mt_all j)) → ∀ k b o f : Int32, post (nI V) (nI n, w, k, b, o, f, a1, a2, a3)) : ∀ (r i V : Nat) (k b o f : Int32), i + r = 14 → V < 2 ^ i → (∀ j, j < i → (V.testBit j = true ↔ mt_F S j = mt_all j)) → wX_covered_4 post (r + 1) (nI V) (nI i) (nI n) w k b o f a1 a2 a3
  | 0, i, V, k, b, o, f, hi, hV, hb => by
    have e : i = 14 := by omega
    subst e
    exact br_t (by decide) (H V hV hb k b o f)
  | r + 1, i, V, k, b, o, f, hi, hV, hb => by
    obtain ⟨t1, t0⟩ := mt_tb (P := fun j => mt_F S j = mt_all j) hV hb
    have R : ∀ A : Nat, A = mt_all i → wX_covered_21 post (wX_covered_4 post (r + 1)) (nI V) (nI i) (nI A) (nI n) w k b o f a1 a2 a3 := by
      intro A hA
      have l1 := mt_Fl S i
      have l2 := mt_Al i
      refine mt_found h (by omega) (fun k b o f => pk_eq (mt_F S i) A (fun e => nm_r (mt_orb (by omega)) (nm_r (nI_1 i) ?_)) (fun e => nm_r (mt_or00 V) (nm_r (nI_1 i) ?_)))
      · exact mt_cov h H r (i + 1) (V ||| 2 ^ i) k b o f (by omega) (mt_orl hV) (t1 (e.trans hA))
      · exact mt_cov h H r (i + 1) V k b o f (by omega) (Nat.lt_trans hV mt_lt2) (t0 (fun z => e (z.trans hA.symm)))
    exact br_f (nI_ge (b := 14) (by omega) (by decide)) (pk_le 4 i (fun g => R 20 (if_neg (by omega)).symm) (fun g => R 5 (if_pos g).symm))
theorem mt_covered (h : mt_Law n w a1 a2 a3 Q S) (H : ∀ V : Nat, V < 2 ^ 14 → (∀ j, j < 14 → (V.testBit j = true ↔ mt_F S j = mt_all j)) → ∀ k b o f : Int32, post (nI V) (nI n, w, k, b, o, f, a1, a2, a3)) : wpX_covered post (nI n, w, k, b, o, f, a1, a2, a3) :=
  ⟨15, mt_cov h H 14 0 0 k b o f (by omega) (by decide) (fun j hj => absurd hj (by omega))⟩
theorem mt_fs (h : mt_Law n w a1 a2 a3 Q S) (H : ∀ v k b o f : Int32, post v (nI n, w, k, b, o, f, a1, a2, a3)) : ∀ (r i : Nat) (x1 k b o f : Int32), i + r = 14 → wX_foundSet_4 post (r + 1) x1 (nI i) (nI n) w k b o f a1 a2 a3
  | 0, i, x1, k, b, o, f, hi => br_t (nI_le (a := 14) (by omega) (by omega)) (H x1 k b o f)
  | r + 1, i, x1, k, b, o, f, hi => by
    obtain ⟨s1, -, -, -, s5⟩ := h.2.2 i 1 (by omega)
    obtain ⟨s1', -, -, -, s5'⟩ := h.2.2 i 0 (by omega)
    have R : ∀ z0 z1 k b o f : Int32, wX_foundSet_29 post (wX_foundSet_4 post (r + 1)) (nI i) z0 z1 (nI n) w k b o f a1 a2 a3 := fun z0 z1 k b o f =>
      nm_e (mt_isFound s1' s5' (fun k b o f => br_c (fun _ => nm_e (nm_r (nI_1 i) (mt_fs h H r (i + 1) _ k b o f (by omega)))) (fun _ => nm_e (nm_r (nI_1 i) (mt_fs h H r (i + 1) _ k b o f (by omega))))))
    exact br_f (nI_ge (b := 14) (by omega) (by decide)) (mt_isFound s1 s5 (fun k b o f => br_c (fun _ => R _ _ k b o f) (fun _ => R _ _ k b o f)))
theorem mt_foundSet (hn : n ≤ 6) (hz : mt_Z a2) (H : ∀ v k b o f : Int32, post v (nI n, w, k, b, o, f, a1, a2, a3)) : wpX_foundSet post (nI n, w, k, b, o, f, a1, a2, a3) := by
  obtain ⟨Q, S, h⟩ := mt_ex hn hz w a1 a3
  exact ⟨15, mt_fs h H 14 0 0 k b o f (by omega)⟩
end
section
variable {post : Int32 → St1 → Prop} {n : Nat} {a1 a2 a3 : Nat → Int32}
theorem mt_sp (hn : n ≤ 6) (hz : mt_Z a2) (H : ∀ V : Nat, V < 2 ^ n → ∀ k b o f : Int32, post (nI V) (nI n, -1, k, b, o, f, a1, a2, a3)) {x1 : Int32} : ∀ (r i V : Nat) (w k b o f : Int32), i + r = n → V < 2 ^ i → wX_spare_9 post x1 (r + 1) (nI V) (nI i) (nI n) w k b o f a1 a2 a3
  | 0, i, V, w, k, b, o, f, hi, hV => by
    have e : i = n := by omega
    subst e
    exact br_t (nI_le (by omega) (by omega)) (H V hV k b o f)
  | r + 1, i, V, w, k, b, o, f, hi, hV =>
    br_f (nI_ge (by omega) (by omega)) (mt_foundSet hn hz (fun v k b o f => br_c
      (fun _ => nm_r (mt_orb (by omega)) (nm_r (nI_1 i) (mt_sp hn hz H r (i + 1) (V ||| 2 ^ i) (nI i) k b o f (by omega) (mt_orl hV))))
      (fun _ => nm_r (mt_or00 V) (nm_r (nI_1 i) (mt_sp hn hz H r (i + 1) V (nI i) k b o f (by omega) (Nat.lt_trans hV mt_lt2))))))
theorem mt_spare (hn : n ≤ 6) (hz : mt_Z a2) {w k b o f : Int32} (H : ∀ V : Nat, V < 2 ^ n → ∀ k b o f : Int32, post (nI V) (nI n, -1, k, b, o, f, a1, a2, a3)) : wpX_spare post (nI n, w, k, b, o, f, a1, a2, a3) :=
  mt_foundSet hn hz (fun v k b o f => ⟨n + 1, mt_sp hn hz H n 0 0 w k b o f (by omega) (Nat.two_pow_pos 0)⟩)
end
section
variable {post : Int32 → Prop} {n : Nat} {w k b o f : Int32} {a1 a2 a3 : Nat → Int32}
theorem mt_st (hn : n ≤ 6) (hz : mt_Z a2) (H : ∀ T : Nat, T ≤ 4 * n → (T = 0 → ∀ m, m < n → a2 m = 0) → post (nI (5 * T))) : ∀ r i T : Nat, i + r = n → T ≤ 4 * i → (T = 0 → ∀ m, m < i → a2 m = 0) → wX_steps_4 post (nI n) w k b o f a1 a2 a3 (r + 1) (nI (5 * T)) (nI i)
  | 0, i, T, hi, hT, h0 => by
    have e : i = n := by omega
    subst e
    exact br_t (nI_le (by omega) (by omega)) (H T hT h0)
  | r + 1, i, T, hi, hT, h0 => by
    obtain ⟨s, hs, hs'⟩ := hz i (by omega)
    have e : nI (5 * T) + 5 * a2 (nI i).toNatClampNeg = nI (5 * (T + s)) := by
      rw [nI_clamp (by omega), hs', show (5 : Int32) = nI 5 from rfl, pk_mul, nI_add, Nat.mul_add]
    refine br_f (nI_ge (by omega) (by omega)) ⟨pk_in i 6 (by omega), nm_r e (nm_r (nI_1 i) (mt_st hn hz H r (i + 1) (T + s) (by omega) (by omega) (fun z m hm => ?_)))⟩
    by_cases g : m = i
    · rw [g, hs', show s = 0 by omega]
      exact nI_0
    · exact h0 (by omega) m (by omega)
theorem mt_steps (hn : n ≤ 6) (hz : mt_Z a2) (H : ∀ T : Nat, T ≤ 4 * n → (T = 0 → ∀ m, m < n → a2 m = 0) → post (nI (5 * T))) : wpX_steps post (nI n, w, k, b, o, f, a1, a2, a3) :=
  ⟨n + 1, mt_st hn hz H n 0 0 (by omega) (by omega) (fun _ m hm => absurd hm (by omega))⟩
theorem mt_fault {kk v a : Nat} (hk : kk < 14) (hv : v < 5) (ha : a < 5) (hva : 4 ≤ kk → a ≠ v) (H : post 1) : wpX_isFault post () (nI kk) (nI v) (nI a) :=
  br_f (nI_pos (by omega)) (br_f (nI_ge (b := 14) hk (by decide)) (br_f (nI_pos (by omega)) (br_f (nI_ge (b := 5) hv (by decide)) (br_f (by decide) (pk_lt kk 4 (fun _ => H) (fun g => br_f (nI_pos (by omega)) (br_f (nI_ge (b := 5) ha (by decide)) (pk_eq a v (fun e => absurd e (hva g)) (fun _ => H)))))))))
end
section
variable {post : Int32 → St1 → Prop} {n Q : Nat} {S : Nat → Nat → Nat} {w : Int32} {a1 a2 a3 : Nat → Int32} {k b o f : Int32}
theorem mt_foundFrom (h : mt_Law n w a1 a2 a3 Q S) {kk v a : Nat} (hk : kk < 14) (hv : v < 5) (ha : a < 5) (hva : 4 ≤ kk → a ≠ v) (H0 : a ≤ v → ∀ k b o f : Int32, post (nI (32 - S kk 0)) (nI n, w, k, b, o, f, a1, a2, a3)) (H1 : v < a → ∀ k b o f : Int32, post (nI (32 - S kk 1)) (nI n, w, k, b, o, f, a1, a2, a3)) : wpX_foundFrom post (nI n, w, k, b, o, f, a1, a2, a3) (nI kk) (nI v) (nI a) := by
  obtain ⟨s1, -, -, -, s5⟩ := h.2.2 kk 1 hk
  obtain ⟨s1', -, -, -, s5'⟩ := h.2.2 kk 0 hk
  have e1 : (32 : Int32) - nI (S kk 1) = nI (32 - S kk 1) := pk_sub (a := 32) s1
  have e0 : (32 : Int32) - nI (S kk 0) = nI (32 - S kk 0) := pk_sub (a := 32) s1'
  refine mt_fault hk hv ha hva (br_f (by decide) (pk_le a v (fun g => s5' _ k b o f (fun k b o f => ?_)) (fun g => s5 _ k b o f (fun k b o f => ?_))))
  · show post ((32 : Int32) - nI (S kk 0)) (nI n, w, k, b, o, f, a1, a2, a3)
    rw [e0]
    exact H0 g k b o f
  · show post ((32 : Int32) - nI (S kk 1)) (nI n, w, k, b, o, f, a1, a2, a3)
    rw [e1]
    exact H1 g k b o f
theorem mt_finds (h : mt_Law n w a1 a2 a3 Q S) {kk v a : Nat} (hk : kk < 14) (hv : v < 5) (ha : a < 5) (hva : 4 ≤ kk → a ≠ v) (H0 : a ≤ v → ∀ k b o f : Int32, post (nI (mt_e (S kk 0))) (nI n, w, k, b, o, f, a1, a2, a3)) (H1 : v < a → ∀ k b o f : Int32, post (nI (mt_e (S kk 1))) (nI n, w, k, b, o, f, a1, a2, a3)) : wpX_finds post (nI n, w, k, b, o, f, a1, a2, a3) (nI kk) (nI v) (nI a) := by
  obtain ⟨s1, -, -, -, s5⟩ := h.2.2 kk 1 hk
  obtain ⟨s1', -, -, -, s5'⟩ := h.2.2 kk 0 hk
  have l1 := mt_el (S kk 1)
  have l0 := mt_el (S kk 0)
  refine mt_fault hk hv ha hva (br_f (by decide) (pk_le a v (fun g => mt_isFound s1' s5' (fun k b o f => pk_eq (mt_e (S kk 0)) 0 (fun e => ?_) (fun e => ?_))) (fun g => mt_isFound s1 s5 (fun k b o f => pk_eq (mt_e (S kk 1)) 0 (fun e => ?_) (fun e => ?_)))))
  · have t := H0 g k b o f
    rw [e] at t
    exact t
  · have t := H0 g k b o f
    rw [show mt_e (S kk 0) = 1 by omega] at t
    exact t
  · have t := H1 g k b o f
    rw [e] at t
    exact t
  · have t := H1 g k b o f
    rw [show mt_e (S kk 1) = 1 by omega] at t
    exact t
end
end
section
/-! the law's kind: the two loops over 25 places -/
def mt_al (k : Nat) : Nat → Nat
  | 0 => 0
  | c + 1 => mt_al k c + if 4 ≤ k ∧ c / 5 < c % 5 then 1 else 0
def mt_be (k : Nat) : Nat → Nat
  | 0 => 0
  | c + 1 => mt_be k c + if (4 ≤ k ∧ c % 5 < c / 5) ∨ (k < 4 ∧ c % 5 = 0) then 1 else 0
theorem mt_cnt25 : ∀ k, k < 14 → mt_al k 25 = (if k < 4 then 0 else 10) ∧ mt_be k 25 = (if k < 4 then 5 else 10) := by decide +kernel
theorem mt_fin {S : Nat → Nat → Nat} {k : Nat} (hk : k < 14) (h : k < 4 → S k 1 = S k 0) : mt_al k 25 * mt_e (S k 1) + mt_be k 25 * mt_e (S k 0) = mt_F S k := by
  obtain ⟨h1, h2⟩ := mt_cnt25 k hk
  rw [h1, h2]
  unfold mt_F
  by_cases g : k < 4
  · rw [if_pos g, if_pos g, if_pos g, h g]; omega
  · rw [if_neg g, if_neg g, if_neg g]
section
variable {post : Int32 → St2 → Prop} {J : Int32 → Int32 → Int32 → Int32 → Int32 → Int32 → Int32 → Int32 → Int32 → Int32 → Int32 → (Nat → Int32) → (Nat → Int32) → (Nat → Int32) → Prop} {n Q : Nat} {S : Nat → Nat → Nat} {w : Int32} {a1 a2 a3 : Nat → Int32} {k b o f x2 x3 x4 x5 x6 : Int32} {kk i : Nat}
theorem mt_184 {s : Nat} (hk : kk < 14) (h3 : x3 = 0 → 4 ≤ kk → s ≤ 4) (hJ : J x4 x5 x6 1 (nI (i + 1)) (nI n) w k b o f a1 a2 a3) : wL_kind_184 post J (nI kk) x2 x3 x4 x5 x6 (nI i) (nI (32 - s)) (nI n) w k b o f a1 a2 a3 :=
  br_c (fun e => pk_lt kk 4 (fun _ => nm_r (nI_1 i) hJ) (fun g => br_f (nI_nle (by have := h3 e g; omega) (by omega)) (nm_r (nI_1 i) hJ))) (fun _ => nm_r (nI_1 i) hJ)
theorem mt_160 {s z : Nat} (hk : kk < 14) (hs : s ≤ 32) (h2 : x2 = 0 → s = 32) (h3 : x3 = 0 → 4 ≤ kk → s ≤ 4) (hz : mt_e s = z) (hJ : J x4 x5 x6 1 (nI (i + 1)) (nI n) w k b o f a1 a2 a3) : wL_kind_160 post J (nI kk) x2 x3 x4 x5 x6 (nI i) (nI (32 - s)) (nI z) (nI (mt_e s)) (nI n) w k b o f a1 a2 a3 :=
  br_t (by rw [hz]) (br_f (nI_pos (by omega)) (br_f (nI_nlt (a := 32) (b := 32 - s) (by omega) (by omega)) (br_c (fun e => br_t (by rw [h2 e]; rfl) (mt_184 hk h3 hJ)) (fun _ => mt_184 hk h3 hJ))))
theorem mt_139 {s : Nat} (hk : kk < 14) (hs : s ≤ 32) (h2 : x2 = 0 → s = 32) (h3 : x3 = 0 → 4 ≤ kk → s ≤ 4) (hJ : J x4 x5 x6 1 (nI (i + 1)) (nI n) w k b o f a1 a2 a3) : wL_kind_139 post J (nI kk) x2 x3 x4 x5 1 (nI i) (nI (32 - s)) (nI (mt_e s)) x6 (nI n) w k b o f a1 a2 a3 :=
  br_f (by decide) (pk_eq (32 - s) 32 (fun e => mt_160 (z := 1) hk hs h2 h3 (mt_e0 (by omega)) hJ) (fun e => mt_160 (z := 0) hk hs h2 h3 (mt_e1 (by omega)) hJ))
theorem mt_107 {s v a : Nat} (hk : kk < 14) (hv : v < 5) (ha : a < 5) (hs : s ≤ 32) (h2 : x2 = 0 → s = 32) (h3 : x3 = 0 → 4 ≤ kk → s ≤ 4)
    (j1 : v < a → J x4 (nI (32 - s)) x6 1 (nI (i + 1)) (nI n) w k b o f a1 a2 a3) (j2 : a < v → J x4 x5 (nI (32 - s)) 1 (nI (i + 1)) (nI n) w k b o f a1 a2 a3) (j3 : a = v → J x4 x5 x6 1 (nI (i + 1)) (nI n) w k b o f a1 a2 a3) :
    wL_kind_107 post J (nI kk) x2 x3 x5 x6 1 (nI i) (nI v) (nI a) (nI (32 - s)) (nI (mt_e s)) x4 (nI n) w k b o f a1 a2 a3 :=
  pk_le a v (fun g => pk_le v a (fun g' => mt_139 hk hs h2 h3 (j3 (by omega))) (fun g' => mt_139 hk hs h2 h3 (j2 g'))) (fun g => pk_le v a (fun g' => mt_139 hk hs h2 h3 (j1 g)) (fun g' => absurd g' (by omega)))
end
section
variable {post : Int32 → St2 → Prop} {J : Int32 → Int32 → Int32 → Int32 → Int32 → Int32 → Int32 → Int32 → Int32 → Int32 → Int32 → (Nat → Int32) → (Nat → Int32) → (Nat → Int32) → Prop} {n Q : Nat} {S : Nat → Nat → Nat} {w : Int32} {a1 a2 a3 : Nat → Int32} {x2 x3 x5 x6 : Int32} {kk i : Nat}
theorem mt_64 (h : mt_Law n w a1 a2 a3 Q S) {v a z : Nat} (hk : kk < 14) (hv : v < 5) (ha : a < 5) (hva : 4 ≤ kk → a ≠ v) (h2 : x2 = 0 → ∀ m, m < n → a2 m = 0) (h3 : x3 = 0 → Q < 2) (k b o f : Int32)
    (j1 : v < a → ∀ k b o f : Int32, J (nI (z + mt_e (S kk 1))) (nI (32 - S kk 1)) x6 1 (nI (i + 1)) (nI n) w k b o f a1 a2 a3)
    (j2 : a < v → ∀ k b o f : Int32, J (nI (z + mt_e (S kk 0))) x5 (nI (32 - S kk 0)) 1 (nI (i + 1)) (nI n) w k b o f a1 a2 a3)
    (j3 : a = v → ∀ k b o f : Int32, J (nI (z + mt_e (S kk 0))) x5 x6 1 (nI (i + 1)) (nI n) w k b o f a1 a2 a3) :
    wL_kind_64 post J (nI kk) x2 x3 (nI z) x5 x6 1 (nI i) (nI v) (nI a) 1 (nI n) w k b o f a1 a2 a3 := by
  obtain ⟨s1, s2, s3, -, -⟩ := h.2.2 kk 1 hk
  obtain ⟨t1, t2, t3, -, -⟩ := h.2.2 kk 0 hk
  have l1 := mt_el (S kk 1)
  have l0 := mt_el (S kk 0)
  refine br_f (by decide) (mt_foundFrom h hk hv ha hva (fun g k b o f => mt_finds h hk hv ha hva (fun g' k b o f => ?_) (fun g' => absurd g' (by omega))) (fun g k b o f => mt_finds h hk hv ha hva (fun g' => absurd g' (by omega)) (fun g' k b o f => ?_)))
  · refine pk_eq (mt_e (S kk 0)) 0 (fun e => mt_107 hk hv ha t1 (fun z => t2 (h2 z)) (fun z => t3 (h3 z)) (fun q => absurd q (by omega)) (fun q => ?_) (fun q => ?_)) (fun e => ?_)
    · have t := j2 q k b o f
      rw [e] at t
      exact t
    · have t := j3 q k b o f
      rw [e] at t
      exact t
    · have e1 : mt_e (S kk 0) = 1 := by omega
      rw [nI_1]
      refine mt_107 hk hv ha t1 (fun z => t2 (h2 z)) (fun z => t3 (h3 z)) (fun q => absurd q (by omega)) (fun q => ?_) (fun q => ?_)
      · have t := j2 q k b o f
        rw [e1] at t
        exact t
      · have t := j3 q k b o f
        rw [e1] at t
        exact t
  · refine pk_eq (mt_e (S kk 1)) 0 (fun e => mt_107 hk hv ha s1 (fun z => s2 (h2 z)) (fun z => s3 (h3 z)) (fun q => ?_) (fun q => absurd q (by omega)) (fun q => absurd q (by omega))) (fun e => ?_)
    · have t := j1 q k b o f
      rw [e] at t
      exact t
    · have e1 : mt_e (S kk 1) = 1 := by omega
      rw [nI_1]
      refine mt_107 hk hv ha s1 (fun z => s2 (h2 z)) (fun z => s3 (h3 z)) (fun q => ?_) (fun q => absurd q (by omega)) (fun q => absurd q (by omega))
      have t := j1 q k b o f
      rw [e1] at t
      exact t
theorem mt_317 {F A : Nat} (h : F ≤ A) (hA : A ≤ 20) (H : post 1 ()) : wL_kind_317 post (nI A) (nI F) := br_f (nI_nlt h (by omega)) H
theorem mt_289 (h : mt_Law n w a1 a2 a3 Q S) (hk : kk < 14) (H : post 1 ()) (k b o f : Int32) : wL_kind_289 post (nI kk) (nI (mt_F S kk)) 1 (nI n) w k b o f a1 a2 a3 := by
  have l := mt_Fl S kk
  refine br_f (by decide) (mt_found h hk (fun k b o f => br_t rfl (pk_le 4 kk (fun g => mt_317 (A := 20) ?_ (by omega) H) (fun g => mt_317 (A := 5) ?_ (by omega) H))))
  · unfold mt_all at l
    rw [if_neg (by omega)] at l
    exact l
  · unfold mt_all at l
    rw [if_pos g] at l
    exact l
theorem mt_rem {i : Nat} (hi : i < 25) : nI i / 5 = nI (i / 5) ∧ nI i - nI i / 5 * 5 = nI (i % 5) := ⟨pk_div (d := 5) (by omega) (by omega) (by omega), pk_rem (d := 5) (by omega) (by omega) (by omega)⟩
theorem mt_214 (h : mt_Law n w a1 a2 a3 Q S) (hk : kk < 14) (H : post 1 ()) (h5 : 4 ≤ kk → x5 = nI (32 - S kk 1)) (h6 : 4 ≤ kk → x6 = nI (32 - S kk 0)) : ∀ (r i : Nat) (k b o f : Int32), i + r = 25 → wL_kind_214 post (nI kk) (nI (mt_F S kk)) x5 x6 (r + 1) 1 (nI i) (nI n) w k b o f a1 a2 a3
  | 0, i, k, b, o, f, hi => br_t (nI_le (a := 25) (by omega) (by omega)) (mt_289 h hk H k b o f)
  | r + 1, i, k, b, o, f, hi => by
    have ih := mt_214 h hk H h5 h6 r (i + 1)
    obtain ⟨e9, e10⟩ := mt_rem (i := i) (by omega)
    refine br_f (nI_ge (b := 25) (by omega) (by decide)) (pk_lt kk 4 (fun g => mt_289 h hk H k b o f) (fun g => ⟨by decide, nm_r e9 ⟨by decide, nm_r e10 (br_f (by decide) (pk_eq (i / 5) (i % 5) (fun e => nm_r (nI_1 i) (ih k b o f (by omega))) (fun e => ?_)))⟩⟩))
    refine mt_foundFrom h hk (by omega) (by omega) (fun _ z => e z.symm) (fun q k b o f => ?_) (fun q k b o f => ?_)
    · exact br_t (nI_le q (by omega)) (br_t (h6 g).symm (nm_r (nI_1 i) (ih k b o f (by omega))))
    · exact br_f (nI_ge q (by omega)) (br_t (h5 g).symm (nm_r (nI_1 i) (ih k b o f (by omega))))
end
section
variable {post : Int32 → St2 → Prop} {n Q : Nat} {S : Nat → Nat → Nat} {w : Int32} {a1 a2 a3 : Nat → Int32} {x2 x3 : Int32} {kk : Nat}
theorem mt_15 (h : mt_Law n w a1 a2 a3 Q S) (hk : kk < 14) (h2 : x2 = 0 → ∀ m, m < n → a2 m = 0) (h3 : x3 = 0 → Q < 2) (H : post 1 ()) : ∀ (r i z : Nat) (x5 x6 k b o f : Int32), i + r = 25 → z = mt_al kk i * mt_e (S kk 1) + mt_be kk i * mt_e (S kk 0) → (4 ≤ kk → 0 < mt_al kk i → x5 = nI (32 - S kk 1)) → (4 ≤ kk → 0 < mt_be kk i → x6 = nI (32 - S kk 0)) → wL_kind_15 post (nI kk) x2 x3 (r + 1) (nI z) x5 x6 1 (nI i) (nI n) w k b o f a1 a2 a3
  | 0, i, z, x5, x6, k, b, o, f, hi, hz, h5, h6 => by
    have e : i = 25 := by omega
    subst e
    obtain ⟨-, -, -, t4, -⟩ := h.2.2 kk 1 hk
    obtain ⟨c1, c2⟩ := mt_cnt25 kk hk
    rw [mt_fin hk t4] at hz
    subst hz
    refine br_t (by decide) ⟨26, mt_214 h hk H (fun g => h5 g ?_) (fun g => h6 g ?_) 25 0 k b o f (by omega)⟩
    · rw [c1, if_neg (by omega)]; omega
    · rw [c2, if_neg (by omega)]; omega
  | r + 1, i, z, x5, x6, k, b, o, f, hi, hz, h5, h6 => by
    have ih := mt_15 h hk h2 h3 H r (i + 1)
    obtain ⟨e9, e10⟩ := mt_rem (i := i) (by omega)
    have A1 : mt_al kk (i + 1) = mt_al kk i + if 4 ≤ kk ∧ i / 5 < i % 5 then 1 else 0 := rfl
    have B1 : mt_be kk (i + 1) = mt_be kk i + if (4 ≤ kk ∧ i % 5 < i / 5) ∨ (kk < 4 ∧ i % 5 = 0) then 1 else 0 := rfl
    have skip : (¬ (4 ≤ kk ∧ i / 5 < i % 5)) → (¬ ((4 ≤ kk ∧ i % 5 < i / 5) ∨ (kk < 4 ∧ i % 5 = 0))) → ∀ k b o f : Int32, wL_kind_15 post (nI kk) x2 x3 (r + 1) (nI z) x5 x6 1 (nI (i + 1)) (nI n) w k b o f a1 a2 a3 := by
      intro g1 g2 k b o f
      rw [if_neg g1, Nat.add_zero (mt_al kk i)] at A1
      rw [if_neg g2, Nat.add_zero (mt_be kk i)] at B1
      refine ih z x5 x6 k b o f (by omega) (by rw [A1, B1]; exact hz) (by rw [A1]; exact h5) (by rw [B1]; exact h6)
    have up : 4 ≤ kk → i / 5 < i % 5 → ∀ k b o f : Int32, wL_kind_15 post (nI kk) x2 x3 (r + 1) (nI (z + mt_e (S kk 1))) (nI (32 - S kk 1)) x6 1 (nI (i + 1)) (nI n) w k b o f a1 a2 a3 := by
      intro g g1 k b o f
      rw [if_pos ⟨g, g1⟩] at A1
      rw [if_neg (by omega), Nat.add_zero (mt_be kk i)] at B1
      refine ih (z + mt_e (S kk 1)) _ x6 k b o f (by omega) (by rw [A1, B1, hz, Nat.add_mul, Nat.one_mul]; omega) (fun _ _ => rfl) (by rw [B1]; exact h6)
    have down : ∀ x6' : Int32, ((4 ≤ kk ∧ i % 5 < i / 5) ∨ (kk < 4 ∧ i % 5 = 0)) → (4 ≤ kk → x6' = nI (32 - S kk 0)) → ∀ k b o f : Int32, wL_kind_15 post (nI kk) x2 x3 (r + 1) (nI (z + mt_e (S kk 0))) x5 x6' 1 (nI (i + 1)) (nI n) w k b o f a1 a2 a3 := by
      intro x6' g g1 k b o f
      rw [if_neg (by omega), Nat.add_zero (mt_al kk i)] at A1
      rw [if_pos g] at B1
      refine ih (z + mt_e (S kk 0)) x5 x6' k b o f (by omega) (by rw [A1, B1, hz, Nat.add_mul, Nat.one_mul]; omega) (by rw [A1]; exact h5) (fun q _ => g1 q)
    refine br_f (nI_ge (b := 25) (by omega) (by decide)) ⟨by decide, nm_r e9 ⟨by decide, nm_r e10 (pk_lt kk 4 (fun g => pk_eq (i % 5) 0 (fun e => ?_) (fun e => ?_)) (fun g => pk_eq (i / 5) (i % 5) (fun e => ?_) (fun e => ?_)))⟩⟩
    · exact mt_64 h hk (by omega) (by omega) (fun q => absurd q (by omega)) h2 h3 k b o f (fun q => absurd q (by omega)) (fun _ => down _ (Or.inr ⟨g, e⟩) (fun q => absurd q (by omega))) (fun _ => down _ (Or.inr ⟨g, e⟩) (fun q => absurd q (by omega)))
    · exact br_t rfl (nm_r (nI_1 i) (skip (by omega) (by omega) k b o f))
    · exact br_t rfl (nm_r (nI_1 i) (skip (by omega) (by omega) k b o f))
    · exact mt_64 h hk (by omega) (by omega) (fun _ q => e q.symm) h2 h3 k b o f (fun q => up g q) (fun q => down _ (Or.inl ⟨g, q⟩) (fun _ => rfl)) (fun q => absurd q.symm e)
theorem mt_kind (h : mt_Law n w a1 a2 a3 Q S) (hk : kk < 14) (h2 : x2 = 0 → ∀ m, m < n → a2 m = 0) (h3 : x3 = 0 → Q < 2) (H : post 1 ()) {k b o f : Int32} : wpL_kind post (nI n, w, k, b, o, f, a1, a2, a3) (nI kk) x2 x3 :=
  ⟨26, mt_15 h hk h2 h3 H 25 0 0 (-1) (-1) k b o f (by omega) (by show 0 = 0 * _ + 0 * _; omega) (fun _ z => absurd z (Nat.lt_irrefl 0)) (fun _ z => absurd z (Nat.lt_irrefl 0))⟩
end
end
section
/-! the script's calls, and the law -/
theorem mt_byte : ∀ s, s ≤ 4 → (nI s + 1).toInt8.toInt32 = nI (s + 1) := by decide +kernel
theorem mt_byteD : ∀ s, s ≤ 4 → 0 < s → (nI s - 1).toInt8.toInt32 = nI (s - 1) := by decide +kernel
theorem mt_Zu {a2 : Nat → Int32} {j s : Nat} {x : Int32} (hz : mt_Z a2) (hs : s ≤ 4) (hx : x = nI s) : mt_Z (upd a2 j x) := by
  intro m hm
  by_cases e : m = j
  · rw [e, pk_us]
    exact ⟨s, hs, hx⟩
  · rw [pk_un e]
    exact hz m hm
section
variable {post : Int32 → St1 → Prop} {n : Nat} {w k b o f : Int32} {a1 a2 a3 : Nat → Int32}
theorem mt_march11 (hn : n ≤ 6) (hz : mt_Z a2) {x : Int32} (H : ∀ (r : Int32) (n' : Nat) (a1' a2' a3' : Nat → Int32), n' ≤ 6 → mt_Z a2' → post r (nI n', w, k, b, o, f, a1', a2', a3')) : wX_march_11 post x (nI n) w k b o f a1 a2 a3 :=
  pk_lt n 6 (fun g => ⟨pk_in n 6 g, nm_e ⟨pk_in n 6 g, nm_e (nm_r (nI_1 n) (H _ (n + 1) _ _ a3 g (mt_Zu (s := 0) hz (by omega) rfl)))⟩⟩) (fun _ => H _ n a1 a2 a3 hn hz)
theorem mt_march (hn : n ≤ 6) (hz : mt_Z a2) {x : Int32} (H : ∀ (r : Int32) (n' : Nat) (a1' a2' a3' : Nat → Int32), n' ≤ 6 → mt_Z a2' → post r (nI n', w, k, b, o, f, a1', a2', a3')) : wpX_march post (nI n, w, k, b, o, f, a1, a2, a3) x :=
  br_c (fun _ => mt_march11 hn hz H) (fun _ => br_c (fun _ => mt_march11 hn hz H) (fun _ => H _ n a1 a2 a3 hn hz))
theorem mt_turn (hn : n ≤ 6) (hz : mt_Z a2) {x : Int32} (H : ∀ (r : Int32) (n' : Nat) (a1' a2' a3' : Nat → Int32), n' ≤ 6 → mt_Z a2' → post r (nI n', w, k, b, o, f, a1', a2', a3')) : wpX_turn post (nI n, w, k, b, o, f, a1, a2, a3) x := by
  by_cases h0 : x < 0
  · exact br_t h0 (H _ n a1 a2 a3 hn hz)
  · obtain ⟨j, hj, rfl⟩ := nI_of h0
    exact br_f h0 (pk_lt j n (fun g => ⟨pk_in j 6 (by omega), pk_in j 6 (by omega), nm_e (H _ n _ a2 a3 hn hz)⟩) (fun _ => H _ n a1 a2 a3 hn hz))
theorem mt_op (hn : n ≤ 6) (hz : mt_Z a2) {x : Int32} (H : ∀ (r : Int32) (n' : Nat) (a1' a2' a3' : Nat → Int32), n' ≤ 6 → mt_Z a2' → post r (nI n', w, k, b, o, f, a1', a2', a3')) : wpX_op post (nI n, w, k, b, o, f, a1, a2, a3) x := by
  refine br_c (fun _ => H _ n a1 a2 a3 hn hz) (fun _ => br_c (fun _ => H _ n a1 a2 a3 hn hz) (fun _ => pk_eq n 0 (fun _ => H _ n a1 a2 a3 hn hz) (fun g => ?_)))
  have e : nI n - 1 = nI (n - 1) := pk_sub (b := 1) (by omega)
  obtain ⟨s, hs, hs'⟩ := hz (n - 1) (by omega)
  have ec : (nI (n - 1)).toNatClampNeg = n - 1 := nI_clamp (by omega)
  have e2 : nI (n - 1) * 4 + nI s = nI ((n - 1) * 4 + s) := by rw [show (4 : Int32) = nI 4 from rfl, pk_mul, nI_add]
  have eu : upd a2 (n - 1) ((nI s + 1).toInt8.toInt32) = upd a2 (n - 1) (nI (s + 1)) := by rw [mt_byte s hs]
  refine nm_r e ⟨pk_in (n - 1) 6 (by omega), ?_⟩
  rw [ec, hs']
  refine pk_lt s 4 (fun q => ⟨pk_in (n - 1) 6 (by omega), ?_, nm_e ⟨pk_in (n - 1) 6 (by omega), pk_in (n - 1) 6 (by omega), nm_r eu ⟨pk_in (n - 1) 6 (by omega), H _ n a1 _ _ hn (mt_Zu (s := s + 1) hz q rfl)⟩⟩⟩) (fun _ => H _ n a1 a2 a3 hn hz)
  rw [e2]
  exact vp_in_nI (by omega) (by omega)
theorem mt_drop (hn : n ≤ 6) (hz : mt_Z a2) (H : ∀ (r : Int32) (n' : Nat) (a1' a2' a3' : Nat → Int32), n' ≤ 6 → mt_Z a2' → post r (nI n', w, k, b, o, f, a1', a2', a3')) : wpX_drop post (nI n, w, k, b, o, f, a1, a2, a3) := by
  refine pk_eq n 0 (fun _ => H _ n a1 a2 a3 hn hz) (fun g => ?_)
  have e : nI n - 1 = nI (n - 1) := pk_sub (b := 1) (by omega)
  obtain ⟨s, hs, hs'⟩ := hz (n - 1) (by omega)
  have ec : (nI (n - 1)).toNatClampNeg = n - 1 := nI_clamp (by omega)
  have eu : 0 < s → upd a2 (n - 1) ((nI s - 1).toInt8.toInt32) = upd a2 (n - 1) (nI (s - 1)) := fun q => by rw [mt_byteD s hs q]
  rw [e, ec, hs']
  refine ⟨pk_in (n - 1) 6 (by omega), pk_le s 0 (fun _ => nm_e (H _ (n - 1) a1 a2 a3 (by omega) hz)) (fun q => ⟨pk_in (n - 1) 6 (by omega), pk_in (n - 1) 6 (by omega), nm_r (eu q) (H _ n a1 _ a3 hn (mt_Zu (s := s - 1) hz (by omega) rfl))⟩)⟩
end
section
variable {L : Nat} {xs : Nat → Int32} {kc ks n Q kk : Nat} {S : Nat → Nat → Nat} {a1 a2 a3 : Nat → Int32}
theorem mt_214l {V T z : Nat} (hn : n ≤ 6) (hV : V < 2 ^ n) (hT : T ≤ 4 * n) : wL_law_214 (fun r => r = 1) L xs (nI V) (nI n) (nI (5 * T)) (nI z) (nI z) kc ks := by
  have h6 : 2 ^ n ≤ 2 ^ 6 := Nat.pow_le_pow_right (by omega) hn
  have e1 : nI (5 * T) - nI (5 * T) / 5 * 5 = 0 := by
    have t := pk_rem (a := 5 * T) (d := 5) (by omega) (by omega) (by omega)
    rw [show 5 * T % 5 = 0 by omega, nI_0] at t
    exact t
  have e2 : 20 * nI n = nI (20 * n) := pk_mul 20 n
  refine br_t rfl (br_f (nI_pos (by omega)) (br_f ?_ ⟨by decide, br_t e1 (br_f ?_ rfl)⟩))
  · rw [mt_shl (by omega)]
    exact nI_ge hV (by omega)
  · rw [e2]
    exact nI_nlt (by omega) (by omega)
theorem mt_bit {V : Nat} (hV : V < 2 ^ 14) (hk : kk < 14) : ((nI V >>> (nI kk &&& 31)) &&& 1) = 1 ↔ V.testBit kk = true := by
  rw [pk_shrN (n := V) (by omega) (nI kk &&& 31) kk (mt_sl kk (by omega))]
  have l : V / 2 ^ kk ≤ V := Nat.div_le_self _ _
  rw [pk_andN (n := V / 2 ^ kk) (m := 1) (by omega) 1 (by decide), Nat.testBit_eq_decide_div_mod_eq, decide_eq_true_iff, Nat.pow_one]
  generalize V / 2 ^ kk = t at *
  exact nI_eq (a := t % 2) (b := 1) (by omega) (by omega)
theorem mt_191 (h : mt_Law n (-1) a1 a2 a3 Q S) (hn : n ≤ 6) (hk : kk < 14) {C V T z : Nat} {x2 x3 k b o f : Int32} (hC : C < 2 ^ 14) (hz : (C.testBit kk = true → z = 1) ∧ (¬ C.testBit kk = true → z = 0)) (hV : V < 2 ^ n) (hT : T ≤ 4 * n) (h2 : x2 = 0 → ∀ m, m < n → a2 m = 0) (h3 : x3 = 0 → Q < 2) : wL_law_191 (fun r => r = 1) L xs (nI kk) x3 (nI C) (nI V) (nI n) (nI (5 * T)) (nI z) x2 (nI kk) kc ks (nI n) (-1) k b o f a1 a2 a3 := by
  refine mt_kind h hk h2 h3 (br_f (by decide) (br_c (fun e => ?_) (fun e => ?_)))
  · rw [hz.1 ((mt_bit hC hk).mp e)]
    exact mt_214l (z := 1) hn hV hT
  · rw [hz.2 (fun q => e ((mt_bit hC hk).mpr q))]
    exact mt_214l (z := 0) hn hV hT
theorem mt_169 (h : mt_Law n (-1) a1 a2 a3 Q S) (hn : n ≤ 6) (hk : kk < 14) {A C V T : Nat} {x3 k b o f : Int32} (hA : A = mt_all kk) (hC : C < 2 ^ 14) (hb : C.testBit kk = true ↔ mt_F S kk = mt_all kk) (hV : V < 2 ^ n) (hT : T ≤ 4 * n) (h2 : T = 0 → ∀ m, m < n → a2 m = 0) (h3 : x3 = 0 → Q < 2) : wL_law_169 (fun r => r = 1) L xs (nI kk) x3 (nI C) (nI V) (nI n) (nI (5 * T)) (nI A) (nI (mt_F S kk)) kc ks (nI n) (-1) k b o f a1 a2 a3 := by
  have l1 := mt_Fl S kk
  have l2 := mt_Al kk
  have R : ∀ z : Nat, ((C.testBit kk = true → z = 1) ∧ (¬ C.testBit kk = true → z = 0)) → wL_law_177 (fun r => r = 1) L xs (nI kk) x3 (nI C) (nI V) (nI n) (nI (5 * T)) (nI z) kc ks (nI n) (-1) k b o f a1 a2 a3 := fun z hz =>
    pk_le (5 * T) 0 (fun g => mt_191 h hn hk hC hz hV hT (fun _ => h2 (by omega)) h3) (fun g => mt_191 h hn hk hC hz hV hT (fun q => absurd q (by decide)) h3)
  exact pk_eq (mt_F S kk) A (fun e => R 1 ⟨fun _ => rfl, fun q => absurd (hb.mpr (e.trans hA)) q⟩) (fun e => R 0 ⟨fun q => absurd ((hb.mp q).trans hA.symm) e, fun _ => rfl⟩)
theorem mt_112 (hn : n ≤ 6) (hz : mt_Z a2) (z k b o f : Int32) : wL_law_112 (fun r => r = 1) L xs z kc ks (nI n) (-1) k b o f a1 a2 a3 := by
  obtain ⟨Q, S, h⟩ := mt_ex hn hz (-1) a1 a3
  obtain ⟨j, hj, ej⟩ := pk_andE (z >>> ((3 : Int32) &&& 31)) (m := 15) 4 (by decide)
  have ek : ((z >>> ((3 : Int32) &&& 31)) &&& 15) - ((z >>> ((3 : Int32) &&& 31)) &&& 15) / 14 * 14 = nI (j % 14) := by
    rw [ej]
    exact pk_rem (d := 14) (by omega) (by omega) (by omega)
  have hk : j % 14 < 14 := Nat.mod_lt _ (by omega)
  refine ⟨by decide, nm_r ek (mt_sound h (fun x3 h3 k b o f => mt_covered h (fun C hC hb k b o f => mt_spare hn hz (fun V hV k b o f => ?_))))⟩
  refine mt_steps hn hz (fun T hT hT0 => mt_found h hk (fun k b o f => pk_le 4 (j % 14) (fun g => ?_) (fun g => ?_)))
  · exact mt_169 (A := 20) h hn hk (if_neg (by omega)).symm hC (hb _ hk) hV hT hT0 h3
  · exact mt_169 (A := 5) h hn hk (if_pos g).symm hC (hb _ hk) hV hT hT0 h3
theorem mt_10 (hL : L ≤ 260) : ∀ (r i n : Nat) (k b o f : Int32) (a1 a2 a3 : Nat → Int32), i + r = L → n ≤ 6 → mt_Z a2 → wL_law_10 (fun r => r = 1) L xs kc ks (r + 1) (nI i) (nI n) (-1) k b o f a1 a2 a3
  | 0, i, n, k, b, o, f, a1, a2, a3, hi, hn, hz =>
    br_t (show nI L ≤ nI i from nI_le (by omega) (by omega)) (pk_le L 0 (fun _ => mt_112 hn hz _ k b o f) (fun g => ⟨pk_in 0 L g, mt_112 hn hz _ k b o f⟩))
  | r + 1, i, n, k, b, o, f, a1, a2, a3, hi, hn, hz =>
    br_f (show ¬ nI L ≤ nI i from nI_ge (by omega) (by omega)) ⟨pk_in i L (by omega), nm_e ⟨pk_in i L (by omega), nm_e (br_c
      (fun _ => br_c
        (fun _ => br_c
          (fun _ => ⟨by decide, mt_turn hn hz (fun _ n' a1' a2' a3' hn' hz' => nm_r (nI_1 i) (mt_10 hL r (i + 1) n' k b o f a1' a2' a3' (by omega) hn' hz'))⟩)
          (fun _ => mt_drop hn hz (fun _ n' a1' a2' a3' hn' hz' => nm_r (nI_1 i) (mt_10 hL r (i + 1) n' k b o f a1' a2' a3' (by omega) hn' hz'))))
        (fun _ => mt_op hn hz (fun _ n' a1' a2' a3' hn' hz' => nm_r (nI_1 i) (mt_10 hL r (i + 1) n' k b o f a1' a2' a3' (by omega) hn' hz'))))
      (fun _ => mt_march hn hz (fun _ n' a1' a2' a3' hn' hz' => nm_r (nI_1 i) (mt_10 hL r (i + 1) n' k b o f a1' a2' a3' (by omega) hn' hz'))))⟩⟩
end
theorem i_vc (xs : Nat → Int32) (L : Nat) (hL : L ≤ 260) : wpL_law (fun r => r = 1) L xs := by
  have h := mt_10 (xs := xs) (kc := 1 + 3) (ks := 9 + 36) hL L 0 0 0 0 0 0 (fun _ => 0) (fun _ => 0) (fun _ => 0) (by omega) (by omega) (fun m _ => ⟨0, by omega, rfl⟩)
  exact ⟨3, 36, by decide, by decide, by decide, by decide, by decide, by decide, by decide, by decide, L + 1, h⟩
end
