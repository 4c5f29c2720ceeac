section
/-- one of the two live colours is black now, the other white -/
def th_BW (bl wh : Int32) : Prop := (bl = 1 ∧ wh = 2) ∨ (bl = 2 ∧ wh = 1)
theorem th_bw {bl wh : Int32} (h : th_BW bl wh) : bl ≠ wh ∧ bl ≠ 0 ∧ wh ≠ 0 ∧ bl ≠ 3 ∧ wh ≠ 3 ∧ 3 - bl = wh ∧ 3 - wh = bl := by
  rcases h with ⟨rfl, rfl⟩ | ⟨rfl, rfl⟩ <;> decide
theorem th_bw' {bl wh : Int32} (h : th_BW bl wh) : th_BW wh bl := by
  rcases h with ⟨h1, h2⟩ | ⟨h1, h2⟩
  · exact Or.inr ⟨h2, h1⟩
  · exact Or.inl ⟨h2, h1⟩
theorem th_inj {a b : Nat} (ha : a < 16) (hb : b < 16) (h : nI a = nI b) : a = b := (nI_eq (by omega) (by omega)).mp h
theorem th_m1 {d : Nat} (h : d < 16) : ¬ (-1 : Int32) = nI d := by
  intro e
  have h1 : ¬ nI d < 0 := nI_pos (by omega)
  rw [← e] at h1
  exact h1 (by decide)
/-- how many numbers below n have P -/
noncomputable def th_cn (P : Nat → Prop) : Nat → Nat
  | 0 => 0
  | n + 1 => th_cn P n + @ite Nat (P n) (Classical.propDecidable _) 1 0
theorem th_cn_t {P : Nat → Prop} {n : Nat} (h : P n) : th_cn P (n + 1) = th_cn P n + 1 := by
  show th_cn P n + @ite Nat (P n) (Classical.propDecidable _) 1 0 = _
  rw [if_pos h]
theorem th_cn_f {P : Nat → Prop} {n : Nat} (h : ¬ P n) : th_cn P (n + 1) = th_cn P n := by
  show th_cn P n + @ite Nat (P n) (Classical.propDecidable _) 1 0 = _
  rw [if_neg h]
  rfl
theorem th_cn_mono {P R : Nat → Prop} : ∀ {n : Nat}, (∀ c, c < n → P c → R c) → th_cn P n ≤ th_cn R n := by
  intro n
  induction n with
  | zero => intro _; exact Nat.le_refl _
  | succ n ih =>
    intro h
    have h1 := ih (fun c hc => h c (by omega))
    by_cases hp : P n
    · rw [th_cn_t hp, th_cn_t (h n (by omega) hp)]
      omega
    · rw [th_cn_f hp]
      by_cases hr : R n
      · rw [th_cn_t hr]
        omega
      · rw [th_cn_f hr]
        exact h1
theorem th_cn_lt {P R : Nat → Prop} {k : Nat} : ∀ {n : Nat}, (∀ c, c < n → P c → R c) → k < n → R k → ¬ P k → th_cn P n < th_cn R n := by
  intro n
  induction n with
  | zero => intro _ h; omega
  | succ n ih =>
    intro h hk hr hp
    by_cases e : k = n
    · subst e
      rw [th_cn_f hp, th_cn_t hr]
      have := th_cn_mono (fun c (hc : c < k) => h c (by omega))
      omega
    · have h1 := ih (fun c hc => h c (by omega)) (by omega) hr hp
      by_cases hpn : P n
      · rw [th_cn_t hpn, th_cn_t (h n (by omega) hpn)]
        omega
      · rw [th_cn_f hpn]
        by_cases hrn : R n
        · rw [th_cn_t hrn]
          omega
        · rw [th_cn_f hrn]
          exact h1
theorem th_cn_all {P : Nat → Prop} : ∀ {n : Nat}, (∀ c, c < n → P c) → th_cn P n = n := by
  intro n
  induction n with
  | zero => intro _; rfl
  | succ n ih =>
    intro h
    rw [th_cn_t (h n (by omega)), ih (fun c hc => h c (by omega))]
theorem th_cn_le (P : Nat → Prop) (n : Nat) : th_cn P n ≤ n := by
  have h1 : th_cn P n ≤ th_cn (fun _ => True) n := th_cn_mono (fun _ _ _ => trivial)
  rw [th_cn_all (fun _ _ => trivial)] at h1
  exact h1
theorem th_cn_miss {P : Nat → Prop} {n k : Nat} (hk : k < n) (h : ¬ P k) : th_cn P n < n := by
  have h1 : th_cn P n < th_cn (fun _ => True) n := th_cn_lt (fun _ _ _ => trivial) hk trivial h
  rw [th_cn_all (fun _ _ => trivial)] at h1
  exact h1
theorem th_cn_ex {P : Nat → Prop} {n : Nat} (h : th_cn P n < n) : ∃ k, k < n ∧ ¬ P k := by
  apply Classical.byContradiction
  intro hn
  have h1 : th_cn P n = n := th_cn_all (fun c hc => Classical.byContradiction (fun hp => hn ⟨c, hc, hp⟩))
  omega
theorem th_cn_inj {P : Nat → Prop} {f : Nat → Nat} {m : Nat} : ∀ {n : Nat} {R : Nat → Prop}, (∀ c, c < n → P c → f c < m ∧ R (f c)) → (∀ c d, c < n → d < n → P c → P d → f c = f d → c = d) → th_cn P n ≤ th_cn R m := by
  intro n
  induction n with
  | zero => intro R _ _; exact Nat.zero_le _
  | succ n ih =>
    intro R h hi
    by_cases hp : P n
    · rw [th_cn_t hp]
      obtain ⟨h1, h2⟩ := h n (by omega) hp
      have h3 : th_cn P n ≤ th_cn (fun x => R x ∧ x ≠ f n) m := ih (fun c hc hpc => ⟨(h c (by omega) hpc).1, (h c (by omega) hpc).2, fun e => by
        have := hi c n (by omega) (by omega) hpc hp e
        omega⟩) (fun c d hc hd => hi c d (by omega) (by omega))
      have h4 : th_cn (fun x => R x ∧ x ≠ f n) m < th_cn R m := th_cn_lt (fun c _ hc => hc.1) h1 h2 (fun hc => hc.2 rfl)
      omega
    · rw [th_cn_f hp]
      exact ih (fun c hc => h c (by omega)) (fun c d hc hd => hi c d (by omega) (by omega))
/-- cell c holds a link to cell d -/
def th_E (l0 l1 : Nat → Int32) (c d : Nat) : Prop := l0 c = nI d ∨ l1 c = nI d
/-- the cells that are kept: in the sweep the black ones, else all that are not free -/
def th_gd (p : Nat) (bl : Int32) (col : Nat → Int32) (c : Nat) : Prop := (p = 5 → col c = bl) ∧ (p ≠ 5 → col c ≠ 0)
/-- -1, or a cell of G -/
def th_rf (n : Nat) (G : Nat → Prop) (x : Int32) : Prop := x = -1 ∨ ∃ d, d < n ∧ G d ∧ x = nI d
/-- the covered cells: the least set that holds all gray and black cells (and what the globals hold, in phase 3) and is closed under the links of gray and white cells -/
def th_cv (n p : Nat) (bl wh : Int32) (col l0 l1 glo : Nat → Int32) (e : Nat) : Prop :=
  ∀ S : Nat → Prop, (∀ c, c < n → (col c = 3 ∨ col c = bl) → S c) → (p = 3 → ∀ i d, i < 2 → d < n → glo i = nI d → S d) →
    (∀ c d, c < n → d < n → S c → (col c = 3 ∨ col c = wh) → th_E l0 l1 c d → S d) → S e
/-- the colours, by phase -/
def th_CC (n p : Nat) (bl wh : Int32) (s : Nat) (col : Nat → Int32) : Prop :=
  (4 ≤ n ∧ n ≤ 16 ∧ p ≤ 5) ∧ th_BW bl wh ∧
  (∀ c, c < n → col c = 0 ∨ col c = bl ∨ col c = wh ∨ col c = 3) ∧
  (p = 0 → ∀ c, c < n → col c ≠ wh) ∧ (p = 0 ∨ p = 5 → ∀ c, c < n → col c ≠ 3) ∧
  (1 ≤ p → p ≤ 3 → ∀ c, c < n → col c ≠ bl) ∧ (p = 5 → s < n ∧ ∀ c, c < s → col c ≠ wh)
/-- roots and links of kept cells hold kept cells -/
def th_RR (n : Nat) (G : Nat → Prop) (l0 l1 reg glo : Nat → Int32) : Prop :=
  (∀ i, i < 12 → th_rf n G (reg i)) ∧ (∀ i, i < 2 → th_rf n G (glo i)) ∧ (∀ c, c < n → G c → th_rf n G (l0 c) ∧ th_rf n G (l1 c))
/-- what is covered in phases 3 and 4 -/
def th_VV (n m p : Nat) (bl wh : Int32) (col l0 l1 reg glo : Nat → Int32) : Prop :=
  (∀ i d, i < 12 → d < n → (p = 4 ∨ (p = 3 ∧ m.testBit (i / 4) = true)) → reg i = nI d → th_cv n p bl wh col l0 l1 glo d) ∧
  (∀ i d, i < 2 → d < n → (p = 3 ∨ p = 4) → glo i = nI d → th_cv n p bl wh col l0 l1 glo d) ∧
  (∀ c d, c < n → d < n → (p = 3 ∨ p = 4) → col c = bl → th_E l0 l1 c d → th_cv n p bl wh col l0 l1 glo d)
/-- a set Q of cells that holds the roots and is closed under links -/
def th_QC (n : Nat) (G Q : Nat → Prop) (l0 l1 reg glo : Nat → Int32) : Prop :=
  (∀ i d, i < 12 → d < n → reg i = nI d → Q d) ∧ (∀ i d, i < 2 → d < n → glo i = nI d → Q d) ∧
  (∀ c d, c < n → d < n → G c → Q c → th_E l0 l1 c d → Q d)
/-- the collector's invariant -/
def th_CI (n : Nat) (Q : Nat → Prop) (m p : Nat) (bl wh : Int32) (s : Nat) (col l0 l1 reg glo : Nat → Int32) : Prop :=
  m < 8 ∧ th_CC n p bl wh s col ∧ th_RR n (th_gd p bl col) l0 l1 reg glo ∧ th_VV n m p bl wh col l0 l1 reg glo ∧
  th_QC n (th_gd p bl col) Q l0 l1 reg glo ∧ (∀ c, c < n → (col c = 3 ∨ col c = bl) → Q c)
/-- some white cells have become gray -/
def th_Mk (n : Nat) (wh : Int32) (col col' : Nat → Int32) : Prop := ∀ c, c < n → col' c = col c ∨ (col c = wh ∧ col' c = 3)
def th_QT : Nat → Prop := fun _ => True
theorem th_QCT {n : Nat} {G : Nat → Prop} {l0 l1 reg glo : Nat → Int32} : th_QC n G th_QT l0 l1 reg glo := ⟨fun _ _ _ _ _ => trivial, fun _ _ _ _ _ => trivial, fun _ _ _ _ _ _ _ => trivial⟩
section
variable {n m p s : Nat} {bl wh : Int32} {col l0 l1 reg glo : Nat → Int32} {Q : Nat → Prop}
theorem th_rf_mono {G G' : Nat → Prop} {x : Int32} (h : ∀ d, d < n → G d → G' d) (hx : th_rf n G x) : th_rf n G' x := by
  rcases hx with hx | ⟨d, hd, hg, hx⟩
  · exact Or.inl hx
  · exact Or.inr ⟨d, hd, h d hd hg, hx⟩
theorem th_rf_g {G : Nat → Prop} {x : Int32} {d : Nat} (hn : n ≤ 16) (hx : th_rf n G x) (hd : d < n) (e : x = nI d) : G d := by
  rcases hx with hx | ⟨d', hd', hg, hx⟩
  · exact absurd (hx.symm.trans e) (th_m1 (by omega))
  · have : d' = d := th_inj (by omega) (by omega) (hx.symm.trans e)
    subst this
    exact hg
theorem th_Mk_refl : th_Mk n wh col col := fun _ _ => Or.inl rfl
theorem th_Mk_trans {c1 c2 c3 : Nat → Int32} (h : th_Mk n wh c1 c2) (h' : th_Mk n wh c2 c3) : th_Mk n wh c1 c3 := by
  intro c hc
  rcases h c hc with h1 | ⟨h1, h2⟩
  · rcases h' c hc with g1 | ⟨g1, g2⟩
    · exact Or.inl (g1.trans h1)
    · exact Or.inr ⟨h1 ▸ g1, g2⟩
  · rcases h' c hc with g1 | ⟨g1, g2⟩
    · exact Or.inr ⟨h1, g1.trans h2⟩
    · exact Or.inr ⟨h1, g2⟩
theorem th_Mk_bl {col' : Nat → Int32} (hb : th_BW bl wh) (h : th_Mk n wh col col') {c : Nat} (hc : c < n) : col' c = bl ↔ col c = bl := by
  obtain ⟨b1, b2, b3, b4, b5, b6, b7⟩ := th_bw hb
  rcases h c hc with h1 | ⟨h1, h2⟩
  · rw [h1]
  · rw [h1, h2]
    exact ⟨fun e => absurd e.symm b4, fun e => absurd e.symm b1⟩
theorem th_Mk_0 {col' : Nat → Int32} (hb : th_BW bl wh) (h : th_Mk n wh col col') {c : Nat} (hc : c < n) : col' c = 0 ↔ col c = 0 := by
  obtain ⟨b1, b2, b3, b4, b5, b6, b7⟩ := th_bw hb
  rcases h c hc with h1 | ⟨h1, h2⟩
  · rw [h1]
  · rw [h1, h2]
    exact ⟨fun e => absurd e (by decide), fun e => absurd e b3⟩
theorem th_Mk_wh {col' : Nat → Int32} (hb : th_BW bl wh) (h : th_Mk n wh col col') {c : Nat} (hc : c < n) (h1 : col c ≠ wh) : col' c = col c := by
  rcases h c hc with h2 | ⟨h2, h3⟩
  · exact h2
  · exact absurd h2 h1
theorem th_Mk_gd {col' : Nat → Int32} (hb : th_BW bl wh) (h : th_Mk n wh col col') {c : Nat} (hc : c < n) : th_gd p bl col' c ↔ th_gd p bl col c := by
  unfold th_gd
  rw [th_Mk_bl hb h hc]
  have := th_Mk_0 hb h hc
  constructor
  · exact fun g => ⟨g.1, fun hp e => g.2 hp (this.mpr e)⟩
  · exact fun g => ⟨g.1, fun hp e => g.2 hp (this.mp e)⟩
theorem th_RR_iff {G G' : Nat → Prop} (h : ∀ c, c < n → (G' c ↔ G c)) (hr : th_RR n G l0 l1 reg glo) : th_RR n G' l0 l1 reg glo :=
  ⟨fun i hi => th_rf_mono (fun d hd => (h d hd).mpr) (hr.1 i hi), fun i hi => th_rf_mono (fun d hd => (h d hd).mpr) (hr.2.1 i hi),
   fun c hc hg => ⟨th_rf_mono (fun d hd => (h d hd).mpr) (hr.2.2 c hc ((h c hc).mp hg)).1, th_rf_mono (fun d hd => (h d hd).mpr) (hr.2.2 c hc ((h c hc).mp hg)).2⟩⟩
theorem th_QC_sub {G G' : Nat → Prop} (h : ∀ c, c < n → G' c → G c) (hr : th_QC n G Q l0 l1 reg glo) : th_QC n G' Q l0 l1 reg glo :=
  ⟨hr.1, hr.2.1, fun c d hc hd hg => hr.2.2 c d hc hd (h c hc hg)⟩
/-- a kept cell that is not white is gray or black -/
theorem th_gb (h : th_CC n p bl wh s col) {d : Nat} (hd : d < n) (hg : th_gd p bl col d) (hw : col d ≠ wh) : col d = 3 ∨ col d = bl := by
  obtain ⟨_, hb, hc, _⟩ := h
  obtain ⟨b1, b2, b3, b4, b5, b6, b7⟩ := th_bw hb
  rcases hc d hd with e | e | e | e
  · by_cases hp : p = 5
    · exact Or.inr (hg.1 hp)
    · exact absurd e (hg.2 hp)
  · exact Or.inr e
  · exact absurd e hw
  · exact Or.inl e
theorem th_cv_gb {d : Nat} (hd : d < n) (h : col d = 3 ∨ col d = bl) : th_cv n p bl wh col l0 l1 glo d := fun _ h1 _ _ => h1 d hd h
/-- one white kept cell becomes gray -/
theorem th_mark (h : th_CI n Q m p bl wh s col l0 l1 reg glo) {d : Nat} (hd : d < n) (hg : th_gd p bl col d) (hq : Q d) (hw : col d = wh) :
    th_CI n Q m p bl wh s (upd col d 3) l0 l1 reg glo ∧ th_Mk n wh col (upd col d 3) := by
  obtain ⟨hm, hC, hR, hV, hQ, hT⟩ := h
  obtain ⟨⟨n1, n2, n3⟩, hb, hc, c0, c05, c13, c5⟩ := hC
  have hb' := th_bw hb
  obtain ⟨b1, b2, b3, b4, b5, b6, b7⟩ := hb'
  have p0 : p ≠ 0 := fun e => c0 e d hd hw
  have p5 : p ≠ 5 := fun e => b1 ((hg.1 e).symm.trans hw)
  have hM : th_Mk n wh col (upd col d 3) := by
    intro c hc
    by_cases e : c = d
    · subst e
      exact Or.inr ⟨hw, pk_us⟩
    · exact Or.inl (pk_un e)
  have hG : ∀ c, c < n → (th_gd p bl (upd col d 3) c ↔ th_gd p bl col c) := fun c hc => th_Mk_gd hb hM hc
  have hcv : ∀ e, th_cv n p bl wh col l0 l1 glo e → th_cv n p bl wh (upd col d 3) l0 l1 glo e := by
    intro e he S h1 h2 h3
    refine he S (fun c hc hcc => h1 c hc ?_) h2 (fun c x hc hx hs hcc hE => h3 c x hc hx hs ?_ hE)
    · rcases hM c hc with g | ⟨g1, g2⟩
      · rw [g]; exact hcc
      · exact Or.inl g2
    · rcases hM c hc with g | ⟨g1, g2⟩
      · rw [g]; exact hcc
      · exact Or.inl g2
  refine ⟨⟨hm, ⟨⟨n1, n2, n3⟩, hb, ?_, fun e => absurd e p0, fun e => ?_, ?_, fun e => absurd e p5⟩, th_RR_iff hG hR, ⟨?_, ?_, ?_⟩, th_QC_sub (fun c hc => (hG c hc).mp) hQ, ?_⟩, hM⟩
  · intro c hc'
    rcases hM c hc' with g | ⟨g1, g2⟩
    · rw [g]; exact hc c hc'
    · exact Or.inr (Or.inr (Or.inr g2))
  · rcases e with e | e
    · exact absurd e p0
    · exact absurd e p5
  · intro h1 h3 c hc'
    rw [Ne, th_Mk_bl hb hM hc']
    exact c13 h1 h3 c hc'
  · exact fun i x hi hx hp hr => hcv x (hV.1 i x hi hx hp hr)
  · exact fun i x hi hx hp hr => hcv x (hV.2.1 i x hi hx hp hr)
  · exact fun c x hc' hx hp hr hE => hcv x (hV.2.2 c x hc' hx hp ((th_Mk_bl hb hM hc').mp hr) hE)
  · intro c hc' hcc
    by_cases e : c = d
    · subst e; exact hq
    · rw [pk_un e] at hcc
      exact hT c hc' hcc
end
end
section
section
variable {n m p s : Nat} {bl wh : Int32} {col l0 l1 reg glo : Nat → Int32} {Q : Nat → Prop}
/-- how many drives a round still takes, at most -/
noncomputable def th_mu (n p : Nat) (bl : Int32) (s : Nat) (col : Nat → Int32) : Nat :=
  if p = 0 then 0 else if p = 5 then n - s else if p = 4 then n + 1 + th_cn (fun c => col c ≠ bl) n else 2 * n + 5 - p
theorem th_mu0 : th_mu n 0 bl s col = 0 := by
  unfold th_mu
  rw [if_pos rfl]
theorem th_mu5 : th_mu n 5 bl s col = n - s := by
  unfold th_mu
  rw [if_neg (by decide), if_pos rfl]
theorem th_mu4 : th_mu n 4 bl s col = n + 1 + th_cn (fun c => col c ≠ bl) n := by
  unfold th_mu
  rw [if_neg (by decide), if_neg (by decide), if_pos rfl]
theorem th_mu13 (h1 : 1 ≤ p) (h3 : p ≤ 3) : th_mu n p bl s col = 2 * n + 5 - p := by
  unfold th_mu
  rw [if_neg (by omega), if_neg (by omega), if_neg (by omega)]
theorem th_mu_le (hp : p ≤ 5) : th_mu n p bl s col ≤ 2 * n + 4 := by
  have h := th_cn_le (fun c => col c ≠ bl) n
  unfold th_mu
  split
  · omega
  · split
    · omega
    · split
      · omega
      · omega
theorem th_mu_pos (hs : p = 5 → s < n) (hp : p ≤ 5) (h0 : p ≠ 0) : 0 < th_mu n p bl s col := by
  unfold th_mu
  split
  · omega
  · split
    · have := hs (by assumption)
      omega
    · split
      · omega
      · omega
/-- a round begins: black and white change places -/
theorem th_flip {Q' : Nat → Prop} {s' : Nat} (h : th_CI n Q m 0 bl wh s col l0 l1 reg glo) (hQ' : th_QC n (th_gd 0 bl col) Q' l0 l1 reg glo) :
    th_CI n Q' 0 1 wh bl s' col l0 l1 reg glo ∧ ∀ c, c < n → (th_gd 1 wh col c ↔ th_gd 0 bl col c) := by
  obtain ⟨hm, hC, hR, hV, hQ, hT⟩ := h
  obtain ⟨⟨n1, n2, n3⟩, hb, hc, c0, c05, c13, c5⟩ := hC
  obtain ⟨b1, b2, b3, b4, b5, b6, b7⟩ := th_bw hb
  have hG : ∀ c, c < n → (th_gd 1 wh col c ↔ th_gd 0 bl col c) := by
    intro c _
    constructor
    · exact fun g => ⟨fun e => absurd e (by decide), fun _ => g.2 (by decide)⟩
    · exact fun g => ⟨fun e => absurd e (by decide), fun _ => g.2 (by decide)⟩
  refine ⟨⟨by decide, ⟨⟨n1, n2, by decide⟩, th_bw' hb, ?_, fun e => absurd e (by decide), fun e => ?_, ?_, fun e => absurd e (by decide)⟩, th_RR_iff hG hR, ⟨?_, ?_, ?_⟩, th_QC_sub (fun c hc => (hG c hc).mp) hQ', ?_⟩, hG⟩
  · intro c hc'
    rcases hc c hc' with e | e | e | e
    · exact Or.inl e
    · exact Or.inr (Or.inr (Or.inl e))
    · exact Or.inr (Or.inl e)
    · exact Or.inr (Or.inr (Or.inr e))
  · rcases e with e | e
    · exact absurd e (by decide)
    · exact absurd e (by decide)
  · exact fun _ _ => c0 rfl
  · intro i x hi hx hp
    rcases hp with e | ⟨e, _⟩
    · exact absurd e (by decide)
    · exact absurd e (by decide)
  · intro i x hi hx hp
    rcases hp with e | e
    · exact absurd e (by decide)
    · exact absurd e (by decide)
  · intro i x hi hx hp
    rcases hp with e | e
    · exact absurd e (by decide)
    · exact absurd e (by decide)
  · intro c hc' e
    rcases e with e | e
    · exact absurd e (c05 (Or.inl rfl) c hc')
    · exact absurd e (c0 rfl c hc')
/-- the first and the second signal are answered by all -/
theorem th_sig12 (h : th_CI n Q m p bl wh s col l0 l1 reg glo) (h1 : 1 ≤ p) (h2 : p ≤ 2) :
    th_CI n Q 0 (p + 1) bl wh s col l0 l1 reg glo ∧ ∀ c, c < n → (th_gd (p + 1) bl col c ↔ th_gd p bl col c) := by
  obtain ⟨hm, hC, hR, hV, hQ, hT⟩ := h
  obtain ⟨⟨n1, n2, n3⟩, hb, hc, c0, c05, c13, c5⟩ := hC
  have hG : ∀ c, c < n → (th_gd (p + 1) bl col c ↔ th_gd p bl col c) := by
    intro c _
    constructor
    · exact fun g => ⟨fun e => absurd e (by omega), fun _ => g.2 (by omega)⟩
    · exact fun g => ⟨fun e => absurd e (by omega), fun _ => g.2 (by omega)⟩
  refine ⟨⟨by decide, ⟨⟨n1, n2, by omega⟩, hb, hc, fun e => absurd e (by omega), fun e => absurd e (by omega), fun _ _ => c13 (by omega) (by omega), fun e => absurd e (by omega)⟩, th_RR_iff hG hR, ⟨?_, ?_, ?_⟩, th_QC_sub (fun c hc => (hG c hc).mp) hQ, hT⟩, hG⟩
  · intro i x hi hx hp
    rcases hp with e | ⟨e, e'⟩
    · exact absurd e (by omega)
    · rw [Nat.zero_testBit] at e'
      exact absurd e' (by decide)
  · intro i x hi hx hp hr
    rcases hp with e | e
    · exact fun S _ g _ => g e i x hi hx hr
    · exact absurd e (by omega)
  · intro c x hc' hx hp hr
    exact absurd hr (c13 (by omega) (by omega) c hc')
theorem th_bit7 : ∀ i, i < 12 → (7 : Nat).testBit (i / 4) = true := by decide
/-- the third signal is answered by all, and the globals are marked: tracing begins -/
theorem th_sig34 (h : th_CI n Q 7 3 bl wh s col l0 l1 reg glo) (hw : ∀ i d, i < 2 → d < n → glo i = nI d → col d ≠ wh) :
    th_CI n Q 0 4 bl wh s col l0 l1 reg glo ∧ ∀ c, c < n → (th_gd 4 bl col c ↔ th_gd 3 bl col c) := by
  obtain ⟨hm, hC, hR, hV, hQ, hT⟩ := h
  have hC' := hC
  obtain ⟨⟨n1, n2, n3⟩, hb, hc, c0, c05, c13, c5⟩ := hC
  have hG : ∀ c, c < n → (th_gd 4 bl col c ↔ th_gd 3 bl col c) := by
    intro c _
    constructor
    · exact fun g => ⟨fun e => absurd e (by decide), fun _ => g.2 (by decide)⟩
    · exact fun g => ⟨fun e => absurd e (by decide), fun _ => g.2 (by decide)⟩
  have hgl : ∀ i d, i < 2 → d < n → glo i = nI d → col d = 3 ∨ col d = bl := fun i d hi hd e =>
    th_gb hC' hd (th_rf_g n2 (hR.2.1 i hi) hd e) (hw i d hi hd e)
  have hcv : ∀ e, th_cv n 3 bl wh col l0 l1 glo e → th_cv n 4 bl wh col l0 l1 glo e := by
    intro e he S h1 h2 h3
    exact he S h1 (fun _ i d hi hd hg => h1 d hd (hgl i d hi hd hg)) h3
  refine ⟨⟨by decide, ⟨⟨n1, n2, by decide⟩, hb, hc, fun e => absurd e (by decide), fun e => absurd e (by decide), fun _ e => absurd e (by decide), fun e => absurd e (by decide)⟩, th_RR_iff hG hR, ⟨?_, ?_, ?_⟩, th_QC_sub (fun c hc => (hG c hc).mp) hQ, hT⟩, hG⟩
  · exact fun i x hi hx _ hr => hcv x (hV.1 i x hi hx (Or.inr ⟨rfl, th_bit7 i hi⟩) hr)
  · exact fun i x hi hx _ hr => hcv x (hV.2.1 i x hi hx (Or.inl rfl) hr)
  · exact fun c x hc' hx _ hr hE => hcv x (hV.2.2 c x hc' hx (Or.inl rfl) hr hE)
/-- no gray cell is left: sweeping begins -/
theorem th_tr_end (h : th_CI n Q m 4 bl wh s col l0 l1 reg glo) (hg : ∀ c, c < n → col c ≠ 3) :
    th_CI n Q m 5 bl wh 0 col l0 l1 reg glo ∧ ∀ c, c < n → th_gd 5 bl col c → th_gd 4 bl col c := by
  obtain ⟨hm, hC, hR, hV, hQ, hT⟩ := h
  obtain ⟨⟨n1, n2, n3⟩, hb, hc, c0, c05, c13, c5⟩ := hC
  obtain ⟨b1, b2, b3, b4, b5, b6, b7⟩ := th_bw hb
  have hG : ∀ c, c < n → th_gd 5 bl col c → th_gd 4 bl col c := fun c _ g => ⟨fun e => absurd e (by decide), fun _ => by rw [g.1 rfl]; exact b2⟩
  have hcb : ∀ e, e < n → th_cv n 4 bl wh col l0 l1 glo e → th_gd 5 bl col e := by
    intro e hen he
    have : e < n ∧ col e = bl := he (fun c => c < n ∧ col c = bl) (fun c hc' hcc => by
      rcases hcc with g | g
      · exact absurd g (hg c hc')
      · exact ⟨hc', g⟩) (fun e => absurd e (by decide)) (fun c d hc' hd hs hcc _ => by
      rcases hcc with g | g
      · exact absurd g (hg c hc')
      · exact absurd (hs.2.symm.trans g) b1)
    exact ⟨fun _ => this.2, fun e => absurd rfl e⟩
  have hrf : ∀ x : Int32, th_rf n (th_gd 4 bl col) x → (∀ d, d < n → x = nI d → th_cv n 4 bl wh col l0 l1 glo d) → th_rf n (th_gd 5 bl col) x := by
    intro x hx hx'
    rcases hx with e | ⟨d, hd, _, e⟩
    · exact Or.inl e
    · exact Or.inr ⟨d, hd, hcb d hd (hx' d hd e), e⟩
  refine ⟨⟨hm, ⟨⟨n1, n2, by decide⟩, hb, hc, fun e => absurd e (by decide), fun _ => hg, fun _ e => absurd e (by decide), fun _ => ⟨by omega, fun c hc' => absurd hc' (by omega)⟩⟩, ⟨?_, ?_, ?_⟩, ⟨?_, ?_, ?_⟩, th_QC_sub hG hQ, hT⟩, hG⟩
  · exact fun i hi => hrf _ (hR.1 i hi) (fun d hd e => hV.1 i d hi hd (Or.inl rfl) e)
  · exact fun i hi => hrf _ (hR.2.1 i hi) (fun d hd e => hV.2.1 i d hi hd (Or.inr rfl) e)
  · intro c hc' g
    have g4 := hR.2.2 c hc' (hG c hc' g)
    exact ⟨hrf _ g4.1 (fun d hd e => hV.2.2 c d hc' hd (Or.inr rfl) (g.1 rfl) (Or.inl e)), hrf _ g4.2 (fun d hd e => hV.2.2 c d hc' hd (Or.inr rfl) (g.1 rfl) (Or.inr e))⟩
  · intro i x hi hx hp
    rcases hp with e | ⟨e, _⟩
    · exact absurd e (by decide)
    · exact absurd e (by decide)
  · intro i x hi hx hp
    rcases hp with e | e
    · exact absurd e (by decide)
    · exact absurd e (by decide)
  · intro i x hi hx hp
    rcases hp with e | e
    · exact absurd e (by decide)
    · exact absurd e (by decide)
/-- a gray cell whose links are marked becomes black -/
theorem th_tr_bl (h : th_CI n Q m 4 bl wh s col l0 l1 reg glo) {c : Nat} (hc : c < n) (h3 : col c = 3) (hw : ∀ d, d < n → th_E l0 l1 c d → col d ≠ wh) :
    th_CI n Q m 4 bl wh s (upd col c bl) l0 l1 reg glo ∧ (∀ a, a < n → (th_gd 4 bl (upd col c bl) a ↔ th_gd 4 bl col a)) ∧ th_mu n 4 bl s (upd col c bl) < th_mu n 4 bl s col := by
  obtain ⟨hm, hC, hR, hV, hQ, hT⟩ := h
  have hC' := hC
  obtain ⟨⟨n1, n2, n3⟩, hb, hcc, c0, c05, c13, c5⟩ := hC
  obtain ⟨b1, b2, b3, b4, b5, b6, b7⟩ := th_bw hb
  have hG : ∀ a, a < n → (th_gd 4 bl (upd col c bl) a ↔ th_gd 4 bl col a) := by
    intro a _
    by_cases e : a = c
    · subst e
      constructor
      · exact fun g => ⟨fun e => absurd e (by decide), fun _ => by rw [h3]; decide⟩
      · exact fun g => ⟨fun e => absurd e (by decide), fun _ => by rw [pk_us]; exact b2⟩
    · unfold th_gd
      rw [pk_un e]
  have hE : ∀ d, d < n → th_E l0 l1 c d → col d = 3 ∨ col d = bl := by
    intro d hd hE
    have gc : th_gd 4 bl col c := ⟨fun e => absurd e (by decide), fun _ => by rw [h3]; decide⟩
    have gd : th_gd 4 bl col d := by
      rcases hE with e | e
      · exact th_rf_g n2 (hR.2.2 c hc gc).1 hd e
      · exact th_rf_g n2 (hR.2.2 c hc gc).2 hd e
    exact th_gb hC' hd gd (hw d hd hE)
  have hgb : ∀ a, (col a = 3 ∨ col a = bl) → (upd col c bl a = 3 ∨ upd col c bl a = bl) := by
    intro a ha
    by_cases e : a = c
    · subst e
      exact Or.inr pk_us
    · rw [pk_un e]
      exact ha
  have hcv : ∀ e, th_cv n 4 bl wh col l0 l1 glo e → th_cv n 4 bl wh (upd col c bl) l0 l1 glo e := by
    intro e he S h1 h2 h4
    refine he S (fun a ha haa => h1 a ha (hgb a haa)) h2 (fun a x ha hx hs haa hE' => ?_)
    by_cases ea : a = c
    · subst ea
      exact h1 x hx (hgb x (hE x hx hE'))
    · exact h4 a x ha hx hs (by rw [pk_un ea]; exact haa) hE'
  refine ⟨⟨hm, ⟨⟨n1, n2, by decide⟩, hb, ?_, fun e => absurd e (by decide), fun e => absurd e (by decide), fun _ e => absurd e (by decide), fun e => absurd e (by decide)⟩, th_RR_iff hG hR, ⟨?_, ?_, ?_⟩, th_QC_sub (fun a ha => (hG a ha).mp) hQ, ?_⟩, hG, ?_⟩
  · intro a ha
    by_cases e : a = c
    · subst e
      exact Or.inr (Or.inl pk_us)
    · rw [pk_un e]
      exact hcc a ha
  · exact fun i x hi hx hp hr => hcv x (hV.1 i x hi hx hp hr)
  · exact fun i x hi hx hp hr => hcv x (hV.2.1 i x hi hx hp hr)
  · intro a x ha hx hp hr hE'
    by_cases e : a = c
    · subst e
      exact th_cv_gb hx (hgb x (hE x hx hE'))
    · rw [pk_un e] at hr
      exact hcv x (hV.2.2 a x ha hx hp hr hE')
  · intro a ha haa
    by_cases e : a = c
    · subst e
      exact hT a ha (Or.inl h3)
    · rw [pk_un e] at haa
      exact hT a ha haa
  · rw [th_mu4, th_mu4]
    have : th_cn (fun a => upd col c bl a ≠ bl) n < th_cn (fun a => col a ≠ bl) n := by
      refine th_cn_lt (k := c) (fun a _ ha => ?_) hc ?_ ?_
      · by_cases e : a = c
        · subst e
          exact absurd pk_us ha
        · rw [pk_un e] at ha
          exact ha
      · show col c ≠ bl
        rw [h3]
        exact fun e => b4 e.symm
      · show ¬ upd col c bl c ≠ bl
        exact fun e => e pk_us
    omega
/-- one cell is swept -/
theorem th_sw (h : th_CI n Q m 5 bl wh s col l0 l1 reg glo) {col' : Nat → Int32} (h1 : ∀ c, c < n → c ≠ s → col' c = col c) (h2 : col s = wh → col' s = 0) (h3 : col s ≠ wh → col' s = col s) :
    (s + 1 < n → th_CI n Q m 5 bl wh (s + 1) col' l0 l1 reg glo ∧ ∀ c, c < n → (th_gd 5 bl col' c ↔ th_gd 5 bl col c)) ∧
    (s + 1 = n → th_CI n Q m 0 bl wh 0 col' l0 l1 reg glo ∧ ∀ c, c < n → (th_gd 0 bl col' c ↔ th_gd 5 bl col c)) := by
  obtain ⟨hm, hC, hR, hV, hQ, hT⟩ := h
  have hC' := hC
  obtain ⟨⟨n1, n2, n3⟩, hb, hcc, c0, c05, c13, c5⟩ := hC
  obtain ⟨b1, b2, b3, b4, b5, b6, b7⟩ := th_bw hb
  obtain ⟨hsn, hlt⟩ := c5 rfl
  have hbl : ∀ c, c < n → (col' c = bl ↔ col c = bl) := by
    intro c hc
    by_cases e : c = s
    · subst e
      by_cases ew : col c = wh
      · rw [h2 ew, ew]
        exact ⟨fun e => absurd e.symm b2, fun e => absurd e.symm b1⟩
      · rw [h3 ew]
    · rw [h1 c hc e]
  have hG5 : ∀ c, c < n → (th_gd 5 bl col' c ↔ th_gd 5 bl col c) := by
    intro c hc
    constructor
    · exact fun g => ⟨fun _ => (hbl c hc).mp (g.1 rfl), fun e => absurd rfl e⟩
    · exact fun g => ⟨fun _ => (hbl c hc).mpr (g.1 rfl), fun e => absurd rfl e⟩
  have hcol : ∀ c, c < n → col' c = 0 ∨ col' c = bl ∨ col' c = wh ∨ col' c = 3 := by
    intro c hc
    by_cases e : c = s
    · subst e
      by_cases ew : col c = wh
      · exact Or.inl (h2 ew)
      · rw [h3 ew]
        exact hcc c hc
    · rw [h1 c hc e]
      exact hcc c hc
  have hno3 : ∀ c, c < n → col' c ≠ 3 := by
    intro c hc
    by_cases e : c = s
    · subst e
      by_cases ew : col c = wh
      · rw [h2 ew]
        decide
      · rw [h3 ew]
        exact c05 (Or.inr rfl) c hc
    · rw [h1 c hc e]
      exact c05 (Or.inr rfl) c hc
  have hnow : ∀ c, c < s + 1 → col' c ≠ wh := by
    intro c hc
    by_cases e : c = s
    · subst e
      by_cases ew : col c = wh
      · rw [h2 ew]
        exact fun e => b3 e.symm
      · rw [h3 ew]
        exact ew
    · rw [h1 c (by omega) e]
      exact hlt c (by omega)
  have hT' : ∀ c, c < n → (col' c = 3 ∨ col' c = bl) → Q c := by
    intro c hc e
    rcases e with e | e
    · exact absurd e (hno3 c hc)
    · exact hT c hc (Or.inr ((hbl c hc).mp e))
  constructor
  · intro hs
    refine ⟨⟨hm, ⟨⟨n1, n2, by decide⟩, hb, hcol, fun e => absurd e (by decide), fun _ => hno3, fun _ e => absurd e (by decide), fun _ => ⟨hs, hnow⟩⟩, th_RR_iff hG5 hR, ⟨?_, ?_, ?_⟩, th_QC_sub (fun c hc => (hG5 c hc).mp) hQ, hT'⟩, hG5⟩
    · intro i x hi hx hp
      rcases hp with e | ⟨e, _⟩
      · exact absurd e (by decide)
      · exact absurd e (by decide)
    · intro i x hi hx hp
      rcases hp with e | e
      · exact absurd e (by decide)
      · exact absurd e (by decide)
    · intro i x hi hx hp
      rcases hp with e | e
      · exact absurd e (by decide)
      · exact absurd e (by decide)
  · intro hs
    have hG0 : ∀ c, c < n → (th_gd 0 bl col' c ↔ th_gd 5 bl col c) := by
      intro c hc
      constructor
      · intro g
        refine ⟨fun _ => ?_, fun e => absurd rfl e⟩
        rcases hcol c hc with e | e | e | e
        · exact absurd e (g.2 (by decide))
        · exact (hbl c hc).mp e
        · exact absurd e (hnow c (by omega))
        · exact absurd e (hno3 c hc)
      · intro g
        refine ⟨fun e => absurd e (by decide), fun _ => ?_⟩
        rw [(hbl c hc).mpr (g.1 rfl)]
        exact b2
    refine ⟨⟨hm, ⟨⟨n1, n2, by decide⟩, hb, hcol, fun _ c hc => hnow c (by omega), fun _ => hno3, fun e _ => absurd e (by decide), fun e => absurd e (by decide)⟩, th_RR_iff hG0 hR, ⟨?_, ?_, ?_⟩, th_QC_sub (fun c hc => (hG0 c hc).mp) hQ, hT'⟩, hG0⟩
    · intro i x hi hx hp
      rcases hp with e | ⟨e, _⟩
      · exact absurd e (by decide)
      · exact absurd e (by decide)
    · intro i x hi hx hp
      rcases hp with e | e
      · exact absurd e (by decide)
      · exact absurd e (by decide)
    · intro i x hi hx hp
      rcases hp with e | e
      · exact absurd e (by decide)
      · exact absurd e (by decide)
/-- thread t has answered: what it holds is marked -/
theorem th_ans {m' : Nat} (h : th_CI n Q m p bl wh s col l0 l1 reg glo) (hm' : m' < 8) (t : Nat) (hmm : ∀ i, m'.testBit i = true → m.testBit i = true ∨ i = t)
    (hw : p = 3 → ∀ r d, r < 4 → d < n → reg (t * 4 + r) = nI d → col d ≠ wh) (ht : t < 3) :
    th_CI n Q m' p bl wh s col l0 l1 reg glo := by
  obtain ⟨hm, hC, hR, hV, hQ, hT⟩ := h
  refine ⟨hm', hC, hR, ⟨?_, hV.2.1, hV.2.2⟩, hQ, hT⟩
  intro i d hi hd hp hr
  rcases hp with e | ⟨e, e'⟩
  · exact hV.1 i d hi hd (Or.inl e) hr
  · rcases hmm _ e' with g | g
    · exact hV.1 i d hi hd (Or.inr ⟨e, g⟩) hr
    · have e2 : i = t * 4 + i % 4 := by omega
      rw [e2] at hr
      exact th_cv_gb hd (th_gb hC hd (th_rf_g hC.1.2.1 (hR.1 (t * 4 + i % 4) (by omega)) hd hr) (hw e (i % 4) d (by omega) hd hr))
end
end
section
section
variable {n m p s : Nat} {bl wh : Int32} {col l0 l1 val tag reg glo sta : Nat → Int32} {Q : Nat → Prop}
theorem th_reach {post : St1 → Prop} {xc xa xp xs xk x : Int32} (h : th_CI n Q m p bl wh s col l0 l1 reg glo) (hx : th_rf n (th_gd p bl col) x) (hq : ∀ d, d < n → x = nI d → Q d)
    (H : ∀ col', th_CI n Q m p bl wh s col' l0 l1 reg glo → th_Mk n wh col col' → (∀ d, d < n → x = nI d → col' d ≠ wh) → post (xc, xa, xp, bl, xs, xk, col', l0, l1, val, tag, reg, glo, sta)) :
    wpX_reach post (xc, xa, xp, bl, xs, xk, col, l0, l1, val, tag, reg, glo, sta) x := by
  have hn : n ≤ 16 := h.2.1.1.2.1
  obtain ⟨b1, b2, b3, b4, b5, b6, b7⟩ := th_bw h.2.1.2.1
  unfold wpX_reach
  dsimp only
  rw [b6]
  rcases hx with e | ⟨d, hd, hg, e⟩
  · subst e
    exact br_t (by decide) (H col h th_Mk_refl (fun d hd e => absurd e (th_m1 (by omega))))
  · subst e
    rw [nI_clamp (by omega)]
    refine br_f (nI_pos (by omega)) ⟨vp_in_nI (by omega) (by decide), ?_⟩
    refine br_c (fun hw => ⟨vp_in_nI (by omega) (by decide), nm_e ?_⟩) (fun hw => ?_)
    · obtain ⟨h1, h2⟩ := th_mark h hd hg (hq d hd rfl) hw
      refine H _ h1 h2 (fun e he hee => ?_)
      have e2 : d = e := th_inj (by omega) (by omega) hee
      subst e2
      rw [pk_us]
      exact fun z => b5 z.symm
    · refine H col h th_Mk_refl (fun e he hee => ?_)
      have e2 : d = e := th_inj (by omega) (by omega) hee
      subst e2
      exact hw
theorem th_ix (t r : Nat) : nI t * 4 + nI r = nI (t * 4 + r) := by
  rw [show (4 : Int32) = nI 4 from rfl, pk_mul, nI_add]
theorem th_answer_loop {post : St1 → Prop} {xc xa xp xs xk : Int32} {t : Nat} (ht : t < 3) (h : th_CI n Q m p bl wh s col l0 l1 reg glo)
    (H : ∀ col', th_CI n Q m p bl wh s col' l0 l1 reg glo → th_Mk n wh col col' → (∀ r d, r < 4 → d < n → reg (t * 4 + r) = nI d → col' d ≠ wh) → post (xc, xa, xp, bl, xs, xk, col', l0, l1, val, tag, reg, glo, sta)) :
    ∃ f, wX_answer_61 post (nI t) f 0 xc xa xp bl xs xk col l0 l1 val tag reg glo sta := by
  refine pk_loop (fun f i c => wX_answer_61 post (nI t) f (nI i) xc xa xp bl xs xk c l0 l1 val tag reg glo sta)
    (fun i c => th_CI n Q m p bl wh s c l0 l1 reg glo ∧ th_Mk n wh col c ∧ ∀ r d, r < i → d < n → reg (t * 4 + r) = nI d → c d ≠ wh) 4 0 col (by omega)
    ⟨h, th_Mk_refl, fun r d hr => absurd hr (by omega)⟩
    (fun f c hc => pk_le 4 4 (fun _ => H c hc.1 hc.2.1 hc.2.2) (fun z => absurd z (by omega)))
    (fun f i c hi hc hw => ?_)
  obtain ⟨hc1, hc2, hc3⟩ := hc
  refine pk_le 4 i (fun z => absurd z (by omega)) (fun _ => ?_)
  rw [th_ix, nI_clamp (show t * 4 + i < 2 ^ 31 by omega)]
  refine ⟨vp_in_nI (by omega) (by decide), th_reach hc1 (hc1.2.2.1.1 _ (by omega)) (fun d hd e => hc1.2.2.2.2.1.1 _ d (by omega) hd e) (fun c' h1 h2 h3 => nm_r (nI_1 i) (hw c' ⟨h1, th_Mk_trans hc2 h2, ?_⟩))⟩
  intro r d hr hd e
  by_cases er : r = i
  · subst er
    exact h3 d hd e
  · have g := hc3 r d (by omega) hd e
    rw [th_Mk_wh h1.2.1.2.1 h2 hd g]
    exact g
theorem th_bits : ∀ m, m < 8 → ∀ t, t < 3 → (((nI m >>> (nI t &&& 31)) &&& 1 = 1 ↔ m.testBit t = true) ∧ nI m ||| ((1 : Int32) <<< (nI t &&& 31)) = nI (m ||| 2 ^ t) ∧ m ||| 2 ^ t < 8) := by decide +kernel
theorem th_b7 : ∀ m, m < 8 → m.testBit 0 = true → m.testBit 1 = true → m.testBit 2 = true → m = 7 := by decide
theorem th_answer {post : St1 → Prop} {xc xs xk : Int32} {t : Nat} (ht : t < 3) (h : th_CI n Q m p bl wh s col l0 l1 reg glo)
    (H : ∀ m' col' sta', th_CI n Q m' p bl wh s col' l0 l1 reg glo → th_Mk n wh col col' → (∀ i, m.testBit i = true → m'.testBit i = true) → (1 ≤ p → p ≤ 3 → m'.testBit t = true) → post (xc, nI m', nI p, bl, xs, xk, col', l0, l1, val, tag, reg, glo, sta')) :
    wpX_answer post (xc, nI m, nI p, bl, xs, xk, col, l0, l1, val, tag, reg, glo, sta) (nI t) := by
  have hp : p ≤ 5 := h.2.1.1.2.2
  obtain ⟨hb1, hb2, hb3⟩ := th_bits m h.1 t ht
  unfold wpX_answer
  dsimp only
  refine pk_lt p 1 (fun z => H m col sta h th_Mk_refl (fun _ g => g) (fun z' => absurd z' (by omega))) (fun z1 => ?_)
  refine pk_lt 3 p (fun z => H m col sta h th_Mk_refl (fun _ g => g) (fun _ z' => absurd z' (by omega))) (fun z3 => ?_)
  by_cases hb : m.testBit t = true
  · exact br_t (hb1.mpr hb) (H m col sta h th_Mk_refl (fun _ g => g) (fun _ _ => hb))
  · have o1 : ∀ i, m.testBit i = true → (m ||| 2 ^ t).testBit i = true := fun i hi => by rw [Nat.testBit_or, hi]; rfl
    have o2 : (m ||| 2 ^ t).testBit t = true := by rw [Nat.testBit_or, Nat.testBit_two_pow_self, Bool.or_true]
    have o3 : ∀ i, (m ||| 2 ^ t).testBit i = true → m.testBit i = true ∨ i = t := by
      intro i hi
      rw [Nat.testBit_or, Bool.or_eq_true] at hi
      rcases hi with hi | hi
      · exact Or.inl hi
      · rw [Nat.testBit_two_pow, decide_eq_true_eq] at hi
        exact Or.inr hi.symm
    refine br_f (fun z => hb (hb1.mp z)) (nm_r hb2 ⟨vp_in_nI ht (by decide), nm_e ?_⟩)
    refine pk_eq p 3 (fun e => th_answer_loop ht h (fun col' h1 h2 h3 => H (m ||| 2 ^ t) col' _ (th_ans h1 hb3 t o3 (fun _ => h3) ht) h2 o1 (fun _ _ => o2))) (fun e => H (m ||| 2 ^ t) col _ (th_ans h hb3 t o3 (fun z => absurd z e) ht) th_Mk_refl o1 (fun _ _ => o2))
theorem th_trace {post : St1 → Prop} {xa xp xs xk : Int32} (h : th_CI n Q m 4 bl wh s col l0 l1 reg glo)
    (H0 : (∀ c, c < n → col c ≠ 3) → post (nI n, xa, 5, bl, 0, xk, col, l0, l1, val, tag, reg, glo, sta))
    (H1 : ∀ c col', c < n → th_CI n Q m 4 bl wh s col' l0 l1 reg glo → th_Mk n wh col col' → col' c = 3 → (∀ d, d < n → th_E l0 l1 c d → col' d ≠ wh) → post (nI n, xa, xp, bl, xs, xk, upd col' c bl, l0, l1, val, tag, reg, glo, sta)) :
    wpX_traceStep post (nI n, xa, xp, bl, xs, xk, col, l0, l1, val, tag, reg, glo, sta) := by
  have hn : n ≤ 16 := h.2.1.1.2.1
  obtain ⟨b1, b2, b3, b4, b5, b6, b7⟩ := th_bw h.2.1.2.1
  unfold wpX_traceStep
  dsimp only
  refine pk_loop (fun f i x => wX_traceStep_4 post (nI n) xa xp bl xs xk col l0 l1 val tag reg glo sta f x (nI i))
    (fun i x => (x = -1 ∧ ∀ c, c < i → col c ≠ 3) ∨ ∃ c, c < n ∧ x = nI c ∧ col c = 3) n 0 (-1) (by omega) (Or.inl ⟨rfl, fun c hc => absurd hc (by omega)⟩)
    (fun f x hx => ?_) (fun f i x hi hx hw => ?_)
  · refine pk_le n n (fun _ => ?_) (fun z => absurd z (by omega))
    rcases hx with ⟨e, hno⟩ | ⟨c, hc, e, h3⟩
    · subst e
      exact br_f (by decide) (H0 hno)
    · subst e
      have gc : th_gd 4 bl col c := ⟨fun e => absurd e (by decide), fun _ => by rw [h3]; decide⟩
      refine br_t (nI_pos' (by omega)) ⟨vp_in_nI (by omega) (by decide), ?_⟩
      rw [nI_clamp (show c < 2 ^ 31 by omega)]
      have qc : Q c := h.2.2.2.2.2 c hc (Or.inl h3)
      refine th_reach h (h.2.2.1.2.2 c hc gc).1 (fun d hd e => h.2.2.2.2.1.2.2 c d hc hd gc qc (Or.inl e)) (fun c1 i1 m1 w1 => ⟨vp_in_nI (by omega) (by decide), ?_⟩)
      have h31 : c1 c = 3 := by
        rw [th_Mk_wh h.2.1.2.1 m1 hc (by rw [h3]; exact fun z => b5 z.symm)]
        exact h3
      have gc1 : th_gd 4 bl c1 c := ⟨fun e => absurd e (by decide), fun _ => by rw [h31]; decide⟩
      refine th_reach i1 (i1.2.2.1.2.2 c hc gc1).2 (fun d hd e => i1.2.2.2.2.1.2.2 c d hc hd gc1 qc (Or.inr e)) (fun c2 i2 m2 w2 => ⟨vp_in_nI (by omega) (by decide), nm_e ?_⟩)
      have h32 : c2 c = 3 := by
        rw [th_Mk_wh h.2.1.2.1 m2 hc (by rw [h31]; exact fun z => b5 z.symm)]
        exact h31
      refine H1 c c2 hc i2 (th_Mk_trans m1 m2) h32 (fun d hd hE => ?_)
      rcases hE with e | e
      · have g := w1 d hd e
        rw [th_Mk_wh h.2.1.2.1 m2 hd g]
        exact g
      · exact w2 d hd e
  · refine pk_le n i (fun z => absurd z (by omega)) (fun _ => ⟨vp_in_nI (by omega) (by decide), ?_⟩)
    rw [nI_clamp (show i < 2 ^ 31 by omega)]
    refine br_c (fun e => nm_r (nI_1 i) (hw _ (Or.inr ⟨i, hi, rfl, e⟩))) (fun e => nm_r (nI_1 i) (hw _ ?_))
    rcases hx with ⟨e1, hno⟩ | hx
    · refine Or.inl ⟨e1, fun c hc => ?_⟩
      by_cases ec : c = i
      · subst ec
        exact e
      · exact hno c (by omega)
    · exact Or.inr hx
theorem th_sweep {post : St1 → Prop} {xa xp xk : Int32} (h : th_CI n Q m 5 bl wh s col l0 l1 reg glo)
    (H0 : ∀ col', s + 1 = n → th_CI n Q m 0 bl wh 0 col' l0 l1 reg glo → (∀ c, c < n → (th_gd 0 bl col' c ↔ th_gd 5 bl col c)) → post (nI n, xa, 0, bl, 0, xk, col', l0, l1, val, tag, reg, glo, sta))
    (H1 : ∀ col', s + 1 < n → th_CI n Q m 5 bl wh (s + 1) col' l0 l1 reg glo → (∀ c, c < n → (th_gd 5 bl col' c ↔ th_gd 5 bl col c)) → post (nI n, xa, xp, bl, nI (s + 1), xk, col', l0, l1, val, tag, reg, glo, sta)) :
    wpX_sweepStep post (nI n, xa, xp, bl, nI s, xk, col, l0, l1, val, tag, reg, glo, sta) := by
  have hn : n ≤ 16 := h.2.1.1.2.1
  have hs : s < n := (h.2.1.2.2.2.2.2.2 rfl).1
  obtain ⟨b1, b2, b3, b4, b5, b6, b7⟩ := th_bw h.2.1.2.1
  have main : ∀ col', (∀ c, c < n → c ≠ s → col' c = col c) → (col s = wh → col' s = 0) → (col s ≠ wh → col' s = col s) → wX_sweepStep_28 post (nI n) xa xp bl (nI s) xk col' l0 l1 val tag reg glo sta := by
    intro col' h1 h2 h3
    obtain ⟨g1, g2⟩ := th_sw h h1 h2 h3
    unfold wX_sweepStep_28
    refine nm_r (nI_1 s) (pk_eq (s + 1) n (fun e => ?_) (fun e => ?_))
    · exact H0 col' e (g2 e).1 (g2 e).2
    · have e' : s + 1 < n := by omega
      exact H1 col' e' (g1 e').1 (g1 e').2
  unfold wpX_sweepStep
  dsimp only
  rw [b6, nI_clamp (show s < 2 ^ 31 by omega)]
  refine ⟨vp_in_nI (by omega) (by decide), br_c (fun e => ⟨vp_in_nI (by omega) (by decide), nm_e (main _ (fun c _ hc => pk_un hc) (fun _ => pk_us) (fun z => absurd e z))⟩) (fun e => main _ (fun c _ hc => rfl) (fun z => absurd z e) (fun _ => rfl))⟩
theorem th_signal {post : St1 → Prop} {xs xk : Int32} (h : th_CI n Q m p bl wh s col l0 l1 reg glo) (h1 : 1 ≤ p) (h3 : p ≤ 3)
    (H0 : m ≠ 7 → post (nI n, nI m, nI p, bl, xs, xk, col, l0, l1, val, tag, reg, glo, sta))
    (H1 : ∀ col', m = 7 → th_CI n Q 0 (p + 1) bl wh s col' l0 l1 reg glo → (∀ c, c < n → (th_gd (p + 1) bl col' c ↔ th_gd p bl col c)) → post (nI n, nI 0, nI (p + 1), bl, xs, xk, col', l0, l1, val, tag, reg, glo, sta)) :
    wpX_signalStep post (nI n, nI m, nI p, bl, xs, xk, col, l0, l1, val, tag, reg, glo, sta) := by
  have hn : n ≤ 16 := h.2.1.1.2.1
  have hm := h.1
  unfold wpX_signalStep
  dsimp only
  refine pk_eq m 7 (fun e => nm_r (nI_1 p) ?_) H0
  refine pk_eq (p + 1) 4 (fun e4 => ?_) (fun e4 => ?_)
  · have ep : p = 3 := by omega
    subst ep
    subst e
    refine th_reach h (h.2.2.1.2.1 0 (by decide)) (fun d hd e => h.2.2.2.2.1.2.1 0 d (by decide) hd e) (fun c1 i1 m1 w1 => ?_)
    refine th_reach i1 (i1.2.2.1.2.1 1 (by decide)) (fun d hd e => i1.2.2.2.2.1.2.1 1 d (by decide) hd e) (fun c2 i2 m2 w2 => ?_)
    have hw : ∀ i d, i < 2 → d < n → glo i = nI d → c2 d ≠ wh := by
      intro i d hi hd e
      have e01 : i = 0 ∨ i = 1 := by omega
      rcases e01 with e0 | e0
      · subst e0
        have g := w1 d hd e
        rw [th_Mk_wh h.2.1.2.1 m2 hd g]
        exact g
      · subst e0
        exact w2 d hd e
    obtain ⟨j1, j2⟩ := th_sig34 i2 hw
    exact H1 c2 rfl j1 (fun c hc => (j2 c hc).trans (th_Mk_gd h.2.1.2.1 (th_Mk_trans m1 m2) hc))
  · obtain ⟨j1, j2⟩ := th_sig12 h h1 (by omega)
    exact H1 col e j1 j2
theorem th_step {post : St1 → Prop} {xs xk : Int32} (h : th_CI n Q m p bl wh s col l0 l1 reg glo) (hs : p = 5 → xs = nI s)
    (H : ∀ m' p' bl' wh' s' xs' col', th_CI n Q m' p' bl' wh' s' col' l0 l1 reg glo → (p' = 5 → xs' = nI s') → (∀ c, c < n → th_gd p' bl' col' c → th_gd p bl col c) →
      (p ≠ 0 → (p ≤ 3 → m = 7) → th_mu n p' bl' s' col' < th_mu n p bl s col) → post (nI n, nI m', nI p', bl', xs', xk, col', l0, l1, val, tag, reg, glo, sta)) :
    wpX_step post (nI n, nI m, nI p, bl, xs, xk, col, l0, l1, val, tag, reg, glo, sta) := by
  have hn4 : 4 ≤ n := h.2.1.1.1
  have hn : n ≤ 16 := h.2.1.1.2.1
  have hp : p ≤ 5 := h.2.1.1.2.2
  obtain ⟨b1, b2, b3, b4, b5, b6, b7⟩ := th_bw h.2.1.2.1
  unfold wpX_step
  dsimp only
  refine pk_eq p 0 (fun e => ?_) (fun e => ?_)
  · subst e
    obtain ⟨j1, j2⟩ := th_flip (s' := 0) h h.2.2.2.2.1
    exact nm_r b6 (H 0 1 wh bl 0 xs col j1 (fun z => absurd z (by decide)) (fun c hc => (j2 c hc).mp) (fun z => absurd rfl z))
  · refine pk_lt 3 p (fun e3 => ?_) (fun e3 => ?_)
    · refine pk_eq p 4 (fun e4 => ?_) (fun e4 => ?_)
      · subst e4
        refine th_trace h (fun hno => ?_) (fun c c' hc i1 m1 h3 hE => ?_)
        · obtain ⟨j1, j2⟩ := th_tr_end h hno
          exact H m 5 bl wh 0 0 col j1 (fun _ => rfl) j2 (fun _ _ => by rw [th_mu5, th_mu4]; omega)
        · obtain ⟨j1, j2, j3⟩ := th_tr_bl i1 hc h3 hE
          refine H m 4 bl wh s xs (upd c' c bl) j1 (fun z => absurd z (by decide)) (fun a ha g => (th_Mk_gd h.2.1.2.1 m1 ha).mp ((j2 a ha).mp g)) (fun _ _ => ?_)
          have e2 : th_mu n 4 bl s c' = th_mu n 4 bl s col := by
            rw [th_mu4, th_mu4]
            have e3 : th_cn (fun c => c' c ≠ bl) n = th_cn (fun c => col c ≠ bl) n := Nat.le_antisymm
              (th_cn_mono (fun a ha g z => g ((th_Mk_bl h.2.1.2.1 m1 ha).mpr z))) (th_cn_mono (fun a ha g z => g ((th_Mk_bl h.2.1.2.1 m1 ha).mp z)))
            rw [e3]
          omega
      · have e5 : p = 5 := by omega
        subst e5
        have hsn : s < n := (h.2.1.2.2.2.2.2.2 rfl).1
        rw [hs rfl]
        refine th_sweep h (fun c' e i1 g1 => ?_) (fun c' e i1 g1 => ?_)
        · exact H m 0 bl wh 0 0 c' i1 (fun z => absurd z (by decide)) (fun c hc => (g1 c hc).mp) (fun _ _ => by rw [th_mu0, th_mu5]; omega)
        · exact H m 5 bl wh (s + 1) _ c' i1 (fun _ => rfl) (fun c hc => (g1 c hc).mp) (fun _ _ => by rw [th_mu5, th_mu5]; omega)
    · refine th_signal h (by omega) e3 (fun e7 => ?_) (fun c' e7 i1 g1 => ?_)
      · exact H m p bl wh s xs col h hs (fun c _ g => g) (fun _ z => absurd (z e3) e7)
      · refine H 0 (p + 1) bl wh s xs c' i1 (fun z => absurd z (by omega)) (fun c hc => (g1 c hc).mp) (fun _ _ => ?_)
        rw [th_mu13 (p := p) (by omega) e3]
        by_cases e4 : p + 1 = 4
        · rw [e4, th_mu4]
          have := th_cn_le (fun c => c' c ≠ bl) n
          omega
        · rw [th_mu13 (by omega) (by omega)]
          omega
theorem th_drive {post : St1 → Prop} {xs xk : Int32} (h : th_CI n Q m p bl wh s col l0 l1 reg glo) (hs : p = 5 → xs = nI s)
    (H : ∀ m' p' bl' wh' s' xs' col' sta', th_CI n Q m' p' bl' wh' s' col' l0 l1 reg glo → (p' = 5 → xs' = nI s') → (∀ c, c < n → th_gd p' bl' col' c → th_gd p bl col c) →
      (p ≠ 0 → th_mu n p' bl' s' col' < th_mu n p bl s col) → post (nI n, nI m', nI p', bl', xs', xk, col', l0, l1, val, tag, reg, glo, sta')) :
    wpX_drive post (nI n, nI m, nI p, bl, xs, xk, col, l0, l1, val, tag, reg, glo, sta) := by
  have hb := h.2.1.2.1
  unfold wpX_drive
  dsimp only
  refine th_answer (t := 0) (by decide) h (fun m1 c1 s1 i1 k1 u1 a1 => ?_)
  refine th_answer (t := 1) (by decide) i1 (fun m2 c2 s2 i2 k2 u2 a2 => ?_)
  refine th_answer (t := 2) (by decide) i2 (fun m3 c3 s3 i3 k3 u3 a3 => ?_)
  refine th_step i3 hs (fun m4 p4 bl4 wh4 s4 xs4 c4 i4 e4 g4 mu4 => ?_)
  have k13 : th_Mk n wh col c3 := th_Mk_trans k1 (th_Mk_trans k2 k3)
  refine H m4 p4 bl4 wh4 s4 xs4 c4 s3 i4 e4 (fun c hc g => (th_Mk_gd hb k13 hc).mp (g4 c hc g)) (fun hp => ?_)
  have e2 : th_mu n p bl s c3 = th_mu n p bl s col := by
    have e3 : th_cn (fun c => c3 c ≠ bl) n = th_cn (fun c => col c ≠ bl) n := Nat.le_antisymm
      (th_cn_mono (fun a ha g z => g ((th_Mk_bl hb k13 ha).mpr z))) (th_cn_mono (fun a ha g z => g ((th_Mk_bl hb k13 ha).mp z)))
    unfold th_mu
    rw [e3]
  rw [← e2]
  exact mu4 hp (fun h3 => th_b7 m3 i3.1 (u3 0 (u2 0 (a1 (by omega) h3))) (u3 1 (a2 (by omega) h3)) (a3 (by omega) h3))
end
end
section
section
variable {n m p s : Nat} {bl wh : Int32} {col l0 l1 val tag reg glo sta : Nat → Int32} {Q : Nat → Prop}
theorem th_coll31 {post : St1 → Prop} {xk : Int32} {G0 : Nat → Prop}
    (H : ∀ m' bl' wh' s' xs' col' sta', th_CI n Q m' 0 bl' wh' s' col' l0 l1 reg glo → (∀ c, c < n → th_gd 0 bl' col' c → G0 c) → post (nI n, nI m', nI 0, bl', xs', xk, col', l0, l1, val, tag, reg, glo, sta')) :
    ∀ (f i m p : Nat) (bl wh : Int32) (s : Nat) (xs : Int32) (col sta : Nat → Int32), th_CI n Q m p bl wh s col l0 l1 reg glo → (p = 5 → xs = nI s) → (∀ c, c < n → th_gd p bl col c → G0 c) →
      th_mu n p bl s col < f → i + th_mu n p bl s col < 80 → wX_collectAll_31 post f (nI i) (nI n) (nI m) (nI p) bl xs xk col l0 l1 val tag reg glo sta := by
  intro f
  induction f with
  | zero => intros; omega
  | succ f ih =>
    intro i m p bl wh s xs col sta h hs hG hf hi
    have hp : p ≤ 5 := h.2.1.1.2.2
    refine pk_le 80 i (fun z => absurd z (by omega)) (fun _ => ?_)
    refine pk_eq p 0 (fun e => ?_) (fun e => ?_)
    · subst e
      exact H m bl wh s xs col sta h hG
    · refine th_drive h hs (fun m' p' bl' wh' s' xs' col' sta' h' hs' hG' hmu => nm_r (nI_1 i) ?_)
      have := hmu e
      exact ih (i + 1) m' p' bl' wh' s' xs' col' sta' h' hs' (fun c hc g => hG c hc (hG' c hc g)) (by omega) (by omega)
theorem th_coll25 {post : St1 → Prop} {xs xk : Int32} {G0 Q' : Nat → Prop} (h : th_CI n Q m 0 bl wh s col l0 l1 reg glo) (hG : ∀ c, c < n → th_gd 0 bl col c → G0 c) (hQ' : th_QC n G0 Q' l0 l1 reg glo)
    (H : ∀ m' bl' wh' s' xs' col' sta', th_CI n Q' m' 0 bl' wh' s' col' l0 l1 reg glo → (∀ c, c < n → th_gd 0 bl' col' c → G0 c) → post (nI n, nI m', nI 0, bl', xs', xk, col', l0, l1, val, tag, reg, glo, sta')) :
    wX_collectAll_25 post (nI n) (nI m) (nI 0) bl xs xk col l0 l1 val tag reg glo sta := by
  obtain ⟨b1, b2, b3, b4, b5, b6, b7⟩ := th_bw h.2.1.2.1
  have hn : n ≤ 16 := h.2.1.1.2.1
  obtain ⟨j1, j2⟩ := th_flip (s' := 0) h (th_QC_sub hG hQ')
  have hmu : th_mu n 1 wh 0 col ≤ 2 * n + 4 := th_mu_le (by decide)
  unfold wX_collectAll_25 wpX_step
  dsimp only
  refine br_t rfl (nm_r b6 ⟨2 * n + 5, ?_⟩)
  exact th_coll31 H (2 * n + 5) 0 0 1 wh bl 0 xs col sta j1 (fun z => absurd z (by decide)) (fun c hc g => hG c hc ((j2 c hc).mp g)) (by omega) (by omega)
theorem th_coll2 {post : St1 → Prop} {xk : Int32} {G0 Q' : Nat → Prop} (hQ' : th_QC n G0 Q' l0 l1 reg glo)
    (H : ∀ m' bl' wh' s' xs' col' sta', th_CI n Q' m' 0 bl' wh' s' col' l0 l1 reg glo → (∀ c, c < n → th_gd 0 bl' col' c → G0 c) → post (nI n, nI m', nI 0, bl', xs', xk, col', l0, l1, val, tag, reg, glo, sta')) :
    ∀ (f i m p : Nat) (bl wh : Int32) (s : Nat) (xs : Int32) (col sta : Nat → Int32), th_CI n Q m p bl wh s col l0 l1 reg glo → (p = 5 → xs = nI s) → (∀ c, c < n → th_gd p bl col c → G0 c) →
      th_mu n p bl s col < f → i + th_mu n p bl s col < 80 → wX_collectAll_2 post f (nI i) (nI n) (nI m) (nI p) bl xs xk col l0 l1 val tag reg glo sta := by
  intro f
  induction f with
  | zero => intros; omega
  | succ f ih =>
    intro i m p bl wh s xs col sta h hs hG hf hi
    have hp : p ≤ 5 := h.2.1.1.2.2
    refine pk_le 80 i (fun z => absurd z (by omega)) (fun _ => ?_)
    refine pk_eq p 0 (fun e => ?_) (fun e => ?_)
    · subst e
      exact th_coll25 h hG hQ' H
    · refine th_drive h hs (fun m' p' bl' wh' s' xs' col' sta' h' hs' hG' hmu => nm_r (nI_1 i) ?_)
      have := hmu e
      exact ih (i + 1) m' p' bl' wh' s' xs' col' sta' h' hs' (fun c hc g => hG c hc (hG' c hc g)) (by omega) (by omega)
/-- collectAll: at rest behind it, and what is not free lies in Q' -/
theorem th_collect {post : St1 → Prop} {xs xk : Int32} {Q' : Nat → Prop} (h : th_CI n Q m p bl wh s col l0 l1 reg glo) (hs : p = 5 → xs = nI s) (hQ' : th_QC n (th_gd p bl col) Q' l0 l1 reg glo)
    (H : ∀ m' bl' wh' s' xs' col' sta', th_CI n Q' m' 0 bl' wh' s' col' l0 l1 reg glo → (∀ c, c < n → th_gd 0 bl' col' c → th_gd p bl col c) → post (nI n, nI m', nI 0, bl', xs', xk, col', l0, l1, val, tag, reg, glo, sta')) :
    wpX_collectAll post (nI n, nI m, nI p, bl, xs, xk, col, l0, l1, val, tag, reg, glo, sta) := by
  have hn : n ≤ 16 := h.2.1.1.2.1
  have hmu : th_mu n p bl s col ≤ 2 * n + 4 := th_mu_le h.2.1.1.2.2
  unfold wpX_collectAll
  dsimp only
  exact ⟨2 * n + 5, th_coll2 hQ' H (2 * n + 5) 0 m p bl wh s xs col sta h hs (fun c _ g => g) (by omega) (by omega)⟩
theorem th_live_loop {post : Int32 → St1 → Prop} {xa xp xb xs xk : Int32} (hn : n ≤ 16)
    (H : post (nI (th_cn (fun c => col c ≠ 0) n)) (nI n, xa, xp, xb, xs, xk, col, l0, l1, val, tag, reg, glo, sta)) :
    ∃ f, wX_live_8 post (nI n) xa xp xb xs xk col l0 l1 val tag reg glo sta f 0 0 := by
  refine pk_loop (fun f i x => wX_live_8 post (nI n) xa xp xb xs xk col l0 l1 val tag reg glo sta f x (nI i))
    (fun i x => x = nI (th_cn (fun c => col c ≠ 0) i)) n 0 0 (by omega) rfl (fun f x hx => ?_) (fun f i x hi hx hw => ?_)
  · subst hx
    exact pk_le n n (fun _ => H) (fun z => absurd z (by omega))
  · subst hx
    refine pk_le n i (fun z => absurd z (by omega)) (fun _ => ⟨vp_in_nI (by omega) (by decide), ?_⟩)
    rw [nI_clamp (show i < 2 ^ 31 by omega)]
    refine br_c (fun e => nm_r (nI_1 i) (hw _ ?_)) (fun e => nm_r (nI_1 _) (nm_r (nI_1 i) (hw _ ?_)))
    · rw [th_cn_f (P := fun c => col c ≠ 0) (fun z => z e)]
    · rw [th_cn_t (P := fun c => col c ≠ 0) e]
theorem th_free {post : Int32 → Prop} {xa xp xb xs xk : Int32} (hn : n ≤ 16) (H0 : (∀ c, c < n → col c ≠ 0) → post (-1)) (H1 : ∀ c, c < n → col c = 0 → post (nI c)) :
    wpX_freeCell post (nI n, xa, xp, xb, xs, xk, col, l0, l1, val, tag, reg, glo, sta) := by
  unfold wpX_freeCell
  dsimp only
  refine pk_loop (σ := Unit) (fun f i _ => wX_freeCell_2 post (nI n) xa xp xb xs xk col l0 l1 val tag reg glo sta f (nI i))
    (fun i _ => ∀ c, c < i → col c ≠ 0) n 0 () (by omega) (fun c hc => absurd hc (by omega)) (fun f x hx => ?_) (fun f i x hi hx hw => ?_)
  · exact pk_le n n (fun _ => H0 hx) (fun z => absurd z (by omega))
  · refine pk_le n i (fun z => absurd z (by omega)) (fun _ => ⟨vp_in_nI (by omega) (by decide), ?_⟩)
    rw [nI_clamp (show i < 2 ^ 31 by omega)]
    refine br_c (fun e => H1 i hi e) (fun e => nm_r (nI_1 i) (hw () (fun c hc => ?_)))
    by_cases ec : c = i
    · subst ec
      exact e
    · exact hx c (by omega)
end
end
section
/-- the tag that a reference names; 0 for none -/
def th_tg (tag : Nat → Int32) (x : Int32) : Int32 := if x < 0 then 0 else tag x.toNatClampNeg
theorem th_tg_m1 (tag : Nat → Int32) : th_tg tag (-1) = 0 := if_pos (by decide)
theorem th_tg_nI {tag : Nat → Int32} {d : Nat} (h : d < 16) : th_tg tag (nI d) = tag d := by
  unfold th_tg
  rw [if_neg (nI_pos (by omega)), nI_clamp (by omega)]
/-- the kept cells match the picture: k objects made so far, named by their tags; aR, aG: the tags in the roots; a0, a1, aV: links and values by tag -/
def th_MU (n : Nat) (G : Nat → Prop) (k : Nat) (aR aG : Nat → Int32) (a0 a1 aV : Int32 → Int32) (l0 l1 val tag reg glo : Nat → Int32) : Prop :=
  (∀ i, i < 12 → th_tg tag (reg i) = aR i) ∧ (∀ i, i < 2 → th_tg tag (glo i) = aG i) ∧
  (∀ c, c < n → G c → th_tg tag (l0 c) = a0 (tag c) ∧ th_tg tag (l1 c) = a1 (tag c) ∧ val c = aV (tag c) ∧ ∃ j, 1 ≤ j ∧ j ≤ k ∧ tag c = nI j) ∧
  (∀ c d, c < n → d < n → G c → G d → tag c = tag d → c = d)
/-- reachable in the picture -/
def th_RA (aR aG : Nat → Int32) (a0 a1 : Int32 → Int32) (x : Int32) : Prop :=
  ∀ S : Int32 → Prop, (∀ i, i < 12 → aR i ≠ 0 → S (aR i)) → (∀ i, i < 2 → aG i ≠ 0 → S (aG i)) → (∀ y, S y → a0 y ≠ 0 → S (a0 y)) → (∀ y, S y → a1 y ≠ 0 → S (a1 y)) → S x
noncomputable def th_lv (k : Nat) (aR aG : Nat → Int32) (a0 a1 : Int32 → Int32) : Nat := th_cn (fun j => th_RA aR aG a0 a1 (nI j)) (k + 1)
/-- a heap matches the picture -/
def th_HS (n k : Nat) (aR aG : Nat → Int32) (a0 a1 aV : Int32 → Int32) (u : St1) : Prop :=
  ∃ (m p : Nat) (bl wh : Int32) (s : Nat) (xs : Int32) (col l0 l1 val tag reg glo sta : Nat → Int32),
    u = (nI n, nI m, nI p, bl, xs, nI k, col, l0, l1, val, tag, reg, glo, sta) ∧ (p = 5 → xs = nI s) ∧ k < 2 ^ 30 ∧
    th_CI n th_QT m p bl wh s col l0 l1 reg glo ∧ th_MU n (th_gd p bl col) k aR aG a0 a1 aV l0 l1 val tag reg glo
section
variable {n m p s k : Nat} {bl wh : Int32} {col l0 l1 val tag reg glo sta : Nat → Int32} {G : Nat → Prop} {aR aG : Nat → Int32} {a0 a1 aV : Int32 → Int32}
theorem th_MU_sub {G' : Nat → Prop} (h : ∀ c, c < n → G' c → G c) (hm : th_MU n G k aR aG a0 a1 aV l0 l1 val tag reg glo) : th_MU n G' k aR aG a0 a1 aV l0 l1 val tag reg glo :=
  ⟨hm.1, hm.2.1, fun c hc g => hm.2.2.1 c hc (h c hc g), fun c d hc hd gc gd => hm.2.2.2 c d hc hd (h c hc gc) (h d hd gd)⟩
theorem th_CI_T {Q : Nat → Prop} (h : th_CI n Q m p bl wh s col l0 l1 reg glo) : th_CI n th_QT m p bl wh s col l0 l1 reg glo :=
  ⟨h.1, h.2.1, h.2.2.1, h.2.2.2.1, th_QCT, fun _ _ _ => trivial⟩
theorem th_tag0 (hk : k < 2 ^ 30) (hm : th_MU n G k aR aG a0 a1 aV l0 l1 val tag reg glo) {c : Nat} (hc : c < n) (g : G c) : tag c ≠ 0 := by
  obtain ⟨j, h1, h2, e⟩ := (hm.2.2.1 c hc g).2.2.2
  rw [e]
  exact nI_ne0 (by omega) (by omega)
theorem th_ref0 (hk : k < 2 ^ 30) (hn : n ≤ 16) (hm : th_MU n G k aR aG a0 a1 aV l0 l1 val tag reg glo) {x : Int32} (hx : th_rf n G x) (h0 : th_tg tag x ≠ 0) : ∃ d, d < n ∧ G d ∧ x = nI d ∧ tag d = th_tg tag x := by
  rcases hx with e | ⟨d, hd, g, e⟩
  · rw [e, th_tg_m1] at h0
    exact absurd rfl h0
  · refine ⟨d, hd, g, e, ?_⟩
    rw [e, th_tg_nI (by omega)]
theorem th_QRA (hk : k < 2 ^ 30) (hn : n ≤ 16) (hr : th_RR n G l0 l1 reg glo) (hm : th_MU n G k aR aG a0 a1 aV l0 l1 val tag reg glo) : th_QC n G (fun c => th_RA aR aG a0 a1 (tag c)) l0 l1 reg glo := by
  refine ⟨fun i d hi hd e => ?_, fun i d hi hd e => ?_, fun c d hc hd g q hE => ?_⟩
  · intro S s1 s2 s3 s4
    have g := th_rf_g hn (hr.1 i hi) hd e
    have e2 := hm.1 i hi
    rw [e, th_tg_nI (by omega)] at e2
    rw [e2]
    exact s1 i hi (by rw [← e2]; exact th_tag0 hk hm hd g)
  · intro S s1 s2 s3 s4
    have g := th_rf_g hn (hr.2.1 i hi) hd e
    have e2 := hm.2.1 i hi
    rw [e, th_tg_nI (by omega)] at e2
    rw [e2]
    exact s2 i hi (by rw [← e2]; exact th_tag0 hk hm hd g)
  · intro S s1 s2 s3 s4
    have qc := q S s1 s2 s3 s4
    rcases hE with e | e
    · have gd := th_rf_g hn (hr.2.2 c hc g).1 hd e
      have e2 := (hm.2.2.1 c hc g).1
      rw [e, th_tg_nI (by omega)] at e2
      rw [e2]
      exact s3 _ qc (by rw [← e2]; exact th_tag0 hk hm hd gd)
    · have gd := th_rf_g hn (hr.2.2 c hc g).2 hd e
      have e2 := (hm.2.2.1 c hc g).2.1
      rw [e, th_tg_nI (by omega)] at e2
      rw [e2]
      exact s4 _ qc (by rw [← e2]; exact th_tag0 hk hm hd gd)
theorem th_RAs (hk : k < 2 ^ 30) (hn : n ≤ 16) (hr : th_RR n G l0 l1 reg glo) (hm : th_MU n G k aR aG a0 a1 aV l0 l1 val tag reg glo) {x : Int32} (h : th_RA aR aG a0 a1 x) : ∃ c, c < n ∧ G c ∧ tag c = x := by
  refine h (fun x => ∃ c, c < n ∧ G c ∧ tag c = x) (fun i hi h0 => ?_) (fun i hi h0 => ?_) (fun y hy h0 => ?_) (fun y hy h0 => ?_)
  · rw [← hm.1 i hi] at h0 ⊢
    obtain ⟨d, hd, g, _, e⟩ := th_ref0 hk hn hm (hr.1 i hi) h0
    exact ⟨d, hd, g, e⟩
  · rw [← hm.2.1 i hi] at h0 ⊢
    obtain ⟨d, hd, g, _, e⟩ := th_ref0 hk hn hm (hr.2.1 i hi) h0
    exact ⟨d, hd, g, e⟩
  · obtain ⟨c, hc, g, e⟩ := hy
    subst e
    rw [← (hm.2.2.1 c hc g).1] at h0 ⊢
    obtain ⟨d, hd, gd, _, e⟩ := th_ref0 hk hn hm (hr.2.2 c hc g).1 h0
    exact ⟨d, hd, gd, e⟩
  · obtain ⟨c, hc, g, e⟩ := hy
    subst e
    rw [← (hm.2.2.1 c hc g).2.1] at h0 ⊢
    obtain ⟨d, hd, gd, _, e⟩ := th_ref0 hk hn hm (hr.2.2 c hc g).2 h0
    exact ⟨d, hd, gd, e⟩
theorem th_lv_le (hk : k < 2 ^ 30) (hn : n ≤ 16) (hr : th_RR n G l0 l1 reg glo) (hm : th_MU n G k aR aG a0 a1 aV l0 l1 val tag reg glo) : th_lv k aR aG a0 a1 ≤ th_cn G n := by
  have ex : ∀ j : Nat, ∃ c : Nat, th_RA aR aG a0 a1 (nI j) → c < n ∧ G c ∧ tag c = nI j := by
    intro j
    by_cases h : th_RA aR aG a0 a1 (nI j)
    · obtain ⟨c, hc⟩ := th_RAs hk hn hr hm h
      exact ⟨c, fun _ => hc⟩
    · exact ⟨0, fun z => absurd z h⟩
  obtain ⟨f, hf⟩ : ∃ f : Nat → Nat, ∀ j : Nat, th_RA aR aG a0 a1 (nI j) → f j < n ∧ G (f j) ∧ tag (f j) = nI j := ⟨fun j => Classical.choose (ex j), fun j => Classical.choose_spec (ex j)⟩
  unfold th_lv
  refine th_cn_inj (f := f) (fun j hj h => ⟨(hf j h).1, (hf j h).2.1⟩) (fun i j hi hj h1 h2 e => ?_)
  have e1 := (hf i h1).2.2
  have e2 := (hf j h2).2.2
  rw [e, e2] at e1
  exact ((nI_eq (by omega) (by omega)).mp e1).symm
theorem th_lv_ge (hk : k < 2 ^ 30) (hm : th_MU n G k aR aG a0 a1 aV l0 l1 val tag reg glo) (ht : ∀ c, c < n → G c → th_RA aR aG a0 a1 (tag c)) : th_cn G n ≤ th_lv k aR aG a0 a1 := by
  unfold th_lv
  refine th_cn_inj (f := fun c => (tag c).toNatClampNeg) (fun c hc g => ?_) (fun c d hc hd gc gd e => ?_)
  · obtain ⟨j, h1, h2, e⟩ := (hm.2.2.1 c hc g).2.2.2
    have q := ht c hc g
    show (tag c).toNatClampNeg < k + 1 ∧ th_RA aR aG a0 a1 (nI (tag c).toNatClampNeg)
    rw [e, nI_clamp (by omega)]
    rw [e] at q
    exact ⟨by omega, q⟩
  · obtain ⟨j, h1, h2, ej⟩ := (hm.2.2.1 c hc gc).2.2.2
    obtain ⟨i, g1, g2, ei⟩ := (hm.2.2.1 d hd gd).2.2.2
    have e' : (tag c).toNatClampNeg = (tag d).toNatClampNeg := e
    rw [ej, ei, nI_clamp (by omega), nI_clamp (by omega)] at e'
    exact hm.2.2.2 c d hc hd gc gd (by rw [ej, ei, e'])
theorem th_HS_lv {u : St1} (h : th_HS n k aR aG a0 a1 aV u) : th_lv k aR aG a0 a1 ≤ n ∧ n ≤ 16 := by
  obtain ⟨m, p, bl, wh, s, xs, col, l0, l1, val, tag, reg, glo, sta, rfl, hs, hk, hc, hm⟩ := h
  have h1 := th_lv_le hk hc.2.1.1.2.1 hc.2.2.1 hm
  have h2 := th_cn_le (th_gd p bl col) n
  exact ⟨by omega, hc.2.1.1.2.1⟩
theorem th_gd0 (c : Nat) : th_gd 0 bl col c ↔ col c ≠ 0 := ⟨fun g => g.2 (by decide), fun g => ⟨fun e => absurd e (by decide), fun _ => g⟩⟩
theorem th_gdn (hb : th_BW bl wh) {c : Nat} (g : th_gd p bl col c) : col c ≠ 0 := by
  by_cases e : p = 5
  · rw [g.1 e]
    exact (th_bw hb).2.1
  · exact g.2 e
/-- collectAll over a heap that matches: at rest, and just the reachable cells are not free -/
theorem th_collectH {post : St1 → Prop} {xs : Int32} (hs : p = 5 → xs = nI s) (hk : k < 2 ^ 30) (hc : th_CI n th_QT m p bl wh s col l0 l1 reg glo) (hm : th_MU n (th_gd p bl col) k aR aG a0 a1 aV l0 l1 val tag reg glo)
    (H : ∀ m' bl' wh' s' xs' col' sta', th_CI n th_QT m' 0 bl' wh' s' col' l0 l1 reg glo → th_MU n (th_gd 0 bl' col') k aR aG a0 a1 aV l0 l1 val tag reg glo → th_cn (fun c => col' c ≠ 0) n = th_lv k aR aG a0 a1 →
      post (nI n, nI m', nI 0, bl', xs', nI k, col', l0, l1, val, tag, reg, glo, sta')) :
    wpX_collectAll post (nI n, nI m, nI p, bl, xs, nI k, col, l0, l1, val, tag, reg, glo, sta) := by
  have hn : n ≤ 16 := hc.2.1.1.2.1
  refine th_collect hc hs (th_QRA hk hn hc.2.2.1 hm) (fun m' bl' wh' s' xs' col' sta' i1 g1 => ?_)
  have hm' := th_MU_sub g1 hm
  have hb := i1.2.1.2.1
  refine H m' bl' wh' s' xs' col' sta' (th_CI_T i1) hm' ?_
  have e1 : th_cn (fun c => col' c ≠ 0) n = th_cn (th_gd 0 bl' col') n := Nat.le_antisymm (th_cn_mono (fun c _ h => (th_gd0 c).mpr h)) (th_cn_mono (fun c _ h => (th_gd0 c).mp h))
  rw [e1]
  refine Nat.le_antisymm (th_lv_ge hk hm' (fun c hc' g => i1.2.2.2.2.2 c hc' ?_)) (th_lv_le hk hn i1.2.2.1 hm')
  exact th_gb i1.2.1 hc' g (i1.2.1.2.2.2.1 rfl c hc')
theorem th_live {post : Int32 → St1 → Prop} {u : St1} (h : th_HS n k aR aG a0 a1 aV u) (H : ∀ u', th_HS n k aR aG a0 a1 aV u' → post (nI (th_lv k aR aG a0 a1)) u') : wpX_live post u := by
  obtain ⟨m, p, bl, wh, s, xs, col, l0, l1, val, tag, reg, glo, sta, rfl, hs, hk, hc, hm⟩ := h
  unfold wpX_live
  dsimp only
  refine th_collectH hs hk hc hm (fun m' bl' wh' s' xs' col' sta' i1 m1 e1 => ?_)
  refine th_live_loop hc.2.1.1.2.1 ?_
  rw [e1]
  exact H _ ⟨m', 0, bl', wh', s', xs', col', l0, l1, val, tag, reg, glo, sta', rfl, fun z => absurd z (by decide), hk, i1, m1⟩
end
end
section
def th_up (f : Int32 → Int32) (t v : Int32) : Int32 → Int32 := fun y => if y = t then v else f y
theorem th_up_s {f : Int32 → Int32} {t v : Int32} : th_up f t v t = v := if_pos rfl
theorem th_up_n {f : Int32 → Int32} {t v y : Int32} (h : y ≠ t) : th_up f t v y = f y := if_neg h
section
variable {n m p s k : Nat} {bl wh : Int32} {col l0 l1 val tag reg glo sta : Nat → Int32} {G : Nat → Prop} {aR aG : Nat → Int32} {a0 a1 aV : Int32 → Int32}
theorem th_setreg (h : th_CI n th_QT m p bl wh s col l0 l1 reg glo) {i : Nat} {x : Int32} (hx : th_rf n (th_gd p bl col) x)
    (hv : ∀ d, d < n → (p = 3 ∨ p = 4) → x = nI d → th_cv n p bl wh col l0 l1 glo d) : th_CI n th_QT m p bl wh s col l0 l1 (upd reg i x) glo := by
  obtain ⟨hm, hC, hR, hV, hQ, hT⟩ := h
  refine ⟨hm, hC, ⟨fun j hj => ?_, hR.2.1, hR.2.2⟩, ⟨fun j d hj hd hp e => ?_, hV.2.1, hV.2.2⟩, th_QCT, hT⟩
  · by_cases ej : j = i
    · subst ej
      rw [pk_us]
      exact hx
    · rw [pk_un ej]
      exact hR.1 j hj
  · by_cases ej : j = i
    · subst ej
      rw [pk_us] at e
      refine hv d hd ?_ e
      rcases hp with hp | hp
      · exact Or.inr hp
      · exact Or.inl hp.1
    · rw [pk_un ej] at e
      exact hV.1 j d hj hd hp e
theorem th_regcv (h : th_CI n th_QT m p bl wh s col l0 l1 reg glo) {i t r : Nat} (hi : i < 12) (ei : i = t * 4 + r) (hr : r < 4) (hb : p = 3 → m.testBit t = true) :
    ∀ d, d < n → (p = 3 ∨ p = 4) → reg i = nI d → th_cv n p bl wh col l0 l1 glo d := by
  intro d hd hp e
  refine h.2.2.2.1.1 i d hi hd ?_ e
  rcases hp with hp | hp
  · have e2 : i / 4 = t := by omega
    rw [e2]
    exact Or.inr ⟨hp, hb hp⟩
  · exact Or.inl hp
theorem th_linkcv (h : th_CI n th_QT m p bl wh s col l0 l1 reg glo) {c d : Nat} (hc : c < n) (hd : d < n) (g : th_gd p bl col c) (hp : p = 3 ∨ p = 4) (hv : th_cv n p bl wh col l0 l1 glo c) (hE : th_E l0 l1 c d) : th_cv n p bl wh col l0 l1 glo d := by
  by_cases hb : col c = bl
  · exact h.2.2.2.1.2.2 c d hc hd hp hb hE
  · intro S h1 h2 h3
    refine h3 c d hc hd (hv S h1 h2 h3) ?_ hE
    rcases h.2.1.2.2.1 c hc with e | e | e | e
    · exact absurd e (g.2 (by omega))
    · exact absurd e hb
    · exact Or.inr e
    · exact Or.inl e
theorem th_setl0 (h : th_CI n th_QT m p bl wh s col l0 l1 reg glo) {c : Nat} {x : Int32} (hc : c < n) (g : th_gd p bl col c) (hx : th_rf n (th_gd p bl col) x)
    (hv : ∀ d, d < n → (p = 3 ∨ p = 4) → x = nI d → th_cv n p bl wh col l0 l1 glo d) (ho : ∀ e, e < n → l0 c = nI e → col e ≠ wh) : th_CI n th_QT m p bl wh s col (upd l0 c x) l1 reg glo := by
  obtain ⟨hm, hC, hR, hV, hQ, hT⟩ := h
  have hn := hC.1.2.1
  have hcv : ∀ e, th_cv n p bl wh col l0 l1 glo e → th_cv n p bl wh col (upd l0 c x) l1 glo e := by
    intro e he S h1 h2 h3
    refine he S h1 h2 (fun a d ha hd hs haa hE => ?_)
    by_cases ea : a = c
    · subst ea
      rcases hE with e1 | e1
      · exact h1 d hd (th_gb hC hd (th_rf_g hn (hR.2.2 a ha g).1 hd e1) (ho d hd e1))
      · exact h3 a d ha hd hs haa (Or.inr e1)
    · refine h3 a d ha hd hs haa ?_
      rcases hE with e1 | e1
      · exact Or.inl (by rw [pk_un ea]; exact e1)
      · exact Or.inr e1
  refine ⟨hm, hC, ⟨hR.1, hR.2.1, fun a ha ga => ⟨?_, (hR.2.2 a ha ga).2⟩⟩, ⟨fun i d hi hd hp e => hcv d (hV.1 i d hi hd hp e), fun i d hi hd hp e => hcv d (hV.2.1 i d hi hd hp e), fun a d ha hd hp e hE => hcv d ?_⟩, th_QCT, hT⟩
  · by_cases ea : a = c
    · subst ea
      rw [pk_us]
      exact hx
    · rw [pk_un ea]
      exact (hR.2.2 a ha ga).1
  · rcases hE with e1 | e1
    · by_cases ea : a = c
      · subst ea
        rw [pk_us] at e1
        exact hv d hd hp e1
      · rw [pk_un ea] at e1
        exact hV.2.2 a d ha hd hp e (Or.inl e1)
    · exact hV.2.2 a d ha hd hp e (Or.inr e1)
theorem th_cv_swap {e : Nat} (h : th_cv n p bl wh col l0 l1 glo e) : th_cv n p bl wh col l1 l0 glo e :=
  fun S h1 h2 h3 => h S h1 h2 (fun c d hc hd hs hcc hE => h3 c d hc hd hs hcc (Or.symm hE))
theorem th_CI_swap (h : th_CI n th_QT m p bl wh s col l0 l1 reg glo) : th_CI n th_QT m p bl wh s col l1 l0 reg glo := by
  obtain ⟨hm, hC, hR, hV, hQ, hT⟩ := h
  exact ⟨hm, hC, ⟨hR.1, hR.2.1, fun c hc g => ⟨(hR.2.2 c hc g).2, (hR.2.2 c hc g).1⟩⟩,
    ⟨fun i d hi hd hp e => th_cv_swap (hV.1 i d hi hd hp e), fun i d hi hd hp e => th_cv_swap (hV.2.1 i d hi hd hp e), fun c d hc hd hp e hE => th_cv_swap (hV.2.2 c d hc hd hp e (Or.symm hE))⟩, th_QCT, hT⟩
theorem th_setl1 (h : th_CI n th_QT m p bl wh s col l0 l1 reg glo) {c : Nat} {x : Int32} (hc : c < n) (g : th_gd p bl col c) (hx : th_rf n (th_gd p bl col) x)
    (hv : ∀ d, d < n → (p = 3 ∨ p = 4) → x = nI d → th_cv n p bl wh col l0 l1 glo d) (ho : ∀ e, e < n → l1 c = nI e → col e ≠ wh) : th_CI n th_QT m p bl wh s col l0 (upd l1 c x) reg glo :=
  th_CI_swap (th_setl0 (th_CI_swap h) hc g hx (fun d hd hp e => th_cv_swap (hv d hd hp e)) ho)
theorem th_setglo (h : th_CI n th_QT m p bl wh s col l0 l1 reg glo) {i : Nat} {x : Int32} (hx : th_rf n (th_gd p bl col) x)
    (hv : ∀ d, d < n → (p = 3 ∨ p = 4) → x = nI d → th_cv n p bl wh col l0 l1 glo d) (hi : i < 2) (ho : ∀ e, e < n → glo i = nI e → col e ≠ wh) : th_CI n th_QT m p bl wh s col l0 l1 reg (upd glo i x) := by
  obtain ⟨hm, hC, hR, hV, hQ, hT⟩ := h
  have hn := hC.1.2.1
  have hcv : ∀ e, th_cv n p bl wh col l0 l1 glo e → th_cv n p bl wh col l0 l1 (upd glo i x) e := by
    intro e he S h1 h2 h3
    refine he S h1 (fun hp j d hj hd e1 => ?_) h3
    by_cases ej : j = i
    · subst ej
      exact h1 d hd (th_gb hC hd (th_rf_g hn (hR.2.1 j hj) hd e1) (ho d hd e1))
    · exact h2 hp j d hj hd (by rw [pk_un ej]; exact e1)
  refine ⟨hm, hC, ⟨hR.1, fun j hj => ?_, hR.2.2⟩, ⟨fun i d hi hd hp e => hcv d (hV.1 i d hi hd hp e), fun j d hj hd hp e => hcv d ?_, fun a d ha hd hp e hE => hcv d (hV.2.2 a d ha hd hp e hE)⟩, th_QCT, hT⟩
  · by_cases ej : j = i
    · subst ej
      rw [pk_us]
      exact hx
    · rw [pk_un ej]
      exact hR.2.1 j hj
  · by_cases ej : j = i
    · subst ej
      rw [pk_us] at e
      exact hv d hd hp e
    · rw [pk_un ej] at e
      exact hV.2.1 j d hj hd hp e
theorem th_alloc (h : th_CI n th_QT m p bl wh s col l0 l1 reg glo) {c : Nat} {y : Int32} (hc : c < n) (h0 : col c = 0) (hy : 1 ≤ p → p ≤ 4 → y = 3) (hy' : p = 0 ∨ p = 5 → y = bl) :
    th_CI n th_QT m p bl wh s (upd col c y) (upd l0 c (-1)) (upd l1 c (-1)) reg glo ∧ (∀ a, a < n → (th_gd p bl (upd col c y) a ↔ (th_gd p bl col a ∨ a = c))) ∧ ¬ th_gd p bl col c ∧
      (p = 3 ∨ p = 4 → th_cv n p bl wh (upd col c y) (upd l0 c (-1)) (upd l1 c (-1)) glo c) := by
  obtain ⟨hm, hC, hR, hV, hQ, hT⟩ := h
  have hC' := hC
  obtain ⟨⟨n1, n2, n3⟩, hb, hcc, c0, c05, c13, c5⟩ := hC
  obtain ⟨b1, b2, b3, b4, b5, b6, b7⟩ := th_bw hb
  have hy3 : y = 3 ∨ y = bl := by
    by_cases e : p = 0 ∨ p = 5
    · exact Or.inr (hy' e)
    · exact Or.inl (hy (by omega) (by omega))
  have y0 : y ≠ 0 := by
    rcases hy3 with e | e
    · rw [e]; decide
    · rw [e]; exact b2
  have yw : y ≠ wh := by
    rcases hy3 with e | e
    · rw [e]; exact fun z => b5 z.symm
    · rw [e]; exact b1
  have ng : ¬ th_gd p bl col c := by
    intro g
    by_cases e : p = 5
    · exact b2 ((g.1 e).symm.trans h0)
    · exact g.2 e h0
  have hG : ∀ a, a < n → (th_gd p bl (upd col c y) a ↔ (th_gd p bl col a ∨ a = c)) := by
    intro a ha
    by_cases e : a = c
    · subst e
      refine ⟨fun _ => Or.inr rfl, fun _ => ⟨fun e5 => ?_, fun _ => ?_⟩⟩
      · rw [pk_us]; exact hy' (Or.inr e5)
      · rw [pk_us]; exact y0
    · unfold th_gd
      rw [pk_un e]
      refine ⟨fun g => Or.inl g, fun g => ?_⟩
      rcases g with g | g
      · exact g
      · exact absurd g e
  have hup : ∀ x : Int32, th_rf n (th_gd p bl col) x → th_rf n (th_gd p bl (upd col c y)) x := fun x hx => th_rf_mono (fun d hd g => (hG d hd).mpr (Or.inl g)) hx
  have hgb : ∀ a, a < n → (col a = 3 ∨ col a = bl) → (upd col c y a = 3 ∨ upd col c y a = bl) := by
    intro a ha e
    have ea : a ≠ c := by
      intro ea
      subst ea
      rw [h0] at e
      rcases e with e | e
      · exact absurd e (by decide)
      · exact b2 e.symm
    rw [pk_un ea]
    exact e
  have hcv : ∀ e, th_cv n p bl wh col l0 l1 glo e → th_cv n p bl wh (upd col c y) (upd l0 c (-1)) (upd l1 c (-1)) glo e := by
    intro e he S h1 h2 h3
    refine he S (fun a ha haa => h1 a ha (hgb a ha haa)) h2 (fun a d ha hd hs haa hE => ?_)
    have ea : a ≠ c := by
      intro ea
      subst ea
      rw [h0] at haa
      rcases haa with e | e
      · exact absurd e (by decide)
      · exact b3 e.symm
    refine h3 a d ha hd hs (by rw [pk_un ea]; exact haa) ?_
    unfold th_E
    rw [pk_un ea, pk_un ea]
    exact hE
  refine ⟨⟨hm, ⟨⟨n1, n2, n3⟩, hb, fun a ha => ?_, fun e a ha => ?_, fun e a ha => ?_, fun e1 e3 a ha => ?_, fun e => ⟨(c5 e).1, fun a ha => ?_⟩⟩, ⟨fun i hi => hup _ (hR.1 i hi), fun i hi => hup _ (hR.2.1 i hi), fun a ha ga => ?_⟩,
    ⟨fun i d hi hd hp e => hcv d (hV.1 i d hi hd hp e), fun i d hi hd hp e => hcv d (hV.2.1 i d hi hd hp e), fun a d ha hd hp e hE => ?_⟩, th_QCT, fun _ _ _ => trivial⟩, hG, ng, fun hp => ?_⟩
  · by_cases ea : a = c
    · subst ea
      rw [pk_us]
      rcases hy3 with e | e
      · exact Or.inr (Or.inr (Or.inr e))
      · exact Or.inr (Or.inl e)
    · rw [pk_un ea]
      exact hcc a ha
  · by_cases ea : a = c
    · subst ea
      rw [pk_us]
      exact yw
    · rw [pk_un ea]
      exact c0 e a ha
  · by_cases ea : a = c
    · subst ea
      rw [pk_us, hy' e]
      exact b4
    · rw [pk_un ea]
      exact c05 e a ha
  · by_cases ea : a = c
    · subst ea
      rw [pk_us, hy e1 (by omega)]
      exact fun z => b4 z.symm
    · rw [pk_un ea]
      exact c13 e1 e3 a ha
  · by_cases ea : a = c
    · subst ea
      rw [pk_us]
      exact yw
    · rw [pk_un ea]
      exact (c5 e).2 a ha
  · by_cases ea : a = c
    · subst ea
      rw [pk_us, pk_us]
      exact ⟨Or.inl rfl, Or.inl rfl⟩
    · rw [pk_un ea, pk_un ea]
      have g : th_gd p bl col a := by
        rcases (hG a ha).mp ga with g | g
        · exact g
        · exact absurd g ea
      exact ⟨hup _ (hR.2.2 a ha g).1, hup _ (hR.2.2 a ha g).2⟩
  · by_cases ea : a = c
    · subst ea
      unfold th_E at hE
      rw [pk_us, pk_us] at hE
      rcases hE with e1 | e1
      · exact absurd e1 (th_m1 (by omega))
      · exact absurd e1 (th_m1 (by omega))
    · unfold th_E at hE
      rw [pk_un ea, pk_un ea] at hE
      rw [pk_un ea] at e
      exact hcv d (hV.2.2 a d ha hd hp e hE)
  · refine th_cv_gb hc (Or.inl ?_)
    rw [pk_us]
    exact hy (by omega) (by omega)
theorem th_MU_reg (hm : th_MU n G k aR aG a0 a1 aV l0 l1 val tag reg glo) {i : Nat} {x y : Int32} (e : th_tg tag x = y) : th_MU n G k (upd aR i y) aG a0 a1 aV l0 l1 val tag (upd reg i x) glo := by
  refine ⟨fun j hj => ?_, hm.2.1, hm.2.2⟩
  by_cases ej : j = i
  · subst ej
    rw [pk_us, pk_us]
    exact e
  · rw [pk_un ej, pk_un ej]
    exact hm.1 j hj
theorem th_MU_glo (hm : th_MU n G k aR aG a0 a1 aV l0 l1 val tag reg glo) {i : Nat} {x y : Int32} (e : th_tg tag x = y) : th_MU n G k aR (upd aG i y) a0 a1 aV l0 l1 val tag reg (upd glo i x) := by
  refine ⟨hm.1, fun j hj => ?_, hm.2.2⟩
  by_cases ej : j = i
  · subst ej
    rw [pk_us, pk_us]
    exact e
  · rw [pk_un ej, pk_un ej]
    exact hm.2.1 j hj
theorem th_MU_l0 (hm : th_MU n G k aR aG a0 a1 aV l0 l1 val tag reg glo) {c : Nat} {x y : Int32} (hc : c < n) (g : G c) (e : th_tg tag x = y) : th_MU n G k aR aG (th_up a0 (tag c) y) a1 aV (upd l0 c x) l1 val tag reg glo := by
  refine ⟨hm.1, hm.2.1, fun d hd gd => ⟨?_, (hm.2.2.1 d hd gd).2⟩, hm.2.2.2⟩
  by_cases ed : d = c
  · subst ed
    rw [pk_us, th_up_s]
    exact e
  · rw [pk_un ed, th_up_n (fun z => ed (hm.2.2.2 d c hd hc gd g z))]
    exact (hm.2.2.1 d hd gd).1
theorem th_MU_l1 (hm : th_MU n G k aR aG a0 a1 aV l0 l1 val tag reg glo) {c : Nat} {x y : Int32} (hc : c < n) (g : G c) (e : th_tg tag x = y) : th_MU n G k aR aG a0 (th_up a1 (tag c) y) aV l0 (upd l1 c x) val tag reg glo := by
  refine ⟨hm.1, hm.2.1, fun d hd gd => ⟨(hm.2.2.1 d hd gd).1, ?_, (hm.2.2.1 d hd gd).2.2⟩, hm.2.2.2⟩
  by_cases ed : d = c
  · subst ed
    rw [pk_us, th_up_s]
    exact e
  · rw [pk_un ed, th_up_n (fun z => ed (hm.2.2.2 d c hd hc gd g z))]
    exact (hm.2.2.1 d hd gd).2.1
theorem th_MU_val (hm : th_MU n G k aR aG a0 a1 aV l0 l1 val tag reg glo) {c : Nat} {x : Int32} (hc : c < n) (g : G c) : th_MU n G k aR aG a0 a1 (th_up aV (tag c) x) l0 l1 (upd val c x) tag reg glo := by
  refine ⟨hm.1, hm.2.1, fun d hd gd => ⟨(hm.2.2.1 d hd gd).1, (hm.2.2.1 d hd gd).2.1, ?_, (hm.2.2.1 d hd gd).2.2.2⟩, hm.2.2.2⟩
  by_cases ed : d = c
  · subst ed
    rw [pk_us, th_up_s]
  · rw [pk_un ed, th_up_n (fun z => ed (hm.2.2.2 d c hd hc gd g z))]
    exact (hm.2.2.1 d hd gd).2.2.1
theorem th_MU_alloc {G' : Nat → Prop} (hn : n ≤ 16) (hr : th_RR n G l0 l1 reg glo) (hm : th_MU n G k aR aG a0 a1 aV l0 l1 val tag reg glo) (hk : k + 1 < 2 ^ 30) {c : Nat} {v : Int32} (hc : c < n) (ng : ¬ G c) (hG : ∀ a, a < n → G' a → G a ∨ a = c) :
    th_MU n G' (k + 1) aR aG (th_up a0 (nI (k + 1)) 0) (th_up a1 (nI (k + 1)) 0) (th_up aV (nI (k + 1)) v) (upd l0 c (-1)) (upd l1 c (-1)) (upd val c v) (upd tag c (nI (k + 1))) reg glo := by
  have tgx : ∀ x, th_rf n G x → th_tg (upd tag c (nI (k + 1))) x = th_tg tag x := by
    intro x hx
    rcases hx with e | ⟨d, hd, g, e⟩
    · rw [e, th_tg_m1, th_tg_m1]
    · rw [e, th_tg_nI (by omega), th_tg_nI (by omega), pk_un]
      intro z
      subst z
      exact ng g
  have fresh : ∀ d, d < n → G d → tag d ≠ nI (k + 1) := by
    intro d hd g e
    obtain ⟨j, h1, h2, ej⟩ := (hm.2.2.1 d hd g).2.2.2
    rw [ej] at e
    have := (nI_eq (by omega) (by omega)).mp e
    omega
  refine ⟨fun i hi => ?_, fun i hi => ?_, fun d hd g' => ?_, fun a d ha hd ga' gd' e => ?_⟩
  · rw [tgx _ (hr.1 i hi)]
    exact hm.1 i hi
  · rw [tgx _ (hr.2.1 i hi)]
    exact hm.2.1 i hi
  · by_cases ed : d = c
    · subst ed
      rw [pk_us, pk_us, pk_us, pk_us, th_up_s, th_up_s, th_up_s, th_tg_m1]
      exact ⟨rfl, rfl, rfl, k + 1, by omega, by omega, rfl⟩
    · have g : G d := by
        rcases hG d hd g' with g | g
        · exact g
        · exact absurd g ed
      have f := fresh d hd g
      rw [pk_un ed, pk_un ed, pk_un ed, pk_un ed, th_up_n f, th_up_n f, th_up_n f, tgx _ (hr.2.2 d hd g).1, tgx _ (hr.2.2 d hd g).2]
      obtain ⟨q1, q2, q3, j, q4, q5, q6⟩ := hm.2.2.1 d hd g
      exact ⟨q1, q2, q3, j, q4, by omega, q6⟩
  · by_cases ea : a = c
    · by_cases ed : d = c
      · rw [ea, ed]
      · have g : G d := by
          rcases hG d hd gd' with g | g
          · exact g
          · exact absurd g ed
        subst ea
        rw [pk_us, pk_un ed] at e
        exact absurd e.symm (fresh d hd g)
    · have ga : G a := by
        rcases hG a ha ga' with g | g
        · exact g
        · exact absurd g ea
      by_cases ed : d = c
      · subst ed
        rw [pk_us, pk_un ea] at e
        exact absurd e (fresh a ha ga)
      · have g : G d := by
          rcases hG d hd gd' with g | g
          · exact g
          · exact absurd g ed
        rw [pk_un ea, pk_un ed] at e
        exact hm.2.2.2 a d ha hd ga g e
end
end
section
theorem th_bad {post : Int32 → Prop} {u : St1} {t r : Nat} (ht : t < 3) (hr : r < 4) (H : post 0) : wpX_bad post u (nI t) (nI r) := by
  obtain ⟨f1, f2, f3, f4, f5, f6, c1, c2, c3, c4, c5, c6, c7, c8⟩ := u
  unfold wpX_bad
  dsimp only
  exact br_f (nI_pos (by omega)) (pk_lt 2 t (fun z => absurd z (by omega)) (fun _ => br_f (nI_pos (by omega)) (pk_le r 3 (fun _ => H) (fun z => absurd z (by omega)))))
theorem th_badBit {post : Int32 → Prop} {u : St1} {f : Nat} (hf : f < 2) (H : post 0) : wpX_badBit post u (nI f) := by
  obtain ⟨f1, f2, f3, f4, f5, f6, c1, c2, c3, c4, c5, c6, c7, c8⟩ := u
  unfold wpX_badBit
  dsimp only
  exact br_f (nI_pos (by omega)) (pk_le f 1 (fun _ => H) (fun z => absurd z (by omega)))
theorem th_uu (f : Nat → Int32) (k : Nat) (v w : Int32) : upd (upd f k v) k w = upd f k w := by
  funext j
  by_cases e : j = k
  · rw [e, pk_us, pk_us]
  · rw [pk_un e, pk_un e, pk_un e]
section
variable {n m p s k : Nat} {bl wh : Int32} {col l0 l1 val tag reg glo sta : Nat → Int32} {aR aG : Nat → Int32} {a0 a1 aV : Int32 → Int32}
theorem th_ansM {post : St1 → Prop} {xc xs xk : Int32} {t : Nat} (ht : t < 3) (hc : th_CI n th_QT m p bl wh s col l0 l1 reg glo) (hm : th_MU n (th_gd p bl col) k aR aG a0 a1 aV l0 l1 val tag reg glo)
    (H : ∀ m' col' sta', th_CI n th_QT m' p bl wh s col' l0 l1 reg glo → th_MU n (th_gd p bl col') k aR aG a0 a1 aV l0 l1 val tag reg glo → (∀ i, m.testBit i = true → m'.testBit i = true) → (p = 3 → m'.testBit t = true) → post (xc, nI m', nI p, bl, xs, xk, col', l0, l1, val, tag, reg, glo, sta')) :
    wpX_answer post (xc, nI m, nI p, bl, xs, xk, col, l0, l1, val, tag, reg, glo, sta) (nI t) :=
  th_answer ht hc (fun m' col' sta' i1 k1 u1 b1 => H m' col' sta' i1 (th_MU_sub (fun c hc' => (th_Mk_gd hc.2.1.2.1 k1 hc').mp) hm) u1 (fun e => b1 (by omega) (by omega)))
theorem th_regc (hk : k < 2 ^ 30) (hc : th_CI n th_QT m p bl wh s col l0 l1 reg glo) (hm : th_MU n (th_gd p bl col) k aR aG a0 a1 aV l0 l1 val tag reg glo) {i : Nat} (hi : i < 12) :
    (reg i = -1 ∧ aR i = 0) ∨ ∃ c, c < n ∧ th_gd p bl col c ∧ reg i = nI c ∧ aR i = tag c ∧ aR i ≠ 0 := by
  have hn : n ≤ 16 := hc.2.1.1.2.1
  rcases hc.2.2.1.1 i hi with e | ⟨c, hc', g, e⟩
  · refine Or.inl ⟨e, ?_⟩
    rw [← hm.1 i hi, e, th_tg_m1]
  · refine Or.inr ⟨c, hc', g, e, ?_⟩
    have e2 := hm.1 i hi
    rw [e, th_tg_nI (by omega)] at e2
    rw [← e2]
    exact ⟨rfl, th_tag0 hk hm hc' g⟩
theorem th_watch {post : St1 → Prop} {xc xa xp xs xk old fresh : Int32} {t : Nat} (ht : t < 3) (h : th_CI n th_QT m p bl wh s col l0 l1 reg glo) (ho : th_rf n (th_gd p bl col) old) (hf : th_rf n (th_gd p bl col) fresh)
    (H : ∀ col', th_CI n th_QT m p bl wh s col' l0 l1 reg glo → th_Mk n wh col col' → (∀ d, d < n → old = nI d → col' d ≠ wh) → post (xc, xa, xp, bl, xs, xk, col', l0, l1, val, tag, reg, glo, sta)) :
    wpX_watch post (xc, xa, xp, bl, xs, xk, col, l0, l1, val, tag, reg, glo, sta) (nI t) old fresh := by
  have hb := h.2.1.2.1
  unfold wpX_watch
  dsimp only
  refine th_reach h ho (fun _ _ _ => trivial) (fun c1 i1 m1 w1 => ?_)
  have A : wX_watch_25 post fresh xc xa xp bl xs xk c1 l0 l1 val tag reg glo sta := by
    unfold wX_watch_25
    refine th_reach i1 (th_rf_mono (fun d hd => (th_Mk_gd hb m1 hd).mpr) hf) (fun _ _ _ => trivial) (fun c2 i2 m2 w2 => ?_)
    refine H c2 i2 (th_Mk_trans m1 m2) (fun d hd e => ?_)
    have g := w1 d hd e
    rw [th_Mk_wh hb m2 hd g]
    exact g
  exact ⟨vp_in_nI ht (by decide), br_c (fun _ => A) (fun _ => ⟨vp_in_nI ht (by decide), br_c (fun _ => A) (fun _ => H c1 i1 m1 w1)⟩)⟩
theorem th_copy {post : Int32 → St1 → Prop} {u : St1} {t r q : Nat} (h : th_HS n k aR aG a0 a1 aV u) (ht : t < 3) (hr : r < 4) (hq : q < 4)
    (H : ∀ u', th_HS n k (upd aR (t * 4 + r) (aR (t * 4 + q))) aG a0 a1 aV u' → post 0 u') : wpX_copy post u (nI t) (nI r) (nI q) := by
  obtain ⟨m, p, bl, wh, s, xs, col, l0, l1, val, tag, reg, glo, sta, rfl, hs, hk, hc, hm⟩ := h
  unfold wpX_copy
  dsimp only
  refine th_bad ht hr (br_t rfl (th_bad ht hq (br_t rfl (th_ansM ht hc hm (fun m' col' sta' i1 j1 u1 b1 => ?_)))))
  rw [th_ix, th_ix, nI_clamp (show t * 4 + r < 2 ^ 31 by omega), nI_clamp (show t * 4 + q < 2 ^ 31 by omega)]
  refine ⟨vp_in_nI (by omega) (by decide), vp_in_nI (by omega) (by decide), nm_e ?_⟩
  exact H _ ⟨m', p, bl, wh, s, xs, col', l0, l1, val, tag, _, glo, sta', rfl, hs, hk, th_setreg i1 (i1.2.2.1.1 _ (by omega)) (th_regcv i1 (by omega) rfl hq b1), th_MU_reg j1 (j1.1 _ (by omega))⟩
theorem th_drop {post : Int32 → St1 → Prop} {u : St1} {t r : Nat} (h : th_HS n k aR aG a0 a1 aV u) (ht : t < 3) (hr : r < 4)
    (H : ∀ u', th_HS n k (upd aR (t * 4 + r) 0) aG a0 a1 aV u' → post 0 u') : wpX_drop post u (nI t) (nI r) := by
  obtain ⟨m, p, bl, wh, s, xs, col, l0, l1, val, tag, reg, glo, sta, rfl, hs, hk, hc, hm⟩ := h
  have hn : n ≤ 16 := hc.2.1.1.2.1
  unfold wpX_drop
  dsimp only
  refine th_bad ht hr (br_t rfl (th_ansM ht hc hm (fun m' col' sta' i1 j1 u1 b1 => ?_)))
  rw [th_ix, nI_clamp (show t * 4 + r < 2 ^ 31 by omega)]
  refine ⟨vp_in_nI (by omega) (by decide), nm_e ?_⟩
  exact H _ ⟨m', p, bl, wh, s, xs, col', l0, l1, val, tag, _, glo, sta', rfl, hs, hk, th_setreg i1 (Or.inl rfl) (fun d hd _ e => absurd e (th_m1 (by omega))), th_MU_reg j1 (th_tg_m1 _)⟩
theorem th_load {post : Int32 → St1 → Prop} {u : St1} {t r q f : Nat} (h : th_HS n k aR aG a0 a1 aV u) (ht : t < 3) (hr : r < 4) (hq : q < 4) (hf : f < 2)
    (H0 : aR (t * 4 + q) = 0 → ∀ u', th_HS n k aR aG a0 a1 aV u' → post (-3) u')
    (H1 : aR (t * 4 + q) ≠ 0 → ∀ u', th_HS n k (upd aR (t * 4 + r) (if f = 0 then a0 (aR (t * 4 + q)) else a1 (aR (t * 4 + q)))) aG a0 a1 aV u' → post 0 u') : wpX_load post u (nI t) (nI r) (nI q) (nI f) := by
  obtain ⟨m, p, bl, wh, s, xs, col, l0, l1, val, tag, reg, glo, sta, rfl, hs, hk, hc, hm⟩ := h
  have hn : n ≤ 16 := hc.2.1.1.2.1
  unfold wpX_load
  dsimp only
  refine th_bad ht hr (br_t rfl (th_bad ht hq (br_t rfl (th_badBit hf (br_t rfl (th_ansM ht hc hm (fun m' col' sta' i1 j1 u1 b1 => ?_)))))))
  rw [th_ix, th_ix, nI_clamp (show t * 4 + r < 2 ^ 31 by omega), nI_clamp (show t * 4 + q < 2 ^ 31 by omega)]
  refine ⟨vp_in_nI (by omega) (by decide), ?_⟩
  have hi : t * 4 + q < 12 := by omega
  rcases th_regc hk i1 j1 hi with ⟨e, e0⟩ | ⟨c, hc', g, e, et, e0⟩
  · refine nm_r e (br_f (by decide) (H0 e0 _ ⟨m', p, bl, wh, s, xs, col', l0, l1, val, tag, reg, glo, sta', rfl, hs, hk, i1, j1⟩))
  · have cvc : ∀ d, d < n → (p = 3 ∨ p = 4) → th_E l0 l1 c d → th_cv n p bl wh col' l0 l1 glo d := fun d hd hp hE => th_linkcv i1 hc' hd g hp (th_regcv i1 hi rfl hq b1 c hc' hp e) hE
    refine nm_r e (br_t (nI_pos' (by omega)) ?_)
    rw [nI_clamp (show c < 2 ^ 31 by omega)]
    refine pk_eq f 0 (fun ef => ⟨vp_in_nI (by omega) (by decide), vp_in_nI (by omega) (by decide), nm_e ?_⟩) (fun ef => ⟨vp_in_nI (by omega) (by decide), vp_in_nI (by omega) (by decide), nm_e ?_⟩)
    · rw [if_pos ef, et] at H1
      exact H1 (et ▸ e0) _ ⟨m', p, bl, wh, s, xs, col', l0, l1, val, tag, _, glo, sta', rfl, hs, hk, th_setreg i1 (i1.2.2.1.2.2 c hc' g).1 (fun d hd hp e => cvc d hd hp (Or.inl e)), th_MU_reg j1 (j1.2.2.1 c hc' g).1⟩
    · rw [if_neg ef, et] at H1
      exact H1 (et ▸ e0) _ ⟨m', p, bl, wh, s, xs, col', l0, l1, val, tag, _, glo, sta', rfl, hs, hk, th_setreg i1 (i1.2.2.1.2.2 c hc' g).2 (fun d hd hp e => cvc d hd hp (Or.inr e)), th_MU_reg j1 (j1.2.2.1 c hc' g).2.1⟩
theorem th_store {post : Int32 → St1 → Prop} {u : St1} {t r q f : Nat} (h : th_HS n k aR aG a0 a1 aV u) (ht : t < 3) (hr : r < 4) (hq : q < 4) (hf : f < 2)
    (H0 : aR (t * 4 + r) = 0 → ∀ u', th_HS n k aR aG a0 a1 aV u' → post (-3) u')
    (H1 : aR (t * 4 + r) ≠ 0 → f = 0 → ∀ u', th_HS n k aR aG (th_up a0 (aR (t * 4 + r)) (aR (t * 4 + q))) a1 aV u' → post 0 u')
    (H2 : aR (t * 4 + r) ≠ 0 → f ≠ 0 → ∀ u', th_HS n k aR aG a0 (th_up a1 (aR (t * 4 + r)) (aR (t * 4 + q))) aV u' → post 0 u') : wpX_store post u (nI t) (nI r) (nI f) (nI q) := by
  obtain ⟨m, p, bl, wh, s, xs, col, l0, l1, val, tag, reg, glo, sta, rfl, hs, hk, hc, hm⟩ := h
  have hn : n ≤ 16 := hc.2.1.1.2.1
  have hb := hc.2.1.2.1
  unfold wpX_store
  dsimp only
  refine th_bad ht hr (br_t rfl (th_bad ht hq (br_t rfl (th_badBit hf (br_t rfl (th_ansM ht hc hm (fun m' col' sta' i1 j1 u1 b1 => ?_)))))))
  rw [th_ix, th_ix, nI_clamp (show t * 4 + r < 2 ^ 31 by omega), nI_clamp (show t * 4 + q < 2 ^ 31 by omega)]
  refine ⟨vp_in_nI (by omega) (by decide), ?_⟩
  have hi : t * 4 + r < 12 := by omega
  have hiq : t * 4 + q < 12 := by omega
  rcases th_regc hk i1 j1 hi with ⟨e, e0⟩ | ⟨c, hc', g, e, et, e0⟩
  · refine nm_r e (br_f (by decide) (H0 e0 _ ⟨m', p, bl, wh, s, xs, col', l0, l1, val, tag, reg, glo, sta', rfl, hs, hk, i1, j1⟩))
  · refine nm_r e (br_t (nI_pos' (by omega)) ⟨vp_in_nI (by omega) (by decide), nm_e ?_⟩)
    rw [nI_clamp (show c < 2 ^ 31 by omega)]
    have hfr := i1.2.2.1.1 _ hiq
    refine pk_eq f 0 (fun ef => ⟨vp_in_nI (by omega) (by decide), ?_⟩) (fun ef => ⟨vp_in_nI (by omega) (by decide), ?_⟩)
    · refine th_watch ht i1 (i1.2.2.1.2.2 c hc' g).1 hfr (fun c2 i2 m2 w2 => ⟨vp_in_nI (by omega) (by decide), nm_e ?_⟩)
      have g2 := (th_Mk_gd (p := p) hb m2 hc').mpr g
      have j2 := th_MU_sub (fun a ha => (th_Mk_gd (p := p) hb m2 ha).mp) j1
      rw [et] at H1
      exact H1 (et ▸ e0) ef _ ⟨m', p, bl, wh, s, xs, c2, _, l1, val, tag, reg, glo, sta', rfl, hs, hk,
        th_setl0 i2 hc' g2 (i2.2.2.1.1 _ hiq) (th_regcv i2 hiq rfl hq b1) w2, th_MU_l0 j2 hc' g2 (j2.1 _ hiq)⟩
    · refine th_watch ht i1 (i1.2.2.1.2.2 c hc' g).2 hfr (fun c2 i2 m2 w2 => ⟨vp_in_nI (by omega) (by decide), nm_e ?_⟩)
      have g2 := (th_Mk_gd (p := p) hb m2 hc').mpr g
      have j2 := th_MU_sub (fun a ha => (th_Mk_gd (p := p) hb m2 ha).mp) j1
      rw [et] at H2
      exact H2 (et ▸ e0) ef _ ⟨m', p, bl, wh, s, xs, c2, l0, _, val, tag, reg, glo, sta', rfl, hs, hk,
        th_setl1 i2 hc' g2 (i2.2.2.1.1 _ hiq) (th_regcv i2 hiq rfl hq b1) w2, th_MU_l1 j2 hc' g2 (j2.1 _ hiq)⟩
theorem th_put {post : Int32 → St1 → Prop} {u : St1} {t f q : Nat} (h : th_HS n k aR aG a0 a1 aV u) (ht : t < 3) (hf : f < 2) (hq : q < 4)
    (H : ∀ u', th_HS n k aR (upd aG f (aR (t * 4 + q))) a0 a1 aV u' → post 0 u') : wpX_put post u (nI t) (nI f) (nI q) := by
  obtain ⟨m, p, bl, wh, s, xs, col, l0, l1, val, tag, reg, glo, sta, rfl, hs, hk, hc, hm⟩ := h
  have hb := hc.2.1.2.1
  have hiq : t * 4 + q < 12 := by omega
  unfold wpX_put
  dsimp only
  refine th_bad ht hq (br_t rfl (th_badBit hf (br_t rfl (th_ansM ht hc hm (fun m' col' sta' i1 j1 u1 b1 => ?_)))))
  rw [th_ix, nI_clamp (show t * 4 + q < 2 ^ 31 by omega), nI_clamp (show f < 2 ^ 31 by omega)]
  refine ⟨vp_in_nI (by omega) (by decide), nm_e ⟨vp_in_nI hf (by decide), ?_⟩⟩
  refine th_watch ht i1 (i1.2.2.1.2.1 f hf) (i1.2.2.1.1 _ hiq) (fun c2 i2 m2 w2 => ⟨vp_in_nI hf (by decide), nm_e ?_⟩)
  have j2 := th_MU_sub (fun a ha => (th_Mk_gd (p := p) hb m2 ha).mp) j1
  exact H _ ⟨m', p, bl, wh, s, xs, c2, l0, l1, val, tag, reg, _, sta', rfl, hs, hk, th_setglo i2 (i2.2.2.1.1 _ hiq) (th_regcv i2 hiq rfl hq b1) hf w2, th_MU_glo j2 (j2.1 _ hiq)⟩
theorem th_get {post : Int32 → St1 → Prop} {u : St1} {t r f : Nat} (h : th_HS n k aR aG a0 a1 aV u) (ht : t < 3) (hr : r < 4) (hf : f < 2)
    (H : ∀ u', th_HS n k (upd aR (t * 4 + r) (aG f)) aG a0 a1 aV u' → post 0 u') : wpX_get post u (nI t) (nI r) (nI f) := by
  obtain ⟨m, p, bl, wh, s, xs, col, l0, l1, val, tag, reg, glo, sta, rfl, hs, hk, hc, hm⟩ := h
  unfold wpX_get
  dsimp only
  refine th_bad ht hr (br_t rfl (th_badBit hf (br_t rfl (th_ansM ht hc hm (fun m' col' sta' i1 j1 u1 b1 => ?_)))))
  rw [th_ix, nI_clamp (show t * 4 + r < 2 ^ 31 by omega), nI_clamp (show f < 2 ^ 31 by omega)]
  refine ⟨vp_in_nI hf (by decide), vp_in_nI (by omega) (by decide), nm_e ?_⟩
  exact H _ ⟨m', p, bl, wh, s, xs, col', l0, l1, val, tag, _, glo, sta', rfl, hs, hk, th_setreg i1 (i1.2.2.1.2.1 f hf) (fun d hd hp e => i1.2.2.2.1.2.1 f d hf hd hp e), th_MU_reg j1 (j1.2.1 f hf)⟩
theorem th_swap {post : Int32 → St1 → Prop} {u : St1} {t r w q : Nat} (h : th_HS n k aR aG a0 a1 aV u) (ht : t < 3) (hr : r < 4) (hw : w < 3) (hq : q < 4)
    (H : ∀ u', th_HS n k (upd (upd aR (t * 4 + r) (aR (w * 4 + q))) (w * 4 + q) (aR (t * 4 + r))) aG a0 a1 aV u' → post 0 u') : wpX_swap post u (nI t) (nI r) (nI w) (nI q) := by
  obtain ⟨m, p, bl, wh, s, xs, col, l0, l1, val, tag, reg, glo, sta, rfl, hs, hk, hc, hm⟩ := h
  unfold wpX_swap
  dsimp only
  refine th_bad ht hr (br_t rfl (th_bad hw hq (br_t rfl (th_ansM ht hc hm (fun m1 col1 sta1 i1 j1 u1 b1 => th_ansM hw i1 j1 (fun m2 col2 sta2 i2 j2 u2 b2 => ?_))))))
  rw [th_ix, th_ix, nI_clamp (show t * 4 + r < 2 ^ 31 by omega), nI_clamp (show w * 4 + q < 2 ^ 31 by omega)]
  refine ⟨vp_in_nI (by omega) (by decide), nm_e ⟨vp_in_nI (by omega) (by decide), vp_in_nI (by omega) (by decide), nm_e ⟨vp_in_nI (by omega) (by decide), nm_e ?_⟩⟩⟩
  have hi : t * 4 + r < 12 := by omega
  have hj : w * 4 + q < 12 := by omega
  exact H _ ⟨m2, p, bl, wh, s, xs, col2, l0, l1, val, tag, _, glo, sta2, rfl, hs, hk,
    th_setreg (th_setreg i2 (i2.2.2.1.1 _ hj) (th_regcv i2 hj rfl hq b2)) (i2.2.2.1.1 _ hi) (th_regcv i2 hi rfl hr (fun e => u2 t (b1 e))), th_MU_reg (th_MU_reg j2 (j2.1 _ hj)) (j2.1 _ hi)⟩
theorem th_setNumber {post : Int32 → St1 → Prop} {u : St1} {t r : Nat} {x : Int32} (h : th_HS n k aR aG a0 a1 aV u) (ht : t < 3) (hr : r < 4)
    (H0 : aR (t * 4 + r) = 0 → ∀ u', th_HS n k aR aG a0 a1 aV u' → post (-3) u')
    (H1 : aR (t * 4 + r) ≠ 0 → ∀ u', th_HS n k aR aG a0 a1 (th_up aV (aR (t * 4 + r)) x) u' → post 0 u') : wpX_setNumber post u (nI t) (nI r) x := by
  obtain ⟨m, p, bl, wh, s, xs, col, l0, l1, val, tag, reg, glo, sta, rfl, hs, hk, hc, hm⟩ := h
  have hn : n ≤ 16 := hc.2.1.1.2.1
  unfold wpX_setNumber
  dsimp only
  refine th_bad ht hr (br_t rfl (th_ansM ht hc hm (fun m' col' sta' i1 j1 u1 b1 => ?_)))
  rw [th_ix, nI_clamp (show t * 4 + r < 2 ^ 31 by omega)]
  refine ⟨vp_in_nI (by omega) (by decide), ?_⟩
  have hi : t * 4 + r < 12 := by omega
  rcases th_regc hk i1 j1 hi with ⟨e, e0⟩ | ⟨c, hc', g, e, et, e0⟩
  · refine nm_r e (br_f (by decide) (H0 e0 _ ⟨m', p, bl, wh, s, xs, col', l0, l1, val, tag, reg, glo, sta', rfl, hs, hk, i1, j1⟩))
  · refine nm_r e (br_t (nI_pos' (by omega)) ⟨vp_in_nI (by omega) (by decide), nm_e ?_⟩)
    rw [nI_clamp (show c < 2 ^ 31 by omega)]
    rw [et] at H1
    exact H1 (et ▸ e0) _ ⟨m', p, bl, wh, s, xs, col', l0, l1, _, tag, reg, glo, sta', rfl, hs, hk, i1, th_MU_val j1 hc' g⟩
theorem th_rest_loop {post : St1 → Prop} {q : Nat} (hq : q < 64) (H : ∀ u', th_HS n k aR aG a0 a1 aV u' → post u') :
    ∀ (f i m p : Nat) (bl wh : Int32) (s : Nat) (xs : Int32) (col : Nat → Int32), i ≤ q → q - i < f → (p = 5 → xs = nI s) → k < 2 ^ 30 → th_CI n th_QT m p bl wh s col l0 l1 reg glo →
      th_MU n (th_gd p bl col) k aR aG a0 a1 aV l0 l1 val tag reg glo → wX_rest_15 post (nI q) f (nI i) (nI n) (nI m) (nI p) bl xs (nI k) col l0 l1 val tag reg glo sta := by
  intro f
  induction f with
  | zero => intros; omega
  | succ f ih =>
    intro i m p bl wh s xs col hi hf hs hk hc hm
    refine pk_le q i (fun _ => H _ ⟨m, p, bl, wh, s, xs, col, l0, l1, val, tag, reg, glo, sta, rfl, hs, hk, hc, hm⟩) (fun z => ?_)
    refine th_step hc hs (fun m' p' bl' wh' s' xs' col' i1 e1 g1 _ => nm_r (nI_1 i) ?_)
    exact ih (i + 1) m' p' bl' wh' s' xs' col' (by omega) (by omega) e1 hk i1 (th_MU_sub g1 hm)
theorem th_rest {post : St1 → Prop} {u : St1} {q : Nat} (h : th_HS n k aR aG a0 a1 aV u) (hq : q < 64) (H : ∀ u', th_HS n k aR aG a0 a1 aV u' → post u') : wpX_rest post u (nI q) := by
  obtain ⟨m, p, bl, wh, s, xs, col, l0, l1, val, tag, reg, glo, sta, rfl, hs, hk, hc, hm⟩ := h
  unfold wpX_rest
  dsimp only
  exact pk_le q 63 (fun _ => ⟨q + 1, th_rest_loop hq H (q + 1) 0 m p bl wh s xs col (by omega) (by omega) hs hk hc hm⟩) (fun z => absurd z (by omega))
theorem th_pause {post : Int32 → St1 → Prop} {u : St1} {t : Nat} (h : th_HS n k aR aG a0 a1 aV u) (ht : t < 4) (H : ∀ u', th_HS n k aR aG a0 a1 aV u' → post (if t < 3 then 0 else -1) u') : wpX_pause post u (nI t) := by
  obtain ⟨m, p, bl, wh, s, xs, col, l0, l1, val, tag, reg, glo, sta, rfl, hs, hk, hc, hm⟩ := h
  unfold wpX_pause
  dsimp only
  refine br_f (nI_pos (by omega)) (pk_le t 2 (fun z => ?_) (fun z => ?_))
  · rw [if_pos (by omega)] at H
    exact th_ansM (by omega) hc hm (fun m' col' sta' i1 j1 u1 b1 => H _ ⟨m', p, bl, wh, s, xs, col', l0, l1, val, tag, reg, glo, sta', rfl, hs, hk, i1, j1⟩)
  · rw [if_neg (by omega)] at H
    exact H _ ⟨m, p, bl, wh, s, xs, col, l0, l1, val, tag, reg, glo, sta, rfl, hs, hk, hc, hm⟩
theorem th_make90 {post : Int32 → St1 → Prop} {t r c : Nat} {xs x y : Int32} (ht : t < 3) (hr : r < 4) (hs : p = 5 → xs = nI s) (hk : k + 1 < 2 ^ 30) (hc : th_CI n th_QT m p bl wh s col l0 l1 reg glo) (hm : th_MU n (th_gd p bl col) k aR aG a0 a1 aV l0 l1 val tag reg glo)
    (hcn : c < n) (h0 : col c = 0) (hy : 1 ≤ p → p ≤ 4 → y = 3) (hy' : p = 0 ∨ p = 5 → y = bl)
    (H : ∀ u', th_HS n (k + 1) (upd aR (t * 4 + r) (nI (k + 1))) aG (th_up a0 (nI (k + 1)) 0) (th_up a1 (nI (k + 1)) 0) (th_up aV (nI (k + 1)) x) u' → post (nI (k + 1)) u') :
    wX_make_90 post (nI t) (nI r) x (nI c) (nI n) (nI m) (nI p) bl xs (nI (k + 1)) (upd col c y) l0 l1 val tag reg glo sta := by
  have hn : n ≤ 16 := hc.2.1.1.2.1
  obtain ⟨i1, g1, ng, cv⟩ := th_alloc hc hcn h0 hy hy'
  have j1 := th_MU_alloc (v := x) hn hc.2.2.1 hm hk hcn ng (fun a ha => (g1 a ha).mp)
  unfold wX_make_90
  rw [th_ix, nI_clamp (show t * 4 + r < 2 ^ 31 by omega), nI_clamp (show c < 2 ^ 31 by omega)]
  refine ⟨vp_in_nI (by omega) (by decide), nm_e ⟨vp_in_nI (by omega) (by decide), nm_e ⟨vp_in_nI (by omega) (by decide), nm_e ⟨vp_in_nI (by omega) (by decide), nm_e ⟨vp_in_nI (by omega) (by decide), nm_e ?_⟩⟩⟩⟩⟩
  refine H _ ⟨m, p, bl, wh, s, xs, upd col c y, upd l0 c (-1), upd l1 c (-1), upd val c x, upd tag c (nI (k + 1)), upd reg (t * 4 + r) (nI c), glo, sta, rfl, hs, hk, th_setreg i1 (Or.inr ⟨c, hcn, (g1 c hcn).mpr (Or.inr rfl), rfl⟩) (fun d hd hp e => ?_), th_MU_reg j1 ?_⟩
  · have e2 : c = d := th_inj (by omega) (by omega) e
    subst e2
    exact cv hp
  · rw [th_tg_nI (by omega), pk_us]
theorem th_make37 {post : Int32 → St1 → Prop} {t r c : Nat} {xs x : Int32} (ht : t < 3) (hr : r < 4) (hs : p = 5 → xs = nI s) (hk : k + 1 < 2 ^ 30) (hc : th_CI n th_QT m p bl wh s col l0 l1 reg glo) (hm : th_MU n (th_gd p bl col) k aR aG a0 a1 aV l0 l1 val tag reg glo)
    (hcn : c < n) (h0 : col c = 0)
    (H : ∀ u', th_HS n (k + 1) (upd aR (t * 4 + r) (nI (k + 1))) aG (th_up a0 (nI (k + 1)) 0) (th_up a1 (nI (k + 1)) 0) (th_up aV (nI (k + 1)) x) u' → post (nI (k + 1)) u') :
    wX_make_37 post (nI t) (nI r) x (nI c) (nI n) (nI m) (nI p) bl xs (nI k) col l0 l1 val tag reg glo sta := by
  have hn : n ≤ 16 := hc.2.1.1.2.1
  have hp : p ≤ 5 := hc.2.1.1.2.2
  unfold wX_make_37
  rw [nI_clamp (show c < 2 ^ 31 by omega)]
  refine br_t (nI_pos' (by omega)) (nm_r (nI_1 k) ⟨vp_in_nI (by omega) (by decide), nm_e ?_⟩)
  refine pk_lt p 1 (fun z => ?_) (fun z => pk_lt 4 p (fun z4 => ?_) (fun z4 => ⟨vp_in_nI (by omega) (by decide), nm_r (th_uu _ _ _ _) ?_⟩))
  · exact th_make90 ht hr hs hk hc hm hcn h0 (fun _ _ => absurd z (by omega)) (fun _ => rfl) H
  · exact th_make90 ht hr hs hk hc hm hcn h0 (fun _ _ => absurd z4 (by omega)) (fun _ => rfl) H
  · exact th_make90 ht hr hs hk hc hm hcn h0 (fun _ _ => rfl) (fun e => by omega) H
theorem th_make {post : Int32 → St1 → Prop} {u : St1} {t r : Nat} {x : Int32} (h : th_HS n k aR aG a0 a1 aV u) (hk1 : k + 1 < 2 ^ 30) (ht : t < 3) (hr : r < 4)
    (H0 : th_lv k aR aG a0 a1 = n → ∀ u', th_HS n k aR aG a0 a1 aV u' → post (-2) u')
    (H1 : th_lv k aR aG a0 a1 ≠ n → ∀ u', th_HS n (k + 1) (upd aR (t * 4 + r) (nI (k + 1))) aG (th_up a0 (nI (k + 1)) 0) (th_up a1 (nI (k + 1)) 0) (th_up aV (nI (k + 1)) x) u' → post (nI (k + 1)) u') :
    wpX_make post u (nI t) (nI r) x := by
  obtain ⟨m, p, bl, wh, s, xs, col, l0, l1, val, tag, reg, glo, sta, rfl, hs, hk, hc, hm⟩ := h
  have hn : n ≤ 16 := hc.2.1.1.2.1
  unfold wpX_make
  dsimp only
  refine th_bad ht hr (br_t rfl (th_ansM ht hc hm (fun m1 col1 sta1 i1 j1 u1 b1 => ?_)))
  refine th_free hn (fun hno => ?_) (fun c hcn h0 => ?_)
  · refine br_f (by decide) (th_collectH hs hk i1 j1 (fun m2 bl2 wh2 s2 xs2 col2 sta2 i2 j2 e2 => ?_))
    refine th_free hn (fun hno2 => ?_) (fun c hcn h0 => ?_)
    · unfold wX_make_37
      refine br_f (by decide) ?_
      rw [th_cn_all hno2] at e2
      exact H0 e2.symm _ ⟨m2, 0, bl2, wh2, s2, xs2, col2, l0, l1, val, tag, reg, glo, sta2, rfl, fun z => absurd z (by decide), hk, i2, j2⟩
    · have lt : th_cn (fun c => col2 c ≠ 0) n < n := th_cn_miss hcn (fun z => z h0)
      exact th_make37 (p := 0) ht hr (fun z => absurd z (by decide)) hk1 i2 j2 hcn h0 (H1 (by omega))
  · have lt : th_cn (th_gd p bl col1) n < n := th_cn_miss hcn (fun g => th_gdn i1.2.1.2.1 g h0)
    have le := th_lv_le hk hn i1.2.2.1 j1
    exact br_t (nI_pos' (by omega)) (th_make37 ht hr hs hk1 i1 j1 hcn h0 (H1 (by omega)))
end
end
section
theorem th_turnB {post : Int32 → St1 → Prop} {u : St1} {op x : Int32} {o t r q f w z y : Nat} (ho : o < 16) (eo : op &&& 15 = nI o) (et : (x &&& 15) - (x &&& 15) / 3 * 3 = nI t) (er : (x >>> ((4 : Int32) &&& 31)) &&& 3 = nI r)
    (eq : (x >>> ((6 : Int32) &&& 31)) &&& 3 = nI q) (ef : (x >>> ((8 : Int32) &&& 31)) &&& 1 = nI f) (ew : ((x >>> ((9 : Int32) &&& 31)) &&& 15) - ((x >>> ((9 : Int32) &&& 31)) &&& 15) / 3 * 3 = nI w)
    (ez : (x >>> ((9 : Int32) &&& 31)) &&& 63 = nI z) (ey : (x >>> ((9 : Int32) &&& 31)) &&& 3 = nI y)
    (B0 : o < 4 → wpX_make post u (nI t) (nI r) x) (B4 : o = 4 → wpX_copy post u (nI t) (nI r) (nI q)) (B5 : o = 5 → wpX_drop post u (nI t) (nI r))
    (B6 : 6 ≤ o → o < 8 → wpX_load post u (nI t) (nI r) (nI q) (nI f)) (B8 : 8 ≤ o → o < 11 → wpX_store post u (nI t) (nI r) (nI f) (nI q))
    (B11 : o = 11 → wpX_put post u (nI t) (nI f) (nI r)) (B12 : o = 12 → wpX_get post u (nI t) (nI r) (nI f)) (B13 : o = 13 → wpX_swap post u (nI t) (nI r) (nI w) (nI q))
    (B14 : o = 14 → wpX_setNumber post u (nI t) (nI r) x) (B15 : o = 15 → wpX_rest (fun u => wpX_pause post u (nI y)) u (nI z)) : wpL_turn post u op x := by
  obtain ⟨f1, f2, f3, f4, f5, f6, c1, c2, c3, c4, c5, c6, c7, c8⟩ := u
  unfold wpL_turn
  dsimp only
  rw [ew, ez, ey]
  refine nm_r eo ⟨by decide, nm_r et (nm_r er (nm_r eq (nm_r ef ?_)))⟩
  refine pk_le 4 o (fun h4 => ?_) (fun h4 => B0 h4)
  refine pk_eq o 4 (fun h => B4 h) (fun h => ?_)
  refine pk_eq o 5 (fun h => B5 h) (fun h => ?_)
  refine pk_le 8 o (fun h8 => ?_) (fun h8 => B6 (by omega) h8)
  refine pk_le 11 o (fun h11 => ?_) (fun h11 => B8 h8 h11)
  refine pk_eq o 11 (fun h => B11 h) (fun h => ?_)
  refine pk_eq o 12 (fun h => B12 h) (fun h => ?_)
  refine pk_eq o 13 (fun h => ⟨by decide, B13 h⟩) (fun h => ?_)
  refine pk_eq o 14 (fun h => B14 h) (fun h => ?_)
  exact B15 (by omega)
theorem th_turn (n k : Nat) (aR aG : Nat → Int32) (a0 a1 aV : Int32 → Int32) (hk1 : k + 1 < 2 ^ 30) (op x : Int32) :
    ∃ (r : Int32) (k' : Nat) (aR' aG' : Nat → Int32) (a0' a1' aV' : Int32 → Int32), k' ≤ k + 1 ∧ (¬ 4 ≤ op &&& 15 → r = if th_lv k aR aG a0 a1 = n then -2 else nI k') ∧
      ∀ (post : Int32 → St1 → Prop) (u : St1), th_HS n k aR aG a0 a1 aV u → (∀ u', th_HS n k' aR' aG' a0' a1' aV' u' → post r u') → wpL_turn post u op x := by
  obtain ⟨o, ho, eo⟩ := pk_andE op (m := 15) 4 (by decide)
  obtain ⟨t', ht', et'⟩ := pk_andE x (m := 15) 4 (by decide)
  obtain ⟨r, hr, er⟩ := pk_andE (x >>> ((4 : Int32) &&& 31)) (m := 3) 2 (by decide)
  obtain ⟨q, hq, eq⟩ := pk_andE (x >>> ((6 : Int32) &&& 31)) (m := 3) 2 (by decide)
  obtain ⟨f, hf, ef⟩ := pk_andE (x >>> ((8 : Int32) &&& 31)) (m := 1) 1 (by decide)
  obtain ⟨w', hw', ew'⟩ := pk_andE (x >>> ((9 : Int32) &&& 31)) (m := 15) 4 (by decide)
  obtain ⟨z, hz, ez⟩ := pk_andE (x >>> ((9 : Int32) &&& 31)) (m := 63) 6 (by decide)
  obtain ⟨y, hy, ey⟩ := pk_andE (x >>> ((9 : Int32) &&& 31)) (m := 3) 2 (by decide)
  have et : (x &&& 15) - (x &&& 15) / 3 * 3 = nI (t' % 3) := by
    rw [et']
    exact pk_rem (d := 3) (by omega) (by decide) (by decide)
  have ew : ((x >>> ((9 : Int32) &&& 31)) &&& 15) - ((x >>> ((9 : Int32) &&& 31)) &&& 15) / 3 * 3 = nI (w' % 3) := by
    rw [ew']
    exact pk_rem (d := 3) (by omega) (by decide) (by decide)
  have ht : t' % 3 < 3 := Nat.mod_lt _ (by decide)
  have hw : w' % 3 < 3 := Nat.mod_lt _ (by decide)
  generalize t' % 3 = t at et ht
  generalize w' % 3 = w at ew hw
  have hr4 : r < 4 := hr
  have hq4 : q < 4 := hq
  have hf2 : f < 2 := hf
  have hy4 : y < 4 := hy
  have hz64 : z < 64 := hz
  have ho16 : o < 16 := ho
  have big : 4 ≤ o → 4 ≤ op &&& 15 := fun h => by rw [eo]; exact nI_le (a := 4) h (by omega)
  clear hr hq hf hy hz ho
  by_cases c0 : o < 4
  · by_cases full : th_lv k aR aG a0 a1 = n
    · refine ⟨-2, k, aR, aG, a0, a1, aV, by omega, fun _ => by rw [if_pos full], fun post u h H => th_turnB ho16 eo et er eq ef ew ez ey (fun _ => th_make h hk1 ht hr4 (fun _ => H) (fun e => absurd full e)) ?_ ?_ ?_ ?_ ?_ ?_ ?_ ?_ ?_⟩ <;> (intro e; omega)
    · refine ⟨nI (k + 1), k + 1, _, _, _, _, _, by omega, fun _ => by rw [if_neg full], fun post u h H => th_turnB ho16 eo et er eq ef ew ez ey (fun _ => th_make h hk1 ht hr4 (fun e => absurd e full) (fun _ => H)) ?_ ?_ ?_ ?_ ?_ ?_ ?_ ?_ ?_⟩ <;> (intro e; omega)
  by_cases c4 : o = 4
  · refine ⟨0, k, _, _, _, _, _, by omega, fun z => absurd (big (by omega)) z, fun post u h H => th_turnB ho16 eo et er eq ef ew ez ey ?_ (fun _ => th_copy h ht hr4 hq4 H) ?_ ?_ ?_ ?_ ?_ ?_ ?_ ?_⟩ <;> (intro e; omega)
  by_cases c5 : o = 5
  · refine ⟨0, k, _, _, _, _, _, by omega, fun z => absurd (big (by omega)) z, fun post u h H => th_turnB ho16 eo et er eq ef ew ez ey ?_ ?_ (fun _ => th_drop h ht hr4 H) ?_ ?_ ?_ ?_ ?_ ?_ ?_⟩ <;> (intro e; omega)
  by_cases c8 : o < 8
  · by_cases hz0 : aR (t * 4 + q) = 0
    · refine ⟨-3, k, aR, aG, a0, a1, aV, by omega, fun z => absurd (big (by omega)) z, fun post u h H => th_turnB ho16 eo et er eq ef ew ez ey ?_ ?_ ?_ (fun _ _ => th_load h ht hr4 hq4 hf2 (fun _ => H) (fun e => absurd hz0 e)) ?_ ?_ ?_ ?_ ?_ ?_⟩ <;> (intro e; omega)
    · refine ⟨0, k, _, _, _, _, _, by omega, fun z => absurd (big (by omega)) z, fun post u h H => th_turnB ho16 eo et er eq ef ew ez ey ?_ ?_ ?_ (fun _ _ => th_load h ht hr4 hq4 hf2 (fun e => absurd e hz0) (fun _ => H)) ?_ ?_ ?_ ?_ ?_ ?_⟩ <;> (intro e; omega)
  by_cases c11 : o < 11
  · by_cases hz0 : aR (t * 4 + r) = 0
    · refine ⟨-3, k, aR, aG, a0, a1, aV, by omega, fun z => absurd (big (by omega)) z, fun post u h H => th_turnB ho16 eo et er eq ef ew ez ey ?_ ?_ ?_ ?_ (fun _ _ => th_store h ht hr4 hq4 hf2 (fun _ => H) (fun e => absurd hz0 e) (fun e => absurd hz0 e)) ?_ ?_ ?_ ?_ ?_⟩ <;> (intro e; omega)
    · by_cases f0 : f = 0
      · refine ⟨0, k, _, _, _, _, _, by omega, fun z => absurd (big (by omega)) z, fun post u h H => th_turnB ho16 eo et er eq ef ew ez ey ?_ ?_ ?_ ?_ (fun _ _ => th_store h ht hr4 hq4 hf2 (fun e => absurd e hz0) (fun _ _ => H) (fun _ e => absurd f0 e)) ?_ ?_ ?_ ?_ ?_⟩ <;> (intro e; omega)
      · refine ⟨0, k, _, _, _, _, _, by omega, fun z => absurd (big (by omega)) z, fun post u h H => th_turnB ho16 eo et er eq ef ew ez ey ?_ ?_ ?_ ?_ (fun _ _ => th_store h ht hr4 hq4 hf2 (fun e => absurd e hz0) (fun _ e => absurd e f0) (fun _ _ => H)) ?_ ?_ ?_ ?_ ?_⟩ <;> (intro e; omega)
  by_cases c12 : o = 11
  · refine ⟨0, k, _, _, _, _, _, by omega, fun z => absurd (big (by omega)) z, fun post u h H => th_turnB ho16 eo et er eq ef ew ez ey ?_ ?_ ?_ ?_ ?_ (fun _ => th_put h ht hf2 hr4 H) ?_ ?_ ?_ ?_⟩ <;> (intro e; omega)
  by_cases c13 : o = 12
  · refine ⟨0, k, _, _, _, _, _, by omega, fun z => absurd (big (by omega)) z, fun post u h H => th_turnB ho16 eo et er eq ef ew ez ey ?_ ?_ ?_ ?_ ?_ ?_ (fun _ => th_get h ht hr4 hf2 H) ?_ ?_ ?_⟩ <;> (intro e; omega)
  by_cases c14 : o = 13
  · refine ⟨0, k, _, _, _, _, _, by omega, fun z => absurd (big (by omega)) z, fun post u h H => th_turnB ho16 eo et er eq ef ew ez ey ?_ ?_ ?_ ?_ ?_ ?_ ?_ (fun _ => th_swap h ht hr4 hw hq4 H) ?_ ?_⟩ <;> (intro e; omega)
  by_cases c15 : o = 14
  · by_cases hz0 : aR (t * 4 + r) = 0
    · refine ⟨-3, k, aR, aG, a0, a1, aV, by omega, fun z => absurd (big (by omega)) z, fun post u h H => th_turnB ho16 eo et er eq ef ew ez ey ?_ ?_ ?_ ?_ ?_ ?_ ?_ ?_ (fun _ => th_setNumber h ht hr4 (fun _ => H) (fun e => absurd hz0 e)) ?_⟩ <;> (intro e; omega)
    · refine ⟨0, k, _, _, _, _, _, by omega, fun z => absurd (big (by omega)) z, fun post u h H => th_turnB ho16 eo et er eq ef ew ez ey ?_ ?_ ?_ ?_ ?_ ?_ ?_ ?_ (fun _ => th_setNumber h ht hr4 (fun e => absurd e hz0) (fun _ => H)) ?_⟩ <;> (intro e; omega)
  · refine ⟨if y < 3 then 0 else -1, k, aR, aG, a0, a1, aV, by omega, fun z => absurd (big (by omega)) z, fun post u h H => th_turnB ho16 eo et er eq ef ew ez ey ?_ ?_ ?_ ?_ ?_ ?_ ?_ ?_ ?_ (fun _ => th_rest h hz64 (fun u' h' => th_pause h' hy4 H))⟩ <;> (intro e; omega)
section
variable {n k : Nat} {aR aG : Nat → Int32} {a0 a1 aV : Int32 → Int32} {u : St1} {post : Int32 → Prop}
theorem th_tagOf {G : Nat → Prop} {f1 f2 f3 f4 f5 f6 x : Int32} {c1 c2 c3 c4 tag c6 c7 c8 : Nat → Int32} (hn : n ≤ 16) (hx : th_rf n G x) (H : post (th_tg tag x)) : wpX_tagOf post (f1, f2, f3, f4, f5, f6, c1, c2, c3, c4, tag, c6, c7, c8) x := by
  unfold wpX_tagOf
  dsimp only
  rcases hx with e | ⟨d, hd, g, e⟩
  · subst e
    rw [th_tg_m1] at H
    exact br_f (by decide) H
  · subst e
    rw [th_tg_nI (by omega)] at H
    rw [nI_clamp (show d < 2 ^ 31 by omega)]
    exact br_t (nI_pos' (by omega)) ⟨vp_in_nI (by omega) (by decide), H⟩
theorem th_number {t r : Nat} (h : th_HS n k aR aG a0 a1 aV u) (ht : t < 3) (hr : r < 4) (H : post (if aR (t * 4 + r) = 0 then 0 else aV (aR (t * 4 + r)))) : wpX_number post u (nI t) (nI r) := by
  obtain ⟨m, p, bl, wh, s, xs, col, l0, l1, val, tag, reg, glo, sta, rfl, hs, hk, hc, hm⟩ := h
  have hn : n ≤ 16 := hc.2.1.1.2.1
  have hi : t * 4 + r < 12 := by omega
  unfold wpX_number
  dsimp only
  refine th_bad ht hr (br_t rfl ?_)
  rw [th_ix, nI_clamp (show t * 4 + r < 2 ^ 31 by omega)]
  refine ⟨vp_in_nI (by omega) (by decide), ?_⟩
  rcases th_regc hk hc hm hi with ⟨e, e0⟩ | ⟨c, hc', g, e, et, e0⟩
  · rw [if_pos e0] at H
    exact nm_r e (br_f (by decide) H)
  · rw [if_neg e0, et, ← (hm.2.2.1 c hc' g).2.2.1] at H
    refine nm_r e (br_t (nI_pos' (by omega)) ⟨vp_in_nI (by omega) (by decide), ?_⟩)
    rw [nI_clamp (show c < 2 ^ 31 by omega)]
    exact H
theorem th_serial {t r : Nat} (h : th_HS n k aR aG a0 a1 aV u) (ht : t < 3) (hr : r < 4) (H : post (aR (t * 4 + r))) : wpX_serial post u (nI t) (nI r) := by
  obtain ⟨m, p, bl, wh, s, xs, col, l0, l1, val, tag, reg, glo, sta, rfl, hs, hk, hc, hm⟩ := h
  have hn : n ≤ 16 := hc.2.1.1.2.1
  have hi : t * 4 + r < 12 := by omega
  unfold wpX_serial
  dsimp only
  refine th_bad ht hr (br_t rfl ?_)
  rw [th_ix, nI_clamp (show t * 4 + r < 2 ^ 31 by omega)]
  refine ⟨vp_in_nI (by omega) (by decide), th_tagOf hn (hc.2.2.1.1 _ hi) ?_⟩
  rw [hm.1 _ hi]
  exact H
theorem th_serialIn {t r f : Nat} (h : th_HS n k aR aG a0 a1 aV u) (ht : t < 3) (hr : r < 4) (hf : f < 2) (H : post (if aR (t * 4 + r) = 0 then -3 else if f = 0 then a0 (aR (t * 4 + r)) else a1 (aR (t * 4 + r)))) : wpX_serialIn post u (nI t) (nI r) (nI f) := by
  obtain ⟨m, p, bl, wh, s, xs, col, l0, l1, val, tag, reg, glo, sta, rfl, hs, hk, hc, hm⟩ := h
  have hn : n ≤ 16 := hc.2.1.1.2.1
  have hi : t * 4 + r < 12 := by omega
  unfold wpX_serialIn
  dsimp only
  refine th_bad ht hr (br_t rfl (th_badBit hf (br_t rfl ?_)))
  rw [th_ix, nI_clamp (show t * 4 + r < 2 ^ 31 by omega)]
  refine ⟨vp_in_nI (by omega) (by decide), ?_⟩
  rcases th_regc hk hc hm hi with ⟨e, e0⟩ | ⟨c, hc', g, e, et, e0⟩
  · rw [if_pos e0] at H
    exact nm_r e (br_f (by decide) H)
  · rw [if_neg e0, et] at H
    refine nm_r e (br_t (nI_pos' (by omega)) ?_)
    rw [nI_clamp (show c < 2 ^ 31 by omega)]
    refine pk_eq f 0 (fun ef => ⟨vp_in_nI (by omega) (by decide), ?_⟩) (fun ef => ⟨vp_in_nI (by omega) (by decide), ?_⟩)
    · rw [if_pos ef, ← (hm.2.2.1 c hc' g).1] at H
      exact th_tagOf hn (hc.2.2.1.2.2 c hc' g).1 H
    · rw [if_neg ef, ← (hm.2.2.1 c hc' g).2.1] at H
      exact th_tagOf hn (hc.2.2.1.2.2 c hc' g).2 H
theorem th_serialOf {f : Nat} (h : th_HS n k aR aG a0 a1 aV u) (hf : f < 2) (H : post (aG f)) : wpX_serialOf post u (nI f) := by
  obtain ⟨m, p, bl, wh, s, xs, col, l0, l1, val, tag, reg, glo, sta, rfl, hs, hk, hc, hm⟩ := h
  have hn : n ≤ 16 := hc.2.1.1.2.1
  unfold wpX_serialOf
  dsimp only
  refine th_badBit hf (br_t rfl ?_)
  rw [nI_clamp (show f < 2 ^ 31 by omega)]
  refine ⟨vp_in_nI hf (by decide), th_tagOf hn (hc.2.2.1.2.1 f hf) ?_⟩
  rw [hm.2.1 f hf]
  exact H
theorem th_made (h : th_HS n k aR aG a0 a1 aV u) (H : post (nI k)) : wpX_made post u := by
  obtain ⟨m, p, bl, wh, s, xs, col, l0, l1, val, tag, reg, glo, sta, rfl, hs, hk, hc, hm⟩ := h
  exact H
end
end
section
section
variable {n k : Nat} {aR aG : Nat → Int32} {a0 a1 aV : Int32 → Int32} {x1 x2 x3 x4 x5 x6 : Int32} {c1 c2 c3 c4 c5 c6 c7 c8 : Nat → Int32} {y1 y2 y3 y4 y5 y6 : Int32} {d1 d2 d3 d4 d5 d6 d7 d8 : Nat → Int32}
theorem th_alike {post : Int32 → St2 → Prop} (h : th_HS n k aR aG a0 a1 aV (x1, x2, x3, x4, x5, x6, c1, c2, c3, c4, c5, c6, c7, c8)) (g : th_HS n k aR aG a0 a1 aV (y1, y2, y3, y4, y5, y6, d1, d2, d3, d4, d5, d6, d7, d8)) (H : ∀ u, post 1 u) : wpL_alike post (x1, x2, x3, x4, x5, x6, c1, c2, c3, c4, c5, c6, c7, c8, y1, y2, y3, y4, y5, y6, d1, d2, d3, d4, d5, d6, d7, d8) := by
  unfold wpL_alike
  dsimp only
  refine pk_loop (σ := Unit) (fun f i _ => wL_alike_2 post x1 x2 x3 x4 x5 x6 c1 c2 c3 c4 c5 c6 c7 c8 y1 y2 y3 y4 y5 y6 d1 d2 d3 d4 d5 d6 d7 d8 f (nI i)) (fun _ _ => True) 12 0 () (by omega) trivial (fun f _ _ => ?_) (fun f i _ hi _ hw => ?_)
  · refine pk_le 12 12 (fun _ => ?_) (fun z => absurd z (by omega))
    refine th_serialOf (f := 0) h (by decide) (th_serialOf (f := 0) g (by decide) (br_t rfl ?_))
    refine th_serialOf (f := 1) h (by decide) (th_serialOf (f := 1) g (by decide) (br_t rfl ?_))
    refine th_made h (th_made g (br_t rfl (th_live h (fun u1 _ => ?_))))
    obtain ⟨v1, v2, v3, v4, v5, v6, v7, v8, v9, v10, v11, v12, v13, v14⟩ := u1
    refine th_live g (fun u2 _ => ?_)
    obtain ⟨w1, w2, w3, w4, w5, w6, w7, w8, w9, w10, w11, w12, w13, w14⟩ := u2
    exact br_t rfl (H _)
  · have e3 : nI i >>> ((2 : Int32) &&& 31) = nI (i / 4) := pk_shrN (by omega) _ 2 (by decide)
    have e4 : nI i &&& 3 = nI (i % 4) := pk_andN (by omega) 2 (by decide)
    have ht : i / 4 < 3 := by omega
    have hr : i % 4 < 4 := by omega
    refine pk_le 12 i (fun z => absurd z (by omega)) (fun _ => nm_r e3 (nm_r e4 ?_))
    refine th_number h ht hr (th_number g ht hr (br_t rfl ?_))
    refine th_serial h ht hr (th_serial g ht hr (br_t rfl ?_))
    refine th_serialIn (f := 0) h ht hr (by decide) (th_serialIn (f := 0) g ht hr (by decide) (br_t rfl ?_))
    refine th_serialIn (f := 1) h ht hr (by decide) (th_serialIn (f := 1) g ht hr (by decide) (br_t rfl ?_))
    exact nm_r (nI_1 i) (hw () trivial)
theorem th_law149 {post : Int32 → Prop} {L : Nat} {xs : Nat → Int32} {J : (Int32 → Int32 → Int32 → Int32 → Int32 → Int32 → Int32 → (Nat → Int32) → (Nat → Int32) → (Nat → Int32) → (Nat → Int32) → (Nat → Int32) → (Nat → Int32) → (Nat → Int32) → (Nat → Int32) → Int32 → Int32 → Int32 → Int32 → Int32 → Int32 → (Nat → Int32) → (Nat → Int32) → (Nat → Int32) → (Nat → Int32) → (Nat → Int32) → (Nat → Int32) → (Nat → Int32) → (Nat → Int32) → Prop)} {z2 x : Int32} {kc ks j : Nat} (h : th_HS n k aR aG a0 a1 aV (x1, x2, x3, x4, x5, x6, c1, c2, c3, c4, c5, c6, c7, c8)) (g : th_HS n k aR aG a0 a1 aV (y1, y2, y3, y4, y5, y6, d1, d2, d3, d4, d5, d6, d7, d8))
    (H : ∀ (x1 x2 x3 x4 x5 x6 : Int32) (c1 c2 c3 c4 c5 c6 c7 c8 : Nat → Int32) (y1 y2 y3 y4 y5 y6 : Int32) (d1 d2 d3 d4 d5 d6 d7 d8 : Nat → Int32), th_HS n k aR aG a0 a1 aV (x1, x2, x3, x4, x5, x6, c1, c2, c3, c4, c5, c6, c7, c8) → th_HS n k aR aG a0 a1 aV (y1, y2, y3, y4, y5, y6, d1, d2, d3, d4, d5, d6, d7, d8) → J (nI (j + 2)) x1 x2 x3 x4 x5 x6 c1 c2 c3 c4 c5 c6 c7 c8 y1 y2 y3 y4 y5 y6 d1 d2 d3 d4 d5 d6 d7 d8) :
    wL_law_149 post L xs J z2 (nI j) x kc ks x1 x2 x3 x4 x5 x6 c1 c2 c3 c4 c5 c6 c7 c8 y1 y2 y3 y4 y5 y6 d1 d2 d3 d4 d5 d6 d7 d8 := by
  obtain ⟨q, hq, eq⟩ := pk_andE (x >>> ((3 : Int32) &&& 31)) (m := 31) 5 (by decide)
  obtain ⟨w, hw, ew⟩ := pk_andE (x >>> ((13 : Int32) &&& 31)) (m := 3) 2 (by decide)
  unfold wL_law_149
  rw [eq, ew]
  refine th_rest g (by omega) (fun u1 h1 => ?_)
  obtain ⟨v1, v2, v3, v4, v5, v6, v7, v8, v9, v10, v11, v12, v13, v14⟩ := u1
  refine th_pause h1 hw (fun u2 h2 => ?_)
  obtain ⟨w1, w2, w3, w4, w5, w6, w7, w8, w9, w10, w11, w12, w13, w14⟩ := u2
  exact nm_r (nI_add j 2) (H x1 x2 x3 x4 x5 x6 c1 c2 c3 c4 c5 c6 c7 c8 w1 w2 w3 w4 w5 w6 w7 w8 w9 w10 w11 w12 w13 w14 h h2)
theorem th_law112 {post : Int32 → Prop} {L : Nat} {xs : Nat → Int32} {J : (Int32 → Int32 → Int32 → Int32 → Int32 → Int32 → Int32 → (Nat → Int32) → (Nat → Int32) → (Nat → Int32) → (Nat → Int32) → (Nat → Int32) → (Nat → Int32) → (Nat → Int32) → (Nat → Int32) → Int32 → Int32 → Int32 → Int32 → Int32 → Int32 → (Nat → Int32) → (Nat → Int32) → (Nat → Int32) → (Nat → Int32) → (Nat → Int32) → (Nat → Int32) → (Nat → Int32) → (Nat → Int32) → Prop)} {x r z0 : Int32} {kc ks j : Nat} (hj : j < L) (hL : L ≤ 260) (h : th_HS n k aR aG a0 a1 aV (x1, x2, x3, x4, x5, x6, c1, c2, c3, c4, c5, c6, c7, c8)) (g : th_HS n k aR aG a0 a1 aV (y1, y2, y3, y4, y5, y6, d1, d2, d3, d4, d5, d6, d7, d8)) (hz : ¬ 4 ≤ xs j &&& 15 → r = z0)
    (H : ∀ (x1 x2 x3 x4 x5 x6 : Int32) (c1 c2 c3 c4 c5 c6 c7 c8 : Nat → Int32) (y1 y2 y3 y4 y5 y6 : Int32) (d1 d2 d3 d4 d5 d6 d7 d8 : Nat → Int32), th_HS n k aR aG a0 a1 aV (x1, x2, x3, x4, x5, x6, c1, c2, c3, c4, c5, c6, c7, c8) → th_HS n k aR aG a0 a1 aV (y1, y2, y3, y4, y5, y6, d1, d2, d3, d4, d5, d6, d7, d8) → J (nI (j + 2)) x1 x2 x3 x4 x5 x6 c1 c2 c3 c4 c5 c6 c7 c8 y1 y2 y3 y4 y5 y6 d1 d2 d3 d4 d5 d6 d7 d8) :
    wL_law_112 post L xs J (nI n) (nI j) x r r z0 kc ks x1 x2 x3 x4 x5 x6 c1 c2 c3 c4 c5 c6 c7 c8 y1 y2 y3 y4 y5 y6 d1 d2 d3 d4 d5 d6 d7 d8 := by
  obtain ⟨n1, n2⟩ := th_HS_lv h
  unfold wL_law_112
  rw [nI_clamp (show j < 2 ^ 31 by omega)]
  refine br_t rfl (th_live h (fun u1 h1 => ?_))
  obtain ⟨v1, v2, v3, v4, v5, v6, v7, v8, v9, v10, v11, v12, v13, v14⟩ := u1
  refine pk_lt n (th_lv k aR aG a0 a1) (fun z => absurd z (by omega)) (fun _ => ⟨vp_in_nI hj (by omega), br_c (fun _ => th_law149 h1 g H) (fun z => br_t (hz z) (th_law149 h1 g H))⟩)
end
theorem th_law49 {n L : Nat} {xs : Nat → Int32} {kc ks : Nat} (hL : L ≤ 260) : ∀ (f j k : Nat) (aR aG : Nat → Int32) (a0 a1 aV : Int32 → Int32) (x1 x2 x3 x4 x5 x6 : Int32) (c1 c2 c3 c4 c5 c6 c7 c8 : Nat → Int32) (y1 y2 y3 y4 y5 y6 : Int32) (d1 d2 d3 d4 d5 d6 d7 d8 : Nat → Int32), L - j < f → k ≤ j → j < 1000 → th_HS n k aR aG a0 a1 aV (x1, x2, x3, x4, x5, x6, c1, c2, c3, c4, c5, c6, c7, c8) → th_HS n k aR aG a0 a1 aV (y1, y2, y3, y4, y5, y6, d1, d2, d3, d4, d5, d6, d7, d8) →
    wL_law_49 (fun r => r = 1) L xs (nI n) kc ks f (nI j) x1 x2 x3 x4 x5 x6 c1 c2 c3 c4 c5 c6 c7 c8 y1 y2 y3 y4 y5 y6 d1 d2 d3 d4 d5 d6 d7 d8 := by
  intro f
  induction f with
  | zero => intros; omega
  | succ f ih =>
    intro j k aR aG a0 a1 aV x1 x2 x3 x4 x5 x6 c1 c2 c3 c4 c5 c6 c7 c8 y1 y2 y3 y4 y5 y6 d1 d2 d3 d4 d5 d6 d7 d8 hf hk hj h g
    obtain ⟨r, k', aR', aG', a0', a1', aV', hk', hr, ht⟩ := th_turn n k aR aG a0 a1 aV (by omega) (xs j) (xs (j + 1))
    obtain ⟨n1, n2⟩ := th_HS_lv h
    refine pk_le L (j + 1) (fun z => ?_) (fun z => ?_) rfl (nI_1 j)
    · refine th_alike h g (fun u => ?_)
      obtain ⟨v1, v2, v3, v4, v5, v6, v7, v8, v9, v10, v11, v12, v13, v14, v15, v16, v17, v18, v19, v20, v21, v22, v23, v24, v25, v26, v27, v28⟩ := u
      rfl
    · rw [nI_1 j, nI_clamp (show j + 1 < 2 ^ 31 by omega)]
      refine ⟨vp_in_nI (by omega) (by omega), nm_e (th_live h (fun u1 h1 => ?_))⟩
      obtain ⟨v1, v2, v3, v4, v5, v6, v7, v8, v9, v10, v11, v12, v13, v14⟩ := u1
      refine ⟨vp_in_nI (by omega) (by omega), ?_⟩
      rw [nI_clamp (show j < 2 ^ 31 by omega)]
      refine ht _ _ h1 (fun u2 h2 => ?_)
      obtain ⟨w1, w2, w3, w4, w5, w6, w7, w8, w9, w10, w11, w12, w13, w14⟩ := u2
      refine ⟨vp_in_nI (by omega) (by omega), ht _ _ g (fun u3 h3 => ?_)⟩
      obtain ⟨e1, e2, e3, e4, e5, e6, e7, e8, e9, e10, e11, e12, e13, e14⟩ := u3
      refine pk_eq (th_lv k aR aG a0 a1) n (fun e => ?_) (fun e => th_made h2 ?_)
      · exact th_law112 (by omega) hL h2 h3 (fun z => by rw [hr z, if_pos e]) (fun x1 x2 x3 x4 x5 x6 c1 c2 c3 c4 c5 c6 c7 c8 y1 y2 y3 y4 y5 y6 d1 d2 d3 d4 d5 d6 d7 d8 i1 i2 => ih (j + 2) k' aR' aG' a0' a1' aV' x1 x2 x3 x4 x5 x6 c1 c2 c3 c4 c5 c6 c7 c8 y1 y2 y3 y4 y5 y6 d1 d2 d3 d4 d5 d6 d7 d8 (by omega) (by omega) (by omega) i1 i2)
      · exact th_law112 (by omega) hL h2 h3 (fun z => by rw [hr z, if_neg e]) (fun x1 x2 x3 x4 x5 x6 c1 c2 c3 c4 c5 c6 c7 c8 y1 y2 y3 y4 y5 y6 d1 d2 d3 d4 d5 d6 d7 d8 i1 i2 => ih (j + 2) k' aR' aG' a0' a1' aV' x1 x2 x3 x4 x5 x6 c1 c2 c3 c4 c5 c6 c7 c8 y1 y2 y3 y4 y5 y6 d1 d2 d3 d4 d5 d6 d7 d8 (by omega) (by omega) (by omega) i1 i2)
def th_Z : Nat → Int32 := fun _ => 0
def th_Y : Int32 → Int32 := fun _ => 0
theorem th_HS0 {n : Nat} {reg glo : Nat → Int32} (h4 : 4 ≤ n) (hn : n ≤ 16) (hr : ∀ i, i < 12 → reg i = -1) (hg : ∀ i, i < 2 → glo i = -1) :
    th_HS n 0 th_Z th_Z th_Y th_Y th_Y (nI n, 0, 0, 1, 0, 0, fun _ => 0, fun _ => 0, fun _ => 0, fun _ => 0, fun _ => 0, reg, glo, fun _ => 0) := by
  have ng : ∀ c, ¬ th_gd 0 1 (fun _ => (0 : Int32)) c := fun c g => g.2 (by decide) rfl
  refine ⟨0, 0, 1, 2, 0, 0, fun _ => 0, fun _ => 0, fun _ => 0, fun _ => 0, fun _ => 0, reg, glo, fun _ => 0, rfl, fun e => absurd e (by decide), by decide, ⟨by decide, ⟨⟨h4, hn, by decide⟩, Or.inl ⟨rfl, rfl⟩, fun c _ => Or.inl rfl, fun _ c _ => (by decide : (0 : Int32) ≠ 2), fun _ c _ => (by decide : (0 : Int32) ≠ 3), fun e => absurd e (by decide), fun e => absurd e (by decide)⟩, ⟨fun i hi => Or.inl (hr i hi), fun i hi => Or.inl (hg i hi), fun c _ g => absurd g (ng c)⟩, ⟨fun i d hi hd hp e => ?_, fun i d hi hd hp e => ?_, fun i d hi hd hp e => ?_⟩, th_QCT, fun _ _ _ => trivial⟩, ⟨fun i hi => ?_, fun i hi => ?_, fun c _ g => absurd g (ng c), fun c d _ _ g => absurd g (ng c)⟩⟩
  · rcases hp with e | ⟨e, _⟩
    · exact absurd e (by decide)
    · exact absurd e (by decide)
  · rcases hp with e | e
    · exact absurd e (by decide)
    · exact absurd e (by decide)
  · rcases hp with e | e
    · exact absurd e (by decide)
    · exact absurd e (by decide)
  · rw [hr i hi, th_tg_m1]
    rfl
  · rw [hg i hi, th_tg_m1]
    rfl
theorem th_init84 {post : St1 → Prop} {mc ms kc ks n : Nat} {x1 x4 : Int32} (h4 : 4 ≤ n) (hn : n ≤ 16) (H : ∀ u, th_HS n 0 th_Z th_Z th_Y th_Y th_Y u → post u) :
    wX_init_84 post mc ms (nI n) kc ks x1 0 0 x4 0 0 (fun _ => 0) (fun _ => 0) (fun _ => 0) (fun _ => 0) (fun _ => 0) (fun _ => 0) (fun _ => 0) (fun _ => 0) := by
  unfold wX_init_84
  refine pk_loop (fun f i (a : Nat → Int32) => wX_init_96 post mc ms kc ks (nI n) 0 0 1 0 0 f (nI i) (fun _ => 0) (fun _ => 0) (fun _ => 0) (fun _ => 0) (fun _ => 0) a (fun _ => 0) (fun _ => 0))
    (fun i a => ∀ j, j < i → a j = -1) 12 0 (fun _ => 0) (by omega) (fun j hj => absurd hj (by omega)) (fun f a ha => ?_) (fun f i a hi ha hw => ?_)
  · refine pk_le 12 12 (fun _ => nm_e (nm_e (H _ (th_HS0 h4 hn ha (fun i hi => ?_))))) (fun z => absurd z (by omega))
    by_cases e : i = 1
    · rw [e, pk_us]
    · rw [pk_un e, show i = 0 by omega, pk_us]
  · refine pk_le 12 i (fun z => absurd z (by omega)) (fun _ => ⟨vp_in_nI hi (by decide), ?_⟩)
    rw [nI_clamp (show i < 2 ^ 31 by omega)]
    refine nm_e (nm_r (nI_1 i) (hw _ (fun j hj => ?_)))
    by_cases e : j = i
    · rw [e, pk_us]
    · rw [pk_un e]
      exact ha j (by omega)
theorem th_init75 {post : St1 → Prop} {mc ms kc ks n : Nat} {x1 x4 : Int32} (h4 : 4 ≤ n) (hn : n ≤ 16) (H : ∀ u, th_HS n 0 th_Z th_Z th_Y th_Y th_Y u → post u) :
    wX_init_75 post mc ms (nI n) kc ks x1 0 0 x4 0 0 (fun _ => 0) (fun _ => 0) (fun _ => 0) (fun _ => 0) (fun _ => 0) (fun _ => 0) (fun _ => 0) (fun _ => 0) := by
  unfold wX_init_75
  exact pk_le n 16 (fun _ => th_init84 h4 hn H) (fun z => absurd z (by omega))
theorem th_init {post : St1 → Prop} {q : Nat} (hq : q < 16) (H : ∀ u, th_HS (max 4 q) 0 th_Z th_Z th_Y th_Y th_Y u → post u) : wpX_init post 8 97 (0, 0, 0, 0, 0, 0) (nI q) := by
  unfold wpX_init
  dsimp only
  refine ⟨by decide, by decide, by decide, by decide, by decide, by decide, by decide, by decide, by decide, by decide, by decide, by decide, by decide, by decide, by decide, by decide, ?_⟩
  refine pk_le 4 q (fun h => ?_) (fun h => ?_)
  · have e : max 4 q = q := by omega
    rw [e] at H
    exact th_init75 h (by omega) H
  · have e : max 4 q = 4 := by omega
    rw [e] at H
    exact th_init75 (n := 4) (by decide) (by decide) H
theorem th_law26 {xs : Nat → Int32} {L q : Nat} (hL : L ≤ 260) (hq : q < 16) : wL_law_26 (fun r => r = 1) L xs (nI q) (nI (max 4 q)) 0 0 := by
  unfold wL_law_26
  refine ⟨by decide, by decide, 8, 97, by decide, by decide, th_init hq (fun u1 h1 => ?_)⟩
  obtain ⟨v1, v2, v3, v4, v5, v6, v7, v8, v9, v10, v11, v12, v13, v14⟩ := u1
  refine ⟨by decide, by decide, 8, 97, by decide, by decide, th_init hq (fun u2 h2 => ?_)⟩
  obtain ⟨w1, w2, w3, w4, w5, w6, w7, w8, w9, w10, w11, w12, w13, w14⟩ := u2
  exact ⟨L + 1, th_law49 hL (L + 1) 1 0 th_Z th_Z th_Y th_Y th_Y v1 v2 v3 v4 v5 v6 v7 v8 v9 v10 v11 v12 v13 v14 w1 w2 w3 w4 w5 w6 w7 w8 w9 w10 w11 w12 w13 w14 (by omega) (by omega) (by omega) h1 h2⟩
theorem th_law15 {xs : Nat → Int32} {L q : Nat} (hL : L ≤ 260) (hq : q < 16) : wL_law_15 (fun r => r = 1) L xs (nI q) 0 0 := by
  have h := th_law26 (xs := xs) hL hq
  unfold wL_law_15
  refine pk_le 4 q (fun z => ?_) (fun z => ?_)
  · have e : max 4 q = q := by omega
    rw [e] at h
    exact h
  · have e : max 4 q = 4 := by omega
    rw [e] at h
    exact h
theorem i_vc (xs : Nat → Int32) (L : Nat) (hL : L ≤ 260) : wpL_law (fun r => r = 1) L xs := by
  unfold wpL_law
  refine pk_le L 0 (fun _ => th_law15 (q := 0) hL (by decide)) (fun z => ⟨vp_in_nI (n := 0) z (by omega), ?_⟩)
  obtain ⟨q, hq, eq⟩ := pk_andE (xs (0 : Int32).toNatClampNeg) (m := 15) 4 (by decide)
  rw [eq]
  exact th_law15 hL hq
end
