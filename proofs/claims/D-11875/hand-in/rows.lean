section
/-! numbers, least and greatest members, counting: no program in sight -/
theorem fq_tm : (-1 : Int32).toInt = -1 := by decide
theorem fq_t0 : (0 : Int32).toInt = 0 := by decide
theorem fq_t256 : (256 : Int32).toInt = 256 := by decide
theorem fq_ltI {x y : Int32} {A B : Prop} {i j : Int} (hx : x.toInt = i) (hy : y.toInt = j) (f : i < j → A) (g : j ≤ i → B) : (x < y → A) ∧ (¬ x < y → B) := by
  rw [Int32.lt_iff_toInt_lt, hx, hy]
  exact ⟨f, fun h => g (by omega)⟩
theorem fq_leI {x y : Int32} {A B : Prop} {i j : Int} (hx : x.toInt = i) (hy : y.toInt = j) (f : i ≤ j → A) (g : j < i → B) : (x ≤ y → A) ∧ (¬ x ≤ y → B) := by
  rw [Int32.le_iff_toInt_le, hx, hy]
  exact ⟨f, fun h => g (by omega)⟩
theorem fq_eqI {x y : Int32} {A B : Prop} {i j : Int} (hx : x.toInt = i) (hy : y.toInt = j) (f : i = j → A) (g : i ≠ j → B) : (x = y → A) ∧ (¬ x = y → B) := by
  rw [← Int32.toInt_inj, hx, hy]
  exact ⟨f, g⟩
/-- the least member, or -1 -/
def fq_mn (P : Nat → Prop) (r : Int32) : Prop := (r = -1 ∧ ∀ y, ¬ P y) ∨ ∃ l : Nat, l < 256 ∧ r = nI l ∧ P l ∧ ∀ y, P y → l ≤ y
/-- the greatest member, or -1 -/
def fq_mx (P : Nat → Prop) (r : Int32) : Prop := (r = -1 ∧ ∀ y, ¬ P y) ∨ ∃ l : Nat, l < 256 ∧ r = nI l ∧ P l ∧ ∀ y, P y → y ≤ l
/-- the members but the least -/
def fq_Q (P : Nat → Prop) (y : Nat) : Prop := P y ∧ ∃ l, P l ∧ l < y
theorem fq_ext {P P' : Nat → Prop} (h : ∀ y, P y ↔ P' y) : P = P' := funext fun y => propext (h y)
theorem fq_mnC {P P' : Nat → Prop} {r : Int32} (h : fq_mn P r) (e : ∀ y, P y ↔ P' y) : fq_mn P' r := fq_ext e ▸ h
theorem fq_mxC {P P' : Nat → Prop} {r : Int32} (h : fq_mx P r) (e : ∀ y, P y ↔ P' y) : fq_mx P' r := fq_ext e ▸ h
theorem fq_mnU {P : Nat → Prop} {r r' : Int32} (h : fq_mn P r) (h' : fq_mn P r') : r = r' := by
  rcases h with ⟨e, n⟩ | ⟨l, hl, e, p, m⟩ <;> rcases h' with ⟨e', n'⟩ | ⟨l', hl', e', p', m'⟩
  · rw [e, e']
  · exact absurd p' (n l')
  · exact absurd p (n' l)
  · have a := m l' p'
    have b := m' l p
    have c : l = l' := by omega
    rw [e, e', c]
theorem fq_mxU {P : Nat → Prop} {r r' : Int32} (h : fq_mx P r) (h' : fq_mx P r') : r = r' := by
  rcases h with ⟨e, n⟩ | ⟨l, hl, e, p, m⟩ <;> rcases h' with ⟨e', n'⟩ | ⟨l', hl', e', p', m'⟩
  · rw [e, e']
  · exact absurd p' (n l')
  · exact absurd p (n' l)
  · have a := m l' p'
    have b := m' l p
    have c : l = l' := by omega
    rw [e, e', c]
theorem fq_mn0 {P : Nat → Prop} {r : Int32} (h : fq_mn P r) : r < 0 ↔ ∀ y, ¬ P y := by
  rcases h with ⟨e, n⟩ | ⟨l, hl, e, p, m⟩
  · rw [e]
    exact ⟨fun _ => n, fun _ => by decide⟩
  · rw [e]
    exact ⟨fun z => absurd z (nI_pos (by omega)), fun z => absurd p (z l)⟩
theorem fq_mx0 {P : Nat → Prop} {r : Int32} (h : fq_mx P r) : r < 0 ↔ ∀ y, ¬ P y := by
  rcases h with ⟨e, n⟩ | ⟨l, hl, e, p, m⟩
  · rw [e]
    exact ⟨fun _ => n, fun _ => by decide⟩
  · rw [e]
    exact ⟨fun z => absurd z (nI_pos (by omega)), fun z => absurd p (z l)⟩
theorem fq_mnG {P : Nat → Prop} {r : Int32} (h : fq_mn P r) : 0 ≤ r ↔ ∃ y, P y := by
  rcases h with ⟨e, n⟩ | ⟨l, hl, e, p, m⟩
  · rw [e]
    exact ⟨fun z => absurd z (by decide), fun ⟨y, z⟩ => absurd z (n y)⟩
  · rw [e]
    exact ⟨fun _ => ⟨l, p⟩, fun _ => nI_pos' (by omega)⟩
theorem fq_mxG {P : Nat → Prop} {r : Int32} (h : fq_mx P r) : 0 ≤ r ↔ ∃ y, P y := by
  rcases h with ⟨e, n⟩ | ⟨l, hl, e, p, m⟩
  · rw [e]
    exact ⟨fun z => absurd z (by decide), fun ⟨y, z⟩ => absurd z (n y)⟩
  · rw [e]
    exact ⟨fun _ => ⟨l, p⟩, fun _ => nI_pos' (by omega)⟩
theorem fq_mle {x : Nat} (hx : x < 256) : (-1 : Int32) ≤ nI x := by
  rw [Int32.le_iff_toInt_le, fq_tm, nI_toInt (by omega)]
  omega
theorem fq_mlt {x : Nat} (hx : x < 256) : (-1 : Int32) < nI x := by
  rw [Int32.lt_iff_toInt_lt, fq_tm, nI_toInt (by omega)]
  omega
theorem fq_mnl {x : Nat} (hx : x < 256) : ¬ nI x < (-1 : Int32) := by
  rw [Int32.lt_iff_toInt_lt, fq_tm, nI_toInt (by omega)]
  omega
theorem fq_mnle {x : Nat} (hx : x < 256) : ¬ nI x ≤ (-1 : Int32) := by
  rw [Int32.le_iff_toInt_le, fq_tm, nI_toInt (by omega)]
  omega
theorem fq_mnLe {P : Nat → Prop} {r : Int32} {x : Nat} (h : fq_mn P r) (hx : x < 256) : r ≤ nI x ↔ (∀ y, ¬ P y) ∨ ∃ l, P l ∧ l ≤ x := by
  rcases h with ⟨e, n⟩ | ⟨l, hl, e, p, m⟩
  · rw [e]
    exact ⟨fun _ => Or.inl n, fun _ => fq_mle hx⟩
  · rw [e, nI_leI (by omega) (by omega)]
    exact ⟨fun z => Or.inr ⟨l, p, z⟩, fun z => z.elim (fun q => absurd p (q l)) fun ⟨w, q, t⟩ => Nat.le_trans (m w q) t⟩
theorem fq_mnLt {P : Nat → Prop} {r : Int32} {x : Nat} (h : fq_mn P r) (hx : x < 256) : r < nI x ↔ (∀ y, ¬ P y) ∨ ∃ l, P l ∧ l < x := by
  rcases h with ⟨e, n⟩ | ⟨l, hl, e, p, m⟩
  · rw [e]
    exact ⟨fun _ => Or.inl n, fun _ => fq_mlt hx⟩
  · rw [e, nI_ltI (by omega) (by omega)]
    exact ⟨fun z => Or.inr ⟨l, p, z⟩, fun z => z.elim (fun q => absurd p (q l)) fun ⟨w, q, t⟩ => Nat.lt_of_le_of_lt (m w q) t⟩
theorem fq_mxLt {P : Nat → Prop} {r : Int32} {x : Nat} (h : fq_mx P r) (hx : x < 256) : nI x < r ↔ ∃ t, P t ∧ x < t := by
  rcases h with ⟨e, n⟩ | ⟨l, hl, e, p, m⟩
  · rw [e]
    exact ⟨fun z => absurd z (fq_mnl hx), fun ⟨t, q, _⟩ => absurd q (n t)⟩
  · rw [e, nI_ltI (by omega) (by omega)]
    exact ⟨fun z => ⟨l, p, z⟩, fun ⟨w, q, t⟩ => Nat.lt_of_lt_of_le t (m w q)⟩
theorem fq_mxLe {P : Nat → Prop} {r : Int32} {x : Nat} (h : fq_mx P r) (hx : x < 256) : nI x ≤ r ↔ ∃ t, P t ∧ x ≤ t := by
  rcases h with ⟨e, n⟩ | ⟨l, hl, e, p, m⟩
  · rw [e]
    exact ⟨fun z => absurd z (fq_mnle hx), fun ⟨t, q, _⟩ => absurd q (n t)⟩
  · rw [e, nI_leI (by omega) (by omega)]
    exact ⟨fun z => ⟨l, p, z⟩, fun ⟨w, q, t⟩ => Nat.le_trans t (m w q)⟩
theorem fq_mnEq {P : Nat → Prop} {r : Int32} {x : Nat} (h : fq_mn P r) (hx : x < 256) : r = nI x ↔ P x ∧ ∀ y, P y → x ≤ y := by
  rcases h with ⟨e, n⟩ | ⟨l, hl, e, p, m⟩
  · rw [e]
    exact ⟨fun z => absurd (z ▸ (by decide : (-1 : Int32) < 0)) (nI_pos (by omega)), fun q => absurd q.1 (n x)⟩
  · rw [e, nI_eq (by omega) (by omega)]
    exact ⟨fun z => z ▸ ⟨p, m⟩, fun q => by have a := q.2 l p; have b := m x q.1; omega⟩
/-! the set without its least member -/
theorem fq_qa {P P' : Nat → Prop} {l x : Nat} (hl : P l) (hx : ¬ P x) (h : l ≤ x) (e : ∀ y, P' y ↔ P y ∨ y = x) : ∀ y, fq_Q P' y ↔ fq_Q P y ∨ y = x := by
  intro y
  have hne : l ≠ x := fun z => hx (z ▸ hl)
  constructor
  · rintro ⟨py, w, pw, wy⟩
    rcases (e y).mp py with py | py
    · refine Or.inl ⟨py, ?_⟩
      rcases (e w).mp pw with pw | pw
      · exact ⟨w, pw, wy⟩
      · exact ⟨l, hl, by omega⟩
    · exact Or.inr py
  · rintro (⟨py, w, pw, wy⟩ | rfl)
    · exact ⟨(e y).mpr (Or.inl py), w, (e w).mpr (Or.inl pw), wy⟩
    · exact ⟨(e y).mpr (Or.inr rfl), l, (e l).mpr (Or.inl hl), by omega⟩
theorem fq_qb {P P' : Nat → Prop} {l x : Nat} (hl : P l) (hm : ∀ y, P y → l ≤ y) (h : x < l) (e : ∀ y, P' y ↔ P y ∨ y = x) : ∀ y, fq_Q P' y ↔ fq_Q P y ∨ y = l := by
  intro y
  constructor
  · rintro ⟨py, w, pw, wy⟩
    rcases (e y).mp py with py | py
    · have a := hm y py
      by_cases z : y = l
      · exact Or.inr z
      · exact Or.inl ⟨py, l, hl, by omega⟩
    · rcases (e w).mp pw with pw | pw
      · have a := hm w pw
        omega
      · omega
  · rintro (⟨py, w, pw, wy⟩ | rfl)
    · exact ⟨(e y).mpr (Or.inl py), w, (e w).mpr (Or.inl pw), wy⟩
    · exact ⟨(e y).mpr (Or.inl hl), x, (e x).mpr (Or.inr rfl), h⟩
theorem fq_qc {P P' : Nat → Prop} {x g : Nat} (hx : P x) (hm : ∀ y, P y → x ≤ y) (hg : fq_Q P g) (hgm : ∀ y, fq_Q P y → g ≤ y) (e : ∀ y, P' y ↔ P y ∧ y ≠ x) : ∀ y, fq_Q P' y ↔ fq_Q P y ∧ y ≠ g := by
  obtain ⟨pg, w0, pw0, wg⟩ := hg
  have hxg : x < g := by have a := hm w0 pw0; omega
  intro y
  constructor
  · rintro ⟨py, w, pw, wy⟩
    obtain ⟨py, ny⟩ := (e y).mp py
    obtain ⟨pw, nw⟩ := (e w).mp pw
    have a := hm w pw
    have b := hgm w ⟨pw, x, hx, by omega⟩
    exact ⟨⟨py, w, pw, wy⟩, by omega⟩
  · rintro ⟨⟨py, w, pw, wy⟩, ny⟩
    have a := hm w pw
    have b := hgm y ⟨py, w, pw, wy⟩
    exact ⟨(e y).mpr ⟨py, by omega⟩, g, (e g).mpr ⟨pg, by omega⟩, by omega⟩
theorem fq_qd {P P' : Nat → Prop} {l x : Nat} (hl : P l) (hm : ∀ y, P y → l ≤ y) (hx : x ≠ l) (e : ∀ y, P' y ↔ P y ∧ y ≠ x) : ∀ y, fq_Q P' y ↔ fq_Q P y ∧ y ≠ x := by
  intro y
  constructor
  · rintro ⟨py, w, pw, wy⟩
    obtain ⟨py, ny⟩ := (e y).mp py
    obtain ⟨pw, nw⟩ := (e w).mp pw
    exact ⟨⟨py, w, pw, wy⟩, ny⟩
  · rintro ⟨⟨py, w, pw, wy⟩, ny⟩
    have a := hm w pw
    exact ⟨(e y).mpr ⟨py, ny⟩, l, (e l).mpr ⟨hl, fun z => hx z.symm⟩, by omega⟩
/-- the least of the rest is the least once the least is gone -/
theorem fq_qe {P P' : Nat → Prop} {x : Nat} {r : Int32} (hx : P x) (hm : ∀ y, P y → x ≤ y) (e : ∀ y, P' y ↔ P y ∧ y ≠ x) (h : fq_mn (fq_Q P) r) : fq_mn P' r := by
  refine fq_mnC h fun y => ⟨?_, ?_⟩
  · rintro ⟨py, w, pw, wy⟩
    have a := hm w pw
    exact (e y).mpr ⟨py, by omega⟩
  · intro py
    obtain ⟨py, ny⟩ := (e y).mp py
    have a := hm y py
    exact ⟨py, x, hx, by omega⟩
theorem fq_qf {P P' : Nat → Prop} {x : Nat} {r : Int32} (hr : ¬ r = nI x) (h : fq_mn P r) (e : ∀ y, P' y ↔ P y ∧ y ≠ x) : fq_mn P' r := by
  rcases h with ⟨z, n⟩ | ⟨l, hl, z, p, m⟩
  · exact Or.inl ⟨z, fun y q => n y ((e y).mp q).1⟩
  · exact Or.inr ⟨l, hl, z, (e l).mpr ⟨p, fun q => hr (by rw [z, q])⟩, fun y q => m y ((e y).mp q).1⟩
/-- nothing beside the least: the least is the greatest -/
theorem fq_qg {P : Nat → Prop} {r : Int32} (h : fq_mn P r) (hq : ∀ y, ¬ fq_Q P y) : fq_mx P r := by
  rcases h with ⟨z, n⟩ | ⟨l, hl, z, p, m⟩
  · exact Or.inl ⟨z, n⟩
  · refine Or.inr ⟨l, hl, z, p, fun y q => ?_⟩
    rcases Nat.lt_or_ge l y with t | t
    · exact absurd ⟨q, l, p, t⟩ (hq y)
    · exact t
theorem fq_qh {P : Nat → Prop} {r : Int32} (h : fq_mx (fq_Q P) r) (hq : ¬ ∀ y, ¬ fq_Q P y) : fq_mx P r := by
  rcases h with ⟨z, n⟩ | ⟨l, hl, z, p, m⟩
  · exact absurd n hq
  · refine Or.inr ⟨l, hl, z, p.1, fun y q => ?_⟩
    rcases Nat.lt_or_ge l y with t | t
    · exact m y ⟨q, l, p.1, t⟩
    · exact t
/-! counting -/
noncomputable def fq_cnt (P : Nat → Prop) : Nat → Nat
  | 0 => 0
  | n + 1 => fq_cnt P n + @ite Nat (P n) (Classical.propDecidable (P n)) 1 0
theorem fq_cy {P : Nat → Prop} {n : Nat} (h : P n) : fq_cnt P (n + 1) = fq_cnt P n + 1 := by
  show fq_cnt P n + @ite Nat (P n) (Classical.propDecidable (P n)) 1 0 = _
  rw [if_pos h]
theorem fq_cn {P : Nat → Prop} {n : Nat} (h : ¬ P n) : fq_cnt P (n + 1) = fq_cnt P n := by
  show fq_cnt P n + @ite Nat (P n) (Classical.propDecidable (P n)) 1 0 = _
  rw [if_neg h, Nat.add_zero]
theorem fq_cc {P P' : Nat → Prop} (n : Nat) (h : ∀ y, y < n → (P y ↔ P' y)) : fq_cnt P n = fq_cnt P' n := by
  induction n with
  | zero => rfl
  | succ n ih =>
    have t := ih fun y hy => h y (by omega)
    by_cases p : P n
    · rw [fq_cy p, fq_cy ((h n (by omega)).mp p), t]
    · rw [fq_cn p, fq_cn (fun q => p ((h n (by omega)).mpr q)), t]
theorem fq_ca {P P' : Nat → Prop} {x : Nat} (hx : ¬ P x) (n : Nat) (hn : x < n) (h : ∀ y, y < n → (P' y ↔ P y ∨ y = x)) : fq_cnt P' n = fq_cnt P n + 1 := by
  induction n with
  | zero => omega
  | succ n ih =>
    by_cases e : x = n
    · have p' : P' n := (h n (by omega)).mpr (Or.inr e.symm)
      have q' : ¬ P n := e ▸ hx
      have t : fq_cnt P' n = fq_cnt P n := fq_cc n fun y hy => ⟨fun q => ((h y (by omega)).mp q).resolve_right (by omega), fun q => (h y (by omega)).mpr (Or.inl q)⟩
      rw [fq_cy p', fq_cn q', t]
    · have t := ih (by omega) fun y hy => h y (by omega)
      by_cases p : P n
      · rw [fq_cy p, fq_cy ((h n (by omega)).mpr (Or.inl p)), t]
      · have q' : ¬ P' n := fun q => ((h n (by omega)).mp q).elim p (fun z => e z.symm)
        rw [fq_cn p, fq_cn q', t]
theorem fq_cm {P : Nat → Prop} {m n : Nat} (h : m ≤ n) : fq_cnt P m ≤ fq_cnt P n := by
  induction n with
  | zero =>
    have e : m = 0 := by omega
    rw [e]
    exact Nat.le_refl _
  | succ n ih =>
    by_cases e : m = n + 1
    · rw [e]
      exact Nat.le_refl _
    · have t := ih (by omega)
      by_cases p : P n
      · rw [fq_cy p]
        omega
      · rw [fq_cn p]
        exact t
theorem fq_cg {P : Nat → Prop} {m n : Nat} (h : m ≤ n) (hg : ∀ y, m ≤ y → y < n → ¬ P y) : fq_cnt P n = fq_cnt P m := by
  induction n with
  | zero =>
    have e : m = 0 := by omega
    rw [e]
  | succ n ih =>
    by_cases e : m = n + 1
    · rw [e]
    · rw [fq_cn (hg n (by omega) (by omega))]
      exact ih (by omega) fun y a b => hg y a (by omega)
theorem fq_cb {P : Nat → Prop} (n : Nat) : fq_cnt P n ≤ n := by
  induction n with
  | zero => exact Nat.le_refl _
  | succ n ih =>
    by_cases p : P n
    · rw [fq_cy p]
      omega
    · rw [fq_cn p]
      omega
theorem fq_clt {P : Nat → Prop} {y n : Nat} (h : P y) (hn : y < n) : fq_cnt P y < fq_cnt P n := by
  have a := fq_cy h
  have b := fq_cm (P := P) (show y + 1 ≤ n from hn)
  omega
/-- the member with as many members below it is the same one -/
theorem fq_cinj {P : Nat → Prop} {y w : Nat} (h : P y) (h' : P w) (e : fq_cnt P y = fq_cnt P w) : y = w := by
  rcases Nat.lt_trichotomy y w with t | t | t
  · have a := fq_clt h t
    omega
  · exact t
  · have a := fq_clt h' t
    omega
theorem fq_cins {P P' : Nat → Prop} {x n : Nat} (h : ∀ y, P' y ↔ P y ∨ y = x) : fq_cnt P' n ≤ fq_cnt P n + 1 ∧ (n ≤ x → fq_cnt P' n = fq_cnt P n) := by
  by_cases hn : x < n
  · refine ⟨?_, fun z => absurd z (by omega)⟩
    by_cases p : P x
    · have t : fq_cnt P' n = fq_cnt P n := fq_cc n fun y _ => ⟨fun q => ((h y).mp q).elim id (fun z => z ▸ p), fun q => (h y).mpr (Or.inl q)⟩
      omega
    · have t := fq_ca p n hn (P' := P') fun y _ => h y
      omega
  · have t : fq_cnt P' n = fq_cnt P n := fq_cc n fun y hy => ⟨fun q => ((h y).mp q).resolve_right (by omega), fun q => (h y).mpr (Or.inl q)⟩
    exact ⟨by omega, fun _ => t⟩
end
section
/-! four bits in an int -/
def fq_N (Q : Nat → Prop) (x : Int32) : Prop := ∃ v : Nat, v < 16 ∧ x = nI v ∧ ∀ j, j < 4 → (v.testBit j = true ↔ Q j)
theorem fq_n0 : ∀ v, v < 16 → (nI v = 0 ↔ ∀ j, j < 4 → ¬ v.testBit j = true) := by decide +kernel
theorem fq_n1 : ∀ v, v < 16 → ((nI v &&& 3 = 0 ↔ ¬ v.testBit 0 = true ∧ ¬ v.testBit 1 = true) ∧ (nI v &&& 1 = 0 ↔ ¬ v.testBit 0 = true) ∧ (nI v &&& 4 = 0 ↔ ¬ v.testBit 2 = true) ∧ (nI v &&& 12 = 0 ↔ ¬ v.testBit 2 = true ∧ ¬ v.testBit 3 = true) ∧ (nI v &&& 8 = 0 ↔ ¬ v.testBit 3 = true) ∧ (nI v &&& 2 = 0 ↔ ¬ v.testBit 1 = true)) := by decide +kernel
theorem fq_n2 : ∀ v, v < 16 → ∀ s, s < 4 → ((nI v &&& ((14 : Int32) <<< (nI s &&& 31))) &&& 15 = nI ((v &&& 14 * 2 ^ s) % 16) ∧ ∀ j, j < 4 → (((v &&& 14 * 2 ^ s) % 16).testBit j = true ↔ v.testBit j = true ∧ s < j)) := by decide +kernel
theorem fq_n3 : ∀ v, v < 16 → ∀ s, s < 4 → (nI v &&& (((1 : Int32) <<< (nI s &&& 31)) - 1) = nI ((v &&& (2 ^ s - 1)) % 16) ∧ ∀ j, j < 4 → (((v &&& (2 ^ s - 1)) % 16).testBit j = true ↔ v.testBit j = true ∧ j < s)) := by decide +kernel
theorem fq_n4 : ∀ v, v < 16 → ∀ s, s < 4 → ((nI v ||| ((1 : Int32) <<< (nI s &&& 31))).toInt8.toInt32 = nI ((v ||| 2 ^ s) % 16) ∧ ∀ j, j < 4 → (((v ||| 2 ^ s) % 16).testBit j = true ↔ v.testBit j = true ∨ j = s)) := by decide +kernel
theorem fq_n5 : ∀ v, v < 16 → ∀ s, s < 4 → ((nI v &&& (((1 : Int32) <<< (nI s &&& 31)) ^^^ (-1))).toInt8.toInt32 = nI ((v &&& (15 - 2 ^ s)) % 16) ∧ ∀ j, j < 4 → (((v &&& (15 - 2 ^ s)) % 16).testBit j = true ↔ v.testBit j = true ∧ j ≠ s)) := by decide +kernel
theorem fq_n6 : ∀ v, v < 16 → ∀ s, s < 4 → (((nI v >>> (nI s &&& 31)) &&& 1) = 0 ↔ ¬ v.testBit s = true) := by decide +kernel
theorem fq_x16 : ∀ x, x < 16 → (nI x &&& 3 = nI (x % 4) ∧ nI x >>> ((2 : Int32) &&& 31) = nI (x / 4) ∧ (nI x).toInt8.toInt32 = nI x) := by decide +kernel
theorem fq_x256 : ∀ x, x < 256 → (nI x &&& 15 = nI (x % 16) ∧ nI x >>> ((4 : Int32) &&& 31) = nI (x / 16)) := by decide +kernel
theorem fq_xm : (-1 : Int32).toInt8.toInt32 = -1 := by decide +kernel
theorem fq_ix (c k : Nat) : nI c * 4 + nI k = nI (c * 4 + k) := by
  have t : nI c * nI 4 + nI k = nI (c * 4 + k) := by rw [pk_mul, nI_add]
  exact t
theorem fq_i4 (c k : Nat) : 4 * nI c + nI k = nI (4 * c + k) := by
  have t : nI 4 * nI c + nI k = nI (4 * c + k) := by rw [pk_mul, nI_add]
  exact t
theorem fq_i16 (c k : Nat) : 16 * nI c + nI k = nI (16 * c + k) := by
  have t : nI 16 * nI c + nI k = nI (16 * c + k) := by rw [pk_mul, nI_add]
  exact t
theorem fq_vi {c i : Nat} (hc : c < 17) (hi : i < 4) : vp_in (nI c * 4 + nI i) 68 := by
  rw [fq_ix]
  exact vp_in_nI (by omega) (by decide)
theorem fq_ci {c i : Nat} (hc : c < 17) (hi : i < 4) : (nI c * 4 + nI i).toNatClampNeg = c * 4 + i := by
  rw [fq_ix]
  exact nI_clamp (by omega)
theorem fq_NC {Q Q' : Nat → Prop} {x : Int32} (h : fq_N Q x) (e : ∀ j, j < 4 → (Q j ↔ Q' j)) : fq_N Q' x := by
  obtain ⟨v, hv, ex, hb⟩ := h
  exact ⟨v, hv, ex, fun j hj => (hb j hj).trans (e j hj)⟩
theorem fq_Nz {Q : Nat → Prop} {x : Int32} (h : fq_N Q x) : x = 0 ↔ ∀ j, j < 4 → ¬ Q j := by
  obtain ⟨v, hv, ex, hb⟩ := h
  rw [ex, fq_n0 v hv]
  exact ⟨fun z j hj q => z j hj ((hb j hj).mpr q), fun z j hj q => z j hj ((hb j hj).mp q)⟩
theorem fq_Nup {Q : Nat → Prop} {x : Int32} {s : Nat} (h : fq_N Q x) (hs : s < 4) : fq_N (fun j => Q j ∧ s < j) ((x &&& ((14 : Int32) <<< (nI s &&& 31))) &&& 15) := by
  obtain ⟨v, hv, ex, hb⟩ := h
  obtain ⟨e, f⟩ := fq_n2 v hv s hs
  rw [ex]
  exact ⟨_, Nat.mod_lt _ (by decide), e, fun j hj => by rw [f j hj, hb j hj]⟩
theorem fq_Ndn {Q : Nat → Prop} {x : Int32} {s : Nat} (h : fq_N Q x) (hs : s < 4) : fq_N (fun j => Q j ∧ j < s) (x &&& (((1 : Int32) <<< (nI s &&& 31)) - 1)) := by
  obtain ⟨v, hv, ex, hb⟩ := h
  obtain ⟨e, f⟩ := fq_n3 v hv s hs
  rw [ex]
  exact ⟨_, Nat.mod_lt _ (by decide), e, fun j hj => by rw [f j hj, hb j hj]⟩
theorem fq_Npu {Q : Nat → Prop} {x : Int32} {s : Nat} (h : fq_N Q x) (hs : s < 4) : fq_N (fun j => Q j ∨ j = s) ((x ||| ((1 : Int32) <<< (nI s &&& 31))).toInt8.toInt32) := by
  obtain ⟨v, hv, ex, hb⟩ := h
  obtain ⟨e, f⟩ := fq_n4 v hv s hs
  rw [ex]
  exact ⟨_, Nat.mod_lt _ (by decide), e, fun j hj => by rw [f j hj, hb j hj]⟩
theorem fq_Nta {Q : Nat → Prop} {x : Int32} {s : Nat} (h : fq_N Q x) (hs : s < 4) : fq_N (fun j => Q j ∧ j ≠ s) ((x &&& (((1 : Int32) <<< (nI s &&& 31)) ^^^ (-1))).toInt8.toInt32) := by
  obtain ⟨v, hv, ex, hb⟩ := h
  obtain ⟨e, f⟩ := fq_n5 v hv s hs
  rw [ex]
  exact ⟨_, Nat.mod_lt _ (by decide), e, fun j hj => by rw [f j hj, hb j hj]⟩
theorem fq_Nbi {Q : Nat → Prop} {x : Int32} {s : Nat} (h : fq_N Q x) (hs : s < 4) : ((x >>> (nI s &&& 31)) &&& 1) = 0 ↔ ¬ Q s := by
  obtain ⟨v, hv, ex, hb⟩ := h
  rw [ex, fq_n6 v hv s hs, hb s hs]
theorem fq_lo {post : Int32 → Prop} {Q : Nat → Prop} {x : Int32} (h : fq_N Q x) (h0 : ∃ j, j < 4 ∧ Q j) (H : ∀ k, k < 4 → Q k → (∀ j, j < 4 → Q j → k ≤ j) → post (nI k)) : wpX_lowest post () x := by
  obtain ⟨v, hv, ex, hb⟩ := h
  obtain ⟨e3, e1, e4, e12, e8, e2⟩ := fq_n1 v hv
  rw [hb 0 (by decide), hb 1 (by decide)] at e3
  rw [hb 2 (by decide)] at e4
  rw [hb 0 (by decide)] at e1
  rw [ex]
  unfold wpX_lowest
  refine ek_if e3 (fun a => ek_if e4 (fun b => ?_) (fun b => ?_)) (fun a => ek_if e1 (fun b => ?_) (fun b => ?_))
  · have q3 : Q 3 := by
      obtain ⟨j, hj, q⟩ := h0
      exact co_4 (P := fun j => Q j → Q 3) (fun q => absurd q a.1) (fun q => absurd q a.2) (fun q => absurd q b) (fun q => q) hj q
    exact H 3 (by decide) q3 fun j hj => co_4 (P := fun j => Q j → 3 ≤ j) (fun q => absurd q a.1) (fun q => absurd q a.2) (fun q => absurd q b) (fun _ => by decide) hj
  · exact H 2 (by decide) (Classical.not_not.mp b) fun j hj => co_4 (P := fun j => Q j → 2 ≤ j) (fun q => absurd q a.1) (fun q => absurd q a.2) (fun _ => by decide) (fun _ => by decide) hj
  · have q1 : Q 1 := Classical.byContradiction fun z => a ⟨b, z⟩
    exact H 1 (by decide) q1 fun j hj => co_4 (P := fun j => Q j → 1 ≤ j) (fun q => absurd q b) (fun _ => by decide) (fun _ => by decide) (fun _ => by decide) hj
  · exact H 0 (by decide) (Classical.not_not.mp b) fun j hj _ => Nat.zero_le j
theorem fq_hi {post : Int32 → Prop} {Q : Nat → Prop} {x : Int32} (h : fq_N Q x) (h0 : ∃ j, j < 4 ∧ Q j) (H : ∀ k, k < 4 → Q k → (∀ j, j < 4 → Q j → j ≤ k) → post (nI k)) : wpX_highest post () x := by
  obtain ⟨v, hv, ex, hb⟩ := h
  obtain ⟨e3, e1, e4, e12, e8, e2⟩ := fq_n1 v hv
  rw [hb 2 (by decide), hb 3 (by decide)] at e12
  rw [hb 1 (by decide)] at e2
  rw [hb 3 (by decide)] at e8
  rw [ex]
  unfold wpX_highest
  refine ek_if e12 (fun a => ek_if e2 (fun b => ?_) (fun b => ?_)) (fun a => ek_if e8 (fun b => ?_) (fun b => ?_))
  · have q0 : Q 0 := by
      obtain ⟨j, hj, q⟩ := h0
      exact co_4 (P := fun j => Q j → Q 0) (fun q => q) (fun q => absurd q b) (fun q => absurd q a.1) (fun q => absurd q a.2) hj q
    exact H 0 (by decide) q0 fun j hj => co_4 (P := fun j => Q j → j ≤ 0) (fun _ => by decide) (fun q => absurd q b) (fun q => absurd q a.1) (fun q => absurd q a.2) hj
  · exact H 1 (by decide) (Classical.not_not.mp b) fun j hj => co_4 (P := fun j => Q j → j ≤ 1) (fun _ => by decide) (fun _ => by decide) (fun q => absurd q a.1) (fun q => absurd q a.2) hj
  · have q2 : Q 2 := Classical.byContradiction fun z => a ⟨z, b⟩
    exact H 2 (by decide) q2 fun j hj => co_4 (P := fun j => Q j → j ≤ 2) (fun _ => by decide) (fun _ => by decide) (fun _ => by decide) (fun q => absurd q b) hj
  · exact H 3 (by decide) (Classical.not_not.mp b) fun j hj _ => by omega
end
section
/-! a cluster of sixteen: what it holds, and the methods that only read it -/
/-- the parts and the bits hold Q -/
def fq_D (Q : Nat → Prop) (pt : Int32) (b : Nat → Int32) : Prop := fq_N (fun i => ∃ j, j < 4 ∧ Q (4 * i + j)) pt ∧ ∀ i, i < 4 → fq_N (fun j => Q (4 * i + j)) (b i)
/-- the cluster holds P -/
def fq_C (P : Nat → Prop) (lo hi pt : Int32) (b : Nat → Int32) : Prop := (∀ y, P y → y < 16) ∧ fq_mn P lo ∧ fq_mx P hi ∧ fq_D (fq_Q P) pt b
theorem fq_DC {Q Q' : Nat → Prop} {pt : Int32} {b : Nat → Int32} (h : fq_D Q pt b) (e : ∀ y, Q y ↔ Q' y) : fq_D Q' pt b := fq_ext e ▸ h
theorem fq_some {Q : Nat → Prop} (z : ¬ ∀ j, j < 4 → ¬ Q j) : ∃ j, j < 4 ∧ Q j := Classical.byContradiction fun q => z fun j hj qj => q ⟨j, hj, qj⟩
theorem fq_some' {Q : Nat → Prop} (z : ¬ ∀ j, ¬ Q j) : ∃ j, Q j := Classical.byContradiction fun q => z fun j qj => q ⟨j, qj⟩
section
variable {post : Int32 → Prop} {l g n : Int32} {a1 a2 a3 a4 : Nat → Int32} {P Q : Nat → Prop} {c x : Nat}
theorem fq_afterIn (hc : c < 17) (hx : x < 16) (h : fq_C P (a1 c) (a2 c) (a3 c) (fun i => a4 (c * 4 + i))) (H : ∀ r, fq_mn (fun y => P y ∧ x < y) r → post r) : wpX_afterIn post (l, g, n, a1, a2, a3, a4) (nI c) (nI x) := by
  obtain ⟨hb, hlo, hhi, hp, hn⟩ := h
  have ec : (nI c).toNatClampNeg = c := nI_clamp (by omega)
  have vc : vp_in (nI c) 17 := vp_in_nI hc (by decide)
  obtain ⟨e1, e2, -⟩ := fq_x16 x hx
  have hx4 : x / 4 < 4 := by omega
  have hm4 : x % 4 < 4 := by omega
  have ei := fq_ci hc hx4
  unfold wpX_afterIn
  try dsimp only
  rw [ec, e1]
  refine ⟨vc, ek_if (fq_mnLe hlo (by omega)) (fun h1 => ⟨vc, ek_if (fq_mxLt hhi (by omega)) (fun h2 => nm_r e2 ⟨fq_vi hc hx4, ?_⟩) (fun h2 => H _ (Or.inl ⟨rfl, fun y hy => h2 ⟨y, hy.1, hy.2⟩⟩))⟩) (fun h1 => ⟨vc, H _ ?_⟩)⟩
  · obtain ⟨t, pt, xt⟩ := h2
    obtain ⟨w, pw, wx⟩ := h1.resolve_left (fun z => z t pt)
    have hq : ∀ y, P y → x < y → fq_Q P (4 * (y / 4) + y % 4) := fun y py hy => by
      rw [Nat.div_add_mod]
      exact ⟨py, w, pw, by omega⟩
    intro x4 e4
    rw [ei] at e4
    have N1 : fq_N (fun j => fq_Q P (4 * (x / 4) + j) ∧ x % 4 < j) x4 := by
      rw [e4]
      exact fq_Nup (hn (x / 4) hx4) hm4
    refine ek_if (fq_Nz N1) (fun z => ⟨vc, ?_⟩) (fun z => ?_)
    · intro x5 e5
      have N2 : fq_N (fun i => (∃ j, j < 4 ∧ fq_Q P (4 * i + j)) ∧ x / 4 < i) x5 := by
        rw [e5]
        exact fq_Nup hp hx4
      have hz : ∀ y, P y → x < y → x / 4 < y / 4 := fun y py hy => by
        rcases Nat.lt_or_ge (x / 4) (y / 4) with q | q
        · exact q
        · have e : y / 4 = x / 4 := by omega
          have a := hq y py hy
          rw [e] at a
          exact absurd ⟨a, by omega⟩ (z (y % 4) (by omega))
      have ht := hb t pt
      refine fq_lo N2 ⟨t / 4, by omega, ⟨t % 4, by omega, hq t pt xt⟩, hz t pt xt⟩ (fun i hi q m => ⟨fq_vi hc hi, ?_⟩)
      intro x6 e6
      rw [fq_ci hc hi] at e6
      have N3 : fq_N (fun j => fq_Q P (4 * i + j)) x6 := by
        rw [e6]
        exact hn i hi
      obtain ⟨q1, q2⟩ := q
      refine fq_lo N3 q1 (fun k hk qk mk => H _ ?_)
      rw [fq_i4]
      refine Or.inr ⟨4 * i + k, by omega, rfl, ⟨qk.1, by omega⟩, ?_⟩
      rintro y ⟨py, hy⟩
      have a := hb y py
      have b := hz y py hy
      have c1 := m (y / 4) (by omega) ⟨⟨y % 4, by omega, hq y py hy⟩, b⟩
      rcases Nat.lt_or_ge i (y / 4) with d | d
      · omega
      · have e : y / 4 = i := by omega
        have f := hq y py hy
        rw [e] at f
        have f2 := mk (y % 4) (by omega) f
        omega
    · refine fq_lo N1 (fq_some z) (fun k hk qk mk => H _ ?_)
      obtain ⟨qk, xk⟩ := qk
      rw [fq_i4]
      refine Or.inr ⟨4 * (x / 4) + k, by omega, rfl, ⟨qk.1, by omega⟩, ?_⟩
      rintro y ⟨py, hy⟩
      rcases Nat.lt_or_ge (x / 4) (y / 4) with d | d
      · omega
      · have e : y / 4 = x / 4 := by omega
        have f := hq y py hy
        rw [e] at f
        have f2 := mk (y % 4) (by omega) ⟨f, by omega⟩
        omega
  · rcases hlo with ⟨e, z⟩ | ⟨w, hw, e, pw, mw⟩
    · exact absurd (Or.inl z) h1
    · refine Or.inr ⟨w, hw, e, ⟨pw, ?_⟩, fun y hy => mw y hy.1⟩
      rcases Nat.lt_or_ge x w with q | q
      · exact q
      · exact absurd (Or.inr ⟨w, pw, q⟩) h1
theorem fq_beforeIn (hc : c < 17) (hx : x < 16) (h : fq_C P (a1 c) (a2 c) (a3 c) (fun i => a4 (c * 4 + i))) (H : ∀ r, fq_mx (fun y => P y ∧ y < x) r → post r) : wpX_beforeIn post (l, g, n, a1, a2, a3, a4) (nI c) (nI x) := by
  obtain ⟨hb, hlo, hhi, hp, hn⟩ := h
  have ec : (nI c).toNatClampNeg = c := nI_clamp (by omega)
  have vc : vp_in (nI c) 17 := vp_in_nI hc (by decide)
  obtain ⟨e1, e2, -⟩ := fq_x16 x hx
  have hx4 : x / 4 < 4 := by omega
  have hm4 : x % 4 < 4 := by omega
  have ei := fq_ci hc hx4
  unfold wpX_beforeIn
  try dsimp only
  rw [ec, e1]
  refine ⟨vc, ek_if (fq_mn0 hlo) (fun h1 => H _ (Or.inl ⟨rfl, fun y hy => h1 y hy.1⟩)) (fun h1 => ⟨vc, ek_if (fq_mnLt hlo (by omega)) (fun h2 => ⟨vc, ek_if (fq_mxLe hhi (by omega)) (fun h3 => nm_r e2 ⟨fq_vi hc hx4, ?_⟩) (fun h3 => ⟨vc, H _ ?_⟩)⟩) (fun h2 => H _ (Or.inl ⟨rfl, fun y hy => h2 (Or.inr ⟨y, hy.1, hy.2⟩)⟩))⟩)⟩
  · obtain ⟨w, pw, wx⟩ := h2.resolve_left h1
    rcases hlo with ⟨_, q⟩ | ⟨lw, hlw, el, pl, ml⟩
    · exact absurd q h1
    have hlx : lw < x := Nat.lt_of_le_of_lt (ml w pw) wx
    have hq : ∀ y, P y → y ≠ lw → fq_Q P (4 * (y / 4) + y % 4) := fun y py hy => by
      have a := ml y py
      rw [Nat.div_add_mod]
      exact ⟨py, lw, pl, by omega⟩
    intro x4 e4
    rw [ei] at e4
    have N1 : fq_N (fun j => fq_Q P (4 * (x / 4) + j) ∧ j < x % 4) x4 := by
      rw [e4]
      exact fq_Ndn (hn (x / 4) hx4) hm4
    refine ek_if (fq_Nz N1) (fun z => ⟨vc, ?_⟩) (fun z => ?_)
    · intro x5 e5
      have N2 : fq_N (fun i => (∃ j, j < 4 ∧ fq_Q P (4 * i + j)) ∧ i < x / 4) x5 := by
        rw [e5]
        exact fq_Ndn hp hx4
      have hz : ∀ y, P y → y ≠ lw → y < x → y / 4 < x / 4 := fun y py ny hy => by
        rcases Nat.lt_or_ge (y / 4) (x / 4) with q | q
        · exact q
        · have e : y / 4 = x / 4 := by omega
          have a := hq y py ny
          rw [e] at a
          exact absurd ⟨a, by omega⟩ (z (y % 4) (by omega))
      refine ek_if (fq_Nz N2) (fun z2 => ⟨vc, H _ ?_⟩) (fun z2 => ?_)
      · refine Or.inr ⟨lw, hlw, el, ⟨pl, hlx⟩, ?_⟩
        rintro y ⟨py, hy⟩
        by_cases ny : y = lw
        · omega
        · have a := hb y py
          exact absurd ⟨⟨y % 4, by omega, hq y py ny⟩, hz y py ny hy⟩ (z2 (y / 4) (by omega))
      · refine fq_hi N2 (fq_some z2) (fun i hi q m => ⟨fq_vi hc hi, ?_⟩)
        intro x6 e6
        rw [fq_ci hc hi] at e6
        have N3 : fq_N (fun j => fq_Q P (4 * i + j)) x6 := by
          rw [e6]
          exact hn i hi
        obtain ⟨q1, q2⟩ := q
        refine fq_hi N3 q1 (fun k hk qk mk => H _ ?_)
        rw [fq_i4]
        refine Or.inr ⟨4 * i + k, by omega, rfl, ⟨qk.1, by omega⟩, ?_⟩
        rintro y ⟨py, hy⟩
        by_cases ny : y = lw
        · rw [ny]
          exact ml _ qk.1
        · have b := hz y py ny hy
          have c1 := m (y / 4) (by omega) ⟨⟨y % 4, by omega, hq y py ny⟩, b⟩
          rcases Nat.lt_or_ge (y / 4) i with d | d
          · omega
          · have e : y / 4 = i := by omega
            have f := hq y py ny
            rw [e] at f
            have f2 := mk (y % 4) (by omega) f
            omega
    · refine fq_hi N1 (fq_some z) (fun k hk qk mk => H _ ?_)
      obtain ⟨qk, xk⟩ := qk
      rw [fq_i4]
      refine Or.inr ⟨4 * (x / 4) + k, by omega, rfl, ⟨qk.1, by omega⟩, ?_⟩
      rintro y ⟨py, hy⟩
      by_cases ny : y = lw
      · rw [ny]
        exact ml _ qk.1
      · rcases Nat.lt_or_ge (y / 4) (x / 4) with d | d
        · omega
        · have e : y / 4 = x / 4 := by omega
          have f := hq y py ny
          rw [e] at f
          have f2 := mk (y % 4) (by omega) ⟨f, by omega⟩
          omega
  · rcases hhi with ⟨e, z⟩ | ⟨w, hw, e, pw, mw⟩
    · exact absurd z h1
    · refine Or.inr ⟨w, hw, e, ⟨pw, ?_⟩, fun y hy => mw y hy.1⟩
      rcases Nat.lt_or_ge w x with q | q
      · exact q
      · exact absurd ⟨w, pw, q⟩ h3
theorem fq_inCluster (hc : c < 17) (hx : x < 16) (h : fq_C P (a1 c) (a2 c) (a3 c) (fun i => a4 (c * 4 + i))) (H1 : P x → post 1) (H0 : ¬ P x → post 0) : wpX_inCluster post (l, g, n, a1, a2, a3, a4) (nI c) (nI x) := by
  obtain ⟨hb, hlo, hhi, hp, hn⟩ := h
  have ec : (nI c).toNatClampNeg = c := nI_clamp (by omega)
  have vc : vp_in (nI c) 17 := vp_in_nI hc (by decide)
  obtain ⟨e1, e2, -⟩ := fq_x16 x hx
  have hx4 : x / 4 < 4 := by omega
  have hm4 : x % 4 < 4 := by omega
  have ei := fq_ci hc hx4
  unfold wpX_inCluster
  try dsimp only
  rw [ec, e1, e2, ei]
  have N1 : ((a4 (c * 4 + x / 4) >>> (nI (x % 4) &&& 31)) &&& 1) = 0 ↔ ¬ fq_Q P (4 * (x / 4) + x % 4) := fq_Nbi (hn (x / 4) hx4) hm4
  rw [Nat.div_add_mod] at N1
  refine ⟨vc, ek_if (fq_mnEq hlo (by omega)) (fun h1 => H1 h1.1) (fun h1 => ⟨fq_vi hc hx4, ek_if N1 (fun h2 => H0 fun px => ?_) (fun h2 => H1 (Classical.not_not.mp h2).1)⟩)⟩
  refine h1 ⟨px, fun y py => ?_⟩
  rcases Nat.lt_or_ge y x with q | q
  · exact absurd ⟨px, y, py, q⟩ h2
  · exact q
theorem fq_leastIn (hc : c < 17) (hb : ∀ y, Q y → y < 16) (h : fq_D Q (a3 c) (fun i => a4 (c * 4 + i))) (H : ∀ r, fq_mn Q r → post r) : wpX_leastInParts post (l, g, n, a1, a2, a3, a4) (nI c) := by
  obtain ⟨hp, hn⟩ := h
  have ec : (nI c).toNatClampNeg = c := nI_clamp (by omega)
  have vc : vp_in (nI c) 17 := vp_in_nI hc (by decide)
  have hs : ∀ y, Q y → Q (4 * (y / 4) + y % 4) := fun y q => by
    rw [Nat.div_add_mod]
    exact q
  unfold wpX_leastInParts
  try dsimp only
  rw [ec]
  refine ⟨vc, ek_if (fq_Nz hp) (fun z => H _ (Or.inl ⟨rfl, fun y q => ?_⟩)) (fun z => ⟨vc, fq_lo hp (fq_some z) (fun i hi q m => ⟨fq_vi hc hi, ?_⟩)⟩)⟩
  · have a := hb y q
    exact z (y / 4) (by omega) ⟨y % 4, by omega, hs y q⟩
  · intro x6 e6
    rw [fq_ci hc hi] at e6
    have N3 : fq_N (fun j => Q (4 * i + j)) x6 := by
      rw [e6]
      exact hn i hi
    refine fq_lo N3 q (fun k hk qk mk => H _ ?_)
    rw [fq_i4]
    refine Or.inr ⟨4 * i + k, by omega, rfl, qk, fun y qy => ?_⟩
    have a := hb y qy
    have b := m (y / 4) (by omega) ⟨y % 4, by omega, hs y qy⟩
    rcases Nat.lt_or_ge i (y / 4) with d | d
    · omega
    · have e : y / 4 = i := by omega
      have f := hs y qy
      rw [e] at f
      have f2 := mk (y % 4) (by omega) f
      omega
theorem fq_greatestIn (hc : c < 17) (hb : ∀ y, Q y → y < 16) (h : fq_D Q (a3 c) (fun i => a4 (c * 4 + i))) (H : ∀ r, fq_mx Q r → post r) : wpX_greatestInParts post (l, g, n, a1, a2, a3, a4) (nI c) := by
  obtain ⟨hp, hn⟩ := h
  have ec : (nI c).toNatClampNeg = c := nI_clamp (by omega)
  have vc : vp_in (nI c) 17 := vp_in_nI hc (by decide)
  have hs : ∀ y, Q y → Q (4 * (y / 4) + y % 4) := fun y q => by
    rw [Nat.div_add_mod]
    exact q
  unfold wpX_greatestInParts
  try dsimp only
  rw [ec]
  refine ⟨vc, ek_if (fq_Nz hp) (fun z => H _ (Or.inl ⟨rfl, fun y q => ?_⟩)) (fun z => ⟨vc, fq_hi hp (fq_some z) (fun i hi q m => ⟨fq_vi hc hi, ?_⟩)⟩)⟩
  · have a := hb y q
    exact z (y / 4) (by omega) ⟨y % 4, by omega, hs y q⟩
  · intro x6 e6
    rw [fq_ci hc hi] at e6
    have N3 : fq_N (fun j => Q (4 * i + j)) x6 := by
      rw [e6]
      exact hn i hi
    refine fq_hi N3 q (fun k hk qk mk => H _ ?_)
    rw [fq_i4]
    refine Or.inr ⟨4 * i + k, by omega, rfl, qk, fun y qy => ?_⟩
    have a := hb y qy
    have b := m (y / 4) (by omega) ⟨y % 4, by omega, hs y qy⟩
    rcases Nat.lt_or_ge (y / 4) i with d | d
    · omega
    · have e : y / 4 = i := by omega
      have f := hs y qy
      rw [e] at f
      have f2 := mk (y % 4) (by omega) f
      omega
end
end
section
/-! a cluster of sixteen: the methods that write it -/
def fq_fr (c : Nat) (a3 a4 a3' a4' : Nat → Int32) : Prop := (∀ d, d ≠ c → a3' d = a3 d) ∧ ∀ d i, d ≠ c → i < 4 → a4' (d * 4 + i) = a4 (d * 4 + i)
def fq_Fr (c : Nat) (a1 a2 a3 a4 a1' a2' a3' a4' : Nat → Int32) : Prop := (∀ d, d ≠ c → a1' d = a1 d ∧ a2' d = a2 d ∧ a3' d = a3 d) ∧ ∀ d i, d ≠ c → i < 4 → a4' (d * 4 + i) = a4 (d * 4 + i)
theorem fq_mna {P : Nat → Prop} {r : Int32} {x : Nat} (h : fq_mn P r) (hx : ∃ l, P l ∧ l ≤ x) : fq_mn (fun y => P y ∨ y = x) r := by
  obtain ⟨w, pw, wx⟩ := hx
  rcases h with ⟨_, q⟩ | ⟨l, hl, e, p, m⟩
  · exact absurd pw (q w)
  · refine Or.inr ⟨l, hl, e, Or.inl p, ?_⟩
    have a := m w pw
    rintro y (q | q)
    · exact m y q
    · omega
theorem fq_mnb {P : Nat → Prop} {x : Nat} (hb : x < 256) (hx : ¬ ∃ l, P l ∧ l ≤ x) : fq_mn (fun y => P y ∨ y = x) (nI x) := by
  refine Or.inr ⟨x, hb, rfl, Or.inr rfl, ?_⟩
  rintro y (q | q)
  · rcases Nat.lt_or_ge x y with t | t
    · exact Nat.le_of_lt t
    · exact absurd ⟨y, q, t⟩ hx
  · omega
theorem fq_mxa {P : Nat → Prop} {r : Int32} {x : Nat} (h : fq_mx P r) (hx : ∃ t, P t ∧ x ≤ t) : fq_mx (fun y => P y ∨ y = x) r := by
  obtain ⟨w, pw, wx⟩ := hx
  rcases h with ⟨_, q⟩ | ⟨l, hl, e, p, m⟩
  · exact absurd pw (q w)
  · refine Or.inr ⟨l, hl, e, Or.inl p, ?_⟩
    have a := m w pw
    rintro y (q | q)
    · exact m y q
    · omega
theorem fq_mxb {P : Nat → Prop} {x : Nat} (hb : x < 256) (hx : ¬ ∃ t, P t ∧ x ≤ t) : fq_mx (fun y => P y ∨ y = x) (nI x) := by
  refine Or.inr ⟨x, hb, rfl, Or.inr rfl, ?_⟩
  rintro y (q | q)
  · rcases Nat.lt_or_ge y x with t | t
    · exact Nat.le_of_lt t
    · exact absurd ⟨y, q, t⟩ hx
  · omega
theorem fq_mn16 {P : Nat → Prop} {r : Int32} (h : fq_mn P r) (hb : ∀ y, P y → y < 16) : r.toInt8.toInt32 = r := by
  rcases h with ⟨e, _⟩ | ⟨l, hl, e, p, m⟩
  · rw [e]
    exact fq_xm
  · rw [e]
    exact (fq_x16 l (hb l p)).2.2
theorem fq_mx16 {P : Nat → Prop} {r : Int32} (h : fq_mx P r) (hb : ∀ y, P y → y < 16) : r.toInt8.toInt32 = r := by
  rcases h with ⟨e, _⟩ | ⟨l, hl, e, p, m⟩
  · rw [e]
    exact fq_xm
  · rw [e]
    exact (fq_x16 l (hb l p)).2.2
section
variable {post : St2 → Prop} {l g n : Int32} {a1 a2 a3 a4 : Nat → Int32} {P Q : Nat → Prop} {c x : Nat}
theorem fq_putBit (hc : c < 17) (hx : x < 16) (h : fq_D Q (a3 c) (fun i => a4 (c * 4 + i))) (H : ∀ a3' a4', fq_D (fun y => Q y ∨ y = x) (a3' c) (fun i => a4' (c * 4 + i)) → fq_fr c a3 a4 a3' a4' → post (l, g, n, a1, a2, a3', a4')) : wpX_putBit post (l, g, n, a1, a2, a3, a4) (nI c) (nI x) := by
  obtain ⟨hp, hn⟩ := h
  have ec : (nI c).toNatClampNeg = c := nI_clamp (by omega)
  have vc : vp_in (nI c) 17 := vp_in_nI hc (by decide)
  obtain ⟨e1, e2, -⟩ := fq_x16 x hx
  have hx4 : x / 4 < 4 := by omega
  have hm4 : x % 4 < 4 := by omega
  have ei := fq_ci hc hx4
  unfold wpX_putBit
  try dsimp only
  rw [ec, e1, e2]
  refine nm_e ⟨fq_vi hc hx4, fq_vi hc hx4, ?_⟩
  intro a4' e4
  rw [ei] at e4
  refine ⟨vc, vc, ?_⟩
  intro a3' e3
  refine H a3' a4' ⟨?_, fun i hi => ?_⟩ ⟨fun d hd => ?_, fun d i hd hi => ?_⟩
  · rw [e3, pk_us]
    refine fq_NC (fq_Npu hp hx4) fun i hi => ⟨?_, ?_⟩
    · rintro (⟨j, hj, q⟩ | rfl)
      · exact ⟨j, hj, Or.inl q⟩
      · exact ⟨x % 4, hm4, Or.inr (Nat.div_add_mod x 4)⟩
    · rintro ⟨j, hj, q | q⟩
      · exact Or.inl ⟨j, hj, q⟩
      · exact Or.inr (by omega)
  · show fq_N _ (a4' (c * 4 + i))
    rw [e4]
    by_cases z : i = x / 4
    · rw [z, pk_us]
      refine fq_NC (fq_Npu (hn (x / 4) hx4) hm4) fun j hj => ⟨?_, ?_⟩
      · rintro (q | q)
        · exact Or.inl q
        · exact Or.inr (by omega)
      · rintro (q | q)
        · exact Or.inl q
        · exact Or.inr (by omega)
    · rw [pk_un (by omega)]
      refine fq_NC (hn i hi) fun j hj => ⟨Or.inl, ?_⟩
      rintro (q | q)
      · exact q
      · omega
  · rw [e3, pk_un hd]
  · rw [e4, pk_un (by omega)]
theorem fq_takeBit (hc : c < 17) (hx : x < 16) (h : fq_D Q (a3 c) (fun i => a4 (c * 4 + i))) (H : ∀ a3' a4', fq_D (fun y => Q y ∧ y ≠ x) (a3' c) (fun i => a4' (c * 4 + i)) → fq_fr c a3 a4 a3' a4' → post (l, g, n, a1, a2, a3', a4')) : wpX_takeBit post (l, g, n, a1, a2, a3, a4) (nI c) (nI x) := by
  obtain ⟨hp, hn⟩ := h
  have ec : (nI c).toNatClampNeg = c := nI_clamp (by omega)
  have vc : vp_in (nI c) 17 := vp_in_nI hc (by decide)
  obtain ⟨e1, e2, -⟩ := fq_x16 x hx
  have hx4 : x / 4 < 4 := by omega
  have hm4 : x % 4 < 4 := by omega
  have ei := fq_ci hc hx4
  unfold wpX_takeBit
  try dsimp only
  rw [ec, e1, e2]
  refine nm_e ⟨fq_vi hc hx4, fq_vi hc hx4, ?_⟩
  intro a4' e4
  rw [ei] at e4
  rw [ei]
  have N1 : fq_N (fun j => Q (4 * (x / 4) + j) ∧ j ≠ x % 4) (a4' (c * 4 + x / 4)) := by
    rw [e4, pk_us]
    exact fq_Nta (hn (x / 4) hx4) hm4
  have hN : ∀ i, i < 4 → fq_N (fun j => Q (4 * i + j) ∧ 4 * i + j ≠ x) (a4' (c * 4 + i)) := fun i hi => by
    by_cases z : i = x / 4
    · rw [z]
      refine fq_NC N1 fun j hj => ⟨?_, ?_⟩
      · rintro ⟨q, nq⟩
        exact ⟨q, by omega⟩
      · rintro ⟨q, nq⟩
        exact ⟨q, by omega⟩
    · rw [e4, pk_un (by omega)]
      refine fq_NC (hn i hi) fun j hj => ⟨fun q => ⟨q, by omega⟩, fun q => q.1⟩
  have hF : ∀ d i, d ≠ c → i < 4 → a4' (d * 4 + i) = a4 (d * 4 + i) := fun d i hd hi => by rw [e4, pk_un (by omega)]
  refine ⟨fq_vi hc hx4, ek_if (fq_Nz N1) (fun z => ⟨vc, vc, ?_⟩) (fun z => H a3 a4' ⟨?_, hN⟩ ⟨fun d hd => rfl, hF⟩)⟩
  · intro a3' e3
    refine H a3' a4' ⟨?_, hN⟩ ⟨fun d hd => by rw [e3, pk_un hd], hF⟩
    rw [e3, pk_us]
    refine fq_NC (fq_Nta hp hx4) fun i hi => ⟨?_, ?_⟩
    · rintro ⟨⟨j, hj, q⟩, ni⟩
      exact ⟨j, hj, q, by omega⟩
    · rintro ⟨j, hj, q, nq⟩
      refine ⟨⟨j, hj, q⟩, ?_⟩
      intro e
      subst e
      exact z j hj ⟨q, by omega⟩
  · refine fq_NC hp fun i hi => ⟨?_, ?_⟩
    · rintro ⟨j, hj, q⟩
      by_cases e : 4 * i + j = x
      · obtain ⟨k, hk, qk, nk⟩ := fq_some z
        have e' : i = x / 4 := by omega
        subst e'
        exact ⟨k, hk, qk, by omega⟩
      · exact ⟨j, hj, q, e⟩
    · rintro ⟨j, hj, q, _⟩
      exact ⟨j, hj, q⟩
theorem fq_ins53 {r : Nat} (hc : c < 17) (hr : r < 16) (hD : fq_D Q (a3 c) (fun i => a4 (c * 4 + i)))
    (H1 : nI r ≤ a2 c → ∀ a3' a4', fq_D (fun y => Q y ∨ y = r) (a3' c) (fun i => a4' (c * 4 + i)) → fq_fr c a3 a4 a3' a4' → post (l, g, n, a1, a2, a3', a4'))
    (H2 : ¬ nI r ≤ a2 c → ∀ a3' a4', fq_D (fun y => Q y ∨ y = r) (a3' c) (fun i => a4' (c * 4 + i)) → fq_fr c a3 a4 a3' a4' → post (l, g, n, a1, upd a2 c (nI r), a3', a4')) :
    wX_insertInto_53 post (nI c) (nI r) l g n a1 a2 a3 a4 := by
  have ec : (nI c).toNatClampNeg = c := nI_clamp (by omega)
  have vc : vp_in (nI c) 17 := vp_in_nI hc (by decide)
  unfold wX_insertInto_53
  refine fq_putBit hc hr hD (fun a3' a4' hd hf => ?_)
  dsimp only
  rw [ec, (fq_x16 r hr).2.2]
  refine ⟨vc, br_c (fun z => H1 z a3' a4' hd hf) (fun z => ⟨vc, nm_e (H2 z a3' a4' hd hf)⟩)⟩
theorem fq_insertInto (hc : c < 17) (hx : x < 16) (h : fq_C P (a1 c) (a2 c) (a3 c) (fun i => a4 (c * 4 + i))) (hnx : ¬ P x)
    (H : ∀ a1' a2' a3' a4', fq_C (fun y => P y ∨ y = x) (a1' c) (a2' c) (a3' c) (fun i => a4' (c * 4 + i)) → fq_Fr c a1 a2 a3 a4 a1' a2' a3' a4' → post (l, g, n, a1', a2', a3', a4')) :
    wpX_insertInto post (l, g, n, a1, a2, a3, a4) (nI c) (nI x) := by
  obtain ⟨hb, hlo, hhi, hD⟩ := h
  have ec : (nI c).toNatClampNeg = c := nI_clamp (by omega)
  have vc : vp_in (nI c) 17 := vp_in_nI hc (by decide)
  have hb' : ∀ y, (P y ∨ y = x) → y < 16 := fun y q => q.elim (hb y) (fun e => by omega)
  unfold wpX_insertInto
  try dsimp only
  rw [ec, (fq_x16 x hx).2.2]
  refine ⟨vc, ek_if (fq_mnG hlo) (fun h1 => ⟨vc, ek_if (fq_mnLe hlo (by omega)) (fun h2 => ?_) (fun h2 => ⟨vc, ?_⟩)⟩) (fun h1 => ⟨vc, ?_⟩)⟩
  · obtain ⟨t, pt⟩ := h1
    have hw := h2.resolve_left (fun z => z t pt)
    obtain ⟨w, pw, wx⟩ := hw
    have hq := fq_qa (P' := fun y => P y ∨ y = x) pw hnx wx (fun y => Iff.rfl)
    refine fq_ins53 hc hx hD (fun z a3' a4' hd hf => ?_) (fun z a3' a4' hd hf => ?_)
    · exact H _ _ _ _ ⟨hb', fq_mna hlo ⟨w, pw, wx⟩, fq_mxa hhi ((fq_mxLe hhi (by omega)).mp z), fq_DC hd (fun y => (hq y).symm)⟩ ⟨fun d hd => ⟨rfl, rfl, hf.1 d hd⟩, hf.2⟩
    · refine H _ _ _ _ ⟨hb', fq_mna hlo ⟨w, pw, wx⟩, ?_, fq_DC hd (fun y => (hq y).symm)⟩ ⟨fun d hd => ⟨rfl, pk_un hd, hf.1 d hd⟩, hf.2⟩
      rw [pk_us]
      exact fq_mxb (by omega) (fun q => z ((fq_mxLe hhi (by omega)).mpr q))
  · rcases hlo with ⟨_, q⟩ | ⟨w, hw, e, pw, mw⟩
    · exact absurd (Or.inl q) h2
    have h2' : ¬ ∃ l, P l ∧ l ≤ x := fun q => h2 (Or.inr q)
    have wx : x < w := by
      rcases Nat.lt_or_ge x w with q | q
      · exact q
      · exact absurd ⟨w, pw, q⟩ h2'
    have hq := fq_qb (P' := fun y => P y ∨ y = x) pw mw wx (fun y => Iff.rfl)
    refine nm_r e ⟨vc, ?_⟩
    intro a1' e1
    refine fq_ins53 hc (hb w pw) hD (fun z a3' a4' hd hf => ?_) (fun z => absurd ((fq_mxLe hhi hw).mpr ⟨w, pw, Nat.le_refl w⟩) z)
    refine H _ _ _ _ ⟨hb', ?_, fq_mxa hhi ⟨w, pw, by omega⟩, fq_DC hd (fun y => (hq y).symm)⟩ ⟨fun d hd => ⟨by rw [e1, pk_un hd], rfl, hf.1 d hd⟩, hf.2⟩
    rw [e1, pk_us]
    exact fq_mnb (by omega) h2'
  · intro a1' e1
    refine ⟨vc, ?_⟩
    intro a2' e2
    refine H _ _ _ _ ⟨hb', ?_, ?_, fq_DC hD (fun y => ⟨fun q => absurd ⟨y, q.1⟩ h1, ?_⟩)⟩ ⟨fun d hd => ⟨by rw [e1, pk_un hd], by rw [e2, pk_un hd], rfl⟩, fun d i hd hi => rfl⟩
    · rw [e1, pk_us]
      exact fq_mnb (by omega) (fun ⟨l, q, _⟩ => h1 ⟨l, q⟩)
    · rw [e2, pk_us]
      exact fq_mxb (by omega) (fun ⟨l, q, _⟩ => h1 ⟨l, q⟩)
    · rintro ⟨q | q, w, q' | q', t⟩
      · exact absurd ⟨y, q⟩ h1
      · exact absurd ⟨y, q⟩ h1
      · exact absurd ⟨w, q'⟩ h1
      · omega
theorem fq_del36 (hc : c < 17) (hb : ∀ y, P y → y < 16) (hmn : fq_mn P (a1 c)) (hD : fq_D (fq_Q P) (a3 c) (fun i => a4 (c * 4 + i)))
    (H : ∀ v, fq_mx P v → post (l, g, n, a1, upd a2 c v, a3, a4)) : wX_deleteFrom_36 post (nI c) l g n a1 a2 a3 a4 := by
  have ec : (nI c).toNatClampNeg = c := nI_clamp (by omega)
  have vc : vp_in (nI c) 17 := vp_in_nI hc (by decide)
  unfold wX_deleteFrom_36
  refine fq_greatestIn hc (fun y q => hb y q.1) hD (fun r hr => ?_)
  rw [ec, fq_mn16 hmn hb, fq_mx16 hr (fun y q => hb y q.1)]
  exact ek_if (fq_mx0 hr) (fun z => ⟨vc, vc, nm_e (H _ (fq_qg hmn z))⟩) (fun z => ⟨vc, nm_e (H _ (fq_qh hr z))⟩)
theorem fq_deleteFrom (hc : c < 17) (hx : x < 16) (h : fq_C P (a1 c) (a2 c) (a3 c) (fun i => a4 (c * 4 + i))) (hpx : P x)
    (H : ∀ a1' a2' a3' a4', fq_C (fun y => P y ∧ y ≠ x) (a1' c) (a2' c) (a3' c) (fun i => a4' (c * 4 + i)) → fq_Fr c a1 a2 a3 a4 a1' a2' a3' a4' → post (l, g, n, a1', a2', a3', a4')) :
    wpX_deleteFrom post (l, g, n, a1, a2, a3, a4) (nI c) (nI x) := by
  obtain ⟨hb, hlo, hhi, hD⟩ := h
  have ec : (nI c).toNatClampNeg = c := nI_clamp (by omega)
  have vc : vp_in (nI c) 17 := vp_in_nI hc (by decide)
  have hb' : ∀ y, (P y ∧ y ≠ x) → y < 16 := fun y q => hb y q.1
  have hbq : ∀ y, fq_Q P y → y < 16 := fun y q => hb y q.1
  unfold wpX_deleteFrom
  try dsimp only
  rw [ec]
  refine ⟨vc, ek_if (eq_comm.trans (fq_mnEq hlo (by omega))) (fun h1 => fq_leastIn hc hbq hD (fun r hr => ⟨vc, ?_⟩)) (fun h1 => ?_)⟩
  · rw [fq_mn16 hr hbq]
    intro a1' e1
    have hmn : fq_mn (fun y => P y ∧ y ≠ x) (a1' c) := by
      rw [e1, pk_us]
      exact fq_qe h1.1 h1.2 (fun y => Iff.rfl) hr
    unfold wX_deleteFrom_26
    refine ek_if (fq_mn0 hr) (fun z => ?_) (fun z => ?_)
    · refine fq_del36 hc hb' hmn (fq_DC hD (fun y => ⟨fun q => absurd q (z y), ?_⟩)) (fun v hv => ?_)
      · rintro ⟨q, w, q', t⟩
        exact ⟨q.1, w, q'.1, t⟩
      · exact H _ _ _ _ ⟨hb', hmn, by rw [pk_us]; exact hv, fq_DC hD (fun y => ⟨fun q => absurd q (z y), fun ⟨q, w, q', t⟩ => ⟨q.1, w, q'.1, t⟩⟩)⟩ ⟨fun d hd => ⟨by rw [e1, pk_un hd], pk_un hd, rfl⟩, fun d i hd hi => rfl⟩
    · rcases hr with ⟨_, q⟩ | ⟨w, hw, rfl, pw, mw⟩
      · exact absurd q z
      have hq := fq_qc (P' := fun y => P y ∧ y ≠ x) h1.1 h1.2 pw mw (fun y => Iff.rfl)
      refine fq_takeBit hc (hbq w pw) hD (fun a3' a4' hd hf => ?_)
      have hD' := fq_DC hd (fun y => (hq y).symm)
      dsimp only
      refine fq_del36 hc hb' hmn hD' (fun v hv => ?_)
      exact H _ _ _ _ ⟨hb', hmn, by rw [pk_us]; exact hv, hD'⟩ ⟨fun d hd => ⟨by rw [e1, pk_un hd], pk_un hd, hf.1 d hd⟩, hf.2⟩
  · have hmn : fq_mn (fun y => P y ∧ y ≠ x) (a1 c) := fq_qf (fun q => h1 ((fq_mnEq hlo (by omega)).mp q)) hlo (fun y => Iff.rfl)
    rcases hlo with ⟨_, q⟩ | ⟨w, hw, e, pw, mw⟩
    · exact absurd hpx (q x)
    have hxw : x ≠ w := fun q => h1 (q ▸ ⟨pw, mw⟩)
    have hq := fq_qd (P' := fun y => P y ∧ y ≠ x) pw mw hxw (fun y => Iff.rfl)
    unfold wX_deleteFrom_26
    refine br_f (nI_pos (by omega)) (fq_takeBit hc hx hD (fun a3' a4' hd hf => ?_))
    have hD' := fq_DC hd (fun y => (hq y).symm)
    dsimp only
    refine fq_del36 hc hb' hmn hD' (fun v hv => ?_)
    exact H _ _ _ _ ⟨hb', hmn, by rw [pk_us]; exact hv, hD'⟩ ⟨fun d hd => ⟨rfl, pk_un hd, hf.1 d hd⟩, hf.2⟩
end
end
section
/-! the whole set: what the state holds, and the methods that only read it -/
def fq_K (Cl : Nat → Nat → Prop) (a1 a2 a3 a4 : Nat → Int32) : Prop := ∀ c, c < 17 → fq_C (Cl c) (a1 c) (a2 c) (a3 c) (fun i => a4 (c * 4 + i))
/-- which numbers cluster c holds when the clusters together hold T -/
def fq_cl (T : Nat → Prop) (c y : Nat) : Prop := (c < 16 ∧ y < 16 ∧ T (16 * c + y)) ∨ (c = 16 ∧ y < 16 ∧ ∃ x, x < 16 ∧ T (16 * y + x))
/-- the state holds S -/
def fq_R (S : Nat → Prop) (l g n : Int32) (a1 a2 a3 a4 : Nat → Int32) : Prop := (∀ y, S y → y < 256) ∧ fq_mn S l ∧ fq_mx S g ∧ n = nI (fq_cnt S 256) ∧ fq_K (fq_cl (fq_Q S)) a1 a2 a3 a4
theorem fq_clA {T : Nat → Prop} {c y : Nat} (hc : c < 16) : fq_cl T c y ↔ y < 16 ∧ T (16 * c + y) :=
  ⟨fun h => h.elim (fun q => q.2) (fun q => absurd q.1 (by omega)), fun h => Or.inl ⟨hc, h⟩⟩
theorem fq_clB {T : Nat → Prop} {y : Nat} : fq_cl T 16 y ↔ y < 16 ∧ ∃ x, x < 16 ∧ T (16 * y + x) :=
  ⟨fun h => h.elim (fun q => absurd q.1 (by omega)) (fun q => q.2), fun h => Or.inr ⟨rfl, h⟩⟩
theorem fq_clD {T : Nat → Prop} {y : Nat} (hy : y < 256) : fq_cl T (y / 16) (y % 16) ↔ T y := by
  rw [fq_clA (by omega), Nat.div_add_mod]
  exact ⟨fun h => h.2, fun h => ⟨by omega, h⟩⟩
theorem fq_clE {T : Nat → Prop} {y : Nat} (hy : y < 256) (h : T y) : fq_cl T 16 (y / 16) := by
  rw [fq_clB]
  exact ⟨by omega, y % 16, by omega, by rw [Nat.div_add_mod]; exact h⟩
theorem fq_ofI {x : Int32} (h0 : 0 ≤ x.toInt) (h1 : x.toInt < 256) : ∃ k, k < 256 ∧ x = nI k := by
  refine ⟨x.toInt.toNat, by omega, Int32.toInt_inj.mp ?_⟩
  rw [nI_toInt (by omega)]
  omega
section
variable {post : Int32 → Prop} {l g n : Int32} {a1 a2 a3 a4 : Nat → Int32} {S : Nat → Prop}
theorem fq_memberN (h : fq_R S l g n a1 a2 a3 a4) {k : Nat} (hk : k < 256) (H1 : S k → post 1) (H0 : ¬ S k → post 0) : wpX_member post (l, g, n, a1, a2, a3, a4) (nI k) := by
  obtain ⟨hb, hl, hg, -, hK⟩ := h
  obtain ⟨e15, e4⟩ := fq_x256 k hk
  unfold wpX_member
  try dsimp only
  rw [e15, e4]
  refine br_f (nI_pos (by omega)) (br_f (nI_ge (b := 256) hk (by decide)) (ek_if (eq_comm.trans (fq_mnEq hl hk)) (fun z => H1 z.1) (fun z => ?_)))
  refine fq_inCluster (P := fq_cl (fq_Q S) (k / 16)) (by omega) (by omega) (hK _ (by omega)) (fun q => br_f (by decide) (H1 ?_)) (fun q => br_t rfl (H0 ?_))
  · rw [fq_clD hk] at q
    exact q.1
  · rw [fq_clD hk] at q
    intro sk
    refine z ⟨sk, fun y sy => ?_⟩
    rcases Nat.lt_or_ge y k with t | t
    · exact absurd ⟨sk, y, sy, t⟩ q
    · exact t
theorem fq_member (h : fq_R S l g n a1 a2 a3 a4) (x : Int32) (H1 : ∀ k, k < 256 → x = nI k → S k → post 1) (H0 : (∀ k, k < 256 → x = nI k → ¬ S k) → post 0) : wpX_member post (l, g, n, a1, a2, a3, a4) x := by
  by_cases hx : 0 ≤ x.toInt ∧ x.toInt < 256
  · obtain ⟨k, hk, rfl⟩ := fq_ofI hx.1 hx.2
    exact fq_memberN h hk (H1 k hk rfl) (fun z => H0 fun k' hk' e => by rw [nI_eq (by omega) (by omega)] at e; rw [← e]; exact z)
  · have H0' : post 0 := H0 fun k hk e => by
      rw [e, nI_toInt (by omega)] at hx
      omega
    unfold wpX_member
    try dsimp only
    refine fq_ltI rfl fq_t0 (fun _ => H0') (fun h1 => fq_leI fq_t256 rfl (fun _ => H0') (fun h2 => ?_))
    exact absurd ⟨h1, h2⟩ hx
theorem fq_after (h : fq_R S l g n a1 a2 a3 a4) (x : Int32) (H : ∀ r, fq_mn (fun y => S y ∧ x.toInt < (y : Int)) r → post r) : wpX_after post (l, g, n, a1, a2, a3, a4) x := by
  obtain ⟨hb, hl, hg, -, hK⟩ := h
  unfold wpX_after
  try dsimp only
  refine ek_if (fq_mn0 hl) (fun z => H _ (Or.inl ⟨rfl, fun y q => z y q.1⟩)) (fun z => ?_)
  rcases hl with ⟨_, q⟩ | ⟨lw, hlw, el, pl, ml⟩
  · exact absurd q z
  rcases hg with ⟨_, q⟩ | ⟨gw, hgw, eg, pg, mg⟩
  · exact absurd q z
  subst el
  subst eg
  refine fq_ltI rfl (nI_toInt (by omega)) (fun h1 => fq_leI (nI_toInt (by omega)) rfl (fun h2 => ?_) (fun h2 => H _ (Or.inr ⟨lw, hlw, rfl, ⟨pl, h2⟩, fun y q => ml y q.1⟩))) (fun h1 => H _ (Or.inl ⟨rfl, fun y q => ?_⟩))
  rotate_left
  · have a := mg y q.1
    have b := q.2
    omega
  obtain ⟨k, hk, rfl⟩ := fq_ofI (x := x) (by omega) (by omega)
  have tk : (nI k).toInt = (k : Int) := nI_toInt (by omega)
  rw [tk] at h1 h2
  have H' : ∀ r, fq_mn (fun y => S y ∧ k < y) r → post r := fun r hr => H r (fq_mnC hr fun y => by rw [tk, Int.ofNat_lt])
  obtain ⟨e15, e4⟩ := fq_x256 k hk
  have hQ : ∀ y, S y → k < y → fq_Q S y := fun y sy ky => ⟨sy, lw, pl, by omega⟩
  refine nm_r e4 ?_
  rw [e15]
  refine fq_afterIn (P := fq_cl (fq_Q S) (k / 16)) (by omega) (by omega) (hK _ (by omega)) (fun r hr => ?_)
  refine ek_if (fq_mn0 hr) (fun z1 => ?_) (fun z1 => ?_)
  · have hz : ∀ y, S y → k < y → k / 16 < y / 16 := fun y sy ky => by
      rcases Nat.lt_or_ge (k / 16) (y / 16) with t | t
      · exact t
      · have e : y / 16 = k / 16 := by omega
        have a := (fq_clD (hb y sy)).mpr (hQ y sy ky)
        rw [e] at a
        exact absurd ⟨a, by omega⟩ (z1 (y % 16))
    refine fq_afterIn (P := fq_cl (fq_Q S) 16) (c := 16) (by decide) (by omega) (hK 16 (by decide)) (fun r7 hr7 => ?_)
    rcases hr7 with ⟨_, q⟩ | ⟨d, hd, rfl, ⟨pd, kd⟩, md⟩
    · exact absurd ⟨fq_clE hgw (hQ gw pg (by omega)), hz gw pg (by omega)⟩ (q (gw / 16))
    obtain ⟨hd16, w0, hw0, qw0⟩ := fq_clB.mp pd
    have ed : (nI d).toNatClampNeg = d := nI_clamp (by omega)
    rw [ed]
    refine ⟨vp_in_nI (by omega) (by decide), H' _ ?_⟩
    rcases (hK d (by omega)).2.1 with ⟨_, q⟩ | ⟨w, hw, ew, pw, mw⟩
    · exact absurd ((fq_clA hd16).mpr ⟨hw0, qw0⟩) (q w0)
    obtain ⟨hw16, qw⟩ := (fq_clA hd16).mp pw
    rw [ew, fq_i16]
    refine Or.inr ⟨16 * d + w, by omega, rfl, ⟨qw.1, by omega⟩, ?_⟩
    rintro y ⟨sy, ky⟩
    have hy := hb y sy
    have b := hz y sy ky
    have c1 := md (y / 16) ⟨fq_clE hy (hQ y sy ky), b⟩
    rcases Nat.lt_or_ge d (y / 16) with t | t
    · omega
    · have e : y / 16 = d := by omega
      have f := (fq_clD hy).mpr (hQ y sy ky)
      rw [e] at f
      have f2 := mw (y % 16) f
      omega
  · rcases hr with ⟨_, q⟩ | ⟨w, hw, rfl, ⟨pw, kw⟩, mw⟩
    · exact absurd q z1
    obtain ⟨hw16, qw⟩ := (fq_clA (by omega)).mp pw
    rw [fq_i16]
    refine H' _ (Or.inr ⟨16 * (k / 16) + w, by omega, rfl, ⟨qw.1, by omega⟩, ?_⟩)
    rintro y ⟨sy, ky⟩
    rcases Nat.lt_or_ge (k / 16) (y / 16) with t | t
    · omega
    · have e : y / 16 = k / 16 := by omega
      have a := (fq_clD (hb y sy)).mpr (hQ y sy ky)
      rw [e] at a
      have b := mw (y % 16) ⟨a, by omega⟩
      omega
theorem fq_before (h : fq_R S l g n a1 a2 a3 a4) (x : Int32) (H : ∀ r, fq_mx (fun y => S y ∧ (y : Int) < x.toInt) r → post r) : wpX_before post (l, g, n, a1, a2, a3, a4) x := by
  obtain ⟨hb, hl, hg, -, hK⟩ := h
  unfold wpX_before
  try dsimp only
  refine ek_if (fq_mn0 hl) (fun z => H _ (Or.inl ⟨rfl, fun y q => z y q.1⟩)) (fun z => ?_)
  rcases hl with ⟨_, q⟩ | ⟨lw, hlw, el, pl, ml⟩
  · exact absurd q z
  rcases hg with ⟨_, q⟩ | ⟨gw, hgw, eg, pg, mg⟩
  · exact absurd q z
  subst el
  subst eg
  refine fq_ltI (nI_toInt (by omega)) rfl (fun h1 => fq_leI rfl (nI_toInt (by omega)) (fun h2 => ?_) (fun h2 => H _ (Or.inr ⟨gw, hgw, rfl, ⟨pg, h2⟩, fun y q => mg y q.1⟩))) (fun h1 => H _ (Or.inl ⟨rfl, fun y q => ?_⟩))
  rotate_left
  · have a := ml y q.1
    have b := q.2
    omega
  obtain ⟨k, hk, rfl⟩ := fq_ofI (x := x) (by omega) (by omega)
  have tk : (nI k).toInt = (k : Int) := nI_toInt (by omega)
  rw [tk] at h1 h2
  have H' : ∀ r, fq_mx (fun y => S y ∧ y < k) r → post r := fun r hr => H r (fq_mxC hr fun y => by rw [tk, Int.ofNat_lt])
  obtain ⟨e15, e4⟩ := fq_x256 k hk
  have hQ : ∀ y, S y → y ≠ lw → fq_Q S y := fun y sy ny => ⟨sy, lw, pl, by have a := ml y sy; omega⟩
  refine nm_r e4 ?_
  rw [e15]
  refine fq_beforeIn (P := fq_cl (fq_Q S) (k / 16)) (by omega) (by omega) (hK _ (by omega)) (fun r hr => ?_)
  refine ek_if (fq_mx0 hr) (fun z1 => ?_) (fun z1 => ?_)
  · have hz : ∀ y, S y → y ≠ lw → y < k → y / 16 < k / 16 := fun y sy ny ky => by
      rcases Nat.lt_or_ge (y / 16) (k / 16) with t | t
      · exact t
      · have e : y / 16 = k / 16 := by omega
        have a := (fq_clD (hb y sy)).mpr (hQ y sy ny)
        rw [e] at a
        exact absurd ⟨a, by omega⟩ (z1 (y % 16))
    refine fq_beforeIn (P := fq_cl (fq_Q S) 16) (c := 16) (by decide) (by omega) (hK 16 (by decide)) (fun r7 hr7 => ?_)
    rcases hr7 with ⟨rfl, q⟩ | ⟨d, hd, rfl, ⟨pd, kd⟩, md⟩
    · refine br_f (by decide) (H' _ (Or.inr ⟨lw, hlw, rfl, ⟨pl, by omega⟩, ?_⟩))
      rintro y ⟨sy, ky⟩
      by_cases ny : y = lw
      · omega
      · exact absurd ⟨fq_clE (hb y sy) (hQ y sy ny), hz y sy ny ky⟩ (q (y / 16))
    obtain ⟨hd16, w0, hw0, qw0⟩ := fq_clB.mp pd
    have ed : (nI d).toNatClampNeg = d := nI_clamp (by omega)
    rw [ed]
    refine br_t (nI_pos' (by omega)) ⟨vp_in_nI (by omega) (by decide), H' _ ?_⟩
    rcases (hK d (by omega)).2.2.1 with ⟨_, q⟩ | ⟨w, hw, ew, pw, mw⟩
    · exact absurd ((fq_clA hd16).mpr ⟨hw0, qw0⟩) (q w0)
    obtain ⟨hw16, qw⟩ := (fq_clA hd16).mp pw
    rw [ew, fq_i16]
    refine Or.inr ⟨16 * d + w, by omega, rfl, ⟨qw.1, by omega⟩, ?_⟩
    rintro y ⟨sy, ky⟩
    have hy := hb y sy
    by_cases ny : y = lw
    · rw [ny]
      exact ml _ qw.1
    have b := hz y sy ny ky
    have c1 := md (y / 16) ⟨fq_clE hy (hQ y sy ny), b⟩
    rcases Nat.lt_or_ge (y / 16) d with t | t
    · omega
    · have e : y / 16 = d := by omega
      have f := (fq_clD hy).mpr (hQ y sy ny)
      rw [e] at f
      have f2 := mw (y % 16) f
      omega
  · rcases hr with ⟨_, q⟩ | ⟨w, hw, rfl, ⟨pw, kw⟩, mw⟩
    · exact absurd q z1
    obtain ⟨hw16, qw⟩ := (fq_clA (by omega)).mp pw
    rw [fq_i16]
    refine H' _ (Or.inr ⟨16 * (k / 16) + w, by omega, rfl, ⟨qw.1, by omega⟩, ?_⟩)
    rintro y ⟨sy, ky⟩
    by_cases ny : y = lw
    · rw [ny]
      exact ml _ qw.1
    rcases Nat.lt_or_ge (y / 16) (k / 16) with t | t
    · omega
    · have e : y / 16 = k / 16 := by omega
      have a := (fq_clD (hb y sy)).mpr (hQ y sy ny)
      rw [e] at a
      have b := mw (y % 16) ⟨a, by omega⟩
      omega
theorem fq_from (h : fq_R S l g n a1 a2 a3 a4) (x : Int32) (H : ∀ r, fq_mn (fun y => S y ∧ x.toInt ≤ (y : Int)) r → post r) : wpX_from post (l, g, n, a1, a2, a3, a4) x := by
  unfold wpX_from
  try dsimp only
  refine fq_ltI fq_t0 rfl (fun h1 => ?_) (fun h1 => H _ (fq_mnC h.2.1 fun y => ⟨fun q => ⟨q, by omega⟩, fun q => q.1⟩))
  have t1 : (1 : Int32).toInt = 1 := by decide
  have e : (x - 1).toInt = x.toInt - 1 := by
    have a := Int32.toInt_sub_of_le x 1 (by decide) (by rw [Int32.le_iff_toInt_le, t1]; omega)
    rw [a, t1]
  refine fq_after h (x - 1) (fun r hr => H r (fq_mnC hr fun y => ?_))
  rw [e]
  exact ⟨fun q => ⟨q.1, by have a := q.2; omega⟩, fun q => ⟨q.1, by have a := q.2; omega⟩⟩
end
/-- the nearest member to z: the smaller of two as near -/
def fq_nr (S : Nat → Prop) (z : Int) (r : Int32) : Prop := (r = -1 ∧ ∀ y, ¬ S y) ∨ ∃ m : Nat, m < 256 ∧ r = nI m ∧ S m ∧ ∀ y : Nat, S y → ((m : Int) - z).natAbs < ((y : Int) - z).natAbs ∨ (((m : Int) - z).natAbs = ((y : Int) - z).natAbs ∧ m ≤ y)
theorem fq_nrU {S : Nat → Prop} {z : Int} {r r' : Int32} (h : fq_nr S z r) (h' : fq_nr S z r') : r = r' := by
  rcases h with ⟨e, n⟩ | ⟨m, hm, e, p, q⟩ <;> rcases h' with ⟨e', n'⟩ | ⟨m', hm', e', p', q'⟩
  · rw [e, e']
  · exact absurd p' (n m')
  · exact absurd p (n' m)
  · have a := q m' p'
    have b := q' m p
    have c : m = m' := by omega
    rw [e, e', c]
section
variable {post : Int32 → Prop} {l g n : Int32} {a1 a2 a3 a4 : Nat → Int32} {S : Nat → Prop}
theorem fq_near23 {x up dn : Int32} (hup : fq_mn (fun y => S y ∧ x.toInt < (y : Int)) up) (hdn : fq_mx (fun y => S y ∧ (y : Int) ≤ x.toInt) dn) (H : ∀ r, fq_nr S x.toInt r → post r) : wX_nearest_23 post x up dn l g n a1 a2 a3 a4 := by
  unfold wX_nearest_23 wX_nearest_32
  rcases hup with ⟨eu, nu⟩ | ⟨u, hu, eu, ⟨su, xu⟩, mu⟩ <;> rcases hdn with ⟨ed, nd⟩ | ⟨d, hd, ed, ⟨sd, dx⟩, md⟩ <;> rw [eu, ed]
  · refine br_t (by decide) (br_f (by decide) (H _ (Or.inl ⟨rfl, fun y sy => ?_⟩)))
    rcases Int.lt_or_le x.toInt (y : Int) with t | t
    · exact nu y ⟨sy, t⟩
    · exact nd y ⟨sy, t⟩
  · refine br_t (by decide) (br_f (by decide) (H _ (Or.inr ⟨d, hd, rfl, sd, fun y sy => ?_⟩)))
    rcases Int.lt_or_le x.toInt (y : Int) with t | t
    · exact absurd ⟨sy, t⟩ (nu y)
    · have a := md y ⟨sy, t⟩
      omega
  · refine br_f (nI_pos (by omega)) (br_f (by decide) (br_t (nI_pos' (by omega)) (H _ (Or.inr ⟨u, hu, rfl, su, fun y sy => ?_⟩))))
    rcases Int.lt_or_le x.toInt (y : Int) with t | t
    · have a := mu y ⟨sy, t⟩
      omega
    · exact absurd ⟨sy, t⟩ (nd y)
  · obtain ⟨k, hk, ek⟩ := fq_ofI (x := x) (by omega) (by omega)
    have tk : x.toInt = (k : Int) := by
      rw [ek]
      exact nI_toInt (by omega)
    rw [tk] at H mu md xu dx
    rw [ek, pk_sub (by omega), pk_sub (by omega)]
    refine br_f (nI_pos (by omega)) (br_t (nI_pos' (by omega)) (pk_lt (u - k) (k - d) (fun z => H _ (Or.inr ⟨u, hu, rfl, su, fun y sy => ?_⟩)) (fun z => H _ (Or.inr ⟨d, hd, rfl, sd, fun y sy => ?_⟩))))
    · rcases Int.lt_or_le (k : Int) (y : Int) with t | t
      · have a := mu y ⟨sy, t⟩
        omega
      · have a := md y ⟨sy, t⟩
        omega
    · rcases Int.lt_or_le (k : Int) (y : Int) with t | t
      · have a := mu y ⟨sy, t⟩
        omega
      · have a := md y ⟨sy, t⟩
        omega
theorem fq_nearest (h : fq_R S l g n a1 a2 a3 a4) (x : Int32) (H : ∀ r, fq_nr S x.toInt r → post r) : wpX_nearest post (l, g, n, a1, a2, a3, a4) x := by
  unfold wpX_nearest
  try dsimp only
  refine fq_after h x (fun up hup => fq_member h x (fun k hk e sk => br_f (by decide) (fq_near23 hup (Or.inr ⟨k, hk, e, ⟨sk, ?_⟩, ?_⟩) H)) (fun hn => br_t rfl (fq_before h x (fun dn hdn => fq_near23 hup (fq_mxC hdn fun y => ?_) H))))
  · rw [e, nI_toInt (by omega)]
    exact Int.le_refl _
  · rintro y ⟨sy, yx⟩
    rw [e, nI_toInt (by omega)] at yx
    omega
  · refine ⟨fun q => ⟨q.1, Int.le_of_lt q.2⟩, fun q => ⟨q.1, ?_⟩⟩
    rcases Int.lt_or_le (y : Int) x.toInt with t | t
    · exact t
    · have hy := h.1 y q.1
      have b := q.2
      have e : x = nI y := Int32.toInt_inj.mp (by rw [nI_toInt (by omega)]; omega)
      exact absurd q.1 (hn y hy e)
end
end
section
/-! the whole set: the methods that write it -/
theorem fq_CC {P : Nat → Prop} {lo hi pt : Int32} {b b' : Nat → Int32} (h : fq_C P lo hi pt b) (e : ∀ i, i < 4 → b' i = b i) : fq_C P lo hi pt b' := ⟨h.1, h.2.1, h.2.2.1, h.2.2.2.1, fun i hi => by rw [e i hi]; exact h.2.2.2.2 i hi⟩
theorem fq_KC {T T' : Nat → Prop} {a1 a2 a3 a4 : Nat → Int32} (hK : fq_K (fq_cl T) a1 a2 a3 a4) (e : ∀ y, T y ↔ T' y) : fq_K (fq_cl T') a1 a2 a3 a4 := fq_ext e ▸ hK
theorem fq_KF {Cl Cl' : Nat → Nat → Prop} {c : Nat} {a1 a2 a3 a4 a1' a2' a3' a4' : Nat → Int32} (hK : fq_K Cl a1 a2 a3 a4) (hC : fq_C (Cl' c) (a1' c) (a2' c) (a3' c) (fun i => a4' (c * 4 + i))) (hF : fq_Fr c a1 a2 a3 a4 a1' a2' a3' a4') (e : ∀ d, d < 17 → d ≠ c → ∀ y, Cl d y ↔ Cl' d y) : fq_K Cl' a1' a2' a3' a4' := by
  intro d hd
  by_cases z : d = c
  · rw [z]
    exact hC
  · obtain ⟨f1, f2, f3⟩ := hF.1 d z
    rw [f1, f2, f3, ← fq_ext (e d hd z)]
    exact fq_CC (hK d hd) (fun i hi => hF.2 d i z hi)
theorem fq_insK {post : St2 → Prop} {l g n : Int32} {Cl : Nat → Nat → Prop} {c x : Nat} {a1 a2 a3 a4 : Nat → Int32} (hK : fq_K Cl a1 a2 a3 a4) (hc : c < 17) (hx : x < 16) (hn : ¬ Cl c x)
    (H : ∀ a1' a2' a3' a4', (∀ Cl' : Nat → Nat → Prop, (∀ y, Cl' c y ↔ Cl c y ∨ y = x) → (∀ d, d < 17 → d ≠ c → ∀ y, Cl' d y ↔ Cl d y) → fq_K Cl' a1' a2' a3' a4') → post (l, g, n, a1', a2', a3', a4')) :
    wpX_insertInto post (l, g, n, a1, a2, a3, a4) (nI c) (nI x) :=
  fq_insertInto hc hx (hK c hc) hn (fun a1' a2' a3' a4' hC hF => H a1' a2' a3' a4' (fun Cl' e1 e2 => fq_KF hK (by rw [fq_ext e1]; exact hC) hF (fun d hd z y => (e2 d hd z y).symm)))
theorem fq_delK {post : St2 → Prop} {l g n : Int32} {Cl : Nat → Nat → Prop} {c x : Nat} {a1 a2 a3 a4 : Nat → Int32} (hK : fq_K Cl a1 a2 a3 a4) (hc : c < 17) (hx : x < 16) (hp : Cl c x)
    (H : ∀ a1' a2' a3' a4', (∀ Cl' : Nat → Nat → Prop, (∀ y, Cl' c y ↔ Cl c y ∧ y ≠ x) → (∀ d, d < 17 → d ≠ c → ∀ y, Cl' d y ↔ Cl d y) → fq_K Cl' a1' a2' a3' a4') → post (l, g, n, a1', a2', a3', a4')) :
    wpX_deleteFrom post (l, g, n, a1, a2, a3, a4) (nI c) (nI x) :=
  fq_deleteFrom hc hx (hK c hc) hp (fun a1' a2' a3' a4' hC hF => H a1' a2' a3' a4' (fun Cl' e1 e2 => fq_KF hK (by rw [fq_ext e1]; exact hC) hF (fun d hd z y => (e2 d hd z y).symm)))
/-! the clusters' sets under insert and delete -/
section
variable {T T' : Nat → Prop} {r : Nat}
theorem fq_clI1 (hr : r < 256) (e : ∀ y, T' y ↔ T y ∨ y = r) (y : Nat) : fq_cl T' (r / 16) y ↔ fq_cl T (r / 16) y ∨ y = r % 16 := by
  rw [fq_clA (by omega), fq_clA (by omega), e]
  constructor
  · rintro ⟨hy, q | q⟩
    · exact Or.inl ⟨hy, q⟩
    · exact Or.inr (by omega)
  · rintro (⟨hy, q⟩ | q)
    · exact ⟨hy, Or.inl q⟩
    · exact ⟨by omega, Or.inr (by omega)⟩
theorem fq_clI2 {d : Nat} (hd : d < 16) (hn : d ≠ r / 16) (e : ∀ y, T' y ↔ T y ∨ y = r) (y : Nat) : fq_cl T' d y ↔ fq_cl T d y := by
  rw [fq_clA hd, fq_clA hd, e]
  constructor
  · rintro ⟨hy, q | q⟩
    · exact ⟨hy, q⟩
    · omega
  · rintro ⟨hy, q⟩
    exact ⟨hy, Or.inl q⟩
theorem fq_clI3 (hr : r < 256) (e : ∀ y, T' y ↔ T y ∨ y = r) (y : Nat) : fq_cl T' 16 y ↔ fq_cl T 16 y ∨ y = r / 16 := by
  rw [fq_clB, fq_clB]
  constructor
  · rintro ⟨hy, w, hw, q⟩
    rcases (e _).mp q with q | q
    · exact Or.inl ⟨hy, w, hw, q⟩
    · exact Or.inr (by omega)
  · rintro (⟨hy, w, hw, q⟩ | q)
    · exact ⟨hy, w, hw, (e _).mpr (Or.inl q)⟩
    · exact ⟨by omega, r % 16, by omega, (e _).mpr (Or.inr (by omega))⟩
theorem fq_clJ1 (hr : r < 256) (e : ∀ y, T' y ↔ T y ∧ y ≠ r) (y : Nat) : fq_cl T' (r / 16) y ↔ fq_cl T (r / 16) y ∧ y ≠ r % 16 := by
  rw [fq_clA (by omega), fq_clA (by omega), e]
  constructor
  · rintro ⟨hy, q, q'⟩
    exact ⟨⟨hy, q⟩, by omega⟩
  · rintro ⟨⟨hy, q⟩, q'⟩
    exact ⟨hy, q, by omega⟩
theorem fq_clJ2 {d : Nat} (hd : d < 16) (hn : d ≠ r / 16) (e : ∀ y, T' y ↔ T y ∧ y ≠ r) (y : Nat) : fq_cl T' d y ↔ fq_cl T d y := by
  rw [fq_clA hd, fq_clA hd, e]
  constructor
  · rintro ⟨hy, q, q'⟩
    exact ⟨hy, q⟩
  · rintro ⟨hy, q⟩
    exact ⟨hy, q, by omega⟩
theorem fq_clJ3 (hr : r < 256) (e : ∀ y, T' y ↔ T y ∧ y ≠ r) (h : ∃ y, fq_cl T' (r / 16) y) (y : Nat) : fq_cl T' 16 y ↔ fq_cl T 16 y := by
  rw [fq_clB, fq_clB]
  constructor
  · rintro ⟨hy, w, hw, q⟩
    exact ⟨hy, w, hw, ((e _).mp q).1⟩
  · rintro ⟨hy, w, hw, q⟩
    by_cases z : 16 * y + w = r
    · obtain ⟨t, ht⟩ := h
      have ez : y = r / 16 := by omega
      obtain ⟨a, b⟩ := (fq_clA (by omega)).mp ht
      rw [ez]
      exact ⟨by omega, t, a, b⟩
    · exact ⟨hy, w, hw, (e _).mpr ⟨q, z⟩⟩
theorem fq_clJ4 (hr : r < 256) (e : ∀ y, T' y ↔ T y ∧ y ≠ r) (h : ¬ ∃ y, fq_cl T' (r / 16) y) (y : Nat) : fq_cl T' 16 y ↔ fq_cl T 16 y ∧ y ≠ r / 16 := by
  rw [fq_clB, fq_clB]
  constructor
  · rintro ⟨hy, w, hw, q⟩
    refine ⟨⟨hy, w, hw, ((e _).mp q).1⟩, fun z => h ⟨w, ?_⟩⟩
    rw [← z]
    exact (fq_clA hy).mpr ⟨hw, q⟩
  · rintro ⟨⟨hy, w, hw, q⟩, z⟩
    exact ⟨hy, w, hw, (e _).mpr ⟨q, by omega⟩⟩
end
section
variable {post : Int32 → St2 → Prop} {l g n : Int32} {a1 a2 a3 a4 : Nat → Int32} {S T : Nat → Prop} {Cl : Nat → Nat → Prop} {r k : Nat}
theorem fq_ins90 (hr : r < 256) (hK : fq_K Cl a1 a2 a3 a4) (hn : ¬ Cl (r / 16) (r % 16))
    (H : ∀ a1' a2' a3' a4', (∀ Cl' : Nat → Nat → Prop, (∀ y, Cl' (r / 16) y ↔ Cl (r / 16) y ∨ y = r % 16) → (∀ d, d < 17 → d ≠ r / 16 → ∀ y, Cl' d y ↔ Cl d y) → fq_K Cl' a1' a2' a3' a4') → ∀ g', ((nI r ≤ g ∧ g' = g) ∨ (¬ nI r ≤ g ∧ g' = nI r)) → post 1 (l, g', n, a1', a2', a3', a4')) :
    wX_insert_90 post (nI r) (nI (r / 16)) l g n a1 a2 a3 a4 := by
  obtain ⟨e15, e4⟩ := fq_x256 r hr
  unfold wX_insert_90
  rw [e15]
  refine fq_insK hK (by omega) (by omega) hn (fun a1' a2' a3' a4' hcl => ?_)
  dsimp only
  exact br_c (fun z => H _ _ _ _ hcl _ (Or.inl ⟨z, rfl⟩)) (fun z => H _ _ _ _ hcl _ (Or.inr ⟨z, rfl⟩))
theorem fq_ins70 (hr : r < 256) (hK : fq_K (fq_cl T) a1 a2 a3 a4) (hn : ¬ T r)
    (H : ∀ a1' a2' a3' a4', (∀ T' : Nat → Prop, (∀ y, T' y ↔ T y ∨ y = r) → fq_K (fq_cl T') a1' a2' a3' a4') → ∀ g', ((nI r ≤ g ∧ g' = g) ∨ (¬ nI r ≤ g ∧ g' = nI r)) → post 1 (l, g', n, a1', a2', a3', a4')) :
    wX_insert_70 post (nI r) l g n a1 a2 a3 a4 := by
  obtain ⟨e15, e4⟩ := fq_x256 r hr
  have ed : (nI (r / 16)).toNatClampNeg = r / 16 := nI_clamp (by omega)
  have hn' : ¬ fq_cl T (r / 16) (r % 16) := by
    rw [fq_clD hr]
    exact hn
  unfold wX_insert_70
  refine nm_r e4 ?_
  rw [ed]
  refine ⟨vp_in_nI (by omega) (by decide), ek_if (fq_mnG (hK (r / 16) (by omega)).2.1) (fun h1 => ?_) (fun h1 => ?_)⟩
  · refine fq_ins90 hr hK hn' (fun a1' a2' a3' a4' hcl => H _ _ _ _ (fun T' e => hcl (fq_cl T') (fq_clI1 hr e) (fun d hd nd y => ?_)))
    by_cases z : d = 16
    · rw [z, fq_clI3 hr e]
      refine ⟨fun q => q.elim (fun q => q) (fun q => ?_), Or.inl⟩
      obtain ⟨t, ht⟩ := h1
      obtain ⟨a, b⟩ := (fq_clA (by omega)).mp ht
      rw [q]
      exact fq_clB.mpr ⟨by omega, t, a, b⟩
    · exact fq_clI2 (by omega) nd e y
  · refine fq_insK (c := 16) hK (by decide) (by omega) (fun q => ?_) (fun a1' a2' a3' a4' hcl => ?_)
    · obtain ⟨a, t, b, c⟩ := fq_clB.mp q
      exact h1 ⟨t, (fq_clA a).mpr ⟨b, c⟩⟩
    · dsimp only
      have K1 := hcl (fun d y => fq_cl T d y ∨ (d = 16 ∧ y = r / 16)) (fun y => ⟨fun q => q.elim Or.inl (fun q => Or.inr q.2), fun q => q.elim Or.inl (fun q => Or.inr ⟨rfl, q⟩)⟩) (fun d hd nd y => ⟨fun q => q.elim (fun q => q) (fun q => absurd q.1 nd), Or.inl⟩)
      refine fq_ins90 hr K1 (fun q => q.elim hn' (fun q => by omega)) (fun a1'' a2'' a3'' a4'' hcl2 => H _ _ _ _ (fun T' e => hcl2 (fq_cl T') (fun y => ?_) (fun d hd nd y => ?_)))
      · rw [fq_clI1 hr e]
        exact ⟨fun q => q.elim (fun q => Or.inl (Or.inl q)) Or.inr, fun q => q.elim (fun q => q.elim Or.inl (fun q => by omega)) Or.inr⟩
      · by_cases z : d = 16
        · rw [z, fq_clI3 hr e]
          exact ⟨fun q => q.elim Or.inl (fun q => Or.inr ⟨rfl, q⟩), fun q => q.elim Or.inl (fun q => Or.inr q.2)⟩
        · rw [fq_clI2 (by omega) nd e]
          exact ⟨Or.inl, fun q => q.elim (fun q => q) (fun q => absurd q.1 z)⟩
theorem fq_insert (h : fq_R S l g n a1 a2 a3 a4) (hk : k < 256) (H1 : ¬ S k → ∀ l' g' n' a1' a2' a3' a4', fq_R (fun y => S y ∨ y = k) l' g' n' a1' a2' a3' a4' → post 1 (l', g', n', a1', a2', a3', a4')) (H0 : S k → post 0 (l, g, n, a1, a2, a3, a4)) : wpX_insert post (l, g, n, a1, a2, a3, a4) (nI k) := by
  have h' := h
  obtain ⟨hb, hl, hg, hn, hK⟩ := h
  have hb' : ∀ y, (S y ∨ y = k) → y < 256 := fun y q => q.elim (hb y) (fun q => by omega)
  unfold wpX_insert
  try dsimp only
  refine br_f (nI_pos (by omega)) (br_f (nI_ge (b := 256) hk (by decide)) (fq_memberN h' hk (fun sk => br_f (by decide) (H0 sk)) (fun nk => br_t rfl ?_)))
  have en : n + 1 = nI (fq_cnt (fun y => S y ∨ y = k) 256) := by
    rw [hn, nI_1, fq_ca nk 256 hk (fun y _ => Iff.rfl)]
  refine nm_r en (ek_if (fq_mnG hl) (fun h1 => ek_if (fq_mnLe hl hk) (fun h2 => ?_) (fun h2 => ?_)) (fun h1 => ?_))
  · obtain ⟨t, pt⟩ := h1
    obtain ⟨w, pw, wx⟩ := h2.resolve_left (fun z => z t pt)
    have hq := fq_qa (P' := fun y => S y ∨ y = k) pw nk wx (fun y => Iff.rfl)
    refine fq_ins70 hk hK (fun q => nk q.1) (fun a1' a2' a3' a4' hcl g' hg' => H1 nk _ _ _ _ _ _ _ ⟨hb', fq_mna hl ⟨w, pw, wx⟩, ?_, rfl, hcl _ hq⟩)
    rcases hg' with ⟨z, e⟩ | ⟨z, e⟩
    · rw [e]
      exact fq_mxa hg ((fq_mxLe hg hk).mp z)
    · rw [e]
      exact fq_mxb hk (fun q => z ((fq_mxLe hg hk).mpr q))
  · rcases hl with ⟨_, q⟩ | ⟨w, hw, e, pw, mw⟩
    · exact absurd (Or.inl q) h2
    have h2' : ¬ ∃ l, S l ∧ l ≤ k := fun q => h2 (Or.inr q)
    have wx : k < w := by
      rcases Nat.lt_or_ge k w with q | q
      · exact q
      · exact absurd ⟨w, pw, q⟩ h2'
    have hq := fq_qb (P' := fun y => S y ∨ y = k) pw mw wx (fun y => Iff.rfl)
    rw [e]
    refine fq_ins70 hw hK (fun ⟨_, v, pv, vw⟩ => by have a := mw v pv; omega) (fun a1' a2' a3' a4' hcl g' hg' => H1 nk _ _ _ _ _ _ _ ⟨hb', fq_mnb hk h2', ?_, rfl, hcl _ hq⟩)
    rcases hg' with ⟨z, e⟩ | ⟨z, e⟩
    · rw [e]
      exact fq_mxa hg ⟨w, pw, by omega⟩
    · exact absurd ((fq_mxLe hg hw).mpr ⟨w, pw, Nat.le_refl w⟩) z
  · refine H1 nk _ _ _ _ _ _ _ ⟨hb', fq_mnb hk (fun ⟨v, q, _⟩ => h1 ⟨v, q⟩), fq_mxb hk (fun ⟨v, q, _⟩ => h1 ⟨v, q⟩), rfl, fq_KC hK (fun y => ⟨fun q => absurd ⟨y, q.1⟩ h1, ?_⟩)⟩
    rintro ⟨q | q, w, q' | q', t⟩
    · exact absurd ⟨y, q⟩ h1
    · exact absurd ⟨y, q⟩ h1
    · exact absurd ⟨w, q'⟩ h1
    · omega
theorem fq_del96 (hb : ∀ y, S y → y < 256) (hl : fq_mn S l) (hK : fq_K (fq_cl (fq_Q S)) a1 a2 a3 a4) (H : ∀ g', fq_mx S g' → post 1 (l, g', n, a1, a2, a3, a4)) : wX_delete_96 post l g n a1 a2 a3 a4 := by
  unfold wX_delete_96
  rcases (hK 16 (by decide)).2.2.1 with ⟨e, q⟩ | ⟨d, hd, e, pd, md⟩
  · exact nm_r e (br_f (by decide) (H _ (fq_qg hl (fun y qy => q (y / 16) (fq_clE (hb y qy.1) qy)))))
  · obtain ⟨hd16, w0, hw0, qw0⟩ := fq_clB.mp pd
    have ed : (nI d).toNatClampNeg = d := nI_clamp (by omega)
    refine nm_r e (br_t (nI_pos' (by omega)) ⟨vp_in_nI (by omega) (by decide), ?_⟩)
    rw [ed]
    rcases (hK d (by omega)).2.2.1 with ⟨_, q⟩ | ⟨w, hw, ew, pw, mw⟩
    · exact absurd ((fq_clA hd16).mpr ⟨hw0, qw0⟩) (q w0)
    obtain ⟨hw16, qw⟩ := (fq_clA hd16).mp pw
    rw [ew, fq_i16]
    refine nm_e (H _ (fq_qh (Or.inr ⟨16 * d + w, by omega, rfl, qw, fun y qy => ?_⟩) (fun z => z _ qw)))
    have hy := hb y qy.1
    have c1 := md (y / 16) (fq_clE hy qy)
    rcases Nat.lt_or_ge (y / 16) d with t | t
    · omega
    · have e : y / 16 = d := by omega
      have f := (fq_clD hy).mpr qy
      rw [e] at f
      have f2 := mw (y % 16) f
      omega
theorem fq_del63 (hr : r < 256) (hK : fq_K (fq_cl T) a1 a2 a3 a4) (hT : T r) (H : ∀ a1' a2' a3' a4', (∀ T' : Nat → Prop, (∀ y, T' y ↔ T y ∧ y ≠ r) → fq_K (fq_cl T') a1' a2' a3' a4') → wX_delete_96 post l g n a1' a2' a3' a4') : wX_delete_63 post (nI r) l g n a1 a2 a3 a4 := by
  obtain ⟨e15, e4⟩ := fq_x256 r hr
  have ed : (nI (r / 16)).toNatClampNeg = r / 16 := nI_clamp (by omega)
  unfold wX_delete_63
  rw [e15]
  refine br_f (nI_pos (by omega)) (nm_r e4 ?_)
  rw [ed]
  refine fq_delK hK (by omega) (by omega) ((fq_clD hr).mpr hT) (fun a1' a2' a3' a4' hcl => ?_)
  dsimp only
  have K1 := hcl (fun d y => fq_cl T d y ∧ ¬ (d = r / 16 ∧ y = r % 16)) (fun y => ⟨fun q => ⟨q.1, fun z => q.2 ⟨rfl, z⟩⟩, fun q => ⟨q.1, fun z => q.2 z.2⟩⟩) (fun d hd nd y => ⟨fun q => q.1, fun q => ⟨q, fun z => nd z.1⟩⟩)
  have hE : ∀ T' : Nat → Prop, (∀ y, T' y ↔ T y ∧ y ≠ r) → ∀ y, fq_cl T' (r / 16) y ↔ (fq_cl T (r / 16) y ∧ ¬ (r / 16 = r / 16 ∧ y = r % 16)) := fun T' e y => by
    rw [fq_clJ1 hr e]
    exact ⟨fun q => ⟨q.1, fun z => q.2 z.2⟩, fun q => ⟨q.1, fun z => q.2 ⟨rfl, z⟩⟩⟩
  refine ⟨vp_in_nI (by omega) (by decide), ek_if (fq_mnG (K1 (r / 16) (by omega)).2.1) (fun h1 => ?_) (fun h1 => ?_)⟩
  · refine H _ _ _ _ (fun T' e => hcl (fq_cl T') (fq_clJ1 hr e) (fun d hd nd y => ?_))
    by_cases z : d = 16
    · rw [z]
      obtain ⟨t, ht⟩ := h1
      exact fq_clJ3 hr e ⟨t, (hE T' e t).mpr ht⟩ y
    · exact fq_clJ2 (by omega) nd e y
  · have hp : fq_cl T 16 (r / 16) ∧ ¬ (16 = r / 16 ∧ r / 16 = r % 16) := ⟨fq_clE hr hT, fun z => by omega⟩
    refine fq_delK (c := 16) K1 (by decide) (by omega) hp (fun a1'' a2'' a3'' a4'' hcl2 => ?_)
    dsimp only
    refine H _ _ _ _ (fun T' e => hcl2 (fq_cl T') (fun y => ?_) (fun d hd nd y => ?_))
    · rw [fq_clJ4 hr e (fun ⟨t, ht⟩ => h1 ⟨t, (hE T' e t).mp ht⟩)]
      exact ⟨fun q => ⟨⟨q.1, fun z => by omega⟩, q.2⟩, fun q => ⟨q.1.1, q.2⟩⟩
    · by_cases z : d = r / 16
      · rw [z]
        exact hE T' e y
      · rw [fq_clJ2 (by omega) z e]
        exact ⟨fun q => ⟨q, fun t => z t.1⟩, fun q => q.1⟩
theorem fq_delete (h : fq_R S l g n a1 a2 a3 a4) (hk : k < 256) (sk : S k) (H : ∀ l' g' n' a1' a2' a3' a4', fq_R (fun y => S y ∧ y ≠ k) l' g' n' a1' a2' a3' a4' → post 1 (l', g', n', a1', a2', a3', a4')) : wpX_delete post (l, g, n, a1, a2, a3, a4) (nI k) := by
  have h' := h
  obtain ⟨hb, hl, hg, hn, hK⟩ := h
  have hb' : ∀ y, (S y ∧ y ≠ k) → y < 256 := fun y q => hb y q.1
  unfold wpX_delete
  try dsimp only
  refine fq_memberN h' hk (fun _ => br_f (by decide) ?_) (fun z => absurd sk z)
  have ec : fq_cnt S 256 = fq_cnt (fun y => S y ∧ y ≠ k) 256 + 1 := fq_ca (fun q => q.2 rfl) 256 hk (fun y _ => ⟨fun q => (Classical.em (y = k)).elim Or.inr (fun z => Or.inl ⟨q, z⟩), fun q => q.elim (fun q => q.1) (fun q => q ▸ sk)⟩)
  have en : n - 1 = nI (fq_cnt (fun y => S y ∧ y ≠ k) 256) := by
    rw [hn, ec, nI_pred]
  refine nm_r en (ek_if (eq_comm.trans (fq_mnEq hl hk)) (fun h1 => ?_) (fun h1 => ?_))
  · rcases (hK 16 (by decide)).2.1 with ⟨e, q⟩ | ⟨d, hd, e, pd, md⟩
    · have hq0 : ∀ y, ¬ fq_Q S y := fun y qy => q (y / 16) (fq_clE (hb y qy.1) qy)
      refine nm_r e (br_f (by decide) ?_)
      unfold wX_delete_57 wX_delete_63
      have hl' : fq_mn (fun y => S y ∧ y ≠ k) (-1) := fq_qe h1.1 h1.2 (fun y => Iff.rfl) (Or.inl ⟨rfl, hq0⟩)
      have hK' : fq_K (fq_cl (fq_Q (fun y => S y ∧ y ≠ k))) a1 a2 a3 a4 := fq_KC hK (fun y => ⟨fun q => absurd q (hq0 y), fun ⟨q, w, q', t⟩ => ⟨q.1, w, q'.1, t⟩⟩)
      exact br_t (by decide) (fq_del96 hb' hl' hK' (fun g' hg' => H _ _ _ _ _ _ _ ⟨hb', hl', hg', rfl, hK'⟩))
    · obtain ⟨hd16, w0, hw0, qw0⟩ := fq_clB.mp pd
      have ed : (nI d).toNatClampNeg = d := nI_clamp (by omega)
      refine nm_r e (br_t (nI_pos' (by omega)) ⟨vp_in_nI (by omega) (by decide), ?_⟩)
      rw [ed]
      rcases (hK d (by omega)).2.1 with ⟨_, q⟩ | ⟨w, hw, ew, pw, mw⟩
      · exact absurd ((fq_clA hd16).mpr ⟨hw0, qw0⟩) (q w0)
      obtain ⟨hw16, qw⟩ := (fq_clA hd16).mp pw
      rw [ew, fq_i16]
      have hmin : ∀ y, fq_Q S y → 16 * d + w ≤ y := fun y qy => by
        have hy := hb y qy.1
        have c1 := md (y / 16) (fq_clE hy qy)
        rcases Nat.lt_or_ge d (y / 16) with t | t
        · omega
        · have e : y / 16 = d := by omega
          have f := (fq_clD hy).mpr qy
          rw [e] at f
          have f2 := mw (y % 16) f
          omega
      have hl' : fq_mn (fun y => S y ∧ y ≠ k) (nI (16 * d + w)) := fq_qe h1.1 h1.2 (fun y => Iff.rfl) (Or.inr ⟨16 * d + w, by omega, rfl, qw, hmin⟩)
      have hq := fq_qc (P' := fun y => S y ∧ y ≠ k) h1.1 h1.2 qw hmin (fun y => Iff.rfl)
      unfold wX_delete_57
      refine fq_del63 (by omega) hK qw (fun a1' a2' a3' a4' hcl => ?_)
      exact fq_del96 hb' hl' (hcl _ hq) (fun g' hg' => H _ _ _ _ _ _ _ ⟨hb', hl', hg', rfl, hcl _ hq⟩)
  · have hl' : fq_mn (fun y => S y ∧ y ≠ k) l := fq_qf (fun q => h1 ((fq_mnEq hl hk).mp q)) hl (fun y => Iff.rfl)
    rcases hl with ⟨_, q⟩ | ⟨w, hw, e, pw, mw⟩
    · exact absurd sk (q k)
    have hxw : k ≠ w := fun q => h1 (q ▸ ⟨pw, mw⟩)
    have hq := fq_qd (P' := fun y => S y ∧ y ≠ k) pw mw hxw (fun y => Iff.rfl)
    have hqk : fq_Q S k := ⟨sk, w, pw, by have a := mw k sk; omega⟩
    refine fq_del63 hk hK hqk (fun a1' a2' a3' a4' hcl => ?_)
    exact fq_del96 hb' hl' (hcl _ hq) (fun g' hg' => H _ _ _ _ _ _ _ ⟨hb', hl', hg', rfl, hcl _ hq⟩)
theorem fq_takeLeast (h : fq_R S l g n a1 a2 a3 a4) (H : ∀ S' : Nat → Prop, (∀ y, S' y ↔ S y ∧ ¬ l = nI y) → ∀ l' g' n' a1' a2' a3' a4', fq_R S' l' g' n' a1' a2' a3' a4' → post l (l', g', n', a1', a2', a3', a4')) : wpX_takeLeast post (l, g, n, a1, a2, a3, a4) := by
  unfold wpX_takeLeast
  try dsimp only
  rcases h.2.1 with ⟨e, q⟩ | ⟨w, hw, e, pw, mw⟩
  · subst e
    unfold wpX_delete
    try dsimp only
    exact fq_member h (-1) (fun k _ _ z => absurd z (q k)) (fun _ => br_t rfl (br_t rfl (H S (fun y => ⟨fun z => absurd z (q y), fun z => z.1⟩) _ _ _ _ _ _ _ h)))
  · subst e
    have hS : ∀ y, (S y ∧ y ≠ w) ↔ (S y ∧ ¬ nI w = nI y) := fun y => ⟨fun z => ⟨z.1, fun t => z.2 (by have hy := h.1 y z.1; rw [nI_eq (by omega) (by omega)] at t; exact t.symm)⟩, fun z => ⟨z.1, fun t => z.2 (by rw [t])⟩⟩
    refine fq_delete h hw pw (fun l' g' n' a1' a2' a3' a4' hR => ?_)
    dsimp only
    exact br_f (by decide) (H _ hS _ _ _ _ _ _ _ hR)
end
end
section
/-! the class's loops -/
def fq_G (S : Nat → Prop) (a b : Int32) (y : Nat) : Prop := S y ∧ a.toInt ≤ (y : Int) ∧ (y : Int) ≤ b.toInt
section
variable {post : Int32 → Prop} {l g n : Int32} {a1 a2 a3 a4 : Nat → Int32} {S : Nat → Prop}
theorem fq_countBetween (h : fq_R S l g n a1 a2 a3 a4) (a b : Int32) (H : post (nI (fq_cnt (fq_G S a b) 256))) : wpX_countBetween post (l, g, n, a1, a2, a3, a4) a b := by
  unfold wpX_countBetween
  try dsimp only
  refine fq_from h a (fun r hr => ?_)
  refine pk_loop (fun m i s => wX_countBetween_12 post b l g n a1 a2 a3 a4 m (nI i) s (nI i)) (fun i s => ∃ M, M ≤ 256 ∧ fq_cnt (fq_G S a b) M = i ∧ fq_mn (fun y => S y ∧ a.toInt ≤ (y : Int) ∧ M ≤ y) s) 256 0 r (by omega) ⟨0, by omega, rfl, fq_mnC hr fun y => ⟨fun q => ⟨q.1, q.2, Nat.zero_le y⟩, fun q => ⟨q.1, q.2.1⟩⟩⟩ ?_ ?_
  · rintro m s ⟨M, hM, hc, hs⟩
    have a := fq_cb (P := fq_G S a b) M
    have e : M = 256 := by omega
    rw [e] at hc
    rw [hc] at H
    exact br_t (nI_le (a := 256) (b := 256) (by omega) (by omega)) H
  · rintro m i s hi ⟨M, hM, hc, hs⟩ hw
    have hfin : (∀ y, M ≤ y → y < 256 → ¬ fq_G S a b y) → post (nI i) := fun z => by
      have t := fq_cg hM z
      rw [t, hc] at H
      exact H
    refine br_f (nI_ge (b := 256) hi (by omega)) (ek_if (fq_mn0 hs) (fun z => hfin (fun y h1 h2 q => z y ⟨q.1, q.2.1, h1⟩)) (fun z => ?_))
    rcases hs with ⟨_, q⟩ | ⟨y, hy, rfl, ⟨sy, ay, My⟩, my⟩
    · exact absurd q z
    refine fq_ltI rfl (nI_toInt (by omega)) (fun h1 => hfin (fun w h2 h3 q => ?_)) (fun h1 => nm_r (nI_1 i) (fq_after h (nI y) (fun r hr => nm_r (nI_1 i) (hw r ⟨y + 1, by omega, ?_, ?_⟩))))
    · have c1 := my w ⟨q.1, q.2.1, h2⟩
      have c2 := q.2.2
      omega
    · have t : fq_cnt (fq_G S a b) y = fq_cnt (fq_G S a b) M := fq_cg My (fun w h2 h3 q => by
        have c1 := my w ⟨q.1, q.2.1, h2⟩
        omega)
      rw [fq_cy ⟨sy, ay, h1⟩, t, hc]
    · refine fq_mnC hr (fun w => ?_)
      rw [nI_toInt (by omega)]
      exact ⟨fun q => ⟨q.1, by have c1 := q.2; omega, by have c1 := q.2; omega⟩, fun q => ⟨q.1, by have c1 := q.2.2; omega⟩⟩
theorem fq_select (h : fq_R S l g n a1 a2 a3 a4) {v : Nat} (hv : v < 256) (sv : S v) (H : post (nI v)) : wpX_select post (l, g, n, a1, a2, a3, a4) (nI (fq_cnt S v)) := by
  have hcb := fq_cb (P := S) v
  unfold wpX_select
  try dsimp only
  refine br_t (nI_pos' (by omega)) ?_
  rcases h.2.1 with ⟨_, q⟩ | ⟨w, hw, ew, pw, mw⟩
  · exact absurd sv (q v)
  have h0 : fq_cnt S w = 0 := fq_cg (m := 0) (by omega) (fun y _ hy sy => by
    have c1 := mw y sy
    omega)
  refine pk_loop (fun m i s => wX_select_15 post (nI (fq_cnt S v)) l g n a1 a2 a3 a4 m s (nI i)) (fun i s => ∃ y, y < 256 ∧ s = nI y ∧ S y ∧ fq_cnt S y = i) (fq_cnt S v) 0 l (by omega) ⟨w, hw, ew, pw, h0⟩ ?_ ?_
  · rintro m s ⟨y, hy, rfl, sy, e⟩
    rw [fq_cinj sy sv e]
    exact br_t (nI_le (Nat.le_refl _) (by omega)) H
  · rintro m i s hi ⟨y, hy, rfl, sy, e⟩ hw'
    have hyv : y < v := by
      rcases Nat.lt_or_ge y v with t | t
      · exact t
      · have c1 := fq_cm (P := S) t
        omega
    refine br_f (nI_ge hi (by omega)) (br_f (nI_pos (by omega)) (fq_after h (nI y) (fun r hr => nm_r (nI_1 i) (hw' r ?_))))
    rw [nI_toInt (by omega)] at hr
    rcases hr with ⟨_, q⟩ | ⟨t, ht, et, ⟨st, yt⟩, mt⟩
    · exact absurd ⟨sv, by omega⟩ (q v)
    · refine ⟨t, ht, et, st, ?_⟩
      have c1 : fq_cnt S t = fq_cnt S (y + 1) := fq_cg (by omega) (fun d h1 h2 sd => by
        have c2 := mt d ⟨sd, by omega⟩
        omega)
      rw [c1, fq_cy sy, e]
theorem fq_gapFrom (h : fq_R S l g n a1 a2 a3 a4) {v : Nat} (hv : v + 1 < 256) (sv : S v) (nv : ¬ S (v + 1)) (H : post (nI (v + 1))) : wpX_gapFrom post (l, g, n, a1, a2, a3, a4) (nI v) := by
  unfold wpX_gapFrom
  try dsimp only
  refine br_t (nI_pos' (by omega)) ⟨0 + 1 + 1, ?_⟩
  refine br_f (nI_ge (b := 256) (show v < 256 by omega) (by omega)) (fq_memberN h (by omega) (fun _ => br_f (by decide) (nm_r (nI_1 v) ?_)) (fun z => absurd sv z))
  refine br_f (nI_ge (b := 256) hv (by omega)) (fq_memberN h hv (fun z => absurd z nv) (fun _ => br_t rfl ?_))
  exact br_f (nI_ge (b := 256) hv (by omega)) H
end
section
variable {post : Int32 → St2 → Prop} {l g n : Int32} {a1 a2 a3 a4 : Nat → Int32} {S : Nat → Prop}
theorem fq_RC {S' : Nat → Prop} (h : fq_R S l g n a1 a2 a3 a4) (e : ∀ y, S y ↔ S' y) : fq_R S' l g n a1 a2 a3 a4 := fq_ext e ▸ h
theorem fq_deleteBetween (h : fq_R S l g n a1 a2 a3 a4) (a b : Int32) (H : ∀ S' : Nat → Prop, (∀ y, S' y ↔ S y ∧ ¬ fq_G S a b y) → ∀ l' g' n' a1' a2' a3' a4', fq_R S' l' g' n' a1' a2' a3' a4' → post (nI (fq_cnt (fq_G S a b) 256)) (l', g', n', a1', a2', a3', a4')) : wpX_deleteBetween post (l, g, n, a1, a2, a3, a4) a b := by
  unfold wpX_deleteBetween
  try dsimp only
  refine fq_from h a (fun r hr => ?_)
  refine pk_loop (σ := Int32 × Int32 × Int32 × Int32 × (Nat → Int32) × (Nat → Int32) × (Nat → Int32) × (Nat → Int32))
    (fun m i s => wX_deleteBetween_12 post b m (nI i) s.1 (nI i) s.2.1 s.2.2.1 s.2.2.2.1 s.2.2.2.2.1 s.2.2.2.2.2.1 s.2.2.2.2.2.2.1 s.2.2.2.2.2.2.2)
    (fun i s => ∃ M, M ≤ 256 ∧ fq_cnt (fq_G S a b) M = i ∧ fq_mn (fun y => S y ∧ a.toInt ≤ (y : Int) ∧ M ≤ y) s.1 ∧ fq_R (fun y => S y ∧ ¬ (fq_G S a b y ∧ y < M)) s.2.1 s.2.2.1 s.2.2.2.1 s.2.2.2.2.1 s.2.2.2.2.2.1 s.2.2.2.2.2.2.1 s.2.2.2.2.2.2.2)
    256 0 (r, l, g, n, a1, a2, a3, a4) (by omega)
    ⟨0, by omega, rfl, fq_mnC hr fun y => ⟨fun q => ⟨q.1, q.2, Nat.zero_le y⟩, fun q => ⟨q.1, q.2.1⟩⟩, fq_RC h fun y => ⟨fun q => ⟨q, fun z => absurd z.2 (by omega)⟩, fun q => q.1⟩⟩ ?_ ?_
  · rintro m ⟨x4, l', g', n', a1', a2', a3', a4'⟩ ⟨M, hM, hc, hs, hR⟩
    have c1 := fq_cb (P := fq_G S a b) M
    have e : M = 256 := by omega
    rw [e] at hc
    rw [hc] at H
    exact br_t (nI_le (a := 256) (b := 256) (by omega) (by omega)) (H _ (fun y => ⟨fun q => ⟨q.1, fun z => q.2 ⟨z, by have c2 := h.1 y q.1; omega⟩⟩, fun q => ⟨q.1, fun z => q.2 z.1⟩⟩) _ _ _ _ _ _ _ hR)
  · rintro m i ⟨x4, l', g', n', a1', a2', a3', a4'⟩ hi ⟨M, hM, hc, hs, hR⟩ hw
    dsimp only at hs hR
    have hfin : (∀ y, M ≤ y → y < 256 → ¬ fq_G S a b y) → post (nI i) (l', g', n', a1', a2', a3', a4') := fun z => by
      have t := fq_cg hM z
      rw [t, hc] at H
      refine H _ (fun y => ⟨fun q => ⟨q.1, fun z' => ?_⟩, fun q => ⟨q.1, fun z => q.2 z.1⟩⟩) _ _ _ _ _ _ _ hR
      rcases Nat.lt_or_ge y M with t | t
      · exact q.2 ⟨z', t⟩
      · exact z y t (h.1 y q.1) z'
    refine br_f (nI_ge (b := 256) hi (by omega)) (ek_if (fq_mn0 hs) (fun z => hfin (fun y h1 h2 q => z y ⟨q.1, q.2.1, h1⟩)) (fun z => ?_))
    rcases hs with ⟨_, q⟩ | ⟨y, hy, e, ⟨sy, ay, My⟩, my⟩
    · exact absurd q z
    subst e
    refine fq_ltI rfl (nI_toInt (by omega)) (fun h1 => hfin (fun w h2 h3 q => ?_)) (fun h1 => fq_delete hR hy ⟨sy, fun z => absurd z.2 (by omega)⟩ (fun l'' g'' n'' a1'' a2'' a3'' a4'' hR' => nm_r (nI_1 i) (fq_after hR' (nI y) (fun r hr => nm_r (nI_1 i) (hw (r, l'', g'', n'', a1'', a2'', a3'', a4'') ⟨y + 1, by omega, ?_, ?_, ?_⟩)))))
    · have c1 := my w ⟨q.1, q.2.1, h2⟩
      have c2 := q.2.2
      omega
    · have t : fq_cnt (fq_G S a b) y = fq_cnt (fq_G S a b) M := fq_cg My (fun w h2 h3 q => by
        have c1 := my w ⟨q.1, q.2.1, h2⟩
        omega)
      rw [fq_cy ⟨sy, ay, h1⟩, t, hc]
    · refine fq_mnC hr (fun w => ?_)
      rw [nI_toInt (by omega)]
      exact ⟨fun q => ⟨q.1.1.1, by have c1 := q.2; omega, by have c1 := q.2; omega⟩, fun q => ⟨⟨⟨q.1, fun z => by have c1 := q.2.2; omega⟩, by have c1 := q.2.2; omega⟩, by have c1 := q.2.2; omega⟩⟩
    · refine fq_RC hR' (fun w => ⟨fun q => ⟨q.1.1, fun z => ?_⟩, fun q => ⟨⟨q.1, fun z => q.2 ⟨z.1, by omega⟩⟩, fun z => ?_⟩⟩)
      · rcases Nat.lt_or_ge w M with t | t
        · exact q.1.2 ⟨z.1, t⟩
        · have c1 := my w ⟨z.1.1, z.1.2.1, t⟩
          have c2 := q.2
          omega
      · subst z
        exact q.2 ⟨⟨sy, ay, h1⟩, by omega⟩
end
end
section
/-! one turn of the law's first loop: what it computes against the set so far -/
section
variable {S C : Nat → Prop} {r : Int32} {v : Nat}
theorem fq_mnS0 (h : fq_mn (fun y => S y ∧ C y) r) (nc : ¬ C v) : fq_mn (fun y => (S y ∨ y = v) ∧ C y) r :=
  fq_mnC h (fun y => ⟨fun q => ⟨Or.inl q.1, q.2⟩, fun q => q.1.elim (fun z => ⟨z, q.2⟩) (fun z => absurd (z ▸ q.2) nc)⟩)
theorem fq_mnS1 (h : fq_mn (fun y => S y ∧ C y) r) (hv : v < 256) (c : C v) (hr : r < 0 ∨ ¬ r ≤ nI v) : fq_mn (fun y => (S y ∨ y = v) ∧ C y) (nI v) := by
  refine Or.inr ⟨v, hv, rfl, ⟨Or.inr rfl, c⟩, ?_⟩
  rintro y ⟨sy | sy, cy⟩
  · rcases h with ⟨_, q⟩ | ⟨l, hl, e, pl, ml⟩
    · exact absurd ⟨sy, cy⟩ (q y)
    · have a := ml y ⟨sy, cy⟩
      rw [e] at hr
      have b := hr.resolve_left (nI_pos (by omega))
      rw [nI_leI (by omega) (by omega)] at b
      omega
  · omega
theorem fq_mnS2 (h : fq_mn (fun y => S y ∧ C y) r) (hv : v < 256) (h0 : ¬ r < 0) (hr : r ≤ nI v) : fq_mn (fun y => (S y ∨ y = v) ∧ C y) r := by
  rcases h with ⟨e, _⟩ | ⟨l, hl, e, pl, ml⟩
  · rw [e] at h0
    exact absurd (by decide) h0
  · refine Or.inr ⟨l, hl, e, ⟨Or.inl pl.1, pl.2⟩, ?_⟩
    rw [e, nI_leI (by omega) (by omega)] at hr
    rintro y ⟨sy | sy, cy⟩
    · exact ml y ⟨sy, cy⟩
    · omega
theorem fq_mxS0 (h : fq_mx (fun y => S y ∧ C y) r) (nc : ¬ C v) : fq_mx (fun y => (S y ∨ y = v) ∧ C y) r :=
  fq_mxC h (fun y => ⟨fun q => ⟨Or.inl q.1, q.2⟩, fun q => q.1.elim (fun z => ⟨z, q.2⟩) (fun z => absurd (z ▸ q.2) nc)⟩)
theorem fq_mxS1 (h : fq_mx (fun y => S y ∧ C y) r) (hv : v < 256) (c : C v) (hr : ¬ nI v ≤ r) : fq_mx (fun y => (S y ∨ y = v) ∧ C y) (nI v) := by
  refine Or.inr ⟨v, hv, rfl, ⟨Or.inr rfl, c⟩, ?_⟩
  rintro y ⟨sy | sy, cy⟩
  · rcases h with ⟨_, q⟩ | ⟨l, hl, e, pl, ml⟩
    · exact absurd ⟨sy, cy⟩ (q y)
    · have a := ml y ⟨sy, cy⟩
      rw [e, nI_leI (by omega) (by omega)] at hr
      omega
  · omega
theorem fq_mxS2 (h : fq_mx (fun y => S y ∧ C y) r) (hv : v < 256) (hr : nI v ≤ r) : fq_mx (fun y => (S y ∨ y = v) ∧ C y) r := by
  rcases h with ⟨e, _⟩ | ⟨l, hl, e, pl, ml⟩
  · rw [e] at hr
    exact absurd hr (fq_mnle hv)
  · refine Or.inr ⟨l, hl, e, ⟨Or.inl pl.1, pl.2⟩, ?_⟩
    rw [e, nI_leI (by omega) (by omega)] at hr
    rintro y ⟨sy | sy, cy⟩
    · exact ml y ⟨sy, cy⟩
    · omega
theorem fq_gS0 {a b : Int32} (h : S v ∨ ¬ (a.toInt ≤ (v : Int) ∧ (v : Int) ≤ b.toInt)) : fq_cnt (fq_G (fun y => S y ∨ y = v) a b) 256 = fq_cnt (fq_G S a b) 256 := by
  refine fq_cc 256 (fun y _ => ⟨?_, fun q => ⟨Or.inl q.1, q.2⟩⟩)
  rintro ⟨sy | sy, q⟩
  · exact ⟨sy, q⟩
  · subst sy
    exact ⟨h.resolve_right (fun z => z q), q⟩
theorem fq_gS1 {a b : Int32} (hv : v < 256) (ns : ¬ S v) (h : a.toInt ≤ (v : Int) ∧ (v : Int) ≤ b.toInt) : fq_cnt (fq_G (fun y => S y ∨ y = v) a b) 256 = fq_cnt (fq_G S a b) 256 + 1 := by
  refine fq_ca (fun q => ns q.1) 256 hv (fun y _ => ⟨?_, ?_⟩)
  · rintro ⟨sy | sy, q⟩
    · exact Or.inl ⟨sy, q⟩
    · exact Or.inr sy
  · rintro (q | q)
    · exact ⟨Or.inl q.1, q.2⟩
    · subst q
      exact ⟨Or.inr rfl, h⟩
end
theorem fq_far {post : Int64 → Prop} (v z : Int32) (H : ∀ r : Int64, r.toInt = ((v.toInt - z.toInt).natAbs : Int) → post r) : wpL_far post () v z := by
  have b1 := v.toInt_lt
  have b2 := v.le_toInt
  have b3 := z.toInt_lt
  have b4 := z.le_toInt
  unfold wpL_far
  intro d ed
  have e : d.toInt = v.toInt - z.toInt := by
    rw [ed, Int64.toInt_sub, Int32.toInt_toInt64, Int32.toInt_toInt64]
    exact Int.bmod_eq_of_le_mul_two (by omega) (by omega)
  refine br_c (fun h => H _ ?_) (fun h => H _ ?_)
  · rw [Int64.le_iff_toInt_le, Int64.toInt_zero, e] at h
    omega
  · rw [Int64.le_iff_toInt_le, Int64.toInt_zero, e] at h
    have t : (-d).toInt = -d.toInt := by
      rw [Int64.toInt_neg]
      exact Int.bmod_eq_of_le_mul_two (by omega) (by omega)
    omega
/-- what the law keeps beside the count -/
def fq_J5 (S : Nat → Prop) (z a b : Int32) (x9 x10 x11 x13 x14 : Int32) : Prop :=
  fq_mn (fun y => S y ∧ z.toInt < (y : Int)) x9 ∧ fq_mx (fun y => S y ∧ (y : Int) < z.toInt) x10 ∧ fq_nr S z.toInt x11 ∧ x13 = nI (fq_cnt (fq_G S a b) 256) ∧ fq_mn (fun y => S y ∧ ¬ (a.toInt ≤ (y : Int) ∧ (y : Int) ≤ b.toInt)) x14
section
variable {post : Int32 → St0 → Prop} {mc ms : Nat} {J30 : Int32 → Int32 → Int32 → Int32 → Int32 → Int32 → Int32 → Int32 → Int32 → Int32 → (Nat → Int32) → (Nat → Int32) → (Nat → Int32) → (Nat → Int32) → Prop} {x0 x1 x2 x3 x4 x5 x6 x7 x9 x10 x11 x12 x13 x14 x15 x17 x22 z0 z1 : Int32} {kc ks : Nat} {l g n : Int32} {a1 a2 a3 a4 : Nat → Int32} {S : Nat → Prop} {v : Nat}
theorem fq_L273 (hv : v < 256) (hi : (x22 = 0 ∧ ¬ (x6.toInt ≤ (v : Int) ∧ (v : Int) ≤ x7.toInt)) ∨ (x22 = 1 ∧ (x6.toInt ≤ (v : Int) ∧ (v : Int) ≤ x7.toInt)))
    (h14 : fq_mn (fun y => S y ∧ ¬ (x6.toInt ≤ (y : Int) ∧ (y : Int) ≤ x7.toInt)) x14)
    (H : ∀ x14', fq_mn (fun y => (S y ∨ y = v) ∧ ¬ (x6.toInt ≤ (y : Int) ∧ (y : Int) ≤ x7.toInt)) x14' → J30 x9 x10 x11 x12 (z1 + z0) x14' (x15 + 1) l g n a1 a2 a3 a4) :
    wL_lawOf_273 post mc ms J30 x0 x1 x2 x3 x4 x5 x6 x7 x9 x10 x11 x12 x14 x15 (nI v) x22 z0 z1 kc ks l g n a1 a2 a3 a4 := by
  unfold wL_lawOf_273
  refine nm_e ?_
  rcases hi with ⟨e, hi⟩ | ⟨e, hi⟩ <;> rw [e]
  · exact br_t rfl (br_c (fun h1 => nm_e (H _ (fq_mnS1 h14 hv hi (Or.inl h1)))) (fun h1 => br_c (fun h2 => nm_e (H _ (fq_mnS2 h14 hv h1 h2))) (fun h2 => nm_e (H _ (fq_mnS1 h14 hv hi (Or.inr h2))))))
  · exact br_f (by decide) (nm_e (H _ (fq_mnS0 h14 (fun q => q hi))))
theorem fq_L254 (hv : v < 256) (hf : (x17 = 0 ∧ S v) ∨ (x17 = 1 ∧ ¬ S v)) (hi : (z0 = 0 ∧ ¬ (x6.toInt ≤ (v : Int) ∧ (v : Int) ≤ x7.toInt)) ∨ (z0 = 1 ∧ (x6.toInt ≤ (v : Int) ∧ (v : Int) ≤ x7.toInt)))
    (h13 : x13 = nI (fq_cnt (fq_G S x6 x7) 256)) (h14 : fq_mn (fun y => S y ∧ ¬ (x6.toInt ≤ (y : Int) ∧ (y : Int) ≤ x7.toInt)) x14)
    (H : ∀ x13' x14', x13' = nI (fq_cnt (fq_G (fun y => S y ∨ y = v) x6 x7) 256) → fq_mn (fun y => (S y ∨ y = v) ∧ ¬ (x6.toInt ≤ (y : Int) ∧ (y : Int) ≤ x7.toInt)) x14' → J30 x9 x10 x11 x12 x13' x14' (x15 + 1) l g n a1 a2 a3 a4) :
    wL_lawOf_254 post mc ms J30 x0 x1 x2 x3 x4 x5 x6 x7 x9 x10 x11 x12 x13 x14 x15 (nI v) x17 z0 kc ks l g n a1 a2 a3 a4 := by
  have T0 : (S v ∨ ¬ (x6.toInt ≤ (v : Int) ∧ (v : Int) ≤ x7.toInt)) → wL_lawOf_273 post mc ms J30 x0 x1 x2 x3 x4 x5 x6 x7 x9 x10 x11 x12 x14 x15 (nI v) z0 0 x13 kc ks l g n a1 a2 a3 a4 := fun q =>
    fq_L273 hv hi h14 (fun x14' h => H _ _ (by rw [h13, Int32.add_zero, fq_gS0 q]) h)
  unfold wL_lawOf_254 wL_lawOf_272
  rcases hf with ⟨e, sv⟩ | ⟨e, sv⟩
  · exact br_t e (T0 (Or.inl sv))
  · have hi' := hi
    rcases hi' with ⟨e2, h2⟩ | ⟨e2, h2⟩
    · exact br_f (by rw [e]; decide) (br_t e2 (T0 (Or.inr h2)))
    · exact br_f (by rw [e]; decide) (br_f (by rw [e2]; decide) (fq_L273 hv hi h14 (fun x14' h => H _ _ (by rw [h13, nI_1, fq_gS1 hv sv h2]) h)))
theorem fq_L233 (hv : v < 256) (hf : (x17 = 0 ∧ S v) ∨ (x17 = 1 ∧ ¬ S v))
    (h13 : x13 = nI (fq_cnt (fq_G S x6 x7) 256)) (h14 : fq_mn (fun y => S y ∧ ¬ (x6.toInt ≤ (y : Int) ∧ (y : Int) ≤ x7.toInt)) x14)
    (H : ∀ x13' x14', x13' = nI (fq_cnt (fq_G (fun y => S y ∨ y = v) x6 x7) 256) → fq_mn (fun y => (S y ∨ y = v) ∧ ¬ (x6.toInt ≤ (y : Int) ∧ (y : Int) ≤ x7.toInt)) x14' → J30 x9 x10 x11 x12 x13' x14' (x15 + 1) l g n a1 a2 a3 a4) :
    wL_lawOf_233 post mc ms J30 x0 x1 x2 x3 x4 x5 x6 x7 x9 x10 x12 x13 x14 x15 (nI v) x17 x11 kc ks l g n a1 a2 a3 a4 := by
  unfold wL_lawOf_233 wL_lawOf_253
  refine fq_ltI (nI_toInt (by omega)) rfl (fun h1 => fq_L254 hv hf (Or.inl ⟨rfl, fun q => ?_⟩) h13 h14 H) (fun h1 => fq_ltI rfl (nI_toInt (by omega)) (fun h2 => fq_L254 hv hf (Or.inl ⟨rfl, fun q => ?_⟩) h13 h14 H) (fun h2 => fq_L254 hv hf (Or.inr ⟨rfl, h1, h2⟩) h13 h14 H))
  · omega
  · omega
theorem fq_L178 (hv : v < 256) (hf : (x17 = 0 ∧ S v) ∨ (x17 = 1 ∧ ¬ S v)) (h11 : fq_nr S x5.toInt x11)
    (h13 : x13 = nI (fq_cnt (fq_G S x6 x7) 256)) (h14 : fq_mn (fun y => S y ∧ ¬ (x6.toInt ≤ (y : Int) ∧ (y : Int) ≤ x7.toInt)) x14)
    (H : ∀ x11' x13' x14', fq_nr (fun y => S y ∨ y = v) x5.toInt x11' → x13' = nI (fq_cnt (fq_G (fun y => S y ∨ y = v) x6 x7) 256) → fq_mn (fun y => (S y ∨ y = v) ∧ ¬ (x6.toInt ≤ (y : Int) ∧ (y : Int) ≤ x7.toInt)) x14' → J30 x9 x10 x11' x12 x13' x14' (x15 + 1) l g n a1 a2 a3 a4) :
    wL_lawOf_178 post mc ms J30 x0 x1 x2 x3 x4 x5 x6 x7 x9 x11 x12 x13 x14 x15 (nI v) x17 x10 kc ks l g n a1 a2 a3 a4 := by
  have T : ∀ x11', fq_nr (fun y => S y ∨ y = v) x5.toInt x11' → wL_lawOf_233 post mc ms J30 x0 x1 x2 x3 x4 x5 x6 x7 x9 x10 x12 x13 x14 x15 (nI v) x17 x11' kc ks l g n a1 a2 a3 a4 := fun x11' h =>
    fq_L233 hv hf h13 h14 (fun x13' x14' => H x11' x13' x14' h)
  unfold wL_lawOf_178 wL_lawOf_226 wL_lawOf_231
  refine fq_far _ _ (fun d hd => fq_far _ _ (fun e he => ?_))
  rw [nI_toInt (by omega)] at hd
  rcases h11 with ⟨em, q⟩ | ⟨m, hm, em, sm, mm⟩
  · refine br_t (by rw [em]; decide) (T _ (Or.inr ⟨v, hv, rfl, Or.inr rfl, ?_⟩))
    rintro y (sy | sy)
    · exact absurd sy (q y)
    · rw [sy]
      exact Or.inr ⟨rfl, Nat.le_refl _⟩
  · rw [em, nI_toInt (by omega)] at he
    have TV : (((v : Int) - x5.toInt).natAbs < ((m : Int) - x5.toInt).natAbs ∨ (((v : Int) - x5.toInt).natAbs = ((m : Int) - x5.toInt).natAbs ∧ v ≤ m)) → wL_lawOf_233 post mc ms J30 x0 x1 x2 x3 x4 x5 x6 x7 x9 x10 x12 x13 x14 x15 (nI v) x17 (nI v) kc ks l g n a1 a2 a3 a4 := fun hlt => by
      refine T _ (Or.inr ⟨v, hv, rfl, Or.inr rfl, ?_⟩)
      rintro y (sy | sy)
      · have a := mm y sy
        omega
      · rw [sy]
        exact Or.inr ⟨rfl, Nat.le_refl _⟩
    have TM : (((m : Int) - x5.toInt).natAbs < ((v : Int) - x5.toInt).natAbs ∨ (((m : Int) - x5.toInt).natAbs = ((v : Int) - x5.toInt).natAbs ∧ m ≤ v)) → wL_lawOf_233 post mc ms J30 x0 x1 x2 x3 x4 x5 x6 x7 x9 x10 x12 x13 x14 x15 (nI v) x17 x11 kc ks l g n a1 a2 a3 a4 := fun hlt => by
      refine T _ (Or.inr ⟨m, hm, em, Or.inl sm, ?_⟩)
      rintro y (sy | sy)
      · exact mm y sy
      · rw [sy]
        exact hlt
    refine br_f (by rw [em]; exact nI_pos (by omega)) (br_c (fun h1 => TV ?_) (fun h1 => br_c (fun h2 => pk_le m v (fun h3 => TM ?_) (fun h3 => TV ?_) em rfl) (fun h2 => TM ?_)))
    · rw [Int64.lt_iff_toInt_lt, hd, he] at h1
      omega
    · rw [← Int64.toInt_inj, hd, he] at h2
      omega
    · rw [← Int64.toInt_inj, hd, he] at h2
      omega
    · rw [Int64.lt_iff_toInt_lt, hd, he] at h1
      rw [← Int64.toInt_inj, hd, he] at h2
      omega
theorem fq_L155 (hv : v < 256) (hf : (x17 = 0 ∧ S v) ∨ (x17 = 1 ∧ ¬ S v)) (h10 : fq_mx (fun y => S y ∧ (y : Int) < x5.toInt) x10) (h11 : fq_nr S x5.toInt x11)
    (h13 : x13 = nI (fq_cnt (fq_G S x6 x7) 256)) (h14 : fq_mn (fun y => S y ∧ ¬ (x6.toInt ≤ (y : Int) ∧ (y : Int) ≤ x7.toInt)) x14)
    (H : ∀ x10' x11' x13' x14', fq_mx (fun y => (S y ∨ y = v) ∧ (y : Int) < x5.toInt) x10' → fq_nr (fun y => S y ∨ y = v) x5.toInt x11' → x13' = nI (fq_cnt (fq_G (fun y => S y ∨ y = v) x6 x7) 256) → fq_mn (fun y => (S y ∨ y = v) ∧ ¬ (x6.toInt ≤ (y : Int) ∧ (y : Int) ≤ x7.toInt)) x14' → J30 x9 x10' x11' x12 x13' x14' (x15 + 1) l g n a1 a2 a3 a4) :
    wL_lawOf_155 post mc ms J30 x0 x1 x2 x3 x4 x5 x6 x7 x10 x11 x12 x13 x14 x15 (nI v) x17 x9 kc ks l g n a1 a2 a3 a4 := by
  have T : ∀ x10', fq_mx (fun y => (S y ∨ y = v) ∧ (y : Int) < x5.toInt) x10' → wL_lawOf_178 post mc ms J30 x0 x1 x2 x3 x4 x5 x6 x7 x9 x11 x12 x13 x14 x15 (nI v) x17 x10' kc ks l g n a1 a2 a3 a4 := fun x10' h =>
    fq_L178 hv hf h11 h13 h14 (fun x11' x13' x14' => H x10' x11' x13' x14' h)
  unfold wL_lawOf_155 wL_lawOf_176
  refine fq_leI rfl (nI_toInt (by omega)) (fun h1 => T _ (fq_mxS0 h10 (fun q => ?_))) (fun h1 => br_c (fun h2 => T _ (fq_mxS2 h10 hv h2)) (fun h2 => T _ (fq_mxS1 h10 hv h1 h2)))
  omega
theorem fq_L126 (hv : v < 256) (hf : (x17 = 0 ∧ S v) ∨ (x17 = 1 ∧ ¬ S v)) (hJ : fq_J5 S x5 x6 x7 x9 x10 x11 x13 x14)
    (H : ∀ x9' x10' x11' x13' x14', fq_J5 (fun y => S y ∨ y = v) x5 x6 x7 x9' x10' x11' x13' x14' → J30 x9' x10' x11' (z1 + z0) x13' x14' (x15 + 1) l g n a1 a2 a3 a4) :
    wL_lawOf_126 post mc ms J30 x0 x1 x2 x3 x4 x5 x6 x7 x9 x10 x11 x13 x14 x15 (nI v) x17 z0 z1 kc ks l g n a1 a2 a3 a4 := by
  obtain ⟨h9, h10, h11, h13, h14⟩ := hJ
  have T : ∀ x9', fq_mn (fun y => (S y ∨ y = v) ∧ x5.toInt < (y : Int)) x9' → wL_lawOf_155 post mc ms J30 x0 x1 x2 x3 x4 x5 x6 x7 x10 x11 (z1 + z0) x13 x14 x15 (nI v) x17 x9' kc ks l g n a1 a2 a3 a4 := fun x9' h =>
    fq_L155 hv hf h10 h11 h13 h14 (fun x10' x11' x13' x14' i10 i11 i13 i14 => H x9' x10' x11' x13' x14' ⟨h, i10, i11, i13, i14⟩)
  unfold wL_lawOf_126 wL_lawOf_153 wL_lawOf_148
  refine nm_e (fq_leI (nI_toInt (by omega)) rfl (fun h1 => T _ (fq_mnS0 h9 (fun q => ?_))) (fun h1 => br_c (fun h2 => T _ (fq_mnS1 h9 hv h1 (Or.inl h2))) (fun h2 => br_c (fun h3 => T _ (fq_mnS2 h9 hv h2 h3)) (fun h3 => T _ (fq_mnS1 h9 hv h1 (Or.inr h3))))))
  omega
end
end
section
/-! the law's loops -/
/-- the values put in so far -/
def fq_S (val : Nat → Nat) (i y : Nat) : Prop := ∃ j, j < i ∧ val j = y
theorem fq_S0 {val : Nat → Nat} {y : Nat} : ¬ fq_S val 0 y := fun ⟨j, hj, _⟩ => absurd hj (by omega)
theorem fq_Ss {val : Nat → Nat} {i y : Nat} : fq_S val (i + 1) y ↔ fq_S val i y ∨ y = val i := by
  constructor
  · rintro ⟨j, hj, e⟩
    by_cases z : j = i
    · exact Or.inr (by rw [← e, z])
    · exact Or.inl ⟨j, by omega, e⟩
  · rintro (⟨j, hj, e⟩ | e)
    · exact ⟨j, by omega, e⟩
    · exact ⟨i, by omega, e.symm⟩
/-- what value() answers -/
def fq_V (val : Nat → Nat) (x0 x1 x2 x3 x4 : Int32) : Prop := (∀ j, val j < 256) ∧ ∀ j, j < 5 → ∀ post : Int32 → Prop, post (nI (val j)) → wpL_value post () (nI j) x0 x1 x2 x3 x4
theorem fq_val (x0 x1 x2 x3 x4 : Int32) : ∃ val, fq_V val x0 x1 x2 x3 x4 := by
  have e : ∀ x : Int32, x &&& 255 = nI (x.toBitVec.toNat % 2 ^ 8) := fun x => pk_and x 8 (by decide)
  refine ⟨fun j => (if j = 0 then x0 else if j = 1 then x1 else if j = 2 then x2 else if j = 3 then x3 else x4).toBitVec.toNat % 2 ^ 8, fun j => Nat.mod_lt _ (by decide), fun j hj post hp => ?_⟩
  dsimp only at hp
  unfold wpL_value
  rw [e x0, e x1, e x2, e x3, e x4]
  refine pk_eq j 0 (fun z0 => ?_) (fun z0 => pk_eq j 1 (fun z1 => ?_) (fun z1 => pk_eq j 2 (fun z2 => ?_) (fun z2 => pk_eq j 3 (fun z3 => ?_) (fun z3 => ?_))))
  · rw [if_pos z0] at hp
    exact hp
  · rw [if_neg z0, if_pos z1] at hp
    exact hp
  · rw [if_neg z0, if_neg z1, if_pos z2] at hp
    exact hp
  · rw [if_neg z0, if_neg z1, if_neg z2, if_pos z3] at hp
    exact hp
  · rw [if_neg z0, if_neg z1, if_neg z2, if_neg z3] at hp
    exact hp
theorem fq_csp {S C : Nat → Prop} (n : Nat) : fq_cnt S n = fq_cnt (fun y => S y ∧ C y) n + fq_cnt (fun y => S y ∧ ¬ C y) n := by
  induction n with
  | zero => rfl
  | succ n ih =>
    by_cases s : S n
    · by_cases c : C n
      · rw [fq_cy s, fq_cy (P := fun y => S y ∧ C y) ⟨s, c⟩, fq_cn (P := fun y => S y ∧ ¬ C y) (fun q => q.2 c), ih]
        omega
      · rw [fq_cy s, fq_cn (P := fun y => S y ∧ C y) (fun q => c q.2), fq_cy (P := fun y => S y ∧ ¬ C y) ⟨s, c⟩, ih]
        omega
    · rw [fq_cn s, fq_cn (P := fun y => S y ∧ C y) (fun q => s q.1), fq_cn (P := fun y => S y ∧ ¬ C y) (fun q => s q.1), ih]
section
variable {post : Int32 → St0 → Prop} {mc ms : Nat} {x0 x1 x2 x3 x4 x5 x6 x7 x9 x10 x11 x12 x13 x14 : Int32} {kc ks : Nat} {l g n : Int32} {a1 a2 a3 a4 : Nat → Int32} {val : Nat → Nat}
theorem fq_L55 {J30 : Int32 → Int32 → Int32 → Int32 → Int32 → Int32 → Int32 → Int32 → Int32 → Int32 → (Nat → Int32) → (Nat → Int32) → (Nat → Int32) → (Nat → Int32) → Prop} (hV : fq_V val x0 x1 x2 x3 x4) {i : Nat} (hi : i < 5) (hJ : fq_J5 (fq_S val i) x5 x6 x7 x9 x10 x11 x13 x14) (h12 : x12 = nI (fq_cnt (fq_S val i) 256)) (hR : fq_R (fq_S val i) l g n a1 a2 a3 a4)
    (H : ∀ x9' x10' x11' x12' x13' x14' l' g' n' a1' a2' a3' a4', fq_J5 (fq_S val (i + 1)) x5 x6 x7 x9' x10' x11' x13' x14' → x12' = nI (fq_cnt (fq_S val (i + 1)) 256) → fq_R (fq_S val (i + 1)) l' g' n' a1' a2' a3' a4' → J30 x9' x10' x11' x12' x13' x14' (nI (i + 1)) l' g' n' a1' a2' a3' a4') :
    ∃ fu, wL_lawOf_55 post mc ms J30 x0 x1 x2 x3 x4 x5 x6 x7 x9 x10 x11 x12 x13 x14 (nI i) (nI (val i)) kc ks l g n a1 a2 a3 a4 fu 1 0 := by
  have hv := hV.1 i
  have eS : (fun y => fq_S val i y ∨ y = val i) = fq_S val (i + 1) := fq_ext fun y => fq_Ss.symm
  refine pk_loop (fun m j s => wL_lawOf_55 post mc ms J30 x0 x1 x2 x3 x4 x5 x6 x7 x9 x10 x11 x12 x13 x14 (nI i) (nI (val i)) kc ks l g n a1 a2 a3 a4 m s (nI j)) (fun j s => (s = 0 ∧ fq_S val j (val i)) ∨ (s = 1 ∧ ¬ fq_S val j (val i))) i 0 1 (by omega) (Or.inr ⟨rfl, fq_S0⟩) ?_ ?_
  · intro m s hs
    refine br_t (nI_le (Nat.le_refl _) (by omega)) (fq_insert hR hv (fun nk l' g' n' a1' a2' a3' a4' hR' => ?_) (fun sk => ?_))
    · rw [eS] at hR'
      rcases hs with ⟨e, q⟩ | ⟨e, q⟩
      · exact absurd q nk
      dsimp only
      refine br_t e.symm (br_f (by rw [e]; decide) (fq_L126 hv (Or.inr ⟨e, q⟩) hJ (fun x9' x10' x11' x13' x14' hJ' => ?_)))
      rw [eS] at hJ'
      have e12 : x12 + 1 = nI (fq_cnt (fq_S val (i + 1)) 256) := by
        rw [h12, nI_1, fq_ca q 256 hv (fun y _ => fq_Ss)]
      rw [nI_1]
      exact H _ _ _ _ _ _ _ _ _ _ _ _ _ hJ' e12 hR'
    · rcases hs with ⟨e, q⟩ | ⟨e, q⟩
      · have eS2 : ∀ y, fq_S val i y ↔ fq_S val (i + 1) y := fun y => fq_Ss.trans ⟨fun z => z.elim (fun z => z) (fun z => z ▸ q), Or.inl⟩ |>.symm
        dsimp only
        refine br_t e.symm (br_t e (fq_L126 hv (Or.inl ⟨e, q⟩) hJ (fun x9' x10' x11' x13' x14' hJ' => ?_)))
        rw [eS] at hJ'
        have e12 : x12 + 0 = nI (fq_cnt (fq_S val (i + 1)) 256) := by
          rw [h12, Int32.add_zero, fq_cc 256 (fun y _ => eS2 y)]
        rw [nI_1]
        exact H _ _ _ _ _ _ _ _ _ _ _ _ _ hJ' e12 (fq_RC hR eS2)
      · exact absurd sk q
  · intro m j s hj hs hw
    refine br_f (nI_ge hj (by omega)) (hV.2 j (by omega) _ ?_)
    rcases hs with ⟨e, q⟩ | ⟨e, q⟩
    · exact br_t e (nm_r (nI_1 j) (hw 0 (Or.inl ⟨rfl, fq_Ss.mpr (Or.inl q)⟩)))
    · refine br_f (by rw [e]; decide) (pk_eq (val j) (val i) (fun z => nm_r (nI_1 j) (hw 0 (Or.inl ⟨rfl, fq_Ss.mpr (Or.inr z.symm)⟩))) (fun z => nm_r (nI_1 j) (hw 1 (Or.inr ⟨rfl, fun t => ?_⟩))) rfl rfl (by have a := hV.1 j; omega) (by omega))
      exact (fq_Ss.mp t).elim q (fun t => z t.symm)
theorem fq_L503 {J373 : Int32 → Prop} {i v q : Nat} (hR : fq_R (fq_S val 5) l g n a1 a2 a3 a4) (hv : v < 256) (sv : fq_S val 5 v) (hq5 : q ≤ 5) (hq : q = 0 → ¬ fq_S val 5 (v + 1)) (hJ : J373 (nI (i + 1))) :
    wL_lawOf_503 post mc ms J373 x0 x1 x2 x3 x4 x6 x7 x12 x13 x14 (nI i) (nI v) (nI (1 + q)) kc ks l g n a1 a2 a3 a4 := by
  unfold wL_lawOf_503
  refine pk_eq (1 + q) 1 (fun z => pk_le 255 v (fun _ => nm_r (nI_1 i) hJ) (fun h1 => ?_)) (fun z => nm_r (nI_1 i) hJ)
  rw [nI_1 v]
  exact fq_gapFrom hR (by omega) sv (hq (by omega)) (br_t rfl (nm_r (nI_1 i) hJ))
theorem fq_L413 {J373 : Int32 → Prop} (hV : fq_V val x0 x1 x2 x3 x4) {i : Nat} (hi : i < 5) (hR : fq_R (fq_S val 5) l g n a1 a2 a3 a4) (hJ : J373 (nI (i + 1))) :
    ∃ fu, wL_lawOf_413 post mc ms J373 x0 x1 x2 x3 x4 x6 x7 x12 x13 x14 (nI i) (nI (val i)) (nI (fq_cnt (fq_S val 5) (val i))) kc ks l g n a1 a2 a3 a4 fu 1 0 0 := by
  have hv := hV.1 i
  have sv : fq_S val 5 (val i) := ⟨i, hi, rfl⟩
  have hcb := fq_cb (P := fq_S val 5) (val i)
  refine pk_loop (σ := Int32 × Int32) (fun m j s => wL_lawOf_413 post mc ms J373 x0 x1 x2 x3 x4 x6 x7 x12 x13 x14 (nI i) (nI (val i)) (nI (fq_cnt (fq_S val 5) (val i))) kc ks l g n a1 a2 a3 a4 m s.1 s.2 (nI j))
    (fun j s => ∃ q L : Nat, q ≤ j ∧ L ≤ j ∧ s.1 = nI (1 + q) ∧ s.2 = nI L ∧ fq_cnt (fq_S val j) (val i) ≤ L ∧ (0 < L → ∃ k, k < j ∧ val k < val i) ∧ (q = 0 → ¬ fq_S val j (val i + 1))) 5 0 (1, 0) (by omega) ⟨0, 0, by omega, by omega, rfl, rfl, ?_, fun z => absurd z (by omega), fun _ => fq_S0⟩ ?_ ?_
  · have t : fq_cnt (fq_S val 0) (val i) = fq_cnt (fq_S val 0) 0 := fq_cg (by omega) (fun y _ _ => fq_S0)
    rw [t]
    exact Nat.le_refl _
  · rintro m ⟨x18, x19⟩ ⟨q, L, hq, hL, e1, e2, hc, hp, hz⟩
    dsimp only at e1 e2
    subst e1
    subst e2
    refine br_t (nI_le (a := 5) (b := 5) (by omega) (by omega)) (fq_select hR hv sv (br_t rfl (pk_lt L (fq_cnt (fq_S val 5) (val i)) (fun z => absurd z (by omega)) (fun _ => pk_le L 0 (fun _ => fq_L503 hR hv sv hq hz hJ) (fun h1 => pk_eq (fq_cnt (fq_S val 5) (val i)) 0 (fun h2 => ?_) (fun _ => fq_L503 hR hv sv hq hz hJ))))))
    obtain ⟨k, hk, hlt⟩ := hp h1
    have t : fq_cnt (fq_S val 5) (val k) < fq_cnt (fq_S val 5) (val i) := fq_clt ⟨k, hk, rfl⟩ hlt
    omega
  · rintro m j ⟨x18, x19⟩ hj ⟨q, L, hq, hL, e1, e2, hc, hp, hz⟩ hw
    dsimp only at e1 e2
    subst e1
    subst e2
    have hvj := hV.1 j
    have hins := fq_cins (n := val i) (x := val j) (P := fq_S val j) (P' := fq_S val (j + 1)) (fun y => fq_Ss)
    refine br_f (nI_ge (b := 5) hj (by omega)) (hV.2 j hj _ ?_)
    have T : ∀ L' z : Nat, L' ≤ j + 1 → L + z = L' → fq_cnt (fq_S val (j + 1)) (val i) ≤ L' → (0 < L' → ∃ k, k < j + 1 ∧ val k < val i) → wL_lawOf_446 post mc ms J373 (wL_lawOf_413 post mc ms J373 x0 x1 x2 x3 x4 x6 x7 x12 x13 x14 (nI i) (nI (val i)) (nI (fq_cnt (fq_S val 5) (val i))) kc ks l g n a1 a2 a3 a4 m) x0 x1 x2 x3 x4 x6 x7 x12 x13 x14 (nI i) (nI (val i)) (nI (fq_cnt (fq_S val 5) (val i))) (nI (1 + q)) (nI j) (nI (val j)) (nI z) (nI L) kc ks l g n a1 a2 a3 a4 := by
      intro L' z h1 h2 h3 h4
      unfold wL_lawOf_446
      rw [nI_1 (val i)]
      refine nm_r ((nI_add L z).trans (by rw [h2])) (pk_eq (val j) (val i + 1) (fun t => nm_r (nI_1 (1 + q)) (nm_r (nI_1 j) (hw (nI (1 + q + 1), nI L') ⟨q + 1, L', by omega, h1, rfl, rfl, h3, h4, fun t => by omega⟩))) (fun t => nm_r (Int32.add_zero _) (nm_r (nI_1 j) (hw (nI (1 + q), nI L') ⟨q, L', by omega, h1, rfl, rfl, h3, h4, fun tq ts => ?_⟩))))
      exact (fq_Ss.mp ts).elim (hz tq) (fun t' => t t'.symm)
    refine pk_le (val i) (val j) (fun h1 => T L 0 (by omega) (by omega) (by rw [hins.2 h1]; exact hc) (fun h2 => ?_)) (fun h1 => T (L + 1) 1 (by omega) (by omega) (by omega) (fun _ => ⟨j, by omega, h1⟩))
    obtain ⟨k, hk, hlt⟩ := hp h2
    exact ⟨k, by omega, hlt⟩
theorem fq_low {S : Nat → Prop} {v : Nat} (hv : v < 256) : fq_cnt (fq_G S 0 (nI v - 1)) 256 = fq_cnt S v := by
  have e : (nI v - 1).toInt = (v : Int) - 1 := by
    rw [Int32.toInt_sub, nI_toInt (by omega), show (1 : Int32).toInt = 1 from by decide]
    exact Int.bmod_eq_of_le_mul_two (by omega) (by omega)
  have t : fq_cnt (fq_G S 0 (nI v - 1)) 256 = fq_cnt (fq_G S 0 (nI v - 1)) v := fq_cg (by omega) (fun y h1 h2 q => by
    have c := q.2.2
    rw [e] at c
    omega)
  rw [t]
  refine fq_cc v (fun y hy => ⟨fun q => q.1, fun q => ⟨q, ?_, ?_⟩⟩)
  · rw [fq_t0]
    omega
  · rw [e]
    omega
theorem fq_L373 (hV : fq_V val x0 x1 x2 x3 x4) (hR : fq_R (fq_S val 5) l g n a1 a2 a3 a4) (h12 : x12 = nI (fq_cnt (fq_S val 5) 256)) (h13 : x13 = nI (fq_cnt (fq_G (fq_S val 5) x6 x7) 256)) (h14 : fq_mn (fun y => fq_S val 5 y ∧ ¬ (x6.toInt ≤ (y : Int) ∧ (y : Int) ≤ x7.toInt)) x14) (HP : post 1 ()) :
    ∃ fu, wL_lawOf_373 post mc ms x0 x1 x2 x3 x4 x6 x7 x12 x13 x14 kc ks l g n a1 a2 a3 a4 fu 0 := by
  refine pk_loop (σ := Unit) (fun m i _ => wL_lawOf_373 post mc ms x0 x1 x2 x3 x4 x6 x7 x12 x13 x14 kc ks l g n a1 a2 a3 a4 m (nI i)) (fun _ _ => True) 5 0 () (by omega) trivial ?_ ?_
  · intro m _ _
    refine br_t (nI_le (a := 5) (b := 5) (by omega) (by omega)) (fq_deleteBetween hR x6 x7 (fun S' eS l' g' n' a1' a2' a3' a4' hR' => ?_))
    dsimp only
    have eS' : ∀ y, S' y ↔ fq_S val 5 y ∧ ¬ (x6.toInt ≤ (y : Int) ∧ (y : Int) ≤ x7.toInt) := fun y => (eS y).trans ⟨fun q => ⟨q.1, fun z => q.2 ⟨q.1, z⟩⟩, fun q => ⟨q.1, fun z => q.2 z.2⟩⟩
    have ec : fq_cnt (fq_S val 5) 256 = fq_cnt (fq_G (fq_S val 5) x6 x7) 256 + fq_cnt S' 256 := by
      rw [fq_ext eS']
      exact fq_csp (S := fq_S val 5) (C := fun y => x6.toInt ≤ (y : Int) ∧ (y : Int) ≤ x7.toInt) 256
    have en : n' = x12 - x13 := by
      rw [h12, h13, pk_sub (by omega), hR'.2.2.2.1, ec, Nat.add_sub_cancel_left]
    have el : l' = x14 := fq_mnU (fq_mnC hR'.2.1 eS') h14
    refine br_t h13.symm (br_t en (fq_takeLeast hR' (fun S'' eS'' l'' g'' n'' a1'' a2'' a3'' a4'' hR'' => ?_)))
    dsimp only
    refine br_t el (br_c (fun _ => HP) (fun hx => fq_member hR'' x14 (fun k _ e sk => ?_) (fun _ => br_t rfl HP)))
    exact absurd (el.trans e) ((eS'' k).mp sk).2
  · intro m i _ hi _ hw
    refine br_f (nI_ge (b := 5) hi (by omega)) (hV.2 i hi _ (fq_countBetween hR 0 (nI (val i) - 1) ?_))
    rw [fq_low (hV.1 i)]
    exact fq_L413 hV hi hR (hw () trivial)
theorem fq_L30 (hV : fq_V val x0 x1 x2 x3 x4) (HP : post 1 ()) (hJ : fq_J5 (fq_S val 0) x5 x6 x7 x9 x10 x11 x13 x14) (h12 : x12 = nI (fq_cnt (fq_S val 0) 256)) (hR : fq_R (fq_S val 0) l g n a1 a2 a3 a4) :
    ∃ fu, wL_lawOf_30 post mc ms x0 x1 x2 x3 x4 x5 x6 x7 kc ks fu x9 x10 x11 x12 x13 x14 0 l g n a1 a2 a3 a4 := by
  refine lp14 (fun m x9 x10 x11 x12 x13 x14 x15 l g n a1 a2 a3 a4 => wL_lawOf_30 post mc ms x0 x1 x2 x3 x4 x5 x6 x7 kc ks m x9 x10 x11 x12 x13 x14 x15 l g n a1 a2 a3 a4)
    (fun x9 x10 x11 x12 x13 x14 x15 l g n a1 a2 a3 a4 => ∃ i, i ≤ 5 ∧ x15 = nI i ∧ fq_J5 (fq_S val i) x5 x6 x7 x9 x10 x11 x13 x14 ∧ x12 = nI (fq_cnt (fq_S val i) 256) ∧ fq_R (fq_S val i) l g n a1 a2 a3 a4)
    (fun _ _ _ _ _ _ x15 _ _ _ _ _ _ _ => 5 - x15.toNatClampNeg) ?_ _ _ _ _ _ _ _ _ _ _ _ _ _ _ ⟨0, by omega, rfl, hJ, h12, hR⟩
  rintro m x9 x10 x11 x12 x13 x14 x15 l g n a1 a2 a3 a4 ⟨i, hi, rfl, hJ, h12, hR⟩ hw
  refine pk_le 5 i (fun h1 => ?_) (fun h1 => hV.2 i h1 _ (fq_L55 hV h1 hJ h12 hR (fun x9' x10' x11' x12' x13' x14' l' g' n' a1' a2' a3' a4' hJ' h12' hR' => hw _ _ _ _ _ _ _ _ _ _ _ _ _ _ ⟨i + 1, h1, rfl, hJ', h12', hR'⟩ ?_)))
  · have e : i = 5 := by omega
    subst e
    obtain ⟨h9, h10, h11, h13, h14⟩ := hJ
    refine br_t (hR.2.2.2.1.trans h12.symm) (fq_after hR x5 (fun r hr => br_t (fq_mnU hr h9) (fq_before hR x5 (fun r hr => br_t (fq_mxU hr h10) (fq_nearest hR x5 (fun r hr => br_t (fq_nrU hr h11) (fq_countBetween hR x6 x7 (br_t h13.symm ?_))))))))
    exact fq_L373 hV hR h12 h13 h14 HP
  · rw [nI_clamp (by omega), nI_clamp (by omega)]
    omega
end
end
section
/-! the new object, and the top -/
theorem fq_E0 {y : Nat} {val : Nat → Nat} : ¬ fq_Q (fq_S val 0) y := fun q => fq_S0 q.1
theorem fq_N0 {Q : Nat → Prop} (h : ∀ y, ¬ Q y) : fq_N Q 0 := ⟨0, by decide, rfl, fun j _ => ⟨fun z => absurd z (by simp), fun z => absurd z (h j)⟩⟩
theorem fq_init {post : St2 → Prop} {val : Nat → Nat} (H : ∀ l g n a1 a2 a3 a4, fq_R (fq_S val 0) l g n a1 a2 a3 a4 → post (l, g, n, a1, a2, a3, a4)) : wpX_init post 4 119 (0, 0, 0) := by
  unfold wpX_init
  try dsimp only
  refine ⟨by decide, by decide, by decide, by decide, by decide, by decide, by decide, by decide, ?_⟩
  refine pk_loop (σ := (Nat → Int32) × (Nat → Int32)) (fun m i s => wX_init_48 post 4 119 4 119 (-1) (-1) 0 m (nI i) s.1 s.2 (fun _ => 0) (fun _ => 0)) (fun i s => ∀ c, c < i → s.1 c = -1 ∧ s.2 c = -1) 17 0 (fun _ => 0, fun _ => 0) (by omega) (fun c hc => absurd hc (by omega)) ?_ ?_
  · rintro m ⟨a1, a2⟩ hs
    refine br_t (nI_lt (a := 16) (b := 17) (by omega) (by omega)) (H _ _ _ _ _ _ _ ⟨fun y q => absurd q fq_S0, Or.inl ⟨rfl, fun y => fq_S0⟩, Or.inl ⟨rfl, fun y => fq_S0⟩, ?_, fun c hc => ?_⟩)
    · have t : fq_cnt (fq_S val 0) 256 = fq_cnt (fq_S val 0) 0 := fq_cg (by omega) (fun y _ _ => fq_S0)
      rw [t]
      rfl
    · obtain ⟨e1, e2⟩ := hs c hc
      dsimp only at e1 e2
      have hz : ∀ y, ¬ fq_cl (fq_Q (fq_S val 0)) c y := fun y q => q.elim (fun q => fq_E0 q.2.2) (fun ⟨_, _, x, _, q⟩ => fq_E0 q)
      have hz' : ∀ y, ¬ fq_Q (fq_cl (fq_Q (fq_S val 0)) c) y := fun y q => hz y q.1
      exact ⟨fun y q => absurd q (hz y), Or.inl ⟨e1, hz⟩, Or.inl ⟨e2, hz⟩, fq_N0 (fun i ⟨j, _, q⟩ => hz' _ q), fun i _ => fq_N0 (fun j q => hz' _ q)⟩
  · rintro m i ⟨a1, a2⟩ hi hs hw
    dsimp only at hs
    refine pk_lt 16 i (fun z => absurd z (by omega)) (fun _ => ⟨vp_in_nI hi (by decide), ?_⟩)
    intro a1' e1
    refine ⟨vp_in_nI hi (by decide), ?_⟩
    intro a2' e2
    rw [nI_clamp (by omega)] at e1 e2
    refine nm_r (nI_1 i) (hw (a1', a2') (fun c hc => ?_))
    dsimp only
    by_cases z : c = i
    · rw [e1, e2, z, pk_us, pk_us]
      exact ⟨rfl, rfl⟩
    · rw [e1, e2, pk_un z, pk_un z]
      exact hs c (by omega)
theorem fq_lawOf {post : Int32 → St0 → Prop} (x0 x1 x2 x3 x4 x5 x6 x7 : Int32) (HP : post 1 ()) : wpL_lawOf post 5 126 () x0 x1 x2 x3 x4 x5 x6 x7 := by
  obtain ⟨val, hV⟩ := fq_val x0 x1 x2 x3 x4
  unfold wpL_lawOf
  refine ⟨by decide, by decide, 4, 119, by decide, by decide, fq_init (val := val) (fun l g n a1 a2 a3 a4 hR => ?_)⟩
  dsimp only
  have hc : ∀ P : Nat → Prop, (∀ y, ¬ P y) → fq_cnt P 256 = 0 := fun P h => fq_cg (m := 0) (by omega) (fun y _ _ => h y)
  refine fq_L30 hV HP ⟨Or.inl ⟨rfl, fun y q => fq_S0 q.1⟩, Or.inl ⟨rfl, fun y q => fq_S0 q.1⟩, Or.inl ⟨rfl, fun y => fq_S0⟩, ?_, Or.inl ⟨rfl, fun y q => fq_S0 q.1⟩⟩ ?_ hR
  · rw [hc _ (fun y q => fq_S0 q.1)]
    rfl
  · rw [hc _ (fun y => fq_S0)]
    rfl
theorem fq_cell {post : Int32 → Prop} {L : Nat} {xs : Nat → Int32} (hL : L ≤ 8) (k : Nat) (hk : k < 8) (H : ∀ r, post r) : wpL_cellAt post L xs () (nI k) := by
  unfold wpL_cellAt
  exact pk_le L k (fun _ => H _) (fun z => ⟨vp_in_nI z (by omega), H _⟩)
theorem i_vc (xs : Nat → Int32) (L : Nat) (hL : L ≤ 8) : wpL_law (fun r => r = 1) L xs := by
  unfold wpL_law
  refine fq_cell hL 0 (by decide) (fun r1 => fq_cell hL 1 (by decide) (fun r2 => fq_cell hL 2 (by decide) (fun r3 => fq_cell hL 3 (by decide) (fun r4 => fq_cell hL 4 (by decide) (fun r5 => fq_cell hL 5 (by decide) (fun r6 => fq_cell hL 6 (by decide) (fun r7 => fq_cell hL 7 (by decide) (fun r8 => ⟨5, 126, by decide, by decide, ?_⟩))))))))
  exact fq_lawOf _ _ _ _ _ _ _ _ rfl
end
