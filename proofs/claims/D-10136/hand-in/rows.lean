section
/-! part 01: lists, chains, the last entry not behind a label -/
theorem pm_m1 {e : Nat} (h : e < 2 ^ 31) : ¬ nI e = -1 := by
  intro z
  have h1 := nI_toInt h
  rw [z] at h1
  have h2 : ((-1 : Int32)).toInt = -1 := by decide
  omega
/-- a chain of places: from the pointer h along nx -/
def pm_ch (nx : Nat → Int32) : Int32 → List Nat → Prop
  | h, [] => h = -1
  | h, e :: r => h = nI e ∧ pm_ch nx (nx e) r
/-- what advance finds in a list of entries: the last one ahead of the first whose label is behind t -/
def pm_ad (t : Int) (L : Nat → Int) : Option Nat → List Nat → Option Nat
  | d, [] => d
  | d, e :: r => if t < L e then d else pm_ad t L (some e) r
/-- a place or none as an int -/
def pm_oI : Option Nat → Int32
  | none => -1
  | some e => nI e
/-- what an entry (or none) says -/
def pm_val (a6 a7 : Nat → Int32) : Option Nat → Int32 × Int32
  | none => (0, 0)
  | some e => if a7 e = 0 then (0, 0) else (1, a6 e)
theorem pm_ch_app {nx : Nat → Int32} {e : Nat} {B : List Nat} : ∀ (A : List Nat) (h : Int32), pm_ch nx h (A ++ e :: B) → pm_ch nx (nx e) B
  | [], _, hh => hh.2
  | _ :: A, _, hh => pm_ch_app A _ hh.2
theorem pm_ch_congr {nx nx' : Nat → Int32} : ∀ (l : List Nat) (h : Int32), (∀ e, e ∈ l → nx e = nx' e) → pm_ch nx h l → pm_ch nx' h l
  | [], _, _, hh => hh
  | e :: r, _, hc, hh => ⟨hh.1, by
      rw [← hc e (List.mem_cons_self ..)]
      exact pm_ch_congr r _ (fun a ha => hc a (List.mem_cons_of_mem _ ha)) hh.2⟩
theorem pm_ch_ins0 {nx : Nat → Int32} {m : Nat} {h : Int32} {B : List Nat} (hB : m ∉ B) (hc : pm_ch nx h B) : pm_ch (upd nx m h) (nI m) (m :: B) :=
  ⟨rfl, by
    rw [pk_us]
    exact pm_ch_congr B h (fun e he => (pk_un (fun (z : e = m) => hB (z ▸ he))).symm) hc⟩
theorem pm_ch_ins {nx : Nat → Int32} {m q : Nat} {B : List Nat} : ∀ (A : List Nat) (h : Int32), (A ++ q :: B).Nodup → m ∉ A ++ q :: B → pm_ch nx h (A ++ q :: B) → pm_ch (upd (upd nx m (nx q)) q (nI m)) h (A ++ q :: m :: B)
  | [], h, hn, hm, hc => by
      have hq : q ∉ B := (List.nodup_cons.mp hn).1
      have hmq : m ≠ q := fun z => hm (by rw [z]; exact List.mem_cons_self ..)
      have hmB : m ∉ B := fun z => hm (List.mem_cons_of_mem _ z)
      refine ⟨hc.1, ?_⟩
      rw [pk_us]
      refine ⟨rfl, ?_⟩
      rw [pk_un hmq, pk_us]
      refine pm_ch_congr B _ (fun e he => ?_) hc.2
      rw [pk_un (fun (z : e = q) => hq (z ▸ he)), pk_un (fun (z : e = m) => hmB (z ▸ he))]
  | a :: A, h, hn, hm, hc => by
      have hn' := List.nodup_cons.mp hn
      have haq : a ≠ q := fun z => hn'.1 (by rw [z]; exact List.mem_append_right _ (List.mem_cons_self ..))
      have ham : a ≠ m := fun z => hm (by rw [← z]; exact List.mem_cons_self ..)
      refine ⟨hc.1, ?_⟩
      rw [pk_un haq, pk_un ham]
      exact pm_ch_ins A _ hn'.2 (fun z => hm (List.mem_cons_of_mem _ z)) hc.2
theorem pm_ad_tail {t : Int} {L : Nat → Int} {B : List Nat} (hB : ∀ e, e ∈ B → t < L e) : ∀ (A : List Nat) (d : Option Nat), pm_ad t L d (A ++ B) = pm_ad t L d A
  | [], d => by
      cases B with
      | nil => rfl
      | cons b r => exact if_pos (hB b (List.mem_cons_self ..))
  | a :: A, d => by
      show (if t < L a then d else pm_ad t L (some a) (A ++ B)) = (if t < L a then d else pm_ad t L (some a) A)
      rw [pm_ad_tail hB A (some a)]
theorem pm_ad_pass {t : Int} {L : Nat → Int} {B : List Nat} : ∀ (A : List Nat) (d : Option Nat), (∀ e, e ∈ A → L e ≤ t) → pm_ad t L d (A ++ B) = pm_ad t L (A.getLast?.or d) B
  | [], d, _ => rfl
  | a :: A, d, h => by
      have ha := h a (List.mem_cons_self ..)
      show (if t < L a then d else pm_ad t L (some a) (A ++ B)) = _
      rw [if_neg (by omega), pm_ad_pass A (some a) (fun e he => h e (List.mem_cons_of_mem _ he)), List.getLast?_cons]
      cases A.getLast? <;> rfl
theorem pm_ad_stop {t : Int} {L : Nat → Int} {B : List Nat} (hB : ∀ e, e ∈ B → t < L e) (d : Option Nat) : pm_ad t L d B = d := pm_ad_tail hB [] d
theorem pm_ad_val {t : Int} {L : Nat → Int} {a6 a7 : Nat → Int32} {d d' : Option Nat} (h : pm_val a6 a7 d = pm_val a6 a7 d') : ∀ B : List Nat, pm_val a6 a7 (pm_ad t L d B) = pm_val a6 a7 (pm_ad t L d' B)
  | [] => h
  | b :: r => by
      show pm_val a6 a7 (if t < L b then d else pm_ad t L (some b) r) = pm_val a6 a7 (if t < L b then d' else pm_ad t L (some b) r)
      by_cases g : t < L b
      · rw [if_pos g, if_pos g]; exact h
      · rw [if_neg g, if_neg g]
theorem pm_ad_congr {t t' : Int} {L L' : Nat → Int} {a6 a7 b6 b7 : Nat → Int32} : ∀ (l : List Nat) (d : Option Nat), (∀ e, e ∈ l → (t < L e ↔ t' < L' e)) → (∀ e, e ∈ l → a6 e = b6 e) → (∀ e, e ∈ l → a7 e = b7 e) → pm_val a6 a7 d = pm_val b6 b7 d → pm_val a6 a7 (pm_ad t L d l) = pm_val b6 b7 (pm_ad t' L' d l)
  | [], _, _, _, _, h => h
  | e :: r, d, h1, h2, h3, h => by
      have g1 := h1 e (List.mem_cons_self ..)
      have g2 := h2 e (List.mem_cons_self ..)
      have g3 := h3 e (List.mem_cons_self ..)
      show pm_val a6 a7 (if t < L e then d else pm_ad t L (some e) r) = pm_val b6 b7 (if t' < L' e then d else pm_ad t' L' (some e) r)
      by_cases g : t < L e
      · rw [if_pos g, if_pos (g1.mp g)]; exact h
      · rw [if_neg g, if_neg (fun z => g (g1.mpr z))]
        refine pm_ad_congr r (some e) (fun a ha => h1 a (List.mem_cons_of_mem _ ha)) (fun a ha => h2 a (List.mem_cons_of_mem _ ha)) (fun a ha => h3 a (List.mem_cons_of_mem _ ha)) ?_
        show (if a7 e = 0 then ((0 : Int32), (0 : Int32)) else (1, a6 e)) = (if b7 e = 0 then (0, 0) else (1, b6 e))
        rw [g2, g3]
theorem pm_ad_mem {t : Int} {L : Nat → Int} : ∀ (l : List Nat) (d : Option Nat) (e : Nat), pm_ad t L d l = some e → e ∈ l ∨ d = some e
  | [], _, _, h => Or.inr h
  | a :: r, d, e, h => by
      have h' : (if t < L a then d else pm_ad t L (some a) r) = some e := h
      by_cases g : t < L a
      · rw [if_pos g] at h'; exact Or.inr h'
      · rw [if_neg g] at h'
        rcases pm_ad_mem r (some a) e h' with z | z
        · exact Or.inl (List.mem_cons_of_mem _ z)
        · cases z; exact Or.inl (List.mem_cons_self ..)
theorem pm_split {L : Nat → Int} (t : Int) : ∀ (l : List Nat), l.Pairwise (fun e f => L e < L f) → ∃ A B, l = A ++ B ∧ (∀ e, e ∈ A → L e ≤ t) ∧ (∀ e, e ∈ B → t < L e)
  | [], _ => ⟨[], [], rfl, (fun e he => absurd he (List.not_mem_nil)), (fun e he => absurd he (List.not_mem_nil))⟩
  | a :: r, h => by
      have h' := List.pairwise_cons.mp h
      by_cases g : t < L a
      · refine ⟨[], a :: r, rfl, (fun e he => absurd he (List.not_mem_nil)), fun e he => ?_⟩
        rcases List.mem_cons.mp he with z | z
        · rw [z]; exact g
        · have := h'.1 e z
          omega
      · obtain ⟨A, B, e1, e2, e3⟩ := pm_split t r h'.2
        refine ⟨a :: A, B, by rw [e1]; rfl, fun e he => ?_, e3⟩
        rcases List.mem_cons.mp he with z | z
        · rw [z]; omega
        · exact e2 e z
theorem pm_pw_ins {R : Nat → Nat → Prop} {A B : List Nat} {m : Nat} (h : (A ++ B).Pairwise R) (h1 : ∀ a, a ∈ A → R a m) (h2 : ∀ b, b ∈ B → R m b) : (A ++ m :: B).Pairwise R := by
  obtain ⟨p1, p2, p3⟩ := List.pairwise_append.mp h
  refine List.pairwise_append.mpr ⟨p1, List.pairwise_cons.mpr ⟨h2, p2⟩, fun a ha b hb => ?_⟩
  rcases List.mem_cons.mp hb with z | z
  · rw [z]; exact h1 a ha
  · exact p3 a ha b z
theorem pm_pw_del {R : Nat → Nat → Prop} {A B : List Nat} {m : Nat} (h : (A ++ m :: B).Pairwise R) : (A ++ B).Pairwise R := by
  obtain ⟨p1, p2, p3⟩ := List.pairwise_append.mp h
  exact List.pairwise_append.mpr ⟨p1, (List.pairwise_cons.mp p2).2, fun a ha b hb => p3 a ha b (List.mem_cons_of_mem _ hb)⟩
theorem pm_ord {f g : Nat → Int} {x y : Nat} : ∀ (l : List Nat), l.Pairwise (fun a b => f a < f b) → l.Pairwise (fun a b => g a < g b) → x ∈ l → y ∈ l → (f x < f y ↔ g x < g y)
  | [], _, _, hx, _ => absurd hx (List.not_mem_nil)
  | a :: r, hf, hg, hx, hy => by
      have hf' := List.pairwise_cons.mp hf
      have hg' := List.pairwise_cons.mp hg
      rcases List.mem_cons.mp hx with zx | zx
      · rcases List.mem_cons.mp hy with zy | zy
        · rw [zx, zy]; omega
        · have q1 := hf'.1 y zy
          have q2 := hg'.1 y zy
          rw [zx]; exact ⟨fun _ => q2, fun _ => q1⟩
      · rcases List.mem_cons.mp hy with zy | zy
        · have q1 := hf'.1 x zx
          have q2 := hg'.1 x zx
          rw [zy]; omega
        · exact pm_ord r hf'.2 hg'.2 zx zy
theorem pm_inj {f : Nat → Int} {x y : Nat} : ∀ (l : List Nat), l.Pairwise (fun a b => f a < f b) → x ∈ l → y ∈ l → f x = f y → x = y
  | [], _, hx, _, _ => absurd hx (List.not_mem_nil)
  | a :: r, hf, hx, hy, e => by
      have hf' := List.pairwise_cons.mp hf
      rcases List.mem_cons.mp hx with zx | zx
      · rcases List.mem_cons.mp hy with zy | zy
        · rw [zx, zy]
        · have q1 := hf'.1 y zy
          rw [zx] at e; omega
      · rcases List.mem_cons.mp hy with zy | zy
        · have q1 := hf'.1 x zx
          rw [zy] at e; omega
        · exact pm_inj r hf'.2 zx zy e
theorem pm_nodup {f : Nat → Int} {l : List Nat} (h : l.Pairwise (fun a b => f a < f b)) : l.Nodup :=
  h.imp (fun {a b} hab z => by rw [z] at hab; omega)
theorem pm_last (A : List Nat) : (A = [] ∧ A.getLast? = none) ∨ ∃ A' q, A = A' ++ [q] ∧ A.getLast? = some q := by
  rcases List.eq_nil_or_concat A with z | ⟨A', q, z⟩
  · left; rw [z]; exact ⟨rfl, rfl⟩
  · right
    rw [List.concat_eq_append] at z
    exact ⟨A', q, z, by rw [z]; exact List.getLast?_concat⟩
end
section
/-! part 02: the picture; advance, look, has, get -/
/-- the label of an entry's version -/
def pm_L (a2 : Nat → Int64) (a5 : Nat → Int32) (e : Nat) : Int := (a2 (a5 e).toNatClampNeg).toInt
/-- the versions stand in one list, sorted by their labels -/
def pm_Z (n : Nat) (vs : List Nat) (a2 : Nat → Int64) (a3 : Nat → Int32) : Prop :=
  (∀ x, x ∈ vs ↔ x < n) ∧ vs.length = n ∧ pm_ch a3 0 vs ∧ vs.Pairwise (fun x y => (a2 x).toInt < (a2 y).toInt) ∧ (∀ x, x < n → 0 ≤ (a2 x).toInt ∧ (a2 x).toInt < 2305843009213693952)
/-- the entries of each key stand in a list of their own -/
def pm_S (n m : Nat) (es : Nat → List Nat) (a4 a5 a8 : Nat → Int32) : Prop :=
  (∀ k, k < 32 → pm_ch a8 (a4 k) (es k)) ∧ (∀ k, k < 32 → ∀ e, e ∈ es k → e < m ∧ ∃ x, x < n ∧ a5 e = nI x) ∧ (∀ k, k < 32 → (es k).Nodup) ∧ (∀ j k, j < 32 → k < 32 → j ≠ k → ∀ e, e ∈ es j → e ∉ es k)
/-- each key's list is sorted by labels -/
def pm_T (es : Nat → List Nat) (a2 : Nat → Int64) (a5 : Nat → Int32) : Prop := ∀ k, k < 32 → (es k).Pairwise (fun e f => pm_L a2 a5 e < pm_L a2 a5 f)
/-- what holds at a version and a key -/
def pm_C (es : Nat → List Nat) (a2 : Nat → Int64) (a5 a6 a7 : Nat → Int32) (v k : Nat) : Int32 × Int32 := pm_val a6 a7 (pm_ad (a2 v).toInt (pm_L a2 a5) none (es k))
/-- where the newest version z has an entry, the version behind it has one too -/
def pm_O (n z : Nat) (es : Nat → List Nat) (a3 a5 : Nat → Int32) : Prop := ∀ k, k < 32 → ∀ e, e ∈ es k → a5 e = nI z → ∀ f, f < n → a3 z = nI f → ∃ g, g ∈ es k ∧ a5 g = nI f
/-- the picture: n versions, m entries, parents p, content C, newest version z -/
def pm_I (n m : Nat) (p : Nat → Nat) (C : Nat → Nat → Int32 × Int32) (z : Nat) (a1 : Nat → Int32) (a2 : Nat → Int64) (a3 a4 a5 a6 a7 a8 : Nat → Int32) : Prop :=
  1 ≤ n ∧ n ≤ 40 ∧ m ≤ 640 ∧ (∀ x, 0 < x → x < n → p x < x ∧ a1 x = nI (p x)) ∧ ∃ vs es, pm_Z n vs a2 a3 ∧ pm_S n m es a4 a5 a8 ∧ pm_T es a2 a5 ∧ (∀ v k, v < n → k < 32 → C v k = pm_C es a2 a5 a6 a7 v k) ∧ pm_O n z es a3 a5
section
variable {c en t x : Int32} {a1 : Nat → Int32} {a2 : Nat → Int64} {a3 a4 a5 a6 a7 a8 : Nat → Int32}
theorem pm_adv {post : Int32 → Prop} {v : Nat} (hv : v < 40) : ∀ (l : List Nat) (d : Option Nat) (h : Int32), pm_ch a8 h l → (∀ e, e ∈ l → e < 640 ∧ ∃ y, y < 40 ∧ a5 e = nI y) → post (pm_oI (pm_ad (a2 v).toInt (pm_L a2 a5) d l)) → ∃ fu, wX_advance_25 post (nI v) c en t x a1 a2 a3 a4 a5 a6 a7 a8 fu (pm_oI d) h
  | [], d, h, hc, hb, hp => ⟨0 + 1, br_t hc hp⟩
  | e :: r, d, h, hc, hb, hp => by
      obtain ⟨he, y, hy, ey⟩ := hb e (List.mem_cons_self ..)
      have hc1 := hc.1
      have hc2 : pm_ch a8 (a8 e) r := hc.2
      subst hc1
      have cv := nI_clamp (show v < 2 ^ 31 by omega)
      have ce := nI_clamp (show e < 2 ^ 31 by omega)
      have i1 : vp_in (nI e) 640 := vp_in_nI he (by decide)
      have i2 : vp_in (a5 (nI e).toNatClampNeg) 40 := by rw [ce, ey]; exact vp_in_nI hy (by decide)
      have i3 : vp_in (nI v) 40 := vp_in_nI hv (by decide)
      have hi : a2 (nI v).toNatClampNeg < a2 (a5 (nI e).toNatClampNeg).toNatClampNeg ↔ (a2 v).toInt < pm_L a2 a5 e := by
        rw [cv, ce, Int64.lt_iff_toInt_lt]; exact Iff.rfl
      have hp' : post (pm_oI (if (a2 v).toInt < pm_L a2 a5 e then d else pm_ad (a2 v).toInt (pm_L a2 a5) (some e) r)) := hp
      by_cases g : (a2 v).toInt < pm_L a2 a5 e
      · rw [if_pos g] at hp'
        exact ⟨0 + 1, br_f (pm_m1 (by omega)) ⟨i1, i2, i3, br_t (hi.mpr g) hp'⟩⟩
      · rw [if_neg g] at hp'
        obtain ⟨n, hn⟩ := pm_adv hv r (some e) (a8 e) hc2 (fun a ha => hb a (List.mem_cons_of_mem _ ha)) hp'
        exact ⟨n + 1, br_f (pm_m1 (by omega)) ⟨i1, i2, i3, br_f (fun z => g (hi.mp z)) ⟨i1, nm_r (by rw [ce]) hn⟩⟩⟩
theorem pm_adv0 {post : Int32 → Prop} {v k : Nat} {l : List Nat} (hv : v < 40) (hk : k < 32) (hc : pm_ch a8 (a4 k) l) (hb : ∀ e, e ∈ l → e < 640 ∧ ∃ y, y < 40 ∧ a5 e = nI y) (hp : post (pm_oI (pm_ad (a2 v).toInt (pm_L a2 a5) none l))) : wpX_advance post (c, en, t, x, a1, a2, a3, a4, a5, a6, a7, a8) (nI k) (-1) (nI v) :=
  br_t rfl ⟨vp_in_nI hk (by decide), nm_r (by rw [nI_clamp (by omega)]) (pm_adv hv l none _ hc hb hp)⟩
theorem pm_look0 {post : St1 → Prop} {v k : Nat} {l : List Nat} (hv : v < 40) (hk : k < 32) (hc : pm_ch a8 (a4 k) l) (hb : ∀ e, e ∈ l → e < 640 ∧ ∃ y, y < 40 ∧ a5 e = nI y) {w : Int32 × Int32} (hw : w = pm_val a6 a7 (pm_ad (a2 v).toInt (pm_L a2 a5) none l)) (hp : post (c, en, w.1, w.2, a1, a2, a3, a4, a5, a6, a7, a8)) : wpX_look post (c, en, t, x, a1, a2, a3, a4, a5, a6, a7, a8) (nI v) (nI k) := by
  unfold wpX_look
  refine pm_adv0 hv hk hc hb ?_
  have hm := pm_ad_mem (t := (a2 v).toInt) (L := pm_L a2 a5) l none
  generalize pm_ad (a2 v).toInt (pm_L a2 a5) none l = r at hw hm
  cases r with
  | none =>
    subst hw
    exact br_t rfl ⟨rfl, rfl, br_t rfl hp⟩
  | some e =>
    have he : e < 640 := by
      rcases hm e rfl with z | z
      · exact (hb e z).1
      · exact absurd z (fun q => by cases q)
    have ce := nI_clamp (show e < 2 ^ 31 by omega)
    have i1 : vp_in (nI e) 640 := vp_in_nI he (by decide)
    have hw' : w = if a7 e = 0 then (0, 0) else (1, a6 e) := hw
    by_cases g : a7 e = 0
    · rw [if_pos g] at hw'
      subst hw'
      exact br_f (pm_m1 (by omega)) ⟨i1, br_t (show a7 (nI e).toNatClampNeg = 0 by rw [ce]; exact g) ⟨rfl, rfl, br_t rfl hp⟩⟩
    · rw [if_neg g] at hw'
      subst hw'
      exact br_f (pm_m1 (by omega)) ⟨i1, br_f (show ¬ a7 (nI e).toNatClampNeg = 0 by rw [ce]; exact g) ⟨rfl, rfl, br_f (by decide) ⟨i1, nm_r (by rw [pm_oI, ce]) hp⟩⟩⟩
theorem pm_isV {post : Int32 → Prop} {n v : Nat} (hv : v < n) (hn : n ≤ 40) (hp : post 1) : wpX_isVersion post (nI n, en, t, x, a1, a2, a3, a4, a5, a6, a7, a8) (nI v) :=
  br_f (nI_pos (by omega)) (br_f (nI_ge hv (by omega)) hp)
theorem pm_isK {post : Int32 → Prop} {k : Nat} (hk : k < 32) (hp : post 1) : wpX_isKey post () (nI k) :=
  br_f (nI_pos (by omega)) (br_f (nI_ge (b := 32) hk (by decide)) hp)
end
section
variable {n m z : Nat} {p : Nat → Nat} {C : Nat → Nat → Int32 × Int32} {t x : Int32} {a1 : Nat → Int32} {a2 : Nat → Int64} {a3 a4 a5 a6 a7 a8 : Nat → Int32}
theorem pm_nrm (I : pm_I n m p C z a1 a2 a3 a4 a5 a6 a7 a8) {v k : Nat} (hv : v < n) (hk : k < 32) : C v k = (0, 0) ∨ ∃ y, C v k = (1, y) := by
  obtain ⟨h1, h2, h3, h4, vs, es, hZ, hS, hT, hC, hO⟩ := I
  rw [hC v k hv hk, pm_C]
  cases pm_ad (a2 v).toInt (pm_L a2 a5) none (es k) with
  | none => left; rfl
  | some e =>
    by_cases g : a7 e = 0
    · left; exact if_pos g
    · right; exact ⟨a6 e, if_neg g⟩
theorem pm_look {post : St1 → Prop} (I : pm_I n m p C z a1 a2 a3 a4 a5 a6 a7 a8) {v k : Nat} (hv : v < n) (hk : k < 32) (hp : post (nI n, nI m, (C v k).1, (C v k).2, a1, a2, a3, a4, a5, a6, a7, a8)) : wpX_look post (nI n, nI m, t, x, a1, a2, a3, a4, a5, a6, a7, a8) (nI v) (nI k) := by
  obtain ⟨h1, h2, h3, h4, vs, es, hZ, hS, hT, hC, hO⟩ := I
  refine pm_look0 (l := es k) (by omega) hk (hS.1 k hk) (fun e he => ?_) (w := C v k) (hC v k hv hk) hp
  obtain ⟨q1, y, q2, q3⟩ := hS.2.1 k hk e he
  exact ⟨by omega, y, by omega, q3⟩
theorem pm_has {post : Int32 → St1 → Prop} (I : pm_I n m p C z a1 a2 a3 a4 a5 a6 a7 a8) {v k : Nat} (hv : v < n) (hk : k < 32) (hp : ∀ t' x', post (C v k).1 (nI n, nI m, t', x', a1, a2, a3, a4, a5, a6, a7, a8)) : wpX_has post (nI n, nI m, t, x, a1, a2, a3, a4, a5, a6, a7, a8) (nI v) (nI k) := by
  unfold wpX_has
  refine pm_isV hv I.2.1 (br_f (by decide) (pm_isK hk (br_f (by decide) (pm_look I hv hk ?_))))
  rcases pm_nrm I hv hk with e | ⟨y, e⟩
  · rw [e] at hp ⊢
    exact br_t rfl (hp _ _)
  · rw [e] at hp ⊢
    exact br_f (show ¬ (1 : Int32) = 0 by decide) (hp _ _)
theorem pm_get {post : Int32 → St1 → Prop} (I : pm_I n m p C z a1 a2 a3 a4 a5 a6 a7 a8) {v k : Nat} (hv : v < n) (hk : k < 32) (hp : ∀ t' x', post (C v k).2 (nI n, nI m, t', x', a1, a2, a3, a4, a5, a6, a7, a8)) : wpX_get post (nI n, nI m, t, x, a1, a2, a3, a4, a5, a6, a7, a8) (nI v) (nI k) := by
  unfold wpX_get
  refine pm_isV hv I.2.1 (br_f (by decide) (pm_isK hk (br_f (by decide) (pm_look I hv hk ?_))))
  rcases pm_nrm I hv hk with e | ⟨y, e⟩
  · rw [e] at hp ⊢
    exact br_t rfl (hp _ _)
  · rw [e] at hp ⊢
    exact br_f (show ¬ (1 : Int32) = 0 by decide) (hp _ _)
end
end
section
/-! part 03: spreadLabels, open -/
section
variable {c en t x : Int32} {a1 : Nat → Int32} {a3 a4 a5 a6 a7 a8 : Nat → Int32}
theorem pm_lbl (i : Nat) : lN (1125899906842624 * (i + 1)) + 1125899906842624 = lN (1125899906842624 * (i + 1 + 1)) := by
  have h : (1125899906842624 : Int64) = lN 1125899906842624 := rfl
  rw [h, lN_add]
  exact congrArg lN (by omega)
theorem pm_spr {post : St1 → Prop} : ∀ (l : List Nat) (i : Nat) (h : Int32) (a2 : Nat → Int64), pm_ch a3 h l → l.Nodup → (∀ e, e ∈ l → e < 40) → i + l.length ≤ 40 → (∀ b2 : Nat → Int64, (∀ y, y ∉ l → b2 y = a2 y) → l.Pairwise (fun a b => (b2 a).toInt < (b2 b).toInt) → (∀ y, y ∈ l → (1125899906842624 * (i : Int)) < (b2 y).toInt ∧ (b2 y).toInt ≤ 1125899906842624 * ((i : Int) + (l.length : Int))) → post (c, en, t, x, a1, b2, a3, a4, a5, a6, a7, a8)) → ∃ fu, wX_spreadLabels_6 post c en t x fu (lN (1125899906842624 * (i + 1))) h a1 a2 a3 a4 a5 a6 a7 a8
  | [], i, h, a2, hc, hn, hb, hl, H => ⟨0 + 1, br_t hc (H a2 (fun _ _ => rfl) List.Pairwise.nil (fun y hy => absurd hy (List.not_mem_nil)))⟩
  | e :: r, i, h, a2, hc, hn, hb, hl, H => by
      have he := hb e (List.mem_cons_self ..)
      have hc1 := hc.1
      have hc2 : pm_ch a3 (a3 e) r := hc.2
      subst hc1
      have hn' := List.nodup_cons.mp hn
      have hl' : i + (r.length + 1) ≤ 40 := hl
      have ce := nI_clamp (show e < 2 ^ 31 by omega)
      have i1 : vp_in (nI e) 40 := vp_in_nI he (by decide)
      have ih := pm_spr (post := post) r (i + 1) (a3 e) (vp_updL a2 e (lN (1125899906842624 * (i + 1)))) hc2 hn'.2 (fun a ha => hb a (List.mem_cons_of_mem _ ha)) (by omega) (fun b2 q1 q2 q3 => by
        have be : (b2 e).toInt = 1125899906842624 * ((i : Int) + 1) := by
          rw [q1 e hn'.1, pk_uLs, pk_lT (by omega)]
          omega
        refine H b2 (fun y hy => ?_) ?_ (fun y hy => ?_)
        · have y1 : y ≠ e := fun z => hy (by rw [z]; exact List.mem_cons_self ..)
          rw [q1 y (fun z => hy (List.mem_cons_of_mem _ z)), pk_uLn y1]
        · refine List.pairwise_cons.mpr ⟨fun a ha => ?_, q2⟩
          have := (q3 a ha).1
          omega
        · have hlen : ((e :: r).length : Int) = (r.length : Int) + 1 := by rw [List.length_cons]; omega
          rw [hlen]
          rcases List.mem_cons.mp hy with z | z
          · rw [z, be]; omega
          · have := q3 y z
            omega)
      obtain ⟨n, hw⟩ := ih
      exact ⟨n + 1, br_f (pm_m1 (by omega)) ⟨i1, nm_r (by rw [ce]) (nm_r (pm_lbl i) ⟨i1, nm_r (by rw [ce]) hw⟩)⟩⟩
end
section
variable {n m z : Nat} {p : Nat → Nat} {C : Nat → Nat → Int32 × Int32} {t x : Int32} {a1 : Nat → Int32} {a2 : Nat → Int64} {a3 a4 a5 a6 a7 a8 : Nat → Int32}
theorem pm_open_pic {v : Nat} {P S : List Nat} {es : Nat → List Nat} {b2 : Nat → Int64} (hn : n < 40) (hm : m ≤ 640) (hv : v < n) (hp : ∀ x, 0 < x → x < n → p x < x ∧ a1 x = nI (p x)) (hZ : pm_Z n (P ++ v :: S) a2 a3) (hS : pm_S n m es a4 a5 a8) (hT : pm_T es a2 a5) (hC : ∀ v k, v < n → k < 32 → C v k = pm_C es a2 a5 a6 a7 v k)
    (hb : (P ++ v :: n :: S).Pairwise (fun x y => (b2 x).toInt < (b2 y).toInt)) (hd : ∀ x, x < n + 1 → 0 ≤ (b2 x).toInt ∧ (b2 x).toInt < 2305843009213693952) :
    pm_I (n + 1) m (fun y => if y = n then v else p y) (fun w k => if w = n then C v k else C w k) n (upd a1 n (nI v)) b2 (upd (upd a3 n (a3 v)) v (nI n)) a4 a5 a6 a7 a8 := by
  obtain ⟨z1, z2, z3, z4, z5⟩ := hZ
  have hb' : (P ++ v :: S).Pairwise (fun x y => (b2 x).toInt < (b2 y).toInt) := by
    have e1 : P ++ v :: n :: S = (P ++ [v]) ++ n :: S := by rw [List.append_assoc]; rfl
    have e2 : P ++ v :: S = (P ++ [v]) ++ S := by rw [List.append_assoc]; rfl
    rw [e1] at hb
    rw [e2]
    exact pm_pw_del hb
  have ord : ∀ x y, x < n → y < n → ((a2 x).toInt < (a2 y).toInt ↔ (b2 x).toInt < (b2 y).toInt) := fun x y hx hy =>
    pm_ord (f := fun x => (a2 x).toInt) (g := fun x => (b2 x).toInt) (P ++ v :: S) z4 hb' ((z1 x).mpr hx) ((z1 y).mpr hy)
  have hL : ∀ k, k < 32 → ∀ e, e ∈ es k → ∃ y, y < n ∧ pm_L a2 a5 e = (a2 y).toInt ∧ pm_L b2 a5 e = (b2 y).toInt := by
    intro k hk e he
    obtain ⟨q1, y, q2, q3⟩ := hS.2.1 k hk e he
    refine ⟨y, q2, ?_, ?_⟩
    · rw [pm_L, q3, nI_clamp (by omega)]
    · rw [pm_L, q3, nI_clamp (by omega)]
  have hnew : ∀ y, y < n → ((b2 v).toInt < (b2 y).toInt ↔ (b2 n).toInt < (b2 y).toInt) := by
    intro y hy
    obtain ⟨p1, p2, p3⟩ := List.pairwise_append.mp hb
    obtain ⟨p4, p5⟩ := List.pairwise_cons.mp p2
    obtain ⟨p6, p7⟩ := List.pairwise_cons.mp p5
    have q1 := p4 n (List.mem_cons_self ..)
    rcases List.mem_append.mp ((z1 y).mpr hy) with g | g
    · have q2 := p3 y g v (List.mem_cons_self ..)
      omega
    · rcases List.mem_cons.mp g with g | g
      · rw [g]; omega
      · have q2 := p6 y g
        have q3 := p4 y (List.mem_cons_of_mem _ g)
        omega
  refine ⟨by omega, by omega, hm, fun y y0 yn => ?_, P ++ v :: n :: S, es, ⟨fun y => ?_, ?_, ?_, hb, hd⟩, ⟨hS.1, fun k hk e he => ?_, hS.2.2.1, hS.2.2.2⟩, fun k hk => ?_, fun w k hw hk => ?_, fun k hk e he en => ?_⟩
  · by_cases g : y = n
    · rw [g, pk_us]
      show (if n = n then v else p n) < n ∧ nI v = nI (if n = n then v else p n)
      rw [if_pos rfl]
      exact ⟨hv, rfl⟩
    · rw [pk_un g]
      show (if y = n then v else p y) < y ∧ a1 y = nI (if y = n then v else p y)
      rw [if_neg g]
      exact hp y y0 (by omega)
  · have := z1 y
    simp only [List.mem_append, List.mem_cons] at this ⊢
    constructor
    · rintro (g | g | g | g)
      · have := this.mp (Or.inl g); omega
      · omega
      · omega
      · have := this.mp (Or.inr (Or.inr g)); omega
    · intro g
      by_cases g' : y = n
      · exact Or.inr (Or.inr (Or.inl g'))
      · rcases this.mpr (by omega) with q | q | q
        · exact Or.inl q
        · exact Or.inr (Or.inl q)
        · exact Or.inr (Or.inr (Or.inr q))
  · simp only [List.length_append, List.length_cons] at z2 ⊢
    omega
  · exact pm_ch_ins P 0 (pm_nodup (f := fun x => (a2 x).toInt) z4) (fun g => by have := (z1 n).mp g; omega) z3
  · obtain ⟨q1, y, q2, q3⟩ := hS.2.1 k hk e he
    exact ⟨q1, y, by omega, q3⟩
  · refine List.Pairwise.imp_of_mem (fun {e f} he hf hef => ?_) (hT k hk)
    obtain ⟨y, y1, y2, y3⟩ := hL k hk e he
    obtain ⟨y', y1', y2', y3'⟩ := hL k hk f hf
    show pm_L b2 a5 e < pm_L b2 a5 f
    rw [y3, y3']
    rw [y2, y2'] at hef
    exact (ord y y' y1 y1').mp hef
  · show (if w = n then C v k else C w k) = pm_C es b2 a5 a6 a7 w k
    by_cases g : w = n
    · rw [if_pos g, hC v k hv hk, pm_C, pm_C, g]
      refine pm_ad_congr (es k) none (fun e he => ?_) (fun _ _ => rfl) (fun _ _ => rfl) rfl
      obtain ⟨y, y1, y2, y3⟩ := hL k hk e he
      rw [y2, y3, ord v y hv y1]
      exact hnew y y1
    · have hw' : w < n := by omega
      rw [if_neg g, hC w k hw' hk, pm_C, pm_C]
      refine pm_ad_congr (es k) none (fun e he => ?_) (fun _ _ => rfl) (fun _ _ => rfl) rfl
      obtain ⟨y, y1, y2, y3⟩ := hL k hk e he
      rw [y2, y3]
      exact ord w y hw' y1
  · obtain ⟨q1, y, q2, q3⟩ := hS.2.1 k hk e he
    rw [q3] at en
    have := (nI_eq (by omega) (by omega)).mp en
    omega
theorem pm_pw_new {v u : Nat} {P S : List Nat} (hZ : pm_Z n (P ++ v :: S) a2 a3) (q : Nat) (hq : q < 2305843009213693952) (h1 : (a2 v).toInt < (q : Int)) (h2 : ∀ y, y ∈ S → (q : Int) < (a2 y).toInt) :
    (P ++ v :: n :: S).Pairwise (fun x y => ((vp_updL a2 n (lN q)) x).toInt < ((vp_updL a2 n (lN q)) y).toInt) ∧ (∀ x, x < n + 1 → 0 ≤ ((vp_updL a2 n (lN q)) x).toInt ∧ ((vp_updL a2 n (lN q)) x).toInt < 2305843009213693952) := by
  obtain ⟨z1, z2, z3, z4, z5⟩ := hZ
  have en : ((vp_updL a2 n (lN q)) n).toInt = (q : Int) := by rw [pk_uLs, pk_lT (by omega)]
  have eo : ∀ y, y < n → ((vp_updL a2 n (lN q)) y).toInt = (a2 y).toInt := fun y hy => by rw [pk_uLn (by omega)]
  have e1 : P ++ v :: n :: S = (P ++ [v]) ++ n :: S := by rw [List.append_assoc]; rfl
  have e2 : P ++ v :: S = (P ++ [v]) ++ S := by rw [List.append_assoc]; rfl
  have lt : ∀ y, y ∈ (P ++ [v]) ++ S → y < n := fun y hy => (z1 y).mp (by rw [e2]; exact hy)
  constructor
  · rw [e1]
    refine pm_pw_ins ?_ (fun a ha => ?_) (fun b hb => ?_)
    · rw [e2] at z4
      refine List.Pairwise.imp_of_mem (fun {e f} he hf hef => ?_) z4
      rw [eo e (lt e he), eo f (lt f hf)]
      exact hef
    · rw [en, eo a (lt a (List.mem_append_left _ ha))]
      rcases List.mem_append.mp ha with g | g
      · have := (List.pairwise_append.mp z4).2.2 a g v (List.mem_cons_self ..)
        omega
      · rw [List.mem_singleton.mp g]; exact h1
    · rw [en, eo b (lt b (List.mem_append_right _ hb))]
      exact h2 b hb
  · intro y hy
    by_cases g : y = n
    · rw [g, en]; omega
    · rw [eo y (by omega)]
      exact z5 y (by omega)
theorem pm_open68 {post : Int32 → St1 → Prop} {v : Nat} {P S : List Nat} {u : Int64} {b1 b3 : Nat → Int32} (hn : n < 40) (hv : v < n) (hZ : pm_Z n (P ++ v :: S) a2 a3) (h3 : pm_ch b3 0 (P ++ v :: n :: S)) (u1 : (a2 v).toInt < u.toInt) (u2 : u.toInt ≤ 2305843009213693952) (u3 : ∀ y, y ∈ S → u.toInt ≤ (a2 y).toInt)
    (H : ∀ b2 : Nat → Int64, (P ++ v :: n :: S).Pairwise (fun x y => (b2 x).toInt < (b2 y).toInt) → (∀ x, x < n + 1 → 0 ≤ (b2 x).toInt ∧ (b2 x).toInt < 2305843009213693952) → post (nI n) (nI (n + 1), nI m, t, x, b1, b2, b3, a4, a5, a6, a7, a8)) :
    wX_open_68 post (nI v) (nI n) u (nI (n + 1)) (nI m) t x b1 a2 b3 a4 a5 a6 a7 a8 := by
  have cv := nI_clamp (show v < 2 ^ 31 by omega)
  have cn := nI_clamp (show n < 2 ^ 31 by omega)
  have iv : vp_in (nI v) 40 := vp_in_nI (by omega) (by decide)
  have iN : vp_in (nI n) 40 := vp_in_nI (by omega) (by decide)
  have v0 := hZ.2.2.2.2 v hv
  obtain ⟨i, hi, ei⟩ := pk_lOf (x := a2 v) (by rw [Int64.lt_iff_toInt_lt]; have : (0 : Int64).toInt = 0 := rfl; omega)
  obtain ⟨j, hj, ej⟩ := pk_lOf (x := u) (by rw [Int64.lt_iff_toInt_lt]; have : (0 : Int64).toInt = 0 := rfl; omega)
  have ti : (a2 v).toInt = (i : Int) := by rw [ei, pk_lT hi]
  have tj : u.toInt = (j : Int) := by rw [ej, pk_lT hj]
  have hij : i < j := by omega
  unfold wX_open_68
  refine ⟨iv, nm_r (e' := lN (j - i)) (by rw [cv, ei, ej, lN_sub (by omega)]) ?_⟩
  have h2 : (2 : Int64) ≤ lN (j - i) ↔ 2 ≤ j - i := pk_lLE (a := 2) (b := j - i) (by decide) (by omega)
  refine br_c (fun g => ⟨iv, by decide, iN, nm_r (e' := vp_updL a2 n (lN (i + (j - i) / 2))) ?_ ?_⟩) (fun g => ?_)
  · have h4 : (2 : Int64) = lN 2 := rfl
    rw [cn, cv, ei, h4, pk_lDiv (by omega) (by omega) (by omega), lN_add]
  · have g' := h2.mp g
    obtain ⟨w1, w2⟩ := pm_pw_new (u := 0) hZ (i + (j - i) / 2) (by omega) (by rw [ti]; omega) (fun y hy => by have := u3 y hy; omega)
    exact H _ w1 w2
  · have hnd : (P ++ v :: n :: S).Nodup := by
      have e1 : P ++ v :: n :: S = (P ++ [v]) ++ n :: S := by rw [List.append_assoc]; rfl
      have e2 : P ++ v :: S = (P ++ [v]) ++ S := by rw [List.append_assoc]; rfl
      have hh : (P ++ v :: S).Nodup := pm_nodup (f := fun x => (a2 x).toInt) hZ.2.2.2.1
      have hnot : n ∉ (P ++ [v]) ++ S := fun q => by
        rw [← e2] at q
        have := (hZ.1 n).mp q
        omega
      rw [e2] at hh
      rw [e1]
      exact pm_pw_ins hh (fun a ha q => hnot (by rw [← q]; exact List.mem_append_left _ ha)) (fun b hb q => hnot (by rw [q]; exact List.mem_append_right _ hb))
    have hlen : (P ++ v :: n :: S).length = n + 1 := by
      have := hZ.2.1
      simp only [List.length_append, List.length_cons] at this ⊢
      omega
    have hmem : ∀ e, e ∈ P ++ v :: n :: S ↔ e < n + 1 := by
      intro y
      have := hZ.1 y
      simp only [List.mem_append, List.mem_cons] at this ⊢
      constructor
      · rintro (g | g | g | g)
        · have := this.mp (Or.inl g); omega
        · omega
        · omega
        · have := this.mp (Or.inr (Or.inr g)); omega
      · intro g
        by_cases g' : y = n
        · exact Or.inr (Or.inr (Or.inl g'))
        · rcases this.mpr (by omega) with q | q | q
          · exact Or.inl q
          · exact Or.inr (Or.inl q)
          · exact Or.inr (Or.inr (Or.inr q))
    unfold wpX_spreadLabels
    refine pm_spr (P ++ v :: n :: S) 0 0 a2 h3 hnd (fun e he => ?_) (by omega) (fun b2 q1 q2 q3 => ?_)
    · have := (hmem e).mp he
      omega
    · refine H b2 q2 (fun y hy => ?_)
      have := q3 y ((hmem y).mpr hy)
      rw [hlen] at this
      omega
theorem pm_open {post : Int32 → St1 → Prop} {v : Nat} (I : pm_I n m p C z a1 a2 a3 a4 a5 a6 a7 a8) (hn : n < 40) (hv : v < n)
    (H : ∀ b1 b2 b3, pm_I (n + 1) m (fun y => if y = n then v else p y) (fun w k => if w = n then C v k else C w k) n b1 b2 b3 a4 a5 a6 a7 a8 → post (nI n) (nI (n + 1), nI m, t, x, b1, b2, b3, a4, a5, a6, a7, a8)) :
    wpX_open post (nI n, nI m, t, x, a1, a2, a3, a4, a5, a6, a7, a8) (nI v) := by
  obtain ⟨h1, h2, h3, h4, vs, es, hZ, hS, hT, hC, hO⟩ := I
  obtain ⟨P, S, e⟩ := List.append_of_mem ((hZ.1 v).mpr hv)
  subst e
  have cv := nI_clamp (show v < 2 ^ 31 by omega)
  have cn := nI_clamp (show n < 2 ^ 31 by omega)
  have iv : vp_in (nI v) 40 := vp_in_nI (by omega) (by decide)
  have iN : vp_in (nI n) 40 := vp_in_nI (by omega) (by decide)
  have hch : pm_ch (upd (upd a3 n (a3 v)) v (nI n)) 0 (P ++ v :: n :: S) := pm_ch_ins P 0 (pm_nodup (f := fun x => (a2 x).toInt) hZ.2.2.2.1) (fun g => by have := (hZ.1 n).mp g; omega) hZ.2.2.1
  have hat : (upd (upd a3 n (a3 v)) v (nI n)) n = a3 v := by rw [pk_un (by omega), pk_us]
  have hSc : pm_ch a3 (a3 v) S := pm_ch_app P 0 hZ.2.2.1
  have hfin : ∀ b2 : Nat → Int64, (P ++ v :: n :: S).Pairwise (fun x y => (b2 x).toInt < (b2 y).toInt) → (∀ x, x < n + 1 → 0 ≤ (b2 x).toInt ∧ (b2 x).toInt < 2305843009213693952) → post (nI n) (nI (n + 1), nI m, t, x, upd a1 n (nI v), b2, upd (upd a3 n (a3 v)) v (nI n), a4, a5, a6, a7, a8) :=
    fun b2 q1 q2 => H _ b2 _ (pm_open_pic hn h3 hv h4 hZ hS hT hC q1 q2)
  have v0 := hZ.2.2.2.2 v hv
  unfold wpX_open
  refine ⟨iN, nm_r (e' := upd a1 n (nI v)) (by rw [cn]) ⟨iv, iN, nm_r (e' := upd a3 n (a3 v)) (by rw [cn, cv]) ⟨iv, nm_r (e' := upd (upd a3 n (a3 v)) v (nI n)) (by rw [cv]) (nm_r (nI_1 n) ⟨iN, ?_⟩)⟩⟩⟩
  rw [cn, hat]
  cases S with
  | nil =>
    refine br_t hSc (pm_open68 hn hv hZ hch ?_ ?_ (fun y hy => absurd hy (List.not_mem_nil)) hfin)
    · have : (2305843009213693952 : Int64).toInt = 2305843009213693952 := rfl
      omega
    · exact Int.le_of_eq rfl
  | cons f S =>
    have hf : f < n := (hZ.1 f).mp (List.mem_append_right _ (List.mem_cons_of_mem _ (List.mem_cons_self ..)))
    have cf := nI_clamp (show f < 2 ^ 31 by omega)
    have hp := (List.pairwise_append.mp hZ.2.2.2.1).2.1
    have hp1 := List.pairwise_cons.mp hp
    have hp2 := List.pairwise_cons.mp hp1.2
    have hs : a3 v = nI f := hSc.1
    have cf' : (a3 v).toNatClampNeg = f := by rw [hs]; exact cf
    refine br_f (by rw [hs]; exact pm_m1 (by omega)) ⟨iN, by rw [hs]; exact vp_in_nI (by omega) (by decide), ?_⟩
    rw [cf']
    refine pm_open68 hn hv hZ hch (hp1.1 f (List.mem_cons_self ..)) (by have := hZ.2.2.2.2 f hf; omega) (fun y hy => ?_) hfin
    rcases List.mem_cons.mp hy with g | g
    · rw [g]; exact Int.le_refl _
    · have := hp2.1 y g
      omega
end
end
section
/-! part 04: insert, the walk of write -/
def pm_put (es : Nat → List Nat) (k : Nat) (l : List Nat) : Nat → List Nat := fun j => if j = k then l else es j
theorem pm_put_s {es : Nat → List Nat} {k : Nat} {l : List Nat} : pm_put es k l k = l := if_pos rfl
theorem pm_put_n {es : Nat → List Nat} {k j : Nat} {l : List Nat} (h : j ≠ k) : pm_put es k l j = es j := if_neg h
section
variable {n m : Nat} {es : Nat → List Nat} {c t x : Int32} {a1 : Nat → Int32} {a2 : Nat → Int64} {a3 a4 a5 a6 a7 a8 : Nat → Int32}
theorem pm_S_ins {b4 b8 : Nat → Int32} {k y : Nat} {A B : List Nat} (hS : pm_S n m es a4 a5 a8) (hk : k < 32) (hy : y < n) (he : es k = A ++ B)
    (h4 : ∀ j, j ≠ k → b4 j = a4 j) (h8 : ∀ e, e < m → e ∉ es k → b8 e = a8 e) (hc : pm_ch b8 (b4 k) (A ++ m :: B)) : pm_S n (m + 1) (pm_put es k (A ++ m :: B)) b4 (upd a5 m (nI y)) b8 := by
  obtain ⟨s1, s2, s3, s4⟩ := hS
  have hmem : ∀ e, e ∈ A ++ m :: B → e = m ∨ e ∈ es k := by
    intro e h
    rw [he]
    rcases List.mem_append.mp h with g | g
    · exact Or.inr (List.mem_append_left _ g)
    · rcases List.mem_cons.mp g with g | g
      · exact Or.inl g
      · exact Or.inr (List.mem_append_right _ g)
  refine ⟨fun j hj => ?_, fun j hj e h => ?_, fun j hj => ?_, fun i j hi hj hij e h1 h2 => ?_⟩
  · by_cases g : j = k
    · subst g
      rw [pm_put_s]; exact hc
    · rw [pm_put_n g, h4 j g]
      refine pm_ch_congr (es j) _ (fun e h => ?_) (s1 j hj)
      exact (h8 e (s2 j hj e h).1 (s4 j k hj hk g e h)).symm
  · have hold : ∀ i, i < 32 → e ∈ es i → e < m + 1 ∧ ∃ x, x < n ∧ upd a5 m (nI y) e = nI x := by
      intro i hi h'
      obtain ⟨q1, w, q2, q3⟩ := s2 i hi e h'
      exact ⟨by omega, w, q2, by rw [pk_un (by omega)]; exact q3⟩
    by_cases g : j = k
    · subst g
      rw [pm_put_s] at h
      rcases hmem e h with q | q
      · rw [q]; exact ⟨by omega, y, hy, pk_us⟩
      · exact hold j hj q
    · rw [pm_put_n g] at h
      exact hold j hj h
  · by_cases g : j = k
    · subst g
      rw [pm_put_s]
      have hnd := s3 j hj
      have hlt : ∀ e, e ∈ A ++ B → e ≠ m := fun e h => by
        have := (s2 j hj e (by rw [he]; exact h)).1
        omega
      rw [he] at hnd
      exact pm_pw_ins hnd (fun a ha => hlt a (List.mem_append_left _ ha)) (fun b hb q => hlt b (List.mem_append_right _ hb) q.symm)
    · rw [pm_put_n g]; exact s3 j hj
  · by_cases g1 : i = k
    · subst g1
      have g2 : j ≠ i := fun q => hij q.symm
      rw [pm_put_s] at h1
      rw [pm_put_n g2] at h2
      rcases hmem e h1 with q | q
      · have := (s2 j hj e h2).1
        omega
      · exact s4 i j hi hj hij e q h2
    · rw [pm_put_n g1] at h1
      by_cases g2 : j = k
      · subst g2
        rw [pm_put_s] at h2
        rcases hmem e h2 with q | q
        · have := (s2 i hi e h1).1
          omega
        · exact s4 i j hi hj hij e h1 q
      · rw [pm_put_n g2] at h2
        exact s4 i j hi hj hij e h1 h2
theorem pm_insert {post : Int32 → St1 → Prop} {k y : Nat} {A B : List Nat} {th val : Int32} (hS : pm_S n m es a4 a5 a8) (hm : m < 640) (hk : k < 32) (hy : y < n) (he : es k = A ++ B)
    (H : ∀ b4 b8, pm_S n (m + 1) (pm_put es k (A ++ m :: B)) b4 (upd a5 m (nI y)) b8 → post (nI m) (c, nI (m + 1), t, x, a1, a2, a3, b4, upd a5 m (nI y), upd a6 m val, upd a7 m (vp_nar .boolean th), b8)) :
    wpX_insert post (c, nI m, t, x, a1, a2, a3, a4, a5, a6, a7, a8) (nI k) (pm_oI A.getLast?) (nI y) th val := by
  have cm := nI_clamp (show m < 2 ^ 31 by omega)
  have ck := nI_clamp (show k < 2 ^ 31 by omega)
  have im : vp_in (nI m) 640 := vp_in_nI hm (by decide)
  have ik : vp_in (nI k) 32 := vp_in_nI hk (by decide)
  have hlt : ∀ e, e ∈ A ++ B → e < m := fun e h => (hS.2.1 k hk e (by rw [he]; exact h)).1
  have hch := hS.1 k hk
  have hnd := hS.2.2.1 k hk
  rw [he] at hch hnd
  unfold wpX_insert
  refine nm_r (nI_1 m) ⟨im, nm_r (e' := upd a5 m (nI y)) (by rw [cm]) ⟨im, nm_r (e' := upd a7 m (vp_nar .boolean th)) (by rw [cm]) ⟨im, nm_r (e' := upd a6 m val) (by rw [cm]) ?_⟩⟩⟩
  rcases pm_last A with ⟨eA, eL⟩ | ⟨A', q, eA, eL⟩
  · rw [eL]
    subst eA
    refine br_t rfl ⟨ik, im, nm_r (e' := upd a8 m (a4 k)) (by rw [cm, ck]) ⟨ik, nm_r (e' := upd a4 k (nI m)) (by rw [ck]) (H _ _ ?_)⟩⟩
    refine pm_S_ins hS hk hy he (fun j hj => pk_un hj) (fun e h1 h2 => pk_un (by omega)) ?_
    rw [pk_us]
    exact pm_ch_ins0 (fun g => by have := hlt m g; omega) hch
  · rw [eL]
    subst eA
    have e1 : (A' ++ [q]) ++ B = A' ++ q :: B := by rw [List.append_assoc]; rfl
    have e2 : (A' ++ [q]) ++ m :: B = A' ++ q :: m :: B := by rw [List.append_assoc]; rfl
    have hq : q < m := hlt q (by rw [e1]; exact List.mem_append_right _ (List.mem_cons_self ..))
    have cq := nI_clamp (show q < 2 ^ 31 by omega)
    have iq : vp_in (nI q) 640 := vp_in_nI (by omega) (by decide)
    refine br_f (pm_m1 (by omega)) ⟨iq, im, nm_r (e' := upd a8 m (a8 q)) (by rw [pm_oI, cm, cq]) ⟨iq, nm_r (e' := upd (upd a8 m (a8 q)) q (nI m)) (by rw [pm_oI, cq]) (H _ _ ?_)⟩⟩
    refine pm_S_ins hS hk hy he (fun j hj => rfl) (fun e h1 h2 => ?_) ?_
    · have : e ≠ q := fun g => h2 (by rw [he, g, e1]; exact List.mem_append_right _ (List.mem_cons_self ..))
      rw [pk_un this, pk_un (by omega)]
    · rw [e1] at hch hnd
      rw [e2]
      refine pm_ch_ins A' _ hnd (fun g => ?_) hch
      have := hlt m (by rw [e1]; exact g)
      omega
theorem pm_w52 {post : St1 → Prop} {x1 x2 x3 x4 x5 c en : Int32} {r : Option Nat} (hr : ∀ e, r = some e → e < 640) (h : ∀ w, w = pm_val a6 a7 r → wX_write_91 post x1 x2 x3 x4 x5 (pm_oI r) w.1 w.2 c en t x a1 a2 a3 a4 a5 a6 a7 a8) :
    wX_write_52 post x1 x2 x3 x4 x5 (pm_oI r) c en t x a1 a2 a3 a4 a5 a6 a7 a8 := by
  unfold wX_write_52
  cases r with
  | none => exact br_t rfl (br_t rfl (h (0, 0) rfl))
  | some e =>
    have he := hr e rfl
    have ce := nI_clamp (show e < 2 ^ 31 by omega)
    have ie : vp_in (nI e) 640 := vp_in_nI he (by decide)
    by_cases g : a7 e = 0
    · exact br_f (pm_m1 (by omega)) ⟨ie, br_t (show a7 (nI e).toNatClampNeg = 0 by rw [ce]; exact g) (br_t rfl (h (0, 0) (if_pos g).symm))⟩
    · have h' := h (1, a6 e) (if_neg g).symm
      refine br_f (pm_m1 (by omega)) ⟨ie, br_f (show ¬ a7 (nI e).toNatClampNeg = 0 by rw [ce]; exact g) (br_f (show ¬ (1 : Int32) = 0 by decide) ⟨ie, ?_⟩)⟩
      have e1 : a6 (pm_oI (some e)).toNatClampNeg = a6 e := by rw [pm_oI, ce]
      rw [e1]
      exact h'
theorem pm_w91 {post : St1 → Prop} {k z : Nat} {A B : List Nat} {th val ot ov : Int32} (hS : pm_S n m es a4 a5 a8) (hm : m + 2 ≤ 640) (hn : n ≤ 40) (hk : k < 32) (hz : z < n) (he : es k = A ++ B) (h3 : a3 z = -1 ∨ ∃ f, f < n ∧ a3 z = nI f)
    (H2 : (a3 z = -1 ∨ ∃ b B' f, B = b :: B' ∧ a5 b = nI f ∧ a3 z = nI f) → ∀ b4 b8, pm_S n (m + 1) (pm_put es k (A ++ m :: B)) b4 (upd a5 m (nI z)) b8 → post (c, nI (m + 1), t, x, a1, a2, a3, b4, upd a5 m (nI z), upd a6 m val, upd a7 m (vp_nar .boolean th), b8))
    (H3 : ∀ f, f < n → a3 z = nI f → (∀ b B', B = b :: B' → ¬ a5 b = nI f) → ∀ b4 b8, pm_S n (m + 1 + 1) (pm_put (pm_put es k (A ++ m :: B)) k ((A ++ [m]) ++ (m + 1) :: B)) b4 (upd (upd a5 m (nI z)) (m + 1) (nI f)) b8 → post (c, nI (m + 1 + 1), t, x, a1, a2, a3, b4, upd (upd a5 m (nI z)) (m + 1) (nI f), upd (upd a6 m val) (m + 1) ov, upd (upd a7 m (vp_nar .boolean th)) (m + 1) (vp_nar .boolean ot), b8)) :
    wX_write_91 post (nI z) (nI k) th val (a3 z) (pm_oI A.getLast?) ot ov c (nI m) t x a1 a2 a3 a4 a5 a6 a7 a8 := by
  unfold wX_write_91
  refine pm_insert hS (by omega) hk hz he (fun b4 b8 hS' => ?_)
  have cm := nI_clamp (show m < 2 ^ 31 by omega)
  have im : vp_in (nI m) 640 := vp_in_nI (by omega) (by decide)
  have hch : pm_ch b8 (b8 m) B := by
    have h := hS'.1 k hk
    rw [pm_put_s] at h
    exact pm_ch_app A _ h
  have K137 : (∀ f, f < n → a3 z = nI f → ∀ b B', B = b :: B' → ¬ a5 b = nI f) → wX_write_137 post (nI k) (a3 z) ot ov (nI m) c (nI (m + 1)) t x a1 a2 a3 b4 (upd a5 m (nI z)) (upd a6 m val) (upd a7 m (vp_nar .boolean th)) b8 := by
    intro hB
    unfold wX_write_137 wX_write_138
    rcases h3 with g | ⟨f, hf, g⟩
    · exact br_t g (H2 (Or.inl g) b4 b8 hS')
    · refine br_f (by rw [g]; exact pm_m1 (by omega)) (br_t rfl ?_)
      have e0 : nI m = pm_oI (A ++ [m]).getLast? := by rw [List.getLast?_concat, pm_oI]
      rw [g, e0]
      refine pm_insert (es := pm_put es k (A ++ m :: B)) (A := A ++ [m]) (B := B) hS' (by omega) hk hf (by rw [pm_put_s, List.append_assoc]; rfl) (fun d4 d8 hS2 => H3 f hf g (hB f hf g) d4 d8 hS2)
  refine ⟨im, nm_r (e' := b8 m) (by rw [cm]) ?_⟩
  cases B with
  | nil => exact br_t hch (K137 (fun f hf g b B' q => by cases q))
  | cons b B' =>
    have hbm : b ∈ es k := by rw [he]; exact List.mem_append_right _ (List.mem_cons_self ..)
    obtain ⟨q1, y, q2, q3⟩ := hS.2.1 k hk b hbm
    have cb := nI_clamp (show b < 2 ^ 31 by omega)
    rw [hch.1]
    refine br_f (pm_m1 (by omega)) ⟨vp_in_nI (by omega) (by decide), ?_⟩
    rw [cb, pk_un (show b ≠ m by omega)]
    refine br_c (fun g => ?_) (fun g => ?_)
    · unfold wX_write_138
      refine br_f (by rw [← g, q3]; exact pm_m1 (by omega)) (br_f (by decide) (H2 (Or.inr ⟨b, B', y, rfl, q3, by rw [← g]; exact q3⟩) b4 b8 hS'))
    · refine K137 (fun f hf g' b' B'' q => ?_)
      cases q
      rw [← g']
      exact g
end
end
section
/-! part 05: write keeps the picture -/
def pm_U (C : Nat → Nat → Int32 × Int32) (z k : Nat) (w : Int32 × Int32) : Nat → Nat → Int32 × Int32 := fun v j => if v = z ∧ j = k then w else C v j
def pm_w (th val : Int32) : Int32 × Int32 := if th = 0 then (0, 0) else (1, val)
theorem pm_U_s {C : Nat → Nat → Int32 × Int32} {z k : Nat} {w : Int32 × Int32} : pm_U C z k w z k = w := if_pos ⟨rfl, rfl⟩
theorem pm_U_v {C : Nat → Nat → Int32 × Int32} {z k v j : Nat} {w : Int32 × Int32} (h : v ≠ z) : pm_U C z k w v j = C v j := if_neg (fun q => h q.1)
theorem pm_U_k {C : Nat → Nat → Int32 × Int32} {z k v j : Nat} {w : Int32 × Int32} (h : j ≠ k) : pm_U C z k w v j = C v j := if_neg (fun q => h q.2)
theorem pm_ad_cons {t : Int} {L : Nat → Int} {d : Option Nat} {b : Nat} {r : List Nat} (h : L b ≤ t) : pm_ad t L d (b :: r) = pm_ad t L (some b) r := if_neg (by omega)
theorem pm_val_eq {a6 a7 b6 b7 : Nat → Int32} {b : Nat} (h6 : a6 b = b6 b) (h7 : a7 b = b7 b) : pm_val a6 a7 (some b) = pm_val b6 b7 (some b) := by
  rw [pm_val, pm_val, h6, h7]
theorem pm_val_idem {a6 a7 : Nat → Int32} {r : Option Nat} {w : Int32 × Int32} (h : w = pm_val a6 a7 r) : pm_w (vp_nar .boolean w.1) w.2 = w := by
  cases r with
  | none => subst h; exact if_pos (show vp_nar .boolean 0 = 0 by decide)
  | some e =>
    have h' : w = if a7 e = 0 then (0, 0) else (1, a6 e) := h
    by_cases g : a7 e = 0
    · rw [if_pos g] at h'; subst h'; rfl
    · rw [if_neg g] at h'; subst h'
      exact if_neg (show ¬ vp_nar .boolean 1 = 0 by decide)
theorem pm_first {L : Nat → Int} {s : Int} {B : List Nat} {g : Nat} (hB : B.Pairwise (fun e f => L e < L f)) (hg : g ∈ B) (h : L g ≤ s) : ∃ b B', B = b :: B' ∧ L b ≤ s := by
  cases B with
  | nil => exact absurd hg (List.not_mem_nil)
  | cons b B' =>
    refine ⟨b, B', rfl, ?_⟩
    rcases List.mem_cons.mp hg with q | q
    · rw [← q]; exact h
    · have := (List.pairwise_cons.mp hB).1 g q
      omega
section
variable {n m z : Nat} {p : Nat → Nat} {C : Nat → Nat → Int32 × Int32} {vs : List Nat} {es : Nat → List Nat} {c t x : Int32} {a1 : Nat → Int32} {a2 : Nat → Int64} {a3 a4 a5 a6 a7 a8 : Nat → Int32}
theorem pm_next (hZ : pm_Z n vs a2 a3) (hz : z < n) : (a3 z = -1 ∧ ∀ y, y < n → (a2 y).toInt ≤ (a2 z).toInt) ∨ ∃ f, f < n ∧ a3 z = nI f ∧ (a2 z).toInt < (a2 f).toInt ∧ ∀ y, y < n → (a2 z).toInt < (a2 y).toInt → (a2 f).toInt ≤ (a2 y).toInt := by
  obtain ⟨z1, z2, z3, z4, z5⟩ := hZ
  obtain ⟨P, S, e⟩ := List.append_of_mem ((z1 z).mpr hz)
  subst e
  have hc := pm_ch_app P 0 z3
  obtain ⟨p1, p2, p3⟩ := List.pairwise_append.mp z4
  have p4 := List.pairwise_cons.mp p2
  have pos : ∀ y, y < n → y ∈ S ∨ (a2 y).toInt ≤ (a2 z).toInt := by
    intro y hy
    rcases List.mem_append.mp ((z1 y).mpr hy) with g | g
    · right
      have := p3 y g z (List.mem_cons_self ..)
      omega
    · rcases List.mem_cons.mp g with g | g
      · right; rw [g]; exact Int.le_refl _
      · left; exact g
  cases S with
  | nil =>
    left
    refine ⟨hc, fun y hy => ?_⟩
    rcases pos y hy with g | g
    · exact absurd g (List.not_mem_nil)
    · exact g
  | cons f S' =>
    right
    refine ⟨f, (z1 f).mp (List.mem_append_right _ (List.mem_cons_of_mem _ (List.mem_cons_self ..))), hc.1, p4.1 f (List.mem_cons_self ..), fun y hy h => ?_⟩
    rcases pos y hy with g | g
    · rcases List.mem_cons.mp g with g | g
      · rw [g]; exact Int.le_refl _
      · have := (List.pairwise_cons.mp p4.2).1 y g
        omega
    · omega
theorem pm_Lof (hS : pm_S n m es a4 a5 a8) (hn : n ≤ 40) {k e : Nat} (hk : k < 32) (he : e ∈ es k) : e < m ∧ ∃ y, y < n ∧ a5 e = nI y ∧ pm_L a2 a5 e = (a2 y).toInt := by
  obtain ⟨q1, y, q2, q3⟩ := hS.2.1 k hk e he
  exact ⟨q1, y, q2, q3, by rw [pm_L, q3, nI_clamp (by omega)]⟩
theorem pm_W1 {k q : Nat} {A B : List Nat} {th val : Int32} (hn1 : 1 ≤ n) (hn : n ≤ 40) (hm : m ≤ 640) (hp : ∀ x, 0 < x → x < n → p x < x ∧ a1 x = nI (p x)) (hZ : pm_Z n vs a2 a3) (hS : pm_S n m es a4 a5 a8) (hT : pm_T es a2 a5) (hC : ∀ v k, v < n → k < 32 → C v k = pm_C es a2 a5 a6 a7 v k) (hO : pm_O n z es a3 a5)
    (hz : z < n) (hk : k < 32) (he : es k = (A ++ [q]) ++ B) (hA : ∀ e, e ∈ A ++ [q] → pm_L a2 a5 e ≤ (a2 z).toInt) (hB : ∀ e, e ∈ B → (a2 z).toInt < pm_L a2 a5 e) (hq : a5 q = nI z) :
    pm_I n m p (pm_U C z k (pm_w th val)) z a1 a2 a3 a4 a5 (upd a6 q val) (upd a7 q th) a8 := by
  have e1 : (A ++ [q]) ++ B = A ++ q :: B := by rw [List.append_assoc]; rfl
  have hnd := hS.2.2.1 k hk
  rw [he, e1] at hnd
  have qk : q ∈ es k := by rw [he, e1]; exact List.mem_append_right _ (List.mem_cons_self ..)
  have qA : q ∉ A := fun g => (List.nodup_append.mp hnd).2.2 q g q (List.mem_cons_self ..) rfl
  have qB : q ∉ B := (List.nodup_cons.mp (List.nodup_append.mp hnd).2.1).1
  have hLq : pm_L a2 a5 q = (a2 z).toInt := by rw [pm_L, hq, nI_clamp (by omega)]
  refine ⟨hn1, hn, hm, hp, vs, es, hZ, hS, hT, fun v j hv hj => ?_, hO⟩
  by_cases gj : j = k
  · subst gj
    by_cases gv : v = z
    · subst gv
      rw [pm_U_s, pm_C, he, pm_ad_pass (A ++ [q]) none hA, pm_ad_stop hB, List.getLast?_concat]
      show pm_w th val = if upd a7 q th q = 0 then (0, 0) else (1, upd a6 q val q)
      rw [pk_us, pk_us, pm_w]
    · rw [pm_U_v gv, hC v j hv hj, pm_C, pm_C, he]
      have hne : (a2 v).toInt ≠ (a2 z).toInt := fun g => gv (pm_inj (f := fun x => (a2 x).toInt) vs hZ.2.2.2.1 ((hZ.1 v).mpr hv) ((hZ.1 z).mpr hz) g)
      by_cases g : (a2 v).toInt < (a2 z).toInt
      · have hD : ∀ e, e ∈ q :: B → (a2 v).toInt < pm_L a2 a5 e := by
          intro e h
          rcases List.mem_cons.mp h with h | h
          · rw [h, hLq]; exact g
          · have := hB e h
            omega
        rw [e1, pm_ad_tail hD A none]
        refine pm_ad_congr A none (fun _ _ => Iff.rfl) (fun e h => ?_) (fun e h => ?_) rfl
        · rw [pk_un (fun (w : e = q) => qA (w ▸ h))]
        · rw [pk_un (fun (w : e = q) => qA (w ▸ h))]
      · have g' : (a2 z).toInt < (a2 v).toInt := by omega
        rcases pm_next hZ hz with ⟨_, y2⟩ | ⟨f, y1, y2, y3, y4⟩
        · have := y2 v hv
          omega
        · obtain ⟨o, o1, o2⟩ := hO j hk q qk hq f y1 y2
          have hLo : pm_L a2 a5 o = (a2 f).toInt := by rw [pm_L, o2, nI_clamp (by omega)]
          have y5 := y4 v hv g'
          have oB : o ∈ B := by
            rw [he] at o1
            rcases List.mem_append.mp o1 with h | h
            · have := hA o h
              omega
            · exact h
          have hTB : B.Pairwise (fun e f => pm_L a2 a5 e < pm_L a2 a5 f) := by
            have := hT j hk
            rw [he] at this
            exact (List.pairwise_append.mp this).2.1
          obtain ⟨b, B', eb, hb⟩ := pm_first hTB oB (s := (a2 v).toInt) (by omega)
          subst eb
          rw [pm_ad_pass (A ++ [q]) none (fun e h => by have := hA e h; omega), pm_ad_cons hb]
          have bq : b ≠ q := fun w => qB (by rw [← w]; exact List.mem_cons_self ..)
          refine pm_ad_congr B' (some b) (fun _ _ => Iff.rfl) (fun e h => ?_) (fun e h => ?_) (pm_val_eq (by rw [pk_un bq]) (by rw [pk_un bq]))
          · rw [pk_un (fun (w : e = q) => qB (w ▸ List.mem_cons_of_mem _ h))]
          · rw [pk_un (fun (w : e = q) => qB (w ▸ List.mem_cons_of_mem _ h))]
  · rw [pm_U_k gj, hC v j hv hj, pm_C, pm_C]
    have hne : ∀ e, e ∈ es j → e ≠ q := fun e h w => hS.2.2.2 j k hj hk gj e h (by rw [w]; exact qk)
    exact pm_ad_congr (es j) none (fun _ _ => Iff.rfl) (fun e h => by rw [pk_un (hne e h)]) (fun e h => by rw [pk_un (hne e h)]) rfl
theorem pm_W {k m' : Nat} {A B M : List Nat} {th val : Int32} {b4 b5 b6 b7 b8 : Nat → Int32} (hn1 : 1 ≤ n) (hn : n ≤ 40) (hp : ∀ x, 0 < x → x < n → p x < x ∧ a1 x = nI (p x)) (hZ : pm_Z n vs a2 a3) (hS : pm_S n m es a4 a5 a8) (hT : pm_T es a2 a5) (hC : ∀ v k, v < n → k < 32 → C v k = pm_C es a2 a5 a6 a7 v k) (hO : pm_O n z es a3 a5)
    (hz : z < n) (hk : k < 32) (he : es k = A ++ B) (hA : ∀ e, e ∈ A → pm_L a2 a5 e < (a2 z).toInt) (hB : ∀ e, e ∈ B → (a2 z).toInt < pm_L a2 a5 e) (hm' : m' ≤ 640)
    (hag : ∀ e, e < m → b5 e = a5 e ∧ b6 e = a6 e ∧ b7 e = a7 e) (hS' : pm_S n m' (pm_put es k (A ++ m :: (M ++ B))) b4 b5 b8) (h5 : b5 m = nI z) (h6 : b6 m = val) (h7 : b7 m = th)
    (hTk : (A ++ m :: (M ++ B)).Pairwise (fun e f => pm_L a2 b5 e < pm_L a2 b5 f)) (hM : ∀ e, e ∈ M → (a2 z).toInt < pm_L a2 b5 e)
    (hK : ∀ v, v < n → (a2 z).toInt < (a2 v).toInt → pm_val b6 b7 (pm_ad (a2 v).toInt (pm_L a2 b5) (some m) (M ++ B)) = pm_val b6 b7 (pm_ad (a2 v).toInt (pm_L a2 b5) A.getLast? B))
    (hOk : ∀ f, f < n → a3 z = nI f → ∃ g, g ∈ M ++ B ∧ b5 g = nI f) :
    pm_I n m' p (pm_U C z k (pm_w th val)) z a1 a2 a3 b4 b5 b6 b7 b8 := by
  have hlt : ∀ j e, j < 32 → e ∈ es j → e < m := fun j e hj h => (hS.2.1 j hj e h).1
  have hLL : ∀ e, e < m → pm_L a2 b5 e = pm_L a2 a5 e := fun e h => by rw [pm_L, pm_L, (hag e h).1]
  have hLm : pm_L a2 b5 m = (a2 z).toInt := by rw [pm_L, h5, nI_clamp (by omega)]
  have ltA : ∀ e, e ∈ A → e < m := fun e h => hlt k e hk (by rw [he]; exact List.mem_append_left _ h)
  have ltB : ∀ e, e ∈ B → e < m := fun e h => hlt k e hk (by rw [he]; exact List.mem_append_right _ h)
  have hMB : ∀ e, e ∈ M ++ B → (a2 z).toInt < pm_L a2 b5 e := by
    intro e h
    rcases List.mem_append.mp h with h | h
    · exact hM e h
    · rw [hLL e (ltB e h)]; exact hB e h
  refine ⟨hn1, hn, hm', hp, vs, _, hZ, hS', fun j hj => ?_, fun v j hv hj => ?_, fun j hj e h1 h2 f hf h3 => ?_⟩
  · by_cases gj : j = k
    · subst gj; rw [pm_put_s]; exact hTk
    · rw [pm_put_n gj]
      refine List.Pairwise.imp_of_mem (fun {e f} h1 h2 h3 => ?_) (hT j hj)
      rw [hLL e (hlt j e hj h1), hLL f (hlt j f hj h2)]
      exact h3
  · by_cases gj : j = k
    · subst gj
      by_cases gv : v = z
      · subst gv
        rw [pm_U_s, pm_C, pm_put_s, pm_ad_pass A none (fun e h => by rw [hLL e (ltA e h)]; have := hA e h; omega), pm_ad_cons (by omega), pm_ad_stop hMB]
        show pm_w th val = if b7 m = 0 then (0, 0) else (1, b6 m)
        rw [h6, h7, pm_w]
      · rw [pm_U_v gv, hC v j hv hj, pm_C, pm_C, he, pm_put_s]
        have hne : (a2 v).toInt ≠ (a2 z).toInt := fun g => gv (pm_inj (f := fun x => (a2 x).toInt) vs hZ.2.2.2.1 ((hZ.1 v).mpr hv) ((hZ.1 z).mpr hz) g)
        by_cases g : (a2 v).toInt < (a2 z).toInt
        · have hD : ∀ e, e ∈ m :: (M ++ B) → (a2 v).toInt < pm_L a2 b5 e := by
            intro e h
            rcases List.mem_cons.mp h with h | h
            · rw [h, hLm]; exact g
            · have := hMB e h
              omega
          rw [pm_ad_tail hD A none, pm_ad_tail (fun e h => by have := hB e h; omega) A none]
          exact pm_ad_congr A none (fun e h => by rw [hLL e (ltA e h)]) (fun e h => ((hag e (ltA e h)).2.1).symm) (fun e h => ((hag e (ltA e h)).2.2).symm) rfl
        · have g' : (a2 z).toInt < (a2 v).toInt := by omega
          have r1 : pm_ad (a2 v).toInt (pm_L a2 b5) none (A ++ m :: (M ++ B)) = pm_ad (a2 v).toInt (pm_L a2 b5) (some m) (M ++ B) := by
            rw [pm_ad_pass A none (fun e h => by rw [hLL e (ltA e h)]; have := hA e h; omega)]
            exact pm_ad_cons (by omega)
          have r2 : pm_ad (a2 v).toInt (pm_L a2 a5) none (A ++ B) = pm_ad (a2 v).toInt (pm_L a2 a5) A.getLast? B := by
            rw [pm_ad_pass A none (fun e h => by have := hA e h; omega), Option.or_none]
          rw [r1, r2, hK v hv g']
          refine pm_ad_congr B A.getLast? (fun e h => by rw [hLL e (ltB e h)]) (fun e h => ((hag e (ltB e h)).2.1).symm) (fun e h => ((hag e (ltB e h)).2.2).symm) ?_
          rcases pm_last A with ⟨_, eL⟩ | ⟨A', q, eA, eL⟩
          · rw [eL]; rfl
          · rw [eL]
            have hq : q < m := ltA q (by rw [eA]; exact List.mem_append_right _ (List.mem_cons_self ..))
            exact pm_val_eq ((hag q hq).2.1).symm ((hag q hq).2.2).symm
    · rw [pm_U_k gj, hC v j hv hj, pm_C, pm_C, pm_put_n gj]
      exact pm_ad_congr (es j) none (fun e h => by rw [hLL e (hlt j e hj h)]) (fun e h => ((hag e (hlt j e hj h)).2.1).symm) (fun e h => ((hag e (hlt j e hj h)).2.2).symm) rfl
  · by_cases gj : j = k
    · subst gj
      rw [pm_put_s]
      obtain ⟨g, g1, g2⟩ := hOk f hf h3
      exact ⟨g, List.mem_append_right _ (List.mem_cons_of_mem _ g1), g2⟩
    · rw [pm_put_n gj] at h1 ⊢
      rw [(hag e (hlt j e hj h1)).1] at h2
      obtain ⟨g, g1, g2⟩ := hO j hj e h1 h2 f hf h3
      exact ⟨g, g1, by rw [(hag g (hlt j g hj g1)).1]; exact g2⟩
end
section
variable {n m z : Nat} {p : Nat → Nat} {C : Nat → Nat → Int32 × Int32} {t x : Int32} {a1 : Nat → Int32} {a2 : Nat → Int64} {a3 a4 a5 a6 a7 a8 : Nat → Int32}
theorem pm_write {post : St1 → Prop} {k : Nat} {th val : Int32} (I : pm_I n m p C z a1 a2 a3 a4 a5 a6 a7 a8) (hz : z < n) (hk : k < 32) (hm : m + 2 ≤ 640)
    (H : ∀ m' b4 b5 b6 b7 b8, m' ≤ m + 2 → pm_I n m' p (pm_U C z k (pm_w (vp_nar .boolean th) val)) z a1 a2 a3 b4 b5 b6 b7 b8 → post (nI n, nI m', t, x, a1, a2, a3, b4, b5, b6, b7, b8)) :
    wpX_write post (nI n, nI m, t, x, a1, a2, a3, a4, a5, a6, a7, a8) (nI z) (nI k) th val := by
  obtain ⟨h1, h2, h3, h4, vs, es, hZ, hS, hT, hC, hO⟩ := I
  have cz := nI_clamp (show z < 2 ^ 31 by omega)
  have iz : vp_in (nI z) 40 := vp_in_nI (by omega) (by decide)
  obtain ⟨A, B, he, hA, hB⟩ := pm_split (L := pm_L a2 a5) (a2 z).toInt (es k) (hT k hk)
  have had : pm_ad (a2 z).toInt (pm_L a2 a5) none (es k) = A.getLast? := by rw [he, pm_ad_pass A none hA, pm_ad_stop hB, Option.or_none]
  have hTk : (A ++ B).Pairwise (fun e f => pm_L a2 a5 e < pm_L a2 a5 f) := by rw [← he]; exact hT k hk
  have hnx := pm_next hZ hz
  have h3z : a3 z = -1 ∨ ∃ f, f < n ∧ a3 z = nI f := by
    rcases hnx with ⟨g, _⟩ | ⟨f, g1, g2, _⟩
    · exact Or.inl g
    · exact Or.inr ⟨f, g1, g2⟩
  have inA : ∀ e, e ∈ A → e ∈ es k := fun e h => by rw [he]; exact List.mem_append_left _ h
  have inB : ∀ e, e ∈ B → e ∈ es k := fun e h => by rw [he]; exact List.mem_append_right _ h
  have hlast : ∀ e, A.getLast? = some e → e ∈ A := fun e h => List.mem_of_getLast? h
  have K52 : (∀ e, e ∈ A → pm_L a2 a5 e < (a2 z).toInt) → wX_write_52 post (nI z) (nI k) th val (a3 z) (pm_oI A.getLast?) (nI n) (nI m) t x a1 a2 a3 a4 a5 a6 a7 a8 := by
    intro hA'
    refine pm_w52 (fun e h => ?_) (fun w hw => ?_)
    · have := (hS.2.1 k hk e (inA e (hlast e h))).1
      omega
    · refine pm_w91 hS hm h2 hk hz he h3z (fun hc b4 b8 hS' => ?_) (fun f hf ef hnot b4 b8 hS' => ?_)
      · refine H (m + 1) _ _ _ _ _ (by omega) (pm_W (M := []) h1 h2 h4 hZ hS hT hC hO hz hk he hA' hB (by omega) (fun e h => ?_) hS' pk_us pk_us pk_us ?_ (fun e h => absurd h (List.not_mem_nil)) (fun v hv g => ?_) (fun f hf g => ?_))
        · rw [pk_un (by omega), pk_un (by omega), pk_un (by omega)]
          exact ⟨rfl, rfl, rfl⟩
        · have hLm : pm_L a2 (upd a5 m (nI z)) m = (a2 z).toInt := by rw [pm_L, pk_us, cz]
          have hLL : ∀ e, e ∈ es k → pm_L a2 (upd a5 m (nI z)) e = pm_L a2 a5 e := fun e h => by
            have := (hS.2.1 k hk e h).1
            rw [pm_L, pm_L, pk_un (by omega)]
          refine pm_pw_ins ?_ (fun a ha => ?_) (fun b hb => ?_)
          · refine List.Pairwise.imp_of_mem (fun {e f} q1 q2 q3 => ?_) hTk
            rw [hLL e (by rw [he]; exact q1), hLL f (by rw [he]; exact q2)]
            exact q3
          · rw [hLm, hLL a (inA a ha)]; exact hA' a ha
          · rw [hLm, hLL b (inB b hb)]; exact hB b hb
        · rcases hc with q | ⟨b, B', f, eB, q1, q2⟩
          · rcases hnx with ⟨_, g2⟩ | ⟨f, g1, g2, _⟩
            · have := g2 v hv
              omega
            · rw [q] at g2
              exact absurd g2.symm (pm_m1 (by omega))
          · subst eB
            rcases hnx with ⟨g1, _⟩ | ⟨f', g1, g2, g3, g4⟩
            · rw [q2] at g1
              obtain ⟨_, y, y2, y3⟩ := hS.2.1 k hk b (inB b (List.mem_cons_self ..))
              rw [← q1, y3] at g1
              exact absurd g1 (pm_m1 (by omega))
            · have hbm : b < m := (hS.2.1 k hk b (inB b (List.mem_cons_self ..))).1
              have hLb : pm_L a2 (upd a5 m (nI z)) b = (a2 f').toInt := by
                rw [pm_L, pk_un (by omega), q1, ← q2, g2, nI_clamp (by omega)]
              have := g4 v hv g
              show pm_val _ _ (pm_ad _ _ _ (b :: B')) = _
              rw [pm_ad_cons (by omega), pm_ad_cons (by omega)]
        · rcases hc with q | ⟨b, B', f', eB, q1, q2⟩
          · rw [q] at g
            exact absurd g.symm (pm_m1 (by omega))
          · subst eB
            have hbm : b < m := (hS.2.1 k hk b (inB b (List.mem_cons_self ..))).1
            exact ⟨b, List.mem_cons_self .., by rw [pk_un (by omega), q1, ← q2, g]⟩
      · have cf := nI_clamp (show f < 2 ^ 31 by omega)
        rcases hnx with ⟨g1, _⟩ | ⟨f', g1, g2, g3, g4⟩
        · rw [ef] at g1
          exact absurd g1 (pm_m1 (by omega))
        · have eff : f' = f := by
            rw [ef] at g2
            exact ((nI_eq (by omega) (by omega)).mp g2).symm
          subst eff
          have hput : pm_put (pm_put es k (A ++ m :: B)) k ((A ++ [m]) ++ (m + 1) :: B) = pm_put es k (A ++ m :: ([m + 1] ++ B)) := by
            funext j
            by_cases g : j = k
            · subst g
              rw [pm_put_s, pm_put_s, List.append_assoc]; rfl
            · rw [pm_put_n g, pm_put_n g, pm_put_n g]
          rw [hput] at hS'
          have hL1 : pm_L a2 (upd (upd a5 m (nI z)) (m + 1) (nI f')) (m + 1) = (a2 f').toInt := by rw [pm_L, pk_us, cf]
          have h5m : (upd (upd a5 m (nI z)) (m + 1) (nI f')) m = nI z := by rw [pk_un (by omega), pk_us]
          have hLm : pm_L a2 (upd (upd a5 m (nI z)) (m + 1) (nI f')) m = (a2 z).toInt := by rw [pm_L, h5m, cz]
          have hLL : ∀ e, e ∈ es k → pm_L a2 (upd (upd a5 m (nI z)) (m + 1) (nI f')) e = pm_L a2 a5 e := fun e h => by
            have := (hS.2.1 k hk e h).1
            rw [pm_L, pm_L, pk_un (by omega), pk_un (by omega)]
          have hBf : ∀ e, e ∈ B → (a2 f').toInt < pm_L a2 a5 e := by
            have hTB := (List.pairwise_append.mp hTk).2.1
            cases B with
            | nil => exact fun e h => absurd h (List.not_mem_nil)
            | cons b B' =>
              obtain ⟨bm, y, y1, y2, y3⟩ := pm_Lof (a2 := a2) hS h2 hk (inB b (List.mem_cons_self ..))
              have b1 := hB b (List.mem_cons_self ..)
              have b2 := g4 y y1 (by omega)
              have b3 : (a2 f').toInt ≠ (a2 y).toInt := fun g => by
                have := pm_inj (f := fun x => (a2 x).toInt) vs hZ.2.2.2.1 ((hZ.1 f').mpr hf) ((hZ.1 y).mpr y1) g
                exact hnot b B' rfl (by rw [y2, this])
              intro e h
              rcases List.mem_cons.mp h with h | h
              · rw [h]; omega
              · have := (List.pairwise_cons.mp hTB).1 e h
                omega
          refine H (m + 1 + 1) _ _ _ _ _ (by omega) (pm_W (M := [m + 1]) h1 h2 h4 hZ hS hT hC hO hz hk he hA' hB (by omega) (fun e h => ?_) hS' h5m (by rw [pk_un (by omega), pk_us]) (by rw [pk_un (by omega), pk_us]) ?_ (fun e h => ?_) (fun v hv g => ?_) (fun f'' hf'' g => ?_))
          · rw [pk_un (by omega), pk_un (by omega), pk_un (by omega), pk_un (by omega), pk_un (by omega), pk_un (by omega)]
            exact ⟨rfl, rfl, rfl⟩
          · refine pm_pw_ins (B := [m + 1] ++ B) (pm_pw_ins (B := B) ?_ (fun a ha => ?_) (fun b hb => ?_)) (fun a ha => ?_) (fun b hb => ?_)
            · refine List.Pairwise.imp_of_mem (fun {e f} q1 q2 q3 => ?_) hTk
              rw [hLL e (by rw [he]; exact q1), hLL f (by rw [he]; exact q2)]
              exact q3
            · rw [hL1, hLL a (inA a ha)]
              have := hA' a ha
              omega
            · rw [hL1, hLL b (inB b hb)]; exact hBf b hb
            · rw [hLm, hLL a (inA a ha)]; exact hA' a ha
            · rw [hLm]
              rcases List.mem_cons.mp hb with h | h
              · rw [h, hL1]; exact g3
              · rw [hLL b (inB b h)]; exact hB b h
          · rw [List.mem_singleton.mp h, hL1]; exact g3
          · have := g4 v hv g
            show pm_val _ _ (pm_ad _ _ _ ((m + 1) :: B)) = _
            rw [pm_ad_cons (by omega)]
            refine pm_ad_val ?_ B
            have e1 : pm_val (upd (upd a6 m val) (m + 1) w.2) (upd (upd a7 m (vp_nar .boolean th)) (m + 1) (vp_nar .boolean w.1)) (some (m + 1)) = pm_w (vp_nar .boolean w.1) w.2 := by
              rw [pm_val, pk_us, pk_us, pm_w]
            rw [e1, pm_val_idem hw, hw]
            rcases pm_last A with ⟨_, eL⟩ | ⟨A', q, eA, eL⟩
            · rw [eL]; rfl
            · rw [eL]
              have hq : q < m := (hS.2.1 k hk q (inA q (hlast q eL))).1
              exact pm_val_eq (by rw [pk_un (by omega), pk_un (by omega)]) (by rw [pk_un (by omega), pk_un (by omega)])
          · refine ⟨m + 1, List.mem_append_left _ (List.mem_singleton.mpr rfl), ?_⟩
            rw [pk_us, ← g, ef]
  unfold wpX_write
  refine ⟨iz, nm_r (e' := a3 z) (by rw [cz]) (pm_adv0 (l := es k) (by omega) hk (hS.1 k hk) (fun e he => ?_) ?_)⟩
  · obtain ⟨q1, y, q2, q3⟩ := hS.2.1 k hk e he
    exact ⟨by omega, y, by omega, q3⟩
  · rw [had]
    rcases pm_last A with ⟨eA, eL⟩ | ⟨A', q, eA, eL⟩
    · exact br_t (by rw [eL]; rfl) (K52 (fun e h => by rw [eA] at h; exact absurd h (List.not_mem_nil)))
    · have hqk := inA q (hlast q eL)
      obtain ⟨qm, y, y1, y2, y3⟩ := pm_Lof (a2 := a2) hS h2 hk hqk
      have cq := nI_clamp (show q < 2 ^ 31 by omega)
      have iq : vp_in (pm_oI A.getLast?) 640 := by rw [eL]; exact vp_in_nI (by omega) (by decide)
      have cq' : (pm_oI A.getLast?).toNatClampNeg = q := by rw [eL]; exact cq
      refine br_f (by rw [eL]; exact pm_m1 (by omega)) ⟨iq, br_c (fun g => ⟨iq, nm_r (e' := upd a7 q (vp_nar .boolean th)) (by rw [cq']) ⟨iq, nm_r (e' := upd a6 q val) (by rw [cq']) ?_⟩⟩) (fun g => K52 (fun e h => ?_))⟩
      · rw [cq'] at g
        rw [eA] at he hA
        exact H m _ _ _ _ _ (by omega) (pm_W1 h1 h2 h3 h4 hZ hS hT hC hO hz hk he hA hB g)
      · rw [cq'] at g
        have hqz : pm_L a2 a5 q < (a2 z).toInt := by
          have q1 := hA q (hlast q eL)
          have q2 : (a2 y).toInt ≠ (a2 z).toInt := fun w => g (by rw [y2, pm_inj (f := fun x => (a2 x).toInt) vs hZ.2.2.2.1 ((hZ.1 y).mpr y1) ((hZ.1 z).mpr hz) w])
          omega
        rw [eA] at h
        rcases List.mem_append.mp h with h | h
        · have hTA := (List.pairwise_append.mp hTk).1
          rw [eA] at hTA
          have := (List.pairwise_append.mp hTA).2.2 e h q (List.mem_singleton.mpr rfl)
          omega
        · rw [List.mem_singleton.mp h]; exact hqz
end
end
section
/-! part 06: put, remove, fill, graft, exchange -/
theorem pm_isPlan {post : Int32 → Prop} {a s : Nat} (ha : a < 32) (hs1 : 1 ≤ s) (hs8 : s ≤ 8) (h1 : a + s ≤ 32 → post 1) (h0 : 32 < a + s → post 0) : wpX_isPlan post () (nI (16 * a + s)) := by
  have e1 : nI (16 * a + s) &&& 15 = nI s := by
    rw [pk_andN (by omega) 4 (by decide)]
    exact congrArg nI (by omega)
  have e2 : nI (16 * a + s) >>> ((4 : Int32) &&& 31) = nI a := by
    rw [pk_shrN (by omega) _ 4 (by decide)]
    exact congrArg nI (by omega)
  unfold wpX_isPlan
  refine nm_r e1 (br_f (nI_pos (by omega)) (br_f (nI_nlt (b := 1) hs1 (by omega)) (br_f (nI_nlt (a := 8) hs8 (by omega)) (br_f (nI_nlt (a := 511) (by omega) (by omega)) ?_))))
  exact pk_lt 32 (a + s) h0 h1 rfl (by rw [e2, nI_add])
section
variable {n m z : Nat} {p : Nat → Nat} {C : Nat → Nat → Int32 × Int32} {t x : Int32} {a1 : Nat → Int32} {a2 : Nat → Int64} {a3 a4 a5 a6 a7 a8 : Nat → Int32}
theorem pm_rest (I : pm_I n m p C z a1 a2 a3 a4 a5 a6 a7 a8) : pm_I n m p C n a1 a2 a3 a4 a5 a6 a7 a8 := by
  obtain ⟨h1, h2, h3, h4, vs, es, hZ, hS, hT, hC, hO⟩ := I
  refine ⟨h1, h2, h3, h4, vs, es, hZ, hS, hT, hC, fun k hk e he en => ?_⟩
  obtain ⟨q1, y, q2, q3⟩ := hS.2.1 k hk e he
  rw [q3] at en
  have := (nI_eq (by omega) (by omega)).mp en
  omega
theorem pm_opPut {post : Int32 → St1 → Prop} {v k : Nat} {val : Int32} (I : pm_I n m p C z a1 a2 a3 a4 a5 a6 a7 a8) (hm : m ≤ 16 * (n - 1)) (hv : v < n) (hk : k < 32)
    (H0 : n = 40 → post (-3) (nI n, nI m, t, x, a1, a2, a3, a4, a5, a6, a7, a8))
    (H1 : n < 40 → ∀ m' p' C' b1 b2 b3 b4 b5 b6 b7 b8, m' ≤ 16 * n → (∀ w j, w < n → C' w j = C w j) → C' n k = (1, val) → (∀ j, j ≠ k → C' n j = C v j) → p' n = v → pm_I (n + 1) m' p' C' (n + 1) b1 b2 b3 b4 b5 b6 b7 b8 → post (nI n) (nI (n + 1), nI m', t, x, b1, b2, b3, b4, b5, b6, b7, b8)) :
    wpX_put post (nI n, nI m, t, x, a1, a2, a3, a4, a5, a6, a7, a8) (nI v) (nI k) val := by
  have h1 := I.1
  have h2 := I.2.1
  unfold wpX_put
  refine pm_isV hv h2 (br_f (by decide) (pm_isK hk (br_f (by decide) (pk_eq n 40 H0 (fun g => pm_open I (by omega) hv (fun b1 b2 b3 I' => pm_write I' (by omega) hk (by omega) (fun m' b4 b5 b6 b7 b8 hm' I'' => ?_)))))))
  refine H1 (by omega) m' _ _ b1 b2 b3 b4 b5 b6 b7 b8 (by omega) (fun w j hw => ?_) ?_ (fun j hj => ?_) ?_ (pm_rest I'')
  · rw [pm_U_v (by omega)]
    exact if_neg (by omega)
  · rw [pm_U_s]
    exact if_neg (by decide)
  · rw [pm_U_k hj]
    exact if_pos rfl
  · exact if_pos rfl
theorem pm_remove {post : Int32 → St1 → Prop} {v k : Nat} (I : pm_I n m p C z a1 a2 a3 a4 a5 a6 a7 a8) (hm : m ≤ 16 * (n - 1)) (hv : v < n) (hk : k < 32)
    (H : ∀ r n' m' p' C' t' x' b1 b2 b3 b4 b5 b6 b7 b8, n ≤ n' → m' ≤ 16 * (n' - 1) → (∀ w j, w < n → C' w j = C w j) → pm_I n' m' p' C' n' b1 b2 b3 b4 b5 b6 b7 b8 → post r (nI n', nI m', t', x', b1, b2, b3, b4, b5, b6, b7, b8)) :
    wpX_remove post (nI n, nI m, t, x, a1, a2, a3, a4, a5, a6, a7, a8) (nI v) (nI k) := by
  have h1 := I.1
  have h2 := I.2.1
  unfold wpX_remove
  refine pm_isV hv h2 (br_f (by decide) (pm_isK hk (br_f (by decide) (pk_eq n 40 (fun _ => H _ n m p C _ _ _ _ _ _ _ _ _ _ (by omega) hm (fun _ _ _ => rfl) (pm_rest I)) (fun g => pm_open I (by omega) hv (fun b1 b2 b3 I' => pm_write I' (by omega) hk (by omega) (fun m' b4 b5 b6 b7 b8 hm' I'' => ?_)))))))
  refine H _ (n + 1) m' _ _ _ _ b1 b2 b3 b4 b5 b6 b7 b8 (by omega) (by omega) (fun w j hw => ?_) (pm_rest I'')
  rw [pm_U_v (by omega)]
  exact if_neg (by omega)
theorem pm_exchange {post : Int32 → St1 → Prop} {v k l : Nat} (I : pm_I n m p C z a1 a2 a3 a4 a5 a6 a7 a8) (hm : m ≤ 16 * (n - 1)) (hv : v < n) (hk : k < 32) (hl : l < 32)
    (H : ∀ r n' m' p' C' t' x' b1 b2 b3 b4 b5 b6 b7 b8, n ≤ n' → m' ≤ 16 * (n' - 1) → (∀ w j, w < n → C' w j = C w j) → pm_I n' m' p' C' n' b1 b2 b3 b4 b5 b6 b7 b8 → post r (nI n', nI m', t', x', b1, b2, b3, b4, b5, b6, b7, b8)) :
    wpX_exchange post (nI n, nI m, t, x, a1, a2, a3, a4, a5, a6, a7, a8) (nI v) (nI k) (nI l) := by
  have h1 := I.1
  have h2 := I.2.1
  unfold wpX_exchange
  refine pm_isV hv h2 (br_f (by decide) (pm_isK hk (br_f (by decide) (pm_isK hl (br_f (by decide) (pk_eq n 40 (fun _ => H _ n m p C _ _ _ _ _ _ _ _ _ _ (by omega) hm (fun _ _ _ => rfl) (pm_rest I)) (fun g => pm_open I (by omega) hv (fun b1 b2 b3 I' => ?_))))))))
  refine pm_look I' (v := v) (by omega) hk ?_
  refine pm_look I' (v := v) (by omega) hl ?_
  refine pm_write I' (by omega) hk (by omega) (fun m' b4 b5 b6 b7 b8 hm' I2 => ?_)
  refine pm_write I2 (by omega) hl (by omega) (fun m2 d4 d5 d6 d7 d8 hm2 I3 => ?_)
  refine H _ (n + 1) m2 _ _ _ _ b1 b2 b3 d4 d5 d6 d7 d8 (by omega) (by omega) (fun w j hw => ?_) (pm_rest I3)
  rw [pm_U_v (by omega), pm_U_v (by omega)]
  exact if_neg (by omega)
theorem pm_fill47 {post : Int32 → St1 → Prop} {a s M : Nat} {x2 x3 x4 : Int32} {q : Nat → Nat} {b1 : Nat → Int32} {b2 : Nat → Int64} {b3 : Nat → Int32} (hx : x2 &&& 15 = nI s) (ha : a + s ≤ 32) (hM : M ≤ 640)
    (H : ∀ m' C' b4 b5 b6 b7 b8, m' ≤ M → (∀ w j, w < n → C' w j = C w j) → pm_I (n + 1) m' q C' n b1 b2 b3 b4 b5 b6 b7 b8 → post (nI n) (nI (n + 1), nI m', t, x, b1, b2, b3, b4, b5, b6, b7, b8)) :
    ∀ (d i m : Nat) (C' : Nat → Nat → Int32 × Int32) (b4 b5 b6 b7 b8 : Nat → Int32), i + d = s → m + 2 * d ≤ M → (∀ w j, w < n → C' w j = C w j) → pm_I (n + 1) m q C' n b1 b2 b3 b4 b5 b6 b7 b8 → wX_fill_47 post x2 x3 x4 (nI n) (nI a) (d + 1) (nI i) (nI (n + 1)) (nI m) t x b1 b2 b3 b4 b5 b6 b7 b8
  | 0, i, m, C', b4, b5, b6, b7, b8, hi, hm, hC, I => pk_le s i (fun _ => H m C' b4 b5 b6 b7 b8 (by omega) hC I) (fun g => absurd g (by omega)) hx
  | d + 1, i, m, C', b4, b5, b6, b7, b8, hi, hm, hC, I => by
      refine pk_le s i (fun g => absurd g (by omega)) (fun g => ?_) hx
      rw [nI_add]
      refine pm_write I (by omega) (by omega) (by omega) (fun m' d4 d5 d6 d7 d8 hm' I' => ?_)
      refine nm_r (nI_1 i) (pm_fill47 hx ha hM H d (i + 1) m' _ d4 d5 d6 d7 d8 (by omega) (by omega) (fun w j hw => ?_) I')
      rw [pm_U_v (by omega)]
      exact hC w j hw
theorem pm_fill {post : Int32 → St1 → Prop} {v a s : Nat} {val step : Int32} (I : pm_I n m p C z a1 a2 a3 a4 a5 a6 a7 a8) (hm : m ≤ 16 * (n - 1)) (hv : v < n) (ha : a < 32) (hs1 : 1 ≤ s) (hs8 : s ≤ 8)
    (H : ∀ r n' m' p' C' t' x' b1 b2 b3 b4 b5 b6 b7 b8, n ≤ n' → m' ≤ 16 * (n' - 1) → (∀ w j, w < n → C' w j = C w j) → pm_I n' m' p' C' n' b1 b2 b3 b4 b5 b6 b7 b8 → post r (nI n', nI m', t', x', b1, b2, b3, b4, b5, b6, b7, b8)) :
    wpX_fill post (nI n, nI m, t, x, a1, a2, a3, a4, a5, a6, a7, a8) (nI v) (nI (16 * a + s)) val step := by
  have h1 := I.1
  have h2 := I.2.1
  have e1 : nI (16 * a + s) &&& 15 = nI s := by
    rw [pk_andN (by omega) 4 (by decide)]
    exact congrArg nI (by omega)
  have e2 : nI (16 * a + s) >>> ((4 : Int32) &&& 31) = nI a := by
    rw [pk_shrN (by omega) _ 4 (by decide)]
    exact congrArg nI (by omega)
  unfold wpX_fill
  refine pm_isV hv h2 (br_f (by decide) (pm_isPlan ha hs1 hs8 (fun hle => br_f (by decide) (pk_eq n 40 (fun _ => H _ n m p C _ _ _ _ _ _ _ _ _ _ (by omega) hm (fun _ _ _ => rfl) (pm_rest I)) (fun g => pm_open I (by omega) hv (fun b1 b2 b3 I' => ?_)))) (fun _ => br_t rfl (H _ n m p C _ _ _ _ _ _ _ _ _ _ (by omega) hm (fun _ _ _ => rfl) (pm_rest I)))))
  refine nm_r e2 ⟨s + 1, pm_fill47 (C := C) (M := 16 * n) e1 hle (by omega) (fun m' C' b4 b5 b6 b7 b8 hm' hC' I2 => ?_) s 0 m _ a4 a5 a6 a7 a8 (by omega) (by omega) (fun w j hw => ?_) I'⟩
  · exact H _ (n + 1) m' _ C' _ _ b1 b2 b3 b4 b5 b6 b7 b8 (by omega) (by omega) hC' (pm_rest I2)
  · exact if_neg (by omega)
theorem pm_graft55 {post : Int32 → St1 → Prop} {a s M w0 : Nat} {x3 : Int32} {q : Nat → Nat} {b1 : Nat → Int32} {b2 : Nat → Int64} {b3 : Nat → Int32} (hx : x3 &&& 15 = nI s) (ha : a + s ≤ 32) (hM : M ≤ 640) (hw0 : w0 < n)
    (H : ∀ m' C' t' x' b4 b5 b6 b7 b8, m' ≤ M → (∀ w j, w < n → C' w j = C w j) → pm_I (n + 1) m' q C' n b1 b2 b3 b4 b5 b6 b7 b8 → post (nI n) (nI (n + 1), nI m', t', x', b1, b2, b3, b4, b5, b6, b7, b8)) :
    ∀ (d i m : Nat) (C' : Nat → Nat → Int32 × Int32) (t x : Int32) (b4 b5 b6 b7 b8 : Nat → Int32), i + d = s → m + 2 * d ≤ M → (∀ w j, w < n → C' w j = C w j) → pm_I (n + 1) m q C' n b1 b2 b3 b4 b5 b6 b7 b8 → wX_graft_55 post (nI w0) x3 (nI n) (nI a) (d + 1) (nI i) (nI (n + 1)) (nI m) t x b1 b2 b3 b4 b5 b6 b7 b8
  | 0, i, m, C', t, x, b4, b5, b6, b7, b8, hi, hm, hC, I => pk_le s i (fun _ => H m C' t x b4 b5 b6 b7 b8 (by omega) hC I) (fun g => absurd g (by omega)) hx
  | d + 1, i, m, C', t, x, b4, b5, b6, b7, b8, hi, hm, hC, I => by
      refine pk_le s i (fun g => absurd g (by omega)) (fun g => ?_) hx
      rw [nI_add]
      refine pm_look I (v := w0) (by omega) (by omega) ?_
      refine pm_write I (by omega) (by omega) (by omega) (fun m' d4 d5 d6 d7 d8 hm' I' => ?_)
      refine nm_r (nI_1 i) (pm_graft55 hx ha hM hw0 H d (i + 1) m' _ _ _ d4 d5 d6 d7 d8 (by omega) (by omega) (fun w j hw => ?_) I')
      rw [pm_U_v (by omega)]
      exact hC w j hw
theorem pm_graft {post : Int32 → St1 → Prop} {v w0 a s : Nat} (I : pm_I n m p C z a1 a2 a3 a4 a5 a6 a7 a8) (hm : m ≤ 16 * (n - 1)) (hv : v < n) (hw0 : w0 < n) (ha : a < 32) (hs1 : 1 ≤ s) (hs8 : s ≤ 8)
    (H : ∀ r n' m' p' C' t' x' b1 b2 b3 b4 b5 b6 b7 b8, n ≤ n' → m' ≤ 16 * (n' - 1) → (∀ w j, w < n → C' w j = C w j) → pm_I n' m' p' C' n' b1 b2 b3 b4 b5 b6 b7 b8 → post r (nI n', nI m', t', x', b1, b2, b3, b4, b5, b6, b7, b8)) :
    wpX_graft post (nI n, nI m, t, x, a1, a2, a3, a4, a5, a6, a7, a8) (nI v) (nI w0) (nI (16 * a + s)) := by
  have h1 := I.1
  have h2 := I.2.1
  have e1 : nI (16 * a + s) &&& 15 = nI s := by
    rw [pk_andN (by omega) 4 (by decide)]
    exact congrArg nI (by omega)
  have e2 : nI (16 * a + s) >>> ((4 : Int32) &&& 31) = nI a := by
    rw [pk_shrN (by omega) _ 4 (by decide)]
    exact congrArg nI (by omega)
  unfold wpX_graft
  refine pm_isV hv h2 (br_f (by decide) (pm_isV hw0 h2 (br_f (by decide) (pm_isPlan ha hs1 hs8 (fun hle => br_f (by decide) (pk_eq n 40 (fun _ => H _ n m p C _ _ _ _ _ _ _ _ _ _ (by omega) hm (fun _ _ _ => rfl) (pm_rest I)) (fun g => pm_open I (by omega) hv (fun b1 b2 b3 I' => ?_)))) (fun _ => br_t rfl (H _ n m p C _ _ _ _ _ _ _ _ _ _ (by omega) hm (fun _ _ _ => rfl) (pm_rest I)))))))
  refine nm_r e2 ⟨s + 1, pm_graft55 (C := C) (M := 16 * n) e1 hle (by omega) hw0 (fun m' C' t' x' b4 b5 b6 b7 b8 hm' hC' I2 => ?_) s 0 m _ _ _ a4 a5 a6 a7 a8 (by omega) (by omega) (fun w j hw => ?_) I'⟩
  · exact H _ (n + 1) m' _ C' _ _ b1 b2 b3 b4 b5 b6 b7 b8 (by omega) (by omega) hC' (pm_rest I2)
  · exact if_neg (by omega)
end
end
section
/-! part 07: mark, isAncestor, ancestor, meet, size, holds, differ, differing, parent -/
def pm_hash (g : Nat → Int32 × Int32) : Nat → Int32
  | 0 => 0
  | k + 1 => ((31 * pm_hash g k) + (5 * (g k).1)) + (11 * (g k).2)
def pm_cnt (g : Nat → Int32 × Int32) : Nat → Int32
  | 0 => 0
  | k + 1 => pm_cnt g k + (g k).1
theorem pm_hash_eq {g g' : Nat → Int32 × Int32} (h : ∀ k, g k = g' k) : ∀ i, pm_hash g i = pm_hash g' i
  | 0 => rfl
  | i + 1 => by rw [pm_hash, pm_hash, pm_hash_eq h i, h i]
/-- the way up from w comes to v -/
def pm_an (p : Nat → Nat) (v : Nat) : Nat → Nat → Prop
  | 0, w => w = v
  | f + 1, w => w = v ∨ (v < w ∧ pm_an p v f (p w))
def pm_A (p : Nat → Nat) (v w : Nat) : Prop := ∃ f, pm_an p v f w
theorem pm_A_refl {p : Nat → Nat} (v : Nat) : pm_A p v v := ⟨0, rfl⟩
theorem pm_A_step {p : Nat → Nat} {v w : Nat} (h : v < w) (g : pm_A p v (p w)) : pm_A p v w := by
  obtain ⟨f, hf⟩ := g
  exact ⟨f + 1, Or.inr ⟨h, hf⟩⟩
theorem pm_A_back {p : Nat → Nat} {v w : Nat} (h : v < w) (g : pm_A p v w) : pm_A p v (p w) := by
  obtain ⟨f, hf⟩ := g
  cases f with
  | zero =>
    have : w = v := hf
    omega
  | succ f =>
    rcases hf with q | q
    · omega
    · exact ⟨f, q.2⟩
theorem pm_A_le {p : Nat → Nat} {v w : Nat} (h : w ≤ v) (g : pm_A p v w) : w = v := by
  obtain ⟨f, hf⟩ := g
  cases f with
  | zero => exact hf
  | succ f =>
    rcases hf with q | q
    · exact q
    · omega
theorem pm_A_zero {p : Nat → Nat} {n : Nat} (hp : ∀ x, 0 < x → x < n → p x < x) : ∀ (b w : Nat), w ≤ b → w < n → pm_A p 0 w
  | 0, w, hb, hw => by
      have : w = 0 := by omega
      rw [this]; exact pm_A_refl 0
  | b + 1, w, hb, hw => by
      by_cases g : w = 0
      · rw [g]; exact pm_A_refl 0
      · have := hp w (by omega) hw
        exact pm_A_step (by omega) (pm_A_zero hp b (p w) (by omega) (by omega))
theorem pm_A_up {p : Nat → Nat} {n x : Nat} (hp : ∀ x, 0 < x → x < n → p x < x) (hx : 0 < x) (hxn : x < n) : ∀ (f w : Nat), w < n → pm_an p x f w → pm_A p (p x) w
  | 0, w, hw, h => by
      have e : w = x := h
      rw [e]
      exact pm_A_step (hp x hx hxn) (pm_A_refl _)
  | f + 1, w, hw, h => by
      have h1 := hp x hx hxn
      rcases h with e | ⟨q1, q2⟩
      · rw [e]
        exact pm_A_step h1 (pm_A_refl _)
      · have h2 := hp w (by omega) hw
        exact pm_A_step (by omega) (pm_A_up hp hx hxn f (p w) (by omega) q2)
section
variable {n m z : Nat} {p : Nat → Nat} {C : Nat → Nat → Int32 × Int32} {t x : Int32} {a1 : Nat → Int32} {a2 : Nat → Int64} {a3 a4 a5 a6 a7 a8 : Nat → Int32}
theorem pm_mark4 {post : Int32 → St1 → Prop} {v : Nat} (I : pm_I n m p C z a1 a2 a3 a4 a5 a6 a7 a8) (hv : v < n) (H : ∀ t' x', post (pm_hash (C v) 32) (nI n, nI m, t', x', a1, a2, a3, a4, a5, a6, a7, a8)) :
    ∀ (d i : Nat) (t x : Int32), i + d = 32 → wL_mark_4 post (nI v) (d + 1) (pm_hash (C v) i) (nI i) (nI n) (nI m) t x a1 a2 a3 a4 a5 a6 a7 a8
  | 0, i, t, x, hi => by
      have e : i = 32 := by omega
      subst e
      exact pk_le 32 32 (fun _ => H t x) (fun g => absurd g (by omega))
  | d + 1, i, t, x, hi => by
      have hi' : i < 32 := by omega
      have K : ∀ t' x', wL_mark_38 post (wL_mark_4 post (nI v) (d + 1)) (nI v) (pm_hash (C v) i) (nI i) (C v i).1 (C v i).2 (nI n) (nI m) t' x' a1 a2 a3 a4 a5 a6 a7 a8 := fun t' x' =>
        nm_r (e' := pm_hash (C v) (i + 1)) rfl (nm_r (nI_1 i) (pm_mark4 I hv H d (i + 1) t' x' (by omega)))
      refine pk_le 32 i (fun g => absurd g (by omega)) (fun _ => pm_has I hv hi' (fun t1 x1 => pm_get I hv hi' (fun t2 x2 => ?_)))
      rcases pm_nrm I hv hi' with e | ⟨y, e⟩
      · exact br_t (by rw [e]) (br_t (by rw [e]) (K t2 x2))
      · exact br_f (by rw [e]; exact (show ¬ (1 : Int32) = 0 by decide)) (K t2 x2)
theorem pm_mark {post : Int32 → St1 → Prop} {v : Nat} (I : pm_I n m p C z a1 a2 a3 a4 a5 a6 a7 a8) (hv : v < n) (H : ∀ t' x', post (pm_hash (C v) 32) (nI n, nI m, t', x', a1, a2, a3, a4, a5, a6, a7, a8)) :
    wpL_mark post (nI n, nI m, t, x, a1, a2, a3, a4, a5, a6, a7, a8) (nI v) :=
  ⟨32 + 1, pm_mark4 I hv H 32 0 t x rfl⟩
theorem pm_isA5 {post : Int32 → Prop} {v w : Nat} {en : Int32} (I : pm_I n m p C z a1 a2 a3 a4 a5 a6 a7 a8) (hv : v < n) (h1 : pm_A p v w → post 1) (h0 : ¬ pm_A p v w → post 0) :
    ∀ (d i y : Nat), i + d = 40 → y + i ≤ 39 → y < n → (pm_A p v y ↔ pm_A p v w) → wX_isAncestor_5 post (nI v) (nI n) en t x a1 a2 a3 a4 a5 a6 a7 a8 (d + 1) (nI y) (nI i)
  | 0, i, y, hi, hy, hyn, hA => absurd hy (by omega)
  | d + 1, i, y, hi, hy, hyn, hA => by
      have hn := I.2.1
      refine pk_le 40 i (fun g => absurd g (by omega)) (fun _ => pk_le y v (fun g => ?_) (fun g => ?_))
      · refine pk_eq y v (fun e => h1 (hA.mp ?_)) (fun e => h0 (fun q => e (pm_A_le g (hA.mpr q))))
        rw [e]; exact pm_A_refl v
      · obtain ⟨q1, q2⟩ := I.2.2.2.1 y (by omega) hyn
        refine ⟨pk_in y 40 (by omega), nm_r (e' := nI (p y)) (by rw [nI_clamp (by omega)]; exact q2) (nm_r (nI_1 i) (pm_isA5 I hv h1 h0 d (i + 1) (p y) (by omega) (by omega) (by omega) ?_))⟩
        exact ⟨fun q => hA.mp (pm_A_step g q), fun q => pm_A_back g (hA.mpr q)⟩
theorem pm_isA {post : Int32 → Prop} {v w : Nat} {en : Int32} (I : pm_I n m p C z a1 a2 a3 a4 a5 a6 a7 a8) (hv : v < n) (hw : w < n) (h1 : pm_A p v w → post 1) (h0 : ¬ pm_A p v w → post 0) :
    wpX_isAncestor post (nI n, en, t, x, a1, a2, a3, a4, a5, a6, a7, a8) (nI v) (nI w) :=
  ⟨40 + 1, pm_isA5 I hv h1 h0 40 0 w rfl (by have := I.2.1; omega) hw Iff.rfl⟩
theorem pm_ancestor {post : Int32 → Prop} {v w : Nat} {en : Int32} (I : pm_I n m p C z a1 a2 a3 a4 a5 a6 a7 a8) (hv : v < n) (hw : w < n) (hA : pm_A p v w) (hp : post 1) :
    wpX_ancestor post (nI n, en, t, x, a1, a2, a3, a4, a5, a6, a7, a8) (nI v) (nI w) := by
  unfold wpX_ancestor
  exact pm_isV hv I.2.1 (br_f (by decide) (pm_isV hw I.2.1 (br_f (by decide) (pm_isA I hv hw (fun _ => br_f (by decide) hp) (fun q => absurd hA q)))))
theorem pm_meet23 {post : Int32 → Prop} {v w : Nat} {en : Int32} (I : pm_I n m p C z a1 a2 a3 a4 a5 a6 a7 a8) (hv : v < n) (hw : w < n) (H : ∀ y, y < n → pm_A p y v → pm_A p y w → post (nI y)) :
    ∀ (d i y : Nat), i + d = 40 → y + i ≤ 39 → y < n → pm_A p y v → wX_meet_23 post (nI w) (nI n) en t x a1 a2 a3 a4 a5 a6 a7 a8 (d + 1) (nI y) (nI i)
  | 0, i, y, hi, hy, hyn, hA => absurd hy (by omega)
  | d + 1, i, y, hi, hy, hyn, hA => by
      have hn := I.2.1
      have hpp : ∀ x, 0 < x → x < n → p x < x := fun x q1 q2 => (I.2.2.2.1 x q1 q2).1
      refine pk_le 40 i (fun g => absurd g (by omega)) (fun _ => pm_isA I hyn hw (fun q => br_f (by decide) (H y hyn hA q)) (fun q => ?_))
      have y0 : 0 < y := by
        rcases Nat.eq_zero_or_pos y with e | e
        · exact absurd (by rw [e]; exact pm_A_zero hpp w w (Nat.le_refl w) hw) q
        · exact e
      obtain ⟨q1, q2⟩ := I.2.2.2.1 y y0 hyn
      obtain ⟨f, hf⟩ := hA
      exact br_t rfl ⟨pk_in y 40 (by omega), nm_r (e' := nI (p y)) (by rw [nI_clamp (by omega)]; exact q2) (nm_r (nI_1 i) (pm_meet23 I hv hw H d (i + 1) (p y) (by omega) (by omega) (by omega) (pm_A_up hpp y0 hyn f v hv hf)))⟩
theorem pm_meet {post : Int32 → Prop} {v w : Nat} {en : Int32} (I : pm_I n m p C z a1 a2 a3 a4 a5 a6 a7 a8) (hv : v < n) (hw : w < n) (H : ∀ y, y < n → pm_A p y v → pm_A p y w → post (nI y)) :
    wpX_meet post (nI n, en, t, x, a1, a2, a3, a4, a5, a6, a7, a8) (nI v) (nI w) := by
  unfold wpX_meet
  exact pm_isV hv I.2.1 (br_f (by decide) (pm_isV hw I.2.1 (br_f (by decide) ⟨40 + 1, pm_meet23 I hv hw H 40 0 v rfl (by have := I.2.1; omega) hv (pm_A_refl v)⟩)))
theorem pm_size14 {post : Int32 → St1 → Prop} {v : Nat} (I : pm_I n m p C z a1 a2 a3 a4 a5 a6 a7 a8) (hv : v < n) (H : ∀ t' x', post (pm_cnt (C v) 32) (nI n, nI m, t', x', a1, a2, a3, a4, a5, a6, a7, a8)) :
    ∀ (d i : Nat) (t x : Int32), i + d = 32 → wX_size_14 post (nI v) (d + 1) (pm_cnt (C v) i) (nI i) (nI n) (nI m) t x a1 a2 a3 a4 a5 a6 a7 a8
  | 0, i, t, x, hi => by
      have e : i = 32 := by omega
      subst e
      exact pk_le 32 32 (fun _ => H t x) (fun g => absurd g (by omega))
  | d + 1, i, t, x, hi => by
      have hi' : i < 32 := by omega
      refine pk_le 32 i (fun g => absurd g (by omega)) (fun _ => pm_look I hv hi' ?_)
      rcases pm_nrm I hv hi' with e | ⟨y, e⟩
      · exact br_t (by rw [e]) (nm_r (e' := pm_cnt (C v) (i + 1)) (by rw [pm_cnt, e]) (nm_r (nI_1 i) (pm_size14 I hv H d (i + 1) _ _ (by omega))))
      · exact br_f (by rw [e]; exact (show ¬ (1 : Int32) = 0 by decide)) (nm_r (e' := pm_cnt (C v) (i + 1)) (by rw [pm_cnt, e]) (nm_r (nI_1 i) (pm_size14 I hv H d (i + 1) _ _ (by omega))))
theorem pm_size {post : Int32 → St1 → Prop} {v : Nat} (I : pm_I n m p C z a1 a2 a3 a4 a5 a6 a7 a8) (hv : v < n) (H : ∀ t' x', post (pm_cnt (C v) 32) (nI n, nI m, t', x', a1, a2, a3, a4, a5, a6, a7, a8)) :
    wpX_size post (nI n, nI m, t, x, a1, a2, a3, a4, a5, a6, a7, a8) (nI v) := by
  unfold wpX_size
  exact pm_isV hv I.2.1 (br_f (by decide) ⟨32 + 1, pm_size14 I hv H 32 0 t x rfl⟩)
theorem pm_holds39 {post : Int32 → St1 → Prop} {v : Nat} (I : pm_I n m p C z a1 a2 a3 a4 a5 a6 a7 a8) (hv : v < n) (H : ∀ t' x', post 1 (nI n, nI m, t', x', a1, a2, a3, a4, a5, a6, a7, a8)) :
    ∀ (d i : Nat) (t x : Int32), i + d = 32 → wL_holds_39 post (nI v) (d + 1) (pm_cnt (C v) i) (nI i) (nI n) (nI m) t x a1 a2 a3 a4 a5 a6 a7 a8
  | 0, i, t, x, hi => by
      have e : i = 32 := by omega
      subst e
      exact pk_le 32 32 (fun _ => pm_size I hv (fun t' x' => br_t rfl (H t' x'))) (fun g => absurd g (by omega))
  | d + 1, i, t, x, hi => by
      have hi' : i < 32 := by omega
      exact pk_le 32 i (fun g => absurd g (by omega)) (fun _ => pm_has I hv hi' (fun t1 x1 => nm_r (e' := pm_cnt (C v) (i + 1)) rfl (nm_r (nI_1 i) (pm_holds39 I hv H d (i + 1) t1 x1 (by omega)))))
theorem pm_holds {post : Int32 → St1 → Prop} {v w : Nat} (I : pm_I n m p C z a1 a2 a3 a4 a5 a6 a7 a8) (hv : v < n) (hw : w < n) (H : ∀ t' x', post 1 (nI n, nI m, t', x', a1, a2, a3, a4, a5, a6, a7, a8)) :
    wpL_holds post (nI n, nI m, t, x, a1, a2, a3, a4, a5, a6, a7, a8) (nI v) (nI w) := by
  have hn := I.2.1
  unfold wpL_holds
  exact pm_meet I hv hw (fun y hy h1 h2 => br_f (nI_pos (by omega)) (pm_ancestor I hy hv h1 (br_t rfl (pm_ancestor I hy hw h2 (br_t rfl ⟨32 + 1, pm_holds39 I hv H 32 0 t x rfl⟩)))))
theorem pm_differ {post : Int32 → St1 → Prop} {v w k : Nat} (I : pm_I n m p C z a1 a2 a3 a4 a5 a6 a7 a8) (hv : v < n) (hw : w < n) (hk : k < 32) (h0 : ∀ t' x', post 0 (nI n, nI m, t', x', a1, a2, a3, a4, a5, a6, a7, a8)) (h1 : C v k ≠ C w k → ∀ t' x', post 1 (nI n, nI m, t', x', a1, a2, a3, a4, a5, a6, a7, a8)) :
    wpX_differ post (nI n, nI m, t, x, a1, a2, a3, a4, a5, a6, a7, a8) (nI v) (nI w) (nI k) := by
  unfold wpX_differ
  refine pm_look I hv hk ?_
  refine pm_look I hw hk ?_
  exact br_c (fun e => br_c (fun e' => h0 _ _) (fun e' => h1 (fun q => e' (by rw [q])) _ _)) (fun e => h1 (fun q => e (by rw [q])) _ _)
theorem pm_diff23 {post : Int32 → St1 → Prop} {v w key : Nat} (I : pm_I n m p C z a1 a2 a3 a4 a5 a6 a7 a8) (hv : v < n) (hw : w < n) (he : ∀ j, j ≠ key → C w j = C v j) (H : ∀ s t' x', s ≤ 1 → post (nI s) (nI n, nI m, t', x', a1, a2, a3, a4, a5, a6, a7, a8)) :
    ∀ (d i s : Nat) (t x : Int32), i + d = 32 → s ≤ 1 → (i ≤ key → s = 0) → wX_differing_23 post (nI v) (nI w) (d + 1) (nI s) (nI i) (nI n) (nI m) t x a1 a2 a3 a4 a5 a6 a7 a8
  | 0, i, s, t, x, hi, hs, hk => by
      have e : i = 32 := by omega
      subst e
      exact pk_le 32 32 (fun _ => H s t x hs) (fun g => absurd g (by omega))
  | d + 1, i, s, t, x, hi, hs, hk => by
      have hi' : i < 32 := by omega
      refine pk_le 32 i (fun g => absurd g (by omega)) (fun _ => pm_differ I hv hw hi' (fun t' x' => ?_) (fun q t' x' => ?_))
      · exact br_t rfl (nm_r (nI_add s 0) (nm_r (nI_1 i) (pm_diff23 I hv hw he H d (i + 1) s t' x' (by omega) hs (fun g => hk (by omega)))))
      · have e : i = key := by
          by_cases g : i = key
          · exact g
          · exact absurd (he i g).symm q
        have s0 := hk (by omega)
        exact br_f (by decide) (nm_r (nI_1 s) (nm_r (nI_1 i) (pm_diff23 I hv hw he H d (i + 1) (s + 1) t' x' (by omega) (by omega) (fun g => absurd g (by omega)))))
theorem pm_differing {post : Int32 → St1 → Prop} {v w key : Nat} (I : pm_I n m p C z a1 a2 a3 a4 a5 a6 a7 a8) (hv : v < n) (hw : w < n) (he : ∀ j, j ≠ key → C w j = C v j) (H : ∀ s t' x', s ≤ 1 → post (nI s) (nI n, nI m, t', x', a1, a2, a3, a4, a5, a6, a7, a8)) :
    wpX_differing post (nI n, nI m, t, x, a1, a2, a3, a4, a5, a6, a7, a8) (nI v) (nI w) := by
  unfold wpX_differing
  exact pm_isV hv I.2.1 (br_f (by decide) (pm_isV hw I.2.1 (br_f (by decide) ⟨32 + 1, pm_diff23 I hv hw he H 32 0 0 t x rfl (by omega) (fun _ => rfl)⟩)))
theorem pm_parent {post : Int32 → Prop} {v : Nat} {en : Int32} (I : pm_I n m p C z a1 a2 a3 a4 a5 a6 a7 a8) (hv : v < n) (h0 : 0 < v) (hp : post (nI (p v))) :
    wpX_parent post (nI n, en, t, x, a1, a2, a3, a4, a5, a6, a7, a8) (nI v) := by
  have hn := I.2.1
  unfold wpX_parent
  refine pm_isV hv hn (br_f (by decide) (br_f (nI_ne0 h0 (by omega)) ⟨pk_in v 40 (by omega), ?_⟩))
  rw [nI_clamp (by omega), (I.2.2.2.1 v h0 hv).2]
  exact hp
end
end
section
/-! part 08: init, the law's loop, i_vc -/
section
variable {c en t x : Int32} {a1 : Nat → Int32} {a2 : Nat → Int64} {a3 a5 a6 a7 a8 : Nat → Int32}
theorem pm_init102 {post : St1 → Prop} {mc ms kc ks : Nat} (H : ∀ b4, (∀ j, j < 32 → b4 j = -1) → post (c, en, t, x, a1, a2, a3, b4, a5, a6, a7, a8)) :
    ∀ (d i : Nat) (b4 : Nat → Int32), i + d = 32 → (∀ j, j < i → b4 j = -1) → wX_init_102 post mc ms kc ks c en t x (d + 1) (nI i) a1 a2 a3 b4 a5 a6 a7 a8
  | 0, i, b4, hi, hb => pk_le 32 i (fun _ => H b4 (fun j hj => hb j (by omega))) (fun g => absurd g (by omega))
  | d + 1, i, b4, hi, hb => by
      refine pk_le 32 i (fun g => absurd g (by omega)) (fun g => ⟨pk_in i 32 g, nm_r (e' := upd b4 i (-1)) (by rw [nI_clamp (by omega)]) (nm_r (nI_1 i) (pm_init102 H d (i + 1) _ (by omega) (fun j hj => ?_)))⟩)
      by_cases q : j = i
      · rw [q, pk_us]
      · rw [pk_un q]; exact hb j (by omega)
end
theorem pm_I0 {b4 : Nat → Int32} (hb : ∀ j, j < 32 → b4 j = -1) : pm_I 1 0 (fun _ => 0) (fun _ _ => (0, 0)) 1 (upd (fun _ => 0) 0 (-1)) (vp_updL (fun _ => 0) 0 1152921504606846976) (upd (fun _ => 0) 0 (-1)) b4 (fun _ => 0) (fun _ => 0) (fun _ => 0) (fun _ => 0) := by
  refine ⟨by omega, by omega, by omega, fun y h1 h2 => absurd h2 (by omega), [0], fun _ => [], ⟨fun y => ?_, rfl, ⟨rfl, pk_us⟩, ?_, fun y hy => ?_⟩, ⟨fun k hk => hb k hk, fun k hk e he => absurd he (List.not_mem_nil), fun k hk => List.Pairwise.nil, fun j k hj hk hjk e he => absurd he (List.not_mem_nil)⟩, fun k hk => List.Pairwise.nil, fun v k hv hk => rfl, fun k hk e he => absurd he (List.not_mem_nil)⟩
  · rw [List.mem_singleton]; omega
  · exact List.pairwise_cons.mpr ⟨fun a ha => absurd ha (List.not_mem_nil), List.Pairwise.nil⟩
  · have e : y = 0 := by omega
    rw [e, pk_uLs]
    have : (1152921504606846976 : Int64).toInt = 1152921504606846976 := rfl
    omega
theorem pm_init {post : St1 → Prop} (H : ∀ a1 a2 a3 a4 a5 a6 a7 a8, pm_I 1 0 (fun _ => 0) (fun _ _ => (0, 0)) 1 a1 a2 a3 a4 a5 a6 a7 a8 → post (nI 1, nI 0, 0, 0, a1, a2, a3, a4, a5, a6, a7, a8)) : wpX_init post 8 2712 (0, 0, 0, 0) := by
  unfold wpX_init
  refine ⟨by omega, by omega, by omega, by omega, by omega, by omega, by omega, by omega, by omega, by omega, by omega, by omega, by omega, by omega, by omega, by omega, nm_e (nm_e (nm_e ⟨32 + 1, ?_⟩))⟩
  exact pm_init102 (fun b4 hb => H _ _ _ b4 _ _ _ _ (pm_I0 hb)) 32 0 _ rfl (fun j hj => absurd hj (by omega))
theorem pm_cell {post : Int32 → Prop} {L i : Nat} {xs : Nat → Int32} {q : Int32} (hL : L ≤ 260) (hi : i ≤ 300) (hq : q = nI i) (H : ∀ r, post r) : wpL_cell post L xs () q :=
  pk_le L i (fun _ => H _) (fun g => ⟨by rw [hq]; exact vp_in_nI g (by omega), H _⟩) rfl hq
section
variable {n m z : Nat} {p : Nat → Nat} {C : Nat → Nat → Int32 × Int32} {t x : Int32} {a1 : Nat → Int32} {a2 : Nat → Int64} {a3 a4 a5 a6 a7 a8 : Nat → Int32}
variable {post : Int32 → Prop} {L kc ks i v w : Nat} {xs : Nat → Int32} {J : Int32 → Int32 → Int32 → Int32 → Int32 → Int32 → Int32 → (Nat → Int32) → (Nat → Int64) → (Nat → Int32) → (Nat → Int32) → (Nat → Int32) → (Nat → Int32) → (Nat → Int32) → (Nat → Int32) → Prop}
theorem pm_law317 {x2 x3 : Int32} (I : pm_I n m p C z a1 a2 a3 a4 a5 a6 a7 a8) (hv : v < n) (hw : w < n) (hJ : ∀ t' x', J x2 x3 (nI (i + 2)) (nI n) (nI m) t' x' a1 a2 a3 a4 a5 a6 a7 a8) :
    wL_law_317 post L xs J x2 x3 (nI i) (nI v) (nI w) kc ks (nI n) (nI m) t x a1 a2 a3 a4 a5 a6 a7 a8 := by
  unfold wL_law_317
  exact pm_holds I hw hv (fun t' x' => br_f (by decide) (nm_r (nI_add i 2) (hJ t' x')))
theorem pm_law285 {w0 : Nat} {h0 cc : Int32} (I : pm_I n m p C z a1 a2 a3 a4 a5 a6 a7 a8) (hw0 : w0 < n) (hv : v < n) (hw : w < n) (hh : pm_hash (C w0) 32 = h0) (hJ : ∀ w1, w1 < n → ∀ t' x', J (nI w1) (pm_hash (C w1) 32) (nI (i + 2)) (nI n) (nI m) t' x' a1 a2 a3 a4 a5 a6 a7 a8) :
    wL_law_285 post L xs J (nI w0) h0 (nI i) cc (nI v) (nI w) kc ks (nI n) (nI m) t x a1 a2 a3 a4 a5 a6 a7 a8 := by
  unfold wL_law_285
  subst hh
  exact pm_mark I hw0 (fun t1 x1 => br_t rfl (br_c (fun _ => pm_mark I hv (fun t2 x2 => pm_law317 I hv hw (hJ v hv))) (fun _ => pm_law317 I hv hw (hJ w0 hw0))))
end
theorem pm_law19 {L : Nat} {xs : Nat → Int32} {kc ks : Nat} (hL : L ≤ 260) : ∀ (d i w0 n m : Nat) (p : Nat → Nat) (C : Nat → Nat → Int32 × Int32) (t x : Int32) (a1 : Nat → Int32) (a2 : Nat → Int64) (a3 a4 a5 a6 a7 a8 : Nat → Int32), L ≤ i + 2 * d → i ≤ L + 1 → w0 < n → m ≤ 16 * (n - 1) → pm_I n m p C n a1 a2 a3 a4 a5 a6 a7 a8 → wL_law_19 (fun r => r = 1) L xs kc ks (d + 1) (nI w0) (pm_hash (C w0) 32) (nI i) (nI n) (nI m) t x a1 a2 a3 a4 a5 a6 a7 a8
  | 0, i, w0, n, m, p, C, t, x, a1, a2, a3, a4, a5, a6, a7, a8, hd, hi, hw0, hm, I => pk_le L i (fun _ => pm_mark I hw0 (fun t' x' => br_t rfl rfl)) (fun g => absurd g (by omega))
  | d + 1, i, w0, n, m, p, C, t, x, a1, a2, a3, a4, a5, a6, a7, a8, hd, hi, hw0, hm, I => by
      have n1 := I.1
      have n40 := I.2.1
      refine pk_le L i (fun _ => pm_mark I hw0 (fun t' x' => br_t rfl rfl)) (fun hiL => ?_)
      refine pm_cell hL (by omega) rfl (fun cc => pm_cell hL (show i + 1 ≤ 300 by omega) (nI_1 i) (fun dd => ?_))
      obtain ⟨o, ho, eo⟩ := pk_andE cc (m := 15) 4 (by decide)
      obtain ⟨va, hva, eva⟩ := pk_andE (cc >>> ((4 : Int32) &&& 31)) (m := 63) 6 (by decide)
      obtain ⟨wa, hwa, ewa⟩ := pk_andE (cc >>> ((10 : Int32) &&& 31)) (m := 63) 6 (by decide)
      obtain ⟨k, hk, ek⟩ := pk_andE dd (m := 31) 5 (by decide)
      obtain ⟨b, hb, eb⟩ := pk_andE (dd >>> ((5 : Int32) &&& 31)) (m := 7) 3 (by decide)
      obtain ⟨l, hl, el⟩ := pk_andE (dd >>> ((5 : Int32) &&& 31)) (m := 31) 5 (by decide)
      have hv : va % n < n := Nat.mod_lt _ (by omega)
      have hw : wa % n < n := Nat.mod_lt _ (by omega)
      have K : ∀ (n' m' : Nat) (p' : Nat → Nat) (C' : Nat → Nat → Int32 × Int32) (t' x' : Int32) (b1 : Nat → Int32) (b2 : Nat → Int64) (b3 b4 b5 b6 b7 b8 : Nat → Int32), n ≤ n' → m' ≤ 16 * (n' - 1) → (∀ w j, w < n → C' w j = C w j) → pm_I n' m' p' C' n' b1 b2 b3 b4 b5 b6 b7 b8 → wL_law_285 (fun r => r = 1) L xs (wL_law_19 (fun r => r = 1) L xs kc ks (d + 1)) (nI w0) (pm_hash (C w0) 32) (nI i) cc (nI (va % n)) (nI (wa % n)) kc ks (nI n') (nI m') t' x' b1 b2 b3 b4 b5 b6 b7 b8 := by
        intro n' m' p' C' t' x' b1 b2 b3 b4 b5 b6 b7 b8 q1 q2 q3 I'
        exact pm_law285 I' (by omega) (by omega) (by omega) (pm_hash_eq (fun j => q3 w0 j hw0) 32) (fun w1 hw1 t1 x1 => pm_law19 hL d (i + 2) w1 n' m' p' C' t1 x1 b1 b2 b3 b4 b5 b6 b7 b8 (by omega) (by omega) hw1 q2 I')
      have e9 : ((cc >>> ((4 : Int32) &&& 31)) &&& 63) - ((cc >>> ((4 : Int32) &&& 31)) &&& 63) / nI n * nI n = nI (va % n) := by
        rw [eva]; exact pk_rem (by omega) (by omega) (by omega)
      have e10 : ((cc >>> ((10 : Int32) &&& 31)) &&& 63) - ((cc >>> ((10 : Int32) &&& 31)) &&& 63) / nI n * nI n = nI (wa % n) := by
        rw [ewa]; exact pk_rem (by omega) (by omega) (by omega)
      have e12 : ((16 * (dd &&& 31)) + 1) + ((dd >>> ((5 : Int32) &&& 31)) &&& 7) = nI (16 * k + (1 + b)) := by
        have h16 : (16 : Int32) = nI 16 := rfl
        have h1 : (1 : Int32) = nI 1 := rfl
        rw [ek, eb, h16, h1, pk_mul, nI_add, nI_add]
        exact congrArg nI (by omega)
      have n0 : ¬ nI n = 0 := nI_ne0 (by omega) (by omega)
      refine nm_r eo ⟨n0, nm_r e9 ⟨n0, nm_r e10 (nm_r ek (nm_r e12 ?_))⟩⟩
      refine pk_le 7 o (fun _ => pk_le 9 o (fun _ => pk_le 11 o (fun _ => pk_le 14 o (fun _ => ?_) (fun _ => ?_)) (fun _ => ?_)) (fun _ => ?_)) (fun _ => ?_)
      · rw [el]
        exact pm_exchange I hm hv hk hl (fun r n' m' p' C' t' x' b1 b2 b3 b4 b5 b6 b7 b8 q1 q2 q3 I' => K n' m' p' C' t' x' b1 b2 b3 b4 b5 b6 b7 b8 q1 q2 q3 I')
      · exact pm_graft I hm hv hw hk (by omega) (by omega) (fun r n' m' p' C' t' x' b1 b2 b3 b4 b5 b6 b7 b8 q1 q2 q3 I' => K n' m' p' C' t' x' b1 b2 b3 b4 b5 b6 b7 b8 q1 q2 q3 I')
      · exact pm_fill I hm hv hk (by omega) (by omega) (fun r n' m' p' C' t' x' b1 b2 b3 b4 b5 b6 b7 b8 q1 q2 q3 I' => K n' m' p' C' t' x' b1 b2 b3 b4 b5 b6 b7 b8 q1 q2 q3 I')
      · exact pm_remove I hm hv hk (fun r n' m' p' C' t' x' b1 b2 b3 b4 b5 b6 b7 b8 q1 q2 q3 I' => K n' m' p' C' t' x' b1 b2 b3 b4 b5 b6 b7 b8 q1 q2 q3 I')
      · refine nm_e (pm_opPut I hm hv hk (fun g => ?_) (fun g m' p' C' b1 b2 b3 b4 b5 b6 b7 b8 q1 q2 q3 q4 q5 I' => ?_))
        · refine br_t (by decide) (br_f (by decide) (br_t rfl (br_t (by rw [g]; rfl) (K n m p C t x a1 a2 a3 a4 a5 a6 a7 a8 (Nat.le_refl n) hm (fun _ _ _ => rfl) I))))
        · refine br_f (nI_pos (by omega)) (pm_differing (key := k) I' (by omega) (by omega) (fun j hj => by rw [q4 j hj, q2 _ j hv]) (fun s t1 x1 hs => br_f (nI_nlt (a := 1) hs (by omega)) (pm_get I' (by omega) hk (fun t2 x2 => br_t (by rw [q3]) (pm_parent I' (by omega) (by omega) (br_t (by rw [q5]) (br_t (nI_pos' (by omega)) ?_)))))))
          exact K (n + 1) m' p' C' t2 x2 b1 b2 b3 b4 b5 b6 b7 b8 (by omega) (by omega) q2 I'
theorem i_vc (xs : Nat → Int32) (L : Nat) (hL : L ≤ 260) : wpL_law (fun r => r = 1) L xs := by
  unfold wpL_law
  refine ⟨8, 2712, Nat.le_refl _, Nat.le_refl _, ?_⟩
  refine pm_init (fun a1 a2 a3 a4 a5 a6 a7 a8 I => ?_)
  dsimp only
  refine pm_mark (v := 0) I Nat.zero_lt_one (fun t' x' => ?_)
  refine ⟨L + 1, ?_⟩
  exact pm_law19 hL L 0 0 1 0 (fun _ => 0) (fun _ _ => (0, 0)) t' x' a1 a2 a3 a4 a5 a6 a7 a8 (by omega) (by omega) (by omega) (by omega) I
end
