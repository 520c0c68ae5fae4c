section
theorem pk_us {f : Nat → Int32} {k : Nat} {x : Int32} : upd f k x k = x := if_pos rfl
theorem pk_un {f : Nat → Int32} {k j : Nat} {x : Int32} (h : j ≠ k) : upd f k x j = f j := if_neg h
theorem pk_sub {a b : Nat} (h : b ≤ a) : nI a - nI b = nI (a - b) := by
  obtain ⟨c, rfl⟩ : ∃ c, a = c + b := ⟨a - b, by omega⟩
  rw [← nI_add, Int32.add_sub_cancel, Nat.add_sub_cancel]
theorem pk_m1 (n : Nat) : nI (n + 1) + (-1) = nI n := by
  rw [← nI_1, Int32.add_assoc, show (1 : Int32) + (-1) = 0 from rfl, Int32.add_zero]
theorem pk_mul (a b : Nat) : nI a * nI b = nI (a * b) := (Int32.ofNat_mul a b).symm
theorem pk_ix (x : Int32) {n : Nat} (hn : n < 2 ^ 31) : x < 0 ∨ nI n ≤ x ∨ ∃ j : Nat, j < n ∧ x = nI j := by
  by_cases h : x < 0
  · exact Or.inl h
  · obtain ⟨j, hj, rfl⟩ := nI_of h
    by_cases h2 : j < n
    · exact Or.inr (Or.inr ⟨j, h2, rfl⟩)
    · exact Or.inr (Or.inl (nI_le (by omega) hj))
theorem pk_le {x y : Int32} {A B : Prop} (a b : Nat) (f : a ≤ b → A) (g : b < a → B) (hx : x = nI a := by rfl) (hy : y = nI b := by rfl) (ha : a < 2 ^ 31 := by omega) (hb : b < 2 ^ 31 := by omega) : (x ≤ y → A) ∧ (¬ x ≤ y → B) := by
  subst hx hy
  rw [nI_leI ha hb]
  exact ⟨f, fun z => g (by omega)⟩
theorem pk_lt {x y : Int32} {A B : Prop} (a b : Nat) (f : a < b → A) (g : b ≤ a → B) (hx : x = nI a := by rfl) (hy : y = nI b := by rfl) (ha : a < 2 ^ 31 := by omega) (hb : b < 2 ^ 31 := by omega) : (x < y → A) ∧ (¬ x < y → B) := by
  subst hx hy
  rw [nI_ltI ha hb]
  exact ⟨f, fun z => g (by omega)⟩
theorem pk_eq {x y : Int32} {A B : Prop} (a b : Nat) (f : a = b → A) (g : a ≠ b → B) (hx : x = nI a := by rfl) (hy : y = nI b := by rfl) (ha : a < 2 ^ 31 := by omega) (hb : b < 2 ^ 31 := by omega) : (x = y → A) ∧ (¬ x = y → B) := by
  subst hx hy
  rw [nI_eq ha hb]
  exact ⟨f, g⟩
theorem pk_in {x : Int32} (n N : Nat) (h : n < N) (hx : x = nI n := by rfl) (hN : N < 2 ^ 31 := by omega) : vp_in x N := by
  subst hx
  exact vp_in_nI h hN
theorem pk_cl {x : Int32} (n : Nat) (hx : x = nI n := by rfl) (h : n < 2 ^ 31 := by omega) : x.toNatClampNeg = n := by
  subst hx
  exact nI_clamp h
theorem pk_least (P : Nat → Prop) (h : ∃ k, P k) : ∃ k, P k ∧ ∀ j, j < k → ¬ P j := by
  obtain ⟨k, hk⟩ := h
  induction k using Nat.strongRecOn with
  | ind k ih =>
    by_cases e : ∃ j, j < k ∧ P j
    · obtain ⟨j, hj, pj⟩ := e
      exact ih j hj pj
    · exact ⟨k, hk, fun j hj pj => e ⟨j, hj, pj⟩⟩
theorem sb_cl0 : (0 : Int32).toNatClampNeg = 0 := by decide
end
section
def kr_hd (L : List Nat) (e : Nat) : Nat := match L with
  | [] => e
  | c :: _ => c
def kr_la : List Nat → Nat → Nat
  | [], p => p
  | c :: cs, _ => kr_la cs c
def kr_sg (nx bf : Nat → Int32) : Nat → List Nat → Nat → Prop
  | _, [], _ => True
  | p, c :: cs, e => bf c = nI p ∧ nx c = nI (kr_hd cs e) ∧ kr_sg nx bf c cs e
theorem kr_hd_app (A B : List Nat) (e : Nat) : kr_hd (A ++ B) e = kr_hd A (kr_hd B e) := by
  cases A <;> rfl
theorem kr_la_app (A B : List Nat) (p : Nat) : kr_la (A ++ B) p = kr_la B (kr_la A p) := by
  induction A generalizing p with
  | nil => rfl
  | cons c cs ih => exact ih c
theorem kr_sg_app {nx bf : Nat → Int32} (A B : List Nat) (p e : Nat) : kr_sg nx bf p (A ++ B) e ↔ kr_sg nx bf p A (kr_hd B e) ∧ kr_sg nx bf (kr_la A p) B e := by
  induction A generalizing p with
  | nil => simp [kr_sg, kr_la]
  | cons c cs ih => simp only [List.cons_append, kr_sg, kr_la, kr_hd_app, ih, and_assoc]
theorem kr_sg_congr {nx bf nx' bf' : Nat → Int32} {L : List Nat} {p e : Nat} (h : ∀ c ∈ L, nx' c = nx c ∧ bf' c = bf c) (s : kr_sg nx bf p L e) : kr_sg nx' bf' p L e := by
  induction L generalizing p with
  | nil => trivial
  | cons c cs ih =>
    obtain ⟨h1, h2, h3⟩ := s
    have hc := h c List.mem_cons_self
    exact ⟨hc.2.trans h1, hc.1.trans h2, ih (fun d hd => h d (List.mem_cons_of_mem _ hd)) h3⟩
theorem kr_la_mem (c : Nat) (cs : List Nat) (p : Nat) : kr_la (c :: cs) p ∈ c :: cs := by
  induction cs generalizing c p with
  | nil => exact List.mem_cons_self
  | cons d ds ih => exact List.mem_cons_of_mem _ (ih d c)
theorem kr_la_in {A : List Nat} (h : A ≠ []) (p : Nat) : kr_la A p ∈ A := by
  cases A with
  | nil => exact absurd rfl h
  | cons c cs => exact kr_la_mem c cs p
theorem kr_hd_in {A : List Nat} (h : A ≠ []) (e : Nat) : kr_hd A e ∈ A := by
  cases A with
  | nil => exact absurd rfl h
  | cons c cs => exact List.mem_cons_self
theorem kr_set_e {nx bf : Nat → Int32} (L : List Nat) (p e e' : Nat) (hn : L.Nodup) (hL : L ≠ []) (s : kr_sg nx bf p L e) : kr_sg (upd nx (kr_la L p) (nI e')) bf p L e' := by
  induction L generalizing p with
  | nil => exact absurd rfl hL
  | cons c cs ih =>
    cases cs with
    | nil => exact ⟨s.1, pk_us, trivial⟩
    | cons d ds =>
      have hn' := List.nodup_cons.mp hn
      have k := ih c hn'.2 (by simp) s.2.2
      refine ⟨s.1, ?_, k⟩
      have hne : c ≠ kr_la (d :: ds) c := fun e => hn'.1 (e ▸ kr_la_mem d ds c)
      exact (pk_un hne).trans s.2.1
theorem kr_set_p {nx bf : Nat → Int32} (c : Nat) (cs : List Nat) (p p' e : Nat) (hn : (c :: cs).Nodup) (s : kr_sg nx bf p (c :: cs) e) : kr_sg nx (upd bf c (nI p')) p' (c :: cs) e := by
  have hn' := List.nodup_cons.mp hn
  exact ⟨pk_us, s.2.1, kr_sg_congr (fun d hd => ⟨rfl, pk_un (fun e => hn'.1 (e ▸ hd))⟩) s.2.2⟩
/-- the children of node x are linked as the list L -/
def kr_kd (ch nx bf up : Nat → Int32) (x : Nat) (L : List Nat) : Prop :=
  ch x = nI (kr_hd L 0) ∧ kr_sg nx bf 0 L 0 ∧ (∀ c ∈ L, up c = nI x) ∧ L.Nodup ∧ (∀ c ∈ L, 1 ≤ c ∧ c ≤ 32)
theorem kr_kd_congr {ch nx bf up ch' nx' bf' up' : Nat → Int32} {x : Nat} {L : List Nat} (h : kr_kd ch nx bf up x L) (hc : ch' x = ch x) (hL : ∀ c ∈ L, nx' c = nx c ∧ bf' c = bf c ∧ up' c = up c) : kr_kd ch' nx' bf' up' x L :=
  ⟨hc.trans h.1, kr_sg_congr (fun c m => ⟨(hL c m).1, (hL c m).2.1⟩) h.2.1, fun c m => (hL c m).2.2.trans (h.2.2.1 c m), h.2.2.2.1, h.2.2.2.2⟩
def kr_nxu (nx : Nat → Int32) (A B : List Nat) : Nat → Int32 := match A with
  | [] => nx
  | a :: as => upd nx (kr_la (a :: as) 0) (nI (kr_hd B 0))
def kr_chu (ch : Nat → Int32) (x : Nat) (A : List Nat) (v : Nat) : Nat → Int32 := match A with
  | [] => upd ch x (nI v)
  | _ :: _ => ch
def kr_bfu (bf : Nat → Int32) (B : List Nat) (v : Nat) : Nat → Int32 := match B with
  | [] => bf
  | d :: _ => upd bf d (nI v)
theorem kr_bfu_n {bf : Nat → Int32} {B : List Nat} {v y : Nat} (h : y ∉ B) : kr_bfu bf B v y = bf y := by
  cases B with
  | nil => rfl
  | cons d ds => exact pk_un (fun e => h (e ▸ List.mem_cons_self))
theorem kr_nxu_n {nx : Nat → Int32} {A B : List Nat} {y : Nat} (h : y ∉ A) : kr_nxu nx A B y = nx y := by
  cases A with
  | nil => rfl
  | cons d ds => exact pk_un (fun e => h (e ▸ kr_la_mem d ds 0))
theorem kr_chu_n {ch : Nat → Int32} {x : Nat} {A : List Nat} {v y : Nat} (h : y ≠ x) : kr_chu ch x A v y = ch y := by
  cases A with
  | nil => exact pk_un h
  | cons d ds => rfl
theorem kr_mid {A B : List Nat} {c : Nat} (h : (A ++ c :: B).Nodup) : A.Nodup ∧ B.Nodup ∧ c ∉ A ∧ c ∉ B ∧ (∀ a ∈ A, a ∉ B) ∧ (A ++ B).Nodup := by
  have h1 := List.nodup_append.mp h
  have h2 := List.nodup_cons.mp h1.2.1
  refine ⟨h1.1, h2.2, fun m => h1.2.2 c m c List.mem_cons_self rfl, h2.1, fun a m m2 => h1.2.2 a m a (List.mem_cons_of_mem _ m2) rfl, ?_⟩
  exact List.nodup_append.mpr ⟨h1.1, h2.2, fun a m b m2 => h1.2.2 a m b (List.mem_cons_of_mem _ m2)⟩
theorem kr_kd_unl {ch nx bf up : Nat → Int32} {x c : Nat} {A B : List Nat} (h : kr_kd ch nx bf up x (A ++ c :: B)) : kr_kd (kr_chu ch x A (kr_hd B 0)) (kr_nxu nx A B) (kr_bfu bf B (kr_la A 0)) up x (A ++ B) := by
  obtain ⟨h1, h2, h3, h4, h5⟩ := h
  obtain ⟨s1, s2⟩ := (kr_sg_app A (c :: B) 0 0).mp h2
  obtain ⟨m1, m2, m3, m4, m5, m6⟩ := kr_mid h4
  refine ⟨?_, ?_, ?_, m6, ?_⟩
  · cases A with
    | nil => exact pk_us
    | cons a as => exact h1
  · refine (kr_sg_app A B 0 0).mpr ⟨?_, ?_⟩
    · cases A with
      | nil => trivial
      | cons a as =>
        refine kr_sg_congr (nx := kr_nxu nx (a :: as) B) (bf := bf) (fun d hd => ⟨rfl, kr_bfu_n (m5 d hd)⟩) ?_
        exact kr_set_e (a :: as) 0 c (kr_hd B 0) m1 (by simp) s1
    · cases B with
      | nil => trivial
      | cons d ds =>
        refine kr_sg_congr (nx := nx) (bf := upd bf d (nI (kr_la A 0))) (fun e he => ⟨kr_nxu_n (fun me => m5 e me he), rfl⟩) ?_
        exact kr_set_p d ds c (kr_la A 0) 0 m2 s2.2.2
  · intro d hd
    refine h3 d ?_
    rcases List.mem_append.mp hd with k | k
    · exact List.mem_append.mpr (Or.inl k)
    · exact List.mem_append.mpr (Or.inr (List.mem_cons_of_mem _ k))
  · intro d hd
    refine h5 d ?_
    rcases List.mem_append.mp hd with k | k
    · exact List.mem_append.mpr (Or.inl k)
    · exact List.mem_append.mpr (Or.inr (List.mem_cons_of_mem _ k))
def kr_nxl (nx : Nat → Int32) (A : List Nat) (c v : Nat) : Nat → Int32 := match A with
  | [] => upd nx c (nI v)
  | a :: as => upd (upd nx c (nI v)) (kr_la (a :: as) 0) (nI c)
theorem kr_nxl_n {nx : Nat → Int32} {A : List Nat} {c v y : Nat} (h : y ∉ A) (hc : y ≠ c) : kr_nxl nx A c v y = nx y := by
  cases A with
  | nil => exact pk_un hc
  | cons d ds =>
    have ne : y ≠ kr_la (d :: ds) 0 := fun e => h (e ▸ kr_la_mem d ds 0)
    exact (pk_un ne).trans (pk_un hc)
theorem kr_kd_lnk {ch nx bf up : Nat → Int32} {x c : Nat} {A B : List Nat} (h : kr_kd ch nx bf up x (A ++ B)) (hc : c ∉ A ++ B) (c1 : 1 ≤ c) (c2 : c ≤ 32) :
    kr_kd (kr_chu ch x A c) (kr_nxl nx A c (kr_hd B 0)) (kr_bfu (upd bf c (nI (kr_la A 0))) B c) (upd up c (nI x)) x (A ++ c :: B) := by
  obtain ⟨h1, h2, h3, h4, h5⟩ := h
  obtain ⟨s1, s2⟩ := (kr_sg_app A B 0 0).mp h2
  have n1 := List.nodup_append.mp h4
  have cA : c ∉ A := fun m => hc (List.mem_append.mpr (Or.inl m))
  have cB : c ∉ B := fun m => hc (List.mem_append.mpr (Or.inr m))
  have m5 : ∀ a ∈ A, a ∉ B := fun a m m2 => n1.2.2 a m a m2 rfl
  have dB : ∀ d ∈ B, d ≠ c := fun d m e => cB (e ▸ m)
  have dA : ∀ d ∈ A, d ≠ c := fun d m e => cA (e ▸ m)
  have mm : ∀ d, d ∈ A ++ c :: B → d = c ∨ d ∈ A ++ B := by
    intro d hd
    rcases List.mem_append.mp hd with k | k
    · exact Or.inr (List.mem_append.mpr (Or.inl k))
    · rcases List.mem_cons.mp k with k | k
      · exact Or.inl k
      · exact Or.inr (List.mem_append.mpr (Or.inr k))
  refine ⟨?_, ?_, ?_, ?_, ?_⟩
  · cases A with
    | nil => exact pk_us
    | cons a as => exact h1
  · refine (kr_sg_app A (c :: B) 0 0).mpr ⟨?_, ?_, ?_, ?_⟩
    · cases A with
      | nil => trivial
      | cons a as =>
        refine kr_sg_congr (nx := kr_nxl nx (a :: as) c (kr_hd B 0)) (bf := bf) (fun d hd => ⟨rfl, (kr_bfu_n (m5 d hd)).trans (pk_un (dA d hd))⟩) ?_
        refine kr_set_e (a :: as) 0 (kr_hd B 0) c n1.1 (by simp) ?_
        exact kr_sg_congr (fun d hd => ⟨pk_un (dA d hd), rfl⟩) s1
    · exact (kr_bfu_n cB).trans pk_us
    · cases A with
      | nil => exact pk_us
      | cons a as =>
        have ne : c ≠ kr_la (a :: as) 0 := fun e => cA (e ▸ kr_la_mem a as 0)
        exact (pk_un ne).trans pk_us
    · cases B with
      | nil => trivial
      | cons d ds =>
        refine kr_sg_congr (nx := nx) (bf := upd bf d (nI c)) ?_ (kr_set_p d ds (kr_la A 0) c 0 n1.2.1 s2)
        intro e he
        refine ⟨kr_nxl_n (fun me => m5 e me he) (dB e he), ?_⟩
        by_cases q : e = d
        · rw [q]; exact pk_us.trans pk_us.symm
        · exact (pk_un q).trans ((pk_un (dB e he)).trans (pk_un q).symm)
  · intro d hd
    rcases mm d hd with k | k
    · rw [k]; exact pk_us
    · have ne : d ≠ c := fun e => hc (e ▸ k)
      exact (pk_un ne).trans (h3 d k)
  · refine List.nodup_append.mpr ⟨n1.1, List.nodup_cons.mpr ⟨cB, n1.2.1⟩, ?_⟩
    intro a ha b hb e
    rcases List.mem_cons.mp hb with k | k
    · exact dA a ha (e.trans k)
    · exact n1.2.2 a ha b k e
  · intro d hd
    rcases mm d hd with k | k
    · rw [k]; exact ⟨c1, c2⟩
    · exact h5 d k
end
section
def kr_chl (n : Nat) (p : Nat → Nat) (t : Nat) : List Nat := (List.range n).filter (fun j => decide (t < j ∧ p j = t))
def kr_stk (n : Nat) (p : Nat → Nat) (a b t : Nat) : List Nat := (List.range n).filter (fun j => decide (t ≤ j ∧ j < b ∧ (j = a ∨ p j < t)))
def kr_rst (n : Nat) (p : Nat → Nat) (b t : Nat) : List Nat := (List.range n).filter (fun j => decide (t < j ∧ j < b ∧ p j < t))
def kr_pre (n : Nat) (p : Nat → Nat) : Prop := (∀ i, 0 < i → i < n → p i < i) ∧ (∀ i j, 0 < i → i < n → p i < j → j < i → p i ≤ p j)
def kr_sub (n : Nat) (p : Nat → Nat) (a b : Nat) : Prop := a < b ∧ b ≤ n ∧ (∀ j, a < j → j < b → a ≤ p j) ∧ (b = n ∨ p b < a)
theorem kr_sub_ex {n a : Nat} (p : Nat → Nat) (h : a < n) : ∃ b, kr_sub n p a b := by
  obtain ⟨b, hb, hl⟩ := pk_least (fun b => a < b ∧ b ≤ n ∧ (b = n ∨ p b < a)) ⟨n, h, Nat.le_refl n, Or.inl rfl⟩
  refine ⟨b, hb.1, hb.2.1, ?_, hb.2.2⟩
  intro j h1 h2
  have h3 := hl j h2
  have hb2 := hb.2.1
  by_cases q : p j < a
  · exact absurd ⟨h1, by omega, Or.inr q⟩ h3
  · omega
theorem kr_sub_in {n a b j : Nat} {p : Nat → Nat} (hp : kr_pre n p) (s : kr_sub n p a b) (h0 : 0 < j) (hj : j < n) (h1 : a ≤ p j) (h2 : p j < b) : j < b := by
  obtain ⟨s1, s2, s3, s4⟩ := s
  have k1 := hp.1 j h0 hj
  by_cases q : j < b
  · exact q
  · exfalso
    rcases s4 with e | e
    · omega
    · by_cases r : j = b
      · rw [r] at h1; omega
      · have k2 := hp.2 j b h0 hj h2 (by omega)
        omega
theorem kr_split {P Q : Nat → Bool} (l : List Nat) (h : l.Pairwise (fun x y => Q x = true → P y = true → False)) (hd : ∀ x ∈ l, P x = true → Q x = false) : l.filter (fun x => P x || Q x) = l.filter P ++ l.filter Q := by
  induction l with
  | nil => rfl
  | cons x xs ih =>
    have hx := List.pairwise_cons.mp h
    have ih' := ih hx.2 (fun y hy => hd y (List.mem_cons_of_mem _ hy))
    cases hp : P x with
    | true =>
      have hq := hd x List.mem_cons_self hp
      simp [List.filter_cons, hp, hq, ih']
    | false =>
      cases hq : Q x with
      | true =>
        have k : xs.filter P = [] := List.filter_eq_nil_iff.mpr (fun y hy e => hx.1 y hy hq e)
        simp [List.filter_cons, hp, hq, ih', k]
      | false => simp [List.filter_cons, hp, hq, ih']
theorem kr_single {n t : Nat} (h : t < n) : (List.range n).filter (fun j => decide (j = t)) = [t] := by
  induction n with
  | zero => omega
  | succ n ih =>
    rw [List.range_succ, List.filter_append]
    by_cases q : t = n
    · have k : (List.range n).filter (fun j => decide (j = t)) = [] := by
        refine List.filter_eq_nil_iff.mpr (fun j hj e => ?_)
        have h1 := List.mem_range.mp hj
        have h2 := of_decide_eq_true e
        omega
      rw [k, q]
      simp
    · rw [ih (by omega)]
      have k : [n].filter (fun j => decide (j = t)) = [] := by
        simp; omega
      rw [k]
      rfl
theorem kr_stk_hd {n a b t : Nat} {p : Nat → Nat} (hp : kr_pre n p) (hb : b ≤ n) (h1 : a ≤ t) (h2 : t < b) : kr_stk n p a b t = t :: kr_rst n p b t := by
  have e := kr_split (P := fun j => decide (j = t)) (Q := fun j => decide (t < j ∧ j < b ∧ p j < t)) (List.range n) ?_ ?_
  · rw [kr_single (by omega)] at e
    show _ = [t] ++ kr_rst n p b t
    unfold kr_stk kr_rst
    rw [← e]
    refine List.filter_congr (fun j hj => ?_)
    have hj' := List.mem_range.mp hj
    rw [← Bool.decide_or]
    refine decide_eq_decide.mpr ?_
    constructor
    · rintro ⟨k1, k2, k3⟩
      by_cases q : j = t
      · exact Or.inl q
      · refine Or.inr ⟨by omega, k2, ?_⟩
        rcases k3 with k3 | k3
        · omega
        · exact k3
    · rintro (k | ⟨k1, k2, k3⟩)
      · refine ⟨by omega, by omega, ?_⟩
        by_cases q : j = a
        · exact Or.inl q
        · refine Or.inr ?_
          have := hp.1 j (by omega) hj'
          omega
      · exact ⟨by omega, k2, Or.inr k3⟩
  · refine List.pairwise_lt_range.imp ?_
    intro x y hxy k1 k2
    have k3 := of_decide_eq_true k1
    have k4 := of_decide_eq_true k2
    omega
  · intro x _ k
    have k4 := of_decide_eq_true k
    exact decide_eq_false (by omega)
theorem kr_stk_nx {n a b t : Nat} {p : Nat → Nat} (hp : kr_pre n p) (s : kr_sub n p a b) (h1 : a ≤ t) (h2 : t < b) : kr_stk n p a b (t + 1) = kr_chl n p t ++ kr_rst n p b t := by
  have e := kr_split (P := fun j => decide (t < j ∧ p j = t)) (Q := fun j => decide (t < j ∧ j < b ∧ p j < t)) (List.range n) ?_ ?_
  · unfold kr_stk kr_chl kr_rst
    rw [← e]
    refine List.filter_congr (fun j hj => ?_)
    have hj' := List.mem_range.mp hj
    rw [← Bool.decide_or]
    refine decide_eq_decide.mpr ?_
    constructor
    · rintro ⟨k1, k2, k3⟩
      by_cases q : p j = t
      · exact Or.inl ⟨by omega, q⟩
      · refine Or.inr ⟨by omega, k2, ?_⟩
        rcases k3 with k3 | k3 <;> omega
    · rintro (⟨k1, k2⟩ | ⟨k1, k2, k3⟩)
      · exact ⟨by omega, kr_sub_in hp s (by omega) hj' (by omega) (by omega), Or.inr (by omega)⟩
      · exact ⟨by omega, k2, Or.inr (by omega)⟩
  · refine List.pairwise_lt_range.imp_of_mem ?_
    intro x y hx hy hxy k1 k2
    have k3 := of_decide_eq_true k1
    have k4 := of_decide_eq_true k2
    have hy' := List.mem_range.mp hy
    have k5 := hp.2 y x (by omega) hy' (by omega) hxy
    omega
  · intro x _ k
    have k4 := of_decide_eq_true k
    exact decide_eq_false (by omega)
theorem kr_stk_a {n a b : Nat} {p : Nat → Nat} (hp : kr_pre n p) (s : kr_sub n p a b) : kr_stk n p a b a = [a] := by
  rw [kr_stk_hd hp s.2.1 (Nat.le_refl a) s.1]
  have k : kr_rst n p b a = [] := by
    refine List.filter_eq_nil_iff.mpr (fun j hj e => ?_)
    have h2 := of_decide_eq_true e
    have h3 := s.2.2.1 j h2.1 h2.2.1
    omega
  rw [k]
theorem kr_stk_b {n a b : Nat} {p : Nat → Nat} : kr_stk n p a b b = [] := by
  refine List.filter_eq_nil_iff.mpr (fun j hj e => ?_)
  have h2 := of_decide_eq_true e
  omega
theorem kr_stk_le {n a b t : Nat} {p : Nat → Nat} : (kr_stk n p a b t).length ≤ n := by
  have h := List.length_filter_le (fun j => decide (t ≤ j ∧ j < b ∧ (j = a ∨ p j < t))) (List.range n)
  rw [List.length_range] at h
  exact h
theorem kr_chl_mem {n t j : Nat} {p : Nat → Nat} : j ∈ kr_chl n p t ↔ j < n ∧ t < j ∧ p j = t := by
  unfold kr_chl
  rw [List.mem_filter, List.mem_range, decide_eq_true_eq]
theorem kr_chl_lt {n t : Nat} {p : Nat → Nat} : (kr_chl n p t).Pairwise (· < ·) := List.pairwise_lt_range.filter _
theorem kr_chl_nd {n t : Nat} {p : Nat → Nat} : (kr_chl n p t).Nodup := kr_chl_lt.imp (fun h => Nat.ne_of_lt h)
theorem kr_map_nd {f : Nat → Nat} {l : List Nat} (hn : l.Nodup) (h : ∀ a ∈ l, ∀ b ∈ l, f a = f b → a = b) : (l.map f).Nodup := by
  refine List.pairwise_map.mpr ?_
  exact List.Pairwise.imp_of_mem (fun {a b} ha hb ne e => ne (h a ha b hb e)) hn
theorem kr_le10 {l : List Nat} {K : Nat → Nat} (hn : l.Nodup) (h : ∀ a ∈ l, ∀ b ∈ l, K a = K b → a = b) (hK : ∀ a ∈ l, K a < 10) : l.length ≤ 10 := by
  have k := (kr_map_nd hn h).length_le_of_subset (l₂ := List.range 10) ?_
  · rw [List.length_map, List.length_range] at k
    exact k
  · intro x hx
    obtain ⟨a, ha, e⟩ := List.mem_map.mp hx
    rw [← e]
    exact List.mem_range.mpr (hK a ha)
end
section
/-- L j is the length of a longest strictly rising row that ends at j -/
def kr_L (v : Nat → Nat) (m : Nat) (L : Nat → Nat) : Prop := ∀ j, j < m → 1 ≤ L j ∧ (∀ i, i < j → v i < v j → L i + 1 ≤ L j) ∧ (L j = 1 ∨ ∃ i, i < j ∧ v i < v j ∧ L j = L i + 1)
def kr_R (m : Nat) (L : Nat → Nat) (R : Nat) : Prop := (∀ j, j < m → L j ≤ R) ∧ ((m = 0 ∧ R = 0) ∨ ∃ j, j < m ∧ L j = R)
def kr_lis (v : Nat → Nat) (m R : Nat) : Prop := ∃ L, kr_L v m L ∧ kr_R m L R
theorem kr_L_le {v v' L L' : Nat → Nat} {m : Nat} (h : kr_L v m L) (h' : kr_L v' m L') (e : ∀ i j, i < m → j < m → (v i < v j ↔ v' i < v' j)) : ∀ j, j < m → L j ≤ L' j := by
  intro j
  induction j using Nat.strongRecOn with
  | ind j ih =>
    intro hj
    rcases (h j hj).2.2 with q | ⟨i, i1, i2, i3⟩
    · have := (h' j hj).1
      omega
    · have k1 := ih i i1 (by omega)
      have k2 := (h' j hj).2.1 i i1 ((e i j (by omega) hj).mp i2)
      omega
theorem kr_lis_eq {v v' : Nat → Nat} {m R R' : Nat} (h : kr_lis v m R) (h' : kr_lis v' m R') (e : ∀ i j, i < m → j < m → (v i < v j ↔ v' i < v' j)) : R = R' := by
  obtain ⟨L, a1, b1, c1⟩ := h
  obtain ⟨L', a2, b2, c2⟩ := h'
  have l1 := kr_L_le a1 a2 e
  have l2 := kr_L_le a2 a1 (fun i j hi hj => (e i j hi hj).symm)
  rcases c1 with ⟨z, z2⟩ | ⟨j, j1, j2⟩
  · rcases c2 with ⟨y, y2⟩ | ⟨i, i1, i2⟩
    · omega
    · omega
  · rcases c2 with ⟨y, y2⟩ | ⟨i, i1, i2⟩
    · omega
    · have k1 := l1 j j1
      have k2 := b2 j j1
      have k3 := l2 i i1
      have k4 := b1 i i1
      omega
theorem kr_lis_0 (v : Nat → Nat) : kr_lis v 0 0 := ⟨fun _ => 0, fun j h => absurd h (Nat.not_lt_zero j), fun j h => absurd h (Nat.not_lt_zero j), Or.inl ⟨rfl, rfl⟩⟩
def kr_st (f : Nat → Nat) (k x : Nat) : Nat → Nat := fun j => if j = k then x else f j
theorem kr_st_s {f : Nat → Nat} {k x : Nat} : kr_st f k x k = x := if_pos rfl
theorem kr_st_n {f : Nat → Nat} {k j x : Nat} (h : j ≠ k) : kr_st f k x j = f j := if_neg h
/-- one more element, of row length at + 1 -/
theorem kr_L_next {v L : Nat → Nat} {m at' : Nat} (h : kr_L v m L) (h1 : ∀ i, i < m → v i < v m → L i ≤ at') (h2 : at' = 0 ∨ ∃ i, i < m ∧ v i < v m ∧ L i = at') : kr_L v (m + 1) (kr_st L m (at' + 1)) := by
  intro j hj
  by_cases q : j = m
  · subst q
    rw [kr_st_s]
    refine ⟨by omega, ?_, ?_⟩
    · intro i hi hv
      rw [kr_st_n (by omega)]
      have := h1 i hi hv
      omega
    · rcases h2 with z | ⟨i, i1, i2, i3⟩
      · exact Or.inl (by omega)
      · refine Or.inr ⟨i, i1, i2, ?_⟩
        rw [kr_st_n (by omega)]
        omega
  · have hm : j < m := by omega
    rw [kr_st_n q]
    obtain ⟨k1, k2, k3⟩ := h j hm
    refine ⟨k1, ?_, ?_⟩
    · intro i hi hv
      rw [kr_st_n (by omega)]
      exact k2 i hi hv
    · rcases k3 with z | ⟨i, i1, i2, i3⟩
      · exact Or.inl z
      · refine Or.inr ⟨i, i1, i2, ?_⟩
        rw [kr_st_n (by omega)]
        exact i3
theorem kr_R_next {L : Nat → Nat} {m at' R : Nat} (h : kr_R m L R) (ha : at' ≤ R) : kr_R (m + 1) (kr_st L m (at' + 1)) (if at' = R then R + 1 else R) := by
  obtain ⟨h1, h2⟩ := h
  refine ⟨?_, Or.inr ?_⟩
  · intro j hj
    by_cases q : j = m
    · rw [q, kr_st_s]
      split <;> omega
    · rw [kr_st_n q]
      have := h1 j (by omega)
      split <;> omega
  · by_cases q : at' = R
    · refine ⟨m, by omega, ?_⟩
      rw [kr_st_s, if_pos q]
      omega
    · rw [if_neg q]
      rcases h2 with ⟨z1, z2⟩ | ⟨j, j1, j2⟩
      · omega
      · exact ⟨j, by omega, by rw [kr_st_n (by omega)]; exact j2⟩
theorem kr_max_ex (m : Nat) (P : Nat → Prop) (L : Nat → Nat) : ∃ a, (∀ i, i < m → P i → L i ≤ a) ∧ (a = 0 ∨ ∃ i, i < m ∧ P i ∧ L i = a) := by
  induction m with
  | zero => exact ⟨0, fun i h => absurd h (Nat.not_lt_zero i), Or.inl rfl⟩
  | succ m ih =>
    obtain ⟨a, h1, h2⟩ := ih
    by_cases q : P m ∧ a < L m
    · refine ⟨L m, ?_, Or.inr ⟨m, by omega, q.1, rfl⟩⟩
      intro i hi hP
      by_cases e : i = m
      · rw [e]; exact Nat.le_refl _
      · have := h1 i (by omega) hP
        omega
    · refine ⟨a, ?_, ?_⟩
      · intro i hi hP
        by_cases e : i = m
        · subst e
          by_cases r : a < L i
          · exact absurd ⟨hP, r⟩ q
          · omega
        · exact h1 i (by omega) hP
      · rcases h2 with z | ⟨i, i1, i2, i3⟩
        · exact Or.inl z
        · exact Or.inr ⟨i, by omega, i2, i3⟩
theorem kr_lis_ex (v : Nat → Nat) (m : Nat) : ∃ R, kr_lis v m R := by
  have h : ∀ m, ∃ L R, kr_L v m L ∧ kr_R m L R := by
    intro m
    induction m with
    | zero =>
      obtain ⟨L, h⟩ := kr_lis_0 v
      exact ⟨L, 0, h⟩
    | succ m ih =>
      obtain ⟨L, R, h1, h2⟩ := ih
      obtain ⟨a, a1, a2⟩ := kr_max_ex m (fun i => v i < v m) L
      have ha : a ≤ R := by
        rcases a2 with z | ⟨i, i1, i2, i3⟩
        · omega
        · have := h2.1 i i1
          omega
      exact ⟨_, _, kr_L_next h1 a1 a2, kr_R_next h2 ha⟩
  obtain ⟨L, R, h1, h2⟩ := h m
  exact ⟨R, L, h1, h2⟩
/-- how many q < n have P -/
def kr_ct (P : Nat → Bool) : Nat → Nat
  | 0 => 0
  | n + 1 => kr_ct P n + (if P n = true then 1 else 0)
theorem kr_ct_le (P : Nat → Bool) (n : Nat) : kr_ct P n ≤ n := by
  induction n with
  | zero => exact Nat.le_refl 0
  | succ n ih =>
    show kr_ct P n + (if P n = true then 1 else 0) ≤ n + 1
    split <;> omega
theorem kr_ct_congr {P Q : Nat → Bool} {n : Nat} (h : ∀ q, q < n → P q = Q q) : kr_ct P n = kr_ct Q n := by
  induction n with
  | zero => rfl
  | succ n ih =>
    show kr_ct P n + (if P n = true then 1 else 0) = kr_ct Q n + (if Q n = true then 1 else 0)
    rw [ih (fun q hq => h q (by omega)), h n (by omega)]
theorem kr_ct_not (P : Nat → Bool) (n : Nat) : kr_ct P n + kr_ct (fun q => !P q) n = n := by
  induction n with
  | zero => rfl
  | succ n ih =>
    show kr_ct P n + (if P n = true then 1 else 0) + (kr_ct (fun q => !P q) n + (if (!P n) = true then 1 else 0)) = n + 1
    cases P n <;> simp <;> omega
theorem kr_ct_rng {P Q : Nat → Bool} {a b n : Nat} (hab : a ≤ b) (hbn : b ≤ n) (hP : ∀ q, q < n → P q = (Q q || (decide (a ≤ q) && decide (q < b)))) (hQ : ∀ q, a ≤ q → q < b → Q q = false) : kr_ct P n = kr_ct Q n + (b - a) := by
  have h : ∀ k, k ≤ n → kr_ct P k = kr_ct Q k + (min k b - min k a) := by
    intro k
    induction k with
    | zero => intro _; simp [kr_ct]
    | succ k ih =>
      intro hk
      have i1 := ih (by omega)
      show kr_ct P k + (if P k = true then 1 else 0) = kr_ct Q k + (if Q k = true then 1 else 0) + _
      by_cases q : a ≤ k ∧ k < b
      · have e1 : P k = true := by rw [hP k (by omega)]; simp [q.1, q.2]
        have e2 := hQ k q.1 q.2
        rw [e1, e2]
        simp
        omega
      · have e1 : P k = Q k := by
          rw [hP k (by omega)]
          have : (decide (a ≤ k) && decide (k < b)) = false := by
            rw [← Bool.decide_and]
            exact decide_eq_false q
          rw [this, Bool.or_false]
        rw [e1]
        omega
  rw [h n (Nat.le_refl n)]
  omega
theorem kr_ct_len (P : Nat → Bool) (n : Nat) : kr_ct P n = ((List.range n).filter P).length := by
  induction n with
  | zero => rfl
  | succ n ih =>
    rw [List.range_succ, List.filter_append, List.length_append, ← ih]
    show kr_ct P n + (if P n = true then 1 else 0) = _
    cases h : P n <;> simp [h]
/-- as many images as kept ones -/
theorem kr_ct_img {A : Nat → Bool} {n m : Nat} {o : Nat → Option Nat} (hinj : ∀ i j q, i < m → j < m → o i = some q → o j = some q → i = j) (hA : ∀ q, q < n → (A q = true ↔ ∃ j, j < m ∧ o j = some q)) (hn : ∀ j q, j < m → o j = some q → q < n) : kr_ct A n = kr_ct (fun j => (o j).isSome) m := by
  have e1 : ((List.range m).filter (fun j => (o j).isSome)).length = (((List.range m).filter (fun j => (o j).isSome)).map (fun j => (o j).getD 0)).length := by rw [List.length_map]
  rw [kr_ct_len, kr_ct_len, e1]
  refine List.Perm.length_eq ((List.perm_ext_iff_of_nodup ?_ ?_).mpr ?_)
  · exact List.nodup_range.sublist List.filter_sublist
  · refine kr_map_nd (List.nodup_range.sublist List.filter_sublist) ?_
    intro a ha b hb e
    obtain ⟨a1, a2⟩ := List.mem_filter.mp ha
    obtain ⟨b1, b2⟩ := List.mem_filter.mp hb
    obtain ⟨x, hx⟩ := Option.isSome_iff_exists.mp a2
    obtain ⟨y, hy⟩ := Option.isSome_iff_exists.mp b2
    rw [hx, hy] at e
    have e' : x = y := e
    subst e'
    exact hinj a b x (List.mem_range.mp a1) (List.mem_range.mp b1) hx hy
  · intro q
    rw [List.mem_filter, List.mem_range, List.mem_map]
    constructor
    · rintro ⟨h1, h2⟩
      obtain ⟨j, j1, j2⟩ := (hA q h1).mp h2
      exact ⟨j, List.mem_filter.mpr ⟨List.mem_range.mpr j1, by rw [j2]; rfl⟩, by rw [j2]; rfl⟩
    · rintro ⟨j, j1, j2⟩
      obtain ⟨k1, k2⟩ := List.mem_filter.mp j1
      obtain ⟨y, hy⟩ := Option.isSome_iff_exists.mp k2
      rw [hy] at j2
      have e' : y = q := j2
      subst e'
      have hj := List.mem_range.mp k1
      exact ⟨hn j y hj hy, (hA y (hn j y hj hy)).mpr ⟨j, hj, hy⟩⟩
end
section
def kr_ar (a : Nat → Int32) (off : Nat) (L : List Nat) : Prop := ∀ j (h : j < L.length), a (off + j) = nI (L[j])
theorem kr_ar_app {a : Nat → Int32} {off : Nat} {A B : List Nat} : kr_ar a off (A ++ B) ↔ kr_ar a off A ∧ kr_ar a (off + A.length) B := by
  constructor
  · intro h
    refine ⟨fun j hj => ?_, fun j hj => ?_⟩
    · have k := h j (by rw [List.length_append]; omega)
      rw [List.getElem_append_left hj] at k
      exact k
    · have k := h (A.length + j) (by rw [List.length_append]; omega)
      rw [List.getElem_append_right (by omega)] at k
      simp only [Nat.add_sub_cancel_left] at k
      rw [← Nat.add_assoc] at k
      exact k
  · rintro ⟨h1, h2⟩ j hj
    by_cases q : j < A.length
    · rw [List.getElem_append_left q]
      exact h1 j q
    · rw [List.getElem_append_right (by omega)]
      rw [List.length_append] at hj
      have k := h2 (j - A.length) (by omega)
      rw [Nat.add_assoc, show A.length + (j - A.length) = j by omega] at k
      exact k
theorem kr_ar_congr {a b : Nat → Int32} {off : Nat} {L : List Nat} (h : kr_ar a off L) (e : ∀ j, off ≤ j → j < off + L.length → b j = a j) : kr_ar b off L :=
  fun j hj => (e (off + j) (by omega) (by omega)).trans (h j hj)
theorem kr_ar_nil {a : Nat → Int32} {off : Nat} : kr_ar a off [] := fun j h => absurd h (Nat.not_lt_zero j)
theorem kr_ar_one {a : Nat → Int32} {off c : Nat} (h : a off = nI c) : kr_ar a off [c] := by
  intro j hj
  have e : j = 0 := by
    have : j < 1 := hj
    omega
  subst e
  exact h
theorem kr_ar_cons {a : Nat → Int32} {off c : Nat} {L : List Nat} (h : a off = nI c) (k : kr_ar a (off + 1) L) : kr_ar a off (c :: L) := by
  have := kr_ar_app (a := a) (off := off) (A := [c]) (B := L)
  exact this.mpr ⟨kr_ar_one h, k⟩
theorem kr_ar_rev {a b : Nat → Int32} {off : Nat} {L : List Nat} (h : kr_ar a off L) (e : ∀ j, off ≤ j → j < off + L.length → b j = a (off + (off + L.length) - 1 - j)) : kr_ar b off L.reverse := by
  intro j hj
  rw [List.length_reverse] at hj
  rw [e (off + j) (by omega) (by omega), List.getElem_reverse]
  have k := h (L.length - 1 - j) (by omega)
  rw [← k]
  congr 1
  omega
def kr_cn (nx : Nat → Int32) : List Nat → Prop
  | [] => True
  | c :: cs => (1 ≤ c ∧ c ≤ 32) ∧ nx c = nI (kr_hd cs 0) ∧ kr_cn nx cs
theorem kr_cn_sg {nx bf : Nat → Int32} {L : List Nat} {p : Nat} (h : kr_sg nx bf p L 0) (r : ∀ c ∈ L, 1 ≤ c ∧ c ≤ 32) : kr_cn nx L := by
  induction L generalizing p with
  | nil => trivial
  | cons c cs ih => exact ⟨r c List.mem_cons_self, h.2.1, ih h.2.2 (fun d hd => r d (List.mem_cons_of_mem _ hd))⟩
section
variable {f_drafted f_open f_root f_nextId f_rowSize f_keptCount f_goneCount f_moveCount : Int32} {a_draftType a_draftKey a_draftParent a_openNode a_used a_type a_key a_ident a_state a_up a_child a_next a_before a_becomes a_isKept a_byKey a_stood a_rowEnd a_rowBefore a_list a_stays a_order a_pile : Nat → Int32}
theorem kr_turn {post : SX → Prop} (fr to' : Nat) (g0 : Nat → Int32) (hft : fr ≤ to') (h10 : to' ≤ fr + 10) (h33 : to' ≤ 33)
    (K : ∀ g : Nat → Int32, (∀ j, fr ≤ j → j < to' → g j = g0 (fr + to' - 1 - j)) → (∀ j, (j < fr ∨ to' ≤ j) → g j = g0 j) → post (f_drafted, f_open, f_root, f_nextId, f_rowSize, f_keptCount, f_goneCount, f_moveCount, a_draftType, a_draftKey, a_draftParent, a_openNode, a_used, a_type, a_key, a_ident, a_state, a_up, a_child, a_next, a_before, a_becomes, a_isKept, a_byKey, a_stood, a_rowEnd, a_rowBefore, a_list, a_stays, a_order, g)) :
    ∀ (n a b k : Nat) (g : Nat → Int32), a + b + 1 = fr + to' → a = fr + k → k ≤ 10 → 11 ≤ n + k → b < to' →
    (∀ j, fr ≤ j → j < to' → (j < a ∨ b < j) → g j = g0 (fr + to' - 1 - j)) → (∀ j, fr ≤ j → j < to' → a ≤ j → j ≤ b → g j = g0 j) → (∀ j, (j < fr ∨ to' ≤ j) → g j = g0 j) →
    wX_turnPile_10 post f_drafted f_open f_root f_nextId f_rowSize f_keptCount f_goneCount f_moveCount n (nI a) (nI b) (nI k) a_draftType a_draftKey a_draftParent a_openNode a_used a_type a_key a_ident a_state a_up a_child a_next a_before a_becomes a_isKept a_byKey a_stood a_rowEnd a_rowBefore a_list a_stays a_order g := by
  intro n
  induction n with
  | zero => intro a b k g e1 e2 hk hn; omega
  | succ n ih =>
    intro a b k g e1 e2 hk hn hb hg1 hg2 hg3
    have fin : b ≤ a → post (f_drafted, f_open, f_root, f_nextId, f_rowSize, f_keptCount, f_goneCount, f_moveCount, a_draftType, a_draftKey, a_draftParent, a_openNode, a_used, a_type, a_key, a_ident, a_state, a_up, a_child, a_next, a_before, a_becomes, a_isKept, a_byKey, a_stood, a_rowEnd, a_rowBefore, a_list, a_stays, a_order, g) := by
      intro hba
      refine K g ?_ hg3
      intro j j1 j2
      by_cases q : j < a ∨ b < j
      · exact hg1 j j1 j2 q
      · have e : j = a := by omega
        rw [hg2 j j1 j2 (by omega) (by omega)]
        congr 1
        omega
    rw [wX_turnPile_10]
    refine pk_le 10 k (fun h => fin (by omega)) (fun h => ?_)
    refine pk_le b a (fun h => fin h) (fun h => ?_)
    obtain ⟨b', rfl⟩ : ∃ b', b = b' + 1 := ⟨b - 1, by omega⟩
    have ca : (nI a).toNatClampNeg = a := nI_clamp (by omega)
    have cb : (nI (b' + 1)).toNatClampNeg = b' + 1 := nI_clamp (by omega)
    have va : vp_in (nI a) 33 := vp_in_nI (by omega) (by omega)
    have vb : vp_in (nI (b' + 1)) 33 := vp_in_nI (by omega) (by omega)
    rw [ca, cb]
    refine ⟨va, nm_e ⟨vb, va, nm_e ⟨vb, nm_e (nm_r (nI_1 a) (nm_r (pk_m1 b') (nm_r (nI_1 k) ?_)))⟩⟩⟩
    refine ih (a + 1) b' (k + 1) _ (by omega) (by omega) (by omega) (by omega) (by omega) ?_ ?_ ?_
    · intro j j1 j2 j3
      by_cases q1 : j = b' + 1
      · subst q1
        rw [pk_us]
        rw [hg2 a (by omega) (by omega) (by omega) (by omega)]
        congr 1
        omega
      · rw [pk_un q1]
        by_cases q2 : j = a
        · subst q2
          rw [pk_us, hg2 (b' + 1) (by omega) (by omega) (by omega) (by omega)]
          congr 1
          omega
        · rw [pk_un q2]
          exact hg1 j j1 j2 (by omega)
    · intro j j1 j2 j3 j4
      rw [pk_un (by omega), pk_un (by omega)]
      exact hg2 j j1 j2 (by omega) (by omega)
    · intro j j1
      rw [pk_un (by omega), pk_un (by omega)]
      exact hg3 j j1
theorem kr_turnw {post : SX → Prop} (fr to' : Nat) (hft : fr ≤ to') (h10 : to' ≤ fr + 10) (h33 : to' ≤ 33)
    (K : ∀ g : Nat → Int32, (∀ j, fr ≤ j → j < to' → g j = a_pile (fr + to' - 1 - j)) → (∀ j, (j < fr ∨ to' ≤ j) → g j = a_pile j) → post (f_drafted, f_open, f_root, f_nextId, f_rowSize, f_keptCount, f_goneCount, f_moveCount, a_draftType, a_draftKey, a_draftParent, a_openNode, a_used, a_type, a_key, a_ident, a_state, a_up, a_child, a_next, a_before, a_becomes, a_isKept, a_byKey, a_stood, a_rowEnd, a_rowBefore, a_list, a_stays, a_order, g)) :
    wpX_turnPile post (f_drafted, f_open, f_root, f_nextId, f_rowSize, f_keptCount, f_goneCount, f_moveCount, a_draftType, a_draftKey, a_draftParent, a_openNode, a_used, a_type, a_key, a_ident, a_state, a_up, a_child, a_next, a_before, a_becomes, a_isKept, a_byKey, a_stood, a_rowEnd, a_rowBefore, a_list, a_stays, a_order, a_pile) (nI fr) (nI to') := by
  unfold wpX_turnPile
  dsimp only
  by_cases z : to' = 0
  · subst z
    have hf : fr = 0 := by omega
    subst hf
    refine nm_r (e' := -1) (by rw [nI_0]; rfl) ⟨1, ?_⟩
    rw [wX_turnPile_10]
    refine br_f (by decide) (br_t (by decide) ?_)
    exact K a_pile (fun j _ h => absurd h (Nat.not_lt_zero j)) (fun j _ => rfl)
  · obtain ⟨t, rfl⟩ : ∃ t, to' = t + 1 := ⟨to' - 1, by omega⟩
    refine nm_r (nI_pred t) ⟨11, ?_⟩
    exact kr_turn fr (t + 1) a_pile hft h10 h33 K 11 fr t 0 a_pile (by omega) (by omega) (by omega) (by omega) (by omega) (fun j j1 j2 j3 => by omega) (fun j _ _ _ _ => rfl) (fun j _ => rfl)
theorem kr_push {post : Int32 → SX → Prop} {J : Int32 → Int32 → Int32 → Int32 → Int32 → Int32 → Int32 → Int32 → Int32 → Int32 → Int32 → (Nat → Int32) → (Nat → Int32) → (Nat → Int32) → (Nat → Int32) → (Nat → Int32) → (Nat → Int32) → (Nat → Int32) → (Nat → Int32) → (Nat → Int32) → (Nat → Int32) → (Nat → Int32) → (Nat → Int32) → (Nat → Int32) → (Nat → Int32) → (Nat → Int32) → (Nat → Int32) → (Nat → Int32) → (Nat → Int32) → (Nat → Int32) → (Nat → Int32) → (Nat → Int32) → (Nat → Int32) → (Nat → Int32) → Prop} {x2 x4 x6 : Int32} (w : Nat) :
    ∀ (rest : List Nat) (t n : Nat) (g : Nat → Int32), rest.length < n → t + rest.length ≤ 10 → w + t + rest.length ≤ 33 → kr_cn a_next rest →
    (∀ g' : Nat → Int32, kr_ar g' (w + t) rest → (∀ j, j < w + t → g' j = g j) → wX_listPlaces_106 post J x2 (nI (w + t + rest.length)) x4 x6 f_drafted f_open f_root f_nextId f_rowSize f_keptCount f_goneCount f_moveCount a_draftType a_draftKey a_draftParent a_openNode a_used a_type a_key a_ident a_state a_up a_child a_next a_before a_becomes a_isKept a_byKey a_stood a_rowEnd a_rowBefore a_list a_stays a_order g') →
    wX_listPlaces_68 post J x2 x4 x6 f_drafted f_open f_root f_nextId f_rowSize f_keptCount f_goneCount f_moveCount n (nI (w + t)) (nI (kr_hd rest 0)) (nI t) a_draftType a_draftKey a_draftParent a_openNode a_used a_type a_key a_ident a_state a_up a_child a_next a_before a_becomes a_isKept a_byKey a_stood a_rowEnd a_rowBefore a_list a_stays a_order g := by
  intro rest
  induction rest with
  | nil =>
    intro t n g h1 h2 h3 h4 K
    obtain ⟨n, rfl⟩ : ∃ n', n = n' + 1 := ⟨n - 1, by simp at h1; omega⟩
    have G := K g kr_ar_nil (fun j _ => rfl)
    rw [wX_listPlaces_68]
    exact br_c (fun _ => G) (fun _ => br_t nI_0 G)
  | cons c cs ih =>
    intro t n g h1 h2 h3 h4 K
    obtain ⟨n, rfl⟩ : ∃ n', n = n' + 1 := ⟨n - 1, by simp at h1; omega⟩
    obtain ⟨⟨c1, c2⟩, hx, hr⟩ := h4
    simp only [List.length_cons] at h1 h2 h3
    have cc : (nI c).toNatClampNeg = c := nI_clamp (by omega)
    have cw : (nI (w + t)).toNatClampNeg = w + t := nI_clamp (by omega)
    rw [wX_listPlaces_68]
    show (_ ≤ nI t → _) ∧ _
    refine br_f (nI_ge (a := t) (b := 10) (by omega) (by decide)) (br_f (nI_ne0 (n := c) (by omega) (by omega)) ?_)
    refine ⟨vp_in_nI (by omega) (by omega), nm_r (e' := upd g (w + t) (nI c)) (by rw [cw]; rfl) (nm_r (nI_1 (w + t)) ⟨vp_in_nI (n := c) (by omega) (by omega), nm_r (e' := nI (kr_hd cs 0)) ?_ (nm_r (nI_1 t) ?_)⟩)⟩
    · exact (congrArg a_next cc).trans hx
    · refine ih (t + 1) n _ (by omega) (by omega) (by omega) hr ?_
      intro g' k1 k2
      have e : w + (t + 1) + cs.length = w + t + (c :: cs).length := by simp only [List.length_cons]; omega
      rw [e]
      refine K g' (kr_ar_cons ?_ k1) ?_
      · rw [k2 (w + t) (by omega), pk_us]
      · intro j hj
        rw [k2 j (by omega), pk_un (by omega)]
/-- the tree below place a lies linked in the nodes -/
def kr_tr (N : Nat) (p nd : Nat → Nat) (a b : Nat) (ch nx : Nat → Int32) : Prop :=
  N ≤ 16 ∧ kr_pre N p ∧ kr_sub N p a b ∧ (∀ t, a ≤ t → t < b → (1 ≤ nd t ∧ nd t ≤ 32) ∧ ch (nd t) = nI (kr_hd ((kr_chl N p t).map nd) 0) ∧ kr_cn nx ((kr_chl N p t).map nd) ∧ (kr_chl N p t).length ≤ 10)
theorem kr_l20 {post : Int32 → SX → Prop} {N a b : Nat} {p nd : Nat → Nat} (H : kr_tr N p nd a b a_child a_next)
    (K : ∀ od g : Nat → Int32, (∀ j, j < b - a → od j = nI (nd (a + j))) → post (nI (b - a)) (f_drafted, f_open, f_root, f_nextId, f_rowSize, f_keptCount, f_goneCount, f_moveCount, a_draftType, a_draftKey, a_draftParent, a_openNode, a_used, a_type, a_key, a_ident, a_state, a_up, a_child, a_next, a_before, a_becomes, a_isKept, a_byKey, a_stood, a_rowEnd, a_rowBefore, a_list, a_stays, od, g)) :
    ∀ (d s n : Nat) (od g : Nat → Int32), a + s + d = b → d < n → (∀ j, j < s → od j = nI (nd (a + j))) → kr_ar g 0 ((kr_stk N p a b (a + s)).map nd).reverse →
    wX_listPlaces_20 post n (nI s) (nI (kr_stk N p a b (a + s)).length) (nI s) f_drafted f_open f_root f_nextId f_rowSize f_keptCount f_goneCount f_moveCount a_draftType a_draftKey a_draftParent a_openNode a_used a_type a_key a_ident a_state a_up a_child a_next a_before a_becomes a_isKept a_byKey a_stood a_rowEnd a_rowBefore a_list a_stays od g := by
  obtain ⟨hN, hp, hs, hH⟩ := H
  have hb := hs.2.1
  intro d
  induction d with
  | zero =>
    intro s n od g e hn hod hg
    obtain ⟨n, rfl⟩ : ∃ n', n = n' + 1 := ⟨n - 1, by omega⟩
    have hz : kr_stk N p a b (a + s) = [] := by rw [show a + s = b by omega]; exact kr_stk_b
    rw [hz]
    have es : s = b - a := by omega
    rw [es] at hod ⊢
    have G := K od g hod
    rw [wX_listPlaces_20]
    exact br_c (fun _ => G) (fun _ => br_t (by decide) G)
  | succ d ih =>
    intro s n od g e hn hod hg
    obtain ⟨n, rfl⟩ : ∃ n', n = n' + 1 := ⟨n - 1, by omega⟩
    have hhd := kr_stk_hd (a := a) (t := a + s) hp hb (by omega) (by omega)
    have hnx := kr_stk_nx (t := a + s) hp hs (by omega) (by omega)
    have hle := kr_stk_le (n := N) (p := p) (a := a) (b := b) (t := a + s + 1)
    obtain ⟨⟨d1, d2⟩, hch, hcn, hten⟩ := hH (a + s) (by omega) (by omega)
    rw [hnx, List.length_append] at hle
    rw [hhd] at hg ⊢
    rw [List.map_cons, List.reverse_cons] at hg
    obtain ⟨g1, g2⟩ := kr_ar_app.mp hg
    have g3 := g2 0 (by simp)
    simp only [List.length_reverse, List.length_map, Nat.zero_add, Nat.add_zero, List.getElem_cons_zero] at g3
    have hlr : (kr_rst N p b (a + s)).length ≤ 16 := by omega
    have cw : (nI (kr_rst N p b (a + s)).length).toNatClampNeg = (kr_rst N p b (a + s)).length := nI_clamp (by omega)
    have cs : (nI s).toNatClampNeg = s := nI_clamp (by omega)
    have cn : (nI (nd (a + s))).toNatClampNeg = nd (a + s) := nI_clamp (by omega)
    rw [List.length_cons, wX_listPlaces_20]
    refine br_f (nI_ge (a := s) (b := 33) (by omega) (by decide)) (br_f (nI_nle (by omega) (by omega)) ?_)
    refine nm_r (pk_m1 _) ⟨vp_in_nI (by omega) (by omega), nm_r (e' := nI (nd (a + s))) ((congrArg g cw).trans g3) ⟨vp_in_nI (by omega) (by omega), nm_r (e' := upd od s (nI (nd (a + s)))) (by rw [cs]) (nm_r (nI_1 s) ⟨vp_in_nI (by omega) (by omega), nm_r (e' := nI (kr_hd ((kr_chl N p (a + s)).map nd) 0)) ((congrArg a_child cn).trans hch) ⟨11, ?_⟩⟩)⟩⟩
    have hlm : ((kr_chl N p (a + s)).map nd).length = (kr_chl N p (a + s)).length := List.length_map ..
    refine kr_push (kr_rst N p b (a + s)).length ((kr_chl N p (a + s)).map nd) 0 11 g (by omega) (by omega) (by omega) hcn ?_
    intro g' k1 k2
    unfold wX_listPlaces_106
    refine kr_turnw _ _ (by omega) (by omega) (by omega) ?_
    intro g'' k3 k4
    refine nm_r (nI_1 s) ?_
    have e2 : nI ((kr_rst N p b (a + s)).length + 0 + ((kr_chl N p (a + s)).map nd).length) = nI (kr_stk N p a b (a + (s + 1))).length := by
      rw [show a + (s + 1) = a + s + 1 by omega, hnx, List.length_append]
      congr 1
      omega
    rw [e2]
    refine ih (s + 1) n _ g'' (by omega) (by omega) ?_ ?_
    · intro j hj
      by_cases q : j = s
      · rw [q, pk_us]
      · rw [pk_un q]
        exact hod j (by omega)
    · rw [show a + (s + 1) = a + s + 1 by omega, hnx, List.map_append, List.reverse_append]
      refine kr_ar_app.mpr ⟨?_, ?_⟩
      · refine kr_ar_congr g1 ?_
        intro j j1 j2
        simp only [List.length_reverse, List.length_map] at j2
        rw [k4 j (Or.inl (by omega)), k2 j (by omega)]
      · have e3 : 0 + ((kr_rst N p b (a + s)).map nd).reverse.length = (kr_rst N p b (a + s)).length + 0 := by
          simp only [List.length_reverse, List.length_map]; omega
        rw [e3]
        refine kr_ar_rev k1 ?_
        intro j j1 j2
        exact k3 j (by omega) j2
theorem kr_listw {post : Int32 → SX → Prop} {N a b : Nat} {p nd : Nat → Nat} (H : kr_tr N p nd a b a_child a_next)
    (K : ∀ od g : Nat → Int32, (∀ j, j < b - a → od j = nI (nd (a + j))) → post (nI (b - a)) (f_drafted, f_open, f_root, f_nextId, f_rowSize, f_keptCount, f_goneCount, f_moveCount, a_draftType, a_draftKey, a_draftParent, a_openNode, a_used, a_type, a_key, a_ident, a_state, a_up, a_child, a_next, a_before, a_becomes, a_isKept, a_byKey, a_stood, a_rowEnd, a_rowBefore, a_list, a_stays, od, g)) :
    wpX_listPlaces post (f_drafted, f_open, f_root, f_nextId, f_rowSize, f_keptCount, f_goneCount, f_moveCount, a_draftType, a_draftKey, a_draftParent, a_openNode, a_used, a_type, a_key, a_ident, a_state, a_up, a_child, a_next, a_before, a_becomes, a_isKept, a_byKey, a_stood, a_rowEnd, a_rowBefore, a_list, a_stays, a_order, a_pile) (nI (nd a)) := by
  have hs := H.2.2.1
  obtain ⟨⟨d1, d2⟩, _⟩ := H.2.2.2 a (Nat.le_refl a) hs.1
  have h1 := hs.1
  unfold wpX_listPlaces
  dsimp only
  refine br_f (nI_ne0 (by omega) (by omega)) (nm_e ⟨b - a + 1, ?_⟩)
  have e : kr_stk N p a b (a + 0) = [a] := kr_stk_a H.2.1 hs
  have k := kr_l20 (post := post) H K (b - a) 0 (b - a + 1) a_order (upd a_pile 0 (nI (nd a))) (by omega) (by omega) (fun j h => absurd h (Nat.not_lt_zero j)) (by rw [e]; exact kr_ar_one pk_us)
  rw [e] at k
  exact k
theorem kr_listw0 {post : Int32 → SX → Prop} (K : post 0 (f_drafted, f_open, f_root, f_nextId, f_rowSize, f_keptCount, f_goneCount, f_moveCount, a_draftType, a_draftKey, a_draftParent, a_openNode, a_used, a_type, a_key, a_ident, a_state, a_up, a_child, a_next, a_before, a_becomes, a_isKept, a_byKey, a_stood, a_rowEnd, a_rowBefore, a_list, a_stays, a_order, a_pile)) : wpX_listPlaces post (f_drafted, f_open, f_root, f_nextId, f_rowSize, f_keptCount, f_goneCount, f_moveCount, a_draftType, a_draftKey, a_draftParent, a_openNode, a_used, a_type, a_key, a_ident, a_state, a_up, a_child, a_next, a_before, a_becomes, a_isKept, a_byKey, a_stood, a_rowEnd, a_rowBefore, a_list, a_stays, a_order, a_pile) 0 := by
  unfold wpX_listPlaces
  dsimp only
  exact br_t rfl K
end
end
section
/-- a tree by places: n places, parents p, in preorder; keys below ten, different among siblings -/
def kr_shp (n : Nat) (p : Nat → Nat) (par key : Nat → Int32) : Prop :=
  n ≤ 16 ∧ (0 < n → par 0 = -1) ∧ (∀ i, 0 < i → i < n → par i = nI (p i)) ∧ kr_pre n p ∧ (∀ i, i < n → ∃ k, k < 10 ∧ key i = nI k) ∧ (∀ i j, 0 < i → i < j → j < n → p i = p j → key i ≠ key j)
/-- the nodes of the draft that are not closed yet -/
def kr_opn (m op : Nat) (dp q : Nat → Nat) (oN : Nat → Int32) (last : Int32) : Prop :=
  op ≤ m ∧ (op = 0 → last = -1) ∧ (0 < op → last = nI (q (op - 1)) ∧ q 0 = 0) ∧ (∀ k, k < op → oN k = nI (q k) ∧ q k < m ∧ (∀ j, q k < j → j < m → q k ≤ dp j)) ∧ (∀ k, k + 1 < op → dp (q (k + 1)) = q k) ∧ (∀ k l, k < l → l < op → q k < q l)
def kr_rt (N : Nat) (nd : Nat → Nat) : Int32 := if N = 0 then 0 else nI (nd 0)
/-- the shown tree lies linked in the pool -/
def kr_xt (N : Nat) (p nd : Nat → Nat) (root : Int32) (us ty ky id' st up ch nx bf yt yk yi ys : Nat → Int32) : Prop :=
  root = kr_rt N nd ∧ (∀ i, i < N → 1 ≤ nd i ∧ nd i ≤ 32) ∧ (∀ i j, i < N → j < N → nd i = nd j → i = j) ∧
  (∀ i, i < N → ty (nd i) = yt i ∧ ky (nd i) = yk i ∧ id' (nd i) = yi i ∧ st (nd i) = ys i) ∧ (0 < N → up (nd 0) = 0) ∧
  (∀ i, i < N → kr_kd ch nx bf up (nd i) ((kr_chl N p i).map nd)) ∧ (∀ x, 1 ≤ x → x ≤ 32 → (us x = 0 ↔ ∀ i, i < N → nd i ≠ x))
def kr_rel (f_drafted f_open f_root f_nextId f_rowSize f_keptCount f_goneCount f_moveCount : Int32) (a_draftType a_draftKey a_draftParent a_openNode a_used a_type a_key a_ident a_state a_up a_child a_next a_before a_becomes a_isKept a_byKey a_stood a_rowEnd a_rowBefore a_list a_stays a_order a_pile : Nat → Int32) (g_size g_drafted g_last g_opened g_given g_kept g_gone g_moves : Int32) (b_types b_keys b_parents b_ids b_states b_draftTypes b_draftKeys b_draftParents b_origins b_oldIds b_oldStates b_row b_best : Nat → Int32) : Prop :=
  ∃ (N m op : Nat) (p dp q nd : Nat → Nat), f_drafted = nI m ∧ g_drafted = nI m ∧ f_open = nI op ∧ g_opened = nI op ∧ g_size = nI N ∧ f_nextId = g_given ∧ f_keptCount = g_kept ∧ f_goneCount = g_gone ∧ f_moveCount = g_moves ∧ a_draftType = b_draftTypes ∧ a_draftKey = b_draftKeys ∧ a_draftParent = b_draftParents ∧
    kr_shp N p b_parents b_keys ∧ kr_shp m dp b_draftParents b_draftKeys ∧ kr_opn m op dp q a_openNode g_last ∧ kr_xt N p nd f_root a_used a_type a_key a_ident a_state a_up a_child a_next a_before b_types b_keys b_ids b_states
def i_Rel (k : Nat) (u : SX) (v : SY) : Prop := kr_rel u.1 u.2.1 u.2.2.1 u.2.2.2.1 u.2.2.2.2.1 u.2.2.2.2.2.1 u.2.2.2.2.2.2.1 u.2.2.2.2.2.2.2.1 u.2.2.2.2.2.2.2.2.1 u.2.2.2.2.2.2.2.2.2.1 u.2.2.2.2.2.2.2.2.2.2.1 u.2.2.2.2.2.2.2.2.2.2.2.1 u.2.2.2.2.2.2.2.2.2.2.2.2.1 u.2.2.2.2.2.2.2.2.2.2.2.2.2.1 u.2.2.2.2.2.2.2.2.2.2.2.2.2.2.1 u.2.2.2.2.2.2.2.2.2.2.2.2.2.2.2.1 u.2.2.2.2.2.2.2.2.2.2.2.2.2.2.2.2.1 u.2.2.2.2.2.2.2.2.2.2.2.2.2.2.2.2.2.1 u.2.2.2.2.2.2.2.2.2.2.2.2.2.2.2.2.2.2.1 u.2.2.2.2.2.2.2.2.2.2.2.2.2.2.2.2.2.2.2.1 u.2.2.2.2.2.2.2.2.2.2.2.2.2.2.2.2.2.2.2.2.1 u.2.2.2.2.2.2.2.2.2.2.2.2.2.2.2.2.2.2.2.2.2.1 u.2.2.2.2.2.2.2.2.2.2.2.2.2.2.2.2.2.2.2.2.2.2.1 u.2.2.2.2.2.2.2.2.2.2.2.2.2.2.2.2.2.2.2.2.2.2.2.1 u.2.2.2.2.2.2.2.2.2.2.2.2.2.2.2.2.2.2.2.2.2.2.2.2.1 u.2.2.2.2.2.2.2.2.2.2.2.2.2.2.2.2.2.2.2.2.2.2.2.2.2.1 u.2.2.2.2.2.2.2.2.2.2.2.2.2.2.2.2.2.2.2.2.2.2.2.2.2.2.1 u.2.2.2.2.2.2.2.2.2.2.2.2.2.2.2.2.2.2.2.2.2.2.2.2.2.2.2.1 u.2.2.2.2.2.2.2.2.2.2.2.2.2.2.2.2.2.2.2.2.2.2.2.2.2.2.2.2.1 u.2.2.2.2.2.2.2.2.2.2.2.2.2.2.2.2.2.2.2.2.2.2.2.2.2.2.2.2.2.1 u.2.2.2.2.2.2.2.2.2.2.2.2.2.2.2.2.2.2.2.2.2.2.2.2.2.2.2.2.2.2 v.1 v.2.1 v.2.2.1 v.2.2.2.1 v.2.2.2.2.1 v.2.2.2.2.2.1 v.2.2.2.2.2.2.1 v.2.2.2.2.2.2.2.1 v.2.2.2.2.2.2.2.2.1 v.2.2.2.2.2.2.2.2.2.1 v.2.2.2.2.2.2.2.2.2.2.1 v.2.2.2.2.2.2.2.2.2.2.2.1 v.2.2.2.2.2.2.2.2.2.2.2.2.1 v.2.2.2.2.2.2.2.2.2.2.2.2.2.1 v.2.2.2.2.2.2.2.2.2.2.2.2.2.2.1 v.2.2.2.2.2.2.2.2.2.2.2.2.2.2.2.1 v.2.2.2.2.2.2.2.2.2.2.2.2.2.2.2.2.1 v.2.2.2.2.2.2.2.2.2.2.2.2.2.2.2.2.2.1 v.2.2.2.2.2.2.2.2.2.2.2.2.2.2.2.2.2.2.1 v.2.2.2.2.2.2.2.2.2.2.2.2.2.2.2.2.2.2.2.1 v.2.2.2.2.2.2.2.2.2.2.2.2.2.2.2.2.2.2.2.2
theorem i_up {k : Nat} {u : SX} {v : SY} (h : i_Rel k u v) : i_Rel (k + 3) u v := h
theorem kr_el0 {P : SX → SY → Prop} (h : ∀ (N m op : Nat) (p dp q nd : Nat → Nat) (f_root f_rowSize : Int32) (a_openNode a_used a_type a_key a_ident a_state a_up a_child a_next a_before a_becomes a_isKept a_byKey a_stood a_rowEnd a_rowBefore a_list a_stays a_order a_pile : Nat → Int32) (g_last g_given g_kept g_gone g_moves : Int32) (b_types b_keys b_parents b_ids b_states b_draftTypes b_draftKeys b_draftParents b_origins b_oldIds b_oldStates b_row b_best : Nat → Int32), kr_shp N p b_parents b_keys → kr_shp m dp b_draftParents b_draftKeys → kr_opn m op dp q a_openNode g_last → kr_xt N p nd f_root a_used a_type a_key a_ident a_state a_up a_child a_next a_before b_types b_keys b_ids b_states → P (nI m, nI op, f_root, g_given, f_rowSize, g_kept, g_gone, g_moves, b_draftTypes, b_draftKeys, b_draftParents, a_openNode, a_used, a_type, a_key, a_ident, a_state, a_up, a_child, a_next, a_before, a_becomes, a_isKept, a_byKey, a_stood, a_rowEnd, a_rowBefore, a_list, a_stays, a_order, a_pile) (nI N, nI m, g_last, nI op, g_given, g_kept, g_gone, g_moves, b_types, b_keys, b_parents, b_ids, b_states, b_draftTypes, b_draftKeys, b_draftParents, b_origins, b_oldIds, b_oldStates, b_row, b_best)) (f_drafted f_open f_root f_nextId f_rowSize f_keptCount f_goneCount f_moveCount : Int32) (a_draftType a_draftKey a_draftParent a_openNode a_used a_type a_key a_ident a_state a_up a_child a_next a_before a_becomes a_isKept a_byKey a_stood a_rowEnd a_rowBefore a_list a_stays a_order a_pile : Nat → Int32) (g_size g_drafted g_last g_opened g_given g_kept g_gone g_moves : Int32) (b_types b_keys b_parents b_ids b_states b_draftTypes b_draftKeys b_draftParents b_origins b_oldIds b_oldStates b_row b_best : Nat → Int32) (R : kr_rel f_drafted f_open f_root f_nextId f_rowSize f_keptCount f_goneCount f_moveCount a_draftType a_draftKey a_draftParent a_openNode a_used a_type a_key a_ident a_state a_up a_child a_next a_before a_becomes a_isKept a_byKey a_stood a_rowEnd a_rowBefore a_list a_stays a_order a_pile g_size g_drafted g_last g_opened g_given g_kept g_gone g_moves b_types b_keys b_parents b_ids b_states b_draftTypes b_draftKeys b_draftParents b_origins b_oldIds b_oldStates b_row b_best) : P (f_drafted, f_open, f_root, f_nextId, f_rowSize, f_keptCount, f_goneCount, f_moveCount, a_draftType, a_draftKey, a_draftParent, a_openNode, a_used, a_type, a_key, a_ident, a_state, a_up, a_child, a_next, a_before, a_becomes, a_isKept, a_byKey, a_stood, a_rowEnd, a_rowBefore, a_list, a_stays, a_order, a_pile) (g_size, g_drafted, g_last, g_opened, g_given, g_kept, g_gone, g_moves, b_types, b_keys, b_parents, b_ids, b_states, b_draftTypes, b_draftKeys, b_draftParents, b_origins, b_oldIds, b_oldStates, b_row, b_best) := by
  obtain ⟨N, m, op, p, dp, q, nd, e1, e2, e3, e4, e5, e6, e7, e8, e9, e10, e11, e12, r1, r2, r3, r4⟩ := R
  subst e1 e2 e3 e4 e5 e6 e7 e8 e9 e10 e11 e12
  exact h N m op p dp q nd f_root f_rowSize a_openNode a_used a_type a_key a_ident a_state a_up a_child a_next a_before a_becomes a_isKept a_byKey a_stood a_rowEnd a_rowBefore a_list a_stays a_order a_pile g_last f_nextId f_keptCount f_goneCount f_moveCount b_types b_keys b_parents b_ids b_states a_draftType a_draftKey a_draftParent b_origins b_oldIds b_oldStates b_row b_best r1 r2 r3 r4
theorem kr_el {P : SX → SY → Prop} {k : Nat} {u : SX} {v : SY} (h : ∀ (N m op : Nat) (p dp q nd : Nat → Nat) (f_root f_rowSize : Int32) (a_openNode a_used a_type a_key a_ident a_state a_up a_child a_next a_before a_becomes a_isKept a_byKey a_stood a_rowEnd a_rowBefore a_list a_stays a_order a_pile : Nat → Int32) (g_last g_given g_kept g_gone g_moves : Int32) (b_types b_keys b_parents b_ids b_states b_draftTypes b_draftKeys b_draftParents b_origins b_oldIds b_oldStates b_row b_best : Nat → Int32), kr_shp N p b_parents b_keys → kr_shp m dp b_draftParents b_draftKeys → kr_opn m op dp q a_openNode g_last → kr_xt N p nd f_root a_used a_type a_key a_ident a_state a_up a_child a_next a_before b_types b_keys b_ids b_states → P (nI m, nI op, f_root, g_given, f_rowSize, g_kept, g_gone, g_moves, b_draftTypes, b_draftKeys, b_draftParents, a_openNode, a_used, a_type, a_key, a_ident, a_state, a_up, a_child, a_next, a_before, a_becomes, a_isKept, a_byKey, a_stood, a_rowEnd, a_rowBefore, a_list, a_stays, a_order, a_pile) (nI N, nI m, g_last, nI op, g_given, g_kept, g_gone, g_moves, b_types, b_keys, b_parents, b_ids, b_states, b_draftTypes, b_draftKeys, b_draftParents, b_origins, b_oldIds, b_oldStates, b_row, b_best)) (I : i_Rel k u v) : P u v :=
  kr_el0 h u.1 u.2.1 u.2.2.1 u.2.2.2.1 u.2.2.2.2.1 u.2.2.2.2.2.1 u.2.2.2.2.2.2.1 u.2.2.2.2.2.2.2.1 u.2.2.2.2.2.2.2.2.1 u.2.2.2.2.2.2.2.2.2.1 u.2.2.2.2.2.2.2.2.2.2.1 u.2.2.2.2.2.2.2.2.2.2.2.1 u.2.2.2.2.2.2.2.2.2.2.2.2.1 u.2.2.2.2.2.2.2.2.2.2.2.2.2.1 u.2.2.2.2.2.2.2.2.2.2.2.2.2.2.1 u.2.2.2.2.2.2.2.2.2.2.2.2.2.2.2.1 u.2.2.2.2.2.2.2.2.2.2.2.2.2.2.2.2.1 u.2.2.2.2.2.2.2.2.2.2.2.2.2.2.2.2.2.1 u.2.2.2.2.2.2.2.2.2.2.2.2.2.2.2.2.2.2.1 u.2.2.2.2.2.2.2.2.2.2.2.2.2.2.2.2.2.2.2.1 u.2.2.2.2.2.2.2.2.2.2.2.2.2.2.2.2.2.2.2.2.1 u.2.2.2.2.2.2.2.2.2.2.2.2.2.2.2.2.2.2.2.2.2.1 u.2.2.2.2.2.2.2.2.2.2.2.2.2.2.2.2.2.2.2.2.2.2.1 u.2.2.2.2.2.2.2.2.2.2.2.2.2.2.2.2.2.2.2.2.2.2.2.1 u.2.2.2.2.2.2.2.2.2.2.2.2.2.2.2.2.2.2.2.2.2.2.2.2.1 u.2.2.2.2.2.2.2.2.2.2.2.2.2.2.2.2.2.2.2.2.2.2.2.2.2.1 u.2.2.2.2.2.2.2.2.2.2.2.2.2.2.2.2.2.2.2.2.2.2.2.2.2.2.1 u.2.2.2.2.2.2.2.2.2.2.2.2.2.2.2.2.2.2.2.2.2.2.2.2.2.2.2.1 u.2.2.2.2.2.2.2.2.2.2.2.2.2.2.2.2.2.2.2.2.2.2.2.2.2.2.2.2.1 u.2.2.2.2.2.2.2.2.2.2.2.2.2.2.2.2.2.2.2.2.2.2.2.2.2.2.2.2.2.1 u.2.2.2.2.2.2.2.2.2.2.2.2.2.2.2.2.2.2.2.2.2.2.2.2.2.2.2.2.2.2 v.1 v.2.1 v.2.2.1 v.2.2.2.1 v.2.2.2.2.1 v.2.2.2.2.2.1 v.2.2.2.2.2.2.1 v.2.2.2.2.2.2.2.1 v.2.2.2.2.2.2.2.2.1 v.2.2.2.2.2.2.2.2.2.1 v.2.2.2.2.2.2.2.2.2.2.1 v.2.2.2.2.2.2.2.2.2.2.2.1 v.2.2.2.2.2.2.2.2.2.2.2.2.1 v.2.2.2.2.2.2.2.2.2.2.2.2.2.1 v.2.2.2.2.2.2.2.2.2.2.2.2.2.2.1 v.2.2.2.2.2.2.2.2.2.2.2.2.2.2.2.1 v.2.2.2.2.2.2.2.2.2.2.2.2.2.2.2.2.1 v.2.2.2.2.2.2.2.2.2.2.2.2.2.2.2.2.2.1 v.2.2.2.2.2.2.2.2.2.2.2.2.2.2.2.2.2.2.1 v.2.2.2.2.2.2.2.2.2.2.2.2.2.2.2.2.2.2.2.1 v.2.2.2.2.2.2.2.2.2.2.2.2.2.2.2.2.2.2.2.2 I
theorem kr_in {k : Nat} {N m op : Nat} {p dp q nd : Nat → Nat} {f_root f_rowSize : Int32} {a_openNode a_used a_type a_key a_ident a_state a_up a_child a_next a_before a_becomes a_isKept a_byKey a_stood a_rowEnd a_rowBefore a_list a_stays a_order a_pile : Nat → Int32} {g_last g_given g_kept g_gone g_moves : Int32} {b_types b_keys b_parents b_ids b_states b_draftTypes b_draftKeys b_draftParents b_origins b_oldIds b_oldStates b_row b_best : Nat → Int32} (r1 : kr_shp N p b_parents b_keys) (r2 : kr_shp m dp b_draftParents b_draftKeys) (r3 : kr_opn m op dp q a_openNode g_last) (r4 : kr_xt N p nd f_root a_used a_type a_key a_ident a_state a_up a_child a_next a_before b_types b_keys b_ids b_states) : i_Rel k (nI m, nI op, f_root, g_given, f_rowSize, g_kept, g_gone, g_moves, b_draftTypes, b_draftKeys, b_draftParents, a_openNode, a_used, a_type, a_key, a_ident, a_state, a_up, a_child, a_next, a_before, a_becomes, a_isKept, a_byKey, a_stood, a_rowEnd, a_rowBefore, a_list, a_stays, a_order, a_pile) (nI N, nI m, g_last, nI op, g_given, g_kept, g_gone, g_moves, b_types, b_keys, b_parents, b_ids, b_states, b_draftTypes, b_draftKeys, b_draftParents, b_origins, b_oldIds, b_oldStates, b_row, b_best) :=
  ⟨N, m, op, p, dp, q, nd, rfl, rfl, rfl, rfl, rfl, rfl, rfl, rfl, rfl, rfl, rfl, rfl, r1, r2, r3, r4⟩
end
section
theorem kr_par {n : Nat} {p : Nat → Nat} {par key : Nat → Int32} (h : kr_shp n p par key) {i j : Nat} (hi : i < 16) (hj : j < n) : par j = nI i ↔ i < j ∧ p j = i := by
  obtain ⟨h1, h2, h3, h4, h5, h6⟩ := h
  by_cases z : j = 0
  · subst z
    rw [h2 hj]
    constructor
    · intro e
      have k := nI_pos (n := i) (by omega)
      rw [← e] at k
      exact absurd (by decide) k
    · intro e; omega
  · have k := h4.1 j (by omega) hj
    rw [h3 j (by omega) hj, nI_eq (by omega) (by omega)]
    constructor
    · intro e; omega
    · intro e; omega
theorem kr_ten {n : Nat} {p : Nat → Nat} {par key : Nat → Int32} (h : kr_shp n p par key) (t : Nat) : (kr_chl n p t).length ≤ 10 := by
  obtain ⟨h1, h2, h3, h4, h5, h6⟩ := h
  refine kr_le10 (K := fun c => (key c).toNatClampNeg) kr_chl_nd ?_ ?_
  · intro a ha b hb e
    obtain ⟨a1, a2, a3⟩ := kr_chl_mem.mp ha
    obtain ⟨b1, b2, b3⟩ := kr_chl_mem.mp hb
    obtain ⟨x, x1, x2⟩ := h5 a a1
    obtain ⟨y, y1, y2⟩ := h5 b b1
    have e' : (key a).toNatClampNeg = (key b).toNatClampNeg := e
    rw [x2, y2, nI_clamp (by omega), nI_clamp (by omega)] at e'
    by_cases q : a < b
    · exact absurd (by rw [x2, y2, e']) (h6 a b (by omega) q b1 (by omega))
    · by_cases q2 : b < a
      · exact absurd (by rw [x2, y2, e']) (h6 b a (by omega) q2 a1 (by omega))
      · omega
  · intro a ha
    obtain ⟨a1, a2, a3⟩ := kr_chl_mem.mp ha
    obtain ⟨x, x1, x2⟩ := h5 a a1
    show (key a).toNatClampNeg < 10
    rw [x2, nI_clamp (by omega)]
    exact x1
theorem kr_tr_root {N : Nat} {p nd : Nat → Nat} {par key : Nat → Int32} {root : Int32} {us ty ky id' st up ch nx bf yt yk yi ys : Nat → Int32} (h : kr_shp N p par key) (t : kr_xt N p nd root us ty ky id' st up ch nx bf yt yk yi ys) (h0 : 0 < N) : kr_tr N p nd 0 N ch nx := by
  obtain ⟨t1, t2, t3, t4, t5, t6, t7⟩ := t
  refine ⟨h.1, h.2.2.2.1, ⟨h0, Nat.le_refl N, fun j _ _ => Nat.zero_le _, Or.inl rfl⟩, ?_⟩
  intro i _ hi
  have k := t6 i hi
  exact ⟨t2 i hi, k.1, kr_cn_sg k.2.1 k.2.2.2.2, kr_ten h i⟩
section
variable {f_drafted f_open f_root f_nextId f_rowSize f_keptCount f_goneCount f_moveCount : Int32} {a_draftType a_draftKey a_draftParent a_openNode a_used a_type a_key a_ident a_state a_up a_child a_next a_before a_becomes a_isKept a_byKey a_stood a_rowEnd a_rowBefore a_list a_stays a_order a_pile : Nat → Int32} {g_size g_drafted g_last g_opened g_given g_kept g_gone g_moves : Int32} {b_types b_keys b_parents b_ids b_states b_draftTypes b_draftKeys b_draftParents b_origins b_oldIds b_oldStates b_row b_best : Nat → Int32} {N : Nat} {p nd : Nat → Nat}
theorem kr_rootw {post : Int32 → SX → Prop} (r1 : kr_shp N p b_parents b_keys) (r4 : kr_xt N p nd f_root a_used a_type a_key a_ident a_state a_up a_child a_next a_before b_types b_keys b_ids b_states)
    (K : ∀ od g : Nat → Int32, (∀ j, j < N → od j = nI (nd j)) → post (nI N) (f_drafted, f_open, f_root, f_nextId, f_rowSize, f_keptCount, f_goneCount, f_moveCount, a_draftType, a_draftKey, a_draftParent, a_openNode, a_used, a_type, a_key, a_ident, a_state, a_up, a_child, a_next, a_before, a_becomes, a_isKept, a_byKey, a_stood, a_rowEnd, a_rowBefore, a_list, a_stays, od, g)) : wpX_listPlaces post (f_drafted, f_open, f_root, f_nextId, f_rowSize, f_keptCount, f_goneCount, f_moveCount, a_draftType, a_draftKey, a_draftParent, a_openNode, a_used, a_type, a_key, a_ident, a_state, a_up, a_child, a_next, a_before, a_becomes, a_isKept, a_byKey, a_stood, a_rowEnd, a_rowBefore, a_list, a_stays, a_order, a_pile) f_root := by
  have hr : f_root = kr_rt N nd := r4.1
  unfold kr_rt at hr
  by_cases z : N = 0
  · rw [if_pos z] at hr
    rw [hr]
    refine kr_listw0 ?_
    subst z
    subst hr
    exact K a_order a_pile (fun j h => absurd h (Nat.not_lt_zero j))
  · rw [if_neg z] at hr
    rw [hr]
    refine kr_listw (kr_tr_root r1 r4 (by omega)) ?_
    intro od g ho
    rw [← hr]
    refine K od g ?_
    intro j hj
    have k := ho j (by omega)
    rw [Nat.zero_add] at k
    exact k
theorem kr_nodew {post : Int32 → SX → Prop} {v1 : Int32} (r1 : kr_shp N p b_parents b_keys) (r4 : kr_xt N p nd f_root a_used a_type a_key a_ident a_state a_up a_child a_next a_before b_types b_keys b_ids b_states)
    (K0 : (v1 < 0 ∨ nI N ≤ v1) → ∀ od g : Nat → Int32, post 0 (f_drafted, f_open, f_root, f_nextId, f_rowSize, f_keptCount, f_goneCount, f_moveCount, a_draftType, a_draftKey, a_draftParent, a_openNode, a_used, a_type, a_key, a_ident, a_state, a_up, a_child, a_next, a_before, a_becomes, a_isKept, a_byKey, a_stood, a_rowEnd, a_rowBefore, a_list, a_stays, od, g))
    (K1 : ∀ i, i < N → v1 = nI i → ∀ od g : Nat → Int32, (∀ j, j < N → od j = nI (nd j)) → post (nI (nd i)) (f_drafted, f_open, f_root, f_nextId, f_rowSize, f_keptCount, f_goneCount, f_moveCount, a_draftType, a_draftKey, a_draftParent, a_openNode, a_used, a_type, a_key, a_ident, a_state, a_up, a_child, a_next, a_before, a_becomes, a_isKept, a_byKey, a_stood, a_rowEnd, a_rowBefore, a_list, a_stays, od, g)) : wpX_nodeAt post (f_drafted, f_open, f_root, f_nextId, f_rowSize, f_keptCount, f_goneCount, f_moveCount, a_draftType, a_draftKey, a_draftParent, a_openNode, a_used, a_type, a_key, a_ident, a_state, a_up, a_child, a_next, a_before, a_becomes, a_isKept, a_byKey, a_stood, a_rowEnd, a_rowBefore, a_list, a_stays, a_order, a_pile) v1 := by
  have hN := r1.1
  unfold wpX_nodeAt
  dsimp only
  refine kr_rootw r1 r4 ?_
  intro od g ho
  rcases pk_ix v1 (n := N) (by omega) with h | h | ⟨i, hi, rfl⟩
  · exact br_t h (K0 (Or.inl h) od g)
  · refine br_c (fun z => K0 (Or.inl z) od g) (fun z => br_f ?_ (K0 (Or.inr h) od g))
    exact Int32.not_lt.mpr h
  · refine br_f (nI_pos (by omega)) (br_t (nI_lt hi (by omega)) ⟨vp_in_nI (by omega) (by omega), ?_⟩)
    have e : od (nI i).toNatClampNeg = nI (nd i) := by rw [nI_clamp (by omega)]; exact ho i hi
    have k := K1 i hi rfl od g ho
    rw [← e] at k
    exact k
theorem kr_isp {post : Int32 → Prop} {v1 : Int32} (hN : N ≤ 16) (K0 : (v1 < 0 ∨ nI N ≤ v1) → post 0) (K1 : ∀ i, i < N → v1 = nI i → post 1) : wpY_isPlace post (nI N, g_drafted, g_last, g_opened, g_given, g_kept, g_gone, g_moves, b_types, b_keys, b_parents, b_ids, b_states, b_draftTypes, b_draftKeys, b_draftParents, b_origins, b_oldIds, b_oldStates, b_row, b_best) v1 := by
  unfold wpY_isPlace
  dsimp only
  rcases pk_ix v1 (n := N) (by omega) with h | h | ⟨i, hi, rfl⟩
  · exact br_t h (K0 (Or.inl h))
  · exact br_c (fun z => K0 (Or.inl z)) (fun z => br_t h (K0 (Or.inr h)))
  · exact br_f (nI_pos (by omega)) (br_f (nI_ge hi (by omega)) (K1 i hi rfl))
theorem kr_out {v1 : Int32} {i : Nat} (hN : N ≤ 16) (h : v1 < 0 ∨ nI N ≤ v1) (hi : i < N) : v1 ≠ nI i := by
  rintro rfl
  rcases h with h | h
  · exact nI_pos (by omega) h
  · exact nI_ge hi (by omega) h
def kr_dg (yi ys : Nat → Int32) : Nat → Int32
  | 0 => 0
  | i + 1 => kr_dg yi ys i + (((nI i + 1) * (yi i + 1)) * (ys i + 1))
theorem kr_digX {post : Int32 → SX → Prop} (hN : N ≤ 16) (hd : ∀ i, i < N → 1 ≤ nd i ∧ nd i ≤ 32) (hi : ∀ i, i < N → a_ident (nd i) = b_ids i ∧ a_state (nd i) = b_states i) (ho : ∀ j, j < N → a_order j = nI (nd j)) (K : post (kr_dg b_ids b_states N) (f_drafted, f_open, f_root, f_nextId, f_rowSize, f_keptCount, f_goneCount, f_moveCount, a_draftType, a_draftKey, a_draftParent, a_openNode, a_used, a_type, a_key, a_ident, a_state, a_up, a_child, a_next, a_before, a_becomes, a_isKept, a_byKey, a_stood, a_rowEnd, a_rowBefore, a_list, a_stays, a_order, a_pile)) :
    ∀ (d i n : Nat), i + d = N → d < n → wX_digest_13 post (nI N) f_drafted f_open f_root f_nextId f_rowSize f_keptCount f_goneCount f_moveCount a_draftType a_draftKey a_draftParent a_openNode a_used a_type a_key a_ident a_state a_up a_child a_next a_before a_becomes a_isKept a_byKey a_stood a_rowEnd a_rowBefore a_list a_stays a_order a_pile n (kr_dg b_ids b_states i) (nI i) := by
  intro d
  induction d with
  | zero =>
    intro i n e hn
    obtain ⟨n, rfl⟩ : ∃ n', n = n' + 1 := ⟨n - 1, by omega⟩
    rw [wX_digest_13]
    have e' : i = N := by omega
    rw [e']
    exact br_t (nI_le (Nat.le_refl N) (by omega)) K
  | succ d ih =>
    intro i n e hn
    obtain ⟨n, rfl⟩ : ∃ n', n = n' + 1 := ⟨n - 1, by omega⟩
    have di := hd i (by omega)
    have ii := hi i (by omega)
    have ci : (nI i).toNatClampNeg = i := nI_clamp (by omega)
    have cn : (nI (nd i)).toNatClampNeg = nd i := nI_clamp (by omega)
    rw [wX_digest_13]
    dsimp only
    rw [ci, ho i (by omega), cn, ii.1, ii.2]
    have v1 : vp_in (nI i) 33 := vp_in_nI (by omega) (by omega)
    have v2 : vp_in (nI (nd i)) 33 := vp_in_nI (by omega) (by omega)
    refine br_f (nI_ge (by omega) (by omega)) ⟨v1, v2, v1, v2, nm_e (nm_r (nI_1 i) ?_)⟩
    exact ih (i + 1) n (by omega) (by omega)
theorem kr_digY {post : Int32 → Prop} (hN : N ≤ 16) (K : post (kr_dg b_ids b_states N)) :
    ∀ (d i n : Nat), i + d = N → d < n → wY_digest_4 post (nI N) g_drafted g_last g_opened g_given g_kept g_gone g_moves b_types b_keys b_parents b_ids b_states b_draftTypes b_draftKeys b_draftParents b_origins b_oldIds b_oldStates b_row b_best n (kr_dg b_ids b_states i) (nI i) := by
  intro d
  induction d with
  | zero =>
    intro i n e hn
    obtain ⟨n, rfl⟩ : ∃ n', n = n' + 1 := ⟨n - 1, by omega⟩
    rw [wY_digest_4]
    have e' : i = N := by omega
    rw [e']
    exact br_t (nI_le (Nat.le_refl N) (by omega)) K
  | succ d ih =>
    intro i n e hn
    obtain ⟨n, rfl⟩ : ∃ n', n = n' + 1 := ⟨n - 1, by omega⟩
    have ci : (nI i).toNatClampNeg = i := nI_clamp (by omega)
    rw [wY_digest_4]
    dsimp only
    rw [ci]
    have v1 : vp_in (nI i) 16 := vp_in_nI (by omega) (by omega)
    refine br_f (nI_ge (by omega) (by omega)) ⟨v1, v1, nm_e (nm_r (nI_1 i) ?_)⟩
    exact ih (i + 1) n (by omega) (by omega)
theorem kr_plX {post : Int32 → SX → Prop} {v1 : Int32} (hN : N ≤ 16) (hd : ∀ i, i < N → 1 ≤ nd i ∧ nd i ≤ 32) (hi : ∀ i, i < N → a_ident (nd i) = b_ids i) (ho : ∀ j, j < N → a_order j = nI (nd j))
    (K1 : ∀ i, i < N → b_ids i = v1 → (∀ j, j < i → b_ids j ≠ v1) → post (nI i) (f_drafted, f_open, f_root, f_nextId, f_rowSize, f_keptCount, f_goneCount, f_moveCount, a_draftType, a_draftKey, a_draftParent, a_openNode, a_used, a_type, a_key, a_ident, a_state, a_up, a_child, a_next, a_before, a_becomes, a_isKept, a_byKey, a_stood, a_rowEnd, a_rowBefore, a_list, a_stays, a_order, a_pile)) (K0 : (∀ i, i < N → b_ids i ≠ v1) → post (-4) (f_drafted, f_open, f_root, f_nextId, f_rowSize, f_keptCount, f_goneCount, f_moveCount, a_draftType, a_draftKey, a_draftParent, a_openNode, a_used, a_type, a_key, a_ident, a_state, a_up, a_child, a_next, a_before, a_becomes, a_isKept, a_byKey, a_stood, a_rowEnd, a_rowBefore, a_list, a_stays, a_order, a_pile)) :
    ∀ (d i n : Nat), i + d = N → d < n → (∀ j, j < i → b_ids j ≠ v1) → wX_place_11 post v1 (nI N) f_drafted f_open f_root f_nextId f_rowSize f_keptCount f_goneCount f_moveCount a_draftType a_draftKey a_draftParent a_openNode a_used a_type a_key a_ident a_state a_up a_child a_next a_before a_becomes a_isKept a_byKey a_stood a_rowEnd a_rowBefore a_list a_stays a_order a_pile n (nI i) := by
  intro d
  induction d with
  | zero =>
    intro i n e hn hb
    obtain ⟨n, rfl⟩ : ∃ n', n = n' + 1 := ⟨n - 1, by omega⟩
    rw [wX_place_11]
    exact br_t (nI_le (by omega) (by omega)) (K0 (fun j hj => hb j (by omega)))
  | succ d ih =>
    intro i n e hn hb
    obtain ⟨n, rfl⟩ : ∃ n', n = n' + 1 := ⟨n - 1, by omega⟩
    have di := hd i (by omega)
    have ci : (nI i).toNatClampNeg = i := nI_clamp (by omega)
    have cn : (nI (nd i)).toNatClampNeg = nd i := nI_clamp (by omega)
    rw [wX_place_11]
    dsimp only
    rw [ci, ho i (by omega), cn, hi i (by omega)]
    refine br_f (nI_ge (by omega) (by omega)) ⟨vp_in_nI (by omega) (by omega), vp_in_nI (by omega) (by omega), br_c (fun z => K1 i (by omega) z hb) (fun z => nm_r (nI_1 i) ?_)⟩
    exact ih (i + 1) n (by omega) (by omega) (lt_s hb z)
theorem kr_plY {post : Int32 → Prop} {v1 : Int32} (hN : N ≤ 16)
    (K1 : ∀ i, i < N → b_ids i = v1 → (∀ j, j < i → b_ids j ≠ v1) → post (nI i)) (K0 : (∀ i, i < N → b_ids i ≠ v1) → post (-4)) :
    ∀ (d i n : Nat), i + d = N → d < n → (∀ j, j < i → b_ids j ≠ v1) → wY_place_2 post v1 (nI N) g_drafted g_last g_opened g_given g_kept g_gone g_moves b_types b_keys b_parents b_ids b_states b_draftTypes b_draftKeys b_draftParents b_origins b_oldIds b_oldStates b_row b_best n (nI i) := by
  intro d
  induction d with
  | zero =>
    intro i n e hn hb
    obtain ⟨n, rfl⟩ : ∃ n', n = n' + 1 := ⟨n - 1, by omega⟩
    rw [wY_place_2]
    exact br_t (nI_le (by omega) (by omega)) (K0 (fun j hj => hb j (by omega)))
  | succ d ih =>
    intro i n e hn hb
    obtain ⟨n, rfl⟩ : ∃ n', n = n' + 1 := ⟨n - 1, by omega⟩
    have ci : (nI i).toNatClampNeg = i := nI_clamp (by omega)
    rw [wY_place_2]
    dsimp only
    rw [ci]
    refine br_f (nI_ge (by omega) (by omega)) ⟨vp_in_nI (by omega) (by omega), br_c (fun z => K1 i (by omega) z hb) (fun z => nm_r (nI_1 i) ?_)⟩
    exact ih (i + 1) n (by omega) (by omega) (lt_s hb z)
theorem kr_poX {post : Int32 → SX → Prop} {c : Nat} (hN : N ≤ 16) (hc : c < N) (hd : ∀ i, i < N → 1 ≤ nd i ∧ nd i ≤ 32) (hinj : ∀ i j, i < N → j < N → nd i = nd j → i = j) (ho : ∀ j, j < N → a_order j = nI (nd j))
    (K : post (nI c) (f_drafted, f_open, f_root, f_nextId, f_rowSize, f_keptCount, f_goneCount, f_moveCount, a_draftType, a_draftKey, a_draftParent, a_openNode, a_used, a_type, a_key, a_ident, a_state, a_up, a_child, a_next, a_before, a_becomes, a_isKept, a_byKey, a_stood, a_rowEnd, a_rowBefore, a_list, a_stays, a_order, a_pile)) :
    ∀ (d i n : Nat), i + d = c → d < n → wX_placeOf_11 post (nI (nd c)) (nI N) f_drafted f_open f_root f_nextId f_rowSize f_keptCount f_goneCount f_moveCount a_draftType a_draftKey a_draftParent a_openNode a_used a_type a_key a_ident a_state a_up a_child a_next a_before a_becomes a_isKept a_byKey a_stood a_rowEnd a_rowBefore a_list a_stays a_order a_pile n (nI i) := by
  intro d
  induction d with
  | zero =>
    intro i n e hn
    obtain ⟨n, rfl⟩ : ∃ n', n = n' + 1 := ⟨n - 1, by omega⟩
    have e' : i = c := by omega
    subst e'
    have ci : (nI i).toNatClampNeg = i := nI_clamp (by omega)
    rw [wX_placeOf_11]
    dsimp only
    rw [ci, ho i (by omega)]
    exact br_f (nI_ge (by omega) (by omega)) ⟨vp_in_nI (by omega) (by omega), br_t rfl K⟩
  | succ d ih =>
    intro i n e hn
    obtain ⟨n, rfl⟩ : ∃ n', n = n' + 1 := ⟨n - 1, by omega⟩
    have ci : (nI i).toNatClampNeg = i := nI_clamp (by omega)
    have d1 := hd i (by omega)
    have d2 := hd c (by omega)
    rw [wX_placeOf_11]
    dsimp only
    rw [ci, ho i (by omega)]
    refine br_f (nI_ge (by omega) (by omega)) ⟨vp_in_nI (by omega) (by omega), br_f ?_ (nm_r (nI_1 i) (ih (i + 1) n (by omega) (by omega)))⟩
    intro z
    have z' := (nI_eq (by omega) (by omega)).mp z
    have z2 := hinj i c (by omega) hc z'
    omega
theorem kr_chX {post : Int32 → SX → Prop} : ∀ (rest : List Nat) (t k n : Nat), rest.length < n → k + rest.length ≤ 10 → kr_cn a_next rest → post (nI (t + rest.length)) (f_drafted, f_open, f_root, f_nextId, f_rowSize, f_keptCount, f_goneCount, f_moveCount, a_draftType, a_draftKey, a_draftParent, a_openNode, a_used, a_type, a_key, a_ident, a_state, a_up, a_child, a_next, a_before, a_becomes, a_isKept, a_byKey, a_stood, a_rowEnd, a_rowBefore, a_list, a_stays, a_order, a_pile) →
    wX_children_26 post f_drafted f_open f_root f_nextId f_rowSize f_keptCount f_goneCount f_moveCount a_draftType a_draftKey a_draftParent a_openNode a_used a_type a_key a_ident a_state a_up a_child a_next a_before a_becomes a_isKept a_byKey a_stood a_rowEnd a_rowBefore a_list a_stays a_order a_pile n (nI t) (nI (kr_hd rest 0)) (nI k) := by
  intro rest
  induction rest with
  | nil =>
    intro t k n h1 h2 h3 K
    obtain ⟨n, rfl⟩ : ∃ n', n = n' + 1 := ⟨n - 1, by simp at h1; omega⟩
    rw [wX_children_26]
    exact br_c (fun _ => K) (fun _ => br_t nI_0 K)
  | cons c cs ih =>
    intro t k n h1 h2 h3 K
    obtain ⟨n, rfl⟩ : ∃ n', n = n' + 1 := ⟨n - 1, by simp at h1; omega⟩
    obtain ⟨⟨c1, c2⟩, hx, hr⟩ := h3
    simp only [List.length_cons] at h1 h2 K
    have cc : (nI c).toNatClampNeg = c := nI_clamp (by omega)
    rw [wX_children_26]
    refine br_f (nI_ge (a := k) (b := 10) (by omega) (by decide)) (br_f (nI_ne0 (n := c) (by omega) (by omega)) (nm_r (nI_1 t) ⟨vp_in_nI (n := c) (by omega) (by omega), nm_r (e' := nI (kr_hd cs 0)) ((congrArg a_next cc).trans hx) (nm_r (nI_1 k) ?_)⟩))
    refine ih (t + 1) (k + 1) n (by omega) (by omega) hr ?_
    rw [show t + 1 + cs.length = t + (cs.length + 1) by omega]
    exact K
theorem kr_chY {post : Int32 → Prop} {i : Nat} (r1 : kr_shp N p b_parents b_keys) (hi : i < N) (K : post (nI (kr_ct (fun j => decide (i < j ∧ p j = i)) N))) :
    ∀ (d j n : Nat), j + d = N → d < n → wY_children_15 post (nI i) (nI N) g_drafted g_last g_opened g_given g_kept g_gone g_moves b_types b_keys b_parents b_ids b_states b_draftTypes b_draftKeys b_draftParents b_origins b_oldIds b_oldStates b_row b_best n (nI (kr_ct (fun j => decide (i < j ∧ p j = i)) j)) (nI j) := by
  have hN := r1.1
  intro d
  induction d with
  | zero =>
    intro j n e hn
    obtain ⟨n, rfl⟩ : ∃ n', n = n' + 1 := ⟨n - 1, by omega⟩
    rw [wY_children_15]
    have e' : j = N := by omega
    rw [e']
    exact br_t (nI_le (Nat.le_refl N) (by omega)) K
  | succ d ih =>
    intro j n e hn
    obtain ⟨n, rfl⟩ : ∃ n', n = n' + 1 := ⟨n - 1, by omega⟩
    have cj : (nI j).toNatClampNeg = j := nI_clamp (by omega)
    rw [wY_children_15]
    dsimp only
    rw [cj]
    have k := ih (j + 1) n (by omega) (by omega)
    refine br_f (nI_ge (by omega) (by omega)) ⟨vp_in_nI (by omega) (by omega), br_c (fun z => ?_) (fun z => ?_)⟩
    · have z' := (kr_par r1 (by omega) (by omega)).mp z
      refine nm_r (nI_1 _) (nm_r (nI_1 j) ?_)
      have e2 : kr_ct (fun j => decide (i < j ∧ p j = i)) (j + 1) = kr_ct (fun j => decide (i < j ∧ p j = i)) j + 1 := by
        show _ + (if _ then 1 else 0) = _
        rw [if_pos (decide_eq_true z')]
      rw [e2] at k
      exact k
    · have z' : ¬ (i < j ∧ p j = i) := fun h => z ((kr_par r1 (by omega) (by omega)).mpr h)
      refine nm_r (nI_1 j) ?_
      have e2 : kr_ct (fun j => decide (i < j ∧ p j = i)) (j + 1) = kr_ct (fun j => decide (i < j ∧ p j = i)) j := by
        show _ + (if _ then 1 else 0) = _
        rw [if_neg (by simpa using z')]
        rfl
      rw [e2] at k
      exact k
end
end
section
theorem kr_nn {N i : Nat} {nd : Nat → Nat} (h : ∀ i, i < N → 1 ≤ nd i ∧ nd i ≤ 32) (hi : i < N) : ¬ nI (nd i) = 0 ∧ vp_in (nI (nd i)) 33 ∧ (nI (nd i)).toNatClampNeg = nd i := by
  have k := h i hi
  exact ⟨nI_ne0 (by omega) (by omega), vp_in_nI (by omega) (by omega), nI_clamp (by omega)⟩
theorem i_vc_drafted {k : Nat} {u : SX} {v : SY} (I : i_Rel k u v) (hk : k + 3 ≤ 1536) : wpX_drafted (fun r => wpY_drafted (fun r' => r' = r ∧ i_Rel (k + 3) u v) v) u := by
  refine kr_el (P := fun u v => wpX_drafted (fun r => wpY_drafted (fun r' => r' = r ∧ i_Rel (k + 3) u v) v) u) ?_ I
  intro N m op p dp q nd f_root f_rowSize a_openNode a_used a_type a_key a_ident a_state a_up a_child a_next a_before a_becomes a_isKept a_byKey a_stood a_rowEnd a_rowBefore a_list a_stays a_order a_pile g_last g_given g_kept g_gone g_moves b_types b_keys b_parents b_ids b_states b_draftTypes b_draftKeys b_draftParents b_origins b_oldIds b_oldStates b_row b_best r1 r2 r3 r4
  exact ⟨rfl, kr_in r1 r2 r3 r4⟩
theorem i_vc_kept {k : Nat} {u : SX} {v : SY} (I : i_Rel k u v) (hk : k + 3 ≤ 1536) : wpX_kept (fun r => wpY_kept (fun r' => r' = r ∧ i_Rel (k + 3) u v) v) u := by
  refine kr_el (P := fun u v => wpX_kept (fun r => wpY_kept (fun r' => r' = r ∧ i_Rel (k + 3) u v) v) u) ?_ I
  intro N m op p dp q nd f_root f_rowSize a_openNode a_used a_type a_key a_ident a_state a_up a_child a_next a_before a_becomes a_isKept a_byKey a_stood a_rowEnd a_rowBefore a_list a_stays a_order a_pile g_last g_given g_kept g_gone g_moves b_types b_keys b_parents b_ids b_states b_draftTypes b_draftKeys b_draftParents b_origins b_oldIds b_oldStates b_row b_best r1 r2 r3 r4
  exact ⟨rfl, kr_in r1 r2 r3 r4⟩
theorem i_vc_gone {k : Nat} {u : SX} {v : SY} (I : i_Rel k u v) (hk : k + 3 ≤ 1536) : wpX_gone (fun r => wpY_gone (fun r' => r' = r ∧ i_Rel (k + 3) u v) v) u := by
  refine kr_el (P := fun u v => wpX_gone (fun r => wpY_gone (fun r' => r' = r ∧ i_Rel (k + 3) u v) v) u) ?_ I
  intro N m op p dp q nd f_root f_rowSize a_openNode a_used a_type a_key a_ident a_state a_up a_child a_next a_before a_becomes a_isKept a_byKey a_stood a_rowEnd a_rowBefore a_list a_stays a_order a_pile g_last g_given g_kept g_gone g_moves b_types b_keys b_parents b_ids b_states b_draftTypes b_draftKeys b_draftParents b_origins b_oldIds b_oldStates b_row b_best r1 r2 r3 r4
  exact ⟨rfl, kr_in r1 r2 r3 r4⟩
theorem i_vc_moves {k : Nat} {u : SX} {v : SY} (I : i_Rel k u v) (hk : k + 3 ≤ 1536) : wpX_moves (fun r => wpY_moves (fun r' => r' = r ∧ i_Rel (k + 3) u v) v) u := by
  refine kr_el (P := fun u v => wpX_moves (fun r => wpY_moves (fun r' => r' = r ∧ i_Rel (k + 3) u v) v) u) ?_ I
  intro N m op p dp q nd f_root f_rowSize a_openNode a_used a_type a_key a_ident a_state a_up a_child a_next a_before a_becomes a_isKept a_byKey a_stood a_rowEnd a_rowBefore a_list a_stays a_order a_pile g_last g_given g_kept g_gone g_moves b_types b_keys b_parents b_ids b_states b_draftTypes b_draftKeys b_draftParents b_origins b_oldIds b_oldStates b_row b_best r1 r2 r3 r4
  exact ⟨rfl, kr_in r1 r2 r3 r4⟩
theorem i_vc_size {k : Nat} {u : SX} {v : SY} (I : i_Rel k u v) (hk : k + 3 ≤ 1536) : wpX_size (fun r u' => wpY_size (fun r' => r' = r ∧ i_Rel (k + 3) u' v) v) u := by
  refine kr_el (P := fun u v => wpX_size (fun r u' => wpY_size (fun r' => r' = r ∧ i_Rel (k + 3) u' v) v) u) ?_ I
  intro N m op p dp q nd f_root f_rowSize a_openNode a_used a_type a_key a_ident a_state a_up a_child a_next a_before a_becomes a_isKept a_byKey a_stood a_rowEnd a_rowBefore a_list a_stays a_order a_pile g_last g_given g_kept g_gone g_moves b_types b_keys b_parents b_ids b_states b_draftTypes b_draftKeys b_draftParents b_origins b_oldIds b_oldStates b_row b_best r1 r2 r3 r4
  unfold wpX_size
  dsimp only
  refine kr_rootw r1 r4 ?_
  intro od g ho
  exact ⟨rfl, kr_in r1 r2 r3 r4⟩
theorem i_vc_id {k : Nat} {u : SX} {v : SY} (I : i_Rel k u v) (hk : k + 3 ≤ 1536) (v1 : Int32) : wpX_id (fun r u' => wpY_id (fun r' => r' = r ∧ i_Rel (k + 3) u' v) v v1) u v1 := by
  refine kr_el (P := fun u v => wpX_id (fun r u' => wpY_id (fun r' => r' = r ∧ i_Rel (k + 3) u' v) v v1) u v1) ?_ I
  intro N m op p dp q nd f_root f_rowSize a_openNode a_used a_type a_key a_ident a_state a_up a_child a_next a_before a_becomes a_isKept a_byKey a_stood a_rowEnd a_rowBefore a_list a_stays a_order a_pile g_last g_given g_kept g_gone g_moves b_types b_keys b_parents b_ids b_states b_draftTypes b_draftKeys b_draftParents b_origins b_oldIds b_oldStates b_row b_best r1 r2 r3 r4
  have hN := r1.1
  unfold wpX_id
  dsimp only
  refine kr_nodew r1 r4 ?_ ?_
  · intro h od g
    refine br_t rfl ?_
    unfold wpY_id
    dsimp only
    refine kr_isp hN (fun _ => br_t rfl ⟨rfl, kr_in r1 r2 r3 r4⟩) (fun i hi e => absurd e (kr_out hN h hi))
  · intro i hi e od g ho
    obtain ⟨n1, n2, n3⟩ := kr_nn r4.2.1 hi
    refine br_f n1 ⟨n2, ?_⟩
    dsimp only
    rw [n3, (r4.2.2.2.1 i hi).2.2.1, e]
    unfold wpY_id
    dsimp only
    refine kr_isp hN (fun h => absurd rfl (kr_out hN h hi)) (fun j hj e2 => br_f (by decide) ⟨vp_in_nI (by omega) (by omega), ?_⟩)
    rw [nI_clamp (by omega)]
    exact ⟨rfl, kr_in r1 r2 r3 r4⟩
theorem i_vc_kind {k : Nat} {u : SX} {v : SY} (I : i_Rel k u v) (hk : k + 3 ≤ 1536) (v1 : Int32) : wpX_kind (fun r u' => wpY_kind (fun r' => r' = r ∧ i_Rel (k + 3) u' v) v v1) u v1 := by
  refine kr_el (P := fun u v => wpX_kind (fun r u' => wpY_kind (fun r' => r' = r ∧ i_Rel (k + 3) u' v) v v1) u v1) ?_ I
  intro N m op p dp q nd f_root f_rowSize a_openNode a_used a_type a_key a_ident a_state a_up a_child a_next a_before a_becomes a_isKept a_byKey a_stood a_rowEnd a_rowBefore a_list a_stays a_order a_pile g_last g_given g_kept g_gone g_moves b_types b_keys b_parents b_ids b_states b_draftTypes b_draftKeys b_draftParents b_origins b_oldIds b_oldStates b_row b_best r1 r2 r3 r4
  have hN := r1.1
  unfold wpX_kind
  dsimp only
  refine kr_nodew r1 r4 ?_ ?_
  · intro h od g
    refine br_t rfl ?_
    unfold wpY_kind
    dsimp only
    refine kr_isp hN (fun _ => br_t rfl ⟨rfl, kr_in r1 r2 r3 r4⟩) (fun i hi e => absurd e (kr_out hN h hi))
  · intro i hi e od g ho
    obtain ⟨n1, n2, n3⟩ := kr_nn r4.2.1 hi
    refine br_f n1 ⟨n2, n2, ?_⟩
    dsimp only
    rw [n3, (r4.2.2.2.1 i hi).1, (r4.2.2.2.1 i hi).2.1, e]
    unfold wpY_kind
    dsimp only
    refine kr_isp hN (fun h => absurd rfl (kr_out hN h hi)) (fun j hj e2 => br_f (by decide) ⟨vp_in_nI (by omega) (by omega), vp_in_nI (by omega) (by omega), ?_⟩)
    rw [nI_clamp (by omega)]
    exact ⟨rfl, kr_in r1 r2 r3 r4⟩
theorem i_vc_state {k : Nat} {u : SX} {v : SY} (I : i_Rel k u v) (hk : k + 3 ≤ 1536) (v1 : Int32) : wpX_state (fun r u' => wpY_state (fun r' => r' = r ∧ i_Rel (k + 3) u' v) v v1) u v1 := by
  refine kr_el (P := fun u v => wpX_state (fun r u' => wpY_state (fun r' => r' = r ∧ i_Rel (k + 3) u' v) v v1) u v1) ?_ I
  intro N m op p dp q nd f_root f_rowSize a_openNode a_used a_type a_key a_ident a_state a_up a_child a_next a_before a_becomes a_isKept a_byKey a_stood a_rowEnd a_rowBefore a_list a_stays a_order a_pile g_last g_given g_kept g_gone g_moves b_types b_keys b_parents b_ids b_states b_draftTypes b_draftKeys b_draftParents b_origins b_oldIds b_oldStates b_row b_best r1 r2 r3 r4
  have hN := r1.1
  unfold wpX_state
  dsimp only
  refine kr_nodew r1 r4 ?_ ?_
  · intro h od g
    refine br_t rfl ?_
    unfold wpY_state
    dsimp only
    refine kr_isp hN (fun _ => br_t rfl ⟨rfl, kr_in r1 r2 r3 r4⟩) (fun i hi e => absurd e (kr_out hN h hi))
  · intro i hi e od g ho
    obtain ⟨n1, n2, n3⟩ := kr_nn r4.2.1 hi
    refine br_f n1 ⟨n2, ?_⟩
    dsimp only
    rw [n3, (r4.2.2.2.1 i hi).2.2.2, e]
    unfold wpY_state
    dsimp only
    refine kr_isp hN (fun h => absurd rfl (kr_out hN h hi)) (fun j hj e2 => br_f (by decide) ⟨vp_in_nI (by omega) (by omega), ?_⟩)
    rw [nI_clamp (by omega)]
    exact ⟨rfl, kr_in r1 r2 r3 r4⟩
theorem kr_xt_put {N i : Nat} {p nd : Nat → Nat} {root x : Int32} {us ty ky id' st up ch nx bf yt yk yi ys : Nat → Int32} (t : kr_xt N p nd root us ty ky id' st up ch nx bf yt yk yi ys) (hi : i < N) :
    kr_xt N p nd root us ty ky id' (upd st (nd i) x) up ch nx bf yt yk yi (upd ys i x) := by
  obtain ⟨t1, t2, t3, t4, t5, t6, t7⟩ := t
  refine ⟨t1, t2, t3, ?_, t5, t6, t7⟩
  intro j hj
  have k := t4 j hj
  refine ⟨k.1, k.2.1, k.2.2.1, ?_⟩
  by_cases q : j = i
  · rw [q, pk_us, pk_us]
  · rw [pk_un q, pk_un (fun e => q (t3 j i hj hi e))]
    exact k.2.2.2
theorem i_vc_put {k : Nat} {u : SX} {v : SY} (I : i_Rel k u v) (hk : k + 3 ≤ 1536) (v1 : Int32) (v2 : Int32) : wpX_put (fun r u' => wpY_put (fun r' v' => r' = r ∧ i_Rel (k + 3) u' v') v v1 v2) u v1 v2 := by
  refine kr_el (P := fun u v => wpX_put (fun r u' => wpY_put (fun r' v' => r' = r ∧ i_Rel (k + 3) u' v') v v1 v2) u v1 v2) ?_ I
  intro N m op p dp q nd f_root f_rowSize a_openNode a_used a_type a_key a_ident a_state a_up a_child a_next a_before a_becomes a_isKept a_byKey a_stood a_rowEnd a_rowBefore a_list a_stays a_order a_pile g_last g_given g_kept g_gone g_moves b_types b_keys b_parents b_ids b_states b_draftTypes b_draftKeys b_draftParents b_origins b_oldIds b_oldStates b_row b_best r1 r2 r3 r4
  have hN := r1.1
  unfold wpX_put
  dsimp only
  refine kr_nodew r1 r4 ?_ ?_
  · intro h od g
    refine br_t rfl ?_
    unfold wpY_put
    dsimp only
    refine kr_isp hN (fun _ => br_t rfl ⟨rfl, kr_in r1 r2 r3 r4⟩) (fun i hi e => absurd e (kr_out hN h hi))
  · intro i hi e od g ho
    obtain ⟨n1, n2, n3⟩ := kr_nn r4.2.1 hi
    refine br_f n1 (br_c (fun hv => ⟨n2, nm_e ⟨n2, nm_e ?_⟩⟩) (fun hv => ?_))
    · dsimp only
      rw [n3, (r4.2.2.2.1 i hi).2.2.2, e]
      unfold wpY_put
      dsimp only
      refine kr_isp hN (fun h => absurd rfl (kr_out hN h hi)) (fun j hj e2 => br_f (by decide) (br_t hv ⟨vp_in_nI (by omega) (by omega), nm_e ⟨vp_in_nI (by omega) (by omega), nm_e ?_⟩⟩))
      rw [nI_clamp (by omega)]
      exact ⟨rfl, kr_in r1 r2 r3 (kr_xt_put r4 hi)⟩
    · rw [e]
      unfold wpY_put
      dsimp only
      refine kr_isp hN (fun h => absurd rfl (kr_out hN h hi)) (fun j hj e2 => br_f (by decide) (br_f hv ⟨rfl, kr_in r1 r2 r3 r4⟩))
theorem i_vc_place {k : Nat} {u : SX} {v : SY} (I : i_Rel k u v) (hk : k + 3 ≤ 1536) (v1 : Int32) : wpX_place (fun r u' => wpY_place (fun r' => r' = r ∧ i_Rel (k + 3) u' v) v v1) u v1 := by
  refine kr_el (P := fun u v => wpX_place (fun r u' => wpY_place (fun r' => r' = r ∧ i_Rel (k + 3) u' v) v v1) u v1) ?_ I
  intro N m op p dp q nd f_root f_rowSize a_openNode a_used a_type a_key a_ident a_state a_up a_child a_next a_before a_becomes a_isKept a_byKey a_stood a_rowEnd a_rowBefore a_list a_stays a_order a_pile g_last g_given g_kept g_gone g_moves b_types b_keys b_parents b_ids b_states b_draftTypes b_draftKeys b_draftParents b_origins b_oldIds b_oldStates b_row b_best r1 r2 r3 r4
  have hN := r1.1
  unfold wpX_place
  dsimp only
  refine kr_rootw r1 r4 ?_
  intro od g ho
  refine ⟨N + 1, ?_⟩
  refine kr_plX (nd := nd) (b_ids := b_ids) hN r4.2.1 (fun i hi => (r4.2.2.2.1 i hi).2.2.1) ho ?_ ?_ N 0 (N + 1) (by omega) (by omega) (fun j h => absurd h (Nat.not_lt_zero j))
  · intro i hi e hb
    refine ⟨N + 1, kr_plY hN ?_ ?_ N 0 (N + 1) (by omega) (by omega) (fun j h => absurd h (Nat.not_lt_zero j))⟩
    · intro j hj e2 hb2
      have ej : j = i := by
        by_cases q : j < i
        · exact absurd e2 (hb j q)
        · by_cases q2 : i < j
          · exact absurd e (hb2 i q2)
          · omega
      rw [ej]
      exact ⟨rfl, kr_in r1 r2 r3 r4⟩
    · intro h
      exact absurd e (h i hi)
  · intro h
    refine ⟨N + 1, kr_plY hN ?_ ?_ N 0 (N + 1) (by omega) (by omega) (fun j h => absurd h (Nat.not_lt_zero j))⟩
    · intro j hj e2 hb2
      exact absurd e2 (h j hj)
    · intro _
      exact ⟨rfl, kr_in r1 r2 r3 r4⟩
theorem kr_up {N : Nat} {p nd : Nat → Nat} {par key : Nat → Int32} {root : Int32} {us ty ky id' st up ch nx bf yt yk yi ys : Nat → Int32} (h : kr_shp N p par key) (t : kr_xt N p nd root us ty ky id' st up ch nx bf yt yk yi ys) {i : Nat} (h0 : 0 < i) (hi : i < N) : up (nd i) = nI (nd (p i)) := by
  have k := h.2.2.2.1.1 i h0 hi
  have k2 := t.2.2.2.2.2.1 (p i) (by omega)
  exact k2.2.2.1 (nd i) (List.mem_map.mpr ⟨i, kr_chl_mem.mpr ⟨hi, k, rfl⟩, rfl⟩)
theorem i_vc_parent {k : Nat} {u : SX} {v : SY} (I : i_Rel k u v) (hk : k + 3 ≤ 1536) (v1 : Int32) : wpX_parent (fun r u' => wpY_parent (fun r' => r' = r ∧ i_Rel (k + 3) u' v) v v1) u v1 := by
  refine kr_el (P := fun u v => wpX_parent (fun r u' => wpY_parent (fun r' => r' = r ∧ i_Rel (k + 3) u' v) v v1) u v1) ?_ I
  intro N m op p dp q nd f_root f_rowSize a_openNode a_used a_type a_key a_ident a_state a_up a_child a_next a_before a_becomes a_isKept a_byKey a_stood a_rowEnd a_rowBefore a_list a_stays a_order a_pile g_last g_given g_kept g_gone g_moves b_types b_keys b_parents b_ids b_states b_draftTypes b_draftKeys b_draftParents b_origins b_oldIds b_oldStates b_row b_best r1 r2 r3 r4
  have hN := r1.1
  unfold wpX_parent
  dsimp only
  refine kr_nodew r1 r4 ?_ ?_
  · intro h od g
    refine br_t rfl ?_
    unfold wpY_parent
    dsimp only
    refine kr_isp hN (fun _ => br_t rfl ⟨rfl, kr_in r1 r2 r3 r4⟩) (fun i hi e => absurd e (kr_out hN h hi))
  · intro i hi e od g ho
    obtain ⟨n1, n2, n3⟩ := kr_nn r4.2.1 hi
    refine br_f n1 ⟨n2, ?_⟩
    dsimp only
    rw [n3, e]
    by_cases z : i = 0
    · refine br_t ?_ ?_
      · rw [z]; exact r4.2.2.2.2.1 (by omega)
      · unfold wpY_parent
        dsimp only
        refine kr_isp hN (fun h => absurd rfl (kr_out hN h hi)) (fun j hj e2 => br_f (by decide) (br_t ?_ ⟨rfl, kr_in r1 r2 r3 r4⟩))
        rw [z]; exact (by decide)
    · have hp := r1.2.2.2.1.1 i (by omega) hi
      have hu := kr_up r1 r4 (i := i) (by omega) hi
      obtain ⟨m1, m2, m3⟩ := kr_nn (i := p i) r4.2.1 (by omega)
      rw [hu]
      refine br_f m1 ⟨n2, ?_⟩
      unfold wpX_placeOf
      dsimp only
      refine kr_rootw r1 r4 ?_
      intro od2 g2 ho2
      refine ⟨N + 1, ?_⟩
      refine kr_poX (nd := nd) (c := p i) hN (by omega) r4.2.1 r4.2.2.1 ho2 ?_ (p i) 0 (N + 1) (by omega) (by omega)
      unfold wpY_parent
      dsimp only
      refine kr_isp hN (fun h => absurd rfl (kr_out hN h hi)) (fun j hj e2 => br_f (by decide) (br_f (nI_nle (by omega) (by omega)) ⟨vp_in_nI (by omega) (by omega), ?_⟩))
      rw [nI_clamp (by omega), r1.2.2.1 i (by omega) hi]
      exact ⟨rfl, kr_in r1 r2 r3 r4⟩
theorem i_vc_children {k : Nat} {u : SX} {v : SY} (I : i_Rel k u v) (hk : k + 3 ≤ 1536) (v1 : Int32) : wpX_children (fun r u' => wpY_children (fun r' => r' = r ∧ i_Rel (k + 3) u' v) v v1) u v1 := by
  refine kr_el (P := fun u v => wpX_children (fun r u' => wpY_children (fun r' => r' = r ∧ i_Rel (k + 3) u' v) v v1) u v1) ?_ I
  intro N m op p dp q nd f_root f_rowSize a_openNode a_used a_type a_key a_ident a_state a_up a_child a_next a_before a_becomes a_isKept a_byKey a_stood a_rowEnd a_rowBefore a_list a_stays a_order a_pile g_last g_given g_kept g_gone g_moves b_types b_keys b_parents b_ids b_states b_draftTypes b_draftKeys b_draftParents b_origins b_oldIds b_oldStates b_row b_best r1 r2 r3 r4
  have hN := r1.1
  unfold wpX_children
  dsimp only
  refine kr_nodew r1 r4 ?_ ?_
  · intro h od g
    refine br_t rfl ?_
    unfold wpY_children
    dsimp only
    refine kr_isp hN (fun _ => br_t rfl ⟨rfl, kr_in r1 r2 r3 r4⟩) (fun i hi e => absurd e (kr_out hN h hi))
  · intro i hi e od g ho
    obtain ⟨n1, n2, n3⟩ := kr_nn r4.2.1 hi
    have kd := r4.2.2.2.2.2.1 i hi
    have ht := kr_ten r1 i
    have hl : ((kr_chl N p i).map nd).length = (kr_chl N p i).length := List.length_map ..
    refine br_f n1 ⟨n2, nm_r (e' := nI (kr_hd ((kr_chl N p i).map nd) 0)) ((congrArg a_child n3).trans kd.1) ⟨11, ?_⟩⟩
    refine kr_chX ((kr_chl N p i).map nd) 0 0 11 (by omega) (by omega) (kr_cn_sg kd.2.1 kd.2.2.2.2) ?_
    rw [e]
    unfold wpY_children
    dsimp only
    refine kr_isp hN (fun h => absurd rfl (kr_out hN h hi)) (fun j hj e2 => br_f (by decide) ⟨N + 1, ?_⟩)
    refine kr_chY (p := p) r1 hi ?_ N 0 (N + 1) (by omega) (by omega)
    refine ⟨?_, kr_in r1 r2 r3 r4⟩
    rw [kr_ct_len, Nat.zero_add, hl]
    rfl
theorem i_vc_digest {k : Nat} {u : SX} {v : SY} (I : i_Rel k u v) (hk : k + 3 ≤ 1536) : wpX_digest (fun r u' => wpY_digest (fun r' => r' = r ∧ i_Rel (k + 3) u' v) v) u := by
  refine kr_el (P := fun u v => wpX_digest (fun r u' => wpY_digest (fun r' => r' = r ∧ i_Rel (k + 3) u' v) v) u) ?_ I
  intro N m op p dp q nd f_root f_rowSize a_openNode a_used a_type a_key a_ident a_state a_up a_child a_next a_before a_becomes a_isKept a_byKey a_stood a_rowEnd a_rowBefore a_list a_stays a_order a_pile g_last g_given g_kept g_gone g_moves b_types b_keys b_parents b_ids b_states b_draftTypes b_draftKeys b_draftParents b_origins b_oldIds b_oldStates b_row b_best r1 r2 r3 r4
  have hN := r1.1
  unfold wpX_digest
  dsimp only
  refine kr_rootw r1 r4 ?_
  intro od g ho
  refine ⟨N + 1, ?_⟩
  refine kr_digX (nd := nd) (b_ids := b_ids) (b_states := b_states) hN r4.2.1 (fun i hi => ⟨(r4.2.2.2.1 i hi).2.2.1, (r4.2.2.2.1 i hi).2.2.2⟩) ho ?_ N 0 (N + 1) (by omega) (by omega)
  exact ⟨N + 1, kr_digY hN ⟨rfl, kr_in r1 r2 r3 r4⟩ N 0 (N + 1) (by omega) (by omega)⟩
end
section
theorem kr_m1lt : (-1 : Int32) < 0 := by decide
theorem kr_m1ne {i : Nat} (h : i < 2 ^ 31) : ¬ (-1 : Int32) = nI i := by
  intro e
  have k := nI_pos h
  rw [← e] at k
  exact k kr_m1lt
section
variable {f_drafted f_open f_root f_nextId f_rowSize f_keptCount f_goneCount f_moveCount : Int32} {a_draftType a_draftKey a_draftParent a_openNode a_used a_type a_key a_ident a_state a_up a_child a_next a_before a_becomes a_isKept a_byKey a_stood a_rowEnd a_rowBefore a_list a_stays a_order a_pile : Nat → Int32} {g_size g_drafted g_last g_opened g_given g_kept g_gone g_moves : Int32} {b_types b_keys b_parents b_ids b_states b_draftTypes b_draftKeys b_draftParents b_origins b_oldIds b_oldStates b_row b_best : Nat → Int32} {m : Nat}
theorem kr_twX {post : Int32 → Prop} {v1 v2 : Int32} (hm : m ≤ 16)
    (K1 : ∀ i, i < m → a_draftParent i = v1 → a_draftKey i = v2 → post 1) (K0 : (∀ i, i < m → a_draftParent i = v1 → a_draftKey i ≠ v2) → post 0) :
    ∀ (d i n : Nat), i + d = m → d < n → (∀ j, j < i → a_draftParent j = v1 → a_draftKey j ≠ v2) → wX_twin_2 post v1 v2 (nI m) f_open f_root f_nextId f_rowSize f_keptCount f_goneCount f_moveCount a_draftType a_draftKey a_draftParent a_openNode a_used a_type a_key a_ident a_state a_up a_child a_next a_before a_becomes a_isKept a_byKey a_stood a_rowEnd a_rowBefore a_list a_stays a_order a_pile n (nI i) := by
  intro d
  induction d with
  | zero =>
    intro i n e hn hb
    obtain ⟨n, rfl⟩ : ∃ n', n = n' + 1 := ⟨n - 1, by omega⟩
    rw [wX_twin_2]
    exact br_t (nI_le (by omega) (by omega)) (K0 (fun j hj => hb j (by omega)))
  | succ d ih =>
    intro i n e hn hb
    obtain ⟨n, rfl⟩ : ∃ n', n = n' + 1 := ⟨n - 1, by omega⟩
    have ci : (nI i).toNatClampNeg = i := nI_clamp (by omega)
    have vi : vp_in (nI i) 16 := vp_in_nI (by omega) (by omega)
    rw [wX_twin_2]
    dsimp only
    rw [ci]
    refine br_f (nI_ge (by omega) (by omega)) ⟨vi, br_c (fun z => ⟨vi, br_c (fun y => K1 i (by omega) z y) (fun y => nm_r (nI_1 i) ?_)⟩) (fun z => nm_r (nI_1 i) ?_)⟩
    · exact ih (i + 1) n (by omega) (by omega) (lt_s hb (fun _ => y))
    · exact ih (i + 1) n (by omega) (by omega) (lt_s hb (fun h => absurd h z))
theorem kr_twY {post : Int32 → Prop} {v1 v2 : Int32} (hm : m ≤ 16)
    (K1 : ∀ i, i < m → b_draftParents i = v1 → b_draftKeys i = v2 → post 1) (K0 : (∀ i, i < m → b_draftParents i = v1 → b_draftKeys i ≠ v2) → post 0) :
    ∀ (d i n : Nat), i + d = m → d < n → (∀ j, j < i → b_draftParents j = v1 → b_draftKeys j ≠ v2) → wY_hasChild_2 post v1 v2 g_size (nI m) g_last g_opened g_given g_kept g_gone g_moves b_types b_keys b_parents b_ids b_states b_draftTypes b_draftKeys b_draftParents b_origins b_oldIds b_oldStates b_row b_best n (nI i) := by
  intro d
  induction d with
  | zero =>
    intro i n e hn hb
    obtain ⟨n, rfl⟩ : ∃ n', n = n' + 1 := ⟨n - 1, by omega⟩
    rw [wY_hasChild_2]
    exact br_t (nI_le (by omega) (by omega)) (K0 (fun j hj => hb j (by omega)))
  | succ d ih =>
    intro i n e hn hb
    obtain ⟨n, rfl⟩ : ∃ n', n = n' + 1 := ⟨n - 1, by omega⟩
    have ci : (nI i).toNatClampNeg = i := nI_clamp (by omega)
    have vi : vp_in (nI i) 16 := vp_in_nI (by omega) (by omega)
    rw [wY_hasChild_2]
    dsimp only
    rw [ci]
    refine br_f (nI_ge (by omega) (by omega)) ⟨vi, br_c (fun z => ⟨vi, br_c (fun y => K1 i (by omega) z y) (fun y => nm_r (nI_1 i) ?_)⟩) (fun z => nm_r (nI_1 i) ?_)⟩
    · exact ih (i + 1) n (by omega) (by omega) (lt_s hb (fun _ => y))
    · exact ih (i + 1) n (by omega) (by omega) (lt_s hb (fun h => absurd h z))
end
/-- a new node of the draft keeps the shape -/
theorem kr_shp_add {m op : Nat} {dp q : Nat → Nat} {par key oN : Nat → Int32} {last v2 : Int32} {kk : Nat} (h : kr_shp m dp par key) (o : kr_opn m op dp q oN last) (hm : m < 16) (hk : kk < 10) (e : v2 = nI kk)
    (h0 : op = 0 → m = 0) (hf : ∀ i, i < m → par i = last → key i ≠ v2) :
    kr_shp (m + 1) (kr_st dp m (q (op - 1))) (upd par m last) (upd key m v2) ∧ kr_opn (m + 1) (op + 1) (kr_st dp m (q (op - 1))) (kr_st q op m) (upd oN op (nI m)) (nI m) := by
  obtain ⟨h1, h2, h3, h4, h5, h6⟩ := h
  obtain ⟨o1, o2, o3, o4, o5, o6⟩ := o
  have mpos : 0 < m → 0 < op := by
    intro z
    by_cases y : op = 0
    · have := h0 y; omega
    · omega
  have ql : 0 < op → q (op - 1) < m := fun z => (o4 (op - 1) (by omega)).2.1
  constructor
  · refine ⟨by omega, ?_, ?_, ⟨?_, ?_⟩, ?_, ?_⟩
    · intro _
      by_cases z : m = 0
      · subst z
        rw [pk_us]
        exact o2 (by omega)
      · rw [pk_un (by omega)]
        exact h2 (by omega)
    · intro i i1 i2
      by_cases z : i = m
      · subst z
        rw [pk_us, kr_st_s]
        exact (o3 (mpos i1)).1
      · rw [pk_un z, kr_st_n z]
        exact h3 i i1 (by omega)
    · intro i i1 i2
      by_cases z : i = m
      · subst z
        rw [kr_st_s]
        exact ql (mpos i1)
      · rw [kr_st_n z]
        exact h4.1 i i1 (by omega)
    · intro i j i1 i2 j1 j2
      by_cases z : i = m
      · subst z
        rw [kr_st_s] at j1 ⊢
        rw [kr_st_n (by omega)]
        exact (o4 (op - 1) (by have := mpos i1; omega)).2.2 j j1 j2
      · rw [kr_st_n z] at j1 ⊢
        rw [kr_st_n (by omega)]
        exact h4.2 i j i1 (by omega) j1 j2
    · intro i hi
      by_cases z : i = m
      · subst z
        exact ⟨kk, hk, by rw [pk_us]; exact e⟩
      · rw [pk_un z]
        exact h5 i (by omega)
    · intro i j i1 i2 j1 j2
      rw [kr_st_n (by omega)] at j2
      by_cases z : j = m
      · subst z
        rw [kr_st_s] at j2
        rw [pk_us, pk_un (by omega)]
        refine hf i i2 ?_
        rw [h3 i i1 i2, j2]
        exact (o3 (mpos (by omega))).1.symm
      · rw [kr_st_n z] at j2
        rw [pk_un z, pk_un (by omega)]
        exact h6 i j i1 i2 (by omega) j2
  · refine ⟨by omega, fun z => by omega, fun _ => ⟨?_, ?_⟩, ?_, ?_, ?_⟩
    · rw [Nat.add_sub_cancel, kr_st_s]
    · by_cases z : op = 0
      · rw [← z, kr_st_s]; rw [h0 z, z]
      · rw [kr_st_n (by omega)]
        exact (o3 (by omega)).2
    · intro k hk'
      by_cases z : k = op
      · subst z
        rw [pk_us, kr_st_s]
        exact ⟨rfl, by omega, fun j j1 j2 => by omega⟩
      · have kl : k < op := by omega
        obtain ⟨k1, k2, k3⟩ := o4 k kl
        rw [pk_un z, kr_st_n z]
        refine ⟨k1, by omega, ?_⟩
        intro j j1 j2
        by_cases y : j = m
        · subst y
          rw [kr_st_s]
          by_cases w : k = op - 1
          · rw [w]; exact Nat.le_refl _
          · exact Nat.le_of_lt (o6 k (op - 1) (by omega) (by omega))
        · rw [kr_st_n y]
          exact k3 j j1 (by omega)
    · intro k hk'
      by_cases z : k + 1 = op
      · rw [z, kr_st_s, kr_st_s, kr_st_n (by omega), ← z, Nat.add_sub_cancel]
      · have k1 := (o4 (k + 1) (by omega)).2.1
        rw [kr_st_n z, kr_st_n (by omega), kr_st_n (by omega)]
        exact o5 k (by omega)
    · intro k l h1' h2'
      by_cases z : l = op
      · subst z
        rw [kr_st_s, kr_st_n (by omega)]
        exact (o4 k (by omega)).2.1
      · rw [kr_st_n z, kr_st_n (by omega)]
        exact o6 k l h1' (by omega)
def kr_oX (u : SX) (v : SY) (v1 v2 : Int32) (k : Nat) : Prop := ∃ (r : Int32) (u' : SX) (v' : SY), i_Rel k u' v' ∧ (∀ post : Int32 → SX → Prop, post r u' → wpX_open post u v1 v2) ∧ (∀ post : Int32 → SY → Prop, post r v' → wpY_open post v v1 v2)
theorem kr_open {k : Nat} {u : SX} {v : SY} (I : i_Rel k u v) (v1 v2 : Int32) : kr_oX u v v1 v2 k := by
  refine kr_el (P := fun u v => kr_oX u v v1 v2 k) ?_ I
  intro N m op p dp q nd f_root f_rowSize a_openNode a_used a_type a_key a_ident a_state a_up a_child a_next a_before a_becomes a_isKept a_byKey a_stood a_rowEnd a_rowBefore a_list a_stays a_order a_pile g_last g_given g_kept g_gone g_moves b_types b_keys b_parents b_ids b_states b_draftTypes b_draftKeys b_draftParents b_origins b_oldIds b_oldStates b_row b_best r1 r2 r3 r4
  have hm := r2.1
  have same : ∀ r : Int32, (∀ post : Int32 → SX → Prop, post r (nI m, nI op, f_root, g_given, f_rowSize, g_kept, g_gone, g_moves, b_draftTypes, b_draftKeys, b_draftParents, a_openNode, a_used, a_type, a_key, a_ident, a_state, a_up, a_child, a_next, a_before, a_becomes, a_isKept, a_byKey, a_stood, a_rowEnd, a_rowBefore, a_list, a_stays, a_order, a_pile) → wpX_open post (nI m, nI op, f_root, g_given, f_rowSize, g_kept, g_gone, g_moves, b_draftTypes, b_draftKeys, b_draftParents, a_openNode, a_used, a_type, a_key, a_ident, a_state, a_up, a_child, a_next, a_before, a_becomes, a_isKept, a_byKey, a_stood, a_rowEnd, a_rowBefore, a_list, a_stays, a_order, a_pile) v1 v2) → (∀ post : Int32 → SY → Prop, post r (nI N, nI m, g_last, nI op, g_given, g_kept, g_gone, g_moves, b_types, b_keys, b_parents, b_ids, b_states, b_draftTypes, b_draftKeys, b_draftParents, b_origins, b_oldIds, b_oldStates, b_row, b_best) → wpY_open post (nI N, nI m, g_last, nI op, g_given, g_kept, g_gone, g_moves, b_types, b_keys, b_parents, b_ids, b_states, b_draftTypes, b_draftKeys, b_draftParents, b_origins, b_oldIds, b_oldStates, b_row, b_best) v1 v2) → kr_oX (nI m, nI op, f_root, g_given, f_rowSize, g_kept, g_gone, g_moves, b_draftTypes, b_draftKeys, b_draftParents, a_openNode, a_used, a_type, a_key, a_ident, a_state, a_up, a_child, a_next, a_before, a_becomes, a_isKept, a_byKey, a_stood, a_rowEnd, a_rowBefore, a_list, a_stays, a_order, a_pile) (nI N, nI m, g_last, nI op, g_given, g_kept, g_gone, g_moves, b_types, b_keys, b_parents, b_ids, b_states, b_draftTypes, b_draftKeys, b_draftParents, b_origins, b_oldIds, b_oldStates, b_row, b_best) v1 v2 k :=
    fun r hX hY => ⟨r, _, _, kr_in r1 r2 r3 r4, hX, hY⟩
  by_cases c1 : v1 < 0
  · exact same (-1) (fun post K => br_t c1 K) (fun post K => br_t c1 K)
  by_cases c2 : 3 < v1
  · exact same (-1) (fun post K => br_f c1 (br_t c2 K)) (fun post K => br_f c1 (br_t c2 K))
  by_cases c3 : v2 < 0
  · exact same (-1) (fun post K => br_f c1 (br_f c2 (br_t c3 K))) (fun post K => br_f c1 (br_f c2 (br_t c3 K)))
  rcases pk_ix v2 (n := 10) (by decide) with c4 | c4 | ⟨kk, hkk, rfl⟩
  · exact absurd c4 c3
  · have d1 : ¬ v2 < 10 := Int32.not_lt.mpr c4
    have d2 : ¬ v2 ≤ 9 := by
      intro h
      have := Int32.le_trans c4 h
      exact absurd this (by decide)
    exact same (-1) (fun post K => br_f c1 (br_f c2 (br_f c3 (br_f d1 K)))) (fun post K => br_f c1 (br_f c2 (br_f c3 (br_f d2 K))))
  have d1 : nI kk < 10 := nI_lt (b := 10) hkk (by decide)
  have d2 : nI kk ≤ 9 := nI_le (b := 9) (by omega) (by decide)
  have pX : ∀ {A B : Prop}, A → (nI kk < 10 → A) ∧ (¬ nI kk < 10 → B) := fun a => br_t d1 a
  by_cases c5 : m = 16
  · have c5' : nI m = 16 := by rw [c5]; rfl
    exact same (-2) (fun post K => br_f c1 (br_f c2 (br_f c3 (br_t d1 (br_t c5' K))))) (fun post K => br_f c1 (br_f c2 (br_f c3 (br_t d2 (br_t c5' K)))))
  have c5' : ¬ nI m = 16 := fun e => c5 ((nI_eq (b := 16) (by omega) (by decide)).mp e)
  have cm : (nI m).toNatClampNeg = m := nI_clamp (by omega)
  have hop := r3.1
  have co : (nI op).toNatClampNeg = op := nI_clamp (by omega)
  have vm : vp_in (nI m) 16 := vp_in_nI (by omega) (by omega)
  have vo : vp_in (nI op) 16 := vp_in_nI (by omega) (by omega)
  by_cases c6 : op = 0
  · have c6' : nI op = 0 := by rw [c6]; rfl
    have last1 := r3.2.1 c6
    by_cases c7 : m = 0
    · -- the root
      have c7' : ¬ 0 < nI m := by rw [c7]; decide
      have c7y : nI m ≤ 0 := by rw [c7]; decide
      obtain ⟨s2, s3⟩ := kr_shp_add r2 r3 (v2 := nI kk) (by omega) hkk rfl (fun _ => c7) (fun i hi => by omega)
      refine ⟨nI (op + 1), (nI (m + 1), nI (op + 1), f_root, g_given, f_rowSize, g_kept, g_gone, g_moves, upd b_draftTypes m v1, upd b_draftKeys m (nI kk), upd b_draftParents m g_last, upd a_openNode op (nI m), a_used, a_type, a_key, a_ident, a_state, a_up, a_child, a_next, a_before, a_becomes, a_isKept, a_byKey, a_stood, a_rowEnd, a_rowBefore, a_list, a_stays, a_order, a_pile), (nI N, nI (m + 1), nI m, nI (op + 1), g_given, g_kept, g_gone, g_moves, b_types, b_keys, b_parents, b_ids, b_states, upd b_draftTypes m v1, upd b_draftKeys m (nI kk), upd b_draftParents m g_last, b_origins, b_oldIds, b_oldStates, b_row, b_best), kr_in r1 s2 s3 r4, ?_, ?_⟩
      · intro post K
        refine br_f c1 (br_f c2 (br_f c3 (br_t d1 (br_f c5' (br_t c6' ?_)))))
        unfold wX_open_55
        refine br_t c6' (br_f c7' ?_)
        unfold wX_open_70
        refine br_t (by rw [c6]; decide) ?_
        unfold wX_open_89
        rw [cm, co, ← last1]
        exact ⟨vm, nm_e ⟨vm, nm_e ⟨vm, nm_e ⟨vo, nm_e (nm_r (nI_1 op) (nm_r (nI_1 m) K))⟩⟩⟩⟩
      · intro post K
        refine br_f c1 (br_f c2 (br_f c3 (br_t d2 (br_f c5' (br_t c7y ?_)))))
        unfold wY_open_62
        rw [cm]
        exact ⟨vm, nm_e ⟨vm, nm_e ⟨vm, nm_e (nm_r (nI_1 m) (nm_r (nI_1 op) K))⟩⟩⟩
    · have c7' : 0 < nI m := nI_lt (a := 0) (by omega) (by omega)
      have c7y : ¬ nI m ≤ 0 := nI_nle (by omega) (by omega)
      refine same (-4) (fun post K => br_f c1 (br_f c2 (br_f c3 (br_t d1 (br_f c5' (br_t c6' ?_)))))) (fun post K => br_f c1 (br_f c2 (br_f c3 (br_t d2 (br_f c5' (br_f c7y (br_t ?_ K)))))))
      · unfold wX_open_55
        exact br_t c6' (br_t c7' K)
      · rw [last1]; exact kr_m1lt
  · have c6' : ¬ nI op = 0 := nI_ne0 (by omega) (by omega)
    have c6n : ¬ nI op ≤ 0 := nI_nle (by omega) (by omega)
    obtain ⟨op, rfl⟩ : ∃ o', op = o' + 1 := ⟨op - 1, by omega⟩
    obtain ⟨last1, q0⟩ := r3.2.2.1 (by omega)
    rw [Nat.add_sub_cancel] at last1
    obtain ⟨w1, w2, w3⟩ := r3.2.2.2.1 op (by omega)
    have hl : ¬ g_last < 0 := by rw [last1]; exact nI_pos (by omega)
    have c7y : ¬ nI m ≤ 0 := nI_nle (by omega) (by omega)
    have co' : (nI op).toNatClampNeg = op := nI_clamp (by omega)
    have vo' : vp_in (nI op) 16 := vp_in_nI (by omega) (by omega)
    have eo : a_openNode (nI (op + 1) - 1).toNatClampNeg = g_last := by rw [nI_pred, co', w1, last1]
    have vo2 : vp_in (nI (op + 1) - 1) 16 := by rw [nI_pred]; exact vo'
    by_cases c8 : ∃ i, i < m ∧ b_draftParents i = g_last ∧ b_draftKeys i = nI kk
    · obtain ⟨i, i1, i2, i3⟩ := c8
      refine same (-4) ?_ ?_
      · intro post K
        refine br_f c1 (br_f c2 (br_f c3 (br_t d1 (br_f c5' (br_f c6' ⟨vo2, ?_⟩)))))
        rw [eo]
        unfold wX_open_55
        refine br_f c6' ?_
        unfold wX_open_70
        refine br_f c6n ?_
        unfold wpX_twin
        dsimp only
        refine ⟨m + 1, kr_twX hm ?_ ?_ m 0 (m + 1) (by omega) (by omega) (fun j h => absurd h (Nat.not_lt_zero j))⟩
        · intro _ _ _ _
          exact br_f (by decide) K
        · intro h
          exact absurd i3 (h i i1 i2)
      · intro post K
        refine br_f c1 (br_f c2 (br_f c3 (br_t d2 (br_f c5' (br_f c7y (br_f hl ?_))))))
        unfold wpY_hasChild
        dsimp only
        refine ⟨m + 1, kr_twY hm ?_ ?_ m 0 (m + 1) (by omega) (by omega) (fun j h => absurd h (Nat.not_lt_zero j))⟩
        · intro _ _ _ _
          exact br_f (by decide) K
        · intro h
          exact absurd i3 (h i i1 i2)
    · obtain ⟨s2, s3⟩ := kr_shp_add r2 r3 (v2 := nI kk) (by omega) hkk rfl (fun z => by omega) (fun i hi e1 e2 => c8 ⟨i, hi, e1, e2⟩)
      refine ⟨nI (op + 1 + 1), (nI (m + 1), nI (op + 1 + 1), f_root, g_given, f_rowSize, g_kept, g_gone, g_moves, upd b_draftTypes m v1, upd b_draftKeys m (nI kk), upd b_draftParents m g_last, upd a_openNode (op + 1) (nI m), a_used, a_type, a_key, a_ident, a_state, a_up, a_child, a_next, a_before, a_becomes, a_isKept, a_byKey, a_stood, a_rowEnd, a_rowBefore, a_list, a_stays, a_order, a_pile), (nI N, nI (m + 1), nI m, nI (op + 1 + 1), g_given, g_kept, g_gone, g_moves, b_types, b_keys, b_parents, b_ids, b_states, upd b_draftTypes m v1, upd b_draftKeys m (nI kk), upd b_draftParents m g_last, b_origins, b_oldIds, b_oldStates, b_row, b_best), kr_in r1 s2 s3 r4, ?_, ?_⟩
      · intro post K
        refine br_f c1 (br_f c2 (br_f c3 (br_t d1 (br_f c5' (br_f c6' ⟨vo2, ?_⟩)))))
        rw [eo]
        unfold wX_open_55
        refine br_f c6' ?_
        unfold wX_open_70
        refine br_f c6n ?_
        unfold wpX_twin
        dsimp only
        refine ⟨m + 1, kr_twX hm ?_ ?_ m 0 (m + 1) (by omega) (by omega) (fun j h => absurd h (Nat.not_lt_zero j))⟩
        · intro i hi e1 e2
          exact absurd ⟨i, hi, e1, e2⟩ c8
        · intro _
          refine br_t rfl ?_
          unfold wX_open_89
          rw [cm, co]
          exact ⟨vm, nm_e ⟨vm, nm_e ⟨vm, nm_e ⟨vo, nm_e (nm_r (nI_1 (op + 1)) (nm_r (nI_1 m) K))⟩⟩⟩⟩
      · intro post K
        refine br_f c1 (br_f c2 (br_f c3 (br_t d2 (br_f c5' (br_f c7y (br_f hl ?_))))))
        unfold wpY_hasChild
        dsimp only
        refine ⟨m + 1, kr_twY hm ?_ ?_ m 0 (m + 1) (by omega) (by omega) (fun j h => absurd h (Nat.not_lt_zero j))⟩
        · intro i hi e1 e2
          exact absurd ⟨i, hi, e1, e2⟩ c8
        · intro _
          refine br_t rfl ?_
          unfold wY_open_62
          rw [cm]
          exact ⟨vm, nm_e ⟨vm, nm_e ⟨vm, nm_e (nm_r (nI_1 m) (nm_r (nI_1 (op + 1)) K))⟩⟩⟩
theorem kr_opn_pop {m op : Nat} {dp q : Nat → Nat} {par key oN : Nat → Int32} {last : Int32} (h : kr_shp m dp par key) (o : kr_opn m (op + 1) dp q oN last) : kr_opn m op dp q oN (par (q op)) ∧ last = nI (q op) ∧ q op < m := by
  obtain ⟨o1, o2, o3, o4, o5, o6⟩ := o
  obtain ⟨l1, l2⟩ := o3 (by omega)
  rw [Nat.add_sub_cancel] at l1
  have hq := (o4 op (by omega)).2.1
  refine ⟨⟨by omega, ?_, ?_, fun k hk => o4 k (by omega), fun k hk => o5 k (by omega), fun k l h1 h2 => o6 k l h1 (by omega)⟩, l1, hq⟩
  · intro z
    subst z
    rw [l2]
    exact h.2.1 (by omega)
  · intro z
    obtain ⟨o, rfl⟩ : ∃ o', op = o' + 1 := ⟨op - 1, by omega⟩
    refine ⟨?_, l2⟩
    rw [Nat.add_sub_cancel, ← o5 o (by omega)]
    have := o6 o (o + 1) (by omega) (by omega)
    exact h.2.2.1 (q (o + 1)) (by omega) hq
def kr_cX (u : SX) (v : SY) (k : Nat) : Prop := ∃ (r : Int32) (u' : SX) (v' : SY), i_Rel k u' v' ∧ (∀ post : Int32 → SX → Prop, post r u' → wpX_close post u) ∧ (∀ post : Int32 → SY → Prop, post r v' → wpY_close post v)
theorem kr_close {k : Nat} {u : SX} {v : SY} (I : i_Rel k u v) : kr_cX u v k := by
  refine kr_el (P := fun u v => kr_cX u v k) ?_ I
  intro N m op p dp q nd f_root f_rowSize a_openNode a_used a_type a_key a_ident a_state a_up a_child a_next a_before a_becomes a_isKept a_byKey a_stood a_rowEnd a_rowBefore a_list a_stays a_order a_pile g_last g_given g_kept g_gone g_moves b_types b_keys b_parents b_ids b_states b_draftTypes b_draftKeys b_draftParents b_origins b_oldIds b_oldStates b_row b_best r1 r2 r3 r4
  have hm := r2.1
  have hop := r3.1
  by_cases c1 : op = 0
  · have c1' : nI op = 0 := by rw [c1]; rfl
    exact ⟨-4, _, _, kr_in r1 r2 r3 r4, fun post K => br_t c1' K, fun post K => br_t c1' K⟩
  · obtain ⟨op, rfl⟩ : ∃ o', op = o' + 1 := ⟨op - 1, by omega⟩
    have c1' : ¬ nI (op + 1) = 0 := nI_ne0 (by omega) (by omega)
    obtain ⟨s3, e1, e2⟩ := kr_opn_pop r2 r3
    refine ⟨nI op, (nI m, nI op, f_root, g_given, f_rowSize, g_kept, g_gone, g_moves, b_draftTypes, b_draftKeys, b_draftParents, a_openNode, a_used, a_type, a_key, a_ident, a_state, a_up, a_child, a_next, a_before, a_becomes, a_isKept, a_byKey, a_stood, a_rowEnd, a_rowBefore, a_list, a_stays, a_order, a_pile), (nI N, nI m, b_draftParents (q op), nI op, g_given, g_kept, g_gone, g_moves, b_types, b_keys, b_parents, b_ids, b_states, b_draftTypes, b_draftKeys, b_draftParents, b_origins, b_oldIds, b_oldStates, b_row, b_best), kr_in r1 r2 s3 r4, ?_, ?_⟩
    · intro post K
      exact br_f c1' (nm_r (nI_pred op) K)
    · intro post K
      refine br_f c1' ⟨?_, nm_r (e' := b_draftParents (q op)) ?_ (nm_r (nI_pred op) K)⟩
      · rw [e1]; exact vp_in_nI (by omega) (by omega)
      · rw [e1, nI_clamp (by omega)]
theorem i_vc_open {k : Nat} {u : SX} {v : SY} (I : i_Rel k u v) (hk : k + 3 ≤ 1536) (v1 : Int32) (v2 : Int32) : wpX_open (fun r u' => wpY_open (fun r' v' => r' = r ∧ i_Rel (k + 3) u' v') v v1 v2) u v1 v2 := by
  obtain ⟨r, u', v', R, hX, hY⟩ := kr_open I v1 v2
  exact hX _ (hY _ ⟨rfl, R⟩)
theorem i_vc_close {k : Nat} {u : SX} {v : SY} (I : i_Rel k u v) (hk : k + 3 ≤ 1536) : wpX_close (fun r u' => wpY_close (fun r' v' => r' = r ∧ i_Rel (k + 3) u' v') v) u := by
  obtain ⟨r, u', v', R, hX, hY⟩ := kr_close I
  exact hX _ (hY _ ⟨rfl, R⟩)
theorem i_vc_leaf {k : Nat} {u : SX} {v : SY} (I : i_Rel k u v) (hk : k + 3 ≤ 1536) (v1 : Int32) (v2 : Int32) : wpX_leaf (fun r u' => wpY_leaf (fun r' v' => r' = r ∧ i_Rel (k + 3) u' v') v v1 v2) u v1 v2 := by
  obtain ⟨r, u', v', R, hX, hY⟩ := kr_open I v1 v2
  unfold wpX_leaf
  dsimp only
  refine hX _ ?_
  by_cases c : 0 ≤ r
  · obtain ⟨s, u2, v2', R2, hX2, hY2⟩ := kr_close R
    refine br_t c (hX2 _ ?_)
    unfold wpY_leaf
    dsimp only
    refine hY _ (br_t c (hY2 _ ⟨rfl, R2⟩))
  · refine br_f c ?_
    unfold wpY_leaf
    dsimp only
    exact hY _ (br_f c ⟨rfl, R⟩)
theorem kr_shp_0 {p : Nat → Nat} {par key : Nat → Int32} : kr_shp 0 p par key :=
  ⟨by omega, fun h => absurd h (Nat.not_lt_zero _), fun i _ h => absurd h (Nat.not_lt_zero i), ⟨fun i _ h => absurd h (Nat.not_lt_zero i), fun i j _ h => absurd h (Nat.not_lt_zero i)⟩, fun i h => absurd h (Nat.not_lt_zero i), fun i j _ _ h => absurd h (Nat.not_lt_zero j)⟩
theorem kr_opn_0 {m : Nat} {dp q : Nat → Nat} {oN : Nat → Int32} : kr_opn m 0 dp q oN (-1) :=
  ⟨by omega, fun _ => rfl, fun h => absurd h (Nat.not_lt_zero _), fun k h => absurd h (Nat.not_lt_zero k), fun k h => absurd h (Nat.not_lt_zero _), fun k l _ h => absurd h (Nat.not_lt_zero l)⟩
theorem i_vc_scrap {k : Nat} {u : SX} {v : SY} (I : i_Rel k u v) (hk : k + 3 ≤ 1536) : wpX_scrap (fun u' => wpY_scrap (fun v' => i_Rel (k + 3) u' v') v) u := by
  refine kr_el (P := fun u v => wpX_scrap (fun u' => wpY_scrap (fun v' => i_Rel (k + 3) u' v') v) u) ?_ I
  intro N m op p dp q nd f_root f_rowSize a_openNode a_used a_type a_key a_ident a_state a_up a_child a_next a_before a_becomes a_isKept a_byKey a_stood a_rowEnd a_rowBefore a_list a_stays a_order a_pile g_last g_given g_kept g_gone g_moves b_types b_keys b_parents b_ids b_states b_draftTypes b_draftKeys b_draftParents b_origins b_oldIds b_oldStates b_row b_best r1 r2 r3 r4
  exact kr_in (k := k + 3) (m := 0) (op := 0) (dp := dp) (q := q) r1 kr_shp_0 kr_opn_0 r4
theorem i_vc0 : wpX_init (fun u => wpY_init (fun v => i_Rel 0 u v)) := by
  refine kr_in (k := 0) (N := 0) (m := 0) (op := 0) (p := fun _ => 0) (dp := fun _ => 0) (q := fun _ => 0) (nd := fun _ => 0) kr_shp_0 kr_shp_0 kr_opn_0 ?_
  refine ⟨rfl, fun i h => absurd h (Nat.not_lt_zero i), fun i j h => absurd h (Nat.not_lt_zero i), fun i h => absurd h (Nat.not_lt_zero i), fun h => absurd h (Nat.not_lt_zero _), fun i h => absurd h (Nat.not_lt_zero i), ?_⟩
  intro x _ _
  exact ⟨fun _ i h => absurd h (Nat.not_lt_zero i), fun _ => rfl⟩
end
section
def kr_wr (n : Nat) (f g : Nat → Int32) : Nat → Int32 := fun j => if j < n then f j else g j
theorem kr_wr_0 {f g : Nat → Int32} : kr_wr 0 f g = g := by
  funext j
  exact if_neg (Nat.not_lt_zero j)
theorem kr_wr_s {n : Nat} {f g : Nat → Int32} : upd (kr_wr n f g) n (f n) = kr_wr (n + 1) f g := by
  funext j
  show (if j = n then f n else (if j < n then f j else g j)) = (if j < n + 1 then f j else g j)
  by_cases q : j = n
  · subst q
    rw [if_pos rfl, if_pos (by omega)]
  · rw [if_neg q]
    by_cases r : j < n
    · rw [if_pos r, if_pos (by omega)]
    · rw [if_neg r, if_neg (by omega)]
theorem kr_wr_l {n j : Nat} {f g : Nat → Int32} (h : j < n) : kr_wr n f g j = f j := if_pos h
theorem kr_upd2 {a : Nat → Int32} {k : Nat} {x y : Int32} : upd (upd a k x) k y = upd a k y := by
  funext j
  unfold upd
  by_cases q : j = k
  · rw [if_pos q, if_pos q]
  · rw [if_neg q, if_neg q, if_neg q]
section
variable {f_drafted f_open f_root f_nextId f_rowSize f_keptCount f_goneCount f_moveCount : Int32} {a_draftType a_draftKey a_draftParent a_openNode a_used a_type a_key a_ident a_state a_up a_child a_next a_before a_becomes a_isKept a_byKey a_stood a_rowEnd a_rowBefore a_list a_stays a_order a_pile : Nat → Int32} {g_size g_drafted g_last g_opened g_given g_kept g_gone g_moves : Int32} {b_types b_keys b_parents b_ids b_states b_draftTypes b_draftKeys b_draftParents b_origins b_oldIds b_oldStates b_row b_best : Nat → Int32} {N : Nat} {p nd : Nat → Nat}
theorem kr_rc57 {post : Int32 → SX → Prop} {J : Int32 → (Nat → Int32) → (Nat → Int32) → (Nat → Int32) → (Nat → Int32) → (Nat → Int32) → (Nat → Int32) → (Nat → Int32) → (Nat → Int32) → (Nat → Int32) → (Nat → Int32) → (Nat → Int32) → (Nat → Int32) → (Nat → Int32) → (Nat → Int32) → (Nat → Int32) → (Nat → Int32) → (Nat → Int32) → (Nat → Int32) → (Nat → Int32) → (Nat → Int32) → (Nat → Int32) → (Nat → Int32) → (Nat → Int32) → Prop} {x1 : Int32} {i : Nat} (base : Nat → Int32)
    (r1 : kr_shp N p b_parents b_keys) (hi : i < N) (hd : ∀ i, i < N → 1 ≤ nd i ∧ nd i ≤ 32) (hinj : ∀ i j, i < N → j < N → nd i = nd j → i = j) (ho : ∀ j, j < N → a_order j = nI (nd j)) (hu : 0 < i → a_up (nd i) = nI (nd (p i)))
    (K : J (nI (i + 1)) a_draftType a_draftKey (upd base i (b_parents i)) a_openNode a_used a_type a_key a_ident a_state a_up a_child a_next a_before a_becomes a_isKept a_byKey a_stood a_rowEnd a_rowBefore a_list a_stays a_order a_pile) :
    ∀ (d j n : Nat), j + d = i → d < n → wX_recall_57 post J x1 (nI i) (nI (nd i)) f_drafted f_open f_root f_nextId f_rowSize f_keptCount f_goneCount f_moveCount n (nI j) a_draftType a_draftKey (upd base i (if 0 < i ∧ p i < j then nI (p i) else -1)) a_openNode a_used a_type a_key a_ident a_state a_up a_child a_next a_before a_becomes a_isKept a_byKey a_stood a_rowEnd a_rowBefore a_list a_stays a_order a_pile := by
  have hN := r1.1
  have di := hd i hi
  intro d
  induction d with
  | zero =>
    intro j n e hn
    obtain ⟨n, rfl⟩ : ∃ n', n = n' + 1 := ⟨n - 1, by omega⟩
    have e' : j = i := by omega
    subst e'
    rw [wX_recall_57]
    refine br_t (nI_le (Nat.le_refl _) (by omega)) (nm_r (nI_1 j) ?_)
    have e2 : (if 0 < j ∧ p j < j then nI (p j) else -1) = b_parents j := by
      by_cases z : j = 0
      · subst z
        rw [if_neg (by omega)]
        exact (r1.2.1 (by omega)).symm
      · rw [if_pos ⟨by omega, r1.2.2.2.1.1 j (by omega) hi⟩]
        exact (r1.2.2.1 j (by omega) hi).symm
    rw [e2]
    exact K
  | succ d ih =>
    intro j n e hn
    obtain ⟨n, rfl⟩ : ∃ n', n = n' + 1 := ⟨n - 1, by omega⟩
    have cj : (nI j).toNatClampNeg = j := nI_clamp (by omega)
    have ci : (nI i).toNatClampNeg = i := nI_clamp (by omega)
    have cd : (nI (nd i)).toNatClampNeg = nd i := nI_clamp (by omega)
    have k := ih (j + 1) n (by omega) (by omega)
    have pi := r1.2.2.2.1.1 i (by omega) hi
    have dj := hd j (by omega)
    have dp := hd (p i) (by omega)
    rw [wX_recall_57]
    dsimp only
    rw [cj, cd, ci, ho j (by omega), hu (by omega)]
    refine br_f (nI_ge (by omega) (by omega)) ⟨vp_in_nI (by omega) (by omega), vp_in_nI (by omega) (by omega), br_c (fun z => ?_) (fun z => ?_)⟩
    · have z' : j = p i := hinj j (p i) (by omega) (by omega) ((nI_eq (by omega) (by omega)).mp z)
      refine ⟨vp_in_nI (by omega) (by omega), nm_r (e' := upd base i (nI j)) kr_upd2 (nm_r (nI_1 j) ?_)⟩
      rw [if_pos ⟨by omega, by omega⟩, ← z'] at k
      exact k
    · have z' : ¬ j = p i := fun e => z (by rw [e])
      refine nm_r (nI_1 j) ?_
      have e2 : (if 0 < i ∧ p i < j + 1 then nI (p i) else -1) = (if 0 < i ∧ p i < j then nI (p i) else -1) := by
        by_cases y : p i < j
        · rw [if_pos ⟨by omega, by omega⟩, if_pos ⟨by omega, y⟩]
        · rw [if_neg (by omega), if_neg (by omega)]
      rw [e2] at k
      exact k
theorem kr_rc11 {post : Int32 → SX → Prop} (dT dK dP : Nat → Int32)
    (r1 : kr_shp N p b_parents b_keys) (hd : ∀ i, i < N → 1 ≤ nd i ∧ nd i ≤ 32) (hinj : ∀ i j, i < N → j < N → nd i = nd j → i = j) (ho : ∀ j, j < N → a_order j = nI (nd j)) (hu : ∀ i, 0 < i → i < N → a_up (nd i) = nI (nd (p i)))
    (ht : ∀ i, i < N → a_type (nd i) = b_types i ∧ a_key (nd i) = b_keys i)
    (K : post (nI N) (nI N, 0, f_root, f_nextId, f_rowSize, f_keptCount, f_goneCount, f_moveCount, kr_wr N b_types dT, kr_wr N b_keys dK, kr_wr N b_parents dP, a_openNode, a_used, a_type, a_key, a_ident, a_state, a_up, a_child, a_next, a_before, a_becomes, a_isKept, a_byKey, a_stood, a_rowEnd, a_rowBefore, a_list, a_stays, a_order, a_pile)) :
    ∀ (d i n : Nat), i + d = N → d < n → wX_recall_11 post (nI N) f_drafted f_open f_root f_nextId f_rowSize f_keptCount f_goneCount f_moveCount n (nI i) (kr_wr i b_types dT) (kr_wr i b_keys dK) (kr_wr i b_parents dP) a_openNode a_used a_type a_key a_ident a_state a_up a_child a_next a_before a_becomes a_isKept a_byKey a_stood a_rowEnd a_rowBefore a_list a_stays a_order a_pile := by
  have hN := r1.1
  intro d
  induction d with
  | zero =>
    intro i n e hn
    obtain ⟨n, rfl⟩ : ∃ n', n = n' + 1 := ⟨n - 1, by omega⟩
    have e' : i = N := by omega
    rw [e', wX_recall_11]
    exact br_t (nI_le (Nat.le_refl _) (by omega)) K
  | succ d ih =>
    intro i n e hn
    obtain ⟨n, rfl⟩ : ∃ n', n = n' + 1 := ⟨n - 1, by omega⟩
    have ci : (nI i).toNatClampNeg = i := nI_clamp (by omega)
    have di := hd i (by omega)
    have cd : (nI (nd i)).toNatClampNeg = nd i := nI_clamp (by omega)
    have vi : vp_in (nI i) 16 := vp_in_nI (by omega) (by omega)
    have vi2 : vp_in (nI i) 33 := vp_in_nI (by omega) (by omega)
    have vd : vp_in (nI (nd i)) 33 := vp_in_nI (by omega) (by omega)
    have hti := ht i (by omega)
    rw [wX_recall_11]
    dsimp only
    rw [ci, ho i (by omega)]
    refine br_f (nI_ge (by omega) (by omega)) ⟨vi2, nm_e ⟨vd, vi, nm_r (e' := kr_wr (i + 1) b_types dT) ?_ ⟨vd, vi, nm_r (e' := kr_wr (i + 1) b_keys dK) ?_ ⟨vi, nm_e ⟨i + 1, ?_⟩⟩⟩⟩⟩
    · rw [cd, hti.1]; exact kr_wr_s
    · rw [cd, hti.2]; exact kr_wr_s
    · have k := kr_rc57 (post := post) (J := wX_recall_11 post (nI N) f_drafted f_open f_root f_nextId f_rowSize f_keptCount f_goneCount f_moveCount n) (x1 := nI N) (i := i) (nd := nd) (f_drafted := f_drafted) (f_open := f_open) (f_root := f_root) (f_nextId := f_nextId) (f_rowSize := f_rowSize) (f_keptCount := f_keptCount) (f_goneCount := f_goneCount) (f_moveCount := f_moveCount) (a_draftType := kr_wr (i + 1) b_types dT) (a_draftKey := kr_wr (i + 1) b_keys dK) (kr_wr i b_parents dP) r1 (by omega) hd hinj ho (fun h => hu i h (by omega)) (by rw [kr_wr_s]; exact ih (i + 1) n (by omega) (by omega)) i 0 (i + 1) (by omega) (by omega)
      rw [if_neg (by omega)] at k
      exact k
theorem kr_rcY {post : Int32 → SY → Prop} (dT dK dP : Nat → Int32) (hN : N ≤ 16)
    (K : post (nI N) (nI N, nI N, g_last, g_opened, g_given, g_kept, g_gone, g_moves, b_types, b_keys, b_parents, b_ids, b_states, kr_wr N b_types dT, kr_wr N b_keys dK, kr_wr N b_parents dP, b_origins, b_oldIds, b_oldStates, b_row, b_best)) :
    ∀ (d i n : Nat), i + d = N → d < n → wY_recall_6 post (nI N) g_drafted g_last g_opened g_given g_kept g_gone g_moves n (nI i) b_types b_keys b_parents b_ids b_states (kr_wr i b_types dT) (kr_wr i b_keys dK) (kr_wr i b_parents dP) b_origins b_oldIds b_oldStates b_row b_best := by
  intro d
  induction d with
  | zero =>
    intro i n e hn
    obtain ⟨n, rfl⟩ : ∃ n', n = n' + 1 := ⟨n - 1, by omega⟩
    have e' : i = N := by omega
    rw [e', wY_recall_6]
    exact br_t (nI_le (Nat.le_refl _) (by omega)) K
  | succ d ih =>
    intro i n e hn
    obtain ⟨n, rfl⟩ : ∃ n', n = n' + 1 := ⟨n - 1, by omega⟩
    have ci : (nI i).toNatClampNeg = i := nI_clamp (by omega)
    have vi : vp_in (nI i) 16 := vp_in_nI (by omega) (by omega)
    rw [wY_recall_6]
    dsimp only
    rw [ci]
    exact br_f (nI_ge (by omega) (by omega)) ⟨vi, vi, nm_r kr_wr_s ⟨vi, vi, nm_r kr_wr_s ⟨vi, vi, nm_r kr_wr_s (nm_r (nI_1 i) (ih (i + 1) n (by omega) (by omega)))⟩⟩⟩
end
theorem kr_shp_wr {N : Nat} {p : Nat → Nat} {par key f g : Nat → Int32} (h : kr_shp N p par key) : kr_shp N p (kr_wr N par f) (kr_wr N key g) := by
  obtain ⟨h1, h2, h3, h4, h5, h6⟩ := h
  refine ⟨h1, fun z => ?_, fun i i1 i2 => ?_, h4, fun i i1 => ?_, fun i j i1 i2 j1 j2 => ?_⟩
  · rw [kr_wr_l z]; exact h2 z
  · rw [kr_wr_l i2]; exact h3 i i1 i2
  · rw [kr_wr_l i1]; exact h5 i i1
  · rw [kr_wr_l (show i < N by omega), kr_wr_l j1]; exact h6 i j i1 i2 j1 j2
theorem i_vc_recall {k : Nat} {u : SX} {v : SY} (I : i_Rel k u v) (hk : k + 3 ≤ 1536) : wpX_recall (fun r u' => wpY_recall (fun r' v' => r' = r ∧ i_Rel (k + 3) u' v') v) u := by
  refine kr_el (P := fun u v => wpX_recall (fun r u' => wpY_recall (fun r' v' => r' = r ∧ i_Rel (k + 3) u' v') v) u) ?_ I
  intro N m op p dp q nd f_root f_rowSize a_openNode a_used a_type a_key a_ident a_state a_up a_child a_next a_before a_becomes a_isKept a_byKey a_stood a_rowEnd a_rowBefore a_list a_stays a_order a_pile g_last g_given g_kept g_gone g_moves b_types b_keys b_parents b_ids b_states b_draftTypes b_draftKeys b_draftParents b_origins b_oldIds b_oldStates b_row b_best r1 r2 r3 r4
  have hN := r1.1
  unfold wpX_recall
  dsimp only
  refine kr_rootw r1 r4 ?_
  intro od g ho
  refine ⟨N + 1, ?_⟩
  have kX := fun (post : Int32 → SX → Prop) K => kr_rc11 (post := post) (nd := nd) (f_drafted := nI m) (f_open := nI op) (f_root := f_root) (f_nextId := g_given) (f_rowSize := f_rowSize) (f_keptCount := g_kept) (f_goneCount := g_gone) (f_moveCount := g_moves) (a_openNode := a_openNode) (a_used := a_used) (a_type := a_type) (a_key := a_key) (a_ident := a_ident) (a_state := a_state) (a_up := a_up) (a_child := a_child) (a_next := a_next) (a_before := a_before) (a_becomes := a_becomes) (a_isKept := a_isKept) (a_byKey := a_byKey) (a_stood := a_stood) (a_rowEnd := a_rowEnd) (a_rowBefore := a_rowBefore) (a_list := a_list) (a_stays := a_stays) (a_order := od) (a_pile := g) (b_types := b_types) b_draftTypes b_draftKeys b_draftParents r1 r4.2.1 r4.2.2.1 ho (fun i h0 hi => kr_up r1 r4 h0 hi) (fun i hi => ⟨(r4.2.2.2.1 i hi).1, (r4.2.2.2.1 i hi).2.1⟩) K N 0 (N + 1) (by omega) (by omega)
  rw [kr_wr_0, kr_wr_0, kr_wr_0] at kX
  refine kX _ ?_
  unfold wpY_recall
  dsimp only
  unfold wpY_scrap
  dsimp only
  refine ⟨N + 1, ?_⟩
  have kY := fun (post : Int32 → SY → Prop) K => kr_rcY (post := post) (N := N) (g_drafted := 0) (g_last := -1) (g_opened := 0) (g_given := g_given) (g_kept := g_kept) (g_gone := g_gone) (g_moves := g_moves) (b_types := b_types) (b_keys := b_keys) (b_parents := b_parents) (b_ids := b_ids) (b_states := b_states) (b_origins := b_origins) (b_oldIds := b_oldIds) (b_oldStates := b_oldStates) (b_row := b_row) (b_best := b_best) b_draftTypes b_draftKeys b_draftParents hN K N 0 (N + 1) (by omega) (by omega)
  rw [kr_wr_0, kr_wr_0, kr_wr_0] at kY
  refine kY _ ?_
  exact ⟨rfl, kr_in (k := k + 3) (m := N) (op := 0) (dp := p) (q := q) r1 (kr_shp_wr r1) kr_opn_0 r4⟩
end
section
theorem kr_b1 : vp_nar .boolean 1 = 1 := by decide
theorem kr_b0 : vp_nar .boolean 0 = 0 := by decide
theorem kr_sg_last {nx bf : Nat → Int32} {A : List Nat} {p e : Nat} (s : kr_sg nx bf p A e) (h : A ≠ []) : nx (kr_la A p) = nI e := by
  induction A generalizing p with
  | nil => exact absurd rfl h
  | cons c cs ih =>
    cases cs with
    | nil => exact s.2.1
    | cons d ds => exact ih s.2.2 (by simp)
section
variable {f_drafted f_open f_root f_nextId f_rowSize f_keptCount f_goneCount f_moveCount : Int32} {a_draftType a_draftKey a_draftParent a_openNode a_used a_type a_key a_ident a_state a_up a_child a_next a_before a_becomes a_isKept a_byKey a_stood a_rowEnd a_rowBefore a_list a_stays a_order a_pile : Nat → Int32}
theorem kr_u46 {post : SX → Prop} {c l : Nat} {B : List Nat} (hc : c ≤ 32) (hB : ∀ d ∈ B, 1 ≤ d ∧ d ≤ 32) (h1 : a_next c = nI (kr_hd B 0)) (h2 : a_before c = nI l)
    (K : post (f_drafted, f_open, f_root, f_nextId, f_rowSize, f_keptCount, f_goneCount, f_moveCount, a_draftType, a_draftKey, a_draftParent, a_openNode, a_used, a_type, a_key, a_ident, a_state, a_up, a_child, a_next, kr_bfu a_before B l, a_becomes, a_isKept, a_byKey, a_stood, a_rowEnd, a_rowBefore, a_list, a_stays, a_order, a_pile)) : wX_unlink_46 post (nI c) f_drafted f_open f_root f_nextId f_rowSize f_keptCount f_goneCount f_moveCount a_draftType a_draftKey a_draftParent a_openNode a_used a_type a_key a_ident a_state a_up a_child a_next a_before a_becomes a_isKept a_byKey a_stood a_rowEnd a_rowBefore a_list a_stays a_order a_pile := by
  have cc : (nI c).toNatClampNeg = c := nI_clamp (by omega)
  have vc : vp_in (nI c) 33 := vp_in_nI (by omega) (by omega)
  unfold wX_unlink_46
  rw [cc, h1, h2]
  refine ⟨vc, ?_⟩
  cases B with
  | nil => exact br_t nI_0 K
  | cons d ds =>
    have hd := hB d List.mem_cons_self
    have cd : (nI (kr_hd (d :: ds) 0)).toNatClampNeg = d := nI_clamp (by show d < _; omega)
    refine br_f (nI_ne0 (n := d) (by omega) (by omega)) ⟨vc, vc, vp_in_nI (n := d) (by omega) (by omega), nm_r (e' := upd a_before d (nI l)) (by rw [cd]) K⟩
theorem kr_unlw {post : SX → Prop} {x c : Nat} {A B : List Nat} (hx : x ≤ 32) (h : kr_kd a_child a_next a_before a_up x (A ++ c :: B))
    (K : post (f_drafted, f_open, f_root, f_nextId, f_rowSize, f_keptCount, f_goneCount, f_moveCount, a_draftType, a_draftKey, a_draftParent, a_openNode, a_used, a_type, a_key, a_ident, a_state, a_up, kr_chu a_child x A (kr_hd B 0), kr_nxu a_next A B, kr_bfu a_before B (kr_la A 0), a_becomes, a_isKept, a_byKey, a_stood, a_rowEnd, a_rowBefore, a_list, a_stays, a_order, a_pile)) : wpX_unlink post (f_drafted, f_open, f_root, f_nextId, f_rowSize, f_keptCount, f_goneCount, f_moveCount, a_draftType, a_draftKey, a_draftParent, a_openNode, a_used, a_type, a_key, a_ident, a_state, a_up, a_child, a_next, a_before, a_becomes, a_isKept, a_byKey, a_stood, a_rowEnd, a_rowBefore, a_list, a_stays, a_order, a_pile) (nI c) := by
  obtain ⟨h1, h2, h3, h4, h5⟩ := h
  obtain ⟨s1, s2, s3, s4⟩ := (kr_sg_app A (c :: B) 0 0).mp h2
  obtain ⟨m1, m2, m3, m4, m5, m6⟩ := kr_mid h4
  have mc : c ∈ A ++ c :: B := List.mem_append.mpr (Or.inr List.mem_cons_self)
  have hc := h5 c mc
  have hu := h3 c mc
  have cc : (nI c).toNatClampNeg = c := nI_clamp (by omega)
  have cx : (nI x).toNatClampNeg = x := nI_clamp (by omega)
  have vc : vp_in (nI c) 33 := vp_in_nI (by omega) (by omega)
  have hB : ∀ d ∈ B, 1 ≤ d ∧ d ≤ 32 := fun d hd => h5 d (List.mem_append.mpr (Or.inr (List.mem_cons_of_mem _ hd)))
  unfold wpX_unlink
  dsimp only
  rw [cc, s2, s3, hu]
  refine ⟨vc, ?_⟩
  cases A with
  | nil =>
    refine br_t nI_0 ⟨vc, vc, vp_in_nI (by omega) (by omega), nm_r (e' := upd a_child x (nI (kr_hd B 0))) (by rw [cx]) ?_⟩
    exact kr_u46 (by omega) hB s3 s2 K
  | cons a as =>
    have la : kr_la (a :: as) 0 ∈ (a :: as) ++ c :: B := List.mem_append.mpr (Or.inl (kr_la_mem a as 0))
    have hl := h5 _ la
    have cl : (nI (kr_la (a :: as) 0)).toNatClampNeg = kr_la (a :: as) 0 := nI_clamp (by omega)
    refine br_f (nI_ne0 (by omega) (by omega)) ⟨vc, vc, vp_in_nI (by omega) (by omega), nm_r (e' := kr_nxu a_next (a :: as) B) (by rw [cl]; rfl) ?_⟩
    exact kr_u46 (by omega) hB ((kr_nxu_n m3).trans s3) s2 K
theorem kr_l64 {post : SX → Prop} {c : Nat} {B : List Nat} (hB : ∀ d ∈ B, 1 ≤ d ∧ d ≤ 32)
    (K : post (f_drafted, f_open, f_root, f_nextId, f_rowSize, f_keptCount, f_goneCount, f_moveCount, a_draftType, a_draftKey, a_draftParent, a_openNode, a_used, a_type, a_key, a_ident, a_state, a_up, a_child, a_next, kr_bfu a_before B c, a_becomes, a_isKept, a_byKey, a_stood, a_rowEnd, a_rowBefore, a_list, a_stays, a_order, a_pile)) : wX_link_64 post (nI c) (nI (kr_hd B 0)) f_drafted f_open f_root f_nextId f_rowSize f_keptCount f_goneCount f_moveCount a_draftType a_draftKey a_draftParent a_openNode a_used a_type a_key a_ident a_state a_up a_child a_next a_before a_becomes a_isKept a_byKey a_stood a_rowEnd a_rowBefore a_list a_stays a_order a_pile := by
  unfold wX_link_64
  cases B with
  | nil => exact br_t nI_0 K
  | cons d ds =>
    have hd := hB d List.mem_cons_self
    have cd : (nI (kr_hd (d :: ds) 0)).toNatClampNeg = d := nI_clamp (by show d < _; omega)
    refine br_f (nI_ne0 (n := d) (by omega) (by omega)) ⟨vp_in_nI (n := d) (by omega) (by omega), nm_r (e' := upd a_before d (nI c)) (by rw [cd]) K⟩
theorem kr_lnkw {post : SX → Prop} {x c : Nat} {A B : List Nat} (hx : x ≤ 32) (hc : c ≤ 32) (h : kr_kd a_child a_next a_before a_up x (A ++ B))
    (K : post (f_drafted, f_open, f_root, f_nextId, f_rowSize, f_keptCount, f_goneCount, f_moveCount, a_draftType, a_draftKey, a_draftParent, a_openNode, a_used, a_type, a_key, a_ident, a_state, upd a_up c (nI x), kr_chu a_child x A c, kr_nxl a_next A c (kr_hd B 0), kr_bfu (upd a_before c (nI (kr_la A 0))) B c, a_becomes, a_isKept, a_byKey, a_stood, a_rowEnd, a_rowBefore, a_list, a_stays, a_order, a_pile)) : wpX_link post (f_drafted, f_open, f_root, f_nextId, f_rowSize, f_keptCount, f_goneCount, f_moveCount, a_draftType, a_draftKey, a_draftParent, a_openNode, a_used, a_type, a_key, a_ident, a_state, a_up, a_child, a_next, a_before, a_becomes, a_isKept, a_byKey, a_stood, a_rowEnd, a_rowBefore, a_list, a_stays, a_order, a_pile) (nI c) (nI x) (nI (kr_la A 0)) := by
  obtain ⟨h1, h2, h3, h4, h5⟩ := h
  obtain ⟨s1, s2⟩ := (kr_sg_app A B 0 0).mp h2
  have cc : (nI c).toNatClampNeg = c := nI_clamp (by omega)
  have cx : (nI x).toNatClampNeg = x := nI_clamp (by omega)
  have vc : vp_in (nI c) 33 := vp_in_nI (by omega) (by omega)
  have vx : vp_in (nI x) 33 := vp_in_nI (by omega) (by omega)
  have hB : ∀ d ∈ B, 1 ≤ d ∧ d ≤ 32 := fun d hd => h5 d (List.mem_append.mpr (Or.inr hd))
  unfold wpX_link
  dsimp only
  cases A with
  | nil =>
    rw [cx]
    refine br_t nI_0 ⟨vx, ?_⟩
    have h1' : a_child x = nI (kr_hd B 0) := h1
    rw [h1']
    unfold wX_link_19
    rw [cc, cx]
    refine ⟨vc, nm_e ⟨vc, nm_e ⟨vc, nm_e (br_t nI_0 ⟨vx, nm_e ?_⟩)⟩⟩⟩
    exact kr_l64 hB K
  | cons a as =>
    have hl := h5 _ (List.mem_append.mpr (Or.inl (kr_la_mem a as 0)))
    have cl : (nI (kr_la (a :: as) 0)).toNatClampNeg = kr_la (a :: as) 0 := nI_clamp (by omega)
    have vl : vp_in (nI (kr_la (a :: as) 0)) 33 := vp_in_nI (by omega) (by omega)
    have nl : ¬ nI (kr_la (a :: as) 0) = 0 := nI_ne0 (by omega) (by omega)
    rw [cl, kr_sg_last s1 (by simp)]
    refine br_f nl ⟨vl, ?_⟩
    unfold wX_link_19
    rw [cc, cl]
    refine ⟨vc, nm_e ⟨vc, nm_e ⟨vc, nm_e (br_f nl ⟨vl, nm_e ?_⟩)⟩⟩⟩
    exact kr_l64 hB K
theorem kr_mk5 {post : Int32 → SX → Prop} {i : Nat} (hi : i < 16) (hex : ∃ x, 1 ≤ x ∧ x ≤ 32 ∧ a_used x = 0)
    (K : ∀ x, 1 ≤ x → x ≤ 32 → a_used x = 0 → post (nI x) (f_drafted, f_open, f_root, f_nextId + 1, f_rowSize, f_keptCount, f_goneCount, f_moveCount, a_draftType, a_draftKey, a_draftParent, a_openNode, upd a_used x 1, upd a_type x (a_draftType i), upd a_key x (a_draftKey i), upd a_ident x f_nextId, upd a_state x 0, upd a_up x 0, upd a_child x 0, a_next, a_before, a_becomes, a_isKept, a_byKey, a_stood, a_rowEnd, a_rowBefore, a_list, a_stays, a_order, a_pile)) :
    ∀ (k n b : Nat), k ≤ 32 → k < n → 1 ≤ b → b ≤ 32 → (a_used b = 0 ∨ ∀ y, k < y → y ≤ 32 → a_used y ≠ 0) → wX_makeNode_5 post (nI i) f_drafted f_open f_root f_nextId f_rowSize f_keptCount f_goneCount f_moveCount a_draftType a_draftKey a_draftParent a_openNode a_used a_type a_key a_ident a_state a_up a_child a_next a_before a_becomes a_isKept a_byKey a_stood a_rowEnd a_rowBefore a_list a_stays a_order a_pile n (nI b) (nI k) := by
  have ci : (nI i).toNatClampNeg = i := nI_clamp (by omega)
  have vi : vp_in (nI i) 16 := vp_in_nI (by omega) (by omega)
  intro k
  induction k with
  | zero =>
    intro n b h1 h2 b1 b2 h3
    obtain ⟨n, rfl⟩ : ∃ n', n = n' + 1 := ⟨n - 1, by omega⟩
    have hb : a_used b = 0 := by
      rcases h3 with h | h
      · exact h
      · obtain ⟨x, x1, x2, x3⟩ := hex
        exact absurd x3 (h x (by omega) x2)
    have cb : (nI b).toNatClampNeg = b := nI_clamp (by omega)
    have vb : vp_in (nI b) 33 := vp_in_nI (by omega) (by omega)
    rw [wX_makeNode_5]
    dsimp only
    rw [ci, cb, kr_b1]
    exact br_t (by decide) ⟨vb, nm_e ⟨vi, vb, nm_e ⟨vi, vb, nm_e ⟨vb, nm_e (nm_e ⟨vb, nm_e ⟨vb, nm_e ⟨vb, nm_e (K b b1 b2 hb)⟩⟩⟩)⟩⟩⟩⟩
  | succ k ih =>
    intro n b h1 h2 b1 b2 h3
    obtain ⟨n, rfl⟩ : ∃ n', n = n' + 1 := ⟨n - 1, by omega⟩
    have ck : (nI (k + 1)).toNatClampNeg = k + 1 := nI_clamp (by omega)
    rw [wX_makeNode_5]
    dsimp only
    rw [ck]
    refine br_f (nI_nle (by omega) (by omega)) ⟨vp_in_nI (by omega) (by omega), br_c (fun z => nm_r (pk_m1 k) ?_) (fun z => nm_r (pk_m1 k) ?_)⟩
    · exact ih n (k + 1) (by omega) (by omega) (by omega) (by omega) (Or.inl z)
    · refine ih n b (by omega) (by omega) b1 b2 ?_
      rcases h3 with h | h
      · exact Or.inl h
      · refine Or.inr (fun y y1 y2 => ?_)
        by_cases q : y = k + 1
        · rw [q]; exact z
        · exact h y (by omega) y2
theorem kr_mkw {post : Int32 → SX → Prop} {i : Nat} (hi : i < 16) (hex : ∃ x, 1 ≤ x ∧ x ≤ 32 ∧ a_used x = 0)
    (K : ∀ x, 1 ≤ x → x ≤ 32 → a_used x = 0 → post (nI x) (f_drafted, f_open, f_root, f_nextId + 1, f_rowSize, f_keptCount, f_goneCount, f_moveCount, a_draftType, a_draftKey, a_draftParent, a_openNode, upd a_used x 1, upd a_type x (a_draftType i), upd a_key x (a_draftKey i), upd a_ident x f_nextId, upd a_state x 0, upd a_up x 0, upd a_child x 0, a_next, a_before, a_becomes, a_isKept, a_byKey, a_stood, a_rowEnd, a_rowBefore, a_list, a_stays, a_order, a_pile)) :
    wpX_makeNode post (f_drafted, f_open, f_root, f_nextId, f_rowSize, f_keptCount, f_goneCount, f_moveCount, a_draftType, a_draftKey, a_draftParent, a_openNode, a_used, a_type, a_key, a_ident, a_state, a_up, a_child, a_next, a_before, a_becomes, a_isKept, a_byKey, a_stood, a_rowEnd, a_rowBefore, a_list, a_stays, a_order, a_pile) (nI i) := by
  unfold wpX_makeNode
  dsimp only
  exact ⟨33, kr_mk5 hi hex K 32 33 1 (by omega) (by omega) (by omega) (by omega) (Or.inr (fun y h1 h2 => by omega))⟩
/-- the used flags when the places a to b are freed -/
def kr_fr (nd : Nat → Nat) (a b : Nat) (us us' : Nat → Int32) : Prop := (∀ t, a ≤ t → t < b → us' (nd t) = 0) ∧ (∀ x, (∀ t, a ≤ t → t < b → nd t ≠ x) → us' x = us x)
theorem kr_dr8 {post : SX → Prop} {a b : Nat} {nd : Nat → Nat} (us0 : Nat → Int32) (hb : b - a ≤ 16) (hd : ∀ t, a ≤ t → t < b → 1 ≤ nd t ∧ nd t ≤ 32) (ho : ∀ j, j < b - a → a_order j = nI (nd (a + j)))
    (K : ∀ us, kr_fr nd a b us0 us → post (f_drafted, f_open, f_root, f_nextId, f_rowSize, f_keptCount, f_goneCount + nI (b - a), f_moveCount, a_draftType, a_draftKey, a_draftParent, a_openNode, us, a_type, a_key, a_ident, a_state, a_up, a_child, a_next, a_before, a_becomes, a_isKept, a_byKey, a_stood, a_rowEnd, a_rowBefore, a_list, a_stays, a_order, a_pile)) :
    ∀ (d s n : Nat) (us : Nat → Int32), s + d = b - a → d < n → (∀ t, a ≤ t → t < a + s → us (nd t) = 0) → (∀ x, (∀ t, a ≤ t → t < b → nd t ≠ x) → us x = us0 x) → wX_drop_8 post (nI (b - a)) f_drafted f_open f_root f_nextId f_rowSize f_keptCount f_goneCount f_moveCount n (nI s) a_draftType a_draftKey a_draftParent a_openNode us a_type a_key a_ident a_state a_up a_child a_next a_before a_becomes a_isKept a_byKey a_stood a_rowEnd a_rowBefore a_list a_stays a_order a_pile := by
  intro d
  induction d with
  | zero =>
    intro s n us e hn h1 h2
    obtain ⟨n, rfl⟩ : ∃ n', n = n' + 1 := ⟨n - 1, by omega⟩
    rw [wX_drop_8]
    exact br_t (nI_le (by omega) (by omega)) (nm_e (K us ⟨fun t t1 t2 => h1 t t1 (by omega), h2⟩))
  | succ d ih =>
    intro s n us e hn h1 h2
    obtain ⟨n, rfl⟩ : ∃ n', n = n' + 1 := ⟨n - 1, by omega⟩
    have cs : (nI s).toNatClampNeg = s := nI_clamp (by omega)
    have ds := hd (a + s) (by omega) (by omega)
    have cd : (nI (nd (a + s))).toNatClampNeg = nd (a + s) := nI_clamp (by omega)
    rw [wX_drop_8]
    dsimp only
    rw [cs, ho s (by omega), cd, kr_b0]
    refine br_f (nI_ge (by omega) (by omega)) ⟨vp_in_nI (by omega) (by omega), vp_in_nI (by omega) (by omega), nm_e (nm_r (nI_1 s) ?_)⟩
    refine ih (s + 1) n _ (by omega) (by omega) ?_ ?_
    · intro t t1 t2
      by_cases q : nd t = nd (a + s)
      · rw [q]; exact pk_us
      · rw [pk_un q]
        refine h1 t t1 ?_
        by_cases r : t = a + s
        · exact absurd (by rw [r]) q
        · omega
    · intro x hx
      rw [pk_un (fun e => hx (a + s) (by omega) (by omega) e.symm)]
      exact h2 x hx
theorem kr_drw {post : SX → Prop} {N a b : Nat} {p nd : Nat → Nat} (H : kr_tr N p nd a b a_child a_next)
    (K : ∀ od g us, kr_fr nd a b a_used us → post (f_drafted, f_open, f_root, f_nextId, f_rowSize, f_keptCount, f_goneCount + nI (b - a), f_moveCount, a_draftType, a_draftKey, a_draftParent, a_openNode, us, a_type, a_key, a_ident, a_state, a_up, a_child, a_next, a_before, a_becomes, a_isKept, a_byKey, a_stood, a_rowEnd, a_rowBefore, a_list, a_stays, od, g)) : wpX_drop post (f_drafted, f_open, f_root, f_nextId, f_rowSize, f_keptCount, f_goneCount, f_moveCount, a_draftType, a_draftKey, a_draftParent, a_openNode, a_used, a_type, a_key, a_ident, a_state, a_up, a_child, a_next, a_before, a_becomes, a_isKept, a_byKey, a_stood, a_rowEnd, a_rowBefore, a_list, a_stays, a_order, a_pile) (nI (nd a)) := by
  unfold wpX_drop
  dsimp only
  refine kr_listw H ?_
  intro od g ho
  obtain ⟨h1, h2, h3, h4⟩ := H
  have h5 := h3.2.1
  refine ⟨b - a + 1, kr_dr8 (nd := nd) a_used (by omega) (fun t t1 t2 => (h4 t t1 t2).1) ho ?_ (b - a) 0 (b - a + 1) a_used (by omega) (by omega) (fun t t1 t2 => by omega) (fun x _ => rfl)⟩
  intro us hu
  exact K od g us hu
end
end
section
theorem kr_lis_le {v : Nat → Nat} {M R : Nat} (h : kr_lis v M R) : R ≤ M := by
  obtain ⟨L, h1, h2, h3⟩ := h
  have k : ∀ j, j < M → L j ≤ j + 1 := by
    intro j
    induction j using Nat.strongRecOn with
    | ind j ih =>
      intro hj
      rcases (h1 j hj).2.2 with e | ⟨i, i1, i2, i3⟩
      · omega
      · have := ih i i1 (by omega)
        omega
  rcases h3 with ⟨e1, e2⟩ | ⟨j, j1, j2⟩
  · omega
  · have := k j j1
    omega
/-- byKey holds the listed children by their keys -/
def kr_bk (cl : List Nat) (K nd : Nat → Nat) (bk : Nat → Int32) : Prop := ∀ k, k < 10 → (bk k = 0 ∧ ∀ c ∈ cl, K c ≠ k) ∨ (∃ c ∈ cl, K c = k ∧ bk k = nI (nd c))
def kr_sd (cl : List Nat) (nd : Nat → Nat) (sd : Nat → Int32) : Prop := ∀ j (h : j < cl.length), sd (nd (cl[j])) = nI j
def kr_sy0 (cl : List Nat) (nd : Nat → Nat) (sy0 sy : Nat → Int32) : Prop := (∀ c ∈ cl, sy (nd c) = 0) ∧ (∀ x, (∀ c ∈ cl, nd c ≠ x) → sy x = sy0 x)
section
variable {f_drafted f_open f_root f_nextId f_rowSize f_keptCount f_goneCount f_moveCount : Int32} {a_draftType a_draftKey a_draftParent a_openNode a_used a_type a_key a_ident a_state a_up a_child a_next a_before a_becomes a_isKept a_byKey a_stood a_rowEnd a_rowBefore a_list a_stays a_order a_pile : Nat → Int32}
theorem kr_ix30 {post : SX → Prop} {cl : List Nat} {K nd : Nat → Nat} (sy0 : Nat → Int32) (h10 : cl.length ≤ 10) (hnd : cl.Nodup) (hK : ∀ c ∈ cl, a_key (nd c) = nI (K c) ∧ K c < 10) (hinj : ∀ a ∈ cl, ∀ b ∈ cl, nd a = nd b → a = b)
    (C : ∀ bk sd sy : Nat → Int32, kr_bk cl K nd bk → kr_sd cl nd sd → kr_sy0 cl nd sy0 sy → post (f_drafted, f_open, f_root, f_nextId, f_rowSize, f_keptCount, f_goneCount, f_moveCount, a_draftType, a_draftKey, a_draftParent, a_openNode, a_used, a_type, a_key, a_ident, a_state, a_up, a_child, a_next, a_before, a_becomes, a_isKept, bk, sd, a_rowEnd, a_rowBefore, a_list, sy, a_order, a_pile)) :
    ∀ (R P : List Nat) (n : Nat) (bk sd sy : Nat → Int32), cl = P ++ R → R.length < n → kr_cn a_next (R.map nd) → kr_bk P K nd bk → kr_sd P nd sd → kr_sy0 P nd sy0 sy →
    wX_index_30 post f_drafted f_open f_root f_nextId f_rowSize f_keptCount f_goneCount f_moveCount n (nI (kr_hd (R.map nd) 0)) (nI P.length) a_draftType a_draftKey a_draftParent a_openNode a_used a_type a_key a_ident a_state a_up a_child a_next a_before a_becomes a_isKept bk sd a_rowEnd a_rowBefore a_list sy a_order a_pile := by
  intro R
  induction R with
  | nil =>
    intro P n bk sd sy e hn hc h1 h2 h3
    obtain ⟨n, rfl⟩ : ∃ n', n = n' + 1 := ⟨n - 1, by simp at hn; omega⟩
    rw [List.append_nil] at e
    subst e
    have G := C bk sd sy h1 h2 h3
    rw [wX_index_30]
    exact br_c (fun _ => G) (fun _ => br_t nI_0 G)
  | cons c cs ih =>
    intro P n bk sd sy e hn hc h1 h2 h3
    obtain ⟨n, rfl⟩ : ∃ n', n = n' + 1 := ⟨n - 1, by simp at hn; omega⟩
    obtain ⟨⟨c1, c2⟩, hx, hr⟩ := hc
    have mc : c ∈ cl := by rw [e]; exact List.mem_append.mpr (Or.inr List.mem_cons_self)
    obtain ⟨k1, k2⟩ := hK c mc
    have hl : P.length + (cs.length + 1) = cl.length := by rw [e, List.length_append, List.length_cons]
    have hn' : cs.length + 1 < n + 1 := hn
    have cc : (nI (nd c)).toNatClampNeg = nd c := nI_clamp (by omega)
    have ck : (nI (K c)).toNatClampNeg = K c := nI_clamp (by omega)
    have vc : vp_in (nI (nd c)) 33 := vp_in_nI (by omega) (by omega)
    have nP : c ∉ P := by
      rw [e] at hnd
      exact (kr_mid hnd).2.2.1
    have mP : ∀ a ∈ P, a ∈ cl := fun a ha => by rw [e]; exact List.mem_append.mpr (Or.inl ha)
    have ne : ∀ a ∈ P, nd a ≠ nd c := fun a ha q => nP (hinj a (mP a ha) c mc q ▸ ha)
    show wX_index_30 post f_drafted f_open f_root f_nextId f_rowSize f_keptCount f_goneCount f_moveCount (n + 1) (nI (nd c)) (nI P.length) a_draftType a_draftKey a_draftParent a_openNode a_used a_type a_key a_ident a_state a_up a_child a_next a_before a_becomes a_isKept bk sd a_rowEnd a_rowBefore a_list sy a_order a_pile
    rw [wX_index_30]
    dsimp only
    rw [cc, k1, ck, kr_b0]
    refine br_f (nI_ge (a := P.length) (b := 10) (by omega) (by decide)) (br_f (nI_ne0 (by omega) (by omega)) ⟨vc, vp_in_nI k2 (by omega), nm_e ⟨vc, nm_e ⟨vc, nm_e ⟨vc, nm_r hx (nm_r (nI_1 P.length) ?_)⟩⟩⟩⟩)
    have e2 : nI (P.length + 1) = nI (P ++ [c]).length := by rw [List.length_append]; rfl
    rw [e2]
    refine ih (P ++ [c]) n _ _ _ (by rw [e]; simp) (by omega) hr ?_ ?_ ⟨?_, ?_⟩
    · intro k hk
      by_cases q : k = K c
      · subst q
        exact Or.inr ⟨c, List.mem_append.mpr (Or.inr List.mem_cons_self), rfl, pk_us⟩
      · rcases h1 k hk with ⟨z1, z2⟩ | ⟨d, d1, d2, d3⟩
        · refine Or.inl ⟨by rw [pk_un q]; exact z1, fun a ha => ?_⟩
          rcases List.mem_append.mp ha with y | y
          · exact z2 a y
          · rw [List.mem_singleton.mp y]; exact fun w => q w.symm
        · exact Or.inr ⟨d, List.mem_append.mpr (Or.inl d1), d2, by rw [pk_un q]; exact d3⟩
    · intro j hj
      rw [List.length_append] at hj
      have hj' : j < P.length + 1 := hj
      by_cases q : j < P.length
      · rw [List.getElem_append_left q, pk_un (ne _ (List.getElem_mem q))]
        exact h2 j q
      · have ej : j = P.length := by omega
        subst ej
        rw [List.getElem_append_right (by omega)]
        simp only [Nat.sub_self, List.getElem_cons_zero]
        exact pk_us
    · intro a ha
      by_cases q : nd a = nd c
      · rw [q]; exact pk_us
      · rw [pk_un q]
        rcases List.mem_append.mp ha with y | y
        · exact h3.1 a y
        · rw [List.mem_singleton.mp y] at q; exact absurd rfl q
    · intro x hx'
      rw [pk_un (fun w => hx' c (List.mem_append.mpr (Or.inr List.mem_cons_self)) w.symm)]
      exact h3.2 x (fun a ha => hx' a (List.mem_append.mpr (Or.inl ha)))
theorem kr_ix2 {post : SX → Prop} {x : Nat} (hx : x ≤ 32) (C : ∀ bk : Nat → Int32, (∀ k, k < 10 → bk k = 0) → ∃ n, wX_index_30 post f_drafted f_open f_root f_nextId f_rowSize f_keptCount f_goneCount f_moveCount n (a_child x) 0 a_draftType a_draftKey a_draftParent a_openNode a_used a_type a_key a_ident a_state a_up a_child a_next a_before a_becomes a_isKept bk a_stood a_rowEnd a_rowBefore a_list a_stays a_order a_pile) :
    ∀ (d k n : Nat) (bk : Nat → Int32), k + d = 10 → d < n → (∀ j, j < k → bk j = 0) → wX_index_2 post (nI x) f_drafted f_open f_root f_nextId f_rowSize f_keptCount f_goneCount f_moveCount n (nI k) a_draftType a_draftKey a_draftParent a_openNode a_used a_type a_key a_ident a_state a_up a_child a_next a_before a_becomes a_isKept bk a_stood a_rowEnd a_rowBefore a_list a_stays a_order a_pile := by
  have cx : (nI x).toNatClampNeg = x := nI_clamp (by omega)
  intro d
  induction d with
  | zero =>
    intro k n bk e hn h
    obtain ⟨n, rfl⟩ : ∃ n', n = n' + 1 := ⟨n - 1, by omega⟩
    rw [wX_index_2]
    dsimp only
    rw [cx]
    refine br_t (nI_le (a := 10) (by omega) (by omega)) ⟨vp_in_nI (by omega) (by omega), nm_e ?_⟩
    exact C bk (fun j hj => h j (by omega))
  | succ d ih =>
    intro k n bk e hn h
    obtain ⟨n, rfl⟩ : ∃ n', n = n' + 1 := ⟨n - 1, by omega⟩
    have ck : (nI k).toNatClampNeg = k := nI_clamp (by omega)
    rw [wX_index_2]
    dsimp only
    rw [ck]
    refine br_f (nI_ge (a := k) (b := 10) (by omega) (by decide)) ⟨vp_in_nI (by omega) (by omega), nm_e (nm_r (nI_1 k) ?_)⟩
    refine ih (k + 1) n _ (by omega) (by omega) ?_
    intro j hj
    by_cases q : j = k
    · rw [q]; exact pk_us
    · rw [pk_un q]; exact h j (by omega)
theorem kr_ixw {post : SX → Prop} {x : Nat} {cl : List Nat} {K nd : Nat → Nat} (hx : x ≤ 32) (h10 : cl.length ≤ 10) (hnd : cl.Nodup) (hK : ∀ c ∈ cl, a_key (nd c) = nI (K c) ∧ K c < 10) (hinj : ∀ a ∈ cl, ∀ b ∈ cl, nd a = nd b → a = b)
    (hch : a_child x = nI (kr_hd (cl.map nd) 0)) (hcn : kr_cn a_next (cl.map nd))
    (C : ∀ bk sd sy : Nat → Int32, kr_bk cl K nd bk → kr_sd cl nd sd → kr_sy0 cl nd a_stays sy → post (f_drafted, f_open, f_root, f_nextId, f_rowSize, f_keptCount, f_goneCount, f_moveCount, a_draftType, a_draftKey, a_draftParent, a_openNode, a_used, a_type, a_key, a_ident, a_state, a_up, a_child, a_next, a_before, a_becomes, a_isKept, bk, sd, a_rowEnd, a_rowBefore, a_list, sy, a_order, a_pile)) : wpX_index post (f_drafted, f_open, f_root, f_nextId, f_rowSize, f_keptCount, f_goneCount, f_moveCount, a_draftType, a_draftKey, a_draftParent, a_openNode, a_used, a_type, a_key, a_ident, a_state, a_up, a_child, a_next, a_before, a_becomes, a_isKept, a_byKey, a_stood, a_rowEnd, a_rowBefore, a_list, a_stays, a_order, a_pile) (nI x) := by
  unfold wpX_index
  dsimp only
  refine ⟨11, kr_ix2 hx ?_ 10 0 11 a_byKey (by omega) (by omega) (fun j h => absurd h (Nat.not_lt_zero j))⟩
  intro bk hbk
  refine ⟨cl.length + 1, ?_⟩
  rw [hch]
  exact kr_ix30 a_stays h10 hnd hK hinj C cl [] (cl.length + 1) bk a_stood a_stays rfl (by omega) hcn (fun k hk => Or.inl ⟨hbk k hk, fun c hc => absurd hc List.not_mem_nil⟩) (fun j h => absurd h (Nat.not_lt_zero j)) ⟨fun c hc => absurd hc List.not_mem_nil, fun x _ => rfl⟩
/-- a rising row of marked ones -/
def kr_syC (v l : Nat → Nat) (M : Nat) (sy0 sy : Nat → Int32) : Prop := ∃ C : Nat → Prop, (∀ a b, a < b → b < M → C a → C b → v a < v b) ∧ (∀ t, t < M → C t → sy (l t) = 1) ∧ (∀ x, (∀ t, t < M → C t → l t ≠ x) → sy x = sy0 x)
def kr_rb (v : Nat → Nat) (M : Nat) (rb : Nat → Int32) : Prop := ∀ i, i < M → rb i = -1 ∨ ∃ b, b < i ∧ rb i = nI b ∧ v b < v i
theorem kr_lr153 {post : Int32 → SX → Prop} {M : Nat} {v l : Nat → Nat} (sy0 : Nat → Int32) (hM : M ≤ 16) (hl : ∀ t, t < M → a_list t = nI (l t) ∧ l t ≤ 32) (hrb : kr_rb v M a_rowBefore)
    (C : ∀ sy, kr_syC v l M sy0 sy → post f_rowSize (f_drafted, f_open, f_root, f_nextId, f_rowSize, f_keptCount, f_goneCount, f_moveCount, a_draftType, a_draftKey, a_draftParent, a_openNode, a_used, a_type, a_key, a_ident, a_state, a_up, a_child, a_next, a_before, a_becomes, a_isKept, a_byKey, a_stood, a_rowEnd, a_rowBefore, a_list, sy, a_order, a_pile)) :
    ∀ (j k n : Nat) (sy : Nat → Int32) (Cs : Nat → Prop), j < M → j + k < 16 → j + 1 < n → (∀ a, Cs a → j < a ∧ v j < v a) → (∀ a b, a < b → b < M → Cs a → Cs b → v a < v b) → (∀ t, t < M → Cs t → sy (l t) = 1) → (∀ x, (∀ t, t < M → Cs t → l t ≠ x) → sy x = sy0 x) →
    wX_longestRow_153 post f_drafted f_open f_root f_nextId f_rowSize f_keptCount f_goneCount f_moveCount n (nI j) (nI k) a_draftType a_draftKey a_draftParent a_openNode a_used a_type a_key a_ident a_state a_up a_child a_next a_before a_becomes a_isKept a_byKey a_stood a_rowEnd a_rowBefore a_list sy a_order a_pile := by
  intro j
  induction j using Nat.strongRecOn with
  | ind j ih =>
    intro k n sy Cs hj hk hn h1 h2 h3 h4
    obtain ⟨n, rfl⟩ : ∃ n', n = n' + 1 := ⟨n - 1, by omega⟩
    obtain ⟨l1, l2⟩ := hl j hj
    have cj : (nI j).toNatClampNeg = j := nI_clamp (by omega)
    have cl : (nI (l j)).toNatClampNeg = l j := nI_clamp (by omega)
    have vj : vp_in (nI j) 16 := vp_in_nI (by omega) (by omega)
    have g2 : ∀ a b, a < b → b < M → (Cs a ∨ a = j) → (Cs b ∨ b = j) → v a < v b := by
      intro a b hab hb ha hb'
      rcases ha with ha | ha
      · rcases hb' with hb' | hb'
        · exact h2 a b hab hb ha hb'
        · have := (h1 a ha).1
          omega
      · rcases hb' with hb' | hb'
        · rw [ha]; exact (h1 b hb').2
        · omega
    have g3 : ∀ t, t < M → (Cs t ∨ t = j) → upd sy (l j) 1 (l t) = 1 := by
      intro t ht hc
      by_cases q : l t = l j
      · rw [q]; exact pk_us
      · rw [pk_un q]
        rcases hc with hc | hc
        · exact h3 t ht hc
        · exact absurd (by rw [hc]) q
    have g4 : ∀ x, (∀ t, t < M → (Cs t ∨ t = j) → l t ≠ x) → upd sy (l j) 1 x = sy0 x := by
      intro x hx
      rw [pk_un (fun e => hx j hj (Or.inr rfl) e.symm)]
      exact h4 x (fun t ht hc => hx t ht (Or.inl hc))
    rw [wX_longestRow_153]
    dsimp only
    rw [cj, l1, cl, kr_b1]
    refine br_f (nI_ge (a := k) (b := 16) (by omega) (by decide)) (br_f (nI_pos (by omega)) ⟨vj, vp_in_nI (by omega) (by omega), nm_e ⟨vj, ?_⟩⟩)
    rcases hrb j hj with e | ⟨b, b1, b2, b3⟩
    · refine nm_r e (nm_r (nI_1 k) ?_)
      obtain ⟨n, rfl⟩ : ∃ n', n = n' + 1 := ⟨n - 1, by omega⟩
      have G := C (upd sy (l j) 1) ⟨fun t => Cs t ∨ t = j, g2, g3, g4⟩
      rw [wX_longestRow_153]
      exact br_c (fun _ => G) (fun _ => br_t kr_m1lt G)
    · refine nm_r b2 (nm_r (nI_1 k) ?_)
      refine ih b b1 (k + 1) n (upd sy (l j) 1) (fun t => Cs t ∨ t = j) (by omega) (by omega) (by omega) ?_ g2 g3 g4
      intro a ha
      rcases ha with ha | ha
      · have := h1 a ha
        exact ⟨by omega, by omega⟩
      · rw [ha]; exact ⟨b1, b3⟩
/-- the ends of the rows so far -/
def kr_re (v L : Nat → Nat) (j R : Nat) (re : Nat → Int32) : Prop := ∀ k, k < R → ∃ e, re k = nI e ∧ e < j ∧ L e = k + 1 ∧ ∀ i, i < j → L i = k + 1 → v e ≤ v i
theorem kr_lr17 {post : Int32 → SX → Prop} {J : Int32 → Int32 → (Nat → Int32) → (Nat → Int32) → (Nat → Int32) → (Nat → Int32) → (Nat → Int32) → (Nat → Int32) → (Nat → Int32) → (Nat → Int32) → (Nat → Int32) → (Nat → Int32) → (Nat → Int32) → (Nat → Int32) → (Nat → Int32) → (Nat → Int32) → (Nat → Int32) → (Nat → Int32) → (Nat → Int32) → (Nat → Int32) → (Nat → Int32) → (Nat → Int32) → (Nat → Int32) → (Nat → Int32) → (Nat → Int32) → Prop} {x1 : Int32} {M j R : Nat} {v l L : Nat → Nat} (hM : M ≤ 16) (hj : j < M) (hR : R ≤ j)
    (hl : ∀ t, t < M → a_list t = nI (l t) ∧ l t ≤ 32 ∧ a_stood (l t) = nI (v t) ∧ v t < 100) (hre : kr_re v L j R a_rowEnd)
    (C : ∀ at' (rbv : Int32), at' ≤ R → ((at' = 0 ∧ rbv = -1) ∨ ∃ e, 0 < at' ∧ e < j ∧ rbv = nI e ∧ v e < v j ∧ L e = at') → (∀ k, at' ≤ k → k < R → ∀ i, i < j → L i = k + 1 → v j ≤ v i) →
      J (nI (j + 1)) (if at' = R then nI (R + 1) else nI R) a_draftType a_draftKey a_draftParent a_openNode a_used a_type a_key a_ident a_state a_up a_child a_next a_before a_becomes a_isKept a_byKey a_stood (upd a_rowEnd at' (nI j)) (upd a_rowBefore j rbv) a_list a_stays a_order a_pile) :
    ∀ (d k n at' : Nat), k + d = R → d < n → at' ≤ k → (at' = 0 ∨ ∃ e, a_rowEnd (at' - 1) = nI e ∧ e < j ∧ v e < v j ∧ L e = at') → (∀ k', at' ≤ k' → k' < k → ∀ i, i < j → L i = k' + 1 → v j ≤ v i) →
    wX_longestRow_17 post J x1 (nI j) f_drafted f_open f_root f_nextId (nI R) f_keptCount f_goneCount f_moveCount a_draftType a_draftKey a_draftParent a_openNode a_used a_type a_key a_ident a_state a_up a_child a_next a_before a_becomes a_isKept a_byKey a_stood a_rowEnd a_rowBefore a_list a_stays a_order a_pile n (nI at') (nI k) := by
  obtain ⟨lj1, lj2, lj3, lj4⟩ := hl j hj
  have cj : (nI j).toNatClampNeg = j := nI_clamp (by omega)
  have vj : vp_in (nI j) 16 := vp_in_nI (by omega) (by omega)
  have clj : (nI (l j)).toNatClampNeg = l j := nI_clamp (by omega)
  intro d
  induction d with
  | zero =>
    intro k n at' e hn ha h1 h2
    obtain ⟨n, rfl⟩ : ∃ n', n = n' + 1 := ⟨n - 1, by omega⟩
    have ca : (nI at').toNatClampNeg = at' := nI_clamp (by omega)
    have fin : ∀ rbv : Int32, ((at' = 0 ∧ rbv = -1) ∨ ∃ e, 0 < at' ∧ e < j ∧ rbv = nI e ∧ v e < v j ∧ L e = at') → wX_longestRow_89 post J x1 (nI j) (nI at') rbv (nI j) f_drafted f_open f_root f_nextId (nI R) f_keptCount f_goneCount f_moveCount a_draftType a_draftKey a_draftParent a_openNode a_used a_type a_key a_ident a_state a_up a_child a_next a_before a_becomes a_isKept a_byKey a_stood a_rowEnd a_rowBefore a_list a_stays a_order a_pile := by
      intro rbv hr
      have c := C at' rbv (by omega) hr (fun k' k1 k2 => h2 k' k1 (by omega))
      unfold wX_longestRow_89
      rw [cj, ca]
      refine ⟨vj, nm_e ⟨vp_in_nI (by omega) (by omega), nm_e ?_⟩⟩
      by_cases q : at' = R
      · rw [if_pos q] at c
        exact br_t (by rw [q]) (nm_r (nI_1 R) (nm_r (nI_1 j) c))
      · rw [if_neg q] at c
        exact br_f (fun z => q ((nI_eq (by omega) (by omega)).mp z)) (nm_r (nI_1 j) c)
    rw [wX_longestRow_17]
    refine br_t (nI_le (by omega) (by omega)) ?_
    rcases h1 with z | ⟨e', e1, e2, e3, e4⟩
    · refine br_t (by rw [z]; rfl) (fin (-1) (Or.inl ⟨z, rfl⟩))
    · by_cases z : at' = 0
      · refine br_t (by rw [z]; rfl) (fin (-1) (Or.inl ⟨z, rfl⟩))
      · obtain ⟨t, rfl⟩ : ∃ t, at' = t + 1 := ⟨at' - 1, by omega⟩
        have ct : (nI t).toNatClampNeg = t := nI_clamp (by omega)
        rw [Nat.add_sub_cancel] at e1
        rw [nI_pred, ct, e1]
        exact br_f (nI_ne0 (by omega) (by omega)) ⟨vp_in_nI (by omega) (by omega), fin (nI e') (Or.inr ⟨e', by omega, e2, rfl, e3, e4⟩)⟩
  | succ d ih =>
    intro k n at' e hn ha h1 h2
    obtain ⟨n, rfl⟩ : ∃ n', n = n' + 1 := ⟨n - 1, by omega⟩
    obtain ⟨w, w1, w2, w3, w4⟩ := hre k (by omega)
    obtain ⟨lw1, lw2, lw3, lw4⟩ := hl w (by omega)
    have ck : (nI k).toNatClampNeg = k := nI_clamp (by omega)
    have cw : (nI w).toNatClampNeg = w := nI_clamp (by omega)
    have clw : (nI (l w)).toNatClampNeg = l w := nI_clamp (by omega)
    rw [wX_longestRow_17]
    dsimp only
    rw [ck, w1, cw, cj, lw1, clw, lj1, clj, lw3, lj3]
    refine br_f (nI_ge (by omega) (by omega)) ⟨vp_in_nI (by omega) (by omega), vp_in_nI (by omega) (by omega), vp_in_nI (by omega) (by omega), vj, vp_in_nI (by omega) (by omega), br_c (fun z => nm_r (nI_1 k) ?_) (fun z => nm_r (nI_1 k) (nm_r (nI_1 k) ?_))⟩
    · have z' := (nI_leI (by omega) (by omega)).mp z
      refine ih (k + 1) n at' (by omega) (by omega) (by omega) h1 ?_
      intro k' k1 k2 i hi hL
      by_cases q : k' = k
      · subst q
        have := w4 i hi hL
        omega
      · exact h2 k' k1 (by omega) i hi hL
    · have z' : ¬ v j ≤ v w := fun y => z (nI_le y (by omega))
      refine ih (k + 1) n (k + 1) (by omega) (by omega) (by omega) (Or.inr ⟨w, by rw [Nat.add_sub_cancel]; exact w1, w2, by omega, w3⟩) ?_
      intro k' k1 k2
      omega
theorem kr_lr7 {post : Int32 → SX → Prop} {M : Nat} {v l : Nat → Nat} (hM : M ≤ 16)
    (hl : ∀ t, t < M → a_list t = nI (l t) ∧ l t ≤ 32 ∧ a_stood (l t) = nI (v t) ∧ v t < 100)
    (C : ∀ (R : Nat) (re rb sy : Nat → Int32), kr_lis v M R → kr_syC v l M a_stays sy → post (nI R) (f_drafted, f_open, f_root, f_nextId, nI R, f_keptCount, f_goneCount, f_moveCount, a_draftType, a_draftKey, a_draftParent, a_openNode, a_used, a_type, a_key, a_ident, a_state, a_up, a_child, a_next, a_before, a_becomes, a_isKept, a_byKey, a_stood, re, rb, a_list, sy, a_order, a_pile)) :
    ∀ (d j n R : Nat) (L : Nat → Nat) (re rb : Nat → Int32), j + d = M → d < n → kr_L v j L → kr_R j L R → kr_re v L j R re → kr_rb v j rb →
    wX_longestRow_7 post (nI M) f_drafted f_open f_root f_nextId f_keptCount f_goneCount f_moveCount n (nI j) (nI R) a_draftType a_draftKey a_draftParent a_openNode a_used a_type a_key a_ident a_state a_up a_child a_next a_before a_becomes a_isKept a_byKey a_stood re rb a_list a_stays a_order a_pile := by
  intro d
  induction d with
  | zero =>
    intro j n R L re rb e hn h1 h2 h3 h4
    obtain ⟨n, rfl⟩ : ∃ n', n = n' + 1 := ⟨n - 1, by omega⟩
    have e' : j = M := by omega
    subst e'
    have hlis : kr_lis v j R := ⟨L, h1, h2⟩
    have hle := kr_lis_le hlis
    rw [wX_longestRow_7]
    refine br_t (nI_le (Nat.le_refl _) (by omega)) ?_
    by_cases q : R = 0
    · have G := C R re rb a_stays hlis ⟨fun _ => False, fun a b _ _ h => absurd h id, fun t _ h => absurd h id, fun x _ => rfl⟩
      refine br_t (by rw [q]; rfl) ⟨1, ?_⟩
      rw [wX_longestRow_153]
      exact br_c (fun _ => G) (fun _ => br_t kr_m1lt G)
    · obtain ⟨R, rfl⟩ : ∃ R', R = R' + 1 := ⟨R - 1, by omega⟩
      obtain ⟨w, w1, w2, w3, w4⟩ := h3 R (by omega)
      have cR : (nI R).toNatClampNeg = R := nI_clamp (by omega)
      refine br_f (nI_ne0 (by omega) (by omega)) ?_
      rw [nI_pred, cR, w1]
      refine ⟨vp_in_nI (by omega) (by omega), nm_e ⟨w + 2, ?_⟩⟩
      exact kr_lr153 (v := v) (l := l) a_stays hM (fun t ht => ⟨(hl t ht).1, (hl t ht).2.1⟩) h4 (fun sy hs => C (R + 1) re rb sy hlis hs) w 0 (w + 2) a_stays (fun _ => False) w2 (by omega) (by omega) (fun a h => absurd h id) (fun a b _ _ h => absurd h id) (fun t _ h => absurd h id) (fun x _ => rfl)
  | succ d ih =>
    intro j n R L re rb e hn h1 h2 h3 h4
    obtain ⟨n, rfl⟩ : ∃ n', n = n' + 1 := ⟨n - 1, by omega⟩
    have hle := kr_lis_le ⟨L, h1, h2⟩
    rw [wX_longestRow_7]
    refine br_f (nI_ge (by omega) (by omega)) ⟨R + 1, ?_⟩
    refine kr_lr17 (M := M) (v := v) (l := l) (L := L) hM (by omega) hle hl h3 ?_ R 0 (R + 1) 0 (by omega) (by omega) (by omega) (Or.inl rfl) (fun k' _ h => absurd h (Nat.not_lt_zero k'))
    intro at' rbv ha hr hm
    have hL' : kr_L v (j + 1) (kr_st L j (at' + 1)) := by
      refine kr_L_next h1 ?_ ?_
      · intro i hi hv
        by_cases q : L i ≤ at'
        · exact q
        · have b1 := (h1 i hi).1
          have b2 := h2.1 i hi
          have := hm (L i - 1) (by omega) (by omega) i hi (by omega)
          omega
      · rcases hr with ⟨z, _⟩ | ⟨w, w1, w2, w3, w4, w5⟩
        · exact Or.inl z
        · exact Or.inr ⟨w, w2, w4, w5⟩
    have hR' := kr_R_next (at' := at') h2 ha
    have eR : (if at' = R then nI (R + 1) else nI R) = nI (if at' = R then R + 1 else R) := by split <;> rfl
    rw [eR]
    refine ih (j + 1) n _ _ _ _ (by omega) (by omega) hL' hR' ?_ ?_
    · intro k hk
      by_cases q : k = at'
      · subst q
        refine ⟨j, pk_us, by omega, by rw [kr_st_s], ?_⟩
        intro i hi hLi
        by_cases r : i = j
        · rw [r]; exact Nat.le_refl _
        · rw [kr_st_n r] at hLi
          have b2 := h2.1 i (by omega)
          exact hm k (Nat.le_refl _) (by omega) i (by omega) hLi
      · have hk' : k < R := by
          by_cases z : at' = R
          · rw [if_pos z] at hk; omega
          · rw [if_neg z] at hk; exact hk
        obtain ⟨w, w1, w2, w3, w4⟩ := h3 k hk'
        refine ⟨w, by rw [pk_un q]; exact w1, by omega, by rw [kr_st_n (by omega)]; exact w3, ?_⟩
        intro i hi hLi
        by_cases r : i = j
        · rw [r, kr_st_s] at hLi; omega
        · rw [kr_st_n r] at hLi
          exact w4 i (by omega) hLi
    · intro i hi
      by_cases r : i = j
      · subst r
        rw [pk_us]
        rcases hr with ⟨_, z⟩ | ⟨w, w1, w2, w3, w4, w5⟩
        · exact Or.inl z
        · exact Or.inr ⟨w, w2, w3, w4⟩
      · rw [pk_un r]
        exact h4 i (by omega)
theorem kr_lrw {post : Int32 → SX → Prop} {M : Nat} {v l : Nat → Nat} (hM : M ≤ 16)
    (hl : ∀ t, t < M → a_list t = nI (l t) ∧ l t ≤ 32 ∧ a_stood (l t) = nI (v t) ∧ v t < 100)
    (C : ∀ (R : Nat) (re rb sy : Nat → Int32), kr_lis v M R → kr_syC v l M a_stays sy → post (nI R) (f_drafted, f_open, f_root, f_nextId, nI R, f_keptCount, f_goneCount, f_moveCount, a_draftType, a_draftKey, a_draftParent, a_openNode, a_used, a_type, a_key, a_ident, a_state, a_up, a_child, a_next, a_before, a_becomes, a_isKept, a_byKey, a_stood, re, rb, a_list, sy, a_order, a_pile)) : wpX_longestRow post (f_drafted, f_open, f_root, f_nextId, f_rowSize, f_keptCount, f_goneCount, f_moveCount, a_draftType, a_draftKey, a_draftParent, a_openNode, a_used, a_type, a_key, a_ident, a_state, a_up, a_child, a_next, a_before, a_becomes, a_isKept, a_byKey, a_stood, a_rowEnd, a_rowBefore, a_list, a_stays, a_order, a_pile) (nI M) := by
  unfold wpX_longestRow
  dsimp only
  refine ⟨M + 1, ?_⟩
  exact kr_lr7 (v := v) (l := l) hM hl C M 0 (M + 1) 0 (fun _ => 0) a_rowEnd a_rowBefore (by omega) (by omega) (fun j h => absurd h (Nat.not_lt_zero j)) ⟨fun j h => absurd h (Nat.not_lt_zero j), Or.inl ⟨rfl, rfl⟩⟩ (fun k h => absurd h (Nat.not_lt_zero k)) (fun i h => absurd h (Nat.not_lt_zero i))
end
end
section
/-- o j = some q: node j of the draft is kept of the shown place q -/
def kr_or (N m : Nat) (p dp : Nat → Nat) (yt yk dT dK : Nat → Int32) (o : Nat → Option Nat) : Prop :=
  ∀ j, j < m → ∀ q, (o j = some q ↔ q < N ∧ yt q = dT j ∧ yk q = dK j ∧ ((j = 0 ∧ q = 0) ∨ (0 < j ∧ 0 < q ∧ o (dp j) = some (p q))))
theorem kr_or_ex {N m : Nat} {p dp : Nat → Nat} {par yk dpar dK : Nat → Int32} (yt dT : Nat → Int32) (h1 : kr_shp N p par yk) (h2 : kr_shp m dp dpar dK) : ∃ o, kr_or N m p dp yt yk dT dK o := by
  have key : ∀ k, k ≤ m → ∃ o, kr_or N k p dp yt yk dT dK o := by
    intro k
    induction k with
    | zero => intro _; exact ⟨fun _ => none, fun j h => absurd h (Nat.not_lt_zero j)⟩
    | succ k ih =>
      intro hk
      obtain ⟨o, ho⟩ := ih (by omega)
      have ext : ∀ w : Option Nat, (∀ q, (w = some q ↔ q < N ∧ yt q = dT k ∧ yk q = dK k ∧ ((k = 0 ∧ q = 0) ∨ (0 < k ∧ 0 < q ∧ o (dp k) = some (p q))))) → kr_or N (k + 1) p dp yt yk dT dK (fun j => if j = k then w else o j) := by
        intro w hw j hj q
        show (if j = k then w else o j) = some q ↔ q < N ∧ yt q = dT j ∧ yk q = dK j ∧ ((j = 0 ∧ q = 0) ∨ (0 < j ∧ 0 < q ∧ (if dp j = k then w else o (dp j)) = some (p q)))
        have hd : 0 < j → ¬ dp j = k := by
          intro z
          have := h2.2.2.2.1.1 j z (by omega)
          omega
        by_cases z : j = k
        · subst z
          rw [if_pos rfl]
          by_cases y : 0 < j
          · rw [if_neg (hd y)]; exact hw q
          · have y0 : j = 0 := by omega
            rw [hw q]
            simp [y0]
        · rw [if_neg z]
          by_cases y : 0 < j
          · rw [if_neg (hd y)]; exact ho j (by omega) q
          · have y0 : j = 0 := by omega
            rw [ho j (by omega) q]
            simp [y0]
      by_cases e : ∃ q, q < N ∧ yt q = dT k ∧ yk q = dK k ∧ ((k = 0 ∧ q = 0) ∨ (0 < k ∧ 0 < q ∧ o (dp k) = some (p q)))
      · obtain ⟨q, hq⟩ := e
        refine ⟨_, ext (some q) ?_⟩
        intro q'
        constructor
        · intro w
          rw [← Option.some.inj w]
          exact hq
        · intro w
          congr 1
          rcases hq.2.2.2 with ⟨a1, a2⟩ | ⟨a1, a2, a3⟩
          · rcases w.2.2.2 with ⟨b1, b2⟩ | ⟨b1, b2, b3⟩
            · omega
            · omega
          · rcases w.2.2.2 with ⟨b1, b2⟩ | ⟨b1, b2, b3⟩
            · omega
            · have ep : p q = p q' := Option.some.inj (a3.symm.trans b3)
              have ek : yk q = yk q' := hq.2.2.1.trans w.2.2.1.symm
              by_cases x : q < q'
              · exact absurd ek (h1.2.2.2.2.2 q q' a2 x w.1 ep)
              · by_cases x2 : q' < q
                · exact absurd ek.symm (h1.2.2.2.2.2 q' q b2 x2 hq.1 ep.symm)
                · omega
      · refine ⟨_, ext none ?_⟩
        intro q
        exact ⟨fun w => (nomatch w), fun w => absurd ⟨q, w⟩ e⟩
  exact key m (Nat.le_refl m)
theorem kr_or_inj {N m : Nat} {p dp : Nat → Nat} {par yk dpar dK yt dT : Nat → Int32} {o : Nat → Option Nat} (h1 : kr_shp N p par yk) (h2 : kr_shp m dp dpar dK) (ho : kr_or N m p dp yt yk dT dK o) :
    ∀ i j q, i < m → j < m → o i = some q → o j = some q → i = j := by
  have key : ∀ q i j, i < m → j < m → o i = some q → o j = some q → i = j := by
    intro q
    induction q using Nat.strongRecOn with
    | ind q ih =>
      intro i j hi hj ei ej
      obtain ⟨a1, a2, a3, a4⟩ := (ho i hi q).mp ei
      obtain ⟨b1, b2, b3, b4⟩ := (ho j hj q).mp ej
      rcases a4 with ⟨a5, a6⟩ | ⟨a5, a6, a7⟩
      · rcases b4 with ⟨b5, b6⟩ | ⟨b5, b6, b7⟩
        · omega
        · omega
      · rcases b4 with ⟨b5, b6⟩ | ⟨b5, b6, b7⟩
        · omega
        · have k1 := h1.2.2.2.1.1 q a6 a1
          have k2 := h2.2.2.2.1.1 i a5 hi
          have k3 := h2.2.2.2.1.1 j b5 hj
          have e := ih (p q) k1 (dp i) (dp j) (by omega) (by omega) a7 b7
          have ek : dK i = dK j := a3.symm.trans b3
          by_cases x : i < j
          · exact absurd ek (h2.2.2.2.2.2 i j a5 x hj e)
          · by_cases x2 : j < i
            · exact absurd ek.symm (h2.2.2.2.2.2 j i b5 x2 hi e.symm)
            · omega
  exact fun i j q hi hj => key q i j hi hj
def kr_ov (w : Option Nat) : Int32 := match w with
  | none => -1
  | some q => nI q
def kr_og (o : Nat → Option Nat) (j : Nat) : Nat := (o j).getD 0
/-- the kept children of node i of the draft -/
def kr_kcn (m : Nat) (dp : Nat → Nat) (o : Nat → Option Nat) (i j : Nat) : List Nat := (List.range j).filter (fun j => decide (i < j ∧ dp j = i) && (o j).isSome)
def kr_kv (m : Nat) (dp : Nat → Nat) (o : Nat → Option Nat) (i : Nat) : Nat → Nat := fun t => ((kr_kcn m dp o i m).map (kr_og o)).getD t 0
def kr_mv (m : Nat) (dp : Nat → Nat) (o : Nat → Option Nat) (mv : Nat → Nat) : Prop := ∀ i, ∃ R, kr_lis (kr_kv m dp o i) (kr_kcn m dp o i m).length R ∧ mv i = (kr_kcn m dp o i m).length - R
theorem kr_mv_ex (m : Nat) (dp : Nat → Nat) (o : Nat → Option Nat) : ∃ mv, kr_mv m dp o mv := by
  have h : ∀ i, ∃ x, ∃ R, kr_lis (kr_kv m dp o i) (kr_kcn m dp o i m).length R ∧ x = (kr_kcn m dp o i m).length - R := by
    intro i
    obtain ⟨R, hR⟩ := kr_lis_ex (kr_kv m dp o i) (kr_kcn m dp o i m).length
    exact ⟨_, R, hR, rfl⟩
  exact ⟨fun i => Classical.choose (h i), fun i => Classical.choose_spec (h i)⟩
def kr_sm (mv : Nat → Nat) : Nat → Nat
  | 0 => 0
  | i + 1 => kr_sm mv i + mv i
theorem kr_kcn_0 {m : Nat} {dp : Nat → Nat} {o : Nat → Option Nat} {i : Nat} : kr_kcn m dp o i 0 = [] := rfl
theorem kr_kcn_t {m : Nat} {dp : Nat → Nat} {o : Nat → Option Nat} {i j : Nat} (h1 : i < j ∧ dp j = i) (h2 : (o j).isSome = true) : kr_kcn m dp o i (j + 1) = kr_kcn m dp o i j ++ [j] := by
  unfold kr_kcn
  rw [List.range_succ, List.filter_append]
  congr 1
  simp [h1, h2]
theorem kr_kcn_f {m : Nat} {dp : Nat → Nat} {o : Nat → Option Nat} {i j : Nat} (h : ¬ (i < j ∧ dp j = i) ∨ (o j).isSome = false) : kr_kcn m dp o i (j + 1) = kr_kcn m dp o i j := by
  unfold kr_kcn
  rw [List.range_succ, List.filter_append]
  have e : [j].filter (fun j => decide (i < j ∧ dp j = i) && (o j).isSome) = [] := by
    rcases h with h | h
    · simp [h]
    · simp [h]
  rw [e, List.append_nil]
theorem kr_kcn_le {m : Nat} {dp : Nat → Nat} {o : Nat → Option Nat} {i j : Nat} : (kr_kcn m dp o i j).length ≤ j := by
  have h := List.length_filter_le (fun j => decide (i < j ∧ dp j = i) && (o j).isSome) (List.range j)
  rw [List.length_range] at h
  exact h
theorem kr_kcn_mem {m : Nat} {dp : Nat → Nat} {o : Nat → Option Nat} {i j x : Nat} : x ∈ kr_kcn m dp o i j ↔ x < j ∧ i < x ∧ dp x = i ∧ (o x).isSome = true := by
  unfold kr_kcn
  rw [List.mem_filter, List.mem_range, Bool.and_eq_true, decide_eq_true_eq]
  constructor
  · rintro ⟨a, ⟨b, c⟩, d⟩; exact ⟨a, b, c, d⟩
  · rintro ⟨a, b, c, d⟩; exact ⟨a, ⟨b, c⟩, d⟩
theorem kr_kcn_lt {m : Nat} {dp : Nat → Nat} {o : Nat → Option Nat} {i j : Nat} : (kr_kcn m dp o i j).Pairwise (· < ·) := List.pairwise_lt_range.filter _
end
section
theorem kr_getD {l : List Nat} {t : Nat} (h : t < l.length) : l.getD t 0 = l[t] := by
  rw [List.getD_eq_getElem?_getD, List.getElem?_eq_getElem h]
  rfl
theorem kr_kv_ar {m i : Nat} {dp : Nat → Nat} {o : Nat → Option Nat} {row : Nat → Int32} (h : kr_ar row 0 ((kr_kcn m dp o i m).map (kr_og o))) : ∀ t, t < (kr_kcn m dp o i m).length → row t = nI (kr_kv m dp o i t) := by
  intro t ht
  have ht' : t < ((kr_kcn m dp o i m).map (kr_og o)).length := by rw [List.length_map]; exact ht
  have k := h t ht'
  rw [Nat.zero_add] at k
  rw [k]
  unfold kr_kv
  rw [kr_getD ht']
theorem kr_kv_lt {m i B : Nat} {dp : Nat → Nat} {o : Nat → Option Nat} (hB : 0 < B) (h : ∀ j q, j < m → o j = some q → q < B) : ∀ t, kr_kv m dp o i t < B := by
  intro t
  unfold kr_kv
  by_cases ht : t < ((kr_kcn m dp o i m).map (kr_og o)).length
  · rw [kr_getD ht, List.getElem_map]
    have mm := List.getElem_mem (l := kr_kcn m dp o i m) (n := t) (by rw [List.length_map] at ht; exact ht)
    obtain ⟨a1, a2, a3, a4⟩ := kr_kcn_mem.mp mm
    obtain ⟨q, hq⟩ := Option.isSome_iff_exists.mp a4
    have := h _ q a1 hq
    unfold kr_og
    rw [hq]
    exact this
  · rw [List.getD_eq_getElem?_getD, List.getElem?_eq_none (by omega)]
    exact hB
section
variable {g_size g_drafted g_last g_opened g_given g_kept g_gone g_moves : Int32} {b_types b_keys b_parents b_ids b_states b_draftTypes b_draftKeys b_draftParents b_origins b_oldIds b_oldStates b_row b_best : Nat → Int32} {N m : Nat} {p dp : Nat → Nat} {o : Nat → Option Nat}
theorem kr_oo40 {post : Int32 → Prop} {i : Nat} {x3 : Int32} {w : Option Nat} (hN : N ≤ 16) (hi : i < 16)
    (hE : ∀ j, j < N → ((b_parents j = x3 ∧ b_keys j = b_draftKeys i ∧ b_types j = b_draftTypes i) ↔ w = some j)) (K1 : ∀ j, j < N → w = some j → post (nI j)) (K0 : (∀ j, j < N → w ≠ some j) → post (-1)) :
    ∀ (d j n : Nat), j + d = N → d < n → (∀ j', j' < j → w ≠ some j') → wY_originOf_40 post (nI i) x3 (nI N) g_drafted g_last g_opened g_given g_kept g_gone g_moves b_types b_keys b_parents b_ids b_states b_draftTypes b_draftKeys b_draftParents b_origins b_oldIds b_oldStates b_row b_best n (nI j) := by
  have ci : (nI i).toNatClampNeg = i := nI_clamp (by omega)
  have vi : vp_in (nI i) 16 := vp_in_nI (by omega) (by omega)
  intro d
  induction d with
  | zero =>
    intro j n e hn hb
    obtain ⟨n, rfl⟩ : ∃ n', n = n' + 1 := ⟨n - 1, by omega⟩
    rw [wY_originOf_40]
    exact br_t (nI_le (by omega) (by omega)) (K0 (fun j' hj => hb j' (by omega)))
  | succ d ih =>
    intro j n e hn hb
    obtain ⟨n, rfl⟩ : ∃ n', n = n' + 1 := ⟨n - 1, by omega⟩
    have cj : (nI j).toNatClampNeg = j := nI_clamp (by omega)
    have vj : vp_in (nI j) 16 := vp_in_nI (by omega) (by omega)
    have hj := hE j (by omega)
    have nxt : w ≠ some j → wY_originOf_40 post (nI i) x3 (nI N) g_drafted g_last g_opened g_given g_kept g_gone g_moves b_types b_keys b_parents b_ids b_states b_draftTypes b_draftKeys b_draftParents b_origins b_oldIds b_oldStates b_row b_best n (nI (j + 1)) := fun z => ih (j + 1) n (by omega) (by omega) (lt_s hb z)
    rw [wY_originOf_40]
    dsimp only
    rw [cj, ci]
    refine br_f (nI_ge (by omega) (by omega)) ⟨vj, br_c (fun z1 => ⟨vj, vi, br_c (fun z2 => ⟨vj, vi, br_c (fun z3 => K1 j (by omega) (hj.mp ⟨z1, z2, z3⟩)) (fun z3 => nm_r (nI_1 j) (nxt (fun y => z3 (hj.mpr y).2.2)))⟩) (fun z2 => nm_r (nI_1 j) (nxt (fun y => z2 (hj.mpr y).2.1)))⟩) (fun z1 => nm_r (nI_1 j) (nxt (fun y => z1 (hj.mpr y).1)))⟩
theorem kr_oow {post : Int32 → Prop} {i : Nat} (r1 : kr_shp N p b_parents b_keys) (r2 : kr_shp m dp b_draftParents b_draftKeys) (ho : kr_or N m p dp b_types b_keys b_draftTypes b_draftKeys o) (hi : i < m)
    (hg : ∀ j, j < i → b_origins j = kr_ov (o j)) (K : post (kr_ov (o i))) : wpY_originOf post (nI N, g_drafted, g_last, g_opened, g_given, g_kept, g_gone, g_moves, b_types, b_keys, b_parents, b_ids, b_states, b_draftTypes, b_draftKeys, b_draftParents, b_origins, b_oldIds, b_oldStates, b_row, b_best) (nI i) := by
  have hN := r1.1
  have hm := r2.1
  have ci : (nI i).toNatClampNeg = i := nI_clamp (by omega)
  have vi : vp_in (nI i) 16 := vp_in_nI (by omega) (by omega)
  have K1 : ∀ j, j < N → o i = some j → post (nI j) := by
    intro j _ e
    rw [e] at K
    exact K
  have K0 : (∀ j, j < N → o i ≠ some j) → post (-1) := by
    intro h
    have e : o i = none := by
      cases w : o i with
      | none => rfl
      | some q => exact absurd w (h q ((ho i hi q).mp w).1)
    rw [e] at K
    exact K
  unfold wpY_originOf
  dsimp only
  rw [ci]
  refine ⟨vi, ?_⟩
  by_cases z : i = 0
  · subst z
    rw [r2.2.1 (by omega)]
    refine nm_e (br_t kr_m1lt ?_)
    unfold wY_originOf_22
    refine br_f (by decide) ⟨N + 1, kr_oo40 (w := o 0) hN (by omega) ?_ K1 K0 N 0 (N + 1) (by omega) (by omega) (fun j h => absurd h (Nat.not_lt_zero j))⟩
    intro j hj
    rw [ho 0 hi j]
    constructor
    · rintro ⟨a, b, c⟩
      refine ⟨hj, c, b, Or.inl ⟨rfl, ?_⟩⟩
      by_cases y : j = 0
      · exact y
      · rw [r1.2.2.1 j (by omega) hj] at a
        have := r1.2.2.2.1.1 j (by omega) hj
        exact absurd a.symm (kr_m1ne (by omega))
    · rintro ⟨a, b, c, d⟩
      rcases d with ⟨d1, d2⟩ | ⟨d1, _⟩
      · subst d2
        exact ⟨r1.2.1 (by omega), c, b⟩
      · omega
  · have hd := r2.2.2.2.1.1 i (by omega) hi
    have cd : (nI (dp i)).toNatClampNeg = dp i := nI_clamp (by omega)
    have vd : vp_in (nI (dp i)) 16 := vp_in_nI (by omega) (by omega)
    rw [r2.2.2.1 i (by omega) hi]
    refine nm_e (br_f (nI_pos (by omega)) ⟨vd, ?_⟩)
    rw [cd, hg (dp i) hd]
    cases w : o (dp i) with
    | none =>
      refine br_f (show ¬ (0 : Int32) ≤ -1 by decide) (K0 ?_)
      intro j _ e
      rcases ((ho i hi j).mp e).2.2.2 with ⟨d1, d2⟩ | ⟨d1, d2, d3⟩
      · omega
      · rw [w] at d3
        exact nomatch d3
    | some r =>
      have hr := ((ho (dp i) (by omega) r).mp w).1
      refine br_t (show (0 : Int32) ≤ nI r from nI_pos' (by omega)) ?_
      unfold wY_originOf_22
      refine br_t (nI_pos' (by omega)) ⟨vd, nm_r (e' := nI r) (by rw [cd, hg (dp i) hd, w]; rfl) ⟨N + 1, ?_⟩⟩
      refine kr_oo40 (w := o i) hN (by omega) ?_ K1 K0 N 0 (N + 1) (by omega) (by omega) (fun j h => absurd h (Nat.not_lt_zero j))
      intro j hj
      rw [ho i hi j, kr_par r1 (by omega) hj]
      constructor
      · rintro ⟨a, b, c⟩
        exact ⟨hj, c, b, Or.inr ⟨by omega, by omega, by rw [w, a.2]⟩⟩
      · rintro ⟨a, b, c, d⟩
        rcases d with ⟨d1, d2⟩ | ⟨d1, d2, d3⟩
        · omega
        · rw [w] at d3
          have e := Option.some.inj d3
          have := r1.2.2.2.1.1 j d2 hj
          exact ⟨⟨by omega, e.symm⟩, c, b⟩
theorem kr_m74 {post : Int32 → SY → Prop} {J : Int32 → Int32 → (Nat → Int32) → (Nat → Int32) → (Nat → Int32) → (Nat → Int32) → (Nat → Int32) → (Nat → Int32) → (Nat → Int32) → (Nat → Int32) → (Nat → Int32) → (Nat → Int32) → (Nat → Int32) → (Nat → Int32) → (Nat → Int32) → Prop} {x2 : Int32} {M t R : Nat} {v L : Nat → Nat} (hM : M ≤ 16) (ht : t < M) (hR : R ≤ 16) (hr : ∀ s, s < M → b_row s = nI (v s)) (hv : ∀ s, v s < 100) (hL : ∀ s, s < t → L s ≤ R)
    (C : ∀ (b : Nat) (be : Nat → Int32), be t = nI b → 1 ≤ b → (∀ s, s < t → be s = nI (L s)) → (∀ i, i < t → v i < v t → L i + 1 ≤ b) → (b = 1 ∨ ∃ i, i < t ∧ v i < v t ∧ b = L i + 1) → J (nI (if b ≤ R then R else b)) (nI (t + 1)) b_types b_keys b_parents b_ids b_states b_draftTypes b_draftKeys b_draftParents b_origins b_oldIds b_oldStates b_row be) :
    ∀ (d j n b : Nat) (be : Nat → Int32), j + d = t → d < n → be t = nI b → 1 ≤ b → (∀ s, s < t → be s = nI (L s)) → (∀ i, i < j → v i < v t → L i + 1 ≤ b) → (b = 1 ∨ ∃ i, i < j ∧ v i < v t ∧ b = L i + 1) →
    wY_movesAt_74 post J x2 (nI R) (nI t) g_size g_drafted g_last g_opened g_given g_kept g_gone g_moves n (nI j) b_types b_keys b_parents b_ids b_states b_draftTypes b_draftKeys b_draftParents b_origins b_oldIds b_oldStates b_row be := by
  have ct : (nI t).toNatClampNeg = t := nI_clamp (by omega)
  have vt : vp_in (nI t) 16 := vp_in_nI (by omega) (by omega)
  have hvt := hv t
  intro d
  induction d with
  | zero =>
    intro j n b be e hn h1 h2 h3 h4 h5
    obtain ⟨n, rfl⟩ : ∃ n', n = n' + 1 := ⟨n - 1, by omega⟩
    have e' : j = t := by omega
    subst e'
    have hb : b ≤ 17 := by
      rcases h5 with z | ⟨i, i1, i2, i3⟩
      · omega
      · have := hL i i1
        omega
    have c := C b be h1 h2 h3 h4 h5
    rw [wY_movesAt_74]
    dsimp only
    rw [ct, h1]
    refine br_t (nI_le (Nat.le_refl _) (by omega)) ⟨vt, ?_⟩
    by_cases q : b ≤ R
    · rw [if_pos q] at c
      exact br_t (nI_le q (by omega)) (nm_r (nI_1 j) c)
    · rw [if_neg q] at c
      exact br_f (nI_ge (by omega) (by omega)) ⟨vt, nm_e (nm_r (nI_1 j) c)⟩
  | succ d ih =>
    intro j n b be e hn h1 h2 h3 h4 h5
    obtain ⟨n, rfl⟩ : ∃ n', n = n' + 1 := ⟨n - 1, by omega⟩
    have hb : b ≤ 17 := by
      rcases h5 with z | ⟨i, i1, i2, i3⟩
      · omega
      · have := hL i (by omega)
        omega
    have hvj := hv j
    have cj : (nI j).toNatClampNeg = j := nI_clamp (by omega)
    have vj : vp_in (nI j) 16 := vp_in_nI (by omega) (by omega)
    have hLj := hL j (by omega)
    have stay : (v j < v t → L j + 1 ≤ b) → wY_movesAt_74 post J x2 (nI R) (nI t) g_size g_drafted g_last g_opened g_given g_kept g_gone g_moves n (nI (j + 1)) b_types b_keys b_parents b_ids b_states b_draftTypes b_draftKeys b_draftParents b_origins b_oldIds b_oldStates b_row (upd be t (nI b)) := by
      intro hh
      refine ih (j + 1) n b _ (by omega) (by omega) pk_us h2 ?_ ?_ ?_
      · intro s hs
        rw [pk_un (by omega)]
        exact h3 s hs
      · intro i hi hvi
        by_cases q : i = j
        · subst q; exact hh hvi
        · exact h4 i (by omega) hvi
      · rcases h5 with z | ⟨i, i1, i2, i3⟩
        · exact Or.inl z
        · exact Or.inr ⟨i, by omega, i2, i3⟩
    rw [wY_movesAt_74]
    dsimp only
    rw [cj, ct, hr j (by omega), hr t ht, h1, h3 j (by omega)]
    refine br_f (nI_ge (by omega) (by omega)) ⟨vj, vt, br_c (fun z => ⟨vt, vt, nm_e (nm_r (nI_1 j) (stay (fun y => ?_)))⟩) (fun z => ⟨vj, vt, ?_⟩)⟩
    · have := (nI_leI (by omega) (by omega)).mp z
      omega
    · have z' : ¬ v t ≤ v j := fun y => z (nI_le y (by omega))
      rw [nI_1 (L j)]
      refine br_c (fun y => ⟨vt, vt, nm_e (nm_r (nI_1 j) (stay (fun _ => ?_)))⟩) (fun y => ⟨vj, vt, nm_e (nm_r (nI_1 j) ?_)⟩)
      · exact (nI_leI (by omega) (by omega)).mp y
      · have y' : ¬ L j + 1 ≤ b := fun w => y (nI_le w (by omega))
        refine ih (j + 1) n (L j + 1) _ (by omega) (by omega) pk_us (by omega) ?_ ?_ ?_
        · intro s hs
          rw [pk_un (by omega)]
          exact h3 s hs
        · intro i hi hvi
          by_cases q : i = j
          · subst q; omega
          · have := h4 i (by omega) hvi
            omega
        · exact Or.inr ⟨j, by omega, by omega, rfl⟩
theorem kr_m57 {post : Int32 → SY → Prop} {M : Nat} {v : Nat → Nat} (hM : M ≤ 16) (hr : ∀ s, s < M → b_row s = nI (v s)) (hv : ∀ s, v s < 100)
    (C : ∀ (R : Nat) (be : Nat → Int32), kr_lis v M R → post (nI (M - R)) (g_size, g_drafted, g_last, g_opened, g_given, g_kept, g_gone, g_moves, b_types, b_keys, b_parents, b_ids, b_states, b_draftTypes, b_draftKeys, b_draftParents, b_origins, b_oldIds, b_oldStates, b_row, be)) :
    ∀ (d t n R : Nat) (L : Nat → Nat) (be : Nat → Int32), t + d = M → d < n → kr_L v t L → kr_R t L R → (∀ s, s < t → be s = nI (L s)) → wY_movesAt_57 post (nI M) g_size g_drafted g_last g_opened g_given g_kept g_gone g_moves n (nI R) (nI t) b_types b_keys b_parents b_ids b_states b_draftTypes b_draftKeys b_draftParents b_origins b_oldIds b_oldStates b_row be := by
  intro d
  induction d with
  | zero =>
    intro t n R L be e hn h1 h2 h3
    obtain ⟨n, rfl⟩ : ∃ n', n = n' + 1 := ⟨n - 1, by omega⟩
    have e' : t = M := by omega
    subst e'
    have hlis : kr_lis v t R := ⟨L, h1, h2⟩
    have hle := kr_lis_le hlis
    rw [wY_movesAt_57]
    dsimp only
    rw [pk_sub hle]
    exact br_t (nI_le (Nat.le_refl _) (by omega)) (C R be hlis)
  | succ d ih =>
    intro t n R L be e hn h1 h2 h3
    obtain ⟨n, rfl⟩ : ∃ n', n = n' + 1 := ⟨n - 1, by omega⟩
    have hle := kr_lis_le ⟨L, h1, h2⟩
    have ct : (nI t).toNatClampNeg = t := nI_clamp (by omega)
    rw [wY_movesAt_57]
    dsimp only
    rw [ct]
    refine br_f (nI_ge (by omega) (by omega)) ⟨vp_in_nI (by omega) (by omega), nm_e ⟨t + 1, ?_⟩⟩
    refine kr_m74 (M := M) (v := v) (L := L) hM (by omega) (by omega) hr hv h2.1 ?_ t 0 (t + 1) 1 _ (by omega) (by omega) pk_us (by omega) (fun s hs => by rw [pk_un (by omega)]; exact h3 s hs) (fun i h => absurd h (Nat.not_lt_zero i)) (Or.inl rfl)
    intro b be' b1 b2 b3 b4 b5
    have hL' : kr_L v (t + 1) (kr_st L t (b - 1 + 1)) := by
      refine kr_L_next h1 ?_ ?_
      · intro i hi hvi
        have := b4 i hi hvi
        omega
      · rcases b5 with z | ⟨i, i1, i2, i3⟩
        · exact Or.inl (by omega)
        · exact Or.inr ⟨i, i1, i2, by omega⟩
    have hbR : b - 1 ≤ R := by
      rcases b5 with z | ⟨i, i1, i2, i3⟩
      · omega
      · have := h2.1 i i1
        omega
    have hR' := kr_R_next (at' := b - 1) h2 hbR
    have eR : (if b ≤ R then R else b) = (if b - 1 = R then R + 1 else R) := by
      by_cases q : b ≤ R
      · rw [if_pos q, if_neg (by omega)]
      · rw [if_neg q, if_pos (by omega)]; omega
    rw [eR]
    refine ih (t + 1) n _ _ be' (by omega) (by omega) hL' hR' ?_
    intro s hs
    by_cases q : s = t
    · subst q
      rw [b1, kr_st_s, Nat.sub_add_cancel b2]
    · rw [kr_st_n q]
      exact b3 s (by omega)
theorem kr_m4 {post : Int32 → SY → Prop} {i : Nat} (r2 : kr_shp m dp b_draftParents b_draftKeys) (hi : i < 16) (hg : ∀ j, j < m → b_origins j = kr_ov (o j)) (hq : ∀ j q, j < m → o j = some q → q < 16)
    (C : ∀ row : Nat → Int32, kr_ar row 0 ((kr_kcn m dp o i m).map (kr_og o)) → ∃ n, wY_movesAt_57 post (nI (kr_kcn m dp o i m).length) g_size (nI m) g_last g_opened g_given g_kept g_gone g_moves n 0 0 b_types b_keys b_parents b_ids b_states b_draftTypes b_draftKeys b_draftParents b_origins b_oldIds b_oldStates row b_best) :
    ∀ (d j n : Nat) (row : Nat → Int32), j + d = m → d < n → kr_ar row 0 ((kr_kcn m dp o i j).map (kr_og o)) → wY_movesAt_4 post (nI i) g_size (nI m) g_last g_opened g_given g_kept g_gone g_moves n (nI (kr_kcn m dp o i j).length) (nI j) b_types b_keys b_parents b_ids b_states b_draftTypes b_draftKeys b_draftParents b_origins b_oldIds b_oldStates row b_best := by
  have hm := r2.1
  intro d
  induction d with
  | zero =>
    intro j n row e hn h
    obtain ⟨n, rfl⟩ : ∃ n', n = n' + 1 := ⟨n - 1, by omega⟩
    have e' : j = m := by omega
    subst e'
    rw [wY_movesAt_4]
    exact br_t (nI_le (Nat.le_refl _) (by omega)) (C row h)
  | succ d ih =>
    intro j n row e hn h
    obtain ⟨n, rfl⟩ : ∃ n', n = n' + 1 := ⟨n - 1, by omega⟩
    have cj : (nI j).toNatClampNeg = j := nI_clamp (by omega)
    have vj : vp_in (nI j) 16 := vp_in_nI (by omega) (by omega)
    have hl := kr_kcn_le (m := m) (dp := dp) (o := o) (i := i) (j := j)
    have cl : (nI (kr_kcn m dp o i j).length).toNatClampNeg = (kr_kcn m dp o i j).length := nI_clamp (by omega)
    have hp := kr_par r2 hi (show j < m by omega)
    rw [wY_movesAt_4]
    dsimp only
    rw [cj, hg j (by omega), cl]
    refine br_f (nI_ge (by omega) (by omega)) ⟨vj, br_c (fun z => ⟨vj, ?_⟩) (fun z => nm_r (nI_1 j) ?_)⟩
    · cases w : o j with
      | none =>
        refine br_t kr_m1lt (nm_r (nI_1 j) ?_)
        have k := ih (j + 1) n row (by omega) (by omega)
        rw [kr_kcn_f (Or.inr (by rw [w]; rfl))] at k
        exact k h
      | some q =>
        have hqq := hq j q (by omega) w
        refine br_f (show ¬ nI q < 0 from nI_pos (by omega)) ⟨vj, vp_in_nI (by omega) (by omega), nm_e (nm_r (nI_1 _) (nm_r (nI_1 j) ?_))⟩
        have k := ih (j + 1) n (upd row (kr_kcn m dp o i j).length (nI q)) (by omega) (by omega)
        rw [kr_kcn_t (hp.mp z) (by rw [w]; rfl), List.length_append, List.map_append] at k
        refine k (kr_ar_app.mpr ⟨?_, ?_⟩)
        · refine kr_ar_congr h ?_
          intro x x1 x2
          rw [List.length_map] at x2
          rw [pk_un (by omega)]
        · rw [List.length_map, Nat.zero_add]
          refine kr_ar_one ?_
          unfold kr_og
          rw [w]
          exact pk_us
    · have k := ih (j + 1) n row (by omega) (by omega)
      rw [kr_kcn_f (Or.inl (fun y => z (hp.mpr y)))] at k
      exact k h
theorem kr_mvw {post : Int32 → SY → Prop} {i : Nat} {mv : Nat → Nat} (hmv : kr_mv m dp o mv) (r2 : kr_shp m dp b_draftParents b_draftKeys) (hi : i < 16) (hg : ∀ j, j < m → b_origins j = kr_ov (o j)) (hq : ∀ j q, j < m → o j = some q → q < 16)
    (C : ∀ row be : Nat → Int32, post (nI (mv i)) (g_size, nI m, g_last, g_opened, g_given, g_kept, g_gone, g_moves, b_types, b_keys, b_parents, b_ids, b_states, b_draftTypes, b_draftKeys, b_draftParents, b_origins, b_oldIds, b_oldStates, row, be)) : wpY_movesAt post (g_size, nI m, g_last, g_opened, g_given, g_kept, g_gone, g_moves, b_types, b_keys, b_parents, b_ids, b_states, b_draftTypes, b_draftKeys, b_draftParents, b_origins, b_oldIds, b_oldStates, b_row, b_best) (nI i) := by
  have hm := r2.1
  have hl := kr_kcn_le (m := m) (dp := dp) (o := o) (i := i) (j := m)
  unfold wpY_movesAt
  dsimp only
  refine ⟨m + 1, kr_m4 (dp := dp) (o := o) r2 hi hg hq ?_ m 0 (m + 1) b_row (by omega) (by omega) kr_ar_nil⟩
  intro row hrow
  refine ⟨(kr_kcn m dp o i m).length + 1, ?_⟩
  refine kr_m57 (v := kr_kv m dp o i) (by omega) (kr_kv_ar hrow) (fun s => Nat.lt_trans (kr_kv_lt (B := 16) (by omega) hq s) (by omega)) ?_ (kr_kcn m dp o i m).length 0 ((kr_kcn m dp o i m).length + 1) 0 (fun _ => 0) b_best (by omega) (by omega) (fun j h => absurd h (Nat.not_lt_zero j)) ⟨fun j h => absurd h (Nat.not_lt_zero j), Or.inl ⟨rfl, rfl⟩⟩ (fun s h => absurd h (Nat.not_lt_zero s))
  intro R be hR
  obtain ⟨R', hR', e⟩ := hmv i
  rw [kr_lis_eq hR hR' (fun _ _ _ _ => Iff.rfl), ← e]
  exact C row be
end
end
section
/-- whether node j of the draft is kept -/
def kr_kb (o : Nat → Option Nat) (j : Nat) : Bool := (o j).isSome
def kr_nb (o : Nat → Option Nat) (j : Nat) : Bool := !(o j).isSome
def kr_nid (o : Nat → Option Nat) (ids : Nat → Int32) (g : Int32) (j : Nat) : Int32 := match o j with
  | none => g + nI (kr_ct (kr_nb o) j)
  | some q => ids q
def kr_nst (o : Nat → Option Nat) (st : Nat → Int32) (j : Nat) : Int32 := match o j with
  | none => 0
  | some q => st q
theorem kr_kb_s {o : Nat → Option Nat} {j q : Nat} (h : o j = some q) : kr_ct (kr_kb o) (j + 1) = kr_ct (kr_kb o) j + 1 ∧ kr_ct (kr_nb o) (j + 1) = kr_ct (kr_nb o) j := by
  constructor
  · show _ + (if kr_kb o j = true then 1 else 0) = _
    rw [if_pos (by unfold kr_kb; rw [h]; rfl)]
  · show _ + (if kr_nb o j = true then 1 else 0) = _
    rw [if_neg (by unfold kr_nb; rw [h]; exact fun z => nomatch z)]
    rfl
theorem kr_kb_n {o : Nat → Option Nat} {j : Nat} (h : o j = none) : kr_ct (kr_kb o) (j + 1) = kr_ct (kr_kb o) j ∧ kr_ct (kr_nb o) (j + 1) = kr_ct (kr_nb o) j + 1 := by
  constructor
  · show _ + (if kr_kb o j = true then 1 else 0) = _
    rw [if_neg (by unfold kr_kb; rw [h]; decide)]
    rfl
  · show _ + (if kr_nb o j = true then 1 else 0) = _
    rw [if_pos (by unfold kr_nb; rw [h]; rfl)]
section
variable {g_size g_drafted g_last g_opened g_given g_kept g_gone g_moves : Int32} {b_types b_keys b_parents b_ids b_states b_draftTypes b_draftKeys b_draftParents b_origins b_oldIds b_oldStates b_row b_best : Nat → Int32} {N m : Nat} {p dp : Nat → Nat} {o : Nat → Option Nat}
theorem kr_y173 {post : Int32 → SY → Prop} (ty0 ky0 pa0 id0 st0 : Nat → Int32) (g : Int32) (hm : m ≤ 16) (hg : ∀ j, j < m → b_origins j = kr_ov (o j)) (hq : ∀ j q, j < m → o j = some q → q < 16 ∧ b_oldIds q = id0 q ∧ b_oldStates q = st0 q)
    (C : post (nI m - g_kept) (nI m, 0, -1, 0, g + nI (kr_ct (kr_nb o) m), g_kept, g_gone, g_moves, kr_wr m b_draftTypes ty0, kr_wr m b_draftKeys ky0, kr_wr m b_draftParents pa0, kr_wr m (kr_nid o id0 g) id0, kr_wr m (kr_nst o st0) st0, b_draftTypes, b_draftKeys, b_draftParents, b_origins, b_oldIds, b_oldStates, b_row, b_best)) :
    ∀ (d i n : Nat), i + d = m → d < n → wY_show_173 post (nI m) g_drafted g_last g_opened g_kept g_gone g_moves n (nI i) (g + nI (kr_ct (kr_nb o) i)) (kr_wr i b_draftTypes ty0) (kr_wr i b_draftKeys ky0) (kr_wr i b_draftParents pa0) (kr_wr i (kr_nid o id0 g) id0) (kr_wr i (kr_nst o st0) st0) b_draftTypes b_draftKeys b_draftParents b_origins b_oldIds b_oldStates b_row b_best := by
  intro d
  induction d with
  | zero =>
    intro i n e hn
    obtain ⟨n, rfl⟩ : ∃ n', n = n' + 1 := ⟨n - 1, by omega⟩
    have e' : i = m := by omega
    subst e'
    rw [wY_show_173]
    refine br_t (nI_le (Nat.le_refl _) (by omega)) ?_
    unfold wpY_scrap
    exact C
  | succ d ih =>
    intro i n e hn
    obtain ⟨n, rfl⟩ : ∃ n', n = n' + 1 := ⟨n - 1, by omega⟩
    have ci : (nI i).toNatClampNeg = i := nI_clamp (by omega)
    have vi : vp_in (nI i) 16 := vp_in_nI (by omega) (by omega)
    have k := ih (i + 1) n (by omega) (by omega)
    rw [wY_show_173]
    dsimp only
    rw [ci, hg i (by omega)]
    refine br_f (nI_ge (by omega) (by omega)) ⟨vi, vi, nm_r kr_wr_s ⟨vi, vi, nm_r kr_wr_s ⟨vi, vi, nm_r kr_wr_s ⟨vi, ?_⟩⟩⟩⟩
    cases w : o i with
    | none =>
      have h1 : kr_nid o id0 g i = g + nI (kr_ct (kr_nb o) i) := by unfold kr_nid; rw [w]
      have h2 : kr_nst o st0 i = 0 := by unfold kr_nst; rw [w]
      refine br_t kr_m1lt ?_
      unfold wY_show_249
      rw [ci, hg i (by omega), w]
      refine ⟨vi, nm_r (e' := kr_wr (i + 1) (kr_nid o id0 g) id0) (by rw [← h1]; exact kr_wr_s) ⟨vi, br_t kr_m1lt ?_⟩⟩
      unfold wY_show_279
      rw [ci, hg i (by omega), w]
      refine ⟨vi, nm_r (e' := kr_wr (i + 1) (kr_nst o st0) st0) (by rw [← h2]; exact kr_wr_s) ⟨vi, br_t kr_m1lt (nm_r (e' := g + nI (kr_ct (kr_nb o) (i + 1))) ?_ (nm_r (nI_1 i) k))⟩⟩
      rw [(kr_kb_n w).2, ← nI_1, Int32.add_assoc]
    | some q =>
      obtain ⟨q1, q2, q3⟩ := hq i q (by omega) w
      have h1 : kr_nid o id0 g i = id0 q := by unfold kr_nid; rw [w]
      have h2 : kr_nst o st0 i = st0 q := by unfold kr_nst; rw [w]
      have cq : (nI q).toNatClampNeg = q := nI_clamp (by omega)
      have vq : vp_in (nI q) 16 := vp_in_nI (by omega) (by omega)
      have nq : ¬ nI q < 0 := nI_pos (by omega)
      rw [(kr_kb_s w).2] at k
      refine br_f nq ⟨vi, vq, ?_⟩
      unfold wY_show_249
      show vp_in (nI i) 16 ∧ _
      rw [ci, hg i (by omega), w]
      refine ⟨vi, nm_r (e' := kr_wr (i + 1) (kr_nid o id0 g) id0) ?_ ⟨vi, br_f nq ⟨vi, vq, ?_⟩⟩⟩
      · show upd _ i (b_oldIds (nI q).toNatClampNeg) = _
        rw [cq, q2, ← h1]; exact kr_wr_s
      · unfold wY_show_279
        rw [ci, hg i (by omega), w]
        refine ⟨vi, nm_r (e' := kr_wr (i + 1) (kr_nst o st0) st0) ?_ ⟨vi, br_f nq (nm_r (nI_1 i) k)⟩⟩
        show upd _ i (b_oldStates (nI q).toNatClampNeg) = _
        rw [cq, q3, ← h2]; exact kr_wr_s
theorem kr_y125 {post : Int32 → SY → Prop} (oi0 os0 : Nat → Int32) (hN : N ≤ 16)
    (C : ∃ n, wY_show_173 post g_drafted g_drafted g_last g_opened g_kept g_gone g_moves n 0 g_given b_types b_keys b_parents b_ids b_states b_draftTypes b_draftKeys b_draftParents b_origins (kr_wr N b_ids oi0) (kr_wr N b_states os0) b_row b_best) :
    ∀ (d i n : Nat), i + d = N → d < n → wY_show_125 post (nI N) g_drafted g_last g_opened g_given g_kept g_gone g_moves n (nI i) b_types b_keys b_parents b_ids b_states b_draftTypes b_draftKeys b_draftParents b_origins (kr_wr i b_ids oi0) (kr_wr i b_states os0) b_row b_best := by
  intro d
  induction d with
  | zero =>
    intro i n e hn
    obtain ⟨n, rfl⟩ : ∃ n', n = n' + 1 := ⟨n - 1, by omega⟩
    have e' : i = N := by omega
    subst e'
    rw [wY_show_125]
    exact br_t (nI_le (Nat.le_refl _) (by omega)) C
  | succ d ih =>
    intro i n e hn
    obtain ⟨n, rfl⟩ : ∃ n', n = n' + 1 := ⟨n - 1, by omega⟩
    have ci : (nI i).toNatClampNeg = i := nI_clamp (by omega)
    have vi : vp_in (nI i) 16 := vp_in_nI (by omega) (by omega)
    rw [wY_show_125]
    dsimp only
    rw [ci]
    exact br_f (nI_ge (by omega) (by omega)) ⟨vi, vi, nm_r kr_wr_s ⟨vi, vi, nm_r kr_wr_s (nm_r (nI_1 i) (ih (i + 1) n (by omega) (by omega)))⟩⟩
theorem kr_y82 {post : Int32 → SY → Prop} {mv : Nat → Nat} (hmv : kr_mv m dp o mv) (r2 : kr_shp m dp b_draftParents b_draftKeys) (hg : ∀ j, j < m → b_origins j = kr_ov (o j)) (hq : ∀ j q, j < m → o j = some q → q < 16)
    (C : ∀ row be : Nat → Int32, ∃ n, wY_show_125 post g_size (nI m) g_last g_opened g_given g_kept (g_size - g_kept) (nI (kr_sm mv m)) n 0 b_types b_keys b_parents b_ids b_states b_draftTypes b_draftKeys b_draftParents b_origins b_oldIds b_oldStates row be) :
    ∀ (d i n : Nat) (row be : Nat → Int32), i + d = m → d < n → wY_show_82 post n (nI i) g_size (nI m) g_last g_opened g_given g_kept g_gone (nI (kr_sm mv i)) b_types b_keys b_parents b_ids b_states b_draftTypes b_draftKeys b_draftParents b_origins b_oldIds b_oldStates row be := by
  have hm := r2.1
  intro d
  induction d with
  | zero =>
    intro i n row be e hn
    obtain ⟨n, rfl⟩ : ∃ n', n = n' + 1 := ⟨n - 1, by omega⟩
    have e' : i = m := by omega
    subst e'
    rw [wY_show_82]
    exact br_t (nI_le (Nat.le_refl _) (by omega)) (nm_e (C row be))
  | succ d ih =>
    intro i n row be e hn
    obtain ⟨n, rfl⟩ : ∃ n', n = n' + 1 := ⟨n - 1, by omega⟩
    rw [wY_show_82]
    refine br_f (nI_ge (by omega) (by omega)) ?_
    refine kr_mvw (dp := dp) (o := o) hmv r2 (by omega) hg hq ?_
    intro row' be'
    refine nm_r (e' := nI (kr_sm mv (i + 1))) ?_ (nm_r (nI_1 i) (ih (i + 1) n row' be' (by omega) (by omega)))
    exact nI_add _ _
theorem kr_y29 {post : Int32 → SY → Prop} (r1 : kr_shp N p b_parents b_keys) (r2 : kr_shp m dp b_draftParents b_draftKeys) (ho : kr_or N m p dp b_types b_keys b_draftTypes b_draftKeys o)
    (C : ∀ og : Nat → Int32, (∀ j, j < m → og j = kr_ov (o j)) → ∃ n, wY_show_82 post n 0 (nI N) (nI m) g_last g_opened g_given (nI (kr_ct (kr_kb o) m)) g_gone g_moves b_types b_keys b_parents b_ids b_states b_draftTypes b_draftKeys b_draftParents og b_oldIds b_oldStates b_row b_best) :
    ∀ (d i n : Nat) (og : Nat → Int32), i + d = m → d < n → (∀ j, j < i → og j = kr_ov (o j)) → wY_show_29 post (nI N) (nI m) g_last g_opened g_given g_gone g_moves n (nI i) (nI (kr_ct (kr_kb o) i)) b_types b_keys b_parents b_ids b_states b_draftTypes b_draftKeys b_draftParents og b_oldIds b_oldStates b_row b_best := by
  have hm := r2.1
  have hN := r1.1
  intro d
  induction d with
  | zero =>
    intro i n og e hn h
    obtain ⟨n, rfl⟩ : ∃ n', n = n' + 1 := ⟨n - 1, by omega⟩
    have e' : i = m := by omega
    subst e'
    rw [wY_show_29]
    exact br_t (nI_le (Nat.le_refl _) (by omega)) (C og h)
  | succ d ih =>
    intro i n og e hn h
    obtain ⟨n, rfl⟩ : ∃ n', n = n' + 1 := ⟨n - 1, by omega⟩
    have ci : (nI i).toNatClampNeg = i := nI_clamp (by omega)
    have vi : vp_in (nI i) 16 := vp_in_nI (by omega) (by omega)
    have hs : ∀ j, j < i + 1 → upd og i (kr_ov (o i)) j = kr_ov (o j) := by
      intro j hj
      by_cases q : j = i
      · rw [q]; exact pk_us
      · rw [pk_un q]; exact h j (by omega)
    have k := ih (i + 1) n (upd og i (kr_ov (o i))) (by omega) (by omega) hs
    rw [wY_show_29]
    refine br_f (nI_ge (by omega) (by omega)) ?_
    refine kr_oow (dp := dp) (o := o) r1 r2 ho (by omega) h ?_
    rw [ci]
    refine ⟨vi, nm_e ⟨vi, ?_⟩⟩
    rw [pk_us]
    cases w : o i with
    | none =>
      rw [(kr_kb_n w).1, w] at k
      exact br_t kr_m1lt (nm_r (nI_1 i) k)
    | some q =>
      have hq := ((ho i (by omega) q).mp w).1
      rw [(kr_kb_s w).1, w] at k
      exact br_f (show ¬ nI q < 0 from nI_pos (by omega)) (nm_r (nI_1 _) (nm_r (nI_1 i) k))
theorem kr_shwY {post : Int32 → SY → Prop} {mv : Nat → Nat} (hmv : kr_mv m dp o mv) (r1 : kr_shp N p b_parents b_keys) (r2 : kr_shp m dp b_draftParents b_draftKeys) (ho : kr_or N m p dp b_types b_keys b_draftTypes b_draftKeys o) (h0 : 0 < m)
    (C : ∀ og oi os row be : Nat → Int32, post (nI m - nI (kr_ct (kr_kb o) m)) (nI m, 0, -1, 0, g_given + nI (kr_ct (kr_nb o) m), nI (kr_ct (kr_kb o) m), nI N - nI (kr_ct (kr_kb o) m), nI (kr_sm mv m), kr_wr m b_draftTypes b_types, kr_wr m b_draftKeys b_keys, kr_wr m b_draftParents b_parents, kr_wr m (kr_nid o b_ids g_given) b_ids, kr_wr m (kr_nst o b_states) b_states, b_draftTypes, b_draftKeys, b_draftParents, og, oi, os, row, be)) :
    wpY_show post (nI N, nI m, g_last, 0, g_given, g_kept, g_gone, g_moves, b_types, b_keys, b_parents, b_ids, b_states, b_draftTypes, b_draftKeys, b_draftParents, b_origins, b_oldIds, b_oldStates, b_row, b_best) := by
  have hm := r2.1
  have hN := r1.1
  have hq : ∀ j q, j < m → o j = some q → q < N := fun j q hj e => ((ho j hj q).mp e).1
  unfold wpY_show
  dsimp only
  refine br_f (nI_ne0 h0 (by omega)) (br_t (by decide) ⟨m + 1, ?_⟩)
  refine kr_y29 (p := p) (dp := dp) (o := o) r1 r2 ho ?_ m 0 (m + 1) b_origins (by omega) (by omega) (fun j h => absurd h (Nat.not_lt_zero j))
  intro og hg
  refine ⟨m + 1, kr_y82 (dp := dp) (o := o) (mv := mv) hmv r2 hg (fun j q hj e => Nat.lt_of_lt_of_le (hq j q hj e) hN) ?_ m 0 (m + 1) b_row b_best (by omega) (by omega)⟩
  intro row be
  refine ⟨N + 1, ?_⟩
  have k := fun C' => kr_y125 (post := post) (N := N) (g_drafted := nI m) (g_last := g_last) (g_opened := 0) (g_given := g_given) (g_kept := nI (kr_ct (kr_kb o) m)) (g_gone := nI N - nI (kr_ct (kr_kb o) m)) (g_moves := nI (kr_sm mv m)) (b_types := b_types) (b_keys := b_keys) (b_parents := b_parents) (b_ids := b_ids) (b_states := b_states) (b_draftTypes := b_draftTypes) (b_draftKeys := b_draftKeys) (b_draftParents := b_draftParents) (b_origins := og) (b_row := row) (b_best := be) b_oldIds b_oldStates hN C' N 0 (N + 1) (by omega) (by omega)
  rw [kr_wr_0, kr_wr_0] at k
  refine k ⟨m + 1, ?_⟩
  have k2 := kr_y173 (post := post) (m := m) (o := o) (g_drafted := nI m) (g_last := g_last) (g_opened := 0) (g_kept := nI (kr_ct (kr_kb o) m)) (g_gone := nI N - nI (kr_ct (kr_kb o) m)) (g_moves := nI (kr_sm mv m)) (b_draftTypes := b_draftTypes) (b_draftKeys := b_draftKeys) (b_draftParents := b_draftParents) (b_origins := og) (b_oldIds := kr_wr N b_ids b_oldIds) (b_oldStates := kr_wr N b_states b_oldStates) (b_row := row) (b_best := be) b_types b_keys b_parents b_ids b_states g_given hm hg (fun j q hj e => ⟨Nat.lt_of_lt_of_le (hq j q hj e) hN, kr_wr_l (hq j q hj e), kr_wr_l (hq j q hj e)⟩) (C og _ _ row be) m 0 (m + 1) (by omega) (by omega)
  rw [kr_wr_0, kr_wr_0, kr_wr_0, kr_wr_0, kr_wr_0] at k2
  have e0 : g_given + nI (kr_ct (kr_nb o) 0) = g_given := by
    show g_given + nI 0 = g_given
    rw [nI_0, Int32.add_zero]
  rw [e0] at k2
  exact k2
end
end
section
def kr_im (m : Nat) (o : Nat → Option Nat) (q : Nat) : Prop := ∃ j, j < m ∧ o j = some q
def kr_ky (yk : Nat → Int32) (c : Nat) : Nat := (yk c).toNatClampNeg
/-- the parent of place c is kept and its node of the draft is done (up to the key k) -/
def kr_dn (m : Nat) (p : Nat → Nat) (o : Nat → Option Nat) (yk : Nat → Int32) (i k c : Nat) : Prop := ∃ j, j < m ∧ o j = some (p c) ∧ (j < i ∨ (j = i ∧ kr_ky yk c < k))
/-- the places that are not dropped yet -/
def kr_al (N m : Nat) (p : Nat → Nat) (o : Nat → Option Nat) (yk : Nat → Int32) (i k : Nat) (A : Nat → Bool) : Prop :=
  (∀ q, q < N → kr_im m o q → A q = true) ∧ (∀ q, 0 < q → q < N → A q = true → A (p q) = true) ∧ (∀ c, 0 < c → c < N → A (p c) = true → (A c = true ↔ kr_im m o c ∨ ¬ kr_dn m p o yk i k c)) ∧ (0 < N → A 0 = true → kr_im m o 0)
def kr_cut (A : Nat → Bool) (a b : Nat) : Nat → Bool := fun q => A q && !(decide (a ≤ q) && decide (q < b))
theorem kr_cut_t {A : Nat → Bool} {a b q : Nat} : kr_cut A a b q = true ↔ A q = true ∧ ¬ (a ≤ q ∧ q < b) := by
  unfold kr_cut
  rw [← Bool.decide_and, Bool.and_eq_true, Bool.not_eq_true', decide_eq_false_iff_not]
theorem kr_ky_in {N : Nat} {p : Nat → Nat} {par yk : Nat → Int32} (h : kr_shp N p par yk) {c : Nat} (hc : c < N) : yk c = nI (kr_ky yk c) ∧ kr_ky yk c < 10 := by
  obtain ⟨k, k1, k2⟩ := h.2.2.2.2.1 c hc
  unfold kr_ky
  rw [k2, nI_clamp (by omega)]
  exact ⟨rfl, k1⟩
theorem kr_ky_ne {N : Nat} {p : Nat → Nat} {par yk : Nat → Int32} (h : kr_shp N p par yk) {c d : Nat} (hc : c < N) (hd : d < N) (c0 : 0 < c) (d0 : 0 < d) (e : p c = p d) (k : kr_ky yk c = kr_ky yk d) : c = d := by
  have e1 := (kr_ky_in h hc).1
  have e2 := (kr_ky_in h hd).1
  rw [k] at e1
  have e3 : yk c = yk d := e1.trans e2.symm
  by_cases x : c < d
  · exact absurd e3 (h.2.2.2.2.2 c d c0 x hd e)
  · by_cases y : d < c
    · exact absurd e3.symm (h.2.2.2.2.2 d c d0 y hc e.symm)
    · omega
section
variable {N m : Nat} {p dp : Nat → Nat} {par yk dpar dK yt dT : Nat → Int32} {o : Nat → Option Nat} {A : Nat → Bool}
/-- the parent of a kept place is kept -/
theorem kr_im_up (r2 : kr_shp m dp dpar dK) (ho : kr_or N m p dp yt yk dT dK o) {q : Nat} (h : kr_im m o q) (h0 : 0 < q) : kr_im m o (p q) := by
  obtain ⟨j, j1, j2⟩ := h
  rcases ((ho j j1 q).mp j2).2.2.2 with ⟨a, b⟩ | ⟨a, b, c⟩
  · omega
  · have := r2.2.2.2.1.1 j a j1
    exact ⟨dp j, by omega, c⟩
theorem kr_im_sub (r1 : kr_shp N p par yk) (r2 : kr_shp m dp dpar dK) (ho : kr_or N m p dp yt yk dT dK o) {a b : Nat} (s : kr_sub N p a b) (h : ¬ kr_im m o a) : ∀ q, a ≤ q → q < b → ¬ kr_im m o q := by
  intro q
  induction q using Nat.strongRecOn with
  | ind q ih =>
    intro q1 q2 hq
    by_cases z : q = a
    · rw [z] at hq; exact h hq
    · have k1 := s.2.2.1 q (by omega) q2
      have k3 := s.2.1
      have k2 := r1.2.2.2.1.1 q (by omega) (by omega)
      exact ih (p q) k2 k1 (by omega) (kr_im_up r2 ho hq (by omega))
theorem kr_al_sub (r1 : kr_shp N p par yk) (r2 : kr_shp m dp dpar dK) (ho : kr_or N m p dp yt yk dT dK o) {i k a b : Nat} (hA : kr_al N m p o yk i k A) (s : kr_sub N p a b) (h : ¬ kr_im m o a) (ha : A a = true) : ∀ q, a ≤ q → q < b → A q = true := by
  intro q
  induction q using Nat.strongRecOn with
  | ind q ih =>
    intro q1 q2
    by_cases z : q = a
    · rw [z]; exact ha
    · have k1 := s.2.2.1 q (by omega) q2
      have k3 := s.2.1
      have k2 := r1.2.2.2.1.1 q (by omega) (by omega)
      refine (hA.2.2.1 q (by omega) (by omega) (ih (p q) k2 k1 (by omega))).mpr (Or.inr ?_)
      rintro ⟨j, j1, j2, _⟩
      exact kr_im_sub r1 r2 ho s h (p q) k1 (by omega) ⟨j, j1, j2⟩
theorem kr_al_skip (hinj : ∀ i j q, i < m → j < m → o i = some q → o j = some q → i = j) {i k q0 : Nat} (hi : i < m) (ei : o i = some q0) (hA : kr_al N m p o yk i k A) (h : ∀ c, 0 < c → c < N → p c = q0 → kr_ky yk c = k → A c = true → kr_im m o c) : kr_al N m p o yk i (k + 1) A := by
  obtain ⟨h1, h2, h3, h4⟩ := hA
  refine ⟨h1, h2, ?_, h4⟩
  intro c c0 cN hp
  constructor
  · intro hc
    rcases (h3 c c0 cN hp).mp hc with z | z
    · exact Or.inl z
    · by_cases y : p c = q0 ∧ kr_ky yk c = k
      · exact Or.inl (h c c0 cN y.1 y.2 hc)
      · refine Or.inr ?_
        rintro ⟨j, j1, j2, j3⟩
        refine z ⟨j, j1, j2, ?_⟩
        rcases j3 with w | ⟨w1, w2⟩
        · exact Or.inl w
        · subst w1
          have e : p c = q0 := Option.some.inj (j2.symm.trans ei)
          refine Or.inr ⟨rfl, ?_⟩
          have : ¬ kr_ky yk c = k := fun u => y ⟨e, u⟩
          omega
  · intro hc
    refine (h3 c c0 cN hp).mpr ?_
    rcases hc with z | z
    · exact Or.inl z
    · refine Or.inr ?_
      rintro ⟨j, j1, j2, j3⟩
      refine z ⟨j, j1, j2, ?_⟩
      rcases j3 with w | ⟨w1, w2⟩
      · exact Or.inl w
      · exact Or.inr ⟨w1, by omega⟩
theorem kr_al_next (r1 : kr_shp N p par yk) {i : Nat} (hA : kr_al N m p o yk i 10 A) : kr_al N m p o yk (i + 1) 0 A := by
  obtain ⟨h1, h2, h3, h4⟩ := hA
  refine ⟨h1, h2, ?_, h4⟩
  intro c c0 cN hp
  rw [h3 c c0 cN hp]
  have e : kr_dn m p o yk i 10 c ↔ kr_dn m p o yk (i + 1) 0 c := by
    have kc := (kr_ky_in r1 cN).2
    constructor
    · rintro ⟨j, j1, j2, j3⟩
      refine ⟨j, j1, j2, Or.inl ?_⟩
      rcases j3 with w | ⟨w1, w2⟩ <;> omega
    · rintro ⟨j, j1, j2, j3⟩
      refine ⟨j, j1, j2, ?_⟩
      rcases j3 with w | ⟨w1, w2⟩
      · by_cases z : j < i
        · exact Or.inl z
        · exact Or.inr ⟨by omega, kc⟩
      · omega
  rw [e]
theorem kr_al_none {i : Nat} (ei : o i = none) (hA : kr_al N m p o yk i 0 A) : kr_al N m p o yk (i + 1) 0 A := by
  obtain ⟨h1, h2, h3, h4⟩ := hA
  refine ⟨h1, h2, ?_, h4⟩
  intro c c0 cN hp
  rw [h3 c c0 cN hp]
  have e : kr_dn m p o yk i 0 c ↔ kr_dn m p o yk (i + 1) 0 c := by
    constructor
    · rintro ⟨j, j1, j2, j3⟩
      refine ⟨j, j1, j2, Or.inl ?_⟩
      rcases j3 with w | ⟨w1, w2⟩ <;> omega
    · rintro ⟨j, j1, j2, j3⟩
      refine ⟨j, j1, j2, Or.inl ?_⟩
      rcases j3 with w | ⟨w1, w2⟩
      · by_cases z : j = i
        · rw [z, ei] at j2
          exact nomatch j2
        · omega
      · omega
  rw [e]
theorem kr_al_init1 (ho : kr_im m o 0) : kr_al N m p o yk 0 0 (fun _ => true) := by
  refine ⟨fun _ _ _ => rfl, fun _ _ _ _ => rfl, ?_, fun _ _ => ho⟩
  intro c _ _ _
  refine ⟨fun _ => Or.inr ?_, fun _ => rfl⟩
  rintro ⟨j, j1, j2, j3⟩
  rcases j3 with w | ⟨w1, w2⟩ <;> omega
theorem kr_al_init0 (h : ∀ q, q < N → ¬ kr_im m o q) : kr_al N m p o yk 0 0 (fun _ => false) :=
  ⟨fun q hq hi => absurd hi (h q hq), (fun _ _ _ h => absurd h Bool.false_ne_true), (fun _ _ _ h => absurd h Bool.false_ne_true), (fun _ h => absurd h Bool.false_ne_true)⟩
theorem kr_al_end (r1 : kr_shp N p par yk) (hA : kr_al N m p o yk m 0 A) : ∀ q, q < N → (A q = true ↔ kr_im m o q) := by
  intro q
  induction q using Nat.strongRecOn with
  | ind q ih =>
    intro hq
    refine ⟨fun h => ?_, fun h => hA.1 q hq h⟩
    by_cases z : q = 0
    · subst z
      exact hA.2.2.2 hq h
    · have k1 := r1.2.2.2.1.1 q (by omega) hq
      have k2 := hA.2.1 q (by omega) hq h
      obtain ⟨j, j1, j2⟩ := (ih (p q) k1 (by omega)).mp k2
      rcases (hA.2.2.1 q (by omega) hq k2).mp h with w | w
      · exact w
      · exact absurd ⟨j, j1, j2, Or.inl j1⟩ w
/-- before its turn a kept node has all its children -/
theorem kr_al_kids (hinj : ∀ i j q, i < m → j < m → o i = some q → o j = some q → i = j) {i q0 : Nat} (hi : i < m) (hN : q0 < N) (ei : o i = some q0) (hA : kr_al N m p o yk i 0 A) : (kr_chl N p q0).filter A = kr_chl N p q0 := by
  refine List.filter_eq_self.mpr (fun c hc => ?_)
  obtain ⟨c1, c2, c3⟩ := kr_chl_mem.mp hc
  refine (hA.2.2.1 c (by omega) c1 (by rw [c3]; exact hA.1 q0 hN ⟨i, hi, ei⟩)).mpr (Or.inr ?_)
  rintro ⟨j, j1, j2, j3⟩
  rw [c3] at j2
  have := hinj j i q0 j1 hi j2 ei
  rcases j3 with w | ⟨w1, w2⟩ <;> omega
/-- a child that is to go is still there at its key -/
theorem kr_al_there (hinj : ∀ i j q, i < m → j < m → o i = some q → o j = some q → i = j) {i k q0 c : Nat} (hi : i < m) (hN : q0 < N) (ei : o i = some q0) (hA : kr_al N m p o yk i k A) (hc : c ∈ kr_chl N p q0) (hk : kr_ky yk c = k) : A c = true := by
  obtain ⟨c1, c2, c3⟩ := kr_chl_mem.mp hc
  refine (hA.2.2.1 c (by omega) c1 (by rw [c3]; exact hA.1 q0 hN ⟨i, hi, ei⟩)).mpr (Or.inr ?_)
  rintro ⟨j, j1, j2, j3⟩
  rw [c3] at j2
  have := hinj j i q0 j1 hi j2 ei
  rcases j3 with w | ⟨w1, w2⟩ <;> omega
theorem kr_al_cut (r1 : kr_shp N p par yk) (r2 : kr_shp m dp dpar dK) (ho : kr_or N m p dp yt yk dT dK o) {i k q0 c0 e0 : Nat} (hi : i < m) (ei : o i = some q0) (hA : kr_al N m p o yk i k A)
    (hc : c0 ∈ kr_chl N p q0) (hk : kr_ky yk c0 = k) (him : ¬ kr_im m o c0) (s : kr_sub N p c0 e0) : kr_al N m p o yk i (k + 1) (kr_cut A c0 e0) := by
  obtain ⟨c1, c2, c3⟩ := kr_chl_mem.mp hc
  have hp := r1.2.2.2.1
  obtain ⟨h1, h2, h3, h4⟩ := hA
  have hs := kr_im_sub r1 r2 ho s him
  refine ⟨?_, ?_, ?_, ?_⟩
  · intro q hq hq2
    exact kr_cut_t.mpr ⟨h1 q hq hq2, fun z => hs q z.1 z.2 hq2⟩
  · intro q q0' qN hq
    obtain ⟨z1, z2⟩ := kr_cut_t.mp hq
    refine kr_cut_t.mpr ⟨h2 q q0' qN z1, ?_⟩
    rintro ⟨y1, y2⟩
    have y3 := kr_sub_in hp s q0' qN y1 y2
    have y4 := hp.1 q q0' qN
    exact z2 ⟨by omega, y3⟩
  · intro c cz cN hpc
    obtain ⟨z1, z2⟩ := kr_cut_t.mp hpc
    by_cases q : c = c0
    · subst q
      constructor
      · intro w
        exact absurd ⟨Nat.le_refl _, s.1⟩ (kr_cut_t.mp w).2
      · rintro (w | w)
        · exact absurd w him
        · exact absurd ⟨i, hi, by rw [c3]; exact ei, Or.inr ⟨rfl, by omega⟩⟩ w
    · have nin : ¬ (c0 ≤ c ∧ c < e0) := by
        rintro ⟨w1, w2⟩
        have w3 := s.2.2.1 c (by omega) w2
        have w4 := hp.1 c cz cN
        exact z2 ⟨w3, by omega⟩
      rw [kr_cut_t]
      have e : kr_dn m p o yk i (k + 1) c ↔ kr_dn m p o yk i k c := by
        constructor
        · rintro ⟨j, j1, j2, j3⟩
          refine ⟨j, j1, j2, ?_⟩
          rcases j3 with w | ⟨w1, w2⟩
          · exact Or.inl w
          · subst w1
            refine Or.inr ⟨rfl, ?_⟩
            have e2 : p c = q0 := Option.some.inj (j2.symm.trans ei)
            by_cases u : kr_ky yk c = k
            · exact absurd (kr_ky_ne r1 cN c1 cz (by omega) (by omega) (u.trans hk.symm)) q
            · omega
        · rintro ⟨j, j1, j2, j3⟩
          refine ⟨j, j1, j2, ?_⟩
          rcases j3 with w | ⟨w1, w2⟩
          · exact Or.inl w
          · exact Or.inr ⟨w1, by omega⟩
      rw [e, ← h3 c cz cN z1]
      exact ⟨fun w => w.1, fun w => ⟨w, nin⟩⟩
  · intro n0 w
    exact h4 n0 (kr_cut_t.mp w).1
/-- the child lists when the part of c0 is cut off -/
theorem kr_cut_o (hp : kr_pre N p) {q0 c0 e0 q : Nat} (hc : c0 ∈ kr_chl N p q0) (s : kr_sub N p c0 e0) (hq : kr_cut A c0 e0 q = true) (hne : q ≠ q0) : (kr_chl N p q).filter (kr_cut A c0 e0) = (kr_chl N p q).filter A := by
  obtain ⟨c1, c2, c3⟩ := kr_chl_mem.mp hc
  obtain ⟨z1, z2⟩ := kr_cut_t.mp hq
  refine List.filter_congr (fun c hcm => ?_)
  obtain ⟨d1, d2, d3⟩ := kr_chl_mem.mp hcm
  have nin : ¬ (c0 ≤ c ∧ c < e0) := by
    rintro ⟨w1, w2⟩
    by_cases y : c = c0
    · subst y; exact hne (d3.symm.trans c3)
    · have w3 := s.2.2.1 c (by omega) w2
      exact z2 ⟨by omega, by omega⟩
  unfold kr_cut
  have : (decide (c0 ≤ c) && decide (c < e0)) = false := by
    rw [← Bool.decide_and]; exact decide_eq_false nin
  rw [this]
  simp
theorem kr_nd_fil {L L1 L2 : List Nat} {c : Nat} (h : L = L1 ++ c :: L2) (hn : L.Nodup) : L.filter (fun x => decide (x ≠ c)) = L1 ++ L2 := by
  subst h
  obtain ⟨m1, m2, m3, m4, m5, m6⟩ := kr_mid hn
  rw [List.filter_append]
  have e1 : L1.filter (fun x => decide (x ≠ c)) = L1 := List.filter_eq_self.mpr (fun x hx => decide_eq_true (fun e => m3 (e ▸ hx)))
  have e2 : (c :: L2).filter (fun x => decide (x ≠ c)) = L2 := by
    rw [List.filter_cons_of_neg (by simp)]
    exact List.filter_eq_self.mpr (fun x hx => decide_eq_true (fun e => m4 (e ▸ hx)))
  rw [e1, e2]
theorem kr_cut_q {q0 c0 e0 : Nat} (hc : c0 ∈ kr_chl N p q0) (s : kr_sub N p c0 e0) (ha : A c0 = true) : ∃ L1 L2, (kr_chl N p q0).filter A = L1 ++ c0 :: L2 ∧ (kr_chl N p q0).filter (kr_cut A c0 e0) = L1 ++ L2 := by
  obtain ⟨c1, c2, c3⟩ := kr_chl_mem.mp hc
  have hm : c0 ∈ (kr_chl N p q0).filter A := List.mem_filter.mpr ⟨hc, ha⟩
  obtain ⟨L1, L2, e⟩ := List.append_of_mem hm
  refine ⟨L1, L2, e, ?_⟩
  have hn : ((kr_chl N p q0).filter A).Nodup := kr_chl_nd.sublist List.filter_sublist
  rw [← kr_nd_fil e hn, List.filter_filter]
  refine List.filter_congr (fun c hcm => ?_)
  obtain ⟨d1, d2, d3⟩ := kr_chl_mem.mp hcm
  unfold kr_cut
  by_cases y : c = c0
  · subst y
    have : (decide (c ≤ c) && decide (c < e0)) = true := by
      rw [← Bool.decide_and]; exact decide_eq_true ⟨Nat.le_refl _, s.1⟩
    rw [this]
    simp
  · have nin : ¬ (c0 ≤ c ∧ c < e0) := by
      rintro ⟨w1, w2⟩
      have w3 := s.2.2.1 c (by omega) w2
      omega
    have : (decide (c0 ≤ c) && decide (c < e0)) = false := by
      rw [← Bool.decide_and]; exact decide_eq_false nin
    rw [this]
    simp [y]
theorem kr_cut_t0 (hp : kr_pre N p) {c0 e0 t : Nat} (s : kr_sub N p c0 e0) (hall : ∀ q, c0 ≤ q → q < e0 → A q = true) (h1 : c0 ≤ t) (h2 : t < e0) : (kr_chl N p t).filter A = kr_chl N p t := by
  refine List.filter_eq_self.mpr (fun c hc => ?_)
  obtain ⟨d1, d2, d3⟩ := kr_chl_mem.mp hc
  exact hall c (by omega) (kr_sub_in hp s (by omega) d1 (by omega) (by omega))
end
end
section
/-- what stays fixed during a showing -/
def kr_cx (N m : Nat) (p dp nd : Nat → Nat) (o : Nat → Option Nat) (par yk dpar dK yt dT : Nat → Int32) : Prop :=
  kr_shp N p par yk ∧ kr_shp m dp dpar dK ∧ kr_or N m p dp yt yk dT dK o ∧ (∀ i, i < N → 1 ≤ nd i ∧ nd i ≤ 32) ∧ (∀ i j, i < N → j < N → nd i = nd j → i = j) ∧ (∀ i j q, i < m → j < m → o i = some q → o j = some q → i = j)
def kr_lk (N : Nat) (p nd : Nat → Nat) (A : Nat → Bool) (ch nx bf up : Nat → Int32) : Prop := ∀ q, q < N → A q = true → kr_kd ch nx bf up (nd q) (((kr_chl N p q).filter A).map nd)
def kr_us (N : Nat) (nd : Nat → Nat) (A : Nat → Bool) (o : Nat → Option Nat) (nn : Nat → Nat) (i : Nat) (us : Nat → Int32) : Prop := ∀ x, 1 ≤ x → x ≤ 32 → (us x = 0 ↔ (∀ q, q < N → A q = true → nd q ≠ x) ∧ (∀ j, j < i → o j = none → nn j ≠ x))
def kr_nw (N : Nat) (nd : Nat → Nat) (A : Nat → Bool) (o : Nat → Option Nat) (nn : Nat → Nat) (i : Nat) : Prop := (∀ j, j < i → o j = none → 1 ≤ nn j ∧ nn j ≤ 32) ∧ (∀ j l, j < i → l < i → o j = none → o l = none → nn j = nn l → j = l) ∧ (∀ j q, j < i → o j = none → q < N → A q = true → nn j ≠ nd q)
def kr_dy (N m : Nat) (p nd : Nat → Nat) (o : Nat → Option Nat) (yk : Nat → Int32) (nn : Nat → Nat) (i k l : Nat) (A : Nat → Bool) (ch nx bf up us : Nat → Int32) (gone : Int32) : Prop :=
  kr_al N m p o yk i k A ∧ kr_lk N p nd A ch nx bf up ∧ kr_us N nd A o nn l us ∧ gone = nI (kr_ct (fun q => !A q) N) ∧ (∀ j, j < l → o j = none → ch (nn j) = 0)
/-- two child lists have nothing in common -/
theorem kr_kd_dj {ch nx bf up ch' nx' bf' : Nat → Int32} {x y : Nat} {L L' : List Nat} (h : kr_kd ch nx bf up x L) (h' : kr_kd ch' nx' bf' up y L') (hx : x ≤ 32) (hy : y ≤ 32) (ne : x ≠ y) : ∀ c ∈ L', c ∉ L := by
  intro c c1 c2
  have e := (h.2.2.1 c c2).symm.trans (h'.2.2.1 c c1)
  exact ne ((nI_eq (by omega) (by omega)).mp e)
theorem kr_unl_o {ch nx bf up : Nat → Int32} {x y c : Nat} {A B L' : List Nat} (h : kr_kd ch nx bf up x (A ++ c :: B)) (h' : kr_kd ch nx bf up y L') (hx : x ≤ 32) (hy : y ≤ 32) (ne : x ≠ y) : kr_kd (kr_chu ch x A (kr_hd B 0)) (kr_nxu nx A B) (kr_bfu bf B (kr_la A 0)) up y L' := by
  have dj := kr_kd_dj h h' hx hy ne
  refine kr_kd_congr h' (kr_chu_n (fun e => ne e.symm)) ?_
  intro d hd
  have k := dj d hd
  exact ⟨kr_nxu_n (fun m => k (List.mem_append.mpr (Or.inl m))), kr_bfu_n (fun m => k (List.mem_append.mpr (Or.inr (List.mem_cons_of_mem _ m)))), rfl⟩
section
variable {f_drafted f_open f_root f_nextId f_rowSize f_keptCount f_goneCount f_moveCount : Int32} {a_draftType a_draftKey a_draftParent a_openNode a_used a_type a_key a_ident a_state a_up a_child a_next a_before a_becomes a_isKept a_byKey a_stood a_rowEnd a_rowBefore a_list a_stays a_order a_pile : Nat → Int32} {N m : Nat} {p dp nd nn : Nat → Nat} {o : Nat → Option Nat} {par yk dpar dK yt dT : Nat → Int32} {i q0 : Nat}
theorem kr_dstep {l k c0 : Nat} {A : Nat → Bool} (X : kr_cx N m p dp nd o par yk dpar dK yt dT) (hi : i < m) (ei : o i = some q0) (hnw : kr_nw N nd A o nn l)
    (hc : c0 ∈ kr_chl N p q0) (hk : kr_ky yk c0 = k) (him : ¬ kr_im m o c0) (D : kr_dy N m p nd o yk nn i k l A a_child a_next a_before a_up a_used f_goneCount) :
    ∃ ch nx bf : Nat → Int32, (∀ post : SX → Prop, post (f_drafted, f_open, f_root, f_nextId, f_rowSize, f_keptCount, f_goneCount, f_moveCount, a_draftType, a_draftKey, a_draftParent, a_openNode, a_used, a_type, a_key, a_ident, a_state, a_up, ch, nx, bf, a_becomes, a_isKept, a_byKey, a_stood, a_rowEnd, a_rowBefore, a_list, a_stays, a_order, a_pile) → wpX_unlink post (f_drafted, f_open, f_root, f_nextId, f_rowSize, f_keptCount, f_goneCount, f_moveCount, a_draftType, a_draftKey, a_draftParent, a_openNode, a_used, a_type, a_key, a_ident, a_state, a_up, a_child, a_next, a_before, a_becomes, a_isKept, a_byKey, a_stood, a_rowEnd, a_rowBefore, a_list, a_stays, a_order, a_pile) (nI (nd c0))) ∧
      (∀ post : SX → Prop, (∀ (A' : Nat → Bool) (us od g : Nat → Int32) (gone : Int32), kr_dy N m p nd o yk nn i (k + 1) l A' ch nx bf a_up us gone → (∀ q, A' q = true → A q = true) → post (f_drafted, f_open, f_root, f_nextId, f_rowSize, f_keptCount, gone, f_moveCount, a_draftType, a_draftKey, a_draftParent, a_openNode, us, a_type, a_key, a_ident, a_state, a_up, ch, nx, bf, a_becomes, a_isKept, a_byKey, a_stood, a_rowEnd, a_rowBefore, a_list, a_stays, od, g)) → wpX_drop post (f_drafted, f_open, f_root, f_nextId, f_rowSize, f_keptCount, f_goneCount, f_moveCount, a_draftType, a_draftKey, a_draftParent, a_openNode, a_used, a_type, a_key, a_ident, a_state, a_up, ch, nx, bf, a_becomes, a_isKept, a_byKey, a_stood, a_rowEnd, a_rowBefore, a_list, a_stays, a_order, a_pile) (nI (nd c0))) := by
  obtain ⟨r1, r2, ho, hr, hj, hinj⟩ := X
  obtain ⟨d1, d2, d3, d4, d5⟩ := D
  have hp := r1.2.2.2.1
  have hN := r1.1
  obtain ⟨c1, c2, c3⟩ := kr_chl_mem.mp hc
  have q0N : q0 < N := by omega
  have hA0 : A q0 = true := d1.1 q0 q0N ⟨i, hi, ei⟩
  have hAc : A c0 = true := kr_al_there hinj hi q0N ei d1 hc hk
  obtain ⟨e0, s⟩ := kr_sub_ex p c1
  have hall := kr_al_sub r1 r2 ho d1 s him hAc
  have hAL := kr_al_cut r1 r2 ho hi ei d1 hc hk him s
  obtain ⟨L1, L2, f1, f2⟩ := kr_cut_q hc s hAc
  have rq := hr q0 q0N
  have K0 := d2 q0 q0N hA0
  rw [f1, List.map_append, List.map_cons] at K0
  have hKD := kr_kd_unl K0
  have hoth : ∀ q, q < N → A q = true → q ≠ q0 → kr_kd (kr_chu a_child (nd q0) (L1.map nd) (kr_hd (L2.map nd) 0)) (kr_nxu a_next (L1.map nd) (L2.map nd)) (kr_bfu a_before (L2.map nd) (kr_la (L1.map nd) 0)) a_up (nd q) (((kr_chl N p q).filter A).map nd) := by
    intro q qN hq ne
    have rq' := hr q qN
    exact kr_unl_o K0 (d2 q qN hq) (by omega) (by omega) (fun e => ne (hj q q0 qN q0N e.symm))
  refine ⟨_, _, _, fun post C => kr_unlw (x := nd q0) (by omega) K0 C, ?_⟩
  intro post C
  have H : kr_tr N p nd c0 e0 (kr_chu a_child (nd q0) (L1.map nd) (kr_hd (L2.map nd) 0)) (kr_nxu a_next (L1.map nd) (L2.map nd)) := by
    refine ⟨hN, hp, s, ?_⟩
    intro t t1 t2
    have tN : t < N := by have := s.2.1; omega
    have kd := hoth t tN (hall t t1 t2) (by omega)
    rw [kr_cut_t0 hp s hall t1 t2] at kd
    exact ⟨hr t tN, kd.1, kr_cn_sg kd.2.1 kd.2.2.2.2, kr_ten r1 t⟩
  refine kr_drw H ?_
  intro od g us hfr
  refine C (kr_cut A c0 e0) us od g _ ⟨hAL, ?_, ?_, ?_, ?_⟩ (fun q hq => (kr_cut_t.mp hq).1)
  · intro q qN hq
    by_cases e : q = q0
    · subst e
      rw [f2, List.map_append]
      exact hKD
    · rw [kr_cut_o hp hc s hq e]
      exact hoth q qN (kr_cut_t.mp hq).1 e
  · intro x x1 x2
    by_cases w : ∃ t, c0 ≤ t ∧ t < e0 ∧ nd t = x
    · obtain ⟨t, t1, t2, t3⟩ := w
      have tN : t < N := by have := s.2.1; omega
      subst t3
      refine ⟨fun _ => ⟨?_, ?_⟩, fun _ => hfr.1 t t1 t2⟩
      · intro q qN hq e
        have := hj q t qN tN e
        subst this
        exact (kr_cut_t.mp hq).2 ⟨t1, t2⟩
      · intro j j1 j2
        exact hnw.2.2 j t j1 j2 tN (hall t t1 t2)
    · have w' : ∀ t, c0 ≤ t → t < e0 → nd t ≠ x := fun t t1 t2 e => w ⟨t, t1, t2, e⟩
      rw [hfr.2 x w', d3 x x1 x2]
      refine ⟨fun h => ⟨fun q qN hq => h.1 q qN (kr_cut_t.mp hq).1, h.2⟩, fun h => ⟨fun q qN hq e => ?_, h.2⟩⟩
      by_cases z : c0 ≤ q ∧ q < e0
      · exact w' q z.1 z.2 e
      · exact h.1 q qN (kr_cut_t.mpr ⟨hq, z⟩) e
  · rw [d4, nI_add]
    congr 1
    refine (kr_ct_rng (a := c0) (b := e0) (Nat.le_of_lt s.1) s.2.1 ?_ ?_).symm
    · intro q _
      unfold kr_cut
      simp
    · intro q z1 z2
      rw [hall q z1 z2]
      rfl
  · intro j j1 j2
    rw [kr_chu_n (hnw.2.2 j q0 j1 j2 q0N hA0)]
    exact d5 j j1 j2
theorem kr_drest {post : SX → Prop} {l : Nat} (A0 : Nat → Bool) (X : kr_cx N m p dp nd o par yk dpar dK yt dT) (hi : i < m) (ei : o i = some q0) (hnw : kr_nw N nd A0 o nn l)
    (hbk : ∀ k, k < 10 → (a_byKey k = 0 ∧ ∀ c ∈ kr_chl N p q0, kr_ky yk c = k → kr_im m o c) ∨ (∃ c ∈ kr_chl N p q0, kr_ky yk c = k ∧ a_byKey k = nI (nd c) ∧ ¬ kr_im m o c))
    (C : ∀ (A : Nat → Bool) (ch nx bf us od g : Nat → Int32) (gone : Int32), kr_dy N m p nd o yk nn i 10 l A ch nx bf a_up us gone → (∀ q, A q = true → A0 q = true) → post (f_drafted, f_open, f_root, f_nextId, f_rowSize, f_keptCount, gone, f_moveCount, a_draftType, a_draftKey, a_draftParent, a_openNode, us, a_type, a_key, a_ident, a_state, a_up, ch, nx, bf, a_becomes, a_isKept, a_byKey, a_stood, a_rowEnd, a_rowBefore, a_list, a_stays, od, g)) :
    ∀ (d k n : Nat) (A : Nat → Bool) (ch nx bf us od g : Nat → Int32) (gone : Int32), k + d = 10 → d < n → kr_dy N m p nd o yk nn i k l A ch nx bf a_up us gone → (∀ q, A q = true → A0 q = true) →
    wX_dropRest_2 post n (nI k) f_drafted f_open f_root f_nextId f_rowSize f_keptCount gone f_moveCount a_draftType a_draftKey a_draftParent a_openNode us a_type a_key a_ident a_state a_up ch nx bf a_becomes a_isKept a_byKey a_stood a_rowEnd a_rowBefore a_list a_stays od g := by
  intro d
  induction d with
  | zero =>
    intro k n A ch nx bf us od g gone e hn D hs
    obtain ⟨n, rfl⟩ : ∃ n', n = n' + 1 := ⟨n - 1, by omega⟩
    have e' : k = 10 := by omega
    subst e'
    rw [wX_dropRest_2]
    exact br_t (by decide) (C A ch nx bf us od g gone D hs)
  | succ d ih =>
    intro k n A ch nx bf us od g gone e hn D hs
    obtain ⟨n, rfl⟩ : ∃ n', n = n' + 1 := ⟨n - 1, by omega⟩
    have ck : (nI k).toNatClampNeg = k := nI_clamp (by omega)
    have vk : vp_in (nI k) 10 := vp_in_nI (by omega) (by omega)
    rw [wX_dropRest_2]
    refine br_f (nI_ge (a := k) (b := 10) (by omega) (by decide)) ⟨vk, ?_⟩
    rcases hbk k (by omega) with ⟨z1, z2⟩ | ⟨c0, c1, c2, c3, c4⟩
    · refine br_t (by rw [ck]; exact z1) (nm_r (nI_1 k) ?_)
      refine ih (k + 1) n A ch nx bf us od g gone (by omega) (by omega) ⟨?_, D.2⟩ hs
      refine kr_al_skip X.2.2.2.2.2 hi ei D.1 ?_
      intro c cz cN hpc hkc _
      have hpz := X.1.2.2.2.1.1 c cz cN
      exact z2 c (kr_chl_mem.mpr ⟨cN, by omega, hpc⟩) hkc
    · have b := kr_chl_mem.mp c1
      have rc := X.2.2.2.1 c0 b.1
      have bk : a_byKey (nI k).toNatClampNeg = nI (nd c0) := by rw [ck]; exact c3
      refine br_f (by rw [bk]; exact nI_ne0 (by omega) (by omega)) ⟨vk, ?_⟩
      obtain ⟨ch', nx', bf', u1, u2⟩ := kr_dstep (f_drafted := f_drafted) (f_open := f_open) (f_root := f_root) (f_nextId := f_nextId) (f_rowSize := f_rowSize) (f_keptCount := f_keptCount) (f_goneCount := gone) (f_moveCount := f_moveCount) (a_draftType := a_draftType) (a_draftKey := a_draftKey) (a_draftParent := a_draftParent) (a_openNode := a_openNode) (a_used := us) (a_type := a_type) (a_key := a_key) (a_ident := a_ident) (a_state := a_state) (a_up := a_up) (a_child := ch) (a_next := nx) (a_before := bf) (a_becomes := a_becomes) (a_isKept := a_isKept) (a_byKey := a_byKey) (a_stood := a_stood) (a_rowEnd := a_rowEnd) (a_rowBefore := a_rowBefore) (a_list := a_list) (a_stays := a_stays) (a_order := od) (a_pile := g) (l := l) X hi ei ⟨hnw.1, hnw.2.1, fun j q j1 j2 j3 j4 => hnw.2.2 j q j1 j2 j3 (hs q j4)⟩ c1 c2 c4 D
      rw [bk]
      refine u1 _ ⟨vk, ?_⟩
      show wpX_drop _ _ (a_byKey (nI k).toNatClampNeg)
      rw [bk]
      refine u2 _ ?_
      intro A' us' od' g' gone' D' hs'
      refine nm_r (nI_1 k) ?_
      exact ih (k + 1) n A' ch' nx' bf' us' od' g' gone' (by omega) (by omega) D' (fun q hq => hs q (hs' q hq))
end
end
section
def kr_kf (w : Option Nat) : Int32 := match w with
  | none => 0
  | some _ => 1
/-- byKey while the children of node i of the draft are matched, up to j -/
def kr_bj (N : Nat) (p dp nd : Nat → Nat) (o : Nat → Option Nat) (yk : Nat → Int32) (q0 i j : Nat) (bk : Nat → Int32) : Prop :=
  ∀ k, k < 10 → (bk k = 0 ∧ ∀ c ∈ kr_chl N p q0, kr_ky yk c = k → ∃ l, l < j ∧ i < l ∧ dp l = i ∧ o l = some c) ∨ (∃ c ∈ kr_chl N p q0, kr_ky yk c = k ∧ bk k = nI (nd c) ∧ ∀ l, l < j → i < l → dp l = i → o l ≠ some c)
def kr_s1 (dp nd : Nat → Nat) (o : Nat → Option Nat) (i j : Nat) (ik be : Nat → Int32) : Prop := ∀ l, i < l → l < j → dp l = i → ik l = kr_kf (o l) ∧ (∀ q, o l = some q → be l = nI (nd q))
def kr_s2 (dp : Nat → Nat) (i j : Nat) (ik0 be0 ik be : Nat → Int32) : Prop := ∀ l, ¬ (i < l ∧ l < j ∧ dp l = i) → ik l = ik0 l ∧ be l = be0 l
theorem kr_s1_skip {dp nd : Nat → Nat} {o : Nat → Option Nat} {i j : Nat} {ik be : Nat → Int32} (h : kr_s1 dp nd o i j ik be) (z : ¬ (i < j ∧ dp j = i)) : kr_s1 dp nd o i (j + 1) ik be := by
  intro l l1 l2 l3
  by_cases q : l = j
  · subst q; exact absurd ⟨l1, l3⟩ z
  · exact h l l1 (by omega) l3
theorem kr_s2_skip {dp : Nat → Nat} {i j : Nat} {ik0 be0 ik be : Nat → Int32} (h : kr_s2 dp i j ik0 be0 ik be) : kr_s2 dp i (j + 1) ik0 be0 ik be := by
  intro l hl
  refine h l ?_
  rintro ⟨a, b, c⟩
  exact hl ⟨a, by omega, c⟩
theorem kr_s1_put {dp nd : Nat → Nat} {o : Nat → Option Nat} {i j : Nat} {ik be : Nat → Int32} {x y : Int32} (h : kr_s1 dp nd o i j ik be) (hx : x = kr_kf (o j)) (hy : ∀ q, o j = some q → y = nI (nd q)) : kr_s1 dp nd o i (j + 1) (upd ik j x) (upd be j y) := by
  intro l l1 l2 l3
  by_cases q : l = j
  · subst q
    rw [pk_us, pk_us]
    exact ⟨hx, hy⟩
  · rw [pk_un q, pk_un q]
    exact h l l1 (by omega) l3
theorem kr_s2_put {dp : Nat → Nat} {i j : Nat} {ik0 be0 ik be : Nat → Int32} {x y : Int32} (h : kr_s2 dp i j ik0 be0 ik be) (z : i < j ∧ dp j = i) : kr_s2 dp i (j + 1) ik0 be0 (upd ik j x) (upd be j y) := by
  intro l hl
  have q : l ≠ j := by
    rintro rfl
    exact hl ⟨z.1, by omega, z.2⟩
  rw [pk_un q, pk_un q]
  exact kr_s2_skip h l hl
section
variable {f_drafted f_open f_root f_nextId f_rowSize f_keptCount f_goneCount f_moveCount : Int32} {a_draftType a_draftKey a_draftParent a_openNode a_used a_type a_key a_ident a_state a_up a_child a_next a_before a_becomes a_isKept a_byKey a_stood a_rowEnd a_rowBefore a_list a_stays a_order a_pile : Nat → Int32} {N m : Nat} {p dp nd nn : Nat → Nat} {o : Nat → Option Nat} {par yk dpar dK yt dT : Nat → Int32} {i q0 : Nat}
theorem kr_mcN {post : SX → Prop} {J : Int32 → Int32 → (Nat → Int32) → (Nat → Int32) → (Nat → Int32) → (Nat → Int32) → (Nat → Int32) → (Nat → Int32) → (Nat → Int32) → (Nat → Int32) → (Nat → Int32) → (Nat → Int32) → (Nat → Int32) → (Nat → Int32) → (Nat → Int32) → (Nat → Int32) → (Nat → Int32) → (Nat → Int32) → (Nat → Int32) → (Nat → Int32) → (Nat → Int32) → (Nat → Int32) → (Nat → Int32) → (Nat → Int32) → (Nat → Int32) → Prop} {x1 x3 x4 x6 : Int32} {j : Nat} (hj : j < 16)
    (K : J x4 (nI (j + 1)) a_draftType a_draftKey a_draftParent a_openNode a_used a_type a_key a_ident a_state a_up a_child a_next a_before (upd a_becomes j 0) (upd a_isKept j 0) a_byKey a_stood a_rowEnd a_rowBefore a_list a_stays a_order a_pile) : wX_matchChildren_105 post J x1 x3 x4 (nI j) x6 (nI j) f_drafted f_open f_root f_nextId f_rowSize f_keptCount f_goneCount f_moveCount a_draftType a_draftKey a_draftParent a_openNode a_used a_type a_key a_ident a_state a_up a_child a_next a_before a_becomes a_isKept a_byKey a_stood a_rowEnd a_rowBefore a_list a_stays a_order a_pile := by
  have cj : (nI j).toNatClampNeg = j := nI_clamp (by omega)
  have vj : vp_in (nI j) 16 := vp_in_nI (by omega) (by omega)
  unfold wX_matchChildren_105
  unfold wX_matchChildren_106
  rw [cj, kr_b0]
  refine ⟨vj, nm_e ⟨vj, br_t pk_us ?_⟩⟩
  unfold wX_matchChildren_129
  rw [cj]
  exact ⟨vj, nm_e ⟨vj, br_t pk_us (nm_r (nI_1 j) K)⟩⟩
theorem kr_mcK {post : SX → Prop} {J : Int32 → Int32 → (Nat → Int32) → (Nat → Int32) → (Nat → Int32) → (Nat → Int32) → (Nat → Int32) → (Nat → Int32) → (Nat → Int32) → (Nat → Int32) → (Nat → Int32) → (Nat → Int32) → (Nat → Int32) → (Nat → Int32) → (Nat → Int32) → (Nat → Int32) → (Nat → Int32) → (Nat → Int32) → (Nat → Int32) → (Nat → Int32) → (Nat → Int32) → (Nat → Int32) → (Nat → Int32) → (Nat → Int32) → (Nat → Int32) → Prop} {x1 x3 x6 : Int32} {j t kk : Nat} (hj : j < 16) (ht : t < 16) (hk : kk < 10) (ek : a_draftKey j = nI kk)
    (K : J (nI (t + 1)) (nI (j + 1)) a_draftType a_draftKey a_draftParent a_openNode a_used a_type a_key a_ident a_state a_up a_child a_next a_before (upd a_becomes j x6) (upd a_isKept j 1) (upd a_byKey kk 0) a_stood a_rowEnd a_rowBefore (upd a_list t x6) a_stays a_order a_pile) : wX_matchChildren_106 post J x1 x3 (nI t) (nI j) x6 1 (nI j) f_drafted f_open f_root f_nextId f_rowSize f_keptCount f_goneCount f_moveCount a_draftType a_draftKey a_draftParent a_openNode a_used a_type a_key a_ident a_state a_up a_child a_next a_before a_becomes a_isKept a_byKey a_stood a_rowEnd a_rowBefore a_list a_stays a_order a_pile := by
  have cj : (nI j).toNatClampNeg = j := nI_clamp (by omega)
  have ct : (nI t).toNatClampNeg = t := nI_clamp (by omega)
  have ck : (nI kk).toNatClampNeg = kk := nI_clamp (by omega)
  have vj : vp_in (nI j) 16 := vp_in_nI (by omega) (by omega)
  have n1 : ¬ upd a_isKept j 1 j = 0 := by rw [pk_us]; decide
  unfold wX_matchChildren_106
  rw [cj, kr_b1]
  refine ⟨vj, nm_e ⟨vj, br_f n1 ?_⟩⟩
  unfold wX_matchChildren_129
  rw [cj, ek, ck, ct]
  exact ⟨vj, nm_e ⟨vj, br_f n1 ⟨vj, vp_in_nI hk (by omega), nm_e ⟨vp_in_nI ht (by omega), nm_e (nm_r (nI_1 t) (nm_r (nI_1 j) K))⟩⟩⟩⟩
theorem kr_mc0 {post : SX → Prop} (r2 : kr_shp m dp a_draftParent dK) (hi : i < m) (ik0 be0 : Nat → Int32) (hno : ∀ j, i < j → j < m → dp j = i → o j = none)
    (C : ∀ ik be : Nat → Int32, kr_s1 dp nd o i m ik be → kr_s2 dp i m ik0 be0 ik be → post (nI m, f_open, f_root, f_nextId, f_rowSize, f_keptCount, f_goneCount, f_moveCount, a_draftType, a_draftKey, a_draftParent, a_openNode, a_used, a_type, a_key, a_ident, a_state, a_up, a_child, a_next, a_before, be, ik, a_byKey, a_stood, a_rowEnd, a_rowBefore, a_list, a_stays, a_order, a_pile)) :
    ∀ (d j n : Nat) (ik be : Nat → Int32), j + d = m → d < n → kr_s1 dp nd o i j ik be → kr_s2 dp i j ik0 be0 ik be →
    wX_matchChildren_31 post (nI i) 0 (nI m) f_open f_root f_nextId f_rowSize f_keptCount f_goneCount f_moveCount n 0 (nI j) a_draftType a_draftKey a_draftParent a_openNode a_used a_type a_key a_ident a_state a_up a_child a_next a_before be ik a_byKey a_stood a_rowEnd a_rowBefore a_list a_stays a_order a_pile := by
  have hm := r2.1
  intro d
  induction d with
  | zero =>
    intro j n ik be e hn h1 h2
    obtain ⟨n, rfl⟩ : ∃ n', n = n' + 1 := ⟨n - 1, by omega⟩
    have e' : j = m := by omega
    subst e'
    rw [wX_matchChildren_31]
    exact br_t (nI_le (Nat.le_refl _) (by omega)) (br_t rfl (C ik be h1 h2))
  | succ d ih =>
    intro j n ik be e hn h1 h2
    obtain ⟨n, rfl⟩ : ∃ n', n = n' + 1 := ⟨n - 1, by omega⟩
    have cj : (nI j).toNatClampNeg = j := nI_clamp (by omega)
    have vj : vp_in (nI j) 16 := vp_in_nI (by omega) (by omega)
    have hp := kr_par r2 (show i < 16 by omega) (show j < m by omega)
    rw [wX_matchChildren_31]
    dsimp only
    rw [cj]
    refine br_f (nI_ge (by omega) (by omega)) ⟨vj, br_c (fun z => br_t rfl ?_) (fun z => nm_r (nI_1 j) ?_)⟩
    · have z' := hp.mp z
      have w := hno j z'.1 (by omega) z'.2
      unfold wX_matchChildren_71
      refine br_t rfl (kr_mcN (by omega) ?_)
      exact ih (j + 1) n _ _ (by omega) (by omega) (kr_s1_put h1 (by rw [w]; rfl) (fun q e => by rw [w] at e; exact nomatch e)) (kr_s2_put h2 z')
    · exact ih (j + 1) n ik be (by omega) (by omega) (kr_s1_skip h1 (fun y => z (hp.mpr y))) (kr_s2_skip h2)
theorem kr_mc1 {post : SX → Prop} {A : Nat → Bool} (X : kr_cx N m p dp nd o par yk a_draftParent a_draftKey yt a_draftType) (hi : i < m) (ei : o i = some q0) (hty : ∀ c ∈ kr_chl N p q0, a_type (nd c) = yt c) (ik0 be0 : Nat → Int32)
    (C : ∀ (n : Nat) (ik be bk ls : Nat → Int32), kr_s1 dp nd o i m ik be → kr_s2 dp i m ik0 be0 ik be → kr_bj N p dp nd o yk q0 i m bk → kr_ar ls 0 ((kr_kcn m dp o i m).map (fun x => nd (kr_og o x))) → wX_matchChildren_31 post (nI i) 1 (nI m) f_open f_root f_nextId f_rowSize f_keptCount f_goneCount f_moveCount (n + 1) (nI (kr_kcn m dp o i m).length) (nI m) a_draftType a_draftKey a_draftParent a_openNode a_used a_type a_key a_ident a_state a_up a_child a_next a_before be ik bk a_stood a_rowEnd a_rowBefore ls a_stays a_order a_pile) :
    ∀ (d j n : Nat) (ik be bk ls : Nat → Int32), j + d = m → d < n → kr_s1 dp nd o i j ik be → kr_s2 dp i j ik0 be0 ik be → kr_bj N p dp nd o yk q0 i j bk → kr_ar ls 0 ((kr_kcn m dp o i j).map (fun x => nd (kr_og o x))) →
    wX_matchChildren_31 post (nI i) 1 (nI m) f_open f_root f_nextId f_rowSize f_keptCount f_goneCount f_moveCount n (nI (kr_kcn m dp o i j).length) (nI j) a_draftType a_draftKey a_draftParent a_openNode a_used a_type a_key a_ident a_state a_up a_child a_next a_before be ik bk a_stood a_rowEnd a_rowBefore ls a_stays a_order a_pile := by
  obtain ⟨r1, r2, ho, hr, hjn, hinj⟩ := X
  have hm := r2.1
  intro d
  induction d with
  | zero =>
    intro j n ik be bk ls e hn h1 h2 h3 h4
    obtain ⟨n, rfl⟩ : ∃ n', n = n' + 1 := ⟨n - 1, by omega⟩
    have e' : j = m := by omega
    subst e'
    exact C n ik be bk ls h1 h2 h3 h4
  | succ d ih =>
    intro j n ik be bk ls e hn h1 h2 h3 h4
    obtain ⟨n, rfl⟩ : ∃ n', n = n' + 1 := ⟨n - 1, by omega⟩
    have cj : (nI j).toNatClampNeg = j := nI_clamp (by omega)
    have vj : vp_in (nI j) 16 := vp_in_nI (by omega) (by omega)
    have hp := kr_par r2 (show i < 16 by omega) (show j < m by omega)
    obtain ⟨kk, k1, k2⟩ := r2.2.2.2.2.1 j (by omega)
    have ck : (nI kk).toNatClampNeg = kk := nI_clamp (by omega)
    rw [wX_matchChildren_31]
    dsimp only
    rw [cj, k2, ck]
    refine br_f (nI_ge (by omega) (by omega)) ⟨vj, br_c (fun z => br_f (by decide) ⟨vj, vp_in_nI k1 (by omega), ?_⟩) (fun z => nm_r (nI_1 j) ?_)⟩
    · have z' := hp.mp z
      -- a kept place of node j is a child of q0 with the key kk
      have back : ∀ c, o j = some c → c ∈ kr_chl N p q0 ∧ kr_ky yk c = kk ∧ yt c = a_draftType j := by
        intro c hc
        obtain ⟨b1, b2, b3, b4⟩ := (ho j (by omega) c).mp hc
        rcases b4 with ⟨b5, b6⟩ | ⟨b5, b6, b7⟩
        · omega
        · rw [z'.2, ei] at b7
          have e2 : q0 = p c := Option.some.inj b7
          have b8 := r1.2.2.2.1.1 c b6 b1
          refine ⟨kr_chl_mem.mpr ⟨b1, by omega, e2.symm⟩, ?_, b2⟩
          unfold kr_ky
          rw [b3, k2, ck]
      have none' : (∀ c, o j ≠ some c) → o j = none := by
        intro h
        cases w : o j with
        | none => rfl
        | some c => exact absurd w (h c)
      have notk : o j = none → wX_matchChildren_31 post (nI i) 1 (nI m) f_open f_root f_nextId f_rowSize f_keptCount f_goneCount f_moveCount n (nI (kr_kcn m dp o i j).length) (nI (j + 1)) a_draftType a_draftKey a_draftParent a_openNode a_used a_type a_key a_ident a_state a_up a_child a_next a_before (upd be j 0) (upd ik j 0) bk a_stood a_rowEnd a_rowBefore ls a_stays a_order a_pile := by
        intro w
        have k := ih (j + 1) n (upd ik j 0) (upd be j 0) bk ls (by omega) (by omega) (kr_s1_put h1 (by rw [w]; rfl) (fun q e => by rw [w] at e; exact nomatch e)) (kr_s2_put h2 z')
        rw [kr_kcn_f (Or.inr (by rw [w]; rfl))] at k
        refine k ?_ h4
        intro k' hk'
        rcases h3 k' hk' with ⟨y1, y2⟩ | ⟨c, y1, y2, y3, y4⟩
        · refine Or.inl ⟨y1, fun c hc hc2 => ?_⟩
          obtain ⟨l, l1, l2⟩ := y2 c hc hc2
          exact ⟨l, by omega, l2⟩
        · refine Or.inr ⟨c, y1, y2, y3, fun l l1 l2 l3 => ?_⟩
          by_cases q : l = j
          · rw [q, w]; exact fun e => nomatch e
          · exact y4 l (by omega) l2 l3
      rcases h3 kk k1 with ⟨y1, y2⟩ | ⟨c, y1, y2, y3, y4⟩
      · have w : o j = none := by
          refine none' (fun c hc => ?_)
          obtain ⟨b1, b2, b3⟩ := back c hc
          obtain ⟨l, l1, l2, l3, l4⟩ := y2 c b1 b2
          have := hinj l j c (by omega) (by omega) l4 hc
          omega
        unfold wX_matchChildren_71
        exact br_t y1 (kr_mcN (by omega) (notk w))
      · have c1 := kr_chl_mem.mp y1
        have rc := hr c c1.1
        have cc : (nI (nd c)).toNatClampNeg = nd c := nI_clamp (by omega)
        have tc := hty c y1
        rw [y3]
        unfold wX_matchChildren_71
        rw [cc, cj, tc]
        refine br_f (nI_ne0 (by omega) (by omega)) ⟨vp_in_nI (by omega) (by omega), vj, br_c (fun t => ?_) (fun t => ?_)⟩
        · have w : o j = some c := by
            refine (ho j (by omega) c).mpr ⟨c1.1, t, ?_, Or.inr ⟨by omega, by omega, ?_⟩⟩
            · rw [(kr_ky_in r1 c1.1).1, y2, k2]
            · rw [z'.2, ei, c1.2.2]
          have hl := kr_kcn_le (m := m) (dp := dp) (o := o) (i := i) (j := j)
          refine kr_mcK (by omega) (by omega) k1 k2 ?_
          have k := ih (j + 1) n (upd ik j 1) (upd be j (nI (nd c))) (upd bk kk 0) (upd ls (kr_kcn m dp o i j).length (nI (nd c))) (by omega) (by omega) (kr_s1_put h1 (by rw [w]; rfl) (fun q e => by rw [w] at e; rw [Option.some.inj e])) (kr_s2_put h2 z')
          rw [kr_kcn_t z' (by rw [w]; rfl), List.length_append, List.map_append] at k
          refine k ?_ (kr_ar_app.mpr ⟨?_, ?_⟩)
          · intro k' hk'
            by_cases q : k' = kk
            · subst q
              refine Or.inl ⟨pk_us, fun c' hc' hk2 => ⟨j, by omega, z'.1, z'.2, ?_⟩⟩
              have c2 := kr_chl_mem.mp hc'
              rw [w, kr_ky_ne r1 c2.1 c1.1 (by omega) (by omega) (by omega) (hk2.trans y2.symm)]
            · rcases h3 k' hk' with ⟨u1, u2⟩ | ⟨c', u1, u2, u3, u4⟩
              · refine Or.inl ⟨by rw [pk_un q]; exact u1, fun c' hc' hc2 => ?_⟩
                obtain ⟨l, l1, l2⟩ := u2 c' hc' hc2
                exact ⟨l, by omega, l2⟩
              · refine Or.inr ⟨c', u1, u2, by rw [pk_un q]; exact u3, fun l l1 l2 l3 => ?_⟩
                by_cases ql : l = j
                · rw [ql, w]
                  intro e
                  rw [Option.some.inj e, u2] at y2
                  exact q y2
                · exact u4 l (by omega) l2 l3
          · refine kr_ar_congr h4 ?_
            intro x x1 x2
            rw [List.length_map] at x2
            rw [pk_un (by omega)]
          · rw [List.length_map, Nat.zero_add]
            refine kr_ar_one ?_
            unfold kr_og
            dsimp only
            rw [w]
            exact pk_us
        · have w : o j = none := by
            refine none' (fun c' hc => ?_)
            obtain ⟨b1, b2, b3⟩ := back c' hc
            have c2 := kr_chl_mem.mp b1
            have : c' = c := kr_ky_ne r1 c2.1 c1.1 (by omega) (by omega) (by omega) (b2.trans y2.symm)
            subst this
            exact t b3
          exact kr_mcN (by omega) (notk w)
    · have z' : ¬ (i < j ∧ dp j = i) := fun y => z (hp.mpr y)
      have k := ih (j + 1) n ik be bk ls (by omega) (by omega) (kr_s1_skip h1 z') (kr_s2_skip h2)
      rw [kr_kcn_f (Or.inl z')] at k
      refine k ?_ h4
      intro k' hk'
      rcases h3 k' hk' with ⟨y1, y2⟩ | ⟨c, y1, y2, y3, y4⟩
      · refine Or.inl ⟨y1, fun c hc hc2 => ?_⟩
        obtain ⟨l, l1, l2⟩ := y2 c hc hc2
        exact ⟨l, by omega, l2⟩
      · refine Or.inr ⟨c, y1, y2, y3, fun l l1 l2 l3 => ?_⟩
        by_cases q : l = j
        · subst q; exact absurd ⟨l2, l3⟩ z'
        · exact y4 l (by omega) l2 l3
end
end
section
theorem kr_rank {cl : List Nat} (h : cl.Pairwise (· < ·)) {a b : Nat} (ha : a ∈ cl) (hb : b ∈ cl) : cl.idxOf a < cl.idxOf b ↔ a < b := by
  have la := List.idxOf_lt_length_of_mem ha
  have lb := List.idxOf_lt_length_of_mem hb
  have ga : cl[cl.idxOf a] = a := List.getElem_idxOf la
  have gb : cl[cl.idxOf b] = b := List.getElem_idxOf lb
  have hp := List.pairwise_iff_getElem.mp h
  constructor
  · intro z
    have k := hp _ _ la lb z
    rw [ga, gb] at k
    exact k
  · intro z
    by_cases y : cl.idxOf b < cl.idxOf a
    · have k := hp _ _ lb la y
      rw [ga, gb] at k
      omega
    · by_cases w : cl.idxOf a = cl.idxOf b
      · have e : a = b := by
          rw [← ga, ← gb]
          congr 1
        omega
      · omega
theorem kr_sorted {cl : List Nat} (h : cl.Pairwise (· < ·)) {s t : Nat} (hs : s < cl.length) (ht : t < cl.length) (e : cl[s] < cl[t]) : s < t := by
  have hp := List.pairwise_iff_getElem.mp h
  by_cases y : t < s
  · have := hp t s ht hs y
    omega
  · by_cases w : s = t
    · subst w; omega
    · omega
section
variable {f_drafted f_open f_root f_nextId f_rowSize f_keptCount f_goneCount f_moveCount : Int32} {a_draftType a_draftKey a_draftParent a_openNode a_used a_type a_key a_ident a_state a_up a_child a_next a_before a_becomes a_isKept a_byKey a_stood a_rowEnd a_rowBefore a_list a_stays a_order a_pile : Nat → Int32} {N m : Nat} {p dp nd nn : Nat → Nat} {o : Nat → Option Nat} {par yk dpar dK yt dT : Nat → Int32} {i q0 : Nat}
theorem kr_kid (X : kr_cx N m p dp nd o par yk dpar dK yt dT) (ei : o i = some q0) {x c : Nat} (h1 : i < x) (h2 : x < m) (h3 : dp x = i) (h4 : o x = some c) : c ∈ kr_chl N p q0 := by
  obtain ⟨b1, b2, b3, b4⟩ := (X.2.2.1 x h2 c).mp h4
  rcases b4 with ⟨b5, b6⟩ | ⟨b5, b6, b7⟩
  · omega
  · rw [h3, ei] at b7
    have e2 : q0 = p c := Option.some.inj b7
    have b8 := X.1.2.2.2.1.1 c b6 b1
    exact kr_chl_mem.mpr ⟨b1, by omega, e2.symm⟩
theorem kr_kv_o (X : kr_cx N m p dp nd o par yk dpar dK yt dT) {t : Nat} (ht : t < (kr_kcn m dp o i m).length) : o ((kr_kcn m dp o i m)[t]) = some (kr_kv m dp o i t) := by
  have mm := List.getElem_mem ht
  obtain ⟨a1, a2, a3, a4⟩ := kr_kcn_mem.mp mm
  obtain ⟨q, hq⟩ := Option.isSome_iff_exists.mp a4
  unfold kr_kv
  rw [kr_getD (by rw [List.length_map]; exact ht), List.getElem_map, hq]
  unfold kr_og
  rw [hq]
  rfl
theorem kr_mcE {post : SX → Prop} {A : Nat → Bool} {mv : Nat → Nat} {l n : Nat} (sy0 : Nat → Int32) (X : kr_cx N m p dp nd o par yk dpar dK yt dT) (hi : i < m) (ei : o i = some q0) (hnw : kr_nw N nd A o nn l) (hmv : kr_mv m dp o mv)
    (D : kr_dy N m p nd o yk nn i 0 l A a_child a_next a_before a_up a_used f_goneCount) (hbj : kr_bj N p dp nd o yk q0 i m a_byKey) (hls : kr_ar a_list 0 ((kr_kcn m dp o i m).map (fun x => nd (kr_og o x)))) (hsd : kr_sd (kr_chl N p q0) nd a_stood) (hsy : kr_sy0 (kr_chl N p q0) nd sy0 a_stays)
    (C : ∀ (A' : Nat → Bool) (ch nx bf us od g re rb sy : Nat → Int32) (gone rs : Int32), kr_dy N m p nd o yk nn i 10 l A' ch nx bf a_up us gone → (∀ q, A' q = true → A q = true) → (∀ x, (∀ c ∈ kr_chl N p q0, nd c ≠ x) → sy x = sy0 x) →
      (∀ j1 j2 q1 q2, i < j1 → j1 < j2 → j2 < m → dp j1 = i → dp j2 = i → o j1 = some q1 → o j2 = some q2 → sy (nd q1) ≠ 0 → sy (nd q2) ≠ 0 → q1 < q2) →
      post (nI m, f_open, f_root, f_nextId, rs, f_keptCount, gone, nI (kr_sm mv (i + 1)), a_draftType, a_draftKey, a_draftParent, a_openNode, us, a_type, a_key, a_ident, a_state, a_up, ch, nx, bf, a_becomes, a_isKept, a_byKey, a_stood, re, rb, a_list, sy, od, g)) :
    wX_matchChildren_31 post (nI i) 1 (nI m) f_open f_root f_nextId f_rowSize f_keptCount f_goneCount (nI (kr_sm mv i)) (n + 1) (nI (kr_kcn m dp o i m).length) (nI m) a_draftType a_draftKey a_draftParent a_openNode a_used a_type a_key a_ident a_state a_up a_child a_next a_before a_becomes a_isKept a_byKey a_stood a_rowEnd a_rowBefore a_list a_stays a_order a_pile := by
  have X' := X
  obtain ⟨r1, r2, ho, hr, hjn, hinj⟩ := X
  have hm := r2.1
  have hN := r1.1
  have hM := kr_kcn_le (m := m) (dp := dp) (o := o) (i := i) (j := m)
  have hten := kr_ten r1 q0
  have kvm : ∀ t, t < (kr_kcn m dp o i m).length → kr_kv m dp o i t ∈ kr_chl N p q0 := by
    intro t ht
    have mm := List.getElem_mem ht
    obtain ⟨a1, a2, a3, a4⟩ := kr_kcn_mem.mp mm
    exact kr_kid X' ei a2 a1 a3 (kr_kv_o X' ht)
  have bks : ∀ k, k < 10 → (a_byKey k = 0 ∧ ∀ c ∈ kr_chl N p q0, kr_ky yk c = k → kr_im m o c) ∨ (∃ c ∈ kr_chl N p q0, kr_ky yk c = k ∧ a_byKey k = nI (nd c) ∧ ¬ kr_im m o c) := by
    intro k hk
    rcases hbj k hk with ⟨y1, y2⟩ | ⟨c, y1, y2, y3, y4⟩
    · refine Or.inl ⟨y1, fun c hc hc2 => ?_⟩
      obtain ⟨l, l1, l2, l3, l4⟩ := y2 c hc hc2
      exact ⟨l, l1, l4⟩
    · refine Or.inr ⟨c, y1, y2, y3, ?_⟩
      rintro ⟨j, j1, j2⟩
      have c1 := kr_chl_mem.mp y1
      rcases ((ho j j1 c).mp j2).2.2.2 with ⟨b5, b6⟩ | ⟨b5, b6, b7⟩
      · omega
      · have b8 := r2.2.2.2.1.1 j b5 j1
        rw [c1.2.2] at b7
        have b9 := hinj (dp j) i q0 (by omega) hi b7 ei
        exact y4 j j1 (by omega) b9 j2
  rw [wX_matchChildren_31]
  refine br_t (nI_le (Nat.le_refl _) (by omega)) (br_f (by decide) ?_)
  unfold wpX_dropRest
  dsimp only
  refine ⟨11, kr_drest (i := i) (q0 := q0) (l := l) A X' hi ei hnw bks ?_ 10 0 11 A a_child a_next a_before a_used a_order a_pile f_goneCount (by omega) (by omega) D (fun q h => h)⟩
  intro A' ch nx bf us od g gone D' hs
  refine kr_lrw (M := (kr_kcn m dp o i m).length) (v := fun t => (kr_chl N p q0).idxOf (kr_kv m dp o i t)) (l := fun t => nd (kr_kv m dp o i t)) (by omega) ?_ ?_
  · intro t ht
    have km := kvm t ht
    have rc := hr _ (kr_chl_mem.mp km).1
    have li := List.idxOf_lt_length_of_mem km
    refine ⟨?_, rc.2, ?_, by omega⟩
    · have k := hls t (by rw [List.length_map]; exact ht)
      rw [Nat.zero_add, List.getElem_map] at k
      show a_list t = nI (nd (kr_kv m dp o i t))
      rw [k]
      have k2 := kr_kv_o X' ht
      unfold kr_og
      rw [k2]
      rfl
    · have k := hsd _ li
      rw [List.getElem_idxOf li] at k
      exact k
  · intro R re rb sy hlis hC
    obtain ⟨R', hR', eR⟩ := hmv i
    have e := kr_lis_eq hlis hR' (fun s t hs ht => kr_rank kr_chl_lt (kvm s hs) (kvm t ht))
    have hle := kr_lis_le hlis
    refine nm_r (e' := nI (kr_sm mv (i + 1))) ?_ ?_
    · show nI (kr_sm mv i) + nI (kr_kcn m dp o i m).length - nI R = nI (kr_sm mv i + mv i)
      rw [nI_add, pk_sub (by omega), eR, ← e]
      congr 1
      omega
    · obtain ⟨Cs, g1, g2, g3⟩ := hC
      refine C A' ch nx bf us od g re rb sy gone _ D' hs ?_ ?_
      · intro x hx
        rw [g3 x (fun t ht _ => hx _ (kvm t ht))]
        exact hsy.2 x hx
      · intro j1 j2 q1 q2 h1 h2 h3 h4 h5 h6 h7 h8 h9
        have inC : ∀ j q, i < j → j < m → dp j = i → o j = some q → sy (nd q) ≠ 0 → ∃ t, ∃ h : t < (kr_kcn m dp o i m).length, (kr_kcn m dp o i m)[t] = j ∧ Cs t ∧ kr_kv m dp o i t = q := by
          intro j q a1 a2 a3 a4 a5
          have mem : j ∈ kr_kcn m dp o i m := kr_kcn_mem.mpr ⟨a2, a1, a3, by rw [a4]; rfl⟩
          obtain ⟨t, ht, et⟩ := List.mem_iff_getElem.mp mem
          have k2 := kr_kv_o X' ht
          rw [et, a4] at k2
          have k3 : q = kr_kv m dp o i t := Option.some.inj k2
          refine ⟨t, ht, et, ?_, k3.symm⟩
          by_cases hc : Cs t
          · exact hc
          · exfalso
            apply a5
            have km := kvm t ht
            rw [← k3] at km
            have qN := (kr_chl_mem.mp km).1
            rw [g3 (nd q) ?_]
            · exact hsy.1 q km
            · intro s hs' hcs es
              have km2 := kvm s hs'
              have e2 : kr_kv m dp o i s = q := hjn _ q (kr_chl_mem.mp km2).1 qN es
              have k4 := kr_kv_o X' hs'
              rw [e2] at k4
              have mm := kr_kcn_mem.mp (List.getElem_mem hs')
              have e3 := hinj _ j q mm.1 a2 k4 a4
              have e4 : (kr_kcn m dp o i m)[s] = (kr_kcn m dp o i m)[t] := by rw [e3, et]
              have hp := List.pairwise_iff_getElem.mp (kr_kcn_lt (m := m) (dp := dp) (o := o) (i := i) (j := m))
              by_cases w : s < t
              · have := hp s t hs' ht w
                omega
              · by_cases w2 : t < s
                · have := hp t s ht hs' w2
                  omega
                · have : s = t := by omega
                  subst this
                  exact hc hcs
        obtain ⟨t1, u1, u2, u3, u4⟩ := inC j1 q1 h1 (by omega) h4 h6 h8
        obtain ⟨t2, v1, v2, v3, v4⟩ := inC j2 q2 (by omega) h3 h5 h7 h9
        have lt := kr_sorted (kr_kcn_lt (m := m) (dp := dp) (o := o) (i := i) (j := m)) u1 v1 (by rw [u2, v2]; exact h2)
        have k := g1 t1 t2 lt v1 u3 v3
        have k' := (kr_rank kr_chl_lt (kvm t1 u1) (kvm t2 v1)).mp k
        rw [u4, v4] at k'
        exact k'
theorem kr_mck {post : SX → Prop} {A : Nat → Bool} {mv : Nat → Nat} {l : Nat} (X : kr_cx N m p dp nd o par yk a_draftParent a_draftKey yt a_draftType) (hi : i < m) (ei : o i = some q0) (hnw : kr_nw N nd A o nn l) (hmv : kr_mv m dp o mv)
    (D : kr_dy N m p nd o yk nn i 0 l A a_child a_next a_before a_up a_used f_goneCount) (hb : a_becomes i = nI (nd q0)) (hk : a_isKept i = 1) (hda : ∀ q, q < N → A q = true → a_type (nd q) = yt q ∧ a_key (nd q) = yk q)
    (C : ∀ (A' : Nat → Bool) (ch nx bf us od g re rb sy ik be bk ls sd : Nat → Int32) (gone rs : Int32), kr_dy N m p nd o yk nn i 10 l A' ch nx bf a_up us gone → (∀ q, A' q = true → A q = true) → (∀ x, (∀ c ∈ kr_chl N p q0, nd c ≠ x) → sy x = a_stays x) →
      (∀ j1 j2 q1 q2, i < j1 → j1 < j2 → j2 < m → dp j1 = i → dp j2 = i → o j1 = some q1 → o j2 = some q2 → sy (nd q1) ≠ 0 → sy (nd q2) ≠ 0 → q1 < q2) →
      kr_s1 dp nd o i m ik be → kr_s2 dp i m a_isKept a_becomes ik be →
      post (nI m, f_open, f_root, f_nextId, rs, f_keptCount, gone, nI (kr_sm mv (i + 1)), a_draftType, a_draftKey, a_draftParent, a_openNode, us, a_type, a_key, a_ident, a_state, a_up, ch, nx, bf, be, ik, bk, sd, re, rb, ls, sy, od, g)) :
    wpX_matchChildren post (nI m, f_open, f_root, f_nextId, f_rowSize, f_keptCount, f_goneCount, nI (kr_sm mv i), a_draftType, a_draftKey, a_draftParent, a_openNode, a_used, a_type, a_key, a_ident, a_state, a_up, a_child, a_next, a_before, a_becomes, a_isKept, a_byKey, a_stood, a_rowEnd, a_rowBefore, a_list, a_stays, a_order, a_pile) (nI i) := by
  have X' := X
  obtain ⟨r1, r2, ho, hr, hjn, hinj⟩ := X
  have hm := r2.1
  have ci : (nI i).toNatClampNeg = i := nI_clamp (by omega)
  have vi : vp_in (nI i) 16 := vp_in_nI (by omega) (by omega)
  have q0N : q0 < N := ((ho i hi q0).mp ei).1
  have rq := hr q0 q0N
  have hA0 : A q0 = true := D.1.1 q0 q0N ⟨i, hi, ei⟩
  have hfil := kr_al_kids hinj hi q0N ei D.1
  have kd := D.2.1 q0 q0N hA0
  rw [hfil] at kd
  have hAc : ∀ c ∈ kr_chl N p q0, A c = true := fun c hc => List.filter_eq_self.mp hfil c hc
  unfold wpX_matchChildren
  dsimp only
  rw [ci, hb, hk]
  refine ⟨vi, nm_e ⟨vi, nm_e (br_f (by decide) ?_)⟩⟩
  refine kr_ixw (x := nd q0) (cl := kr_chl N p q0) (K := kr_ky yk) (nd := nd) rq.2 (kr_ten r1 q0) kr_chl_nd ?_ ?_ kd.1 (kr_cn_sg kd.2.1 kd.2.2.2.2) ?_
  · intro c hc
    have c1 := kr_chl_mem.mp hc
    have k := kr_ky_in r1 c1.1
    rw [(hda c c1.1 (hAc c hc)).2]
    exact k
  · intro a ha b hb' e
    exact hjn a b (kr_chl_mem.mp ha).1 (kr_chl_mem.mp hb').1 e
  · intro bk sd sy h1 h2 h3
    refine nm_r (nI_1 i) ⟨m + 1, ?_⟩
    have e0 : kr_kcn m dp o i (i + 1) = [] := by
      refine List.filter_eq_nil_iff.mpr (fun j hj => ?_)
      have := List.mem_range.mp hj
      rw [Bool.and_eq_true, decide_eq_true_eq]
      omega
    have k := kr_mc1 (post := post) (f_open := f_open) (f_root := f_root) (f_nextId := f_nextId) (f_rowSize := f_rowSize) (f_keptCount := f_keptCount) (f_goneCount := f_goneCount) (f_moveCount := nI (kr_sm mv i)) (a_draftType := a_draftType) (a_draftKey := a_draftKey) (a_draftParent := a_draftParent) (a_openNode := a_openNode) (a_used := a_used) (a_type := a_type) (a_key := a_key) (a_ident := a_ident) (a_state := a_state) (a_up := a_up) (a_child := a_child) (a_next := a_next) (a_before := a_before) (a_stood := sd) (a_rowEnd := a_rowEnd) (a_rowBefore := a_rowBefore) (a_stays := sy) (a_order := a_order) (a_pile := a_pile) (A := A) X' hi ei (fun c hc => (hda c (kr_chl_mem.mp hc).1 (hAc c hc)).1) a_isKept a_becomes ?_ (m - (i + 1)) (i + 1) (m + 1) a_isKept a_becomes bk a_list (by omega) (by omega) (fun l l1 l2 _ => by omega) (fun l _ => ⟨rfl, rfl⟩) ?_ (by rw [e0]; exact kr_ar_nil)
    · rw [e0] at k
      exact k
    · intro n ik be bk' ls s1 s2 s3 s4
      refine kr_mcE (sy0 := a_stays) (A := A) (l := l) X' hi ei hnw hmv D s3 s4 h2 h3 ?_
      intro A' ch nx bf us od g re rb sy' gone rs D' hs g1 g2
      exact C A' ch nx bf us od g re rb sy' ik be bk' ls sd gone rs D' hs g1 g2 s1 s2
    · intro k' hk'
      rcases h1 k' hk' with ⟨y1, y2⟩ | ⟨c, y1, y2, y3⟩
      · exact Or.inl ⟨y1, fun c hc hc2 => absurd hc2 (y2 c hc)⟩
      · exact Or.inr ⟨c, y1, y2, y3, fun l l1 l2 _ => by omega⟩
theorem kr_mcu {post : SX → Prop} (r2 : kr_shp m dp a_draftParent dK) (hi : i < m) (hk : a_isKept i = 0) (hno : ∀ j, i < j → j < m → dp j = i → o j = none)
    (C : ∀ ik be : Nat → Int32, kr_s1 dp nd o i m ik be → kr_s2 dp i m a_isKept a_becomes ik be → post (nI m, f_open, f_root, f_nextId, f_rowSize, f_keptCount, f_goneCount, f_moveCount, a_draftType, a_draftKey, a_draftParent, a_openNode, a_used, a_type, a_key, a_ident, a_state, a_up, a_child, a_next, a_before, be, ik, a_byKey, a_stood, a_rowEnd, a_rowBefore, a_list, a_stays, a_order, a_pile)) :
    wpX_matchChildren post (nI m, f_open, f_root, f_nextId, f_rowSize, f_keptCount, f_goneCount, f_moveCount, a_draftType, a_draftKey, a_draftParent, a_openNode, a_used, a_type, a_key, a_ident, a_state, a_up, a_child, a_next, a_before, a_becomes, a_isKept, a_byKey, a_stood, a_rowEnd, a_rowBefore, a_list, a_stays, a_order, a_pile) (nI i) := by
  have hm := r2.1
  have ci : (nI i).toNatClampNeg = i := nI_clamp (by omega)
  have vi : vp_in (nI i) 16 := vp_in_nI (by omega) (by omega)
  unfold wpX_matchChildren
  dsimp only
  rw [ci, hk]
  refine ⟨vi, nm_e ⟨vi, nm_e (br_t rfl (nm_r (nI_1 i) ⟨m + 1, ?_⟩))⟩⟩
  exact kr_mc0 (nd := nd) (o := o) r2 hi a_isKept a_becomes hno C (m - (i + 1)) (i + 1) (m + 1) a_isKept a_becomes (by omega) (by omega) (fun l l1 l2 _ => by omega) (fun l _ => ⟨rfl, rfl⟩)
end
end
section
/-- the state of a showing when the nodes below i of the draft are done -/
def kr_p1 (N m : Nat) (p dp nd : Nat → Nat) (o : Nat → Option Nat) (mv : Nat → Nat) (yk yt yi ys dT dK : Nat → Int32) (g0 : Int32) (i : Nat) (A : Nat → Bool) (nn : Nat → Nat) (us ty ky id' st up ch nx bf be ik sy : Nat → Int32) (kc gc mc nid : Int32) : Prop :=
  kr_dy N m p nd o yk nn i 0 i A ch nx bf up us gc ∧ kr_nw N nd A o nn i ∧
  (∀ q, q < N → A q = true → ty (nd q) = yt q ∧ ky (nd q) = yk q ∧ id' (nd q) = yi q ∧ st (nd q) = ys q) ∧
  (∀ j, j < i → o j = none → ty (nn j) = dT j ∧ ky (nn j) = dK j ∧ id' (nn j) = g0 + nI (kr_ct (kr_nb o) j) ∧ st (nn j) = 0) ∧
  (∀ j, j < m → (j = 0 ∨ dp j < i) → ik j = kr_kf (o j) ∧ (∀ q, o j = some q → be j = nI (nd q))) ∧ (∀ j, j < i → o j = none → be j = nI (nn j)) ∧
  (∀ j1 j2 q1 q2, 0 < j1 → j1 < j2 → j2 < m → dp j1 = dp j2 → dp j1 < i → o j1 = some q1 → o j2 = some q2 → sy (nd q1) ≠ 0 → sy (nd q2) ≠ 0 → q1 < q2) ∧
  kc = nI (kr_ct (kr_kb o) i) ∧ mc = nI (kr_sm mv i) ∧ nid = g0 + nI (kr_ct (kr_nb o) i)
theorem kr_r_some {o : Nat → Option Nat} {i q : Nat} {Q : Nat → Prop} (e : o i = some q) (h : ∀ j, j < i → o j = none → Q j) : ∀ j, j < i + 1 → o j = none → Q j := by
  intro j h1 h2
  by_cases z : j = i
  · rw [z, e] at h2; exact nomatch h2
  · exact h j (by omega) h2
theorem kr_free {N i : Nat} {nd nn : Nat → Nat} {A : Nat → Bool} {o : Nat → Option Nat} {us : Nat → Int32} (hN : N ≤ 16) (hi : i < 16) (h : kr_us N nd A o nn i us) : ∃ x, 1 ≤ x ∧ x ≤ 32 ∧ us x = 0 := by
  by_cases e : ∃ x, 1 ≤ x ∧ x ≤ 32 ∧ us x = 0
  · exact e
  · exfalso
    have k := (List.nodup_range' (s := 1) (n := 32)).length_le_of_subset (l₂ := (List.range N).map nd ++ (List.range i).map nn) ?_
    · rw [List.length_append, List.length_map, List.length_map, List.length_range, List.length_range, List.length_range'] at k
      omega
    · intro x hx
      have hx' := List.mem_range'_1.mp hx
      by_cases z : x ∈ (List.range N).map nd ++ (List.range i).map nn
      · exact z
      · exfalso
        refine e ⟨x, by omega, by omega, (h x (by omega) (by omega)).mpr ⟨?_, ?_⟩⟩
        · intro q qN _ eq
          exact z (List.mem_append.mpr (Or.inl (List.mem_map.mpr ⟨q, List.mem_range.mpr qN, eq⟩)))
        · intro j ji _ eq
          exact z (List.mem_append.mpr (Or.inr (List.mem_map.mpr ⟨j, List.mem_range.mpr ji, eq⟩)))
section
variable {N m i : Nat} {p dp nd nn mv : Nat → Nat} {o : Nat → Option Nat} {A : Nat → Bool} {par yk yt yi ys dpar dT dK : Nat → Int32} {g0 : Int32} {us ty ky id' st up ch nx bf be ik sy : Nat → Int32} {kc gc mc nid : Int32}
/-- a kept node is done -/
theorem kr_p1_kept {q0 : Nat} {A' : Nat → Bool} {ch' nx' bf' us' sy' ik' be' : Nat → Int32} {gc' : Int32} (X : kr_cx N m p dp nd o par yk dpar dK yt dT) (hi : i < m) (ei : o i = some q0) (H : kr_p1 N m p dp nd o mv yk yt yi ys dT dK g0 i A nn us ty ky id' st up ch nx bf be ik sy kc gc mc nid)
    (D : kr_dy N m p nd o yk nn i 10 i A' ch' nx' bf' up us' gc') (hs : ∀ q, A' q = true → A q = true) (g1 : ∀ x, (∀ c ∈ kr_chl N p q0, nd c ≠ x) → sy' x = sy x)
    (g2 : ∀ j1 j2 q1 q2, i < j1 → j1 < j2 → j2 < m → dp j1 = i → dp j2 = i → o j1 = some q1 → o j2 = some q2 → sy' (nd q1) ≠ 0 → sy' (nd q2) ≠ 0 → q1 < q2)
    (s1 : kr_s1 dp nd o i m ik' be') (s2 : kr_s2 dp i m ik be ik' be') :
    kr_p1 N m p dp nd o mv yk yt yi ys dT dK g0 (i + 1) A' nn us' ty ky id' st up ch' nx' bf' be' ik' sy' (nI (kr_ct (kr_kb o) i + 1)) gc' (nI (kr_sm mv (i + 1))) nid := by
  obtain ⟨r1, r2, ho, hr, hjn, hinj⟩ := X
  obtain ⟨d0, w, a1, a2, b1, b2, y, c1, c2, c3⟩ := H
  obtain ⟨d1, d2, d3, d4, d5⟩ := D
  refine ⟨⟨kr_al_next r1 d1, d2, ?_, d4, kr_r_some ei d5⟩, ⟨kr_r_some ei w.1, ?_, ?_⟩, fun q qN hq => a1 q qN (hs q hq), kr_r_some ei a2, ?_, ?_, ?_, ?_, rfl, ?_⟩
  · intro x x1 x2
    rw [d3 x x1 x2]
    exact ⟨fun h => ⟨h.1, kr_r_some ei h.2⟩, fun h => ⟨h.1, fun j j1 => h.2 j (by omega)⟩⟩
  · intro j l j1 l1 j2 l2 e
    by_cases z : j = i
    · rw [z, ei] at j2; exact nomatch j2
    · by_cases z2 : l = i
      · rw [z2, ei] at l2; exact nomatch l2
      · exact w.2.1 j l (by omega) (by omega) j2 l2 e
  · intro j q j1 j2 qN hq
    by_cases z : j = i
    · rw [z, ei] at j2; exact nomatch j2
    · exact w.2.2 j q (by omega) j2 qN (hs q hq)
  · intro j jm hj
    by_cases z : 0 < j ∧ dp j = i
    · have := r2.2.2.2.1.1 j z.1 jm
      exact s1 j (by omega) jm z.2
    · have hj' : j = 0 ∨ dp j < i := by
        rcases hj with h | h
        · exact Or.inl h
        · by_cases u : j = 0
          · exact Or.inl u
          · have : ¬ dp j = i := fun v => z ⟨by omega, v⟩
            exact Or.inr (by omega)
      obtain ⟨e1, e2⟩ := s2 j (by
        rintro ⟨u1, u2, u3⟩
        exact z ⟨by omega, u3⟩)
      rw [e1, e2]
      exact b1 j jm hj'
  · intro j j1 j2
    by_cases z : j = i
    · rw [z, ei] at j2; exact nomatch j2
    · rw [(s2 j (by omega)).2]
      exact b2 j (by omega) j2
  · intro j1 j2 q1 q2 h1 h2 h3 h4 h5 h6 h7 h8 h9
    have k1 := r2.2.2.2.1.1 j1 h1 (by omega)
    by_cases z : dp j1 = i
    · exact g2 j1 j2 q1 q2 (by omega) h2 h3 z (by omega) h6 h7 h8 h9
    · have out : ∀ j q, 0 < j → j < m → dp j = dp j1 → o j = some q → ∀ c ∈ kr_chl N p q0, nd c ≠ nd q := by
        intro j q u1 u2 u3 u4 c hc e
        have c1' := kr_chl_mem.mp hc
        obtain ⟨v1, v2, v3, v4⟩ := (ho j u2 q).mp u4
        have ecq := hjn c q c1'.1 v1 e
        subst ecq
        rcases v4 with ⟨v5, v6⟩ | ⟨v5, v6, v7⟩
        · omega
        · rw [c1'.2.2, u3] at v7
          exact z (hinj (dp j1) i q0 (by omega) hi v7 ei)
      rw [g1 _ (out j1 q1 h1 (by omega) rfl h6)] at h8
      rw [g1 _ (out j2 q2 (by omega) h3 h4.symm h7)] at h9
      exact y j1 j2 q1 q2 h1 h2 h3 h4 (by omega) h6 h7 h8 h9
  · rw [(kr_kb_s ei).1]
  · rw [(kr_kb_s ei).2]; exact c3
/-- a new node is made and done -/
theorem kr_p1_new {x : Nat} {ik' be' : Nat → Int32} (X : kr_cx N m p dp nd o par yk dpar dK yt dT) (hmv : kr_mv m dp o mv) (hi : i < m) (ei : o i = none) (H : kr_p1 N m p dp nd o mv yk yt yi ys dT dK g0 i A nn us ty ky id' st up ch nx bf be ik sy kc gc mc nid)
    (x1 : 1 ≤ x) (x2 : x ≤ 32) (hx : us x = 0) (s1 : kr_s1 dp nd o i m ik' be') (s2 : kr_s2 dp i m ik (upd be i (nI x)) ik' be') :
    kr_p1 N m p dp nd o mv yk yt yi ys dT dK g0 (i + 1) A (kr_st nn i x) (upd us x 1) (upd ty x (dT i)) (upd ky x (dK i)) (upd id' x nid) (upd st x 0) (upd up x 0) (upd ch x 0) nx bf be' ik' sy kc gc mc (nid + 1) := by
  obtain ⟨r1, r2, ho, hr, hjn, hinj⟩ := X
  obtain ⟨d0, w, a1, a2, b1, b2, y, c1, c2, c3⟩ := H
  obtain ⟨d1, d2, d3, d4, d5⟩ := d0
  obtain ⟨f1, f2⟩ := (d3 x x1 x2).mp hx
  have hno : ∀ j, 0 < j → j < m → dp j = i → o j = none := by
    intro j j1 j2 j3
    cases w' : o j with
    | none => rfl
    | some q =>
      rcases ((ho j j2 q).mp w').2.2.2 with ⟨v5, v6⟩ | ⟨v5, v6, v7⟩
      · omega
      · rw [j3, ei] at v7; exact nomatch v7
  refine ⟨⟨kr_al_none ei d1, ?_, ?_, d4, ?_⟩, ⟨?_, ?_, ?_⟩, ?_, ?_, ?_, ?_, ?_, ?_, ?_, ?_⟩
  · intro q qN hq
    refine kr_kd_congr (d2 q qN hq) (pk_un (f1 q qN hq)) ?_
    intro c hc
    obtain ⟨b, hb, e⟩ := List.mem_map.mp hc
    obtain ⟨hb1, hb2⟩ := List.mem_filter.mp hb
    have ne : c ≠ x := by
      rw [← e]
      exact f1 b (kr_chl_mem.mp hb1).1 hb2
    exact ⟨rfl, rfl, pk_un ne⟩
  · intro z z1 z2
    by_cases e : z = x
    · subst e
      rw [pk_us]
      refine ⟨fun h => absurd h (by decide), fun h => absurd ?_ (h.2 i (by omega) ei)⟩
      exact kr_st_s
    · rw [pk_un e, d3 z z1 z2]
      refine ⟨fun h => ⟨h.1, fun j j1 j2 => ?_⟩, fun h => ⟨h.1, fun j j1 j2 => ?_⟩⟩
      · by_cases u : j = i
        · rw [u, kr_st_s]; exact fun v => e v.symm
        · rw [kr_st_n u]; exact h.2 j (by omega) j2
      · have k := h.2 j (by omega) j2
        rw [kr_st_n (by omega)] at k
        exact k
  · intro j j1 j2
    by_cases u : j = i
    · rw [u, kr_st_s]; exact pk_us
    · rw [kr_st_n u, pk_un (f2 j (by omega) j2)]
      exact d5 j (by omega) j2
  · intro j j1 j2
    by_cases u : j = i
    · rw [u, kr_st_s]; exact ⟨x1, x2⟩
    · rw [kr_st_n u]; exact w.1 j (by omega) j2
  · intro j l j1 l1 j2 l2 e
    by_cases u : j = i
    · by_cases v : l = i
      · omega
      · rw [u, kr_st_s, kr_st_n v] at e
        exact absurd e.symm (f2 l (by omega) l2)
    · by_cases v : l = i
      · rw [v, kr_st_s, kr_st_n u] at e
        exact absurd e (f2 j (by omega) j2)
      · rw [kr_st_n u, kr_st_n v] at e
        exact w.2.1 j l (by omega) (by omega) j2 l2 e
  · intro j q j1 j2 qN hq
    by_cases u : j = i
    · rw [u, kr_st_s]; exact fun v => f1 q qN hq v.symm
    · rw [kr_st_n u]; exact w.2.2 j q (by omega) j2 qN hq
  · intro q qN hq
    have ne := f1 q qN hq
    rw [pk_un ne, pk_un ne, pk_un ne, pk_un ne]
    exact a1 q qN hq
  · intro j j1 j2
    by_cases u : j = i
    · subst u
      rw [kr_st_s, pk_us, pk_us, pk_us, pk_us]
      exact ⟨rfl, rfl, c3, rfl⟩
    · have ne := f2 j (by omega) j2
      rw [kr_st_n u, pk_un ne, pk_un ne, pk_un ne, pk_un ne]
      exact a2 j (by omega) j2
  · intro j jm hj
    by_cases z : 0 < j ∧ dp j = i
    · have := r2.2.2.2.1.1 j z.1 jm
      exact s1 j (by omega) jm z.2
    · have hj' : j = 0 ∨ dp j < i := by
        rcases hj with h | h
        · exact Or.inl h
        · by_cases u : j = 0
          · exact Or.inl u
          · have : ¬ dp j = i := fun v => z ⟨by omega, v⟩
            exact Or.inr (by omega)
      obtain ⟨e1, e2⟩ := s2 j (by
        rintro ⟨u1, u2, u3⟩
        exact z ⟨by omega, u3⟩)
      obtain ⟨k1, k2⟩ := b1 j jm hj'
      refine ⟨e1.trans k1, fun q hq => ?_⟩
      have ne : j ≠ i := by
        rintro rfl
        rw [ei] at hq
        exact nomatch hq
      rw [e2, pk_un ne]
      exact k2 q hq
  · intro j j1 j2
    rw [(s2 j (by omega)).2]
    by_cases u : j = i
    · rw [u, kr_st_s]; exact pk_us
    · rw [kr_st_n u, pk_un u]
      exact b2 j (by omega) j2
  · intro j1 j2 q1 q2 h1 h2 h3 h4 h5 h6 h7 h8 h9
    have z : dp j1 ≠ i := by
      intro u
      rw [hno j1 h1 (by omega) u] at h6
      exact nomatch h6
    exact y j1 j2 q1 q2 h1 h2 h3 h4 (by omega) h6 h7 h8 h9
  · rw [(kr_kb_n ei).1]; exact c1
  · rw [c2]
    show nI (kr_sm mv i) = nI (kr_sm mv i + mv i)
    obtain ⟨R, _, e⟩ := hmv i
    have e0 : kr_kcn m dp o i m = [] := by
      refine List.filter_eq_nil_iff.mpr (fun j hj => ?_)
      have jm := List.mem_range.mp hj
      rw [Bool.and_eq_true, decide_eq_true_eq]
      rintro ⟨⟨u1, u2⟩, u3⟩
      rw [hno j (by omega) jm u2] at u3
      exact nomatch u3
    rw [e, e0]
    congr 1
    simp
  · rw [(kr_kb_n ei).2, ← nI_1, ← Int32.add_assoc, ← c3]
end
section
variable {f_open f_root : Int32} {a_draftType a_draftKey a_draftParent a_openNode : Nat → Int32} {N m : Nat} {p dp nd mv : Nat → Nat} {o : Nat → Option Nat} {par yk yt yi ys : Nat → Int32} {g0 : Int32}
theorem kr_ph1 {post : Int32 → SX → Prop} (X : kr_cx N m p dp nd o par yk a_draftParent a_draftKey yt a_draftType) (hmv : kr_mv m dp o mv)
    (C : ∀ (n : Nat) (A : Nat → Bool) (nn : Nat → Nat) (f_nextId f_rowSize f_keptCount f_goneCount f_moveCount : Int32) (a_used a_type a_key a_ident a_state a_up a_child a_next a_before a_becomes a_isKept a_byKey a_stood a_rowEnd a_rowBefore a_list a_stays a_order a_pile : Nat → Int32),
      kr_p1 N m p dp nd o mv yk yt yi ys a_draftType a_draftKey g0 m A nn a_used a_type a_key a_ident a_state a_up a_child a_next a_before a_becomes a_isKept a_stays f_keptCount f_goneCount f_moveCount f_nextId →
      wX_show_124 post (n + 1) (nI (kr_ct (kr_nb o) m)) (nI m) (nI m) f_open f_root f_nextId f_rowSize f_keptCount f_goneCount f_moveCount a_draftType a_draftKey a_draftParent a_openNode a_used a_type a_key a_ident a_state a_up a_child a_next a_before a_becomes a_isKept a_byKey a_stood a_rowEnd a_rowBefore a_list a_stays a_order a_pile) :
    ∀ (d i n : Nat) (A : Nat → Bool) (nn : Nat → Nat) (f_nextId f_rowSize f_keptCount f_goneCount f_moveCount : Int32) (a_used a_type a_key a_ident a_state a_up a_child a_next a_before a_becomes a_isKept a_byKey a_stood a_rowEnd a_rowBefore a_list a_stays a_order a_pile : Nat → Int32),
      i + d = m → d < n → kr_p1 N m p dp nd o mv yk yt yi ys a_draftType a_draftKey g0 i A nn a_used a_type a_key a_ident a_state a_up a_child a_next a_before a_becomes a_isKept a_stays f_keptCount f_goneCount f_moveCount f_nextId →
      wX_show_124 post n (nI (kr_ct (kr_nb o) i)) (nI i) (nI m) f_open f_root f_nextId f_rowSize f_keptCount f_goneCount f_moveCount a_draftType a_draftKey a_draftParent a_openNode a_used a_type a_key a_ident a_state a_up a_child a_next a_before a_becomes a_isKept a_byKey a_stood a_rowEnd a_rowBefore a_list a_stays a_order a_pile := by
  have X' := X
  obtain ⟨r1, r2, ho, hr, hjn, hinj⟩ := X
  have hm := r2.1
  have hN := r1.1
  intro d
  induction d with
  | zero =>
    intro i n A nn f_nextId f_rowSize f_keptCount f_goneCount f_moveCount a_used a_type a_key a_ident a_state a_up a_child a_next a_before a_becomes a_isKept a_byKey a_stood a_rowEnd a_rowBefore a_list a_stays a_order a_pile e hn H
    obtain ⟨n, rfl⟩ : ∃ n', n = n' + 1 := ⟨n - 1, by omega⟩
    have e' : i = m := by omega
    subst e'
    exact C n A nn f_nextId f_rowSize f_keptCount f_goneCount f_moveCount a_used a_type a_key a_ident a_state a_up a_child a_next a_before a_becomes a_isKept a_byKey a_stood a_rowEnd a_rowBefore a_list a_stays a_order a_pile H
  | succ d ih =>
    intro i n A nn f_nextId f_rowSize f_keptCount f_goneCount f_moveCount a_used a_type a_key a_ident a_state a_up a_child a_next a_before a_becomes a_isKept a_byKey a_stood a_rowEnd a_rowBefore a_list a_stays a_order a_pile e hn H
    obtain ⟨n, rfl⟩ : ∃ n', n = n' + 1 := ⟨n - 1, by omega⟩
    have hi : i < m := by omega
    have ci : (nI i).toNatClampNeg = i := nI_clamp (by omega)
    have vi : vp_in (nI i) 16 := vp_in_nI (by omega) (by omega)
    have hid : i = 0 ∨ dp i < i := by
      by_cases z : i = 0
      · exact Or.inl z
      · exact Or.inr (r2.2.2.2.1.1 i (by omega) hi)
    have H' := H
    obtain ⟨d0, w, a1, a2, b1, b2, y, c1, c2, c3⟩ := H
    obtain ⟨k1, k2⟩ := b1 i hi hid
    rw [wX_show_124]
    dsimp only
    rw [ci, k1]
    refine br_f (nI_ge (by omega) (by omega)) ⟨vi, ?_⟩
    cases ei : o i with
    | none =>
      refine br_t rfl ?_
      refine kr_mkw (by omega) (kr_free hN (by omega) d0.2.2.1) ?_
      intro x x1 x2 hx
      refine ⟨vi, nm_r (e' := upd a_becomes i (nI x)) rfl (nm_r (e' := nI (kr_ct (kr_nb o) (i + 1))) (by rw [(kr_kb_n ei).2, nI_1]) ?_)⟩
      unfold wX_show_168
      refine kr_mcu (nd := nd) (o := o) (dp := dp) r2 hi (show a_isKept i = 0 by rw [k1, ei]; rfl) ?_ ?_
      · intro j j1 j2 j3
        cases w' : o j with
        | none => rfl
        | some q =>
          rcases ((ho j j2 q).mp w').2.2.2 with ⟨v5, v6⟩ | ⟨v5, v6, v7⟩
          · omega
          · rw [j3, ei] at v7; exact nomatch v7
      · intro ik be s1 s2
        refine nm_r (nI_1 i) ?_
        exact ih (i + 1) n A (kr_st nn i x) _ _ _ _ _ _ _ _ _ _ _ _ _ _ _ _ _ _ _ _ _ _ _ _ (by omega) (by omega) (kr_p1_new X' hmv hi ei H' x1 x2 hx s1 s2)
    | some q0 =>
      refine br_f (show ¬ (1 : Int32) = 0 by decide) (nm_r (e' := nI (kr_ct (kr_kb o) i + 1)) (by rw [c1, nI_1]) ?_)
      unfold wX_show_168
      rw [c2]
      refine kr_mck (nn := nn) (A := A) (mv := mv) (l := i) X' hi ei w hmv d0 (k2 q0 ei) (by rw [k1, ei]; rfl) (fun q qN hq => ⟨(a1 q qN hq).1, (a1 q qN hq).2.1⟩) ?_
      intro A' ch nx bf us od g re rb sy ik be bk ls sd gone rs D hs g1 g2 s1 s2
      refine nm_r (nI_1 i) ?_
      have k := ih (i + 1) n A' nn f_nextId rs (nI (kr_ct (kr_kb o) i + 1)) gone (nI (kr_sm mv (i + 1))) us a_type a_key a_ident a_state a_up ch nx bf be ik bk sd re rb ls sy od g (by omega) (by omega) (kr_p1_kept X' hi ei H' D hs g1 g2 s1 s2)
      rw [(kr_kb_s ei).2] at k
      exact k
end
end
section
def kr_kp (sy : Nat → Int32) (e : Nat → Nat) (j x : Nat) : Bool := decide (x < j) || decide (¬ sy (e x) = 0)
/-- the stayers from j on, in the draft's order -/
def kr_so (m : Nat) (dp : Nat → Nat) (o : Nat → Option Nat) (sy : Nat → Int32) (e : Nat → Nat) (i j : Nat) : List Nat := (List.range m).filter (fun x => decide (i < x ∧ dp x = i ∧ j ≤ x) && (kr_kb o x && decide (¬ sy (e x) = 0)))
def kr_ai (m : Nat) (dp : Nat → Nat) (o : Nat → Option Nat) (sy : Nat → Int32) (e : Nat → Nat) (i j : Nat) (KI : List Nat) : Prop :=
  KI.filter (kr_kp sy e j) = kr_chl j dp i ++ kr_so m dp o sy e i j ∧ KI.Nodup ∧ (∀ x ∈ KI, x < m ∧ i < x ∧ dp x = i ∧ (x < j ∨ kr_kb o x = true)) ∧ (∀ x, x < m → i < x → dp x = i → j ≤ x → kr_kb o x = true → x ∈ KI)
theorem kr_chl_t {dp : Nat → Nat} {i j : Nat} (h : i < j ∧ dp j = i) : kr_chl (j + 1) dp i = kr_chl j dp i ++ [j] := by
  unfold kr_chl
  rw [List.range_succ, List.filter_append]
  congr 1
  simp [h]
theorem kr_chl_f {dp : Nat → Nat} {i j : Nat} (h : ¬ (i < j ∧ dp j = i)) : kr_chl (j + 1) dp i = kr_chl j dp i := by
  unfold kr_chl
  rw [List.range_succ, List.filter_append]
  have e : [j].filter (fun x => decide (i < x ∧ dp x = i)) = [] := by simp [h]
  rw [e, List.append_nil]
theorem kr_fsplit (g : Nat → Nat) (f : Nat → Bool) : ∀ (L X Y : List Nat), L.filter f = X ++ Y → ∃ A B, L = A ++ B ∧ A.filter f = X ∧ B.filter f = Y ∧ ∀ d, kr_la (A.map g) d = kr_la (X.map g) d := by
  intro L
  induction L with
  | nil =>
    intro X Y h
    have h' : X ++ Y = [] := h.symm
    obtain ⟨h1, h2⟩ := List.append_eq_nil_iff.mp h'
    subst h1 h2
    exact ⟨[], [], rfl, rfl, rfl, fun d => rfl⟩
  | cons a L ih =>
    intro X Y h
    cases X with
    | nil => exact ⟨[], a :: L, rfl, rfl, h, fun d => rfl⟩
    | cons x X =>
      cases hf : f a with
      | true =>
        rw [List.filter_cons_of_pos hf, List.cons_append] at h
        obtain ⟨h1, h2⟩ := List.cons.inj h
        obtain ⟨A, B, k1, k2, k3, k4⟩ := ih X Y h2
        refine ⟨a :: A, B, by rw [k1]; rfl, by rw [List.filter_cons_of_pos hf, k2, h1], k3, ?_⟩
        intro d
        show kr_la (A.map g) (g a) = kr_la (X.map g) (g x)
        rw [k4, h1]
      | false =>
        rw [List.filter_cons_of_neg (by rw [hf]; exact Bool.false_ne_true)] at h
        obtain ⟨A, B, k1, k2, k3, k4⟩ := ih (x :: X) Y h
        refine ⟨a :: A, B, by rw [k1]; rfl, by rw [List.filter_cons_of_neg (by rw [hf]; exact Bool.false_ne_true), k2], k3, ?_⟩
        intro d
        exact k4 (g a)
section
variable {m i j : Nat} {dp e : Nat → Nat} {o : Nat → Option Nat} {sy : Nat → Int32} {KI : List Nat}
theorem kr_so_f (h : ¬ (i < j ∧ dp j = i ∧ kr_kb o j = true ∧ ¬ sy (e j) = 0)) : kr_so m dp o sy e i (j + 1) = kr_so m dp o sy e i j := by
  refine List.filter_congr (fun x _ => ?_)
  by_cases z : x = j
  · subst z
    have : (decide (i < x ∧ dp x = i ∧ x ≤ x) && (kr_kb o x && decide (¬ sy (e x) = 0))) = false := by
      rw [Bool.eq_false_iff]
      intro w
      rw [Bool.and_eq_true, Bool.and_eq_true, decide_eq_true_eq, decide_eq_true_eq] at w
      exact h ⟨w.1.1, w.1.2.1, w.2.1, w.2.2⟩
    rw [this]
    have : decide (i < x ∧ dp x = i ∧ x + 1 ≤ x) = false := decide_eq_false (by omega)
    rw [this]
    rfl
  · have : decide (i < x ∧ dp x = i ∧ j + 1 ≤ x) = decide (i < x ∧ dp x = i ∧ j ≤ x) := decide_eq_decide.mpr (by omega)
    rw [this]
theorem kr_so_t (hj : j < m) (h : i < j ∧ dp j = i) (hk : kr_kb o j = true) (hs : ¬ sy (e j) = 0) : kr_so m dp o sy e i j = j :: kr_so m dp o sy e i (j + 1) := by
  have k := kr_split (P := fun x => decide (x = j)) (Q := fun x => decide (i < x ∧ dp x = i ∧ j + 1 ≤ x) && (kr_kb o x && decide (¬ sy (e x) = 0))) (List.range m) ?_ ?_
  · rw [kr_single hj] at k
    show _ = [j] ++ kr_so m dp o sy e i (j + 1)
    unfold kr_so
    rw [← k]
    refine List.filter_congr (fun x _ => ?_)
    by_cases z : x = j
    · subst z
      have : decide (i < x ∧ dp x = i ∧ x ≤ x) = true := decide_eq_true ⟨h.1, h.2, Nat.le_refl _⟩
      rw [this, hk, decide_eq_true hs, decide_eq_true rfl]
      rfl
    · have : decide (i < x ∧ dp x = i ∧ j + 1 ≤ x) = decide (i < x ∧ dp x = i ∧ j ≤ x) := decide_eq_decide.mpr (by omega)
      rw [this, decide_eq_false z]
      rfl
  · refine List.pairwise_lt_range.imp ?_
    intro x y hxy k1 k2
    rw [Bool.and_eq_true, decide_eq_true_eq] at k1
    have k4 := of_decide_eq_true k2
    omega
  · intro x _ k1
    have k4 := of_decide_eq_true k1
    have : decide (i < x ∧ dp x = i ∧ j + 1 ≤ x) = false := decide_eq_false (by omega)
    rw [this]
    rfl
theorem kr_kp_n {x : Nat} (h : x ≠ j) : kr_kp sy e (j + 1) x = kr_kp sy e j x := by
  unfold kr_kp
  have : decide (x < j + 1) = decide (x < j) := decide_eq_decide.mpr (by omega)
  rw [this]
theorem kr_kp_s : kr_kp sy e (j + 1) j = true := by
  unfold kr_kp
  rw [decide_eq_true (show j < j + 1 by omega)]
  rfl
theorem kr_ai_skip (h : kr_ai m dp o sy e i j KI) (z : ¬ (i < j ∧ dp j = i)) : kr_ai m dp o sy e i (j + 1) KI := by
  obtain ⟨h1, h2, h3, h4⟩ := h
  have nj : ∀ x ∈ KI, x ≠ j := by
    intro x hx ex
    have := h3 x hx
    subst ex
    exact z ⟨this.2.1, this.2.2.1⟩
  refine ⟨?_, h2, ?_, ?_⟩
  · rw [kr_chl_f z, kr_so_f (fun w => z ⟨w.1, w.2.1⟩), ← h1]
    exact List.filter_congr (fun x hx => kr_kp_n (nj x hx))
  · intro x hx
    obtain ⟨a, b, c, d⟩ := h3 x hx
    refine ⟨a, b, c, ?_⟩
    rcases d with d | d
    · exact Or.inl (by omega)
    · exact Or.inr d
  · intro x a b c d f
    exact h4 x a b c (by omega) f
theorem kr_ai_stay (hj : j < m) (h : kr_ai m dp o sy e i j KI) (z : i < j ∧ dp j = i) (hk : kr_kb o j = true) (hs : ¬ sy (e j) = 0) : kr_ai m dp o sy e i (j + 1) KI := by
  obtain ⟨h1, h2, h3, h4⟩ := h
  refine ⟨?_, h2, ?_, ?_⟩
  · rw [kr_chl_t z, List.append_assoc]
    show _ = kr_chl j dp i ++ (j :: kr_so m dp o sy e i (j + 1))
    rw [← kr_so_t hj z hk hs, ← h1]
    refine List.filter_congr (fun x _ => ?_)
    by_cases w : x = j
    · subst w
      rw [kr_kp_s]
      unfold kr_kp
      rw [decide_eq_true hs, Bool.or_true]
    · exact kr_kp_n w
  · intro x hx
    obtain ⟨a, b, c, d⟩ := h3 x hx
    refine ⟨a, b, c, ?_⟩
    rcases d with d | d
    · exact Or.inl (by omega)
    · exact Or.inr d
  · intro x a b c d f
    exact h4 x a b c (by omega) f
/-- j is set in behind the last one that is done -/
theorem kr_ai_put (hj : j < m) (z : i < j ∧ dp j = i) (hns : ¬ (kr_kb o j = true ∧ ¬ sy (e j) = 0)) (h1 : KI.filter (kr_kp sy e j) = kr_chl j dp i ++ kr_so m dp o sy e i j) (h2 : KI.Nodup) (h0 : j ∉ KI)
    (h3 : ∀ x ∈ KI, x < m ∧ i < x ∧ dp x = i ∧ (x < j ∨ kr_kb o x = true)) (h4 : ∀ x, x < m → i < x → dp x = i → j < x → kr_kb o x = true → x ∈ KI) :
    ∃ A B, KI = A ++ B ∧ kr_la (A.map e) 0 = kr_la ((kr_chl j dp i).map e) 0 ∧ kr_ai m dp o sy e i (j + 1) (A ++ j :: B) := by
  obtain ⟨A, B, k1, k2, k3, k4⟩ := kr_fsplit e (kr_kp sy e j) KI _ _ h1
  refine ⟨A, B, k1, k4 0, ?_, ?_, ?_, ?_⟩
  · have nA : ∀ x ∈ A, x ≠ j := fun x hx ex => h0 (by rw [k1, ← ex]; exact List.mem_append.mpr (Or.inl hx))
    have nB : ∀ x ∈ B, x ≠ j := fun x hx ex => h0 (by rw [k1, ← ex]; exact List.mem_append.mpr (Or.inr hx))
    rw [List.filter_append, List.filter_cons_of_pos kr_kp_s, List.filter_congr (fun x hx => kr_kp_n (nA x hx)), List.filter_congr (fun x hx => kr_kp_n (nB x hx)), k2, k3, kr_chl_t z, kr_so_f (fun w => hns ⟨w.2.2.1, w.2.2.2⟩), List.append_assoc]
    rfl
  · rw [k1] at h2 h0
    have n1 := List.nodup_append.mp h2
    refine List.nodup_append.mpr ⟨n1.1, List.nodup_cons.mpr ⟨fun w => h0 (List.mem_append.mpr (Or.inr w)), n1.2.1⟩, ?_⟩
    intro a ha b hb ab
    rcases List.mem_cons.mp hb with w | w
    · exact h0 (List.mem_append.mpr (Or.inl (by rw [← w, ← ab]; exact ha)))
    · exact n1.2.2 a ha b w ab
  · intro x hx
    by_cases w : x = j
    · subst w; exact ⟨hj, z.1, z.2, Or.inl (by omega)⟩
    · have hx' : x ∈ KI := by
        rw [k1]
        rcases List.mem_append.mp hx with u | u
        · exact List.mem_append.mpr (Or.inl u)
        · rcases List.mem_cons.mp u with v | v
          · exact absurd v w
          · exact List.mem_append.mpr (Or.inr v)
      obtain ⟨a, b, c, d⟩ := h3 x hx'
      refine ⟨a, b, c, ?_⟩
      rcases d with d | d
      · exact Or.inl (by omega)
      · exact Or.inr d
  · intro x a b c d f
    have hx := h4 x a b c (by omega) f
    rw [k1] at hx
    rcases List.mem_append.mp hx with u | u
    · exact List.mem_append.mpr (Or.inl u)
    · exact List.mem_append.mpr (Or.inr (List.mem_cons_of_mem _ u))
theorem kr_ai_end (h : kr_ai m dp o sy e i m KI) : KI = kr_chl m dp i := by
  obtain ⟨h1, h2, h3, h4⟩ := h
  have e1 : KI.filter (kr_kp sy e m) = KI := by
    refine List.filter_eq_self.mpr (fun x hx => ?_)
    unfold kr_kp
    rw [decide_eq_true (h3 x hx).1]
    rfl
  have e2 : kr_so m dp o sy e i m = [] := by
    refine List.filter_eq_nil_iff.mpr (fun x hx w => ?_)
    rw [Bool.and_eq_true, decide_eq_true_eq] at w
    have := List.mem_range.mp hx
    omega
  rw [e1, e2, List.append_nil] at h1
  exact h1
end
theorem kr_lnk_o {ch nx bf up : Nat → Int32} {x y c v : Nat} {z w : Int32} {A B L' : List Nat} (h : kr_kd ch nx bf up x (A ++ B)) (h' : kr_kd ch nx bf up y L') (hx : x ≤ 32) (hy : y ≤ 32) (ne : x ≠ y) (hc : c ∉ L') : kr_kd (kr_chu ch x A c) (kr_nxl nx A c v) (kr_bfu (upd bf c w) B c) (upd up c z) y L' := by
  have dj := kr_kd_dj h h' hx hy ne
  refine kr_kd_congr h' (kr_chu_n (fun e => ne e.symm)) ?_
  intro d hd
  have k := dj d hd
  have dc : d ≠ c := fun e => hc (e ▸ hd)
  exact ⟨kr_nxl_n (fun m => k (List.mem_append.mpr (Or.inl m))) dc, (kr_bfu_n (fun m => k (List.mem_append.mpr (Or.inr m)))).trans (pk_un dc), pk_un dc⟩
section
variable {f_drafted f_open f_root f_nextId f_rowSize f_keptCount f_goneCount f_moveCount : Int32} {a_draftType a_draftKey a_draftParent a_openNode a_used a_type a_key a_ident a_state a_up a_child a_next a_before a_becomes a_isKept a_byKey a_stood a_rowEnd a_rowBefore a_list a_stays a_order a_pile : Nat → Int32} {m i : Nat} {dp e : Nat → Nat} {o : Nat → Option Nat} {dK : Nat → Int32}
/-- the links while the children of node i are arranged -/
def kr_aj (m : Nat) (e : Nat → Nat) (kk : Nat → List Nat) (i : Nat) (KI : List Nat) (ch nx bf up : Nat → Int32) : Prop :=
  kr_kd ch nx bf up (e i) (KI.map e) ∧ (∀ y, y < m → y ≠ i → kr_kd ch nx bf up (e y) (kk y)) ∧ up (e 0) = 0
theorem kr_aj_lnk {kk : Nat → List Nat} {j : Nat} {A B : List Nat} {ch nx bf up : Nat → Int32} (he : ∀ x, x < m → 1 ≤ e x ∧ e x ≤ 32) (hej : ∀ x y, x < m → y < m → e x = e y → x = y) (hkk : ∀ y, y < m → ∀ c ∈ kk y, ∃ x, 0 < x ∧ x < m ∧ dp x = y ∧ c = e x)
    (hi : i < m) (hj : j < m) (j0 : 0 < j) (z : dp j = i) (hn : j ∉ A ++ B) (hAB : ∀ x ∈ A ++ B, x < m) (h : kr_aj m e kk i (A ++ B) ch nx bf up) :
    kr_aj m e kk i (A ++ j :: B) (kr_chu ch (e i) (A.map e) (e j)) (kr_nxl nx (A.map e) (e j) (kr_hd (B.map e) 0)) (kr_bfu (upd bf (e j) (nI (kr_la (A.map e) 0))) (B.map e) (e j)) (upd up (e j) (nI (e i))) := by
  obtain ⟨h1, h2, h3⟩ := h
  rw [List.map_append] at h1
  have rj := he j hj
  have ri := he i hi
  refine ⟨?_, ?_, ?_⟩
  · rw [List.map_append, List.map_cons]
    refine kr_kd_lnk h1 ?_ rj.1 rj.2
    rw [← List.map_append]
    intro w
    obtain ⟨x, x1, x2⟩ := List.mem_map.mp w
    have := hej x j (hAB x x1) hj x2
    subst this
    exact hn x1
  · intro y hy ny
    have ry := he y hy
    refine kr_lnk_o h1 (h2 y hy ny) ri.2 ry.2 (fun w => ny (hej i y hi hy w).symm) ?_
    intro w
    obtain ⟨x, x1, x2, x3, x4⟩ := hkk y hy _ w
    have := hej j x hj x2 x4
    subst this
    exact ny (x3.symm.trans z)
  · rw [pk_un (fun w => by have := hej 0 j (by omega) hj w; omega)]
    exact h3
theorem kr_ar14 {post : SX → Prop} (r2 : kr_shp m dp a_draftParent dK) (hi : i < m) (he : ∀ x, x < m → 1 ≤ e x ∧ e x ≤ 32) (hej : ∀ x y, x < m → y < m → e x = e y → x = y) (hbe : ∀ x, x < m → a_becomes x = nI (e x)) (hik : ∀ x, x < m → a_isKept x = kr_kf (o x))
    (kk : Nat → List Nat) (hkk : ∀ y, y < m → ∀ c ∈ kk y, ∃ x, 0 < x ∧ x < m ∧ dp x = y ∧ c = e x)
    (C : ∀ up ch nx bf : Nat → Int32, kr_aj m e kk i (kr_chl m dp i) ch nx bf up → post (nI m, f_open, f_root, f_nextId, f_rowSize, f_keptCount, f_goneCount, f_moveCount, a_draftType, a_draftKey, a_draftParent, a_openNode, a_used, a_type, a_key, a_ident, a_state, up, ch, nx, bf, a_becomes, a_isKept, a_byKey, a_stood, a_rowEnd, a_rowBefore, a_list, a_stays, a_order, a_pile)) :
    ∀ (d j n : Nat) (KI : List Nat) (up ch nx bf : Nat → Int32), j + d = m → d < n → i < j → kr_ai m dp o a_stays e i j KI → kr_aj m e kk i KI ch nx bf up →
    wX_arrange_14 post (nI i) (nI (e i)) n (nI (kr_la ((kr_chl j dp i).map e) 0)) (nI j) (nI m) f_open f_root f_nextId f_rowSize f_keptCount f_goneCount f_moveCount a_draftType a_draftKey a_draftParent a_openNode a_used a_type a_key a_ident a_state up ch nx bf a_becomes a_isKept a_byKey a_stood a_rowEnd a_rowBefore a_list a_stays a_order a_pile := by
  have hm := r2.1
  have ri := he i hi
  intro d
  induction d with
  | zero =>
    intro j n KI up ch nx bf ed hn ij h1 h2
    obtain ⟨n, rfl⟩ : ∃ n', n = n' + 1 := ⟨n - 1, by omega⟩
    have e' : j = m := by omega
    subst e'
    rw [kr_ai_end h1] at h2
    rw [wX_arrange_14]
    exact br_t (nI_le (Nat.le_refl _) (by omega)) (C up ch nx bf h2)
  | succ d ih =>
    intro j n KI up ch nx bf ed hn ij h1 h2
    obtain ⟨n, rfl⟩ : ∃ n', n = n' + 1 := ⟨n - 1, by omega⟩
    have hj : j < m := by omega
    have cj : (nI j).toNatClampNeg = j := nI_clamp (by omega)
    have vj : vp_in (nI j) 16 := vp_in_nI (by omega) (by omega)
    have rj := he j hj
    have ce : (nI (e j)).toNatClampNeg = e j := nI_clamp (by omega)
    have hp := kr_par r2 (show i < 16 by omega) hj
    rw [wX_arrange_14]
    dsimp only
    rw [cj, hbe j hj, hik j hj]
    refine br_f (nI_ge (by omega) (by omega)) ⟨vj, br_c (fun z => ⟨vj, nm_e ⟨vj, ?_⟩⟩) (fun z => nm_r (nI_1 j) ?_)⟩
    · have z' := hp.mp z
      have la : kr_la ((kr_chl (j + 1) dp i).map e) 0 = e j := by
        rw [kr_chl_t z', List.map_append, kr_la_app]
        rfl
      cases w : o j with
      | none =>
        have kb : ¬ kr_kb o j = true := by unfold kr_kb; rw [w]; exact Bool.false_ne_true
        have nin : j ∉ KI := by
          intro u
          rcases (h1.2.2.1 j u).2.2.2 with v | v
          · omega
          · exact kb v
        obtain ⟨A, B, k1, k2, k3⟩ := kr_ai_put hj z' (fun u => kb u.1) h1.1 h1.2.1 nin h1.2.2.1 (fun x a b c d f => h1.2.2.2 x a b c (by omega) f)
        subst k1
        have h2' := h2.1
        rw [List.map_append] at h2'
        refine br_t rfl ?_
        unfold wX_arrange_80
        rw [cj, hik j hj, w]
        refine ⟨vj, br_t rfl ?_⟩
        rw [← k2]
        refine kr_lnkw ri.2 rj.2 h2' ?_
        refine nm_r (nI_1 j) ?_
        have k := ih (j + 1) n (A ++ j :: B) _ _ _ _ (by omega) (by omega) (by omega) k3 (kr_aj_lnk he hej hkk hi hj (by omega) z'.2 nin (fun x hx => (h1.2.2.1 x hx).1) h2)
        rw [la] at k
        exact k
      | some q =>
        have kb : kr_kb o j = true := by unfold kr_kb; rw [w]; rfl
        have n1 : ¬ kr_kf (some q) = 0 := show ¬ (1 : Int32) = 0 by decide
        refine br_f n1 ⟨vp_in_nI (by omega) (by omega), ?_⟩
        rw [ce]
        refine br_c (fun s => ?_) (fun s => ?_)
        · have mem := h1.2.2.2 j hj z'.1 z'.2 (Nat.le_refl _) kb
          obtain ⟨A1, B1, eK⟩ := List.append_of_mem mem
          have nd := h1.2.1
          rw [eK] at nd
          obtain ⟨m1, m2, m3, m4, m5, m6⟩ := kr_mid nd
          have h2' := h2.1
          rw [eK, List.map_append, List.map_cons] at h2'
          have hkd := kr_kd_unl h2'
          rw [← List.map_append] at hkd
          have sub : ∀ x, x ∈ A1 ++ B1 → x ∈ KI := by
            intro x hx
            rw [eK]
            rcases List.mem_append.mp hx with u | u
            · exact List.mem_append.mpr (Or.inl u)
            · exact List.mem_append.mpr (Or.inr (List.mem_cons_of_mem _ u))
          have nin : j ∉ A1 ++ B1 := fun u => by
            rcases List.mem_append.mp u with v | v
            · exact m3 v
            · exact m4 v
          have fil : (A1 ++ B1).filter (kr_kp a_stays e j) = kr_chl j dp i ++ kr_so m dp o a_stays e i j := by
            rw [← h1.1, eK, List.filter_append, List.filter_append, List.filter_cons_of_neg]
            unfold kr_kp
            rw [decide_eq_false (show ¬ j < j by omega), decide_eq_false (show ¬ ¬ a_stays (e j) = 0 from fun u => u s)]
            exact Bool.false_ne_true
          obtain ⟨A, B, k1, k2, k3⟩ := kr_ai_put hj z' (fun u => u.2 s) fil m6 nin (fun x hx => h1.2.2.1 x (sub x hx)) (fun x a b c d f => by
            have u := h1.2.2.2 x a b c (by omega) f
            rw [eK] at u
            rcases List.mem_append.mp u with v | v
            · exact List.mem_append.mpr (Or.inl v)
            · rcases List.mem_cons.mp v with v | v
              · omega
              · exact List.mem_append.mpr (Or.inr v))
          rw [k1] at hkd nin
          have hAB : ∀ x ∈ A ++ B, x < m := fun x hx => (h1.2.2.1 x (sub x (by rw [k1]; exact hx))).1
          have haj : kr_aj m e kk i (A ++ B) (kr_chu ch (e i) (A1.map e) (kr_hd (B1.map e) 0)) (kr_nxu nx (A1.map e) (B1.map e)) (kr_bfu bf (B1.map e) (kr_la (A1.map e) 0)) up :=
            ⟨hkd, fun y hy ny => kr_unl_o h2' (h2.2.1 y hy ny) ri.2 (he y hy).2 (fun u => ny (hej i y hi hy u).symm), h2.2.2⟩
          have hkd2 := haj.1
          rw [List.map_append] at hkd2
          refine kr_unlw (x := e i) ri.2 h2' ?_
          rw [← k2]
          refine kr_lnkw ri.2 rj.2 hkd2 ?_
          refine nm_r (nI_1 j) ?_
          have k := ih (j + 1) n (A ++ j :: B) _ _ _ _ (by omega) (by omega) (by omega) k3 (kr_aj_lnk he hej hkk hi hj (by omega) z'.2 nin hAB haj)
          rw [la] at k
          exact k
        · unfold wX_arrange_80
          rw [cj, hik j hj, w]
          refine ⟨vj, br_f n1 (nm_r (nI_1 j) ?_)⟩
          have k := ih (j + 1) n KI up ch nx bf (by omega) (by omega) (by omega) (kr_ai_stay hj h1 z' kb s) h2
          rw [la] at k
          exact k
    · have z' : ¬ (i < j ∧ dp j = i) := fun y => z (hp.mpr y)
      have k := ih (j + 1) n KI up ch nx bf (by omega) (by omega) (by omega) (kr_ai_skip h1 z') h2
      rw [kr_chl_f z'] at k
      exact k
theorem kr_arrw {post : SX → Prop} (r2 : kr_shp m dp a_draftParent dK) (hi : i < m) (he : ∀ x, x < m → 1 ≤ e x ∧ e x ≤ 32) (hej : ∀ x y, x < m → y < m → e x = e y → x = y) (hbe : ∀ x, x < m → a_becomes x = nI (e x)) (hik : ∀ x, x < m → a_isKept x = kr_kf (o x))
    (kk : Nat → List Nat) (hkk : ∀ y, y < m → ∀ c ∈ kk y, ∃ x, 0 < x ∧ x < m ∧ dp x = y ∧ c = e x) {KI : List Nat} (h1 : kr_ai m dp o a_stays e i (i + 1) KI) (h2 : kr_aj m e kk i KI a_child a_next a_before a_up)
    (C : ∀ up ch nx bf : Nat → Int32, kr_aj m e kk i (kr_chl m dp i) ch nx bf up → post (nI m, f_open, f_root, f_nextId, f_rowSize, f_keptCount, f_goneCount, f_moveCount, a_draftType, a_draftKey, a_draftParent, a_openNode, a_used, a_type, a_key, a_ident, a_state, up, ch, nx, bf, a_becomes, a_isKept, a_byKey, a_stood, a_rowEnd, a_rowBefore, a_list, a_stays, a_order, a_pile)) : wpX_arrange post (nI m, f_open, f_root, f_nextId, f_rowSize, f_keptCount, f_goneCount, f_moveCount, a_draftType, a_draftKey, a_draftParent, a_openNode, a_used, a_type, a_key, a_ident, a_state, a_up, a_child, a_next, a_before, a_becomes, a_isKept, a_byKey, a_stood, a_rowEnd, a_rowBefore, a_list, a_stays, a_order, a_pile) (nI i) := by
  have hm := r2.1
  have ci : (nI i).toNatClampNeg = i := nI_clamp (by omega)
  have vi : vp_in (nI i) 16 := vp_in_nI (by omega) (by omega)
  unfold wpX_arrange
  dsimp only
  rw [ci, hbe i hi]
  refine ⟨vi, nm_e (nm_r (nI_1 i) ⟨m + 1, ?_⟩)⟩
  have k := kr_ar14 (post := post) (f_open := f_open) (f_root := f_root) (f_nextId := f_nextId) (f_rowSize := f_rowSize) (f_keptCount := f_keptCount) (f_goneCount := f_goneCount) (f_moveCount := f_moveCount) (a_draftType := a_draftType) (a_draftKey := a_draftKey) (a_draftParent := a_draftParent) (a_openNode := a_openNode) (a_used := a_used) (a_type := a_type) (a_key := a_key) (a_ident := a_ident) (a_state := a_state) (a_becomes := a_becomes) (a_isKept := a_isKept) (a_byKey := a_byKey) (a_stood := a_stood) (a_rowEnd := a_rowEnd) (a_rowBefore := a_rowBefore) (a_list := a_list) (a_stays := a_stays) (a_order := a_order) (a_pile := a_pile) (o := o) r2 hi he hej hbe hik kk hkk C (m - (i + 1)) (i + 1) (m + 1) KI a_up a_child a_next a_before (by omega) (by omega) (by omega) h1 h2
  have e0 : kr_chl (i + 1) dp i = [] := by
    refine List.filter_eq_nil_iff.mpr (fun j hj w => ?_)
    have := List.mem_range.mp hj
    have := of_decide_eq_true w
    omega
  rw [e0] at k
  exact k
end
end
section
/-- the node that node j of the draft becomes -/
def kr_n2 (nd nn : Nat → Nat) (o : Nat → Option Nat) (j : Nat) : Nat := match o j with
  | none => nn j
  | some q => nd q
theorem kr_n2_s {nd nn : Nat → Nat} {o : Nat → Option Nat} {j q : Nat} (h : o j = some q) : kr_n2 nd nn o j = nd q := by unfold kr_n2; rw [h]
theorem kr_n2_n {nd nn : Nat → Nat} {o : Nat → Option Nat} {j : Nat} (h : o j = none) : kr_n2 nd nn o j = nn j := by unfold kr_n2; rw [h]
def kr_k0 (N : Nat) (p nd : Nat → Nat) (o : Nat → Option Nat) (A : Nat → Bool) (i : Nat) : List Nat := match o i with
  | none => []
  | some q => ((kr_chl N p q).filter A).map nd
theorem kr_k0_s {N : Nat} {p nd : Nat → Nat} {o : Nat → Option Nat} {A : Nat → Bool} {i q : Nat} (h : o i = some q) : kr_k0 N p nd o A i = ((kr_chl N p q).filter A).map nd := by unfold kr_k0; rw [h]
theorem kr_k0_n {N : Nat} {p nd : Nat → Nat} {o : Nat → Option Nat} {A : Nat → Bool} {i : Nat} (h : o i = none) : kr_k0 N p nd o A i = [] := by unfold kr_k0; rw [h]
theorem kr_iv (m : Nat) (o : Nat → Option Nat) : ∃ iv : Nat → Nat, ∀ q, kr_im m o q → iv q < m ∧ o (iv q) = some q :=
  ⟨fun q => Classical.epsilon (fun j => j < m ∧ o j = some q), fun q h => Classical.epsilon_spec h⟩
section
variable {N m i : Nat} {p dp nd nn mv : Nat → Nat} {o : Nat → Option Nat} {A : Nat → Bool} {par yk yt yi ys dpar dT dK : Nat → Int32} {g0 : Int32} {us ty ky id' st up ch nx bf be ik sy : Nat → Int32} {kc gc mc nid : Int32}
theorem kr_kept_dp (X : kr_cx N m p dp nd o par yk dpar dK yt dT) {x c q0 : Nat} (hi : i < m) (ei : o i = some q0) (hx : x < m) (ex : o x = some c) (hc : c ∈ kr_chl N p q0) : 0 < x ∧ i < x ∧ dp x = i := by
  obtain ⟨r1, r2, ho, hr, hjn, hinj⟩ := X
  obtain ⟨c1, c2, c3⟩ := kr_chl_mem.mp hc
  rcases ((ho x hx c).mp ex).2.2.2 with ⟨v5, v6⟩ | ⟨v5, v6, v7⟩
  · omega
  · have k := r2.2.2.2.1.1 x v5 hx
    rw [c3] at v7
    have := hinj (dp x) i q0 (by omega) hi v7 ei
    exact ⟨v5, by omega, this⟩
/-- the child lists at the start of the arranging, by nodes of the draft -/
theorem kr_k0_ai (X : kr_cx N m p dp nd o par yk dpar dK yt dT) (hA : ∀ q, q < N → (A q = true ↔ kr_im m o q)) (hsy : ∀ j1 j2 q1 q2, 0 < j1 → j1 < j2 → j2 < m → dp j1 = dp j2 → dp j1 < m → o j1 = some q1 → o j2 = some q2 → sy (nd q1) ≠ 0 → sy (nd q2) ≠ 0 → q1 < q2) (hi : i < m) :
    ∃ KI, kr_k0 N p nd o A i = KI.map (kr_n2 nd nn o) ∧ kr_ai m dp o sy (kr_n2 nd nn o) i (i + 1) KI := by
  have X' := X
  obtain ⟨r1, r2, ho, hr, hjn, hinj⟩ := X
  have ec : kr_chl (i + 1) dp i = [] := by
    refine List.filter_eq_nil_iff.mpr (fun j hj w => ?_)
    have := List.mem_range.mp hj
    have := of_decide_eq_true w
    omega
  cases ei : o i with
  | none =>
    have hno : ∀ x, x < m → i < x → dp x = i → ¬ kr_kb o x = true := by
      intro x x1 x2 x3 x4
      obtain ⟨c, hc⟩ := Option.isSome_iff_exists.mp x4
      rcases ((ho x x1 c).mp hc).2.2.2 with ⟨v5, v6⟩ | ⟨v5, v6, v7⟩
      · omega
      · rw [x3, ei] at v7; exact nomatch v7
    refine ⟨[], kr_k0_n ei, ?_, List.nodup_nil, fun x hx => absurd hx List.not_mem_nil, fun x a b c d f => absurd f (hno x a b c)⟩
    rw [ec]
    show [] = [] ++ kr_so m dp o sy (kr_n2 nd nn o) i (i + 1)
    rw [List.nil_append]
    refine (List.filter_eq_nil_iff.mpr (fun x hx w => ?_)).symm
    rw [Bool.and_eq_true, Bool.and_eq_true, decide_eq_true_eq] at w
    exact hno x (List.mem_range.mp hx) w.1.1 w.1.2.1 w.2.1
  | some q0 =>
    obtain ⟨iv, hiv⟩ := kr_iv m o
    have ml : ∀ c, c ∈ (kr_chl N p q0).filter A → c ∈ kr_chl N p q0 ∧ c < N ∧ kr_im m o c ∧ iv c < m ∧ o (iv c) = some c ∧ kr_n2 nd nn o (iv c) = nd c ∧ 0 < iv c ∧ i < iv c ∧ dp (iv c) = i := by
      intro c hc
      obtain ⟨c1, c2⟩ := List.mem_filter.mp hc
      have cN := (kr_chl_mem.mp c1).1
      have cim := (hA c cN).mp c2
      obtain ⟨v1, v2⟩ := hiv c cim
      exact ⟨c1, cN, cim, v1, v2, kr_n2_s v2, kr_kept_dp X' hi ei v1 v2 c1⟩
    have hlt : ((kr_chl N p q0).filter A).Pairwise (· < ·) := kr_chl_lt.filter _
    have nd1 : (((kr_chl N p q0).filter A).map iv).Nodup := by
      refine kr_map_nd (hlt.imp (fun h => Nat.ne_of_lt h)) ?_
      intro a ha b hb e
      have e1 := (ml a ha).2.2.2.2.1
      have e2 := (ml b hb).2.2.2.2.1
      rw [e, e2] at e1
      exact (Option.some.inj e1).symm
    have mK : ∀ x, x ∈ ((kr_chl N p q0).filter A).map iv → x < m ∧ i < x ∧ dp x = i ∧ kr_kb o x = true := by
      intro x hx
      obtain ⟨c, c1, c2⟩ := List.mem_map.mp hx
      obtain ⟨l1, l2, l3, l4, l5, l6, l7, l8, l9⟩ := ml c c1
      rw [← c2]
      refine ⟨l4, l8, l9, ?_⟩
      unfold kr_kb
      rw [l5]
      rfl
    have Km : ∀ x, x < m → i < x → dp x = i → kr_kb o x = true → x ∈ ((kr_chl N p q0).filter A).map iv := by
      intro x x1 x2 x3 x4
      obtain ⟨c, hc⟩ := Option.isSome_iff_exists.mp x4
      have k := kr_kid X' ei x2 x1 x3 hc
      have cN := (kr_chl_mem.mp k).1
      have cf : c ∈ (kr_chl N p q0).filter A := List.mem_filter.mpr ⟨k, (hA c cN).mpr ⟨x, x1, hc⟩⟩
      obtain ⟨v1, v2⟩ := hiv c ⟨x, x1, hc⟩
      exact List.mem_map.mpr ⟨c, cf, hinj (iv c) x c v1 x1 v2 hc⟩
    refine ⟨((kr_chl N p q0).filter A).map iv, ?_, ?_, nd1, ?_, ?_⟩
    · rw [kr_k0_s ei, List.map_map]
      refine List.map_congr_left (fun c hc => ?_)
      exact (ml c hc).2.2.2.2.2.1.symm
    · rw [ec, List.nil_append]
      have pw : (((kr_chl N p q0).filter A).map iv).Pairwise (fun x y => kr_kp sy (kr_n2 nd nn o) (i + 1) x = true → kr_kp sy (kr_n2 nd nn o) (i + 1) y = true → x < y) := by
        refine List.pairwise_map.mpr (hlt.imp_of_mem ?_)
        intro a b ha hb hab k1 k2
        obtain ⟨l1, l2, l3, l4, l5, l6, l7, l8, l9⟩ := ml a ha
        obtain ⟨n1, n2, n3, n4, n5, n6, n7, n8, n9⟩ := ml b hb
        unfold kr_kp at k1 k2
        rw [decide_eq_false (by omega), Bool.false_or, decide_eq_true_eq, l6] at k1
        rw [decide_eq_false (by omega), Bool.false_or, decide_eq_true_eq, n6] at k2
        by_cases z : iv b < iv a
        · have := hsy (iv b) (iv a) b a n7 z l4 (by omega) (by omega) n5 l5 k2 k1
          omega
        · by_cases z2 : iv a = iv b
          · rw [z2, n5] at l5
            have := Option.some.inj l5
            omega
          · omega
      have p1 : ((((kr_chl N p q0).filter A).map iv).filter (kr_kp sy (kr_n2 nd nn o) (i + 1))).Pairwise (· < ·) :=
        (pw.filter _).imp_of_mem (fun {a b} ha hb h => h (List.mem_filter.mp ha).2 (List.mem_filter.mp hb).2)
      have p2 : (kr_so m dp o sy (kr_n2 nd nn o) i (i + 1)).Pairwise (· < ·) := List.pairwise_lt_range.filter _
      refine List.Perm.eq_of_pairwise (le := (· < ·)) (fun a b _ _ h1 h2 => absurd (Nat.lt_trans h1 h2) (Nat.lt_irrefl _)) p1 p2 ?_
      refine (List.perm_ext_iff_of_nodup (p1.imp (fun h => Nat.ne_of_lt h)) (p2.imp (fun h => Nat.ne_of_lt h))).mpr ?_
      intro x
      unfold kr_so
      rw [List.mem_filter, List.mem_filter, List.mem_range, Bool.and_eq_true, Bool.and_eq_true, decide_eq_true_eq, decide_eq_true_eq]
      constructor
      · rintro ⟨h1, h2⟩
        obtain ⟨a, b, c, d⟩ := mK x h1
        unfold kr_kp at h2
        rw [decide_eq_false (by omega), Bool.false_or, decide_eq_true_eq] at h2
        exact ⟨a, ⟨b, c, by omega⟩, d, h2⟩
      · rintro ⟨a, ⟨b, c, _⟩, d, f⟩
        refine ⟨Km x a b c d, ?_⟩
        unfold kr_kp
        rw [decide_eq_true f, Bool.or_true]
    · intro x hx
      obtain ⟨a, b, c, d⟩ := mK x hx
      exact ⟨a, b, c, Or.inr d⟩
    · intro x a b c _ d
      exact Km x a b c d
theorem kr_k0_mem (X : kr_cx N m p dp nd o par yk dpar dK yt dT) (hA : ∀ q, q < N → (A q = true ↔ kr_im m o q)) (hi : i < m) : ∀ c ∈ kr_k0 N p nd o A i, ∃ x, 0 < x ∧ x < m ∧ dp x = i ∧ c = kr_n2 nd nn o x := by
  intro c hc
  cases ei : o i with
  | none =>
    rw [kr_k0_n ei] at hc
    exact absurd hc List.not_mem_nil
  | some q0 =>
    rw [kr_k0_s ei] at hc
    obtain ⟨b, hb, e⟩ := List.mem_map.mp hc
    obtain ⟨b1, b2⟩ := List.mem_filter.mp hb
    obtain ⟨x, x1, x2⟩ := (hA b (kr_chl_mem.mp b1).1).mp b2
    obtain ⟨k1, k2, k3⟩ := kr_kept_dp X hi ei x1 x2 b1
    exact ⟨x, k1, x1, k3, by rw [kr_n2_s x2]; exact e.symm⟩
end
section
variable {f_drafted f_open f_root f_nextId f_rowSize f_keptCount f_goneCount f_moveCount : Int32} {a_draftType a_draftKey a_draftParent a_openNode a_used a_type a_key a_ident a_state a_up a_child a_next a_before a_becomes a_isKept a_byKey a_stood a_rowEnd a_rowBefore a_list a_stays a_order a_pile : Nat → Int32} {m : Nat} {dp e : Nat → Nat} {o : Nat → Option Nat} {dK : Nat → Int32} {x1 : Int32}
def kr_kk (m : Nat) (dp e : Nat → Nat) (k0 : Nat → List Nat) (i y : Nat) : List Nat := if y < i then (kr_chl m dp y).map e else k0 y
theorem kr_ph2 {post : Int32 → SX → Prop} (r2 : kr_shp m dp a_draftParent dK) (he : ∀ x, x < m → 1 ≤ e x ∧ e x ≤ 32) (hej : ∀ x y, x < m → y < m → e x = e y → x = y) (hbe : ∀ x, x < m → a_becomes x = nI (e x)) (hik : ∀ x, x < m → a_isKept x = kr_kf (o x))
    (k0 : Nat → List Nat) (hkk : ∀ y, y < m → ∀ c ∈ k0 y, ∃ x, 0 < x ∧ x < m ∧ dp x = y ∧ c = e x) (hai : ∀ i, i < m → ∃ KI, k0 i = KI.map e ∧ kr_ai m dp o a_stays e i (i + 1) KI)
    (C : ∀ up ch nx bf : Nat → Int32, (∀ y, y < m → kr_kd ch nx bf up (e y) ((kr_chl m dp y).map e)) → up (e 0) = 0 → post x1 (0, 0, f_root, f_nextId, f_rowSize, f_keptCount, f_goneCount, f_moveCount, a_draftType, a_draftKey, a_draftParent, a_openNode, a_used, a_type, a_key, a_ident, a_state, up, ch, nx, bf, a_becomes, a_isKept, a_byKey, a_stood, a_rowEnd, a_rowBefore, a_list, a_stays, a_order, a_pile)) :
    ∀ (d i n : Nat) (up ch nx bf : Nat → Int32), i + d = m → d < n → (∀ y, y < m → kr_kd ch nx bf up (e y) (kr_kk m dp e k0 i y)) → up (e 0) = 0 →
    wX_show_201 post x1 n (nI i) (nI m) f_open f_root f_nextId f_rowSize f_keptCount f_goneCount f_moveCount a_draftType a_draftKey a_draftParent a_openNode a_used a_type a_key a_ident a_state up ch nx bf a_becomes a_isKept a_byKey a_stood a_rowEnd a_rowBefore a_list a_stays a_order a_pile := by
  have hm := r2.1
  intro d
  induction d with
  | zero =>
    intro i n up ch nx bf ed hn h1 h2
    obtain ⟨n, rfl⟩ : ∃ n', n = n' + 1 := ⟨n - 1, by omega⟩
    have e' : i = m := by omega
    subst e'
    rw [wX_show_201]
    refine br_t (nI_le (Nat.le_refl _) (by omega)) ?_
    unfold wpX_scrap
    refine C up ch nx bf ?_ h2
    intro y hy
    have k := h1 y hy
    unfold kr_kk at k
    rw [if_pos hy] at k
    exact k
  | succ d ih =>
    intro i n up ch nx bf ed hn h1 h2
    obtain ⟨n, rfl⟩ : ∃ n', n = n' + 1 := ⟨n - 1, by omega⟩
    have hi : i < m := by omega
    obtain ⟨KI, f1, f2⟩ := hai i hi
    rw [wX_show_201]
    refine br_f (nI_ge (by omega) (by omega)) ?_
    refine kr_arrw (o := o) (e := e) r2 hi he hej hbe hik (kr_kk m dp e k0 i) ?_ f2 ⟨?_, fun y hy _ => h1 y hy, h2⟩ ?_
    · intro y hy c hc
      unfold kr_kk at hc
      by_cases z : y < i
      · rw [if_pos z] at hc
        obtain ⟨x, x1, x2⟩ := List.mem_map.mp hc
        obtain ⟨a, b, c'⟩ := kr_chl_mem.mp x1
        exact ⟨x, by omega, a, c', x2.symm⟩
      · rw [if_neg z] at hc
        exact hkk y hy c hc
    · have k := h1 i hi
      unfold kr_kk at k
      rw [if_neg (by omega), f1] at k
      exact k
    · intro up' ch' nx' bf' H
      refine nm_r (nI_1 i) ?_
      refine ih (i + 1) n up' ch' nx' bf' (by omega) (by omega) ?_ H.2.2
      intro y hy
      unfold kr_kk
      by_cases z : y = i
      · subst z
        rw [if_pos (by omega)]
        exact H.1
      · have k := H.2.1 y hy z
        unfold kr_kk at k
        by_cases w : y < i
        · rw [if_pos w] at k
          rw [if_pos (by omega)]
          exact k
        · rw [if_neg w] at k
          rw [if_neg (by omega)]
          exact k
end
end
section
theorem kr_ct_all (N : Nat) : kr_ct (fun _ => true) N = N := by
  induction N with
  | zero => rfl
  | succ n ih =>
    show kr_ct (fun _ => true) n + (if true = true then 1 else 0) = n + 1
    rw [ih, if_pos rfl]
theorem kr_ct_no (N : Nat) : kr_ct (fun _ => false) N = 0 := by
  induction N with
  | zero => rfl
  | succ n ih =>
    show kr_ct (fun _ => false) n + (if false = true then 1 else 0) = 0
    rw [ih, if_neg Bool.false_ne_true]
/-- the new tree stands when all is arranged -/
theorem kr_fin {N m : Nat} {p dp nd nn mv : Nat → Nat} {o : Nat → Option Nat} {A : Nat → Bool} {par yk yt yi ys dpar dT dK : Nat → Int32} {g0 : Int32} {us ty ky id' st up ch nx bf be ik sy up' ch' nx' bf' : Nat → Int32} {kc gc mc nid : Int32}
    (X : kr_cx N m p dp nd o par yk dpar dK yt dT) (h0 : 0 < m) (H : kr_p1 N m p dp nd o mv yk yt yi ys dT dK g0 m A nn us ty ky id' st up ch nx bf be ik sy kc gc mc nid)
    (K : ∀ y, y < m → kr_kd ch' nx' bf' up' (kr_n2 nd nn o y) ((kr_chl m dp y).map (kr_n2 nd nn o))) (hu : up' (kr_n2 nd nn o 0) = 0)
    (F1 : ∀ x, x < m → 1 ≤ kr_n2 nd nn o x ∧ kr_n2 nd nn o x ≤ 32) (F2 : ∀ x y, x < m → y < m → kr_n2 nd nn o x = kr_n2 nd nn o y → x = y) (hA : ∀ q, q < N → (A q = true ↔ kr_im m o q)) :
    kr_xt m dp (kr_n2 nd nn o) (nI (kr_n2 nd nn o 0)) us ty ky id' st up' ch' nx' bf' dT dK (kr_nid o yi g0) (kr_nst o ys) := by
  obtain ⟨r1, r2, ho, hr, hjn, hinj⟩ := X
  obtain ⟨d0, w, a1, a2, b1, b2, y, c1, c2, c3⟩ := H
  refine ⟨?_, F1, F2, ?_, fun _ => hu, K, ?_⟩
  · unfold kr_rt
    rw [if_neg (by omega)]
  · intro j hj
    cases e : o j with
    | none =>
      have k := a2 j hj e
      rw [kr_n2_n e]
      unfold kr_nid kr_nst
      rw [e]
      exact k
    | some q =>
      obtain ⟨q1, q2, q3, _⟩ := (ho j hj q).mp e
      have k := a1 q q1 ((hA q q1).mpr ⟨j, hj, e⟩)
      rw [kr_n2_s e]
      unfold kr_nid kr_nst
      rw [e]
      exact ⟨k.1.trans q2, k.2.1.trans q3, k.2.2.1, k.2.2.2⟩
  · intro x x1 x2
    rw [d0.2.2.1 x x1 x2]
    constructor
    · intro h j hj
      cases e : o j with
      | none =>
        rw [kr_n2_n e]
        exact h.2 j hj e
      | some q =>
        have q1 := ((ho j hj q).mp e).1
        rw [kr_n2_s e]
        exact h.1 q q1 ((hA q q1).mpr ⟨j, hj, e⟩)
    · intro h
      refine ⟨fun q qN hq => ?_, fun j hj e => ?_⟩
      · obtain ⟨j, j1, j2⟩ := (hA q qN).mp hq
        have k := h j j1
        rw [kr_n2_s j2] at k
        exact k
      · have k := h j hj
        rw [kr_n2_n e] at k
        exact k
section
variable {f_open f_root : Int32} {a_draftType a_draftKey a_draftParent a_openNode : Nat → Int32} {N m : Nat} {p dp nd mv : Nat → Nat} {o : Nat → Option Nat} {par yk yt yi ys : Nat → Int32} {g0 : Int32}
theorem kr_s124 {post : Int32 → SX → Prop} (X : kr_cx N m p dp nd o par yk a_draftParent a_draftKey yt a_draftType) (hmv : kr_mv m dp o mv) (h0 : 0 < m)
    (C : ∀ (e : Nat → Nat) (f_nextId f_rowSize f_keptCount f_goneCount f_moveCount : Int32) (a_used a_type a_key a_ident a_state a_up a_child a_next a_before a_becomes a_isKept a_byKey a_stood a_rowEnd a_rowBefore a_list a_stays a_order a_pile : Nat → Int32), kr_xt m dp e (nI (e 0)) a_used a_type a_key a_ident a_state a_up a_child a_next a_before a_draftType a_draftKey (kr_nid o yi g0) (kr_nst o ys) →
      post (nI (kr_ct (kr_nb o) m)) (0, 0, nI (e 0), g0 + nI (kr_ct (kr_nb o) m), f_rowSize, nI (kr_ct (kr_kb o) m), nI (N - kr_ct (kr_kb o) m), nI (kr_sm mv m), a_draftType, a_draftKey, a_draftParent, a_openNode, a_used, a_type, a_key, a_ident, a_state, a_up, a_child, a_next, a_before, a_becomes, a_isKept, a_byKey, a_stood, a_rowEnd, a_rowBefore, a_list, a_stays, a_order, a_pile))
    (A : Nat → Bool) (nn : Nat → Nat) (f_nextId f_rowSize f_keptCount f_goneCount f_moveCount : Int32) (a_used a_type a_key a_ident a_state a_up a_child a_next a_before a_becomes a_isKept a_byKey a_stood a_rowEnd a_rowBefore a_list a_stays a_order a_pile : Nat → Int32)
    (H : kr_p1 N m p dp nd o mv yk yt yi ys a_draftType a_draftKey g0 0 A nn a_used a_type a_key a_ident a_state a_up a_child a_next a_before a_becomes a_isKept a_stays f_keptCount f_goneCount f_moveCount f_nextId) :
    ∃ n, wX_show_124 post n 0 0 (nI m) f_open f_root f_nextId f_rowSize f_keptCount f_goneCount f_moveCount a_draftType a_draftKey a_draftParent a_openNode a_used a_type a_key a_ident a_state a_up a_child a_next a_before a_becomes a_isKept a_byKey a_stood a_rowEnd a_rowBefore a_list a_stays a_order a_pile := by
  refine ⟨m + 1, ?_⟩
  refine kr_ph1 (p := p) (nd := nd) (mv := mv) (o := o) (yi := yi) (ys := ys) (g0 := g0) X hmv ?_ m 0 (m + 1) A nn f_nextId f_rowSize f_keptCount f_goneCount f_moveCount a_used a_type a_key a_ident a_state a_up a_child a_next a_before a_becomes a_isKept a_byKey a_stood a_rowEnd a_rowBefore a_list a_stays a_order a_pile (by omega) (by omega) H
  intro n A nn f_nextId f_rowSize f_keptCount f_goneCount f_moveCount a_used a_type a_key a_ident a_state a_up a_child a_next a_before a_becomes a_isKept a_byKey a_stood a_rowEnd a_rowBefore a_list a_stays a_order a_pile H
  have X' := X
  obtain ⟨r1, r2, ho, hr, hjn, hinj⟩ := X
  have hm := r2.1
  have hN := r1.1
  have H' := H
  obtain ⟨d0, w, a1, a2, b1, b2, y, c1, c2, c3⟩ := H
  have hA := kr_al_end r1 d0.1
  have hall : ∀ j, j < m → a_isKept j = kr_kf (o j) ∧ (∀ q, o j = some q → a_becomes j = nI (nd q)) := by
    intro j hj
    refine b1 j hj ?_
    by_cases z : j = 0
    · exact Or.inl z
    · have := r2.2.2.2.1.1 j (by omega) hj
      exact Or.inr (by omega)
  have F1 : ∀ x, x < m → 1 ≤ kr_n2 nd nn o x ∧ kr_n2 nd nn o x ≤ 32 := by
    intro x hx
    cases e : o x with
    | none => rw [kr_n2_n e]; exact w.1 x hx e
    | some q => rw [kr_n2_s e]; exact hr q ((ho x hx q).mp e).1
  have F2 : ∀ x y, x < m → y < m → kr_n2 nd nn o x = kr_n2 nd nn o y → x = y := by
    intro x y hx hy h
    cases e : o x with
    | none =>
      cases e2 : o y with
      | none =>
        rw [kr_n2_n e, kr_n2_n e2] at h
        exact w.2.1 x y hx hy e e2 h
      | some q =>
        rw [kr_n2_n e, kr_n2_s e2] at h
        have q1 := ((ho y hy q).mp e2).1
        exact absurd h (w.2.2 x q hx e q1 ((hA q q1).mpr ⟨y, hy, e2⟩))
    | some q =>
      have q1 := ((ho x hx q).mp e).1
      cases e2 : o y with
      | none =>
        rw [kr_n2_s e, kr_n2_n e2] at h
        exact absurd h.symm (w.2.2 y q hy e2 q1 ((hA q q1).mpr ⟨x, hx, e⟩))
      | some q' =>
        rw [kr_n2_s e, kr_n2_s e2] at h
        have q2 := ((ho y hy q').mp e2).1
        have := hjn q q' q1 q2 h
        subst this
        exact hinj x y q hx hy e e2
  have F3 : ∀ x, x < m → a_becomes x = nI (kr_n2 nd nn o x) := by
    intro x hx
    cases e : o x with
    | none => rw [kr_n2_n e]; exact b2 x hx e
    | some q => rw [kr_n2_s e]; exact (hall x hx).2 q e
  have F5 : ∀ x, x < m → kr_kd a_child a_next a_before a_up (kr_n2 nd nn o x) (kr_k0 N p nd o A x) := by
    intro x hx
    cases e : o x with
    | none =>
      rw [kr_n2_n e, kr_k0_n e]
      exact ⟨d0.2.2.2.2 x hx e, trivial, fun c hc => absurd hc List.not_mem_nil, List.nodup_nil, fun c hc => absurd hc List.not_mem_nil⟩
    | some q =>
      have q1 := ((ho x hx q).mp e).1
      rw [kr_n2_s e, kr_k0_s e]
      exact d0.2.1 q q1 ((hA q q1).mpr ⟨x, hx, e⟩)
  have F6 : ∀ y, y < m → ∀ c ∈ kr_k0 N p nd o A y, ∃ x, 0 < x ∧ x < m ∧ dp x = y ∧ c = kr_n2 nd nn o x := fun y hy => kr_k0_mem X' hA hy
  have e0 := F1 0 h0
  have ce : (nI (kr_n2 nd nn o 0)).toNatClampNeg = kr_n2 nd nn o 0 := nI_clamp (by omega)
  have gone : f_goneCount = nI (N - kr_ct (kr_kb o) m) := by
    rw [d0.2.2.2.1]
    congr 1
    have k1 := kr_ct_not A N
    have k2 : kr_ct A N = kr_ct (kr_kb o) m := kr_ct_img hinj hA (fun j q hj e => ((ho j hj q).mp e).1)
    omega
  rw [wX_show_124]
  refine br_t (nI_le (Nat.le_refl _) (by omega)) ?_
  refine nm_r (F3 0 h0) ⟨vp_in_nI (by omega) (by omega), nm_r (e' := upd a_up (kr_n2 nd nn o 0) 0) (by rw [ce]) ⟨m + 1, ?_⟩⟩
  refine kr_ph2 (e := kr_n2 nd nn o) (o := o) r2 F1 F2 F3 (fun x hx => (hall x hx).1) (kr_k0 N p nd o A) F6 ?_ ?_ m 0 (m + 1) (upd a_up (kr_n2 nd nn o 0) 0) a_child a_next a_before (by omega) (by omega) ?_ pk_us
  · intro i hi
    exact kr_k0_ai X' hA y hi
  · intro up ch nx bf K hu
    have T := kr_fin X' h0 H' K hu F1 F2 hA
    rw [gone, c1, c2, c3]
    exact C (kr_n2 nd nn o) f_nextId f_rowSize f_keptCount f_goneCount f_moveCount a_used a_type a_key a_ident a_state up ch nx bf a_becomes a_isKept a_byKey a_stood a_rowEnd a_rowBefore a_list a_stays a_order a_pile T
  · intro z hz
    show kr_kd _ _ _ _ _ (if z < 0 then _ else kr_k0 N p nd o A z)
    rw [if_neg (by omega)]
    refine kr_kd_congr (F5 z hz) rfl ?_
    intro c hc
    refine ⟨rfl, rfl, pk_un ?_⟩
    obtain ⟨x, x1, x2, x3, x4⟩ := F6 z hz c hc
    rw [x4]
    intro u
    have := F2 x 0 x2 h0 u
    omega
end
section
variable {f_drafted f_open f_root f_nextId f_rowSize f_keptCount f_goneCount f_moveCount : Int32} {a_draftType a_draftKey a_draftParent a_openNode a_used a_type a_key a_ident a_state a_up a_child a_next a_before a_becomes a_isKept a_byKey a_stood a_rowEnd a_rowBefore a_list a_stays a_order a_pile : Nat → Int32} {N m : Nat} {p dp nd mv : Nat → Nat} {o : Nat → Option Nat} {par yk yt yi ys : Nat → Int32}
theorem kr_shwX {post : Int32 → SX → Prop} (r1 : kr_shp N p par yk) (r2 : kr_shp m dp a_draftParent a_draftKey) (r4 : kr_xt N p nd f_root a_used a_type a_key a_ident a_state a_up a_child a_next a_before yt yk yi ys) (ho : kr_or N m p dp yt yk a_draftType a_draftKey o) (hmv : kr_mv m dp o mv) (h0 : 0 < m)
    (C : ∀ (e : Nat → Nat) (rs : Int32) (us ty ky id' st up ch nx bf be ik bk sd re rb ls sy od g : Nat → Int32), kr_xt m dp e (nI (e 0)) us ty ky id' st up ch nx bf a_draftType a_draftKey (kr_nid o yi f_nextId) (kr_nst o ys) →
      post (nI (kr_ct (kr_nb o) m)) (0, 0, nI (e 0), f_nextId + nI (kr_ct (kr_nb o) m), rs, nI (kr_ct (kr_kb o) m), nI (N - kr_ct (kr_kb o) m), nI (kr_sm mv m), a_draftType, a_draftKey, a_draftParent, a_openNode, us, ty, ky, id', st, up, ch, nx, bf, be, ik, bk, sd, re, rb, ls, sy, od, g)) :
    wpX_show post (nI m, 0, f_root, f_nextId, f_rowSize, f_keptCount, f_goneCount, f_moveCount, a_draftType, a_draftKey, a_draftParent, a_openNode, a_used, a_type, a_key, a_ident, a_state, a_up, a_child, a_next, a_before, a_becomes, a_isKept, a_byKey, a_stood, a_rowEnd, a_rowBefore, a_list, a_stays, a_order, a_pile) := by
  have hm := r2.1
  have hN := r1.1
  have hinj := kr_or_inj r1 r2 ho
  have X : kr_cx N m p dp nd o par yk a_draftParent a_draftKey yt a_draftType := ⟨r1, r2, ho, r4.2.1, r4.2.2.1, hinj⟩
  have CC : ∀ (e : Nat → Nat) (_nid f_rowSize _kc _gc _mc : Int32) (a_used a_type a_key a_ident a_state a_up a_child a_next a_before a_becomes a_isKept a_byKey a_stood a_rowEnd a_rowBefore a_list a_stays a_order a_pile : Nat → Int32), kr_xt m dp e (nI (e 0)) a_used a_type a_key a_ident a_state a_up a_child a_next a_before a_draftType a_draftKey (kr_nid o yi f_nextId) (kr_nst o ys) →
      post (nI (kr_ct (kr_nb o) m)) (0, 0, nI (e 0), f_nextId + nI (kr_ct (kr_nb o) m), f_rowSize, nI (kr_ct (kr_kb o) m), nI (N - kr_ct (kr_kb o) m), nI (kr_sm mv m), a_draftType, a_draftKey, a_draftParent, a_openNode, a_used, a_type, a_key, a_ident, a_state, a_up, a_child, a_next, a_before, a_becomes, a_isKept, a_byKey, a_stood, a_rowEnd, a_rowBefore, a_list, a_stays, a_order, a_pile) :=
    fun e _ rs _ _ _ us ty ky id' st up ch nx bf be ik bk sd re rb ls sy od g T => C e rs us ty ky id' st up ch nx bf be ik bk sd re rb ls sy od g T
  have go := fun (A : Nat → Bool) (gc : Int32) (us od g be ik : Nat → Int32) H => kr_s124 (post := post) (f_open := 0) (f_root := f_root) (a_openNode := a_openNode) (g0 := f_nextId) X hmv h0 CC A (fun _ => 0) f_nextId f_rowSize 0 gc 0 us a_type a_key a_ident a_state a_up a_child a_next a_before be ik a_byKey a_stood a_rowEnd a_rowBefore a_list a_stays od g H
  have v0 : vp_in 0 16 := vp_in_nI (n := 0) (by omega) (by omega)
  have c0 : (0 : Int32).toNatClampNeg = 0 := sb_cl0
  have g00 : f_nextId = f_nextId + nI (kr_ct (kr_nb o) 0) := by
    show f_nextId = f_nextId + nI 0
    rw [nI_0, Int32.add_zero]
  -- the first state: nothing done yet
  have start : ∀ (A : Nat → Bool) (gc : Int32) (us ik be : Nat → Int32), kr_al N m p o yk 0 0 A → (∀ q, q < N → A q = true → A = fun _ => true) → (∀ x, 1 ≤ x → x ≤ 32 → (us x = 0 ↔ ∀ q, q < N → A q = true → nd q ≠ x)) → gc = nI (kr_ct (fun q => !A q) N) → ik 0 = kr_kf (o 0) → (∀ q, o 0 = some q → be 0 = nI (nd q)) →
      kr_p1 N m p dp nd o mv yk yt yi ys a_draftType a_draftKey f_nextId 0 A (fun _ => 0) us a_type a_key a_ident a_state a_up a_child a_next a_before be ik a_stays 0 gc 0 f_nextId := by
    intro A gc us ik be hal hAA hus hgc hik hbe
    have no : ∀ j, ¬ j < 0 := fun j => Nat.not_lt_zero j
    refine ⟨⟨hal, ?_, ?_, hgc, fun j h => absurd h (no j)⟩, ⟨fun j h => absurd h (no j), fun j l h => absurd h (no j), fun j q h => absurd h (no j)⟩, fun q qN _ => r4.2.2.2.1 q qN, fun j h => absurd h (no j), ?_, fun j h => absurd h (no j), fun j1 j2 q1 q2 _ _ _ _ h => absurd h (no _), rfl, rfl, g00⟩
    · intro q qN hq
      have k := r4.2.2.2.2.2.1 q qN
      rw [hAA q qN hq]
      have e1 : (kr_chl N p q).filter (fun _ => true) = kr_chl N p q := List.filter_eq_self.mpr (fun _ _ => rfl)
      rw [e1]
      exact k
    · intro x x1 x2
      rw [hus x x1 x2]
      exact ⟨fun h => ⟨h, fun j h => absurd h (no j)⟩, fun h => h.1⟩
    · intro j hj hz
      have z : j = 0 := by
        rcases hz with h | h
        · exact h
        · exact absurd h (no _)
      subst z
      exact ⟨hik, hbe⟩
  have none0 : (∀ q, o 0 ≠ some q) → o 0 = none := by
    intro h
    cases w : o 0 with
    | none => rfl
    | some c => exact absurd w (h c)
  have noim : o 0 = none → ∀ q, q < N → ¬ kr_im m o q := by
    intro h q
    induction q using Nat.strongRecOn with
    | ind q ih =>
      intro qN hq
      by_cases z : q = 0
      · subst z
        obtain ⟨j, j1, j2⟩ := hq
        rcases ((ho j j1 0).mp j2).2.2.2 with ⟨v5, v6⟩ | ⟨v5, v6, v7⟩
        · rw [v5, h] at j2; exact nomatch j2
        · omega
      · have k := r1.2.2.2.1.1 q (by omega) qN
        exact ih (p q) k (by omega) (kr_im_up r2 ho hq (by omega))
  have hr := r4.1
  unfold kr_rt at hr
  -- not kept, a tree or none
  have lost : o 0 = none → wX_show_86 post 0 0 (nI m) 0 f_root f_nextId f_rowSize 0 0 0 a_draftType a_draftKey a_draftParent a_openNode a_used a_type a_key a_ident a_state a_up a_child a_next a_before a_becomes a_isKept a_byKey a_stood a_rowEnd a_rowBefore a_list a_stays a_order a_pile := by
    intro w
    unfold wX_show_86
    unfold wX_show_87
    rw [c0, kr_b0]
    refine ⟨v0, nm_e (nm_e (br_t pk_us ?_))⟩
    by_cases z : N = 0
    · rw [if_pos z] at hr
      refine br_t hr ?_
      refine go (fun _ => false) 0 a_used a_order a_pile _ _ (start _ _ _ _ _ (kr_al_init0 (noim w)) (fun q qN => by omega) ?_ ?_ (by rw [w]; exact pk_us) (fun q e => by rw [w] at e; exact nomatch e))
      · intro x x1 x2
        rw [r4.2.2.2.2.2.2 x x1 x2]
        exact ⟨fun _ q qN => by omega, fun _ q qN => by omega⟩
      · subst z; rfl
    · rw [if_neg z] at hr
      have d0 := r4.2.1 0 (by omega)
      refine br_f (by rw [hr]; exact nI_ne0 (by omega) (by omega)) ?_
      have H := kr_tr_root r1 r4 (by omega)
      have k := fun (post' : SX → Prop) K => kr_drw (post := post') (f_drafted := nI m) (f_open := 0) (f_root := f_root) (f_nextId := f_nextId) (f_rowSize := f_rowSize) (f_keptCount := 0) (f_goneCount := 0) (f_moveCount := 0) (a_draftType := a_draftType) (a_draftKey := a_draftKey) (a_draftParent := a_draftParent) (a_openNode := a_openNode) (a_used := a_used) (a_type := a_type) (a_key := a_key) (a_ident := a_ident) (a_state := a_state) (a_up := a_up) (a_child := a_child) (a_next := a_next) (a_before := a_before) (a_becomes := upd a_becomes 0 f_root) (a_isKept := upd a_isKept 0 0) (a_byKey := a_byKey) (a_stood := a_stood) (a_rowEnd := a_rowEnd) (a_rowBefore := a_rowBefore) (a_list := a_list) (a_stays := a_stays) (a_order := a_order) (a_pile := a_pile) H K
      rw [← hr] at k
      refine k _ ?_
      intro od g us hfr
      refine go (fun _ => false) _ us od g _ _ (start _ _ _ _ _ (kr_al_init0 (noim w)) (fun q qN h => absurd h Bool.false_ne_true) ?_ ?_ (by rw [w]; exact pk_us) (fun q e => by rw [w] at e; exact nomatch e))
      · intro x x1 x2
        refine ⟨fun _ q qN h => absurd h Bool.false_ne_true, fun _ => ?_⟩
        by_cases y : ∃ t, 0 ≤ t ∧ t < N ∧ nd t = x
        · obtain ⟨t, t1, t2, t3⟩ := y
          rw [← t3]
          exact hfr.1 t t1 t2
        · have y' : ∀ t, 0 ≤ t → t < N → nd t ≠ x := fun t t1 t2 t3 => y ⟨t, t1, t2, t3⟩
          rw [hfr.2 x y']
          exact (r4.2.2.2.2.2.2 x x1 x2).mpr (fun t ht => y' t (Nat.zero_le t) ht)
      · show 0 + nI (N - 0) = nI (kr_ct (fun _ => true) N)
        rw [kr_ct_all, Int32.zero_add]
        rfl
  unfold wpX_show
  dsimp only
  refine br_f (nI_ne0 h0 (by omega)) (br_t (by decide) ?_)
  by_cases z : N = 0
  · have hr' := hr
    rw [if_pos z] at hr'
    refine br_t hr' (lost (none0 ?_))
    intro q e
    have := ((ho 0 h0 q).mp e).1
    omega
  · have hr' := hr
    rw [if_neg z] at hr'
    have d0 := r4.2.1 0 (by omega)
    have cd : f_root.toNatClampNeg = nd 0 := by rw [hr']; exact nI_clamp (by omega)
    have vd : vp_in f_root 33 := by rw [hr']; exact vp_in_nI (by omega) (by omega)
    have nr : ¬ f_root = 0 := by rw [hr']; exact nI_ne0 (by omega) (by omega)
    have da := r4.2.2.2.1 0 (by omega)
    rw [cd, da.1, da.2.1]
    refine br_f nr ⟨vd, br_c (fun t1 => ⟨vd, br_c (fun t2 => ?_) (fun t2 => lost (none0 ?_))⟩) (fun t1 => lost (none0 ?_))⟩
    · have w : o 0 = some 0 := (ho 0 h0 0).mpr ⟨by omega, t1, t2, Or.inl ⟨rfl, rfl⟩⟩
      have n1 : ¬ upd a_isKept 0 1 0 = 0 := by rw [pk_us]; decide
      unfold wX_show_87
      rw [c0, kr_b1]
      refine ⟨v0, nm_e (nm_e (br_f n1 ?_))⟩
      refine go (fun _ => true) 0 a_used a_order a_pile _ _ (start _ _ _ _ _ (kr_al_init1 ⟨0, h0, w⟩) (fun _ _ _ => rfl) ?_ ?_ (by rw [w]; exact pk_us) (fun q e => ?_))
      · intro x x1 x2
        rw [r4.2.2.2.2.2.2 x x1 x2]
        exact ⟨fun h q qN _ => h q qN, fun h q qN => h q qN rfl⟩
      · show (0 : Int32) = nI (kr_ct (fun _ => false) N)
        rw [kr_ct_no]
        rfl
      · rw [w] at e
        rw [← Option.some.inj e, pk_us]
        exact hr'
    · intro q e
      obtain ⟨e1, e2, e3, e4⟩ := (ho 0 h0 q).mp e
      rcases e4 with ⟨_, e5⟩ | ⟨e5, _⟩
      · subst e5; exact t2 e3
      · omega
    · intro q e
      obtain ⟨e1, e2, e3, e4⟩ := (ho 0 h0 q).mp e
      rcases e4 with ⟨_, e5⟩ | ⟨e5, _⟩
      · subst e5; exact t1 e2
      · omega
end
theorem kr_xt_wr {N : Nat} {p nd : Nat → Nat} {root : Int32} {us ty ky id' st up ch nx bf yt yk yi ys a b c d : Nat → Int32} (t : kr_xt N p nd root us ty ky id' st up ch nx bf yt yk yi ys) :
    kr_xt N p nd root us ty ky id' st up ch nx bf (kr_wr N yt a) (kr_wr N yk b) (kr_wr N yi c) (kr_wr N ys d) := by
  obtain ⟨t1, t2, t3, t4, t5, t6, t7⟩ := t
  refine ⟨t1, t2, t3, ?_, t5, t6, t7⟩
  intro i hi
  rw [kr_wr_l hi, kr_wr_l hi, kr_wr_l hi, kr_wr_l hi]
  exact t4 i hi
theorem i_vc_show {k : Nat} {u : SX} {v : SY} (I : i_Rel k u v) (hk : k + 3 ≤ 1536) : wpX_show (fun r u' => wpY_show (fun r' v' => r' = r ∧ i_Rel (k + 3) u' v') v) u := by
  refine kr_el (P := fun u v => wpX_show (fun r u' => wpY_show (fun r' v' => r' = r ∧ i_Rel (k + 3) u' v') v) u) ?_ I
  intro N m op p dp q nd f_root f_rowSize a_openNode a_used a_type a_key a_ident a_state a_up a_child a_next a_before a_becomes a_isKept a_byKey a_stood a_rowEnd a_rowBefore a_list a_stays a_order a_pile g_last g_given g_kept g_gone g_moves b_types b_keys b_parents b_ids b_states b_draftTypes b_draftKeys b_draftParents b_origins b_oldIds b_oldStates b_row b_best r1 r2 r3 r4
  have hm := r2.1
  have hN := r1.1
  have hop := r3.1
  by_cases c1 : m = 0
  · have c1' : nI m = 0 := by rw [c1]; rfl
    exact br_t c1' (br_t c1' ⟨rfl, kr_in r1 r2 r3 r4⟩)
  · have c1' : ¬ nI m = 0 := nI_ne0 (by omega) (by omega)
    by_cases c2 : op = 0
    · subst c2
      obtain ⟨o, ho⟩ := kr_or_ex b_types b_draftTypes r1 r2
      obtain ⟨mv, hmv⟩ := kr_mv_ex m dp o
      have hinj := kr_or_inj r1 r2 ho
      refine kr_shwX (o := o) (mv := mv) (yt := b_types) (yi := b_ids) (ys := b_states) r1 r2 r4 ho hmv (by omega) ?_
      intro e rs us ty ky id' st up ch nx bf be ik bk sd re rb ls sy od g T
      refine kr_shwY (o := o) (mv := mv) hmv r1 r2 ho (by omega) ?_
      intro og oi os row bes
      have k1 := kr_ct_not (kr_kb o) m
      have k1' : kr_ct (kr_kb o) m + kr_ct (kr_nb o) m = m := k1
      have k2 : kr_ct (kr_kb o) m ≤ N := by
        have q1 := kr_ct_img (A := fun q => decide (q < N) && (List.range m).any (fun j => o j == some q)) (n := N) hinj ?_ (fun j q hj e => ((ho j hj q).mp e).1)
        · have q2 := kr_ct_le (fun q => decide (q < N) && (List.range m).any (fun j => o j == some q)) N
          rw [q1] at q2
          exact q2
        · intro q qN
          rw [decide_eq_true qN, Bool.true_and, List.any_eq_true]
          constructor
          · rintro ⟨j, j1, j2⟩
            exact ⟨j, List.mem_range.mp j1, by simpa using j2⟩
          · rintro ⟨j, j1, j2⟩
            exact ⟨j, List.mem_range.mpr j1, by simpa using j2⟩
      refine ⟨?_, ?_⟩
      · rw [pk_sub (by omega)]
        congr 1
        omega
      · rw [pk_sub k2]
        have hrt : nI (e 0) = nI (e 0) := rfl
        exact kr_in (k := k + 3) (N := m) (m := 0) (op := 0) (p := dp) (dp := dp) (q := q) (nd := e) (kr_shp_wr r2) kr_shp_0 kr_opn_0 (kr_xt_wr T)
    · have c2' : ¬ nI op ≤ 0 := nI_nle (by omega) (by omega)
      exact br_f c1' (br_f c2' (br_f c1' (br_f c2' ⟨rfl, kr_in r1 r2 r3 r4⟩)))
end
