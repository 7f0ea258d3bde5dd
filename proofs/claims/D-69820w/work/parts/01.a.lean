theorem triv_ : 1 = 1 := rfl
