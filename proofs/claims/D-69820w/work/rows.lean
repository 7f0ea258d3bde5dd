section
theorem triv_ : 1 = 1 := rfl
end
section
theorem triv2_ : 1 = 1 := rfl
end
